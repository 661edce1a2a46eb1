section
/-! pure rows to paste: stores, nI and lN arithmetic, masks, shifts, narrowing, branches by naturals (pk_le, pk_lt, pk_eq), loops (lp1 .. lp16: the measure of the state; rp1 ..: recursion), negatives. Take what you need -/
theorem pk_us {f : Nat → Int32} {k : Nat} {x : Int32} : upd f k x k = x := if_pos rfl
theorem pk_un {f : Nat → Int32} {k j : Nat} {x : Int32} (h : j ≠ k) : upd f k x j = f j := if_neg h
theorem pk_uLs {f : Nat → Int64} {k : Nat} {x : Int64} : vp_updL f k x k = x := if_pos rfl
theorem pk_uLn {f : Nat → Int64} {k j : Nat} {x : Int64} (h : j ≠ k) : vp_updL f k x j = f j := if_neg h
theorem pk_sub {a b : Nat} (h : b ≤ a) : nI a - nI b = nI (a - b) := by
  obtain ⟨c, rfl⟩ : ∃ c, a = c + b := ⟨a - b, by omega⟩
  rw [← nI_add, Int32.add_sub_cancel, Nat.add_sub_cancel]
theorem pk_m1 (n : Nat) : nI (n + 1) + (-1) = nI n := by
  rw [← nI_1, Int32.add_assoc, show (1 : Int32) + (-1) = 0 from rfl, Int32.add_zero]
theorem pk_mul (a b : Nat) : nI a * nI b = nI (a * b) := (Int32.ofNat_mul a b).symm
theorem pk_div {a d : Nat} (ha : a < 2 ^ 31) (h0 : 0 < d) (hd : d < 2 ^ 31) : nI a / nI d = nI (a / d) := by
  apply Int32.toInt_inj.mp
  rw [lg_idiv_nonneg (by rw [nI_toInt ha]; omega) (by rw [nI_toInt hd]; omega), nI_toInt ha, nI_toInt hd, nI_toInt (Nat.lt_of_le_of_lt (Nat.div_le_self a d) ha)]
  first | rfl | exact (Int.natCast_ediv _ _).symm
theorem pk_rem {a d : Nat} (ha : a < 2 ^ 31) (h0 : 0 < d) (hd : d < 2 ^ 31) : nI a - nI a / nI d * nI d = nI (a % d) := by
  rw [pk_div ha h0 hd, pk_mul, pk_sub (Nat.div_mul_le_self a d)]
  exact congrArg nI (by have := Nat.div_add_mod' a d; omega)
theorem pk_sub_toInt {a b : Nat} (ha : a < 2 ^ 30) (hb : b < 2 ^ 30) : (nI a - nI b).toInt = (a : Int) - b := by
  rw [Int32.toInt_sub, nI_toInt (by omega), nI_toInt (by omega)]
  exact Int.bmod_eq_of_le (by omega) (by omega)
theorem pk_sneg {a b : Nat} (hb : b < 2 ^ 30) (h : a < b) : nI a - nI b < 0 := by
  rw [Int32.lt_iff_toInt_lt, pk_sub_toInt (by omega) hb, show (0 : Int32).toInt = 0 from by decide]
  omega
theorem pk_ix (x : Int32) {n : Nat} (hn : n < 2 ^ 31) : x < 0 ∨ nI n ≤ x ∨ ∃ j : Nat, j < n ∧ x = nI j := by
  by_cases h : x < 0
  · exact Or.inl h
  · obtain ⟨j, hj, rfl⟩ := nI_of h
    by_cases h2 : j < n
    · exact Or.inr (Or.inr ⟨j, h2, rfl⟩)
    · exact Or.inr (Or.inl (nI_le (by omega) hj))
theorem pk_le {x y : Int32} {A B : Prop} (a b : Nat) (f : a ≤ b → A) (g : b < a → B) (hx : x = nI a := by rfl) (hy : y = nI b := by rfl) (ha : a < 2 ^ 31 := by omega) (hb : b < 2 ^ 31 := by omega) : (x ≤ y → A) ∧ (¬ x ≤ y → B) := by
  subst hx hy
  rw [nI_leI ha hb]
  exact ⟨f, fun z => g (by omega)⟩
theorem pk_lt {x y : Int32} {A B : Prop} (a b : Nat) (f : a < b → A) (g : b ≤ a → B) (hx : x = nI a := by rfl) (hy : y = nI b := by rfl) (ha : a < 2 ^ 31 := by omega) (hb : b < 2 ^ 31 := by omega) : (x < y → A) ∧ (¬ x < y → B) := by
  subst hx hy
  rw [nI_ltI ha hb]
  exact ⟨f, fun z => g (by omega)⟩
theorem pk_eq {x y : Int32} {A B : Prop} (a b : Nat) (f : a = b → A) (g : a ≠ b → B) (hx : x = nI a := by rfl) (hy : y = nI b := by rfl) (ha : a < 2 ^ 31 := by omega) (hb : b < 2 ^ 31 := by omega) : (x = y → A) ∧ (¬ x = y → B) := by
  subst hx hy
  rw [nI_eq ha hb]
  exact ⟨f, g⟩
theorem pk_in {x : Int32} (n N : Nat) (h : n < N) (hx : x = nI n := by rfl) (hN : N < 2 ^ 31 := by omega) : vp_in x N := by
  subst hx
  exact vp_in_nI h hN
theorem pk_cl {x : Int32} (n : Nat) (hx : x = nI n := by rfl) (h : n < 2 ^ 31 := by omega) : x.toNatClampNeg = n := by
  subst hx
  exact nI_clamp h
theorem pk_tn {n : Nat} (h : n < 2 ^ 32) : (nI n).toBitVec.toNat = n := Nat.mod_eq_of_lt h
theorem pk_and (x : Int32) {m : Int32} (k : Nat) (hm : m.toBitVec.toNat = 2 ^ k - 1) : x &&& m = nI (x.toBitVec.toNat % 2 ^ k) := by
  apply Int32.toBitVec_inj.mp
  apply BitVec.eq_of_toNat_eq
  rw [Int32.toBitVec_and, BitVec.toNat_and, hm, Nat.and_two_pow_sub_one_eq_mod]
  show _ = (BitVec.ofNat 32 _).toNat
  rw [BitVec.toNat_ofNat]
  exact (Nat.mod_eq_of_lt (Nat.lt_of_le_of_lt (Nat.mod_le _ _) x.toBitVec.isLt)).symm
theorem pk_andN {n : Nat} (h : n < 2 ^ 32) {m : Int32} (k : Nat) (hm : m.toBitVec.toNat = 2 ^ k - 1) : nI n &&& m = nI (n % 2 ^ k) := by
  rw [pk_and _ k hm, pk_tn h]
theorem pk_andE (x : Int32) {m : Int32} (k : Nat) (hm : m.toBitVec.toNat = 2 ^ k - 1) : ∃ j : Nat, j < 2 ^ k ∧ x &&& m = nI j := ⟨_, Nat.mod_lt _ (Nat.two_pow_pos k), pk_and x k hm⟩
theorem pk_andIn (x : Int32) {m : Int32} (k : Nat) (hm : m.toBitVec.toNat = 2 ^ k - 1) (hk : k ≤ 30) : vp_in (x &&& m) (2 ^ k) := by
  obtain ⟨j, hj, e⟩ := pk_andE x k hm
  rw [e]
  exact vp_in_nI hj (Nat.lt_of_le_of_lt (Nat.pow_le_pow_right (by decide) hk) (by decide))
theorem pk_shl (a s : Int32) (k : Nat) (hs : (s.toBitVec.smod 32).toNat = k) : (a <<< s).toBitVec.toNat = a.toBitVec.toNat * 2 ^ k % 2 ^ 32 := by
  show (a.toBitVec <<< (s.toBitVec.smod 32).toNat).toNat = _
  rw [hs, BitVec.toNat_shiftLeft, Nat.shiftLeft_eq]
theorem pk_shlN {n : Nat} (s : Int32) (k : Nat) (hs : (s.toBitVec.smod 32).toNat = k) (h : n * 2 ^ k < 2 ^ 32) : nI n <<< s = nI (n * 2 ^ k) := by
  apply Int32.toBitVec_inj.mp
  apply BitVec.eq_of_toNat_eq
  have hn : n < 2 ^ 32 := Nat.lt_of_le_of_lt (Nat.le_mul_of_pos_right n (Nat.two_pow_pos k)) h
  rw [pk_shl _ _ k hs, pk_tn hn, pk_tn h, Nat.mod_eq_of_lt h]
theorem pk_shr (a s : Int32) (k : Nat) (hs : (s.toBitVec.smod 32).toNat = k) : (a >>> s).toInt = a.toInt >>> k := by
  show (a.toBitVec.sshiftRight (s.toBitVec.smod 32).toNat).toInt = _
  rw [hs, BitVec.toInt_sshiftRight]
  rfl
theorem pk_shrN {n : Nat} (h : n < 2 ^ 31) (s : Int32) (k : Nat) (hs : (s.toBitVec.smod 32).toNat = k) : nI n >>> s = nI (n / 2 ^ k) := by
  apply Int32.toInt_inj.mp
  have h2 : n / 2 ^ k ≤ n := Nat.div_le_self _ _
  rw [pk_shr _ _ k hs, nI_toInt h, nI_toInt (by omega), Int.shiftRight_eq_div_pow]
  rfl
theorem pk_ushr (x s : Int32) (k : Nat) (hs : ((s.toUInt32 &&& Int32.toUInt32 31).toBitVec % 32).toNat = k) : (x.toUInt32 >>> (s.toUInt32 &&& Int32.toUInt32 31)).toInt32.toBitVec.toNat = x.toBitVec.toNat / 2 ^ k := by
  have e : (x.toUInt32 >>> (s.toUInt32 &&& Int32.toUInt32 31)).toInt32.toBitVec = x.toBitVec >>> k := by
    rw [← hs]
    exact UInt32.toBitVec_shiftRight _ _
  rw [e, BitVec.toNat_ushiftRight, Nat.shiftRight_eq_div_pow]
theorem pk_ushrN {n : Nat} (hn : n < 2 ^ 32) (s : Int32) (k : Nat) (hs : ((s.toUInt32 &&& Int32.toUInt32 31).toBitVec % 32).toNat = k) : ((nI n).toUInt32 >>> (s.toUInt32 &&& Int32.toUInt32 31)).toInt32 = nI (n / 2 ^ k) := by
  apply Int32.toBitVec_inj.mp
  apply BitVec.eq_of_toNat_eq
  rw [pk_ushr _ s k hs, pk_tn hn, pk_tn (Nat.lt_of_le_of_lt (Nat.div_le_self _ _) hn)]
theorem pk_nb (z : Int32) : narrow .byte (.int z.toInt8.toInt32) = .int z.toInt8.toInt32 := congrArg Value.int (by simp)
theorem pk_ns (z : Int32) : narrow .short (.int z.toInt16.toInt32) = .int z.toInt16.toInt32 := congrArg Value.int (by simp)
theorem pk_fb (r : Int32) : fits .byte (.int r.toInt8.toInt32) = true := by
  have ⟨a, b⟩ := lg_i2b_range r
  have h1 : (-128 : Int32).toInt = -128 := by decide
  have h2 : (127 : Int32).toInt = 127 := by decide
  simp only [fits, Bool.and_eq_true, decide_eq_true_eq, Int32.le_iff_toInt_le, h1, h2]
  omega
theorem pk_fs (r : Int32) : fits .short (.int r.toInt16.toInt32) = true := by
  have ⟨a, b⟩ := lg_i2s_range r
  have h1 : (-32768 : Int32).toInt = -32768 := by decide
  have h2 : (32767 : Int32).toInt = 32767 := by decide
  simp only [fits, Bool.and_eq_true, decide_eq_true_eq, Int32.le_iff_toInt_le, h1, h2]
  omega
theorem pk_charN {q : Nat} (hq : q < 65536) : narrow .char (.int (nI q)) = .int (nI q) ∧ fits .char (.int (nI q)) = true := by
  constructor
  · have e : (nI q).toUInt32.toUInt16.toUInt32.toInt32 = nI q := by
      apply Int32.toBitVec_inj.mp
      apply BitVec.eq_of_toNat_eq
      show (nI q).toUInt32.toUInt16.toUInt32.toNat = q % 2 ^ 32
      rw [UInt16.toNat_toUInt32, UInt32.toNat_toUInt16, show (nI q).toUInt32.toNat = q % 2 ^ 32 from rfl]
      omega
    exact congrArg Value.int e
  · have a : (0 : Int32) ≤ nI q := nI_pos' (by omega)
    have b : nI q ≤ 65535 := nI_le (b := 65535) (by omega) (by decide)
    show (decide ((0 : Int32) ≤ nI q) && decide (nI q ≤ 65535)) = true
    rw [decide_eq_true a, decide_eq_true b]
    rfl
theorem pk_char (x : Int32) : (x.toUInt32 % 65536).toInt32 = nI (x.toBitVec.toNat % 65536) := by
  apply Int32.toBitVec_inj.mp
  apply BitVec.eq_of_toNat_eq
  rw [pk_tn (by omega)]
  show (x.toUInt32 % 65536).toNat = _
  rw [UInt32.toNat_mod]
  rfl
theorem pk_nc (x : Int32) : narrow .char (.int (x.toUInt32 % 65536).toInt32) = .int (x.toUInt32 % 65536).toInt32 := by
  rw [pk_char]
  exact (pk_charN (Nat.mod_lt _ (by decide))).1
theorem pk_fc (x : Int32) : fits .char (.int (x.toUInt32 % 65536).toInt32) = true := by
  rw [pk_char]
  exact (pk_charN (Nat.mod_lt _ (by decide))).2
theorem pk_vb (z : Int32) : vp_nar .byte z.toInt8.toInt32 = z.toInt8.toInt32 := by rw [vp_nar_byte]; simp
theorem pk_vs (z : Int32) : vp_nar .short z.toInt16.toInt32 = z.toInt16.toInt32 := by rw [vp_nar_short]; simp
theorem pk_vc (z : Int32) : vp_nar .char (z.toUInt32 % 65536).toInt32 = (z.toUInt32 % 65536).toInt32 := Value.int.inj (pk_nc z)
theorem pk_lT {n : Nat} (h : n < 2 ^ 63) : (lN n).toInt = (n : Int) := lg_ofNat_toInt h
theorem pk_lLT {a b : Nat} (ha : a < 2 ^ 63) (hb : b < 2 ^ 63) : lN a < lN b ↔ a < b := by
  rw [Int64.lt_iff_toInt_lt, pk_lT ha, pk_lT hb]; omega
theorem pk_lLE {a b : Nat} (ha : a < 2 ^ 63) (hb : b < 2 ^ 63) : lN a ≤ lN b ↔ a ≤ b := by
  rw [Int64.le_iff_toInt_le, pk_lT ha, pk_lT hb]; omega
theorem pk_lEQ {a b : Nat} (ha : a < 2 ^ 63) (hb : b < 2 ^ 63) : lN a = lN b ↔ a = b := by
  rw [← Int64.toInt_inj, pk_lT ha, pk_lT hb]; omega
theorem pk_lOf {x : Int64} (h : ¬ x < 0) : ∃ k : Nat, k < 2 ^ 63 ∧ x = lN k := by
  rw [Int64.lt_iff_toInt_lt] at h
  have h0 : (0 : Int64).toInt = 0 := by decide
  have hx := Int64.toInt_lt x
  refine ⟨x.toInt.toNat, by omega, Int64.toInt_inj.mp ?_⟩
  rw [pk_lT (by omega)]
  omega
theorem pk_lDiv {a b : Nat} (ha : a < 2 ^ 63) (h0 : 0 < b) (hb : b < 2 ^ 63) : lN a / lN b = lN (a / b) := by
  apply Int64.toInt_inj.mp
  rw [lg_ldiv_nonneg (by rw [pk_lT ha]; omega) (by rw [pk_lT hb]; omega), pk_lT ha, pk_lT hb, pk_lT (Nat.lt_of_le_of_lt (Nat.div_le_self a b) ha)]
  rfl
theorem pk_lRem {a b : Nat} (ha : a < 2 ^ 63) (h0 : 0 < b) (hb : b < 2 ^ 63) : lN a - lN a / lN b * lN b = lN (a % b) := by
  rw [pk_lDiv ha h0 hb, lN_mul, lN_sub (Nat.div_mul_le_self a b)]
  exact congrArg lN (by have := Nat.div_add_mod' a b; omega)
theorem pk_loop {σ : Type} (W : Nat → Nat → σ → Prop) (I : Nat → σ → Prop) (e i0 : Nat) (s : σ) (hi : i0 ≤ e) (h0 : I i0 s) (hx : ∀ n s, I e s → W (n + 1) e s)
    (hs : ∀ n i s, i < e → I i s → (∀ s', I (i + 1) s' → W n (i + 1) s') → W (n + 1) i s) : ∃ n, W n i0 s :=
  ⟨e + 1, loop_i W I e hx hs (e + 1) i0 s hi (by omega) h0⟩
theorem pk_loopD {σ : Type} (W : Nat → Nat → σ → Prop) (I : Nat → σ → Prop) (hx : ∀ n s, I 0 s → W (n + 1) 0 s)
    (hs : ∀ n i s, I (i + 1) s → (∀ s', I i s' → W n i s') → W (n + 1) (i + 1) s) : ∀ (e : Nat) (s : σ), I e s → W (e + 1) e s := by
  intro e
  induction e with
  | zero => exact fun s h => hx 0 s h
  | succ e ih => exact fun s h => hs (e + 1) e s h (fun s' h' => ih s' h')
theorem lp1 {A1 : Type} (W : Nat → A1 → Prop) (I : A1 → Prop) (μ : A1 → Nat) (hs : ∀ (n : Nat) (a1 : A1), I a1 → (∀ (b1 : A1), I b1 → μ b1 < μ a1 → W n b1) → W (n + 1) a1) (a1 : A1) (h : I a1) : ∃ n, W n a1 :=
  loop_m (σ := A1) (fun n s => W n s) (fun s => I s) (fun s => μ s) (fun n s hI hk => hs n s hI (fun b1 h9 hm => hk b1 h9 hm)) a1 h
theorem lp2 {A1 A2 : Type} (W : Nat → A1 → A2 → Prop) (I : A1 → A2 → Prop) (μ : A1 → A2 → Nat) (hs : ∀ (n : Nat) (a1 : A1) (a2 : A2), I a1 a2 → (∀ (b1 : A1) (b2 : A2), I b1 b2 → μ b1 b2 < μ a1 a2 → W n b1 b2) → W (n + 1) a1 a2) (a1 : A1) (a2 : A2) (h : I a1 a2) : ∃ n, W n a1 a2 :=
  loop_m (σ := A1 × A2) (fun n s => W n s.1 s.2) (fun s => I s.1 s.2) (fun s => μ s.1 s.2) (fun n s hI hk => hs n s.1 s.2 hI (fun b1 b2 h9 hm => hk (b1, b2) h9 hm)) (a1, a2) h
theorem lp3 {A1 A2 A3 : Type} (W : Nat → A1 → A2 → A3 → Prop) (I : A1 → A2 → A3 → Prop) (μ : A1 → A2 → A3 → Nat) (hs : ∀ (n : Nat) (a1 : A1) (a2 : A2) (a3 : A3), I a1 a2 a3 → (∀ (b1 : A1) (b2 : A2) (b3 : A3), I b1 b2 b3 → μ b1 b2 b3 < μ a1 a2 a3 → W n b1 b2 b3) → W (n + 1) a1 a2 a3) (a1 : A1) (a2 : A2) (a3 : A3) (h : I a1 a2 a3) : ∃ n, W n a1 a2 a3 :=
  loop_m (σ := A1 × A2 × A3) (fun n s => W n s.1 s.2.1 s.2.2) (fun s => I s.1 s.2.1 s.2.2) (fun s => μ s.1 s.2.1 s.2.2) (fun n s hI hk => hs n s.1 s.2.1 s.2.2 hI (fun b1 b2 b3 h9 hm => hk (b1, b2, b3) h9 hm)) (a1, a2, a3) h
theorem lp4 {A1 A2 A3 A4 : Type} (W : Nat → A1 → A2 → A3 → A4 → Prop) (I : A1 → A2 → A3 → A4 → Prop) (μ : A1 → A2 → A3 → A4 → Nat) (hs : ∀ (n : Nat) (a1 : A1) (a2 : A2) (a3 : A3) (a4 : A4), I a1 a2 a3 a4 → (∀ (b1 : A1) (b2 : A2) (b3 : A3) (b4 : A4), I b1 b2 b3 b4 → μ b1 b2 b3 b4 < μ a1 a2 a3 a4 → W n b1 b2 b3 b4) → W (n + 1) a1 a2 a3 a4) (a1 : A1) (a2 : A2) (a3 : A3) (a4 : A4) (h : I a1 a2 a3 a4) : ∃ n, W n a1 a2 a3 a4 :=
  loop_m (σ := A1 × A2 × A3 × A4) (fun n s => W n s.1 s.2.1 s.2.2.1 s.2.2.2) (fun s => I s.1 s.2.1 s.2.2.1 s.2.2.2) (fun s => μ s.1 s.2.1 s.2.2.1 s.2.2.2) (fun n s hI hk => hs n s.1 s.2.1 s.2.2.1 s.2.2.2 hI (fun b1 b2 b3 b4 h9 hm => hk (b1, b2, b3, b4) h9 hm)) (a1, a2, a3, a4) h
theorem lp5 {A1 A2 A3 A4 A5 : Type} (W : Nat → A1 → A2 → A3 → A4 → A5 → Prop) (I : A1 → A2 → A3 → A4 → A5 → Prop) (μ : A1 → A2 → A3 → A4 → A5 → Nat) (hs : ∀ (n : Nat) (a1 : A1) (a2 : A2) (a3 : A3) (a4 : A4) (a5 : A5), I a1 a2 a3 a4 a5 → (∀ (b1 : A1) (b2 : A2) (b3 : A3) (b4 : A4) (b5 : A5), I b1 b2 b3 b4 b5 → μ b1 b2 b3 b4 b5 < μ a1 a2 a3 a4 a5 → W n b1 b2 b3 b4 b5) → W (n + 1) a1 a2 a3 a4 a5) (a1 : A1) (a2 : A2) (a3 : A3) (a4 : A4) (a5 : A5) (h : I a1 a2 a3 a4 a5) : ∃ n, W n a1 a2 a3 a4 a5 :=
  loop_m (σ := A1 × A2 × A3 × A4 × A5) (fun n s => W n s.1 s.2.1 s.2.2.1 s.2.2.2.1 s.2.2.2.2) (fun s => I s.1 s.2.1 s.2.2.1 s.2.2.2.1 s.2.2.2.2) (fun s => μ s.1 s.2.1 s.2.2.1 s.2.2.2.1 s.2.2.2.2) (fun n s hI hk => hs n s.1 s.2.1 s.2.2.1 s.2.2.2.1 s.2.2.2.2 hI (fun b1 b2 b3 b4 b5 h9 hm => hk (b1, b2, b3, b4, b5) h9 hm)) (a1, a2, a3, a4, a5) h
theorem lp6 {A1 A2 A3 A4 A5 A6 : Type} (W : Nat → A1 → A2 → A3 → A4 → A5 → A6 → Prop) (I : A1 → A2 → A3 → A4 → A5 → A6 → Prop) (μ : A1 → A2 → A3 → A4 → A5 → A6 → Nat) (hs : ∀ (n : Nat) (a1 : A1) (a2 : A2) (a3 : A3) (a4 : A4) (a5 : A5) (a6 : A6), I a1 a2 a3 a4 a5 a6 → (∀ (b1 : A1) (b2 : A2) (b3 : A3) (b4 : A4) (b5 : A5) (b6 : A6), I b1 b2 b3 b4 b5 b6 → μ b1 b2 b3 b4 b5 b6 < μ a1 a2 a3 a4 a5 a6 → W n b1 b2 b3 b4 b5 b6) → W (n + 1) a1 a2 a3 a4 a5 a6) (a1 : A1) (a2 : A2) (a3 : A3) (a4 : A4) (a5 : A5) (a6 : A6) (h : I a1 a2 a3 a4 a5 a6) : ∃ n, W n a1 a2 a3 a4 a5 a6 :=
  loop_m (σ := A1 × A2 × A3 × A4 × A5 × A6) (fun n s => W n s.1 s.2.1 s.2.2.1 s.2.2.2.1 s.2.2.2.2.1 s.2.2.2.2.2) (fun s => I s.1 s.2.1 s.2.2.1 s.2.2.2.1 s.2.2.2.2.1 s.2.2.2.2.2) (fun s => μ s.1 s.2.1 s.2.2.1 s.2.2.2.1 s.2.2.2.2.1 s.2.2.2.2.2) (fun n s hI hk => hs n s.1 s.2.1 s.2.2.1 s.2.2.2.1 s.2.2.2.2.1 s.2.2.2.2.2 hI (fun b1 b2 b3 b4 b5 b6 h9 hm => hk (b1, b2, b3, b4, b5, b6) h9 hm)) (a1, a2, a3, a4, a5, a6) h
theorem lp7 {A1 A2 A3 A4 A5 A6 A7 : Type} (W : Nat → A1 → A2 → A3 → A4 → A5 → A6 → A7 → Prop) (I : A1 → A2 → A3 → A4 → A5 → A6 → A7 → Prop) (μ : A1 → A2 → A3 → A4 → A5 → A6 → A7 → Nat) (hs : ∀ (n : Nat) (a1 : A1) (a2 : A2) (a3 : A3) (a4 : A4) (a5 : A5) (a6 : A6) (a7 : A7), I a1 a2 a3 a4 a5 a6 a7 → (∀ (b1 : A1) (b2 : A2) (b3 : A3) (b4 : A4) (b5 : A5) (b6 : A6) (b7 : A7), I b1 b2 b3 b4 b5 b6 b7 → μ b1 b2 b3 b4 b5 b6 b7 < μ a1 a2 a3 a4 a5 a6 a7 → W n b1 b2 b3 b4 b5 b6 b7) → W (n + 1) a1 a2 a3 a4 a5 a6 a7) (a1 : A1) (a2 : A2) (a3 : A3) (a4 : A4) (a5 : A5) (a6 : A6) (a7 : A7) (h : I a1 a2 a3 a4 a5 a6 a7) : ∃ n, W n a1 a2 a3 a4 a5 a6 a7 :=
  loop_m (σ := A1 × A2 × A3 × A4 × A5 × A6 × A7) (fun n s => W n s.1 s.2.1 s.2.2.1 s.2.2.2.1 s.2.2.2.2.1 s.2.2.2.2.2.1 s.2.2.2.2.2.2) (fun s => I s.1 s.2.1 s.2.2.1 s.2.2.2.1 s.2.2.2.2.1 s.2.2.2.2.2.1 s.2.2.2.2.2.2) (fun s => μ s.1 s.2.1 s.2.2.1 s.2.2.2.1 s.2.2.2.2.1 s.2.2.2.2.2.1 s.2.2.2.2.2.2) (fun n s hI hk => hs n s.1 s.2.1 s.2.2.1 s.2.2.2.1 s.2.2.2.2.1 s.2.2.2.2.2.1 s.2.2.2.2.2.2 hI (fun b1 b2 b3 b4 b5 b6 b7 h9 hm => hk (b1, b2, b3, b4, b5, b6, b7) h9 hm)) (a1, a2, a3, a4, a5, a6, a7) h
theorem lp8 {A1 A2 A3 A4 A5 A6 A7 A8 : Type} (W : Nat → A1 → A2 → A3 → A4 → A5 → A6 → A7 → A8 → Prop) (I : A1 → A2 → A3 → A4 → A5 → A6 → A7 → A8 → Prop) (μ : A1 → A2 → A3 → A4 → A5 → A6 → A7 → A8 → Nat) (hs : ∀ (n : Nat) (a1 : A1) (a2 : A2) (a3 : A3) (a4 : A4) (a5 : A5) (a6 : A6) (a7 : A7) (a8 : A8), I a1 a2 a3 a4 a5 a6 a7 a8 → (∀ (b1 : A1) (b2 : A2) (b3 : A3) (b4 : A4) (b5 : A5) (b6 : A6) (b7 : A7) (b8 : A8), I b1 b2 b3 b4 b5 b6 b7 b8 → μ b1 b2 b3 b4 b5 b6 b7 b8 < μ a1 a2 a3 a4 a5 a6 a7 a8 → W n b1 b2 b3 b4 b5 b6 b7 b8) → W (n + 1) a1 a2 a3 a4 a5 a6 a7 a8) (a1 : A1) (a2 : A2) (a3 : A3) (a4 : A4) (a5 : A5) (a6 : A6) (a7 : A7) (a8 : A8) (h : I a1 a2 a3 a4 a5 a6 a7 a8) : ∃ n, W n a1 a2 a3 a4 a5 a6 a7 a8 :=
  loop_m (σ := A1 × A2 × A3 × A4 × A5 × A6 × A7 × A8) (fun n s => W n s.1 s.2.1 s.2.2.1 s.2.2.2.1 s.2.2.2.2.1 s.2.2.2.2.2.1 s.2.2.2.2.2.2.1 s.2.2.2.2.2.2.2) (fun s => I s.1 s.2.1 s.2.2.1 s.2.2.2.1 s.2.2.2.2.1 s.2.2.2.2.2.1 s.2.2.2.2.2.2.1 s.2.2.2.2.2.2.2) (fun s => μ s.1 s.2.1 s.2.2.1 s.2.2.2.1 s.2.2.2.2.1 s.2.2.2.2.2.1 s.2.2.2.2.2.2.1 s.2.2.2.2.2.2.2) (fun n s hI hk => hs n s.1 s.2.1 s.2.2.1 s.2.2.2.1 s.2.2.2.2.1 s.2.2.2.2.2.1 s.2.2.2.2.2.2.1 s.2.2.2.2.2.2.2 hI (fun b1 b2 b3 b4 b5 b6 b7 b8 h9 hm => hk (b1, b2, b3, b4, b5, b6, b7, b8) h9 hm)) (a1, a2, a3, a4, a5, a6, a7, a8) h
theorem lp9 {A1 A2 A3 A4 A5 A6 A7 A8 A9 : Type} (W : Nat → A1 → A2 → A3 → A4 → A5 → A6 → A7 → A8 → A9 → Prop) (I : A1 → A2 → A3 → A4 → A5 → A6 → A7 → A8 → A9 → Prop) (μ : A1 → A2 → A3 → A4 → A5 → A6 → A7 → A8 → A9 → Nat) (hs : ∀ (n : Nat) (a1 : A1) (a2 : A2) (a3 : A3) (a4 : A4) (a5 : A5) (a6 : A6) (a7 : A7) (a8 : A8) (a9 : A9), I a1 a2 a3 a4 a5 a6 a7 a8 a9 → (∀ (b1 : A1) (b2 : A2) (b3 : A3) (b4 : A4) (b5 : A5) (b6 : A6) (b7 : A7) (b8 : A8) (b9 : A9), I b1 b2 b3 b4 b5 b6 b7 b8 b9 → μ b1 b2 b3 b4 b5 b6 b7 b8 b9 < μ a1 a2 a3 a4 a5 a6 a7 a8 a9 → W n b1 b2 b3 b4 b5 b6 b7 b8 b9) → W (n + 1) a1 a2 a3 a4 a5 a6 a7 a8 a9) (a1 : A1) (a2 : A2) (a3 : A3) (a4 : A4) (a5 : A5) (a6 : A6) (a7 : A7) (a8 : A8) (a9 : A9) (h : I a1 a2 a3 a4 a5 a6 a7 a8 a9) : ∃ n, W n a1 a2 a3 a4 a5 a6 a7 a8 a9 :=
  loop_m (σ := A1 × A2 × A3 × A4 × A5 × A6 × A7 × A8 × A9) (fun n s => W n s.1 s.2.1 s.2.2.1 s.2.2.2.1 s.2.2.2.2.1 s.2.2.2.2.2.1 s.2.2.2.2.2.2.1 s.2.2.2.2.2.2.2.1 s.2.2.2.2.2.2.2.2) (fun s => I s.1 s.2.1 s.2.2.1 s.2.2.2.1 s.2.2.2.2.1 s.2.2.2.2.2.1 s.2.2.2.2.2.2.1 s.2.2.2.2.2.2.2.1 s.2.2.2.2.2.2.2.2) (fun s => μ s.1 s.2.1 s.2.2.1 s.2.2.2.1 s.2.2.2.2.1 s.2.2.2.2.2.1 s.2.2.2.2.2.2.1 s.2.2.2.2.2.2.2.1 s.2.2.2.2.2.2.2.2) (fun n s hI hk => hs n s.1 s.2.1 s.2.2.1 s.2.2.2.1 s.2.2.2.2.1 s.2.2.2.2.2.1 s.2.2.2.2.2.2.1 s.2.2.2.2.2.2.2.1 s.2.2.2.2.2.2.2.2 hI (fun b1 b2 b3 b4 b5 b6 b7 b8 b9 h9 hm => hk (b1, b2, b3, b4, b5, b6, b7, b8, b9) h9 hm)) (a1, a2, a3, a4, a5, a6, a7, a8, a9) h
theorem lp10 {A1 A2 A3 A4 A5 A6 A7 A8 A9 A10 : Type} (W : Nat → A1 → A2 → A3 → A4 → A5 → A6 → A7 → A8 → A9 → A10 → Prop) (I : A1 → A2 → A3 → A4 → A5 → A6 → A7 → A8 → A9 → A10 → Prop) (μ : A1 → A2 → A3 → A4 → A5 → A6 → A7 → A8 → A9 → A10 → Nat) (hs : ∀ (n : Nat) (a1 : A1) (a2 : A2) (a3 : A3) (a4 : A4) (a5 : A5) (a6 : A6) (a7 : A7) (a8 : A8) (a9 : A9) (a10 : A10), I a1 a2 a3 a4 a5 a6 a7 a8 a9 a10 → (∀ (b1 : A1) (b2 : A2) (b3 : A3) (b4 : A4) (b5 : A5) (b6 : A6) (b7 : A7) (b8 : A8) (b9 : A9) (b10 : A10), I b1 b2 b3 b4 b5 b6 b7 b8 b9 b10 → μ b1 b2 b3 b4 b5 b6 b7 b8 b9 b10 < μ a1 a2 a3 a4 a5 a6 a7 a8 a9 a10 → W n b1 b2 b3 b4 b5 b6 b7 b8 b9 b10) → W (n + 1) a1 a2 a3 a4 a5 a6 a7 a8 a9 a10) (a1 : A1) (a2 : A2) (a3 : A3) (a4 : A4) (a5 : A5) (a6 : A6) (a7 : A7) (a8 : A8) (a9 : A9) (a10 : A10) (h : I a1 a2 a3 a4 a5 a6 a7 a8 a9 a10) : ∃ n, W n a1 a2 a3 a4 a5 a6 a7 a8 a9 a10 :=
  loop_m (σ := A1 × A2 × A3 × A4 × A5 × A6 × A7 × A8 × A9 × A10) (fun n s => W n s.1 s.2.1 s.2.2.1 s.2.2.2.1 s.2.2.2.2.1 s.2.2.2.2.2.1 s.2.2.2.2.2.2.1 s.2.2.2.2.2.2.2.1 s.2.2.2.2.2.2.2.2.1 s.2.2.2.2.2.2.2.2.2) (fun s => I s.1 s.2.1 s.2.2.1 s.2.2.2.1 s.2.2.2.2.1 s.2.2.2.2.2.1 s.2.2.2.2.2.2.1 s.2.2.2.2.2.2.2.1 s.2.2.2.2.2.2.2.2.1 s.2.2.2.2.2.2.2.2.2) (fun s => μ s.1 s.2.1 s.2.2.1 s.2.2.2.1 s.2.2.2.2.1 s.2.2.2.2.2.1 s.2.2.2.2.2.2.1 s.2.2.2.2.2.2.2.1 s.2.2.2.2.2.2.2.2.1 s.2.2.2.2.2.2.2.2.2) (fun n s hI hk => hs n s.1 s.2.1 s.2.2.1 s.2.2.2.1 s.2.2.2.2.1 s.2.2.2.2.2.1 s.2.2.2.2.2.2.1 s.2.2.2.2.2.2.2.1 s.2.2.2.2.2.2.2.2.1 s.2.2.2.2.2.2.2.2.2 hI (fun b1 b2 b3 b4 b5 b6 b7 b8 b9 b10 h9 hm => hk (b1, b2, b3, b4, b5, b6, b7, b8, b9, b10) h9 hm)) (a1, a2, a3, a4, a5, a6, a7, a8, a9, a10) h
theorem lp11 {A1 A2 A3 A4 A5 A6 A7 A8 A9 A10 A11 : Type} (W : Nat → A1 → A2 → A3 → A4 → A5 → A6 → A7 → A8 → A9 → A10 → A11 → Prop) (I : A1 → A2 → A3 → A4 → A5 → A6 → A7 → A8 → A9 → A10 → A11 → Prop) (μ : A1 → A2 → A3 → A4 → A5 → A6 → A7 → A8 → A9 → A10 → A11 → Nat) (hs : ∀ (n : Nat) (a1 : A1) (a2 : A2) (a3 : A3) (a4 : A4) (a5 : A5) (a6 : A6) (a7 : A7) (a8 : A8) (a9 : A9) (a10 : A10) (a11 : A11), I a1 a2 a3 a4 a5 a6 a7 a8 a9 a10 a11 → (∀ (b1 : A1) (b2 : A2) (b3 : A3) (b4 : A4) (b5 : A5) (b6 : A6) (b7 : A7) (b8 : A8) (b9 : A9) (b10 : A10) (b11 : A11), I b1 b2 b3 b4 b5 b6 b7 b8 b9 b10 b11 → μ b1 b2 b3 b4 b5 b6 b7 b8 b9 b10 b11 < μ a1 a2 a3 a4 a5 a6 a7 a8 a9 a10 a11 → W n b1 b2 b3 b4 b5 b6 b7 b8 b9 b10 b11) → W (n + 1) a1 a2 a3 a4 a5 a6 a7 a8 a9 a10 a11) (a1 : A1) (a2 : A2) (a3 : A3) (a4 : A4) (a5 : A5) (a6 : A6) (a7 : A7) (a8 : A8) (a9 : A9) (a10 : A10) (a11 : A11) (h : I a1 a2 a3 a4 a5 a6 a7 a8 a9 a10 a11) : ∃ n, W n a1 a2 a3 a4 a5 a6 a7 a8 a9 a10 a11 :=
  loop_m (σ := A1 × A2 × A3 × A4 × A5 × A6 × A7 × A8 × A9 × A10 × A11) (fun n s => W n s.1 s.2.1 s.2.2.1 s.2.2.2.1 s.2.2.2.2.1 s.2.2.2.2.2.1 s.2.2.2.2.2.2.1 s.2.2.2.2.2.2.2.1 s.2.2.2.2.2.2.2.2.1 s.2.2.2.2.2.2.2.2.2.1 s.2.2.2.2.2.2.2.2.2.2) (fun s => I s.1 s.2.1 s.2.2.1 s.2.2.2.1 s.2.2.2.2.1 s.2.2.2.2.2.1 s.2.2.2.2.2.2.1 s.2.2.2.2.2.2.2.1 s.2.2.2.2.2.2.2.2.1 s.2.2.2.2.2.2.2.2.2.1 s.2.2.2.2.2.2.2.2.2.2) (fun s => μ s.1 s.2.1 s.2.2.1 s.2.2.2.1 s.2.2.2.2.1 s.2.2.2.2.2.1 s.2.2.2.2.2.2.1 s.2.2.2.2.2.2.2.1 s.2.2.2.2.2.2.2.2.1 s.2.2.2.2.2.2.2.2.2.1 s.2.2.2.2.2.2.2.2.2.2) (fun n s hI hk => hs n s.1 s.2.1 s.2.2.1 s.2.2.2.1 s.2.2.2.2.1 s.2.2.2.2.2.1 s.2.2.2.2.2.2.1 s.2.2.2.2.2.2.2.1 s.2.2.2.2.2.2.2.2.1 s.2.2.2.2.2.2.2.2.2.1 s.2.2.2.2.2.2.2.2.2.2 hI (fun b1 b2 b3 b4 b5 b6 b7 b8 b9 b10 b11 h9 hm => hk (b1, b2, b3, b4, b5, b6, b7, b8, b9, b10, b11) h9 hm)) (a1, a2, a3, a4, a5, a6, a7, a8, a9, a10, a11) h
theorem lp12 {A1 A2 A3 A4 A5 A6 A7 A8 A9 A10 A11 A12 : Type} (W : Nat → A1 → A2 → A3 → A4 → A5 → A6 → A7 → A8 → A9 → A10 → A11 → A12 → Prop) (I : A1 → A2 → A3 → A4 → A5 → A6 → A7 → A8 → A9 → A10 → A11 → A12 → Prop) (μ : A1 → A2 → A3 → A4 → A5 → A6 → A7 → A8 → A9 → A10 → A11 → A12 → Nat) (hs : ∀ (n : Nat) (a1 : A1) (a2 : A2) (a3 : A3) (a4 : A4) (a5 : A5) (a6 : A6) (a7 : A7) (a8 : A8) (a9 : A9) (a10 : A10) (a11 : A11) (a12 : A12), I a1 a2 a3 a4 a5 a6 a7 a8 a9 a10 a11 a12 → (∀ (b1 : A1) (b2 : A2) (b3 : A3) (b4 : A4) (b5 : A5) (b6 : A6) (b7 : A7) (b8 : A8) (b9 : A9) (b10 : A10) (b11 : A11) (b12 : A12), I b1 b2 b3 b4 b5 b6 b7 b8 b9 b10 b11 b12 → μ b1 b2 b3 b4 b5 b6 b7 b8 b9 b10 b11 b12 < μ a1 a2 a3 a4 a5 a6 a7 a8 a9 a10 a11 a12 → W n b1 b2 b3 b4 b5 b6 b7 b8 b9 b10 b11 b12) → W (n + 1) a1 a2 a3 a4 a5 a6 a7 a8 a9 a10 a11 a12) (a1 : A1) (a2 : A2) (a3 : A3) (a4 : A4) (a5 : A5) (a6 : A6) (a7 : A7) (a8 : A8) (a9 : A9) (a10 : A10) (a11 : A11) (a12 : A12) (h : I a1 a2 a3 a4 a5 a6 a7 a8 a9 a10 a11 a12) : ∃ n, W n a1 a2 a3 a4 a5 a6 a7 a8 a9 a10 a11 a12 :=
  loop_m (σ := A1 × A2 × A3 × A4 × A5 × A6 × A7 × A8 × A9 × A10 × A11 × A12) (fun n s => W n s.1 s.2.1 s.2.2.1 s.2.2.2.1 s.2.2.2.2.1 s.2.2.2.2.2.1 s.2.2.2.2.2.2.1 s.2.2.2.2.2.2.2.1 s.2.2.2.2.2.2.2.2.1 s.2.2.2.2.2.2.2.2.2.1 s.2.2.2.2.2.2.2.2.2.2.1 s.2.2.2.2.2.2.2.2.2.2.2) (fun s => I s.1 s.2.1 s.2.2.1 s.2.2.2.1 s.2.2.2.2.1 s.2.2.2.2.2.1 s.2.2.2.2.2.2.1 s.2.2.2.2.2.2.2.1 s.2.2.2.2.2.2.2.2.1 s.2.2.2.2.2.2.2.2.2.1 s.2.2.2.2.2.2.2.2.2.2.1 s.2.2.2.2.2.2.2.2.2.2.2) (fun s => μ s.1 s.2.1 s.2.2.1 s.2.2.2.1 s.2.2.2.2.1 s.2.2.2.2.2.1 s.2.2.2.2.2.2.1 s.2.2.2.2.2.2.2.1 s.2.2.2.2.2.2.2.2.1 s.2.2.2.2.2.2.2.2.2.1 s.2.2.2.2.2.2.2.2.2.2.1 s.2.2.2.2.2.2.2.2.2.2.2) (fun n s hI hk => hs n s.1 s.2.1 s.2.2.1 s.2.2.2.1 s.2.2.2.2.1 s.2.2.2.2.2.1 s.2.2.2.2.2.2.1 s.2.2.2.2.2.2.2.1 s.2.2.2.2.2.2.2.2.1 s.2.2.2.2.2.2.2.2.2.1 s.2.2.2.2.2.2.2.2.2.2.1 s.2.2.2.2.2.2.2.2.2.2.2 hI (fun b1 b2 b3 b4 b5 b6 b7 b8 b9 b10 b11 b12 h9 hm => hk (b1, b2, b3, b4, b5, b6, b7, b8, b9, b10, b11, b12) h9 hm)) (a1, a2, a3, a4, a5, a6, a7, a8, a9, a10, a11, a12) h
theorem lp13 {A1 A2 A3 A4 A5 A6 A7 A8 A9 A10 A11 A12 A13 : Type} (W : Nat → A1 → A2 → A3 → A4 → A5 → A6 → A7 → A8 → A9 → A10 → A11 → A12 → A13 → Prop) (I : A1 → A2 → A3 → A4 → A5 → A6 → A7 → A8 → A9 → A10 → A11 → A12 → A13 → Prop) (μ : A1 → A2 → A3 → A4 → A5 → A6 → A7 → A8 → A9 → A10 → A11 → A12 → A13 → Nat) (hs : ∀ (n : Nat) (a1 : A1) (a2 : A2) (a3 : A3) (a4 : A4) (a5 : A5) (a6 : A6) (a7 : A7) (a8 : A8) (a9 : A9) (a10 : A10) (a11 : A11) (a12 : A12) (a13 : A13), I a1 a2 a3 a4 a5 a6 a7 a8 a9 a10 a11 a12 a13 → (∀ (b1 : A1) (b2 : A2) (b3 : A3) (b4 : A4) (b5 : A5) (b6 : A6) (b7 : A7) (b8 : A8) (b9 : A9) (b10 : A10) (b11 : A11) (b12 : A12) (b13 : A13), I b1 b2 b3 b4 b5 b6 b7 b8 b9 b10 b11 b12 b13 → μ b1 b2 b3 b4 b5 b6 b7 b8 b9 b10 b11 b12 b13 < μ a1 a2 a3 a4 a5 a6 a7 a8 a9 a10 a11 a12 a13 → W n b1 b2 b3 b4 b5 b6 b7 b8 b9 b10 b11 b12 b13) → W (n + 1) a1 a2 a3 a4 a5 a6 a7 a8 a9 a10 a11 a12 a13) (a1 : A1) (a2 : A2) (a3 : A3) (a4 : A4) (a5 : A5) (a6 : A6) (a7 : A7) (a8 : A8) (a9 : A9) (a10 : A10) (a11 : A11) (a12 : A12) (a13 : A13) (h : I a1 a2 a3 a4 a5 a6 a7 a8 a9 a10 a11 a12 a13) : ∃ n, W n a1 a2 a3 a4 a5 a6 a7 a8 a9 a10 a11 a12 a13 :=
  loop_m (σ := A1 × A2 × A3 × A4 × A5 × A6 × A7 × A8 × A9 × A10 × A11 × A12 × A13) (fun n s => W n s.1 s.2.1 s.2.2.1 s.2.2.2.1 s.2.2.2.2.1 s.2.2.2.2.2.1 s.2.2.2.2.2.2.1 s.2.2.2.2.2.2.2.1 s.2.2.2.2.2.2.2.2.1 s.2.2.2.2.2.2.2.2.2.1 s.2.2.2.2.2.2.2.2.2.2.1 s.2.2.2.2.2.2.2.2.2.2.2.1 s.2.2.2.2.2.2.2.2.2.2.2.2) (fun s => I s.1 s.2.1 s.2.2.1 s.2.2.2.1 s.2.2.2.2.1 s.2.2.2.2.2.1 s.2.2.2.2.2.2.1 s.2.2.2.2.2.2.2.1 s.2.2.2.2.2.2.2.2.1 s.2.2.2.2.2.2.2.2.2.1 s.2.2.2.2.2.2.2.2.2.2.1 s.2.2.2.2.2.2.2.2.2.2.2.1 s.2.2.2.2.2.2.2.2.2.2.2.2) (fun s => μ s.1 s.2.1 s.2.2.1 s.2.2.2.1 s.2.2.2.2.1 s.2.2.2.2.2.1 s.2.2.2.2.2.2.1 s.2.2.2.2.2.2.2.1 s.2.2.2.2.2.2.2.2.1 s.2.2.2.2.2.2.2.2.2.1 s.2.2.2.2.2.2.2.2.2.2.1 s.2.2.2.2.2.2.2.2.2.2.2.1 s.2.2.2.2.2.2.2.2.2.2.2.2) (fun n s hI hk => hs n s.1 s.2.1 s.2.2.1 s.2.2.2.1 s.2.2.2.2.1 s.2.2.2.2.2.1 s.2.2.2.2.2.2.1 s.2.2.2.2.2.2.2.1 s.2.2.2.2.2.2.2.2.1 s.2.2.2.2.2.2.2.2.2.1 s.2.2.2.2.2.2.2.2.2.2.1 s.2.2.2.2.2.2.2.2.2.2.2.1 s.2.2.2.2.2.2.2.2.2.2.2.2 hI (fun b1 b2 b3 b4 b5 b6 b7 b8 b9 b10 b11 b12 b13 h9 hm => hk (b1, b2, b3, b4, b5, b6, b7, b8, b9, b10, b11, b12, b13) h9 hm)) (a1, a2, a3, a4, a5, a6, a7, a8, a9, a10, a11, a12, a13) h
theorem lp14 {A1 A2 A3 A4 A5 A6 A7 A8 A9 A10 A11 A12 A13 A14 : Type} (W : Nat → A1 → A2 → A3 → A4 → A5 → A6 → A7 → A8 → A9 → A10 → A11 → A12 → A13 → A14 → Prop) (I : A1 → A2 → A3 → A4 → A5 → A6 → A7 → A8 → A9 → A10 → A11 → A12 → A13 → A14 → Prop) (μ : A1 → A2 → A3 → A4 → A5 → A6 → A7 → A8 → A9 → A10 → A11 → A12 → A13 → A14 → Nat) (hs : ∀ (n : Nat) (a1 : A1) (a2 : A2) (a3 : A3) (a4 : A4) (a5 : A5) (a6 : A6) (a7 : A7) (a8 : A8) (a9 : A9) (a10 : A10) (a11 : A11) (a12 : A12) (a13 : A13) (a14 : A14), I a1 a2 a3 a4 a5 a6 a7 a8 a9 a10 a11 a12 a13 a14 → (∀ (b1 : A1) (b2 : A2) (b3 : A3) (b4 : A4) (b5 : A5) (b6 : A6) (b7 : A7) (b8 : A8) (b9 : A9) (b10 : A10) (b11 : A11) (b12 : A12) (b13 : A13) (b14 : A14), I b1 b2 b3 b4 b5 b6 b7 b8 b9 b10 b11 b12 b13 b14 → μ b1 b2 b3 b4 b5 b6 b7 b8 b9 b10 b11 b12 b13 b14 < μ a1 a2 a3 a4 a5 a6 a7 a8 a9 a10 a11 a12 a13 a14 → W n b1 b2 b3 b4 b5 b6 b7 b8 b9 b10 b11 b12 b13 b14) → W (n + 1) a1 a2 a3 a4 a5 a6 a7 a8 a9 a10 a11 a12 a13 a14) (a1 : A1) (a2 : A2) (a3 : A3) (a4 : A4) (a5 : A5) (a6 : A6) (a7 : A7) (a8 : A8) (a9 : A9) (a10 : A10) (a11 : A11) (a12 : A12) (a13 : A13) (a14 : A14) (h : I a1 a2 a3 a4 a5 a6 a7 a8 a9 a10 a11 a12 a13 a14) : ∃ n, W n a1 a2 a3 a4 a5 a6 a7 a8 a9 a10 a11 a12 a13 a14 :=
  loop_m (σ := A1 × A2 × A3 × A4 × A5 × A6 × A7 × A8 × A9 × A10 × A11 × A12 × A13 × A14) (fun n s => W n s.1 s.2.1 s.2.2.1 s.2.2.2.1 s.2.2.2.2.1 s.2.2.2.2.2.1 s.2.2.2.2.2.2.1 s.2.2.2.2.2.2.2.1 s.2.2.2.2.2.2.2.2.1 s.2.2.2.2.2.2.2.2.2.1 s.2.2.2.2.2.2.2.2.2.2.1 s.2.2.2.2.2.2.2.2.2.2.2.1 s.2.2.2.2.2.2.2.2.2.2.2.2.1 s.2.2.2.2.2.2.2.2.2.2.2.2.2) (fun s => I s.1 s.2.1 s.2.2.1 s.2.2.2.1 s.2.2.2.2.1 s.2.2.2.2.2.1 s.2.2.2.2.2.2.1 s.2.2.2.2.2.2.2.1 s.2.2.2.2.2.2.2.2.1 s.2.2.2.2.2.2.2.2.2.1 s.2.2.2.2.2.2.2.2.2.2.1 s.2.2.2.2.2.2.2.2.2.2.2.1 s.2.2.2.2.2.2.2.2.2.2.2.2.1 s.2.2.2.2.2.2.2.2.2.2.2.2.2) (fun s => μ s.1 s.2.1 s.2.2.1 s.2.2.2.1 s.2.2.2.2.1 s.2.2.2.2.2.1 s.2.2.2.2.2.2.1 s.2.2.2.2.2.2.2.1 s.2.2.2.2.2.2.2.2.1 s.2.2.2.2.2.2.2.2.2.1 s.2.2.2.2.2.2.2.2.2.2.1 s.2.2.2.2.2.2.2.2.2.2.2.1 s.2.2.2.2.2.2.2.2.2.2.2.2.1 s.2.2.2.2.2.2.2.2.2.2.2.2.2) (fun n s hI hk => hs n s.1 s.2.1 s.2.2.1 s.2.2.2.1 s.2.2.2.2.1 s.2.2.2.2.2.1 s.2.2.2.2.2.2.1 s.2.2.2.2.2.2.2.1 s.2.2.2.2.2.2.2.2.1 s.2.2.2.2.2.2.2.2.2.1 s.2.2.2.2.2.2.2.2.2.2.1 s.2.2.2.2.2.2.2.2.2.2.2.1 s.2.2.2.2.2.2.2.2.2.2.2.2.1 s.2.2.2.2.2.2.2.2.2.2.2.2.2 hI (fun b1 b2 b3 b4 b5 b6 b7 b8 b9 b10 b11 b12 b13 b14 h9 hm => hk (b1, b2, b3, b4, b5, b6, b7, b8, b9, b10, b11, b12, b13, b14) h9 hm)) (a1, a2, a3, a4, a5, a6, a7, a8, a9, a10, a11, a12, a13, a14) h
theorem lp15 {A1 A2 A3 A4 A5 A6 A7 A8 A9 A10 A11 A12 A13 A14 A15 : Type} (W : Nat → A1 → A2 → A3 → A4 → A5 → A6 → A7 → A8 → A9 → A10 → A11 → A12 → A13 → A14 → A15 → Prop) (I : A1 → A2 → A3 → A4 → A5 → A6 → A7 → A8 → A9 → A10 → A11 → A12 → A13 → A14 → A15 → Prop) (μ : A1 → A2 → A3 → A4 → A5 → A6 → A7 → A8 → A9 → A10 → A11 → A12 → A13 → A14 → A15 → Nat) (hs : ∀ (n : Nat) (a1 : A1) (a2 : A2) (a3 : A3) (a4 : A4) (a5 : A5) (a6 : A6) (a7 : A7) (a8 : A8) (a9 : A9) (a10 : A10) (a11 : A11) (a12 : A12) (a13 : A13) (a14 : A14) (a15 : A15), I a1 a2 a3 a4 a5 a6 a7 a8 a9 a10 a11 a12 a13 a14 a15 → (∀ (b1 : A1) (b2 : A2) (b3 : A3) (b4 : A4) (b5 : A5) (b6 : A6) (b7 : A7) (b8 : A8) (b9 : A9) (b10 : A10) (b11 : A11) (b12 : A12) (b13 : A13) (b14 : A14) (b15 : A15), I b1 b2 b3 b4 b5 b6 b7 b8 b9 b10 b11 b12 b13 b14 b15 → μ b1 b2 b3 b4 b5 b6 b7 b8 b9 b10 b11 b12 b13 b14 b15 < μ a1 a2 a3 a4 a5 a6 a7 a8 a9 a10 a11 a12 a13 a14 a15 → W n b1 b2 b3 b4 b5 b6 b7 b8 b9 b10 b11 b12 b13 b14 b15) → W (n + 1) a1 a2 a3 a4 a5 a6 a7 a8 a9 a10 a11 a12 a13 a14 a15) (a1 : A1) (a2 : A2) (a3 : A3) (a4 : A4) (a5 : A5) (a6 : A6) (a7 : A7) (a8 : A8) (a9 : A9) (a10 : A10) (a11 : A11) (a12 : A12) (a13 : A13) (a14 : A14) (a15 : A15) (h : I a1 a2 a3 a4 a5 a6 a7 a8 a9 a10 a11 a12 a13 a14 a15) : ∃ n, W n a1 a2 a3 a4 a5 a6 a7 a8 a9 a10 a11 a12 a13 a14 a15 :=
  loop_m (σ := A1 × A2 × A3 × A4 × A5 × A6 × A7 × A8 × A9 × A10 × A11 × A12 × A13 × A14 × A15) (fun n s => W n s.1 s.2.1 s.2.2.1 s.2.2.2.1 s.2.2.2.2.1 s.2.2.2.2.2.1 s.2.2.2.2.2.2.1 s.2.2.2.2.2.2.2.1 s.2.2.2.2.2.2.2.2.1 s.2.2.2.2.2.2.2.2.2.1 s.2.2.2.2.2.2.2.2.2.2.1 s.2.2.2.2.2.2.2.2.2.2.2.1 s.2.2.2.2.2.2.2.2.2.2.2.2.1 s.2.2.2.2.2.2.2.2.2.2.2.2.2.1 s.2.2.2.2.2.2.2.2.2.2.2.2.2.2) (fun s => I s.1 s.2.1 s.2.2.1 s.2.2.2.1 s.2.2.2.2.1 s.2.2.2.2.2.1 s.2.2.2.2.2.2.1 s.2.2.2.2.2.2.2.1 s.2.2.2.2.2.2.2.2.1 s.2.2.2.2.2.2.2.2.2.1 s.2.2.2.2.2.2.2.2.2.2.1 s.2.2.2.2.2.2.2.2.2.2.2.1 s.2.2.2.2.2.2.2.2.2.2.2.2.1 s.2.2.2.2.2.2.2.2.2.2.2.2.2.1 s.2.2.2.2.2.2.2.2.2.2.2.2.2.2) (fun s => μ s.1 s.2.1 s.2.2.1 s.2.2.2.1 s.2.2.2.2.1 s.2.2.2.2.2.1 s.2.2.2.2.2.2.1 s.2.2.2.2.2.2.2.1 s.2.2.2.2.2.2.2.2.1 s.2.2.2.2.2.2.2.2.2.1 s.2.2.2.2.2.2.2.2.2.2.1 s.2.2.2.2.2.2.2.2.2.2.2.1 s.2.2.2.2.2.2.2.2.2.2.2.2.1 s.2.2.2.2.2.2.2.2.2.2.2.2.2.1 s.2.2.2.2.2.2.2.2.2.2.2.2.2.2) (fun n s hI hk => hs n s.1 s.2.1 s.2.2.1 s.2.2.2.1 s.2.2.2.2.1 s.2.2.2.2.2.1 s.2.2.2.2.2.2.1 s.2.2.2.2.2.2.2.1 s.2.2.2.2.2.2.2.2.1 s.2.2.2.2.2.2.2.2.2.1 s.2.2.2.2.2.2.2.2.2.2.1 s.2.2.2.2.2.2.2.2.2.2.2.1 s.2.2.2.2.2.2.2.2.2.2.2.2.1 s.2.2.2.2.2.2.2.2.2.2.2.2.2.1 s.2.2.2.2.2.2.2.2.2.2.2.2.2.2 hI (fun b1 b2 b3 b4 b5 b6 b7 b8 b9 b10 b11 b12 b13 b14 b15 h9 hm => hk (b1, b2, b3, b4, b5, b6, b7, b8, b9, b10, b11, b12, b13, b14, b15) h9 hm)) (a1, a2, a3, a4, a5, a6, a7, a8, a9, a10, a11, a12, a13, a14, a15) h
theorem lp16 {A1 A2 A3 A4 A5 A6 A7 A8 A9 A10 A11 A12 A13 A14 A15 A16 : Type} (W : Nat → A1 → A2 → A3 → A4 → A5 → A6 → A7 → A8 → A9 → A10 → A11 → A12 → A13 → A14 → A15 → A16 → Prop) (I : A1 → A2 → A3 → A4 → A5 → A6 → A7 → A8 → A9 → A10 → A11 → A12 → A13 → A14 → A15 → A16 → Prop) (μ : A1 → A2 → A3 → A4 → A5 → A6 → A7 → A8 → A9 → A10 → A11 → A12 → A13 → A14 → A15 → A16 → Nat) (hs : ∀ (n : Nat) (a1 : A1) (a2 : A2) (a3 : A3) (a4 : A4) (a5 : A5) (a6 : A6) (a7 : A7) (a8 : A8) (a9 : A9) (a10 : A10) (a11 : A11) (a12 : A12) (a13 : A13) (a14 : A14) (a15 : A15) (a16 : A16), I a1 a2 a3 a4 a5 a6 a7 a8 a9 a10 a11 a12 a13 a14 a15 a16 → (∀ (b1 : A1) (b2 : A2) (b3 : A3) (b4 : A4) (b5 : A5) (b6 : A6) (b7 : A7) (b8 : A8) (b9 : A9) (b10 : A10) (b11 : A11) (b12 : A12) (b13 : A13) (b14 : A14) (b15 : A15) (b16 : A16), I b1 b2 b3 b4 b5 b6 b7 b8 b9 b10 b11 b12 b13 b14 b15 b16 → μ b1 b2 b3 b4 b5 b6 b7 b8 b9 b10 b11 b12 b13 b14 b15 b16 < μ a1 a2 a3 a4 a5 a6 a7 a8 a9 a10 a11 a12 a13 a14 a15 a16 → W n b1 b2 b3 b4 b5 b6 b7 b8 b9 b10 b11 b12 b13 b14 b15 b16) → W (n + 1) a1 a2 a3 a4 a5 a6 a7 a8 a9 a10 a11 a12 a13 a14 a15 a16) (a1 : A1) (a2 : A2) (a3 : A3) (a4 : A4) (a5 : A5) (a6 : A6) (a7 : A7) (a8 : A8) (a9 : A9) (a10 : A10) (a11 : A11) (a12 : A12) (a13 : A13) (a14 : A14) (a15 : A15) (a16 : A16) (h : I a1 a2 a3 a4 a5 a6 a7 a8 a9 a10 a11 a12 a13 a14 a15 a16) : ∃ n, W n a1 a2 a3 a4 a5 a6 a7 a8 a9 a10 a11 a12 a13 a14 a15 a16 :=
  loop_m (σ := A1 × A2 × A3 × A4 × A5 × A6 × A7 × A8 × A9 × A10 × A11 × A12 × A13 × A14 × A15 × A16) (fun n s => W n s.1 s.2.1 s.2.2.1 s.2.2.2.1 s.2.2.2.2.1 s.2.2.2.2.2.1 s.2.2.2.2.2.2.1 s.2.2.2.2.2.2.2.1 s.2.2.2.2.2.2.2.2.1 s.2.2.2.2.2.2.2.2.2.1 s.2.2.2.2.2.2.2.2.2.2.1 s.2.2.2.2.2.2.2.2.2.2.2.1 s.2.2.2.2.2.2.2.2.2.2.2.2.1 s.2.2.2.2.2.2.2.2.2.2.2.2.2.1 s.2.2.2.2.2.2.2.2.2.2.2.2.2.2.1 s.2.2.2.2.2.2.2.2.2.2.2.2.2.2.2) (fun s => I s.1 s.2.1 s.2.2.1 s.2.2.2.1 s.2.2.2.2.1 s.2.2.2.2.2.1 s.2.2.2.2.2.2.1 s.2.2.2.2.2.2.2.1 s.2.2.2.2.2.2.2.2.1 s.2.2.2.2.2.2.2.2.2.1 s.2.2.2.2.2.2.2.2.2.2.1 s.2.2.2.2.2.2.2.2.2.2.2.1 s.2.2.2.2.2.2.2.2.2.2.2.2.1 s.2.2.2.2.2.2.2.2.2.2.2.2.2.1 s.2.2.2.2.2.2.2.2.2.2.2.2.2.2.1 s.2.2.2.2.2.2.2.2.2.2.2.2.2.2.2) (fun s => μ s.1 s.2.1 s.2.2.1 s.2.2.2.1 s.2.2.2.2.1 s.2.2.2.2.2.1 s.2.2.2.2.2.2.1 s.2.2.2.2.2.2.2.1 s.2.2.2.2.2.2.2.2.1 s.2.2.2.2.2.2.2.2.2.1 s.2.2.2.2.2.2.2.2.2.2.1 s.2.2.2.2.2.2.2.2.2.2.2.1 s.2.2.2.2.2.2.2.2.2.2.2.2.1 s.2.2.2.2.2.2.2.2.2.2.2.2.2.1 s.2.2.2.2.2.2.2.2.2.2.2.2.2.2.1 s.2.2.2.2.2.2.2.2.2.2.2.2.2.2.2) (fun n s hI hk => hs n s.1 s.2.1 s.2.2.1 s.2.2.2.1 s.2.2.2.2.1 s.2.2.2.2.2.1 s.2.2.2.2.2.2.1 s.2.2.2.2.2.2.2.1 s.2.2.2.2.2.2.2.2.1 s.2.2.2.2.2.2.2.2.2.1 s.2.2.2.2.2.2.2.2.2.2.1 s.2.2.2.2.2.2.2.2.2.2.2.1 s.2.2.2.2.2.2.2.2.2.2.2.2.1 s.2.2.2.2.2.2.2.2.2.2.2.2.2.1 s.2.2.2.2.2.2.2.2.2.2.2.2.2.2.1 s.2.2.2.2.2.2.2.2.2.2.2.2.2.2.2 hI (fun b1 b2 b3 b4 b5 b6 b7 b8 b9 b10 b11 b12 b13 b14 b15 b16 h9 hm => hk (b1, b2, b3, b4, b5, b6, b7, b8, b9, b10, b11, b12, b13, b14, b15, b16) h9 hm)) (a1, a2, a3, a4, a5, a6, a7, a8, a9, a10, a11, a12, a13, a14, a15, a16) h
theorem pk_least (P : Nat → Prop) (h : ∃ k, P k) : ∃ k, P k ∧ ∀ j, j < k → ¬ P j := by
  obtain ⟨k, hk⟩ := h
  induction k using Nat.strongRecOn with
  | ind k ih =>
    by_cases e : ∃ j, j < k ∧ P j
    · obtain ⟨j, hj, pj⟩ := e
      exact ih j hj pj
    · exact ⟨k, hk, fun j hj pj => e ⟨j, hj, pj⟩⟩
theorem rp1 {ρ A1 : Type} (W : Nat → (ρ → Prop) → A1 → Prop) (ok : A1 → Prop) (μ : A1 → Nat) (val : A1 → ρ)
    (hs : ∀ (d : Nat) (post : ρ → Prop) (a1 : A1), ok a1 → post (val a1) → (∀ (post' : ρ → Prop) (b1 : A1), ok b1 → μ b1 < μ a1 → post' (val b1) → W d post' b1) → W (d + 1) post a1) :
    ∀ (d : Nat) (post : ρ → Prop) (a1 : A1), ok a1 → μ a1 < d → post (val a1) → W d post a1 := by
  intro d
  induction d with
  | zero => intro post a1 _ h; omega
  | succ d ih =>
    intro post a1 ho hm hp
    exact hs d post a1 ho hp (fun post' b1 ho' hm' hp' => ih post' b1 ho' (by omega) hp')
theorem rp2 {ρ A1 A2 : Type} (W : Nat → (ρ → Prop) → A1 → A2 → Prop) (ok : A1 → A2 → Prop) (μ : A1 → A2 → Nat) (val : A1 → A2 → ρ)
    (hs : ∀ (d : Nat) (post : ρ → Prop) (a1 : A1) (a2 : A2), ok a1 a2 → post (val a1 a2) → (∀ (post' : ρ → Prop) (b1 : A1) (b2 : A2), ok b1 b2 → μ b1 b2 < μ a1 a2 → post' (val b1 b2) → W d post' b1 b2) → W (d + 1) post a1 a2) :
    ∀ (d : Nat) (post : ρ → Prop) (a1 : A1) (a2 : A2), ok a1 a2 → μ a1 a2 < d → post (val a1 a2) → W d post a1 a2 := by
  intro d
  induction d with
  | zero => intro post a1 a2 _ h; omega
  | succ d ih =>
    intro post a1 a2 ho hm hp
    exact hs d post a1 a2 ho hp (fun post' b1 b2 ho' hm' hp' => ih post' b1 b2 ho' (by omega) hp')
theorem rp3 {ρ A1 A2 A3 : Type} (W : Nat → (ρ → Prop) → A1 → A2 → A3 → Prop) (ok : A1 → A2 → A3 → Prop) (μ : A1 → A2 → A3 → Nat) (val : A1 → A2 → A3 → ρ)
    (hs : ∀ (d : Nat) (post : ρ → Prop) (a1 : A1) (a2 : A2) (a3 : A3), ok a1 a2 a3 → post (val a1 a2 a3) → (∀ (post' : ρ → Prop) (b1 : A1) (b2 : A2) (b3 : A3), ok b1 b2 b3 → μ b1 b2 b3 < μ a1 a2 a3 → post' (val b1 b2 b3) → W d post' b1 b2 b3) → W (d + 1) post a1 a2 a3) :
    ∀ (d : Nat) (post : ρ → Prop) (a1 : A1) (a2 : A2) (a3 : A3), ok a1 a2 a3 → μ a1 a2 a3 < d → post (val a1 a2 a3) → W d post a1 a2 a3 := by
  intro d
  induction d with
  | zero => intro post a1 a2 a3 _ h; omega
  | succ d ih =>
    intro post a1 a2 a3 ho hm hp
    exact hs d post a1 a2 a3 ho hp (fun post' b1 b2 b3 ho' hm' hp' => ih post' b1 b2 b3 ho' (by omega) hp')
theorem rp4 {ρ A1 A2 A3 A4 : Type} (W : Nat → (ρ → Prop) → A1 → A2 → A3 → A4 → Prop) (ok : A1 → A2 → A3 → A4 → Prop) (μ : A1 → A2 → A3 → A4 → Nat) (val : A1 → A2 → A3 → A4 → ρ)
    (hs : ∀ (d : Nat) (post : ρ → Prop) (a1 : A1) (a2 : A2) (a3 : A3) (a4 : A4), ok a1 a2 a3 a4 → post (val a1 a2 a3 a4) → (∀ (post' : ρ → Prop) (b1 : A1) (b2 : A2) (b3 : A3) (b4 : A4), ok b1 b2 b3 b4 → μ b1 b2 b3 b4 < μ a1 a2 a3 a4 → post' (val b1 b2 b3 b4) → W d post' b1 b2 b3 b4) → W (d + 1) post a1 a2 a3 a4) :
    ∀ (d : Nat) (post : ρ → Prop) (a1 : A1) (a2 : A2) (a3 : A3) (a4 : A4), ok a1 a2 a3 a4 → μ a1 a2 a3 a4 < d → post (val a1 a2 a3 a4) → W d post a1 a2 a3 a4 := by
  intro d
  induction d with
  | zero => intro post a1 a2 a3 a4 _ h; omega
  | succ d ih =>
    intro post a1 a2 a3 a4 ho hm hp
    exact hs d post a1 a2 a3 a4 ho hp (fun post' b1 b2 b3 b4 ho' hm' hp' => ih post' b1 b2 b3 b4 ho' (by omega) hp')
theorem rp5 {ρ A1 A2 A3 A4 A5 : Type} (W : Nat → (ρ → Prop) → A1 → A2 → A3 → A4 → A5 → Prop) (ok : A1 → A2 → A3 → A4 → A5 → Prop) (μ : A1 → A2 → A3 → A4 → A5 → Nat) (val : A1 → A2 → A3 → A4 → A5 → ρ)
    (hs : ∀ (d : Nat) (post : ρ → Prop) (a1 : A1) (a2 : A2) (a3 : A3) (a4 : A4) (a5 : A5), ok a1 a2 a3 a4 a5 → post (val a1 a2 a3 a4 a5) → (∀ (post' : ρ → Prop) (b1 : A1) (b2 : A2) (b3 : A3) (b4 : A4) (b5 : A5), ok b1 b2 b3 b4 b5 → μ b1 b2 b3 b4 b5 < μ a1 a2 a3 a4 a5 → post' (val b1 b2 b3 b4 b5) → W d post' b1 b2 b3 b4 b5) → W (d + 1) post a1 a2 a3 a4 a5) :
    ∀ (d : Nat) (post : ρ → Prop) (a1 : A1) (a2 : A2) (a3 : A3) (a4 : A4) (a5 : A5), ok a1 a2 a3 a4 a5 → μ a1 a2 a3 a4 a5 < d → post (val a1 a2 a3 a4 a5) → W d post a1 a2 a3 a4 a5 := by
  intro d
  induction d with
  | zero => intro post a1 a2 a3 a4 a5 _ h; omega
  | succ d ih =>
    intro post a1 a2 a3 a4 a5 ho hm hp
    exact hs d post a1 a2 a3 a4 a5 ho hp (fun post' b1 b2 b3 b4 b5 ho' hm' hp' => ih post' b1 b2 b3 b4 b5 ho' (by omega) hp')
theorem rp6 {ρ A1 A2 A3 A4 A5 A6 : Type} (W : Nat → (ρ → Prop) → A1 → A2 → A3 → A4 → A5 → A6 → Prop) (ok : A1 → A2 → A3 → A4 → A5 → A6 → Prop) (μ : A1 → A2 → A3 → A4 → A5 → A6 → Nat) (val : A1 → A2 → A3 → A4 → A5 → A6 → ρ)
    (hs : ∀ (d : Nat) (post : ρ → Prop) (a1 : A1) (a2 : A2) (a3 : A3) (a4 : A4) (a5 : A5) (a6 : A6), ok a1 a2 a3 a4 a5 a6 → post (val a1 a2 a3 a4 a5 a6) → (∀ (post' : ρ → Prop) (b1 : A1) (b2 : A2) (b3 : A3) (b4 : A4) (b5 : A5) (b6 : A6), ok b1 b2 b3 b4 b5 b6 → μ b1 b2 b3 b4 b5 b6 < μ a1 a2 a3 a4 a5 a6 → post' (val b1 b2 b3 b4 b5 b6) → W d post' b1 b2 b3 b4 b5 b6) → W (d + 1) post a1 a2 a3 a4 a5 a6) :
    ∀ (d : Nat) (post : ρ → Prop) (a1 : A1) (a2 : A2) (a3 : A3) (a4 : A4) (a5 : A5) (a6 : A6), ok a1 a2 a3 a4 a5 a6 → μ a1 a2 a3 a4 a5 a6 < d → post (val a1 a2 a3 a4 a5 a6) → W d post a1 a2 a3 a4 a5 a6 := by
  intro d
  induction d with
  | zero => intro post a1 a2 a3 a4 a5 a6 _ h; omega
  | succ d ih =>
    intro post a1 a2 a3 a4 a5 a6 ho hm hp
    exact hs d post a1 a2 a3 a4 a5 a6 ho hp (fun post' b1 b2 b3 b4 b5 b6 ho' hm' hp' => ih post' b1 b2 b3 b4 b5 b6 ho' (by omega) hp')
theorem rec_p {σ ρ : Type} (W : Nat → (ρ → Prop) → σ → Prop) (ok : σ → Prop) (μ : σ → Nat) (val : σ → ρ)
    (hs : ∀ d s post, ok s → post (val s) → (∀ s' post', ok s' → μ s' < μ s → post' (val s') → W d post' s') → W (d + 1) post s) :
    ∀ d s post, ok s → μ s < d → post (val s) → W d post s := by
  intro d
  induction d with
  | zero => intro s post _ h; omega
  | succ d ih =>
    intro s post ho hm hp
    exact hs d s post ho hp (fun s' post' ho' hm' hp' => ih s' post' ho' (by omega) hp')
theorem rec_q {σ ρ : Type} (W : Nat → (ρ → Prop) → σ → Prop) (ok : σ → Prop) (μ : σ → Nat) (Q : σ → ρ → Prop)
    (hs : ∀ d s post, ok s → (∀ r, Q s r → post r) → (∀ s' post', ok s' → μ s' < μ s → (∀ r, Q s' r → post' r) → W d post' s') → W (d + 1) post s) :
    ∀ d s post, ok s → μ s < d → (∀ r, Q s r → post r) → W d post s := by
  intro d
  induction d with
  | zero => intro s post _ h; omega
  | succ d ih =>
    intro s post ho hm hp
    exact hs d s post ho hp (fun s' post' ho' hm' hp' => ih s' post' ho' (by omega) hp')
def bx_sum (f : Nat → Int32) : Nat → Int32
  | 0 => 0
  | n + 1 => bx_sum f n + f n
theorem ek_u {A : Prop} {B : Nat → Prop} {k N : Nat} (hk : k < N) (h : B k) : (some k = none → A) ∧ (∀ y : Nat, some k = some y → (y < N ∧ B y)) :=
  ⟨fun z => absurd z (Option.some_ne_none k), fun _ e => (by cases e; exact ⟨hk, h⟩)⟩
theorem ek_nu {A : Prop} {B : Nat → Prop} (h : A) : ((none : Option Nat) = none → A) ∧ (∀ y : Nat, (none : Option Nat) = some y → B y) :=
  ⟨fun _ => h, fun _ e => (by cases e)⟩
theorem ek_if {c d A B : Prop} (e : c ↔ d) (f : d → A) (g : ¬ d → B) : (c → A) ∧ (¬ c → B) :=
  ⟨fun z => f (e.mp z), fun z => g (fun y => z (e.mpr y))⟩
theorem ek_v {α : Sort _} {P : α → Prop} {a b : α} (e : a = b) (h : P b) : P a := e ▸ h
theorem co_some {x : Option Nat} {A : Prop} {B : Nat → Prop} (i : Nat) (h : B i) (hx : x = some i := by rfl) : (x = none → A) ∧ (∀ y : Nat, x = some y → B y) := by
  subst hx
  exact ⟨fun e => (nomatch e), fun y e => Option.some.inj e ▸ h⟩
theorem co_none {x : Option Nat} {A : Prop} {B : Nat → Prop} (h : A) (hx : x = none := by rfl) : (x = none → A) ∧ (∀ y : Nat, x = some y → B y) := by
  subst hx
  exact ⟨fun _ => h, fun y e => (nomatch e)⟩
theorem co_any {x : Option Nat} {A : Prop} {B : Nat → Prop} (hn : x = none → A) (hs : ∀ i : Nat, x = some i → B i) : (x = none → A) ∧ (∀ y : Nat, x = some y → B y) := ⟨hn, hs⟩
theorem co_2 {P : Nat → Prop} (h0 : P 0) (h1 : P 1) {i : Nat} (hi : i < 2) : P i :=
  match i, hi with
  | 0, _ => h0
  | 1, _ => h1
theorem co_3 {P : Nat → Prop} (h0 : P 0) (h1 : P 1) (h2 : P 2) {i : Nat} (hi : i < 3) : P i :=
  match i, hi with
  | 0, _ => h0
  | 1, _ => h1
  | 2, _ => h2
theorem co_4 {P : Nat → Prop} (h0 : P 0) (h1 : P 1) (h2 : P 2) (h3 : P 3) {i : Nat} (hi : i < 4) : P i :=
  match i, hi with
  | 0, _ => h0
  | 1, _ => h1
  | 2, _ => h2
  | 3, _ => h3
theorem co_dec {N : Nat} {P : Nat → Prop} [DecidablePred P] (h : (List.range N).all (fun i => decide (P i)) = true) {i : Nat} (hi : i < N) : P i := by
  have := List.all_eq_true.mp h i (List.mem_range.mpr hi)
  exact of_decide_eq_true this
theorem co_tab {α : Type} {l : List α} {d : α} {P : α → Prop} (h : ∀ a, a ∈ l → P a) {i : Nat} (hi : i < l.length) : P (l.getD i d) := by
  rw [List.getD_eq_getElem?_getD, List.getElem?_eq_getElem hi]
  exact h _ (List.getElem_mem hi)
theorem pk_mu {x : Int32} {L : Nat} (h0 : ¬ x < 0) (h : ¬ nI L ≤ x) (hL : L < 2 ^ 31) : ∃ j : Nat, j < L ∧ x = nI j ∧ x + 1 = nI (j + 1) ∧ x.toNatClampNeg = j ∧ L - (x + 1).toNatClampNeg < L - x.toNatClampNeg := by
  obtain ⟨j, hj, rfl⟩ := nI_of h0
  have hl : j < L := Nat.not_le.mp fun q => h (nI_le q hj)
  refine ⟨j, hl, rfl, nI_1 j, nI_clamp hj, ?_⟩
  rw [nI_1, nI_clamp (by omega), nI_clamp hj]
  omega
theorem op_s {α : Type} {r : Option α} {A : Prop} {B : α → Prop} {y : α} (h : r = some y) (b : B y) : (r = none → A) ∧ ∀ z, r = some z → B z :=
  ⟨fun e => (by rw [h] at e; cases e), fun z e => (by rw [h] at e; cases e; exact b)⟩
def l_holds {α : Type} (a : Nat → Option Nat) (LP : List Nat) (p : Nat → α) (c : Nat) (b : Nat → α) : Prop :=
  ∀ j, j < c → ∃ y, a j = some y ∧ y ∈ LP ∧ p y = b j
theorem l_holds_0 {α : Type} {a : Nat → Option Nat} {LP : List Nat} {p b : Nat → α} : l_holds a LP p 0 b := fun j h => absurd h (Nat.not_lt_zero j)
theorem l_in_new (LP : List Nat) (q : Nat) : q ∈ LP ++ [q] := List.mem_append.mpr (Or.inr (List.mem_singleton.mpr rfl))
def l_sum (b : Nat → Int32) : Nat → Int32
  | 0 => 0
  | k + 1 => l_sum b k + b k
theorem sb_shr0 (x : Int32) : x >>> ((0 : Int32) &&& 31) = x := by
  rw [show ((0 : Int32) &&& 31) = 0 by decide]
  simp
theorem sb_shl0 (x : Int32) : x <<< ((0 : Int32) &&& 31) = x := by
  rw [show ((0 : Int32) &&& 31) = 0 by decide]
  simp
theorem sb_cl0 : (0 : Int32).toNatClampNeg = 0 := by decide
theorem sb_m1 {p : Nat} (h : 0 < p) : nI p + (-1) = nI (p - 1) := by
  obtain ⟨q, rfl⟩ : ∃ q, p = q + 1 := ⟨p - 1, by omega⟩
  exact pk_m1 q
def sb_b (c : Nat) : Int32 := (nI c).toInt8.toInt32
theorem sb_byte : ∀ c, c < 256 → sb_b c &&& 255 = nI c ∧ ((nI c).toUInt32 % 65536).toInt32 = nI c ∧ nI c ≤ 255 := by decide +kernel
def sb_Fit (a : Nat → Int32) : Prop := ∀ j, fits .byte (.int (a j)) = true
def sb_Lat (t : Nat → Nat) (n : Nat) (a : Nat → Int32) : Prop := ∀ j, j < n → t j < 256 ∧ a j = sb_b (t j)
theorem sb_fitB (c : Nat) : fits .byte (.int (sb_b c)) = true := pk_fb _
theorem sb_fit0 : sb_Fit (fun _ => 0) := fun _ => by
  show fits .byte (.int 0) = true
  decide
theorem sb_fitU {a : Nat → Int32} {k : Nat} {x : Int32} (h : sb_Fit a) (hx : fits .byte (.int x) = true) : sb_Fit (upd a k x) := by
  intro j
  by_cases e : j = k
  · subst e
    rw [pk_us]
    exact hx
  · rw [pk_un e]
    exact h j
def sb_cat (t : Nat → Nat) (n : Nat) (s : Nat → Nat) : Nat → Nat := fun j => if j < n then t j else s (j - n)
theorem sb_cat_lo {t s : Nat → Nat} {n j : Nat} (h : j < n) : sb_cat t n s j = t j := if_pos h
theorem sb_cat_hi {t s : Nat → Nat} {n j : Nat} : sb_cat t n s (n + j) = s j := by
  show (if n + j < n then t (n + j) else s (n + j - n)) = s j
  rw [if_neg (by omega), Nat.add_sub_cancel_left]
theorem sb_latPut {t s : Nat → Nat} {n w : Nat} {a a' : Nat → Int32} (h : sb_Lat t n a) (hk : ∀ j, j < n → a' j = a j) (hs : ∀ i, i < w → s i < 256 ∧ a' (n + i) = sb_b (s i)) : sb_Lat (sb_cat t n s) (n + w) a' := by
  intro j hj
  by_cases e : j < n
  · rw [sb_cat_lo e, hk j e]
    exact h j e
  · obtain ⟨i, rfl⟩ : ∃ i, j = n + i := ⟨j - n, by omega⟩
    rw [sb_cat_hi]
    exact hs i (by omega)
theorem sb_latKeep {t : Nat → Nat} {n : Nat} {a a' : Nat → Int32} (h : sb_Lat t n a) (hk : ∀ j, j < n → a' j = a j) : sb_Lat t n a' := fun j hj => by
  rw [hk j hj]
  exact h j hj
def sb_cap (q m : Nat) : Nat := if q ≤ m then m else if 2 * m + 2 < q then q else 2 * m + 2
def sb_Room (q m mc ms : Nat) : Prop := q ≤ m ∨ (1 ≤ mc ∧ sb_cap q m ≤ ms ∧ sb_cap q m ≤ 65536)
theorem sb_cap_ge (q m : Nat) : q ≤ sb_cap q m := by
  unfold sb_cap
  split
  · omega
  · split <;> omega
theorem sb_cap_gem (q m : Nat) : m ≤ sb_cap q m := by
  unfold sb_cap
  split
  · omega
  · split <;> omega
theorem sb_cap_le {q m mc ms : Nat} (hm : m ≤ 65536) (hr : sb_Room q m mc ms) : sb_cap q m ≤ 65536 := by
  rcases hr with h | h
  · rw [sb_cap, if_pos h]
    exact hm
  · exact h.2.2
theorem sb_at {P : Int32 → Prop} {x y : Int32} (e : x = y) (h : P y) : P x := e ▸ h
def sb_dg (w : Nat) : Nat := if w < 10 then 1 else if w < 100 then 2 else if w < 1000 then 3 else if w < 10000 then 4 else if w < 100000 then 5 else if w < 1000000 then 6 else if w < 10000000 then 7 else if w < 100000000 then 8 else if w < 1000000000 then 9 else 10
def sb_dec (v : Nat) : Nat → Nat := fun i => 48 + v / 10 ^ (sb_dg v - 1 - i) % 10
theorem sb_dg_in (w : Nat) : 1 ≤ sb_dg w ∧ sb_dg w ≤ 10 := by
  unfold sb_dg
  constructor <;> (repeat' split) <;> omega
theorem sb_dg100 {w : Nat} (h : 100 ≤ w) (hw : w < 2 ^ 31) : sb_dg w = sb_dg (w / 100) + 2 := by
  rw [sb_dg, sb_dg, if_neg (show ¬ w < 10 by omega), if_neg (show ¬ w < 100 by omega)]
  by_cases h3 : w < 1000
  · rw [if_pos h3, if_pos (show w / 100 < 10 by omega)]
  rw [if_neg h3, if_neg (show ¬ w / 100 < 10 by omega)]
  by_cases h4 : w < 10000
  · rw [if_pos h4, if_pos (show w / 100 < 100 by omega)]
  rw [if_neg h4, if_neg (show ¬ w / 100 < 100 by omega)]
  by_cases h5 : w < 100000
  · rw [if_pos h5, if_pos (show w / 100 < 1000 by omega)]
  rw [if_neg h5, if_neg (show ¬ w / 100 < 1000 by omega)]
  by_cases h6 : w < 1000000
  · rw [if_pos h6, if_pos (show w / 100 < 10000 by omega)]
  rw [if_neg h6, if_neg (show ¬ w / 100 < 10000 by omega)]
  by_cases h7 : w < 10000000
  · rw [if_pos h7, if_pos (show w / 100 < 100000 by omega)]
  rw [if_neg h7, if_neg (show ¬ w / 100 < 100000 by omega)]
  by_cases h8 : w < 100000000
  · rw [if_pos h8, if_pos (show w / 100 < 1000000 by omega)]
  rw [if_neg h8, if_neg (show ¬ w / 100 < 1000000 by omega)]
  by_cases h9 : w < 1000000000
  · rw [if_pos h9, if_pos (show w / 100 < 10000000 by omega)]
  rw [if_neg h9, if_neg (show ¬ w / 100 < 10000000 by omega)]
  rw [if_pos (show w / 100 < 100000000 by omega)]
theorem sb_negT {w : Nat} (h : w < 2 ^ 31) : (-nI w).toInt = -(w : Int) := by
  rw [Int32.toInt_neg, nI_toInt h]
  exact Int.bmod_eq_of_le (by omega) (by omega)
theorem sb_nle {a b : Nat} (ha : a < 2 ^ 31) (hb : b < 2 ^ 31) : -nI a ≤ -nI b ↔ b ≤ a := by
  rw [Int32.le_iff_toInt_le, sb_negT ha, sb_negT hb]
  omega
theorem sb_nlt {a b : Nat} (ha : a < 2 ^ 31) (hb : b < 2 ^ 31) : -nI a < -nI b ↔ b < a := by
  rw [Int32.lt_iff_toInt_lt, sb_negT ha, sb_negT hb]
  omega
theorem sb_cmp {A B : Prop} {x : Int32} (v c : Nat) (f : c ≤ v → A) (g : v < c → B) (hv : v < 2 ^ 31) (hx : x = -nI c := by rfl) (hc : c < 2 ^ 31 := by omega) : (-nI v ≤ x → A) ∧ (¬ -nI v ≤ x → B) := by
  subst hx
  rw [sb_nle hv hc]
  exact ⟨f, fun z => g (by omega)⟩
theorem sb_ndiv {w : Nat} (hw : w < 2 ^ 31) : (-nI w) / 100 = -nI (w / 100) := by
  apply Int32.toInt_inj.mp
  have h100 : (100 : Int32).toInt = 100 := by decide
  rw [Int32.toInt_div, sb_negT hw, h100, sb_negT (by omega), Int.neg_tdiv, Int.tdiv_eq_ediv_of_nonneg (by omega), Int.bmod_eq_of_le (by omega) (by omega)]
  omega
theorem sb_nrem {w : Nat} (hw : w < 2 ^ 31) : (-nI (w / 100)) * 100 - (-nI w) = nI (w % 100) := by
  have h := pk_rem (a := w) (d := 100) hw (by decide) (by decide)
  rw [pk_div hw (by decide) (by decide)] at h
  rw [← h]
  show (-nI (w / 100)) * nI 100 - (-nI w) = nI w - nI (w / 100) * nI 100
  rw [Int32.neg_mul, Int32.sub_neg, Int32.add_comm, ← Int32.sub_eq_add_neg]
end
section
/-! rows on bits, shifts and unsigned numbers, to paste: each family out of a closed proof of our own, whole with what it rests on; each by itself clean at Lean in its own claim (generation 39, form 5). Take a family whole -/
/-! ===== Int32 by its bits: bt x i ===== -/
def bt (x : Int32) (i : Nat) : Bool := x.toBitVec.getLsbD i
theorem b_ext {x y : Int32} (h : ∀ i, i < 32 → bt x i = bt y i) : x = y := Int32.toBitVec_inj.mp (BitVec.eq_of_getLsbD_eq (fun i hi => h i hi))
theorem b_or (x y : Int32) (i : Nat) : bt (x ||| y) i = (bt x i || bt y i) := by unfold bt; rw [Int32.toBitVec_or, BitVec.getLsbD_or]
theorem b_and (x y : Int32) (i : Nat) : bt (x &&& y) i = (bt x i && bt y i) := by unfold bt; rw [Int32.toBitVec_and, BitVec.getLsbD_and]
theorem b_xor (x y : Int32) (i : Nat) : bt (x ^^^ y) i = (bt x i ^^ bt y i) := by unfold bt; rw [Int32.toBitVec_xor, BitVec.getLsbD_xor]
theorem b_big {x : Int32} {i : Nat} (h : 32 ≤ i) : bt x i = false := BitVec.getLsbD_of_ge _ _ h
theorem b_255 (i : Nat) : bt 255 i = decide (i < 8) := by
  rcases Nat.lt_or_ge i 32 with h | h
  · exact (by decide +kernel : ∀ i, i < 32 → bt 255 i = decide (i < 8)) i h
  · rw [b_big h, decide_eq_false (by omega)]
theorem b_65535 (i : Nat) : bt 65535 i = decide (i < 16) := by
  rcases Nat.lt_or_ge i 32 with h | h
  · exact (by decide +kernel : ∀ i, i < 32 → bt 65535 i = decide (i < 16)) i h
  · rw [b_big h, decide_eq_false (by omega)]
theorem b_m1 : ∀ i, i < 32 → bt (-1) i = true := by decide +kernel
theorem b_0 (i : Nat) : bt 0 i = false := BitVec.getLsbD_zero
theorem s_l : ∀ n, n < 32 → ((nI n &&& 31).toBitVec.smod 32).toNat = n := by decide +kernel
theorem s_u : ∀ n, n < 32 → (((nI n).toUInt32 &&& Int32.toUInt32 31).toBitVec % 32).toNat = n := by decide +kernel
theorem b_shl (n : Nat) (hn : n < 32) (x : Int32) {i : Nat} (hi : i < 32) : bt (x <<< (nI n &&& 31)) i = (decide (n ≤ i) && bt x (i - n)) := by
  unfold bt
  rw [Int32.toBitVec_shiftLeft]
  show (x.toBitVec <<< ((nI n &&& 31).toBitVec.smod 32).toNat).getLsbD i = _
  rw [s_l n hn, BitVec.getLsbD_shiftLeft]
  rcases Nat.lt_or_ge i n with h | h
  · simp [h, Nat.not_le.mpr h]
  · simp [hi, h, Nat.not_lt.mpr h]
theorem b_ushr (n : Nat) (hn : n < 32) (x : Int32) (i : Nat) : bt ((x.toUInt32 >>> ((nI n).toUInt32 &&& Int32.toUInt32 31)).toInt32) i = bt x (n + i) := by
  show (x.toUInt32 >>> ((nI n).toUInt32 &&& Int32.toUInt32 31)).toBitVec.getLsbD i = x.toUInt32.toBitVec.getLsbD (n + i)
  rw [UInt32.toBitVec_shiftRight]
  show (x.toUInt32.toBitVec >>> (((nI n).toUInt32 &&& Int32.toUInt32 31).toBitVec % 32).toNat).getLsbD i = _
  rw [s_u n hn, BitVec.getLsbD_ushiftRight]
theorem b_sshr (n : Nat) (hn : n < 32) (x : Int32) {i : Nat} (hi : i < 32) : bt (x >>> (nI n &&& 31)) i = if n + i < 32 then bt x (n + i) else bt x 31 := by
  unfold bt
  rw [Int32.toBitVec_shiftRight]
  show (x.toBitVec.sshiftRight ((nI n &&& 31).toBitVec.smod 32).toNat).getLsbD i = _
  rw [s_l n hn, BitVec.getLsbD_sshiftRight, BitVec.msb_eq_getLsbD_last]
  simp [hi]
theorem b_shl8 (x : Int32) {i : Nat} (hi : i < 32) : bt (x <<< ((8 : Int32) &&& 31)) i = (decide (8 ≤ i) && bt x (i - 8)) := b_shl 8 (by omega) x hi
theorem b_shl16 (x : Int32) {i : Nat} (hi : i < 32) : bt (x <<< ((16 : Int32) &&& 31)) i = (decide (16 ≤ i) && bt x (i - 16)) := b_shl 16 (by omega) x hi
theorem b_shl24 (x : Int32) {i : Nat} (hi : i < 32) : bt (x <<< ((24 : Int32) &&& 31)) i = (decide (24 ≤ i) && bt x (i - 24)) := b_shl 24 (by omega) x hi
theorem b_sshr8 (x : Int32) {i : Nat} (hi : i < 32) : bt (x >>> ((8 : Int32) &&& 31)) i = if 8 + i < 32 then bt x (8 + i) else bt x 31 := b_sshr 8 (by omega) x hi
/-! ===== nI under and, xor, >>>, one bit, 65535 ===== -/
theorem nx_and (a b : Nat) : nI a &&& nI b = nI (a &&& b) := by
  apply Int32.toBitVec_inj.1
  show BitVec.ofNat 32 a &&& BitVec.ofNat 32 b = BitVec.ofNat 32 (a &&& b)
  apply BitVec.eq_of_getLsbD_eq
  intro i hi
  simp [hi]
theorem nx_xor (a b : Nat) : nI a ^^^ nI b = nI (a ^^^ b) := by
  apply Int32.toBitVec_inj.1
  show BitVec.ofNat 32 a ^^^ BitVec.ofNat 32 b = BitVec.ofNat 32 (a ^^^ b)
  apply BitVec.eq_of_getLsbD_eq
  intro i hi
  simp [hi]
theorem nx_cnt : ∀ j : Fin 32, (UInt32.ofNat j.val &&& Int32.toUInt32 31).toNat % 32 = j.val := by decide +kernel
theorem nx_ush {k j : Nat} (hk : k < 65536) (hj : j < 32) : ((nI k).toUInt32 >>> ((nI j).toUInt32 &&& Int32.toUInt32 31)).toInt32 = nI (k >>> j) := by
  have hs : k >>> j ≤ k := by
    rw [Nat.shiftRight_eq_div_pow]
    exact Nat.div_le_self _ _
  have e2 : UInt32.ofNat k >>> (UInt32.ofNat j &&& Int32.toUInt32 31) = UInt32.ofNat (k >>> j) := by
    apply UInt32.toNat_inj.1
    have h1 : (UInt32.ofNat k).toNat = k := Nat.mod_eq_of_lt (by omega)
    have h2 : (UInt32.ofNat (k >>> j)).toNat = k >>> j := Nat.mod_eq_of_lt (by omega)
    rw [UInt32.toNat_shiftRight, nx_cnt ⟨j, hj⟩, h1, h2]
  show (UInt32.ofNat k >>> (UInt32.ofNat j &&& Int32.toUInt32 31)).toInt32 = _
  rw [e2]
  rfl
theorem nx_bit {k j : Nat} (hk : k < 65536) (hj : j < 16) : (((nI k).toUInt32 >>> ((nI j).toUInt32 &&& Int32.toUInt32 31)).toInt32 &&& 1) = 0 ↔ k.testBit j = false := by
  rw [nx_ush hk (by omega)]
  show nI (k >>> j) &&& nI 1 = 0 ↔ _
  rw [nx_and, Nat.and_one_is_mod, ← nI_0, nI_eq (by omega) (by omega), Nat.testBit_eq_decide_div_mod_eq, Nat.shiftRight_eq_div_pow, decide_eq_false_iff_not]
  generalize k / 2 ^ j = z
  omega
theorem nx_mod (k : Nat) : nI k &&& 65535 = nI (k % 65536) := by
  show nI k &&& nI 65535 = _
  rw [nx_and, show (65535 : Nat) = 2 ^ 16 - 1 from rfl, Nat.and_two_pow_sub_one_eq_mod]
theorem nx_m16 {k : Nat} (h : k < 65536) : nI k &&& 65535 = nI k := by rw [nx_mod, Nat.mod_eq_of_lt h]
theorem nx_mask (x : Int32) : ∃ k, k < 65536 ∧ x &&& 65535 = nI k := by
  have e : x = nI x.toBitVec.toNat := by
    apply Int32.toBitVec_inj.1
    show x.toBitVec = BitVec.ofNat 32 x.toBitVec.toNat
    simp
  refine ⟨x.toBitVec.toNat % 65536, Nat.mod_lt _ (by omega), ?_⟩
  rw [← nx_mod, ← e]
/-! ===== Int32 as a set of bits: test, set ===== -/
def nf_M (m : Int32) : Nat := 4294967296 - m.toBitVec.toNat
theorem nf_sh : ∀ l, l < 32 → ((1 : Int32) <<< (nI l &&& 31)).toBitVec = BitVec.twoPow 32 l := by decide +kernel
theorem nf_sl : ∀ l, l < 32 → (((nI l).toUInt32 &&& Int32.toUInt32 31).toBitVec % 32).toNat = l := by decide +kernel
theorem nf_tp : ∀ l, l < 32 → BitVec.twoPow 32 l ≠ 0#32 := by decide +kernel
theorem nf_bit (m : Int32) (l : Nat) (hl : l < 32) : ((m.toUInt32 >>> ((nI l).toUInt32 &&& Int32.toUInt32 31)).toInt32 &&& 1) = 0 ↔ (m &&& ((1 : Int32) <<< (nI l &&& 31))) = 0 := by
  have e : ((m.toUInt32 >>> ((nI l).toUInt32 &&& Int32.toUInt32 31)).toInt32).toBitVec = m.toBitVec >>> l := by
    show m.toBitVec >>> (((nI l).toUInt32 &&& Int32.toUInt32 31).toBitVec % 32) = m.toBitVec >>> l
    rw [BitVec.ushiftRight_eq', nf_sl l hl]
  rw [← Int32.toBitVec_inj, ← Int32.toBitVec_inj, Int32.toBitVec_and, Int32.toBitVec_and, nf_sh l hl, e, BitVec.and_twoPow]
  show (m.toBitVec >>> l &&& 1#32) = 0#32 ↔ _ = 0#32
  rw [BitVec.and_one_eq_setWidth_ofBool_getLsbD, BitVec.getLsbD_ushiftRight, Nat.add_zero]
  cases hb : m.toBitVec.getLsbD l
  · exact ⟨fun _ => by simp, fun _ => by decide⟩
  · exact ⟨fun z => absurd z (by decide), fun z => absurd ((if_pos rfl).symm.trans z) (nf_tp l hl)⟩
theorem nf_gr (m k : Int32) (h : m &&& k = 0) (hk : k ≠ 0) : nf_M (m ||| k) < nf_M m := by
  have hm := m.toBitVec.isLt
  have hm' := (m ||| k).toBitVec.isLt
  have h1 : m.toBitVec.toNat ≤ (m ||| k).toBitVec.toNat := by
    rw [Int32.toBitVec_or, BitVec.toNat_or]
    exact Nat.left_le_or
  have h2 : m.toBitVec.toNat ≠ (m ||| k).toBitVec.toNat := by
    intro e
    have e2 : m = m ||| k := Int32.toBitVec_inj.mp (BitVec.eq_of_toNat_eq e)
    apply hk
    apply Int32.toBitVec_inj.mp
    show k.toBitVec = 0#32
    apply BitVec.eq_of_getLsbD_eq
    intro i hi
    have a : m.toBitVec.getLsbD i = (m.toBitVec.getLsbD i || k.toBitVec.getLsbD i) := by rw [← BitVec.getLsbD_or, ← Int32.toBitVec_or, ← e2]
    have b : (m.toBitVec.getLsbD i && k.toBitVec.getLsbD i) = false := by
      rw [← BitVec.getLsbD_and, ← Int32.toBitVec_and, h]
      exact BitVec.getLsbD_zero
    rw [BitVec.getLsbD_zero]
    revert a b
    cases m.toBitVec.getLsbD i <;> cases k.toBitVec.getLsbD i <;> simp
  unfold nf_M
  omega
/-! ===== a byte read unsigned ===== -/
theorem bp_b (x : Int32) : x.toInt8.toInt32 &&& 255 = x &&& 255 := by
  apply Int32.toBitVec_inj.mp
  rw [Int32.toBitVec_and, Int32.toBitVec_and, Int8.toBitVec_toInt32, Int32.toBitVec_toInt8]
  apply BitVec.eq_of_getLsbD_eq
  intro i hi
  rw [BitVec.getLsbD_and, BitVec.getLsbD_and]
  have hm : ∀ i < 32, 8 ≤ i → (255 : Int32).toBitVec.getLsbD i = false := by decide
  rcases Nat.lt_or_ge i 8 with z | z
  · rw [BitVec.getLsbD_signExtend, BitVec.getLsbD_signExtend, if_pos z, if_pos hi]
    simp only [z, hi, decide_true, Bool.true_and]
  · rw [hm i hi z]; simp
/-! ===== the char cast and 65535 ===== -/
theorem em_w (v : Int32) : ∃ w : Nat, w < 65536 ∧ (v.toUInt32 % 65536).toInt32 = nI w ∧ v &&& 65535 = nI w := by
  have hr := lw_u16_r v
  have h0 : (0 : Int32).toInt = 0 := by decide
  obtain ⟨w, h1, h2⟩ := nI_of (x := lw_u16 v) (by rw [Int32.lt_iff_toInt_lt]; omega)
  have h3 : (v.toUInt32 % 65536).toInt32 = nI w := h2
  rw [h2, nI_toInt h1] at hr
  exact ⟨w, by omega, h3, by rw [← lg_i2c_mask, ← lg_i2c_nf, h3]⟩
/-! ===== Int64 as a set of bits: test, set, clear ===== -/
theorem ts_nf {x : Bool} (h : ¬ x = false) : x = true := by cases x <;> first | rfl | exact absurd rfl h
theorem ts_nt {x : Bool} (h : ¬ x = true) : x = false := by cases x <;> first | rfl | exact absurd rfl h
theorem ts_bit {w : Int64} {s : UInt64} {j : Nat} (hj : j < 64) (hs : s.toNat = j) : ((w.toUInt64 >>> s).toInt64 &&& 1) = 0 ↔ w.toBitVec.getLsbD j = false := by
  have e : (w.toUInt64 >>> s).toInt64.toBitVec = w.toBitVec >>> j := by
    apply BitVec.eq_of_toNat_eq
    show (w.toUInt64 >>> s).toNat = _
    rw [UInt64.toNat_shiftRight, hs, Nat.mod_eq_of_lt hj, BitVec.toNat_ushiftRight]
    rfl
  rw [← Int64.toBitVec_inj, Int64.toBitVec_and, e]
  show w.toBitVec >>> j &&& 1#64 = 0#64 ↔ _
  constructor
  · intro h
    have t := congrArg (fun x => x.getLsbD 0) h
    simpa using t
  · intro h
    apply BitVec.eq_of_getLsbD_eq
    intro i hi
    cases i with
    | zero => simp [h]
    | succ i => simp
theorem ts_or {w m : Int64} {j : Nat} (hj : j < 64) (hm : m.toBitVec = BitVec.twoPow 64 j) : (w ||| m) = w ↔ w.toBitVec.getLsbD j = true := by
  rw [← Int64.toBitVec_inj, Int64.toBitVec_or, hm]
  constructor
  · intro h
    have t := congrArg (fun x => x.getLsbD j) h
    simp only [BitVec.getLsbD_or, BitVec.getLsbD_twoPow] at t
    simpa [hj] using t.symm
  · intro h
    apply BitVec.eq_of_getLsbD_eq
    intro i hi
    rw [BitVec.getLsbD_or, BitVec.getLsbD_twoPow]
    by_cases e : j = i
    · subst e; rw [h, Bool.true_or]
    · simp [e]
theorem ts_and {w m : Int64} {j : Nat} (hj : j < 64) (hm : m.toBitVec = BitVec.twoPow 64 j) : (w &&& (m ^^^ (-1))) = w ↔ w.toBitVec.getLsbD j = false := by
  have ha : (-1 : Int64).toBitVec = BitVec.allOnes 64 := by decide
  rw [← Int64.toBitVec_inj, Int64.toBitVec_and, Int64.toBitVec_xor, hm, ha]
  constructor
  · intro h
    have t := congrArg (fun x => x.getLsbD j) h
    simp only [BitVec.getLsbD_and, BitVec.getLsbD_xor, BitVec.getLsbD_twoPow, BitVec.getLsbD_allOnes] at t
    simpa [hj] using t.symm
  · intro h
    apply BitVec.eq_of_getLsbD_eq
    intro i hi
    rw [BitVec.getLsbD_and, BitVec.getLsbD_xor, BitVec.getLsbD_twoPow, BitVec.getLsbD_allOnes]
    by_cases e : j = i
    · subst e; rw [h, Bool.false_and]
    · simp [e, hi]
/-! ===== lN n to 2^64: shifts, and, or, masks, one bit ===== -/
theorem wb_tb (n : Nat) : (lN n).toBitVec = BitVec.ofNat 64 n := rfl
theorem wb_inj {a b : Int64} (h : a.toBitVec = b.toBitVec) : a = b := Int64.toBitVec_inj.mp h
theorem wb_tn {n : Nat} (h : n < 2 ^ 64) : (lN n).toBitVec.toNat = n := by rw [wb_tb, BitVec.toNat_ofNat, Nat.mod_eq_of_lt h]
theorem wb_of (x : Int64) : ∃ n, n < 2 ^ 64 ∧ x = lN n := ⟨x.toBitVec.toNat, x.toBitVec.isLt, wb_inj (by rw [wb_tb]; simp)⟩
theorem wb_of32 (x : Int32) : ∃ n, n < 2 ^ 32 ∧ x = nI n := ⟨x.toBitVec.toNat, x.toBitVec.isLt, Int32.toBitVec_inj.mp (by show _ = BitVec.ofNat 32 _; simp)⟩
theorem wb_c : ∀ k, k < 64 → ((nI k).toInt64 &&& 63) = lN k := by decide +kernel
theorem wb_cu : ∀ k, k < 64 → ((nI k).toInt64.toUInt64 &&& Int64.toUInt64 63) = UInt64.ofNat k := by decide +kernel
theorem wb_sm : ∀ k, k < 64 → (BitVec.ofNat 64 k).smod 64 = BitVec.ofNat 64 k := by decide +kernel
theorem wb_pw {a b : Nat} (h : a ≤ b) : 2 ^ b = 2 ^ a * 2 ^ (b - a) := by rw [← Nat.pow_add]; congr 1; omega
theorem wb_lt2 {a b : Nat} (h : a < b) : 2 ^ a < 2 ^ b := Nat.pow_lt_pow_right (by decide) h
theorem wb_mod (n : Nat) : lN n = lN (n % 2 ^ 64) := wb_inj (by rw [wb_tb, wb_tb]; apply BitVec.eq_of_toNat_eq; rw [BitVec.toNat_ofNat, BitVec.toNat_ofNat, Nat.mod_mod])
theorem wb_shr {n k : Nat} (hn : n < 2 ^ 64) (hk : k < 64) : ((lN n).toUInt64 >>> ((nI k).toInt64.toUInt64 &&& Int64.toUInt64 63)).toInt64 = lN (n / 2 ^ k) := by
  rw [wb_cu k hk]
  apply wb_inj
  apply BitVec.eq_of_toNat_eq
  show ((lN n).toUInt64 >>> UInt64.ofNat k).toNat = (BitVec.ofNat 64 _).toNat
  have h1 : (UInt64.ofNat k).toNat = k := by
    show (BitVec.ofNat 64 k).toNat = k
    rw [BitVec.toNat_ofNat, Nat.mod_eq_of_lt (by omega)]
  have h2 : (lN n).toUInt64.toNat = n := wb_tn hn
  rw [UInt64.toNat_shiftRight, h1, h2, Nat.mod_eq_of_lt hk, Nat.shiftRight_eq_div_pow, BitVec.toNat_ofNat, Nat.mod_eq_of_lt (Nat.lt_of_le_of_lt (Nat.div_le_self _ _) hn)]
theorem wb_shl (n : Nat) {k : Nat} (hk : k < 64) : lN n <<< ((nI k).toInt64 &&& 63) = lN (n * 2 ^ k) := by
  rw [wb_c k hk]
  apply wb_inj
  rw [Int64.toBitVec_shiftLeft, wb_tb, wb_tb, wb_tb, wb_sm k hk]
  apply BitVec.eq_of_toNat_eq
  rw [BitVec.shiftLeft_eq', BitVec.toNat_shiftLeft, BitVec.toNat_ofNat, BitVec.toNat_ofNat, BitVec.toNat_ofNat, Nat.mod_eq_of_lt (show k < 2 ^ 64 by omega), Nat.shiftLeft_eq, Nat.mul_mod, Nat.mod_mod, ← Nat.mul_mod]
theorem wb_and {a b : Nat} (ha : a < 2 ^ 64) (hb : b < 2 ^ 64) : lN a &&& lN b = lN (a &&& b) := by
  apply wb_inj
  rw [Int64.toBitVec_and, wb_tb, wb_tb, wb_tb]
  apply BitVec.eq_of_toNat_eq
  rw [BitVec.toNat_and, BitVec.toNat_ofNat, BitVec.toNat_ofNat, BitVec.toNat_ofNat, Nat.mod_eq_of_lt ha, Nat.mod_eq_of_lt hb, Nat.mod_eq_of_lt (Nat.and_lt_two_pow _ hb)]
theorem wb_or {a b : Nat} (ha : a < 2 ^ 64) (hb : b < 2 ^ 64) : lN a ||| lN b = lN (a ||| b) := by
  apply wb_inj
  rw [Int64.toBitVec_or, wb_tb, wb_tb, wb_tb]
  apply BitVec.eq_of_toNat_eq
  rw [BitVec.toNat_or, BitVec.toNat_ofNat, BitVec.toNat_ofNat, BitVec.toNat_ofNat, Nat.mod_eq_of_lt ha, Nat.mod_eq_of_lt hb, Nat.mod_eq_of_lt (Nat.or_lt_two_pow ha hb)]
theorem wb_mask {n k : Nat} (hn : n < 2 ^ 64) (hk : k < 64) : lN n &&& lN (2 ^ k - 1) = lN (n % 2 ^ k) := by
  rw [wb_and hn (by have := wb_lt2 hk; omega), Nat.and_two_pow_sub_one_eq_mod]
theorem wb_a1 {n : Nat} (hn : n < 2 ^ 64) : lN n &&& 1 = lN (n % 2) := wb_mask (k := 1) hn (by decide)
theorem wb_bit {n k : Nat} (hn : n < 2 ^ 64) (hk : k < 64) : ((lN n).toUInt64 >>> ((nI k).toInt64.toUInt64 &&& Int64.toUInt64 63)).toInt64 &&& 1 = lN (n / 2 ^ k % 2) := by
  rw [wb_shr hn hk, wb_a1 (Nat.lt_of_le_of_lt (Nat.div_le_self _ _) hn)]
theorem wb_xor {q k : Nat} (hk : k < 63) (h : 2 ^ k ≤ q) (h2 : q < 2 ^ (k + 1)) : lN q ^^^ lN (2 ^ k) = lN (q - 2 ^ k) := by
  obtain ⟨r, rfl⟩ : ∃ r, q = 2 ^ k + r := ⟨q - 2 ^ k, by omega⟩
  have hr : r < 2 ^ k := by rw [Nat.pow_succ] at h2; omega
  have hx : (2 ^ k + r) ^^^ 2 ^ k = r := by
    apply Nat.eq_of_testBit_eq
    intro i
    rw [Nat.testBit_xor, Nat.testBit_two_pow]
    rcases Nat.lt_trichotomy i k with h | h | h
    · rw [Nat.testBit_two_pow_add_gt h]
      simp [show ¬ k = i by omega]
    · subst h
      rw [Nat.testBit_two_pow_add_eq]
      simp
    · have a1 : 2 ^ (k + 1) ≤ 2 ^ i := Nat.pow_le_pow_right (by decide) h
      rw [Nat.testBit_lt_two_pow (show 2 ^ k + r < 2 ^ i by omega), Nat.testBit_lt_two_pow (show r < 2 ^ i by omega)]
      simp [show ¬ k = i by omega]
  have b1 := wb_lt2 (show k + 1 < 64 by omega)
  have b2 := wb_lt2 (show k < 64 by omega)
  apply wb_inj
  rw [Int64.toBitVec_xor, wb_tb, wb_tb, wb_tb]
  apply BitVec.eq_of_toNat_eq
  rw [BitVec.toNat_xor, BitVec.toNat_ofNat, BitVec.toNat_ofNat, BitVec.toNat_ofNat, Nat.mod_eq_of_lt (by omega : 2 ^ k + r < 2 ^ 64), Nat.mod_eq_of_lt b2, hx, Nat.add_sub_cancel_left, Nat.mod_eq_of_lt (by omega)]
/-! ===== lN: masks, 'or' of parts that don't overlap is a sum ===== -/
theorem u_tn {n : Nat} (h : n < 2 ^ 64) : (UInt64.ofNat n).toNat = n := Nat.mod_eq_of_lt h
theorem g_and {a b c : Nat} (ha : a < 2 ^ 64) (hb : b < 2 ^ 64) (hc : a &&& b = c) : lN a &&& lN b = lN c := by
  subst hc
  have h : UInt64.ofNat a &&& UInt64.ofNat b = UInt64.ofNat (a &&& b) := UInt64.toNat_inj.mp (by rw [UInt64.toNat_and, u_tn ha, u_tn hb, u_tn (Nat.and_lt_two_pow a hb)])
  have h2 := congrArg UInt64.toInt64 h
  exact h2
theorem g_and1 {a : Nat} (ha : a < 2 ^ 64) : lN a &&& 1 = lN (a % 2) := g_and (b := 1) ha (by decide) (Nat.and_two_pow_sub_one_eq_mod a 1)
theorem g_mask {a s p : Nat} (hp : 2 ^ s = p) (hs : s < 64) (ha : a < 2 ^ 64) : lN a &&& lN (p - 1) = lN (a % p) := by
  subst hp
  have := Nat.pow_lt_pow_right (show 1 < 2 by decide) hs
  exact g_and ha (by omega) (Nat.and_two_pow_sub_one_eq_mod a s)
theorem g_or {k p a b : Nat} (hp : 2 ^ k = p) (ha : a < p) (h : b * p + a < 2 ^ 64) : lN (b * p) ||| lN a = lN (b * p + a) := by
  subst hp
  have h1 : b * 2 ^ k ||| a = b * 2 ^ k + a := by rw [← Nat.shiftLeft_eq, Nat.shiftLeft_add_eq_or_of_lt ha]
  have h3 : UInt64.ofNat (b * 2 ^ k) ||| UInt64.ofNat a = UInt64.ofNat (b * 2 ^ k + a) := UInt64.toNat_inj.mp (by rw [UInt64.toNat_or, u_tn (by omega), u_tn (by omega), u_tn h, h1])
  have h2 := congrArg UInt64.toInt64 h3
  exact h2
theorem g_or' {k p a b : Nat} (hp : 2 ^ k = p) (ha : a < p) (h : a + b * p < 2 ^ 64) : lN a ||| lN (b * p) = lN (a + b * p) := by
  rw [Int64.or_comm, g_or hp ha (by omega), Nat.add_comm]
theorem g_ushr {a k p : Nat} {y : UInt64} (hy : y = UInt64.ofNat k) (hk : k < 64) (hp : 2 ^ k = p) (ha : a < 2 ^ 64) : ((lN a).toUInt64 >>> y).toInt64 = lN (a / p) := by
  subst hy hp
  have h : UInt64.ofNat a >>> UInt64.ofNat k = UInt64.ofNat (a / 2 ^ k) := UInt64.toNat_inj.mp (by rw [UInt64.toNat_shiftRight, u_tn ha, u_tn (by omega), u_tn (Nat.lt_of_le_of_lt (Nat.div_le_self _ _) ha), Nat.mod_eq_of_lt hk, Nat.shiftRight_eq_div_pow])
  have h2 := congrArg UInt64.toInt64 h
  exact h2
theorem g_shl {a k p : Nat} {y : Int64} (hy : y.toBitVec.smod 64 = BitVec.ofNat 64 k) (hk : k < 64) (hp : 2 ^ k = p) (ha : a < 2 ^ 64) : lN a <<< y = lN (a * p) := by
  subst hp
  apply Int64.toBitVec_inj.mp
  rw [Int64.toBitVec_shiftLeft, hy]
  apply BitVec.eq_of_toNat_eq
  have hb : (lN a).toBitVec.toNat = a := Nat.mod_eq_of_lt ha
  have hk' : (BitVec.ofNat 64 k).toNat = k := Nat.mod_eq_of_lt (by omega)
  have h : ((lN a).toBitVec <<< BitVec.ofNat 64 k).toNat = (a * 2 ^ k) % 2 ^ 64 := by simp only [BitVec.shiftLeft_eq', BitVec.toNat_shiftLeft, hb, hk', Nat.shiftLeft_eq]
  exact h
/-! ===== lN to 2^62 under >> and >>> ===== -/
theorem pf_lI {a : Nat} (h : a < 2 ^ 63) : (lN a).toInt = (a : Int) := lg_ofNat_toInt h
theorem pf_shr {a d : Nat} {D : Int64} (hD : (D.toBitVec.smod 64).toNat = d) (h : a < 2 ^ 62) : lN a >>> D = lN (a / 2 ^ d) := by
  have hd : a / 2 ^ d ≤ a := Nat.div_le_self _ _
  apply Int64.toInt_inj.mp
  have e : (lN a >>> D).toInt = (lN a).toInt >>> d := by
    rw [← hD]
    exact BitVec.toInt_sshiftRight ..
  rw [e, Int.shiftRight_eq_div_pow, pf_lI (by omega), pf_lI (by omega)]
  rfl
theorem pf_ushr {a d : Nat} {D : UInt64} (hD : D.toNat % 64 = d) (h : a < 2 ^ 62) : ((lN a).toUInt64 >>> D).toInt64 = lN (a / 2 ^ d) := by
  have hd : a / 2 ^ d ≤ a := Nat.div_le_self _ _
  have e : (lN a).toUInt64 >>> D = UInt64.ofNat (a / 2 ^ d) := UInt64.toNat_inj.mp (by
    rw [UInt64.toNat_shiftRight, hD, Nat.shiftRight_eq_div_pow, UInt64.toNat_ofNat']
    show (UInt64.ofNat a).toNat / 2 ^ d = _
    rw [UInt64.toNat_ofNat', Nat.mod_eq_of_lt (by omega), Nat.mod_eq_of_lt (by omega)])
  rw [e]
  rfl
theorem pf_andw (x : Int64) : ∃ m, m < 2 ^ 32 ∧ x &&& 4294967295 = lN m := ⟨x.toBitVec.toNat % 2 ^ 32, Nat.mod_lt _ (by decide), Int64.toBitVec_inj.mp (BitVec.eq_of_toNat_eq (by
  show (x.toBitVec &&& 4294967295#64).toNat = (BitVec.ofNat 64 (x.toBitVec.toNat % 2 ^ 32)).toNat
  rw [BitVec.toNat_and, show (4294967295#64).toNat = 2 ^ 32 - 1 from by decide, Nat.and_two_pow_sub_one_eq_mod, BitVec.toNat_ofNat]
  omega))⟩
/-! ===== Int64 as an unsigned number: uN x ===== -/
def uN (x : Int64) : Nat := x.toUInt64.toNat
theorem uN_lt (x : Int64) : uN x < 18446744073709551616 := x.toUInt64.toNat_lt
theorem uN_inj {x y : Int64} (h : uN x = uN y) : x = y := congrArg UInt64.toInt64 (UInt64.toNat_inj.mp h)
theorem uN_add (x y : Int64) : uN (x + y) = (uN x + uN y) % 18446744073709551616 := by
  show (x.toUInt64 + y.toUInt64).toNat = _
  exact UInt64.toNat_add _ _
theorem uN_mul (x y : Int64) : uN (x * y) = (uN x * uN y) % 18446744073709551616 := by
  show (x.toUInt64 * y.toUInt64).toNat = _
  exact UInt64.toNat_mul _ _
theorem uN_shl (x : Int64) : uN (x <<< ((1 : Int32).toInt64 &&& 63)) = (2 * uN x) % 18446744073709551616 := by
  have h : (((1 : Int32).toInt64 &&& 63).toBitVec.smod 64).toNat = 1 := by decide
  show (x.toBitVec <<< (((1 : Int32).toInt64 &&& 63).toBitVec.smod 64).toNat).toNat = _
  rw [h, BitVec.toNat_shiftLeft, Nat.shiftLeft_eq, Nat.mul_comm]
  rfl
theorem uN_shr (x : Int64) (s : UInt64) : uN (x.toUInt64 >>> s).toInt64 = uN x / 2 ^ (s.toNat % 64) := by
  show (x.toUInt64 >>> s).toNat = _
  rw [UInt64.toNat_shiftRight, Nat.shiftRight_eq_div_pow]
  rfl
theorem uN_s32 (x : Int64) : uN (x.toUInt64 >>> ((32 : Int32).toInt64.toUInt64 &&& Int64.toUInt64 63)).toInt64 = uN x / 4294967296 := by
  have h : ((32 : Int32).toInt64.toUInt64 &&& Int64.toUInt64 63).toNat % 64 = 32 := by decide
  rw [uN_shr, h]
theorem uN_s63 (x : Int64) : uN (x.toUInt64 >>> ((63 : Int32).toInt64.toUInt64 &&& Int64.toUInt64 63)).toInt64 = uN x / 9223372036854775808 := by
  have h : ((63 : Int32).toInt64.toUInt64 &&& Int64.toUInt64 63).toNat % 64 = 63 := by decide
  rw [uN_shr, h]
theorem uN_lo (x : Int64) : uN (x &&& 4294967295) = uN x % 4294967296 := by
  show (x.toUInt64 &&& Int64.toUInt64 4294967295).toNat = _
  rw [UInt64.toNat_and]
  exact Nat.and_two_pow_sub_one_eq_mod _ 32
theorem uN_bit (x : Int64) : (x &&& 1) = 0 ↔ uN x % 2 = 0 := by
  have h : uN (x &&& 1) = uN x % 2 := by
    show (x.toUInt64 &&& Int64.toUInt64 1).toNat = _
    rw [UInt64.toNat_and]
    exact Nat.and_two_pow_sub_one_eq_mod _ 1
  rw [← h]
  exact ⟨fun z => by rw [z]; rfl, fun z => uN_inj (z.trans rfl)⟩
theorem uN_or {x y : Int64} (hy : uN y < 2) : uN ((x <<< ((1 : Int32).toInt64 &&& 63)) ||| y) = (2 * uN x) % 18446744073709551616 + uN y := by
  have h1 : uN ((x <<< ((1 : Int32).toInt64 &&& 63)) ||| y) = uN (x <<< ((1 : Int32).toInt64 &&& 63)) ||| uN y := UInt64.toNat_or _ _
  have h2 : (2 * uN x) % 18446744073709551616 = 2 ^ 1 * (uN x % 9223372036854775808) := by omega
  rw [h1, uN_shl, h2]
  exact (Nat.two_pow_add_eq_or_of_lt (i := 1) hy _).symm
theorem nat_xor {a : Nat} (h : a < 18446744073709551616) : a ^^^ 2 ^ 63 = (a + 9223372036854775808) % 18446744073709551616 := by
  have h1 : (a ^^^ 2 ^ 63) % 2 ^ 63 = a % 2 ^ 63 := by rw [Nat.xor_mod_two_pow, Nat.mod_self, Nat.xor_zero]
  have h2 : (a ^^^ 2 ^ 63) / 2 ^ 63 = (a / 2 ^ 63) ^^^ 1 := by rw [Nat.xor_div_two_pow, Nat.div_self (Nat.two_pow_pos 63)]
  have h3 : a / 2 ^ 63 = 0 ∨ a / 2 ^ 63 = 1 := by omega
  generalize a ^^^ 2 ^ 63 = t at h1 h2
  rcases h3 with h3 | h3
  · rw [h3] at h2
    have h2 : t / 2 ^ 63 = 1 := h2
    omega
  · rw [h3] at h2
    have h2 : t / 2 ^ 63 = 0 := h2
    omega
theorem uN_xor (x : Int64) : uN (x ^^^ (-9223372036854775808)) = (uN x + 9223372036854775808) % 18446744073709551616 := by
  rw [← nat_xor (uN_lt x)]
  exact UInt64.toNat_xor _ _
theorem uN_int (x : Int64) : x.toInt = if 2 * uN x < 18446744073709551616 then (uN x : Int) else (uN x : Int) - 18446744073709551616 := BitVec.toInt_eq_toNat_cond _
theorem uN_le (x y : Int64) : (x ^^^ (-9223372036854775808)) ≤ (y ^^^ (-9223372036854775808)) ↔ uN x ≤ uN y := by
  have hx := uN_lt x
  have hy := uN_lt y
  rw [Int64.le_iff_toInt_le, uN_int, uN_int, uN_xor, uN_xor]
  omega
theorem uN_sk (x : Int64) {k : Nat} (hk : k < 64) : uN (x.toUInt64 >>> ((nI k).toInt64.toUInt64 &&& Int64.toUInt64 63)).toInt64 = uN x / 2 ^ k := by
  have h : ((nI k).toInt64.toUInt64 &&& Int64.toUInt64 63).toNat % 64 = k := by
    rw [nI_l (by omega), UInt64.toNat_and]
    have e : (lN k).toUInt64.toNat = k % 2 ^ 64 := rfl
    have e2 : (Int64.toUInt64 63).toNat = 2 ^ 6 - 1 := by decide
    rw [e, e2, Nat.and_two_pow_sub_one_eq_mod]
    omega
  rw [uN_shr, h]
/-! ===== unsigned comparison by xor with the least ===== -/
theorem lN_bv (n : Nat) : (lN n).toBitVec = BitVec.ofNat 64 n := rfl
theorem lN_nat {n : Nat} (h : n < 2 ^ 64) : (lN n).toBitVec.toNat = n := by rw [lN_bv, BitVec.toNat_ofNat]; exact Nat.mod_eq_of_lt h
theorem lN_xor (a b : Nat) : lN a ^^^ lN b = lN (a ^^^ b) := by
  apply Int64.toBitVec_inj.mp; rw [Int64.toBitVec_xor, lN_bv, lN_bv, lN_bv]; apply BitVec.eq_of_getLsbD_eq; intro i hi; simp [BitVec.getLsbD_ofNat, Nat.testBit_xor, hi]
theorem lN_ti {m : Nat} (h : m < 2 ^ 64) : (lN m).toInt = if m < 2 ^ 63 then (m : Int) else (m : Int) - 2 ^ 64 := by
  have c := BitVec.toInt_eq_toNat_cond (lN m).toBitVec
  rw [lN_nat h] at c
  show (lN m).toBitVec.toInt = _
  rw [c]
  split <;> split <;> omega
theorem xor63 {x : Nat} (h : x < 2 ^ 63) : x ^^^ 2 ^ 63 = 2 ^ 63 + x := by
  apply Nat.eq_of_testBit_eq
  intro i
  rw [Nat.testBit_xor, Nat.testBit_two_pow]
  rcases Nat.lt_trichotomy i 63 with z | z | z
  · rw [Nat.testBit_two_pow_add_gt z, decide_eq_false (by omega)]; simp
  · subst z; rw [Nat.testBit_two_pow_add_eq]; simp
  · have hp : 2 ^ 64 ≤ 2 ^ i := Nat.pow_le_pow_right (by decide) z
    rw [Nat.testBit_lt_two_pow (show x < 2 ^ i by omega), Nat.testBit_lt_two_pow (show 2 ^ 63 + x < 2 ^ i by omega), decide_eq_false (by omega)]; rfl
theorem xorS {a : Nat} (h : a < 2 ^ 64) : (lN a ^^^ (-9223372036854775808)).toInt = (a : Int) - 2 ^ 63 := by
  rw [show (-9223372036854775808 : Int64) = lN (2 ^ 63) from by decide +kernel, lN_xor]
  rcases Nat.lt_or_ge a (2 ^ 63) with z | z
  · rw [xor63 z, lN_ti (by omega), if_neg (by omega)]; omega
  · obtain ⟨x, rfl⟩ : ∃ x, a = 2 ^ 63 + x := ⟨a - 2 ^ 63, by omega⟩
    rw [← xor63 (by omega), Nat.xor_assoc, Nat.xor_self, Nat.xor_zero, lN_ti (by omega), if_pos (by omega), xor63 (by omega)]; omega
theorem ultL {a b : Nat} (ha : a < 2 ^ 64) (hb : b < 2 ^ 64) : ((lN b ^^^ (-9223372036854775808)) ≤ (lN a ^^^ (-9223372036854775808))) ↔ b ≤ a := by
  rw [Int64.le_iff_toInt_le, xorS ha, xorS hb]; omega
/-! ===== Int64 masks of n low bits ===== -/
theorem cr_bits (W U M : BitVec 64) : ((W &&& U) &&& (U &&& (M ^^^ BitVec.allOnes 64))) = 0#64 ↔ (W &&& U) &&& M = W &&& U := by
  constructor
  · intro h
    apply BitVec.eq_of_getLsbD_eq
    intro i hi
    have e := congrArg (fun x => BitVec.getLsbD x i) h
    simp only [BitVec.getLsbD_and, BitVec.getLsbD_xor, BitVec.getLsbD_allOnes, BitVec.getLsbD_zero, hi, decide_true] at e ⊢
    revert e
    cases W.getLsbD i <;> cases U.getLsbD i <;> cases M.getLsbD i <;> decide
  · intro h
    apply BitVec.eq_of_getLsbD_eq
    intro i hi
    have e := congrArg (fun x => BitVec.getLsbD x i) h
    simp only [BitVec.getLsbD_and, BitVec.getLsbD_xor, BitVec.getLsbD_allOnes, BitVec.getLsbD_zero, hi, decide_true] at e ⊢
    revert e
    cases W.getLsbD i <;> cases U.getLsbD i <;> cases M.getLsbD i <;> decide
theorem cr_mask (w U m : Int64) (n : Nat) (hm : m.toBitVec.toNat = 2 ^ n - 1) : ((w &&& U) &&& (U &&& (m ^^^ (-1)))) = 0 ↔ (w &&& U).toBitVec.toNat < 2 ^ n := by
  have e0 : (-1 : Int64).toBitVec = BitVec.allOnes 64 := by decide
  have z0 : (0 : Int64).toBitVec = 0#64 := by decide
  rw [← Int64.toBitVec_inj, z0, Int64.toBitVec_and, Int64.toBitVec_and, Int64.toBitVec_and, Int64.toBitVec_xor, e0, cr_bits]
  generalize w.toBitVec &&& U.toBitVec = T
  rw [← BitVec.toNat_inj, BitVec.toNat_and, hm, Nat.and_two_pow_sub_one_eq_mod]
  constructor
  · intro h
    have t := Nat.mod_lt T.toNat (Nat.two_pow_pos n)
    rw [h] at t
    exact t
  · exact Nat.mod_eq_of_lt
theorem cr_shr (t : Int64) (x : UInt64) (n : Nat) (hx : x.toNat % 64 = n) : (t.toUInt64 >>> x).toInt64 = 0 ↔ t.toBitVec.toNat < 2 ^ n := by
  rw [← Int64.toBitVec_inj, ← BitVec.toNat_inj]
  show (t.toUInt64 >>> x).toNat = 0 ↔ t.toUInt64.toNat < 2 ^ n
  rw [UInt64.toNat_shiftRight, hx, Nat.shiftRight_eq_div_pow]
  constructor
  · intro h
    have d : t.toUInt64.toNat / 2 ^ n < 1 := by
      rw [h]
      decide
    have e := (Nat.div_lt_iff_lt_mul (Nat.two_pow_pos n)).mp d
    rw [Nat.one_mul] at e
    exact e
  · exact Nat.div_eq_of_lt
theorem cr_amt (s : Int64) : ∃ n, n < 64 ∧ s &&& 63 = lN n ∧ (s.toUInt64 &&& Int64.toUInt64 63).toNat % 64 = n := by
  have e : (s.toUInt64 &&& Int64.toUInt64 63).toNat = s.toUInt64.toNat % 2 ^ 6 := by
    rw [UInt64.toNat_and, show (Int64.toUInt64 63).toNat = 2 ^ 6 - 1 from by decide, Nat.and_two_pow_sub_one_eq_mod]
  refine ⟨s.toUInt64.toNat % 2 ^ 6, by omega, ?_, by omega⟩
  rw [← Int64.toBitVec_inj, ← BitVec.toNat_inj]
  show (s.toUInt64 &&& Int64.toUInt64 63).toNat = (BitVec.ofNat 64 (s.toUInt64.toNat % 2 ^ 6)).toNat
  rw [e, BitVec.toNat_ofNat]
  omega
end
section
-- arithmetic of nI, small types, masks
def dk_N (f : Nat → Nat) : Nat → Int32 := fun k => nI (f k)
def dk_T (f : Nat → Nat) : Nat → Int32 := fun k => nI (f k) - 1
def dk_W (f : Nat → Nat) : Nat → Int32 := fun k => nI (f k) - 2
def dk_u (f : Nat → Nat) (k x : Nat) : Nat → Nat := fun j => if j = k then x else f j
def dk_E (ot le gr op : Nat → Nat) : Nat → Nat := fun k => ot k + 8 * le k + 32 * gr k + 128 * op k
theorem dk_Na (f : Nat → Nat) (k : Nat) : dk_N f k = nI (f k) := rfl
theorem dk_Ta (f : Nat → Nat) (k : Nat) : dk_T f k = nI (f k) - 1 := rfl
theorem dk_Wa (f : Nat → Nat) (k : Nat) : dk_W f k = nI (f k) - 2 := rfl
theorem dk_us (f : Nat → Nat) (k x : Nat) : dk_u f k x k = x := if_pos rfl
theorem dk_un {f : Nat → Nat} {k x j : Nat} (h : j ≠ k) : dk_u f k x j = f j := if_neg h
theorem dk_uN (f : Nat → Nat) (k x : Nat) : upd (dk_N f) k (nI x) = dk_N (dk_u f k x) := by
  funext j; unfold upd dk_N dk_u; by_cases h : j = k <;> simp [h]
theorem dk_uT (f : Nat → Nat) (k x : Nat) : upd (dk_T f) k (nI x - 1) = dk_T (dk_u f k x) := by
  funext j; unfold upd dk_T dk_u; by_cases h : j = k <;> simp [h]
theorem dk_uW (f : Nat → Nat) (k x : Nat) : upd (dk_W f) k (nI x - 2) = dk_W (dk_u f k x) := by
  funext j; unfold upd dk_W dk_u; by_cases h : j = k <;> simp [h]
-- T values
theorem dk_t1 {t : Nat} (h : t < 2 ^ 30) : (nI t - 1).toInt = (t : Int) - 1 := pk_sub_toInt (b := 1) h (by omega)
theorem dk_t2 {t : Nat} (h : t < 2 ^ 30) : (nI t - 2).toInt = (t : Int) - 2 := pk_sub_toInt (b := 2) h (by omega)
theorem dk_i0 : (0 : Int32).toInt = 0 := by decide
theorem dk_tneg {t : Nat} (h : t < 2 ^ 30) : nI t - 1 < 0 ↔ t = 0 := by
  rw [Int32.lt_iff_toInt_lt, dk_t1 h, dk_i0]; omega
theorem dk_tpos {t : Nat} (h : t < 2 ^ 30) : 0 ≤ nI t - 1 ↔ 0 < t := by
  rw [Int32.le_iff_toInt_le, dk_t1 h, dk_i0]; omega
theorem dk_teq {t s : Nat} (h : t < 2 ^ 30) (h' : s < 2 ^ 30) : nI t - 1 = nI s - 1 ↔ t = s := by
  rw [← Int32.toInt_inj, dk_t1 h, dk_t1 h']; omega
theorem dk_tle {t s : Nat} (h : t < 2 ^ 30) (h' : s < 2 ^ 30) : nI t - 1 ≤ nI s - 1 ↔ t ≤ s := by
  rw [Int32.le_iff_toInt_le, dk_t1 h, dk_t1 h']; omega
theorem dk_teqn {t v : Nat} (h : t < 2 ^ 30) (h' : v < 2 ^ 30) : nI t - 1 = nI v ↔ t = v + 1 := by
  rw [← Int32.toInt_inj, dk_t1 h, nI_toInt (by omega)]; omega
theorem dk_tltn {t v : Nat} (h : t < 2 ^ 30) (h' : v < 2 ^ 30) : nI t - 1 < nI v ↔ t < v + 1 := by
  rw [Int32.lt_iff_toInt_lt, dk_t1 h, nI_toInt (by omega)]; omega
theorem dk_tlen {t v : Nat} (h : t < 2 ^ 30) (h' : v < 2 ^ 30) : nI t - 1 ≤ nI v ↔ t ≤ v + 1 := by
  rw [Int32.le_iff_toInt_le, dk_t1 h, nI_toInt (by omega)]; omega
theorem dk_ts (t : Nat) : nI t - 1 + 1 = nI t := by
  rw [Int32.sub_add_cancel]
theorem dk_tp {t : Nat} (h : 0 < t) : nI t - 1 = nI (t - 1) := pk_sub (b := 1) h
-- W values: least wants
theorem dk_w0 {w : Nat} (h : w < 2 ^ 30) : 0 ≤ nI w - 2 ↔ 2 ≤ w := by
  rw [Int32.le_iff_toInt_le, dk_t2 h, dk_i0]; omega
theorem dk_wm1 {w : Nat} (h : w < 2 ^ 30) : nI w - 2 = -1 ↔ w = 1 := by
  rw [← Int32.toInt_inj, dk_t2 h, show (-1 : Int32).toInt = -1 by decide]; omega
theorem dk_wm2 {w : Nat} (h : w < 2 ^ 30) : nI w - 2 = -2 ↔ w = 0 := by
  rw [← Int32.toInt_inj, dk_t2 h, show (-2 : Int32).toInt = -2 by decide]; omega
theorem dk_wp {w : Nat} (h : 2 ≤ w) : nI w - 2 = nI (w - 2) := pk_sub (b := 2) h
-- sums and products with literals
theorem dk_m2 (a : Nat) : 2 * nI a = nI (2 * a) := pk_mul 2 a
theorem dk_m3 (a : Nat) : 3 * nI a = nI (3 * a) := pk_mul 3 a
theorem dk_m4 (a : Nat) : 4 * nI a = nI (4 * a) := pk_mul 4 a
theorem dk_m5 (a : Nat) : 5 * nI a = nI (5 * a) := pk_mul 5 a
theorem dk_m6 (a : Nat) : 6 * nI a = nI (6 * a) := pk_mul 6 a
theorem dk_a5 (a : Nat) : 5 + nI a = nI (5 + a) := nI_add 5 a
theorem dk_a10 (a : Nat) : 10 + nI a = nI (10 + a) := nI_add 10 a
theorem dk_p5 (a : Nat) : nI a + 5 = nI (a + 5) := nI_add a 5
theorem dk_d2 {a : Nat} (h : a < 2 ^ 31) : nI a / 2 = nI (a / 2) := pk_div h (d := 2) (by omega) (by omega)
theorem dk_d4 {a : Nat} (h : a < 2 ^ 31) : nI a / 4 = nI (a / 4) := pk_div h (d := 4) (by omega) (by omega)
theorem dk_d5 {a : Nat} (h : a < 2 ^ 31) : nI a / 5 = nI (a / 5) := pk_div h (d := 5) (by omega) (by omega)
theorem dk_d6 {a : Nat} (h : a < 2 ^ 31) : nI a / 6 = nI (a / 6) := pk_div h (d := 6) (by omega) (by omega)
theorem dk_d18 {a : Nat} (h : a < 2 ^ 31) : nI a / 18 = nI (a / 18) := pk_div h (d := 18) (by omega) (by omega)
theorem dk_r2 {a : Nat} (h : a < 2 ^ 31) : nI a - nI a / 2 * 2 = nI (a % 2) := pk_rem h (d := 2) (by omega) (by omega)
theorem dk_r4 {a : Nat} (h : a < 2 ^ 31) : nI a - nI a / 4 * 4 = nI (a % 4) := pk_rem h (d := 4) (by omega) (by omega)
theorem dk_r5 {a : Nat} (h : a < 2 ^ 31) : nI a - nI a / 5 * 5 = nI (a % 5) := pk_rem h (d := 5) (by omega) (by omega)
theorem dk_r6 {a : Nat} (h : a < 2 ^ 31) : nI a - nI a / 6 * 6 = nI (a % 6) := pk_rem h (d := 6) (by omega) (by omega)
-- stores of small types
theorem dk_b8 : ∀ n, n < 128 → (nI n).toInt8.toInt32 = nI n := by decide +kernel
theorem dk_bT : ∀ n, n < 8 → (nI n - 1).toInt8.toInt32 = nI n - 1 := by decide +kernel
theorem dk_bW : ∀ n, n < 8 → (nI n - 2).toInt8.toInt32 = nI n - 2 := by decide +kernel
theorem dk_s16 : ∀ n, n < 4096 → (nI n).toInt16.toInt32 = nI n := by decide +kernel
theorem dk_vb {n : Nat} (h : n < 128) : vp_nar .byte (nI n) = nI n := by rw [vp_nar_byte, dk_b8 n h]
theorem dk_vbb {n : Nat} (h : n < 128) : vp_nar .byte (nI n).toInt8.toInt32 = nI n := by rw [dk_b8 n h, dk_vb h]
theorem dk_vbT {n : Nat} (h : n < 8) : vp_nar .byte (nI n - 1) = nI n - 1 := by rw [vp_nar_byte, dk_bT n h]
theorem dk_vbbT {n : Nat} (h : n < 8) : vp_nar .byte (nI n - 1).toInt8.toInt32 = nI n - 1 := by rw [dk_bT n h, dk_vbT h]
theorem dk_vbW {n : Nat} (h : n < 8) : vp_nar .byte (nI n - 2) = nI n - 2 := by rw [vp_nar_byte, dk_bW n h]
theorem dk_vbbW {n : Nat} (h : n < 8) : vp_nar .byte (nI n - 2).toInt8.toInt32 = nI n - 2 := by rw [dk_bW n h, dk_vbW h]
theorem dk_vss {n : Nat} (h : n < 4096) : vp_nar .short (nI n).toInt16.toInt32 = nI n := by rw [dk_s16 n h, vp_nar_short, dk_s16 n h]
theorem dk_vz1 : vp_nar .boolean 1 = nI 1 := rfl
theorem dk_vz0 : vp_nar .boolean 0 = nI 0 := rfl
theorem dk_vz {n : Nat} (h : n ≤ 1) : vp_nar .boolean (nI n) = nI n := by
  rcases (by omega : n = 0 ∨ n = 1) with rfl | rfl <;> rfl
-- an encoded need
theorem dk_e7 : ∀ e, e < 256 → nI e &&& 7 = nI (e % 8) := by decide +kernel
theorem dk_eo : ∀ e, e < 256 → ((nI e).toUInt32 >>> ((7 : Int32).toUInt32 &&& Int32.toUInt32 31)).toInt32 = nI (e / 128) := by decide +kernel
theorem dk_el : ∀ e, e < 256 → ((nI e).toUInt32 >>> ((3 : Int32).toUInt32 &&& Int32.toUInt32 31)).toInt32 &&& 3 = nI (e / 8 % 4) := by decide +kernel
theorem dk_eg : ∀ e, e < 256 → ((nI e).toUInt32 >>> ((5 : Int32).toUInt32 &&& Int32.toUInt32 31)).toInt32 &&& 3 = nI (e / 32 % 4) := by decide +kernel
theorem dk_enc : ∀ q, q < 5 → ∀ l, l < 3 → ∀ g, g < 3 → ∀ o, o < 2 → vp_nar .short ((((nI q ||| (nI l <<< ((3 : Int32) &&& 31))) ||| (nI g <<< ((5 : Int32) &&& 31))) ||| nI (128 * o)).toInt16.toInt32) = nI (q + 8 * l + 32 * g + 128 * o) := by
  intro q hq l hl g hg o ho
  rw [vp_nar_short]
  revert q l g o
  decide +kernel
-- masks
theorem dk_or (a b : Nat) : nI a ||| nI b = nI (a ||| b) := by
  unfold nI
  apply Int32.toBitVec_inj.mp
  rw [Int32.toBitVec_or]
  show BitVec.ofNat 32 a ||| BitVec.ofNat 32 b = BitVec.ofNat 32 (a ||| b)
  apply BitVec.eq_of_getLsbD_eq
  intro i hi
  simp [BitVec.getLsbD_or, BitVec.getLsbD_ofNat, hi, Nat.testBit_or]
theorem dk_and (a b : Nat) : nI a &&& nI b = nI (a &&& b) := nx_and a b
theorem dk_pow : ∀ k, k < 16 → (1 : Int32) <<< (nI k &&& 31) = nI (2 ^ k) := by decide +kernel
theorem dk_pow2 : ∀ k, k < 16 → (2 : Int32) <<< (nI k &&& 31) = nI (2 ^ (k + 1)) := by decide +kernel
def dk_dif (m s : Nat) : Nat := m &&& (31 ^^^ s)
theorem dk_difI : ∀ m, m < 32 → ∀ s, s < 32 → nI m &&& (nI s ^^^ (-1)) = nI (dk_dif m s) := by decide +kernel
theorem dk_difL (m s : Nat) (h : m < 32) : dk_dif m s < 32 := Nat.lt_of_le_of_lt Nat.and_le_left h
theorem dk_t31 (i : Nat) : Nat.testBit 31 i = decide (i < 5) := Nat.testBit_two_pow_sub_one 5 i
theorem dk_big {m i : Nat} (h : m < 32) (hi : 5 ≤ i) : m.testBit i = false := by
  apply Nat.testBit_lt_two_pow
  exact Nat.lt_of_lt_of_le h (Nat.pow_le_pow_right (n := 2) (by omega) hi)
theorem dk_difB {m : Nat} (s i : Nat) (h : m < 32) : (dk_dif m s).testBit i = (m.testBit i && !s.testBit i) := by
  unfold dk_dif
  rw [Nat.testBit_and, Nat.testBit_xor, dk_t31]
  by_cases hi : i < 5
  · simp [hi]
  · rw [dk_big h (by omega)]; simp
theorem dk_orL {a b : Nat} (ha : a < 32) (hb : b < 32) : a ||| b < 32 := Nat.or_lt_two_pow (n := 5) ha hb
theorem dk_bx {a b : Nat} (ha : a < 32) (hb : b < 32) (h : ∀ i, i < 5 → a.testBit i = b.testBit i) : a = b := by
  apply Nat.eq_of_testBit_eq
  intro i
  by_cases hi : i < 5
  · exact h i hi
  · rw [dk_big ha (by omega), dk_big hb (by omega)]
theorem dk_p2 : ∀ k, k < 5 → 2 ^ k < 32 := by decide
theorem dk_tp2 (k i : Nat) : (2 ^ k).testBit i = decide (k = i) := Nat.testBit_two_pow
/-- one bit of a set, as the walks ask for it -/
theorem dk_bit {m k : Nat} (hm : m < 2 ^ 31) (hk : k < 31) : (nI m >>> (nI k &&& 31)) &&& 1 = nI (m.testBit k).toNat := by
  rw [pk_shrN hm (nI k &&& 31) k (s_l k (by omega))]
  have h : m / 2 ^ k < 2 ^ 32 := Nat.lt_of_le_of_lt (Nat.div_le_self _ _) (by omega)
  rw [pk_andN h 1 (by decide)]
  congr 1
  rw [Nat.testBit_eq_decide_div_mod_eq]
  rcases Nat.mod_two_eq_zero_or_one (m / 2 ^ k) with h | h <;> simp [h]
theorem dk_bit0 {m k : Nat} (hm : m < 2 ^ 31) (hk : k < 31) : (nI m >>> (nI k &&& 31)) &&& 1 = 0 ↔ m.testBit k = false := by
  rw [dk_bit hm hk]
  cases m.testBit k <;> decide
theorem dk_bit1 {m k : Nat} (hm : m < 2 ^ 31) (hk : k < 31) : (nI m >>> (nI k &&& 31)) &&& 1 = 1 ↔ m.testBit k = true := by
  rw [dk_bit hm hk]
  cases m.testBit k <;> decide
/-- a set as a mask of its first n members -/
def dk_m (f : Nat → Bool) : Nat → Nat
  | 0 => 0
  | n + 1 => dk_m f n ||| (if f n then 2 ^ n else 0)
theorem dk_mB (f : Nat → Bool) : ∀ n i, (dk_m f n).testBit i = (decide (i < n) && f i)
  | 0, i => by simp [dk_m]
  | n + 1, i => by
    rw [dk_m, Nat.testBit_or, dk_mB f n i]
    by_cases h : i = n
    · subst h
      cases hf : f i <;> simp
    · have e : (if f n = true then 2 ^ n else 0).testBit i = false := by
        cases hf : f n
        · simp
        · simp [Nat.testBit_two_pow]; omega
      rw [e, Bool.or_false]
      have : decide (i < n + 1) = decide (i < n) := decide_eq_decide.mpr (by omega)
      rw [this]
theorem dk_mL (f : Nat → Bool) : ∀ n, dk_m f n < 2 ^ n
  | 0 => by simp [dk_m]
  | n + 1 => by
    rw [dk_m]
    have a := dk_mL f n
    apply Nat.or_lt_two_pow
    · rw [Nat.pow_succ]; omega
    · have : 0 < 2 ^ n := Nat.two_pow_pos n
      rw [Nat.pow_succ]; split <;> omega
theorem dk_m5L (f : Nat → Bool) : dk_m f 5 < 32 := dk_mL f 5
theorem dk_mX {f : Nat → Bool} {n m : Nat} (hm : m < 2 ^ n) (h : ∀ i, i < n → m.testBit i = f i) : m = dk_m f n := by
  apply Nat.eq_of_testBit_eq
  intro i
  rw [dk_mB]
  by_cases hi : i < n
  · rw [h i hi]; simp [hi]
  · rw [Nat.testBit_lt_two_pow (Nat.lt_of_lt_of_le hm (Nat.pow_le_pow_right (n := 2) (by omega) (by omega)))]; simp [hi]
theorem dk_mC {f g : Nat → Bool} {n : Nat} (h : ∀ i, i < n → f i = g i) : dk_m f n = dk_m g n :=
  dk_mX (dk_mL f n) (fun i hi => by rw [dk_mB]; simp [hi, h i hi])
-- numbers of members
def dk_ones (m : Nat) : Nat := (m.testBit 0).toNat + (m.testBit 1).toNat + (m.testBit 2).toNat + (m.testBit 3).toNat + (m.testBit 4).toNat
theorem dk_onesL (m : Nat) : dk_ones m ≤ 5 := by
  unfold dk_ones
  have := Bool.toNat_le (m.testBit 0); have := Bool.toNat_le (m.testBit 1); have := Bool.toNat_le (m.testBit 2); have := Bool.toNat_le (m.testBit 3); have := Bool.toNat_le (m.testBit 4)
  omega
theorem dk_ones0 : ∀ m, m < 32 → dk_ones m = 0 → m = 0 := by decide +kernel
theorem dk_ones5 : ∀ m, m < 32 → 5 ≤ dk_ones m → m = 31 := by decide +kernel
theorem dk_onesC : ∀ m, m < 32 → ∀ k, k < 5 → m.testBit k = true → dk_ones (dk_dif m (2 ^ k)) + 1 = dk_ones m := by decide +kernel
theorem dk_onesM : ∀ m, m < 32 → ∀ s, s < 32 → m ≠ s → m ||| s = s → dk_ones m < dk_ones s := by decide +kernel
theorem dk_onesK : ∀ m, m < 32 → m ≠ 0 → dk_ones (m &&& (m - 1)) + 1 = dk_ones m := by decide +kernel
end
section
-- who reaches whom: lists, closures, orders; no program in sight
noncomputable def dk_b (P : Prop) : Bool := @decide P (Classical.propDecidable P)
theorem dk_bt {P : Prop} : dk_b P = true ↔ P := @decide_eq_true_iff P (Classical.propDecidable P)
theorem dk_bf' {P : Prop} : dk_b P = false ↔ ¬ P := @decide_eq_false_iff_not P (Classical.propDecidable P)
theorem dk_bT' {P : Prop} (h : P) : dk_b P = true := dk_bt.mpr h
theorem dk_bF' {P : Prop} (h : ¬ P) : dk_b P = false := dk_bf'.mpr h
theorem dk_bC {P Q : Prop} (h : P ↔ Q) : dk_b P = dk_b Q := by rw [propext h]
def dk_R (ad : Nat → List Nat) (p q : Nat) : Prop := Relation.TransGen (fun a b => b ∈ ad a) p q
theorem dk_Rt {ad : Nat → List Nat} {p q r : Nat} (h : dk_R ad p q) (h' : dk_R ad q r) : dk_R ad p r := Relation.TransGen.trans h h'
theorem dk_R1 {ad : Nat → List Nat} {p q : Nat} (h : q ∈ ad p) : dk_R ad p q := Relation.TransGen.single h
theorem dk_Rind {ad : Nat → List Nat} {p : Nat} {S : Nat → Prop} (h1 : ∀ q, q ∈ ad p → S q) (h2 : ∀ q r, S q → r ∈ ad q → S r) {q : Nat} (h : dk_R ad p q) : S q := by
  induction h with
  | single h => exact h1 _ h
  | tail _ h ih => exact h2 _ _ ih h
theorem dk_R5 {ad : Nat → List Nat} (had : ∀ a b, b ∈ ad a → b < 5) {p q : Nat} (h : dk_R ad p q) : q < 5 :=
  dk_Rind (S := fun q => q < 5) (fun _ h => had _ _ h) (fun _ _ _ h => had _ _ h) h
theorem dk_len : ∀ (n : Nat) (l : List Nat), l.Nodup → (∀ x, x ∈ l → x < n) → l.length ≤ n
  | 0, l, _, h => by
    cases l with
    | nil => exact Nat.le_refl _
    | cons a l => exact absurd (h a (List.mem_cons_self ..)) (Nat.not_lt_zero _)
  | n + 1, l, hn, h => by
    by_cases z : n ∈ l
    · have a := dk_len n (l.erase n) (hn.erase n) (fun x hx => by
        have := hn.mem_erase_iff.mp hx
        have := h x this.2
        omega)
      rw [List.length_erase_of_mem z] at a
      omega
    · have := dk_len n l hn (fun x hx => by
        have e := h x hx
        have : x ≠ n := fun e => z (e ▸ hx)
        omega)
      omega
def dk_vis (l : List Nat) (q : Nat) : List Nat := if q ∈ l then l else l ++ [q]
theorem dk_vis_m (l : List Nat) (q x : Nat) : x ∈ dk_vis l q ↔ x ∈ l ∨ x = q := by
  unfold dk_vis
  by_cases h : q ∈ l
  · rw [if_pos h]
    exact ⟨Or.inl, fun z => z.elim id (fun e => e ▸ h)⟩
  · rw [if_neg h, List.mem_append, List.mem_singleton]
theorem dk_vis_p (l : List Nat) (q : Nat) : ∃ m, dk_vis l q = l ++ m := by
  unfold dk_vis
  by_cases h : q ∈ l
  · rw [if_pos h]; exact ⟨[], (List.append_nil l).symm⟩
  · rw [if_neg h]; exact ⟨_, rfl⟩
theorem dk_vis_n {l : List Nat} (h : l.Nodup) (q : Nat) : (dk_vis l q).Nodup := by
  unfold dk_vis
  by_cases z : q ∈ l
  · rw [if_pos z]; exact h
  · rw [if_neg z, List.nodup_append]
    refine ⟨h, by simp, fun a ha b hb e => ?_⟩
    rw [List.mem_singleton] at hb
    exact z (hb ▸ e ▸ ha)
theorem dk_fv_m : ∀ (xs l : List Nat) (x : Nat), x ∈ xs.foldl dk_vis l ↔ x ∈ l ∨ x ∈ xs
  | [], l, x => by simp
  | q :: xs, l, x => by
    rw [List.foldl_cons, dk_fv_m xs, dk_vis_m, List.mem_cons, or_assoc]
theorem dk_fv_p : ∀ (xs l : List Nat), ∃ m, xs.foldl dk_vis l = l ++ m
  | [], l => ⟨[], (List.append_nil l).symm⟩
  | q :: xs, l => by
    obtain ⟨m, hm⟩ := dk_vis_p l q
    obtain ⟨m', hm'⟩ := dk_fv_p xs (dk_vis l q)
    exact ⟨m ++ m', by rw [List.foldl_cons, hm', hm, List.append_assoc]⟩
theorem dk_fv_n : ∀ (xs l : List Nat), l.Nodup → (xs.foldl dk_vis l).Nodup
  | [], _, h => h
  | q :: xs, l, h => by rw [List.foldl_cons]; exact dk_fv_n xs _ (dk_vis_n h q)
theorem dk_getD_app {l m : List Nat} {i : Nat} (h : i < l.length) : (l ++ m).getD i 0 = l.getD i 0 := by
  rw [List.getD_eq_getElem?_getD, List.getD_eq_getElem?_getD, List.getElem?_append_left h]
theorem dk_getD_end (l : List Nat) (q : Nat) : (l ++ [q]).getD l.length 0 = q := by
  rw [List.getD_eq_getElem?_getD, List.getElem?_append_right (Nat.le_refl _)]; simp
theorem dk_getD_mem {l : List Nat} {i : Nat} (h : i < l.length) : l.getD i 0 ∈ l := by
  rw [List.getD_eq_getElem?_getD, List.getElem?_eq_getElem h]
  exact List.getElem_mem h
theorem dk_mem_getD {l : List Nat} {x : Nat} (h : x ∈ l) : ∃ i, i < l.length ∧ l.getD i 0 = x := by
  obtain ⟨i, hi, e⟩ := List.mem_iff_getElem.mp h
  exact ⟨i, hi, by rw [List.getD_eq_getElem?_getD, List.getElem?_eq_getElem hi]; exact e⟩
/-- the order in which one comes upon others, from position k of what is found so far -/
def dk_bf (ad : Nat → List Nat) : Nat → Nat → List Nat → List Nat
  | 0, _, l => l
  | n + 1, k, l => if k < l.length then dk_bf ad n (k + 1) ((ad (l.getD k 0)).foldl dk_vis l) else l
def dk_Bq (ad : Nat → List Nat) (p : Nat) (l : List Nat) : Prop := l.Nodup ∧ (∀ x, x ∈ l → x < 5) ∧ p ∈ l ∧ (∀ x, x ∈ l → x = p ∨ dk_R ad p x)
theorem dk_Bq_step {ad : Nat → List Nat} (had : ∀ a b, b ∈ ad a → b < 5) {p : Nat} {l : List Nat} (h : dk_Bq ad p l) {a : Nat} (ha : a ∈ l) : dk_Bq ad p ((ad a).foldl dk_vis l) := by
  obtain ⟨h1, h2, h3, h4⟩ := h
  refine ⟨dk_fv_n _ _ h1, fun x hx => ?_, (dk_fv_m _ _ _).mpr (Or.inl h3), fun x hx => ?_⟩
  · rcases (dk_fv_m _ _ _).mp hx with z | z
    · exact h2 x z
    · exact had _ _ z
  · rcases (dk_fv_m _ _ _).mp hx with z | z
    · exact h4 x z
    · rcases h4 a ha with e | e
      · exact Or.inr (dk_R1 (e ▸ z))
      · exact Or.inr (dk_Rt e (dk_R1 z))
theorem dk_Bq_len {ad : Nat → List Nat} {p : Nat} {l : List Nat} (h : dk_Bq ad p l) : l.length ≤ 5 := dk_len 5 l h.1 h.2.1
theorem dk_bf_ok {ad : Nat → List Nat} (had : ∀ a b, b ∈ ad a → b < 5) {p : Nat} : ∀ (n k : Nat) (l : List Nat), dk_Bq ad p l → (∀ i, i < k → i < l.length → ∀ y, y ∈ ad (l.getD i 0) → y ∈ l) → 5 ≤ n + k →
    dk_Bq ad p (dk_bf ad n k l) ∧ ∀ x, x ∈ dk_bf ad n k l → ∀ y, y ∈ ad x → y ∈ dk_bf ad n k l
  | 0, k, l, h, hk, h5 => by
    refine ⟨h, fun x hx y hy => ?_⟩
    obtain ⟨i, hi, e⟩ := dk_mem_getD hx
    have := dk_Bq_len h
    have hi' : i < l.length := hi
    exact hk i (by omega) hi' y (e ▸ hy)
  | n + 1, k, l, h, hk, h5 => by
    rw [dk_bf]
    by_cases z : k < l.length
    · rw [if_pos z]
      refine dk_bf_ok had n (k + 1) _ (dk_Bq_step had h (dk_getD_mem z)) (fun i hi _ y hy => ?_) (by omega)
      obtain ⟨m, hm⟩ := dk_fv_p (ad (l.getD k 0)) l
      have hil : i < l.length := by omega
      rw [hm, dk_getD_app hil] at hy
      rw [dk_fv_m]
      by_cases e : i = k
      · subst e; exact Or.inr hy
      · exact Or.inl (hk i (by omega) hil y hy)
    · rw [if_neg z]
      refine ⟨h, fun x hx y hy => ?_⟩
      obtain ⟨i, hi, e⟩ := dk_mem_getD hx
      exact hk i (by omega) hi y (e ▸ hy)
def dk_bfs (ad : Nat → List Nat) (p : Nat) : List Nat := dk_bf ad 5 0 [p]
theorem dk_Bq_1 {ad : Nat → List Nat} {p : Nat} (hp : p < 5) : dk_Bq ad p [p] :=
  ⟨by simp, fun x hx => by rw [List.mem_singleton] at hx; omega, by simp, fun x hx => Or.inl (List.mem_singleton.mp hx)⟩
theorem dk_bfs_ok {ad : Nat → List Nat} (had : ∀ a b, b ∈ ad a → b < 5) {p : Nat} (hp : p < 5) :
    dk_Bq ad p (dk_bfs ad p) ∧ ∀ x, x ∈ dk_bfs ad p → ∀ y, y ∈ ad x → y ∈ dk_bfs ad p :=
  dk_bf_ok had 5 0 [p] (dk_Bq_1 hp) (fun i hi => absurd hi (Nat.not_lt_zero _)) (Nat.le_refl _)
theorem dk_bfs_m {ad : Nat → List Nat} (had : ∀ a b, b ∈ ad a → b < 5) {p : Nat} (hp : p < 5) (q : Nat) : q ∈ dk_bfs ad p ↔ q = p ∨ dk_R ad p q := by
  obtain ⟨h, hc⟩ := dk_bfs_ok had hp
  refine ⟨h.2.2.2 q, fun z => z.elim (fun e => e ▸ h.2.2.1) (fun z => ?_)⟩
  exact dk_Rind (S := fun q => q ∈ dk_bfs ad p) (fun q hq => hc p h.2.2.1 q hq) (fun q r hq hr => hc q hq r hr) z
theorem dk_bf_p (ad : Nat → List Nat) : ∀ (n k : Nat) (l : List Nat), ∃ m, dk_bf ad n k l = l ++ m
  | 0, _, l => ⟨[], (List.append_nil l).symm⟩
  | n + 1, k, l => by
    rw [dk_bf]
    by_cases z : k < l.length
    · rw [if_pos z]
      obtain ⟨m, hm⟩ := dk_fv_p (ad (l.getD k 0)) l
      obtain ⟨m', hm'⟩ := dk_bf_p ad n (k + 1) ((ad (l.getD k 0)).foldl dk_vis l)
      exact ⟨m ++ m', by rw [hm', hm, List.append_assoc]⟩
    · rw [if_neg z]; exact ⟨[], (List.append_nil l).symm⟩
theorem dk_bfs_hd (ad : Nat → List Nat) (p : Nat) : ∃ m, dk_bfs ad p = p :: m := dk_bf_p ad 5 0 [p]

-- the closure by rounds
def dk_c1 (M : Nat → Nat) (k : Nat) : Nat → Nat := if (M (k / 5)).testBit (k % 5) = true then dk_u M (k / 5) (M (k / 5) ||| M (k % 5)) else M
def dk_c25 : Nat → Nat → (Nat → Nat) → Nat → Nat
  | 0, _, M => M
  | d + 1, k, M => dk_c25 d (k + 1) (dk_c1 M k)
def dk_c5 : Nat → (Nat → Nat) → Nat → Nat
  | 0, M => M
  | r + 1, M => dk_c5 r (dk_c25 25 0 M)
def dk_Mq (ad : Nat → List Nat) (M : Nat → Nat) : Prop := (∀ p, p < 5 → M p < 32) ∧ (∀ p q, p < 5 → (M p).testBit q = true → dk_R ad p q) ∧ (∀ p q, p < 5 → q ∈ ad p → (M p).testBit q = true)
theorem dk_c1_mono (M : Nat → Nat) (k p i : Nat) (h : (M p).testBit i = true) : (dk_c1 M k p).testBit i = true := by
  unfold dk_c1
  by_cases z : (M (k / 5)).testBit (k % 5) = true
  · rw [if_pos z]
    by_cases e : p = k / 5
    · subst e; rw [dk_us, Nat.testBit_or, h]; rfl
    · rw [dk_un e]; exact h
  · rw [if_neg z]; exact h
theorem dk_c1_q {ad : Nat → List Nat} {M : Nat → Nat} {k : Nat} (hk : k < 25) (h : dk_Mq ad M) : dk_Mq ad (dk_c1 M k) := by
  obtain ⟨h1, h2, h3⟩ := h
  have hd : k / 5 < 5 := by omega
  have hm : k % 5 < 5 := by omega
  refine ⟨fun p hp => ?_, fun p q hp hq => ?_, fun p q hp hq => dk_c1_mono _ _ _ _ (h3 p q hp hq)⟩
  · unfold dk_c1
    by_cases z : (M (k / 5)).testBit (k % 5) = true
    · rw [if_pos z]
      by_cases e : p = k / 5
      · subst e; rw [dk_us]; exact dk_orL (h1 _ hd) (h1 _ hm)
      · rw [dk_un e]; exact h1 p hp
    · rw [if_neg z]; exact h1 p hp
  · unfold dk_c1 at hq
    by_cases z : (M (k / 5)).testBit (k % 5) = true
    · rw [if_pos z] at hq
      by_cases e : p = k / 5
      · subst e
        rw [dk_us, Nat.testBit_or, Bool.or_eq_true] at hq
        rcases hq with hq | hq
        · exact h2 _ _ hd hq
        · exact dk_Rt (h2 _ _ hd z) (h2 _ _ hm hq)
      · rw [dk_un e] at hq; exact h2 _ _ hp hq
    · rw [if_neg z] at hq; exact h2 _ _ hp hq
theorem dk_c25_ok {ad : Nat → List Nat} {M0 : Nat → Nat} : ∀ (d k : Nat) (M : Nat → Nat), k + d = 25 → dk_Mq ad M → (∀ p i, (M0 p).testBit i = true → (M p).testBit i = true) →
    dk_Mq ad (dk_c25 d k M) ∧ (∀ p i, (M p).testBit i = true → (dk_c25 d k M p).testBit i = true) ∧
    ∀ p q, p < 5 → q < 5 → k ≤ 5 * p + q → (M0 p).testBit q = true → ∀ i, (M0 q).testBit i = true → (dk_c25 d k M p).testBit i = true
  | 0, k, M, hk, h, hm => ⟨h, fun _ _ z => z, fun p q hp hq hkk => by omega⟩
  | d + 1, k, M, hk, h, hm => by
    rw [dk_c25]
    obtain ⟨a, b, c⟩ := dk_c25_ok (M0 := M0) d (k + 1) (dk_c1 M k) (by omega) (dk_c1_q (by omega) h) (fun p i z => dk_c1_mono _ _ _ _ (hm p i z))
    refine ⟨a, fun p i z => b p i (dk_c1_mono _ _ _ _ z), fun p q hp hq hkk z i hi => ?_⟩
    by_cases e : 5 * p + q = k
    · have e1 : k / 5 = p := by omega
      have e2 : k % 5 = q := by omega
      apply b
      unfold dk_c1
      rw [e1, e2, if_pos (hm p q z), dk_us, Nat.testBit_or, hm q i hi, Bool.or_true]
    · exact c p q hp hq (by omega) z i hi
theorem dk_c5_row {ad : Nat → List Nat} (had : ∀ a b, b ∈ ad a → b < 5) {p : Nat} (hp : p < 5) : ∀ (r s : Nat) (M : Nat → Nat), dk_Mq ad M → r + s = 5 →
    ((∀ q, dk_R ad p q → (M p).testBit q = true) ∨ s ≤ dk_ones (M p)) → dk_Mq ad (dk_c5 r M) ∧ ∀ q, dk_R ad p q → (dk_c5 r M p).testBit q = true
  | 0, s, M, h, hs, hc => by
    refine ⟨h, fun q hq => ?_⟩
    rcases hc with hc | hc
    · exact hc q hq
    · have e := dk_ones5 (M p) (h.1 p hp) (by omega)
      show (M p).testBit q = true
      rw [e, dk_t31]
      exact decide_eq_true (dk_R5 had hq)
  | r + 1, s, M, h, hs, hc => by
    rw [dk_c5]
    obtain ⟨a, b, c⟩ := dk_c25_ok (ad := ad) (M0 := M) 25 0 M rfl h (fun _ _ z => z)
    refine dk_c5_row had hp r (s + 1) _ a (by omega) ?_
    rcases hc with hc | hc
    · exact Or.inl (fun q hq => b p q (hc q hq))
    · by_cases e : M p = dk_c25 25 0 M p
      · refine Or.inl (fun q hq => ?_)
        refine dk_Rind (S := fun q => (dk_c25 25 0 M p).testBit q = true) (fun q hq => a.2.2 p q hp hq) (fun q r hq hr => ?_) hq
        have hq' : (M p).testBit q = true := by rw [e]; exact hq
        have q5 : q < 5 := dk_R5 had (h.2.1 p q hp hq')
        exact c p q hp q5 (by omega) hq' r (h.2.2 q r q5 hr)
      · right
        have := dk_onesM (M p) (h.1 p hp) (dk_c25 25 0 M p) (a.1 p hp) e (by
          apply Nat.eq_of_testBit_eq
          intro i
          rw [Nat.testBit_or]
          cases z : (M p).testBit i
          · rfl
          · rw [b p i z]; rfl)
        omega
theorem dk_c5_ok {ad : Nat → List Nat} (had : ∀ a b, b ∈ ad a → b < 5) {M : Nat → Nat} (h : dk_Mq ad M) {p : Nat} (hp : p < 5) : dk_c5 5 M p = dk_m (fun q => dk_b (dk_R ad p q)) 5 := by
  obtain ⟨a, b⟩ := dk_c5_row had hp 5 0 M h rfl (Or.inr (Nat.zero_le _))
  refine dk_mX (a.1 p hp) (fun q _ => ?_)
  by_cases z : dk_R ad p q
  · rw [b q z, dk_bT' z]
  · rw [dk_bF' z]
    cases e : (dk_c5 5 M p).testBit q
    · rfl
    · exact absurd (a.2.1 p q hp e) z

-- who is next: dir true is outward
def dk_nxt (r : Nat → Nat → Prop) (left : Nat) (dir : Bool) (p : Nat) : Prop :=
  ∀ q, q < 5 → q ≠ p → left.testBit q = true → (if dir = true then r q p else r p q) → (if dir = true then r p q else r q p)
theorem dk_min {lt : Nat → Nat → Prop} (irr : ∀ a, ¬ lt a a) (tr : ∀ a b c, lt a b → lt b c → lt a c) : ∀ l : List Nat, l ≠ [] → ∃ m, m ∈ l ∧ ∀ b, b ∈ l → ¬ lt b m
  | [], h => absurd rfl h
  | [a], _ => ⟨a, by simp, fun b hb => by rw [List.mem_singleton] at hb; rw [hb]; exact irr a⟩
  | a :: b :: l, _ => by
    obtain ⟨m, hm, hx⟩ := dk_min irr tr (b :: l) (by simp)
    by_cases z : lt a m
    · refine ⟨a, by simp, fun c hc => ?_⟩
      rcases List.mem_cons.mp hc with e | e
      · rw [e]; exact irr a
      · exact fun y => hx c e (tr _ _ _ y z)
    · refine ⟨m, List.mem_cons_of_mem _ hm, fun c hc => ?_⟩
      rcases List.mem_cons.mp hc with e | e
      · rw [e]; exact z
      · exact hx c e
theorem dk_nxt_ex {r : Nat → Nat → Prop} (tr : ∀ a b c, r a b → r b c → r a c) {left : Nat} (h0 : left ≠ 0) (hl : left < 32) (dir : Bool) : ∃ p, p < 5 ∧ left.testBit p = true ∧ dk_nxt r left dir p := by
  have ne : (List.range 5).filter (fun q => left.testBit q) ≠ [] := by
    intro e
    apply h0
    apply dk_bx hl (by omega)
    intro i hi
    rw [Nat.zero_testBit]
    cases z : left.testBit i
    · rfl
    · have : i ∈ (List.range 5).filter (fun q => left.testBit q) := List.mem_filter.mpr ⟨List.mem_range.mpr hi, z⟩
      rw [e] at this
      exact absurd this (by simp)
  obtain ⟨m, hm, hx⟩ := dk_min (lt := fun q p => (if dir = true then r q p else r p q) ∧ ¬ (if dir = true then r p q else r q p)) (fun a h => by
      cases dir <;> exact h.2 h.1) (fun a b c h h' => by
      cases dir
      · exact ⟨tr _ _ _ h'.1 h.1, fun z => h.2 (tr _ _ _ z h'.1)⟩
      · exact ⟨tr _ _ _ h.1 h'.1, fun z => h.2 (tr _ _ _ h'.1 z)⟩) _ ne
  obtain ⟨m1, m2⟩ := List.mem_filter.mp hm
  refine ⟨m, List.mem_range.mp m1, m2, fun q hq _ hql hc => ?_⟩
  exact Classical.byContradiction fun z => hx q (List.mem_filter.mpr ⟨List.mem_range.mpr hq, hql⟩) ⟨hc, z⟩
noncomputable def dk_np (r : Nat → Nat → Prop) (left : Nat) (dir : Bool) : Nat :=
  @dite Nat (∃ p, p < 5 ∧ left.testBit p = true ∧ dk_nxt r left dir p) (Classical.propDecidable _) (fun h => Classical.choose (pk_least _ h)) (fun _ => 0)
theorem dk_np_ok {r : Nat → Nat → Prop} (tr : ∀ a b c, r a b → r b c → r a c) {left : Nat} (h0 : left ≠ 0) (hl : left < 32) (dir : Bool) :
    dk_np r left dir < 5 ∧ left.testBit (dk_np r left dir) = true ∧ dk_nxt r left dir (dk_np r left dir) ∧ ∀ p, p < dk_np r left dir → left.testBit p = true → ¬ dk_nxt r left dir p := by
  have h := dk_nxt_ex tr h0 hl dir
  have e : dk_np r left dir = Classical.choose (pk_least _ h) := by unfold dk_np; rw [dif_pos h]
  have k := Classical.choose_spec (pk_least _ h)
  rw [← e] at k
  exact ⟨k.1.1, k.1.2.1, k.1.2.2, fun p hp hq hn => k.2 p hp ⟨by have := k.1.1; omega, hq, hn⟩⟩
noncomputable def dk_ol (r : Nat → Nat → Prop) (dir : Bool) : Nat → Nat → List Nat
  | 0, _ => []
  | n + 1, left => if left = 0 then [] else dk_np r left dir :: dk_ol r dir n (dk_dif left (2 ^ dk_np r left dir))
noncomputable def dk_ord (r : Nat → Nat → Prop) (dir : Bool) (left : Nat) : List Nat := dk_ol r dir (dk_ones left) left
theorem dk_ord0 (r : Nat → Nat → Prop) (dir : Bool) : dk_ord r dir 0 = [] := rfl
theorem dk_ordS {r : Nat → Nat → Prop} (tr : ∀ a b c, r a b → r b c → r a c) (dir : Bool) {left : Nat} (h0 : left ≠ 0) (hl : left < 32) :
    dk_ord r dir left = dk_np r left dir :: dk_ord r dir (dk_dif left (2 ^ dk_np r left dir)) := by
  obtain ⟨a, b, _, _⟩ := dk_np_ok tr h0 hl dir
  have c := dk_onesC left hl _ a b
  unfold dk_ord
  rw [← c, dk_ol, if_neg h0]
theorem dk_ord_len {r : Nat → Nat → Prop} (tr : ∀ a b c, r a b → r b c → r a c) (dir : Bool) : ∀ (n left : Nat), left < 32 → dk_ones left = n → (dk_ord r dir left).length = n
  | 0, left, hl, h => by rw [dk_ones0 left hl h, dk_ord0]; rfl
  | n + 1, left, hl, h => by
    have h0 : left ≠ 0 := fun e => by rw [e] at h; have z : dk_ones 0 = 0 := rfl; omega
    obtain ⟨a, b, _, _⟩ := dk_np_ok tr h0 hl dir
    have c := dk_onesC left hl _ a b
    rw [dk_ordS tr dir h0 hl, List.length_cons, dk_ord_len tr dir n _ (dk_difL _ _ hl) (by omega)]
theorem dk_ord_mem {r : Nat → Nat → Prop} (tr : ∀ a b c, r a b → r b c → r a c) (dir : Bool) : ∀ (n left : Nat), left < 32 → dk_ones left = n → ∀ q, q ∈ dk_ord r dir left ↔ left.testBit q = true
  | 0, left, hl, h, q => by rw [dk_ones0 left hl h, dk_ord0]; simp
  | n + 1, left, hl, h, q => by
    have h0 : left ≠ 0 := fun e => by rw [e] at h; have z : dk_ones 0 = 0 := rfl; omega
    obtain ⟨a, b, _, _⟩ := dk_np_ok tr h0 hl dir
    have c := dk_onesC left hl _ a b
    rw [dk_ordS tr dir h0 hl, List.mem_cons, dk_ord_mem tr dir n _ (dk_difL _ _ hl) (by omega) q, dk_difB _ _ hl, dk_tp2]
    by_cases e : q = dk_np r left dir
    · rw [← e] at b; simp [← e, b]
    · have e' : ¬ dk_np r left dir = q := fun z => e z.symm
      simp [e, e']
end
section
-- comparisons with literals, as rows for simp
theorem dk_le3 {i : Nat} (h : i < 2 ^ 31) : (3 : Int32) ≤ nI i ↔ 3 ≤ i := nI_leI (a := 3) (by omega) h
theorem dk_le5 {i : Nat} (h : i < 2 ^ 31) : (5 : Int32) ≤ nI i ↔ 5 ≤ i := nI_leI (a := 5) (by omega) h
theorem dk_le6 {i : Nat} (h : i < 2 ^ 31) : (6 : Int32) ≤ nI i ↔ 6 ≤ i := nI_leI (a := 6) (by omega) h
theorem dk_le16 {i : Nat} (h : i < 2 ^ 31) : (16 : Int32) ≤ nI i ↔ 16 ≤ i := nI_leI (a := 16) (by omega) h
theorem dk_le20 {i : Nat} (h : i < 2 ^ 31) : (20 : Int32) ≤ nI i ↔ 20 ≤ i := nI_leI (a := 20) (by omega) h
theorem dk_le25 {i : Nat} (h : i < 2 ^ 31) : (25 : Int32) ≤ nI i ↔ 25 ≤ i := nI_leI (a := 25) (by omega) h
theorem dk_le32 {i : Nat} (h : i < 2 ^ 31) : (32 : Int32) ≤ nI i ↔ 32 ≤ i := nI_leI (a := 32) (by omega) h
theorem dk_le36 {i : Nat} (h : i < 2 ^ 31) : (36 : Int32) ≤ nI i ↔ 36 ≤ i := nI_leI (a := 36) (by omega) h
theorem dk_le1024 {i : Nat} (h : i < 2 ^ 31) : (1024 : Int32) ≤ nI i ↔ 1024 ≤ i := nI_leI (a := 1024) (by omega) h
theorem dk_lt0 {i : Nat} (h : i < 2 ^ 31) : nI i < (0 : Int32) ↔ False := ⟨fun z => nI_pos h z, False.elim⟩
theorem dk_ge0 {i : Nat} (h : i < 2 ^ 31) : (0 : Int32) ≤ nI i ↔ True := ⟨fun _ => trivial, fun _ => nI_pos' h⟩
theorem dk_lez {i : Nat} (h : i < 2 ^ 31) : nI i ≤ (0 : Int32) ↔ i = 0 := by
  have := nI_leI (a := i) (b := 0) h (by omega)
  rw [nI_0] at this; rw [this]; omega
theorem dk_eq0 {i : Nat} (h : i < 2 ^ 31) : nI i = (0 : Int32) ↔ i = 0 := nI_eq (b := 0) h (by omega)
theorem dk_eq1 {i : Nat} (h : i < 2 ^ 31) : nI i = (1 : Int32) ↔ i = 1 := nI_eq (b := 1) h (by omega)
theorem dk_eq4 {i : Nat} (h : i < 2 ^ 31) : nI i = (4 : Int32) ↔ i = 4 := nI_eq (b := 4) h (by omega)
theorem dk_eq6 {i : Nat} (h : i < 2 ^ 31) : nI i = (6 : Int32) ↔ i = 6 := nI_eq (b := 6) h (by omega)
theorem dk_any (f : Nat → Int32) : ∃ g : Nat → Nat, f = dk_N g :=
  ⟨fun k => Classical.choose (wb_of32 (f k)), funext fun k => (Classical.choose_spec (wb_of32 (f k))).2⟩
theorem dk_uu (f : Nat → Nat) (k x y : Nat) : dk_u (dk_u f k x) k y = dk_u f k y := by
  funext j; unfold dk_u; by_cases h : j = k <;> simp [h]
-- a state t: 0 none, 1 + v; its version numbers, whom each uses
def dk_x (t : Nat → Nat) (q : Nat) : Nat := 3 * q + (t q - 1)
def dk_sf (ot t : Nat → Nat) (x : Nat) : Nat → Nat → List Nat
  | 0, _ => []
  | d + 1, j => if 0 < t (ot (4 * x + j)) then ot (4 * x + j) :: dk_sf ot t x d (j + 1) else dk_sf ot t x d (j + 1)
theorem dk_sf_m (ot t : Nat → Nat) (x r : Nat) : ∀ d j, r ∈ dk_sf ot t x d j ↔ 0 < t r ∧ ∃ k, j ≤ k ∧ k < j + d ∧ ot (4 * x + k) = r
  | 0, j => by
    simp only [dk_sf, List.not_mem_nil, false_iff]
    rintro ⟨_, k, h1, h2, _⟩; omega
  | d + 1, j => by
    have ih := dk_sf_m ot t x r d (j + 1)
    rw [dk_sf]
    by_cases z : 0 < t (ot (4 * x + j))
    · rw [if_pos z, List.mem_cons, ih]
      constructor
      · rintro (e | ⟨h, k, h1, h2, h3⟩)
        · subst e; exact ⟨z, j, Nat.le_refl _, by omega, rfl⟩
        · exact ⟨h, k, by omega, by omega, h3⟩
      · rintro ⟨h, k, h1, h2, h3⟩
        by_cases e : k = j
        · subst e; exact Or.inl h3.symm
        · exact Or.inr ⟨h, k, by omega, by omega, h3⟩
    · rw [if_neg z, ih]
      constructor
      · rintro ⟨h, k, h1, h2, h3⟩; exact ⟨h, k, by omega, by omega, h3⟩
      · rintro ⟨h, k, h1, h2, h3⟩
        by_cases e : k = j
        · subst e; rw [h3] at z; exact absurd h z
        · exact ⟨h, k, by omega, by omega, h3⟩
def dk_ad (nd ot t : Nat → Nat) (q : Nat) : List Nat := if q < 5 ∧ 0 < t q then dk_sf ot t (dk_x t q) (nd (dk_x t q)) 0 else []
theorem dk_ad_m (nd ot t : Nat → Nat) (q r : Nat) : r ∈ dk_ad nd ot t q ↔ q < 5 ∧ 0 < t q ∧ 0 < t r ∧ ∃ k, k < nd (dk_x t q) ∧ ot (4 * dk_x t q + k) = r := by
  unfold dk_ad
  by_cases h : q < 5 ∧ 0 < t q
  · rw [if_pos h, dk_sf_m]
    constructor
    · rintro ⟨a, k, _, b, c⟩; exact ⟨h.1, h.2, a, k, by omega, c⟩
    · rintro ⟨_, _, a, k, b, c⟩; exact ⟨a, k, by omega, by omega, c⟩
  · rw [if_neg h]
    constructor
    · intro z; exact absurd z (by simp)
    · rintro ⟨a, b, _⟩; exact absurd ⟨a, b⟩ h
theorem dk_ad5 {nd ot t : Nat → Nat} (hot : ∀ k, ot k < 5) : ∀ a b, b ∈ dk_ad nd ot t a → b < 5 := by
  intro a b h
  obtain ⟨_, _, _, k, _, e⟩ := (dk_ad_m _ _ _ _ _).mp h
  rw [← e]; exact hot _
theorem dk_x15 {t : Nat → Nat} {q : Nat} (hq : q < 5) (ht : t q < 4) : dk_x t q < 15 := by unfold dk_x; omega
theorem dk_xI {t : Nat → Nat} {q : Nat} (h : 0 < t q) : 3 * nI q + (nI (t q) - 1) = nI (dk_x t q) := by
  rw [dk_tp h, dk_m3, nI_add]; rfl
theorem dk_R0 {nd ot t : Nat → Nat} {p q : Nat} (h : dk_R (dk_ad nd ot t) p q) : p < 5 ∧ 0 < t p ∧ 0 < t q := by
  have a : 0 < t q := dk_Rind (S := fun q => 0 < t q) (fun q h => ((dk_ad_m _ _ _ _ _).mp h).2.2.1) (fun _ q _ h => ((dk_ad_m _ _ _ _ _).mp h).2.2.1) h
  have b : p < 5 ∧ 0 < t p := by
    induction h with
    | single h => have := (dk_ad_m _ _ _ _ _).mp h; exact ⟨this.1, this.2.1⟩
    | tail h1 h2 ih => exact ih (((dk_ad_m _ _ _ _ _).mp h2).2.1)
  exact ⟨b.1, b.2, a⟩
end
section
section
variable {yp yb ys yn : Int32} {kn nd ot le gr op it nm sh ex wl ya : Nat → Nat} {yg yr yl yq yo yt : Nat → Int32}
-- uses
theorem dk_yu_l {x q : Nat} (hx : x < 15) (hq : q < 5) (hnd : ∀ x, nd x ≤ 4) (hot : ∀ k, ot k < 5) (post : Int32 → Prop) : ∀ d j, j + d = nd x → ((∃ k, j ≤ k ∧ k < nd x ∧ ot (4 * x + k) = q) → post 1) → ((¬ ∃ k, j ≤ k ∧ k < nd x ∧ ot (4 * x + k) = q) → post 0) → ∃ n, wY_uses_44 post (nI q) (nI x) yp yb ys yn (dk_N kn) (dk_N nd) (dk_N ot) (dk_N le) (dk_N gr) (dk_N op) (dk_N ex) (dk_N it) (dk_N nm) (dk_N sh) (dk_W wl) yg (dk_T ya) yr yl yq yo yt n (nI (4 * x + j))
  | 0, j, hj, h1, h0 => by
    have := hnd x
    refine ⟨1, ?_⟩
    simp (disch := omega) only [wY_uses_44, nI_clamp, dk_Na, dk_Ta, dk_Wa, dk_m2, dk_m3, dk_m4, dk_m5, dk_m6, dk_a5, dk_a10, nI_add, nI_1, nI_leI, nI_ltI, nI_eq, dk_le3, dk_le5, dk_le6, dk_le16, dk_le20, dk_le25, dk_le32, dk_le36, dk_le1024, dk_lt0, dk_ge0, dk_lez, dk_eq0, dk_eq1, dk_eq4, dk_eq6, dk_tneg, dk_tpos, dk_teq, dk_tle]
    refine ⟨vp_in_nI hx (by omega), br_t (by omega) (h0 ?_)⟩
    rintro ⟨k, a, b, _⟩; omega
  | d + 1, j, hj, h1, h0 => by
    have := hnd x
    have ho := hot (4 * x + j)
    by_cases z : ot (4 * x + j) = q
    · refine ⟨1, ?_⟩
      simp (disch := omega) only [wY_uses_44, nI_clamp, dk_Na, dk_Ta, dk_Wa, dk_m2, dk_m3, dk_m4, dk_m5, dk_m6, dk_a5, dk_a10, nI_add, nI_1, nI_leI, nI_ltI, nI_eq, dk_le3, dk_le5, dk_le6, dk_le16, dk_le20, dk_le25, dk_le32, dk_le36, dk_le1024, dk_lt0, dk_ge0, dk_lez, dk_eq0, dk_eq1, dk_eq4, dk_eq6, dk_tneg, dk_tpos, dk_teq, dk_tle]
      exact ⟨vp_in_nI hx (by omega), br_f (by omega) ⟨vp_in_nI (by omega) (by omega), br_t z (h1 ⟨j, Nat.le_refl _, by omega, z⟩)⟩⟩
    · obtain ⟨n, hn⟩ := dk_yu_l hx hq hnd hot post d (j + 1) (by omega) (fun ⟨k, a, b, c⟩ => h1 ⟨k, by omega, b, c⟩) (fun h => h0 fun ⟨k, a, b, c⟩ => h ⟨k, by
        have : k ≠ j := fun e => z (e ▸ c)
        omega, b, c⟩)
      refine ⟨n + 1, ?_⟩
      simp (disch := omega) only [wY_uses_44, nI_clamp, dk_Na, dk_Ta, dk_Wa, dk_m2, dk_m3, dk_m4, dk_m5, dk_m6, dk_a5, dk_a10, nI_add, nI_1, nI_leI, nI_ltI, nI_eq, dk_le3, dk_le5, dk_le6, dk_le16, dk_le20, dk_le25, dk_le32, dk_le36, dk_le1024, dk_lt0, dk_ge0, dk_lez, dk_eq0, dk_eq1, dk_eq4, dk_eq6, dk_tneg, dk_tpos, dk_teq, dk_tle]
      exact ⟨vp_in_nI hx (by omega), br_f (by omega) ⟨vp_in_nI (by omega) (by omega), br_f z (nm_e hn)⟩⟩
theorem dk_yu {s p q : Nat} (hs : s ≤ 5) (hp : p < 5) (hq : q < 5) (hnd : ∀ x, nd x ≤ 4) (hot : ∀ k, ot k < 5) (hya : ∀ i, ya i < 4) (post : Int32 → Prop)
    (h1 : q ∈ dk_ad nd ot (fun p => ya (s + p)) p → post 1) (h0 : q ∉ dk_ad nd ot (fun p => ya (s + p)) p → post 0) : wpY_uses post (yp, yb, ys, yn, (dk_N kn), (dk_N nd), (dk_N ot), (dk_N le), (dk_N gr), (dk_N op), (dk_N ex), (dk_N it), (dk_N nm), (dk_N sh), (dk_W wl), yg, (dk_T ya), yr, yl, yq, yo, yt) (nI s) (nI p) (nI q) := by
  have a := hya (s + p)
  have b := hya (s + q)
  rw [dk_ad_m] at h1 h0
  simp (disch := omega) only [wpY_uses, nI_clamp, dk_Na, dk_Ta, dk_Wa, dk_m2, dk_m3, dk_m4, dk_m5, dk_m6, dk_a5, dk_a10, nI_add, nI_1, nI_leI, nI_ltI, nI_eq, dk_le3, dk_le5, dk_le6, dk_le16, dk_le20, dk_le25, dk_le32, dk_le36, dk_le1024, dk_lt0, dk_ge0, dk_lez, dk_eq0, dk_eq1, dk_eq4, dk_eq6, dk_tneg, dk_tpos, dk_teq, dk_tle]
  refine ⟨vp_in_nI (by omega) (by omega), br_c (fun z => h0 fun c => ?_) (fun z => ⟨vp_in_nI (by omega) (by omega), br_c (fun z' => ⟨vp_in_nI (by omega) (by omega), ?_⟩) (fun z' => h0 fun c => ?_)⟩)⟩
  · have := c.2.1; omega
  · have e := dk_xI (t := fun p => ya (s + p)) (q := p) (by show 0 < ya (s + p); omega)
    have hx := dk_x15 (t := fun p => ya (s + p)) hp a
    rw [dk_m3] at e
    refine nm_r e (nm_r (dk_m4 _) ?_)
    exact dk_yu_l hx hq hnd hot post (nd (dk_x (fun p => ya (s + p)) p)) 0 (by omega) (fun ⟨k, _, c, d⟩ => h1 ⟨hp, by show 0 < ya (s + p); omega, z', k, c, d⟩) (fun h => h0 fun ⟨_, _, _, k, c, d⟩ => h ⟨k, by omega, c, d⟩)
  · exact z' c.2.2.1
-- findReach
theorem dk_yfr16 {s p : Nat} {M : Nat → Nat} (hs : s ≤ 5) (hp : p < 5) (hnd : ∀ x, nd x ≤ 4) (hot : ∀ k, ot k < 5) (hya : ∀ i, ya i < 4) (post : SY → Prop) (J) : ∀ d j, j + d = 5 →
    J (nI (p + 1)) (dk_N kn) (dk_N nd) (dk_N ot) (dk_N le) (dk_N gr) (dk_N op) (dk_N ex) (dk_N it) (dk_N nm) (dk_N sh) (dk_W wl) yg (dk_T ya) (dk_N (dk_u M p (dk_m (fun q => dk_b (q ∈ dk_ad nd ot (fun p => ya (s + p)) p)) 5))) yl yq yo yt →
    ∃ n, wY_findReach_16 post J (nI s) (nI p) yp yb ys yn n (nI j) (dk_N kn) (dk_N nd) (dk_N ot) (dk_N le) (dk_N gr) (dk_N op) (dk_N ex) (dk_N it) (dk_N nm) (dk_N sh) (dk_W wl) yg (dk_T ya) (dk_N (dk_u M p (dk_m (fun q => dk_b (q ∈ dk_ad nd ot (fun p => ya (s + p)) p)) j))) yl yq yo yt
  | 0, j, hj, h => by
    have : j = 5 := by omega
    subst this
    refine ⟨1, ?_⟩
    simp (disch := omega) only [wY_findReach_16, nI_clamp, dk_Na, dk_Ta, dk_Wa, dk_m2, dk_m3, dk_m4, dk_m5, dk_m6, dk_a5, dk_a10, nI_add, nI_1, nI_leI, nI_ltI, nI_eq, dk_le3, dk_le5, dk_le6, dk_le16, dk_le20, dk_le25, dk_le32, dk_le36, dk_le1024, dk_lt0, dk_ge0, dk_lez, dk_eq0, dk_eq1, dk_eq4, dk_eq6, dk_tneg, dk_tpos, dk_teq, dk_tle]
    exact br_t (by omega) (nm_e h)
  | d + 1, j, hj, h => by
    obtain ⟨n, hn⟩ := dk_yfr16 hs hp hnd hot hya post J d (j + 1) (by omega) h
    refine ⟨n + 1, ?_⟩
    rw [wY_findReach_16]
    refine br_f (by rw [dk_le5 (by omega)]; omega) ?_
    have e : dk_m (fun q => dk_b (q ∈ dk_ad nd ot (fun p => ya (s + p)) p)) (j + 1) = dk_m (fun q => dk_b (q ∈ dk_ad nd ot (fun p => ya (s + p)) p)) j ||| (if dk_b (j ∈ dk_ad nd ot (fun p => ya (s + p)) p) then 2 ^ j else 0) := rfl
    refine dk_yu hs hp (by omega) hnd hot hya _ (fun z => ?_) (fun z => ?_)
    · refine br_f (by decide) ⟨vp_in_nI hp (by omega), vp_in_nI hp (by omega), nm_r (e' := dk_N (dk_u M p (dk_m (fun q => dk_b (q ∈ dk_ad nd ot (fun p => ya (s + p)) p)) (j + 1)))) ?_ (nm_r (nI_1 j) hn)⟩
      rw [e, dk_bT' z, if_pos rfl, nI_clamp (by omega), dk_Na, dk_us, dk_pow _ (by omega), dk_or, dk_uN, dk_uu]
    · refine br_t rfl (nm_r (nI_1 j) ?_)
      rw [e, dk_bF' z] at hn
      simpa using hn
theorem dk_yfr2 {s : Nat} (hs : s ≤ 5) (hnd : ∀ x, nd x ≤ 4) (hot : ∀ k, ot k < 5) (hya : ∀ i, ya i < 4) : ∀ d j (M : Nat → Nat), j + d = 5 → (∀ i, i < j → M i = dk_m (fun q => dk_b (q ∈ dk_ad nd ot (fun p => ya (s + p)) i)) 5) →
    ∃ M' : Nat → Nat, (∀ i, i < 5 → M' i = dk_m (fun q => dk_b (q ∈ dk_ad nd ot (fun p => ya (s + p)) i)) 5) ∧ ∀ post : SY → Prop, (∃ n57, wY_findReach_57 post yp yb ys yn n57 0 (dk_N kn) (dk_N nd) (dk_N ot) (dk_N le) (dk_N gr) (dk_N op) (dk_N ex) (dk_N it) (dk_N nm) (dk_N sh) (dk_W wl) yg (dk_T ya) (dk_N M') yl yq yo yt) → ∃ n, wY_findReach_2 post (nI s) yp yb ys yn n (nI j) (dk_N kn) (dk_N nd) (dk_N ot) (dk_N le) (dk_N gr) (dk_N op) (dk_N ex) (dk_N it) (dk_N nm) (dk_N sh) (dk_W wl) yg (dk_T ya) (dk_N M) yl yq yo yt
  | 0, j, M, hj, hM => by
    have : j = 5 := by omega
    subst this
    refine ⟨M, hM, fun post h => ⟨1, ?_⟩⟩
    exact br_t (by decide) h
  | d + 1, j, M, hj, hM => by
    obtain ⟨M', h1, h2⟩ := dk_yfr2 hs hnd hot hya d (j + 1) (dk_u M j (dk_m (fun q => dk_b (q ∈ dk_ad nd ot (fun p => ya (s + p)) j)) 5)) (by omega) (fun i hi => by
      by_cases e : i = j
      · subst e; rw [dk_us]
      · rw [dk_un e]; exact hM i (by omega))
    refine ⟨M', h1, fun post h => ?_⟩
    obtain ⟨n, hn⟩ := h2 post h
    refine ⟨n + 1, ?_⟩
    rw [wY_findReach_2]
    refine br_f (by rw [dk_le5 (by omega)]; omega) ⟨vp_in_nI (by omega) (by omega), nm_r (e' := dk_N (dk_u M j (dk_m (fun q => dk_b (q ∈ dk_ad nd ot (fun p => ya (s + p)) j)) 0))) ?_ ?_⟩
    · rw [nI_clamp (by omega)]; exact dk_uN M j 0
    · exact dk_yfr16 hs (by omega) hnd hot hya post _ 5 0 rfl hn
theorem dk_yfr64 {ad : Nat → List Nat} {r : Nat} (post : SY → Prop) (J) : ∀ d k (M : Nat → Nat), k + d = 25 → dk_Mq ad M → J (nI (r + 1)) (dk_N kn) (dk_N nd) (dk_N ot) (dk_N le) (dk_N gr) (dk_N op) (dk_N ex) (dk_N it) (dk_N nm) (dk_N sh) (dk_W wl) yg (dk_T ya) (dk_N (dk_c25 d k M)) yl yq yo yt →
    ∃ n, wY_findReach_64 post J (nI r) yp yb ys yn n (nI k) (dk_N kn) (dk_N nd) (dk_N ot) (dk_N le) (dk_N gr) (dk_N op) (dk_N ex) (dk_N it) (dk_N nm) (dk_N sh) (dk_W wl) yg (dk_T ya) (dk_N M) yl yq yo yt
  | 0, k, M, hk, hM, h => by
    have : k = 25 := by omega
    subst this
    refine ⟨1, ?_⟩
    rw [wY_findReach_64]
    exact br_t (by decide) (nm_r (nI_1 r) h)
  | d + 1, k, M, hk, hM, h => by
    obtain ⟨n, hn⟩ := dk_yfr64 post J d (k + 1) (dk_c1 M k) (by omega) (dk_c1_q (by omega) hM) h
    refine ⟨n + 1, ?_⟩
    have m5 := hM.1 (k / 5) (by omega)
    have m5' := hM.1 (k % 5) (by omega)
    rw [wY_findReach_64]
    dsimp only
    rw [dk_r5 (by omega), dk_d5 (by omega), nI_clamp (by omega), nI_clamp (by omega), dk_Na, dk_Na]
    refine br_f (by rw [dk_le25 (by omega)]; omega) ⟨by decide, vp_in_nI (by omega) (by omega), by decide, ?_⟩
    rw [dk_bit1 (by omega) (by omega)]
    refine br_c (fun z => ⟨by decide, vp_in_nI (by omega) (by omega), by decide, vp_in_nI (by omega) (by omega), vp_in_nI (by omega) (by omega), nm_r (e' := dk_N (dk_c1 M k)) ?_ (nm_r (nI_1 k) hn)⟩) (fun z => nm_r (nI_1 k) ?_)
    · rw [dk_or, dk_uN, dk_c1, if_pos z]
    · rw [dk_c1, if_neg z] at hn; exact hn
theorem dk_yfr57 {ad : Nat → List Nat} (post : SY → Prop) : ∀ d r (M : Nat → Nat), r + d = 5 → dk_Mq ad M → post (yp, yb, ys, yn, (dk_N kn), (dk_N nd), (dk_N ot), (dk_N le), (dk_N gr), (dk_N op), (dk_N ex), (dk_N it), (dk_N nm), (dk_N sh), (dk_W wl), yg, (dk_T ya), (dk_N (dk_c5 d M)), yl, yq, yo, yt) →
    ∃ n, wY_findReach_57 post yp yb ys yn n (nI r) (dk_N kn) (dk_N nd) (dk_N ot) (dk_N le) (dk_N gr) (dk_N op) (dk_N ex) (dk_N it) (dk_N nm) (dk_N sh) (dk_W wl) yg (dk_T ya) (dk_N M) yl yq yo yt
  | 0, r, M, hr, hM, h => by
    have : r = 5 := by omega
    subst this
    exact ⟨1, br_t (by decide) h⟩
  | d + 1, r, M, hr, hM, h => by
    obtain ⟨n, hn⟩ := dk_yfr57 post d (r + 1) (dk_c25 25 0 M) (by omega) (dk_c25_ok (ad := ad) (M0 := M) 25 0 M rfl hM (fun _ _ z => z)).1 h
    refine ⟨n + 1, ?_⟩
    rw [wY_findReach_57]
    refine br_f (by rw [dk_le5 (by omega)]; omega) ?_
    exact dk_yfr64 (ad := ad) post _ 25 0 M rfl hM hn
theorem dk_yfr {s : Nat} (hs : s ≤ 5) (hnd : ∀ x, nd x ≤ 4) (hot : ∀ k, ot k < 5) (hya : ∀ i, ya i < 4) :
    ∃ M : Nat → Nat, (∀ p, p < 5 → M p = dk_m (fun q => dk_b (dk_R (dk_ad nd ot (fun p => ya (s + p))) p q)) 5) ∧ ∀ post : SY → Prop, post (yp, yb, ys, yn, (dk_N kn), (dk_N nd), (dk_N ot), (dk_N le), (dk_N gr), (dk_N op), (dk_N ex), (dk_N it), (dk_N nm), (dk_N sh), (dk_W wl), yg, (dk_T ya), (dk_N M), yl, yq, yo, yt) → wpY_findReach post (yp, yb, ys, yn, (dk_N kn), (dk_N nd), (dk_N ot), (dk_N le), (dk_N gr), (dk_N op), (dk_N ex), (dk_N it), (dk_N nm), (dk_N sh), (dk_W wl), yg, (dk_T ya), yr, yl, yq, yo, yt) (nI s) := by
  obtain ⟨M0, rfl⟩ := dk_any yr
  obtain ⟨M, h1, h2⟩ := dk_yfr2 (yp := yp) (yb := yb) (ys := ys) (yn := yn) (kn := kn) (le := le) (gr := gr) (op := op) (it := it) (nm := nm) (sh := sh) (ex := ex) (wl := wl) (yg := yg) (yl := yl) (yq := yq) (yo := yo) (yt := yt) hs hnd hot hya 5 0 M0 rfl (fun i hi => absurd hi (Nat.not_lt_zero _))
  have had := dk_ad5 (nd := nd) (t := fun p => ya (s + p)) hot
  have q : dk_Mq (dk_ad nd ot (fun p => ya (s + p))) M := by
    refine ⟨fun p hp => ?_, fun p q hp hq => ?_, fun p q hp hq => ?_⟩
    · rw [h1 p hp]; exact dk_m5L _
    · rw [h1 p hp, dk_mB, Bool.and_eq_true] at hq
      exact dk_R1 (dk_bt.mp hq.2)
    · rw [h1 p hp, dk_mB, Bool.and_eq_true]
      exact ⟨decide_eq_true (had _ _ hq), dk_bT' hq⟩
  refine ⟨dk_c5 5 M, fun p hp => dk_c5_ok had q hp, fun post h => ?_⟩
  exact h2 post (dk_yfr57 post 5 0 M rfl q h)
-- reaches, isNext
theorem dk_yre {M : Nat → Nat} {r : Nat → Nat → Prop} (hM : ∀ p, p < 5 → M p = dk_m (fun q => dk_b (r p q)) 5) {p q : Nat} (hp : p < 5) (hq : q < 5) (post : Int32 → Prop) (h1 : r p q → post 1) (h0 : ¬ r p q → post 0) :
    wpY_reaches post (yp, yb, ys, yn, (dk_N kn), (dk_N nd), (dk_N ot), (dk_N le), (dk_N gr), (dk_N op), (dk_N ex), (dk_N it), (dk_N nm), (dk_N sh), (dk_W wl), yg, (dk_T ya), (dk_N M), yl, yq, yo, yt) (nI p) (nI q) := by
  have l : M p < 32 := by rw [hM p hp]; exact dk_m5L _
  have e : (M p).testBit q = true ↔ r p q := by rw [hM p hp, dk_mB]; simp [hq, dk_bt]
  simp (disch := omega) only [wpY_reaches, nI_clamp, dk_Na, dk_Ta, dk_Wa, dk_m2, dk_m3, dk_m4, dk_m5, dk_m6, dk_a5, dk_a10, nI_add, nI_1, dk_bit1]
  exact ⟨vp_in_nI hp (by omega), br_c (fun z => h1 (e.mp z)) (fun z => h0 (fun y => z (e.mpr y)))⟩
theorem dk_yn71 {M : Nat → Nat} (post : Int32 → Prop) (J : Int32 → Prop) (p left dir : Int32) (a b : Nat) (j : Nat) (ha : a ≤ 1) (hb : b ≤ 1) (h0 : a = 1 → b = 0 → post 0) (hJ : ¬ (a = 1 ∧ b = 0) → J (nI (j + 1))) :
    wY_isNext_71 post J p left dir (nI j) (nI a) (nI b) yp yb ys yn (dk_N kn) (dk_N nd) (dk_N ot) (dk_N le) (dk_N gr) (dk_N op) (dk_N ex) (dk_N it) (dk_N nm) (dk_N sh) (dk_W wl) yg (dk_T ya) (dk_N M) yl yq yo yt := by
  unfold wY_isNext_71
  rw [dk_eq0 (by omega), dk_eq0 (by omega)]
  exact br_c (fun z => nm_r (nI_1 j) (hJ (by omega))) (fun z => br_c (fun z' => h0 (by omega) z') (fun z' => nm_r (nI_1 j) (hJ (by omega))))
theorem dk_yn3 {M : Nat → Nat} {r : Nat → Nat → Prop} (hM : ∀ p, p < 5 → M p = dk_m (fun q => dk_b (r p q)) 5) {p left : Nat} (hp : p < 5) (hl : left < 32) (dir : Bool) (post : Int32 → Prop) : ∀ d j, j + d = 5 →
    ((∀ q, j ≤ q → q < 5 → q ≠ p → left.testBit q = true → (if dir = true then r q p else r p q) → (if dir = true then r p q else r q p)) → post 1) →
    ((¬ ∀ q, j ≤ q → q < 5 → q ≠ p → left.testBit q = true → (if dir = true then r q p else r p q) → (if dir = true then r p q else r q p)) → post 0) →
    ∃ n, wY_isNext_3 post (nI p) (nI left) (nI dir.toNat) yp yb ys yn (dk_N kn) (dk_N nd) (dk_N ot) (dk_N le) (dk_N gr) (dk_N op) (dk_N ex) (dk_N it) (dk_N nm) (dk_N sh) (dk_W wl) yg (dk_T ya) (dk_N M) yl yq yo yt n (nI j)
  | 0, j, hj, h1, h0 => by
    have : j = 5 := by omega
    subst this
    exact ⟨1, br_t (by decide) (h1 (fun q a b => by omega))⟩
  | d + 1, j, hj, h1, h0 => by
    by_cases z : j = p ∨ left.testBit j = false
    · obtain ⟨n, hn⟩ := dk_yn3 hM hp hl dir post d (j + 1) (by omega) (fun h => h1 fun q a b c e => h q (by
          rcases z with z | z
          · omega
          · have : q ≠ j := fun y => by rw [y, z] at e; exact absurd e (by decide)
            omega) b c e) (fun h => h0 fun y => h fun q a => y q (by omega))
      refine ⟨n + 1, ?_⟩
      rw [wY_isNext_3]
      refine br_f (by rw [dk_le5 (by omega)]; omega) ?_
      rw [nI_eq (by omega) (by omega), dk_bit0 (by omega) (by omega)]
      exact br_c (fun _ => nm_r (nI_1 j) hn) (fun z' => br_t (by rcases z with z | z; exact absurd z z'; exact z) (nm_r (nI_1 j) hn))
    · have zp : j ≠ p := fun e => z (Or.inl e)
      have zl : left.testBit j = true := by
        cases e : left.testBit j
        · exact absurd (Or.inr e) z
        · rfl
      by_cases y : (if dir = true then r j p else r p j) → (if dir = true then r p j else r j p)
      · obtain ⟨n, hn⟩ := dk_yn3 hM hp hl dir post d (j + 1) (by omega) (fun h => h1 fun q a b c e => by
          by_cases w : q = j
          · subst w; exact y
          · exact h q (by omega) b c e) (fun h => h0 fun y => h fun q a => y q (by omega))
        refine ⟨n + 1, ?_⟩
        rw [wY_isNext_3]
        refine br_f (by rw [dk_le5 (by omega)]; omega) ?_
        rw [nI_eq (by omega) (by omega), dk_bit0 (by omega) (by omega)]
        refine br_f zp (br_f (by rw [zl]; decide) ?_)
        cases dir
        · refine br_t rfl (dk_yre hM hp (by omega) _ (fun a => ?_) (fun a => ?_))
          · refine br_t rfl (dk_yre hM (by omega) hp _ (fun b => ?_) (fun b => ?_))
            · exact dk_yn71 post _ _ _ _ 1 1 j (by omega) (by omega) (by omega) (fun _ => hn)
            · exact absurd (y a) b
          · refine br_t rfl (dk_yre hM (by omega) hp _ (fun b => ?_) (fun b => ?_))
            · exact dk_yn71 post _ _ _ _ 0 1 j (by omega) (by omega) (by omega) (fun _ => hn)
            · exact dk_yn71 post _ _ _ _ 0 0 j (by omega) (by omega) (by omega) (fun _ => hn)
        · refine br_f (by decide) (dk_yre hM (by omega) hp _ (fun a => ?_) (fun a => ?_))
          · refine br_f (by decide) (dk_yre hM hp (by omega) _ (fun b => ?_) (fun b => ?_))
            · exact dk_yn71 post _ _ _ _ 1 1 j (by omega) (by omega) (by omega) (fun _ => hn)
            · exact absurd (y a) b
          · refine br_f (by decide) (dk_yre hM hp (by omega) _ (fun b => ?_) (fun b => ?_))
            · exact dk_yn71 post _ _ _ _ 0 1 j (by omega) (by omega) (by omega) (fun _ => hn)
            · exact dk_yn71 post _ _ _ _ 0 0 j (by omega) (by omega) (by omega) (fun _ => hn)
      · have h0' : post 0 := h0 fun h => y (h j (Nat.le_refl _) (by omega) zp zl)
        refine ⟨1, ?_⟩
        rw [wY_isNext_3]
        refine br_f (by rw [dk_le5 (by omega)]; omega) ?_
        rw [nI_eq (by omega) (by omega), dk_bit0 (by omega) (by omega)]
        refine br_f zp (br_f (by rw [zl]; decide) ?_)
        cases dir
        · refine br_t rfl (dk_yre hM hp (by omega) _ (fun a => ?_) (fun a => absurd (fun w => absurd w a) y))
          refine br_t rfl (dk_yre hM (by omega) hp _ (fun b => absurd (fun _ => b) y) (fun b => ?_))
          exact dk_yn71 post _ _ _ _ 1 0 j (by omega) (by omega) (fun _ _ => h0') (by omega)
        · refine br_f (by decide) (dk_yre hM (by omega) hp _ (fun a => ?_) (fun a => absurd (fun w => absurd w a) y))
          refine br_f (by decide) (dk_yre hM hp (by omega) _ (fun b => absurd (fun _ => b) y) (fun b => ?_))
          exact dk_yn71 post _ _ _ _ 1 0 j (by omega) (by omega) (fun _ _ => h0') (by omega)
theorem dk_yn {M : Nat → Nat} {r : Nat → Nat → Prop} (hM : ∀ p, p < 5 → M p = dk_m (fun q => dk_b (r p q)) 5) {p left : Nat} (hp : p < 5) (hl : left < 32) (dir : Bool) (post : Int32 → Prop)
    (h1 : dk_nxt r left dir p → post 1) (h0 : ¬ dk_nxt r left dir p → post 0) : wpY_isNext post (yp, yb, ys, yn, (dk_N kn), (dk_N nd), (dk_N ot), (dk_N le), (dk_N gr), (dk_N op), (dk_N ex), (dk_N it), (dk_N nm), (dk_N sh), (dk_W wl), yg, (dk_T ya), (dk_N M), yl, yq, yo, yt) (nI p) (nI left) (nI dir.toNat) :=
  dk_yn3 hM hp hl dir post 5 0 rfl (fun h => h1 fun q => h q (Nat.zero_le _)) (fun h => h0 fun y => h fun q _ => y q)
end
end
section
section
variable {yp yb ys yn : Int32} {kn nd ot le gr op it nm sh ex wl ya : Nat → Nat} {yg yr yl yq yo yt : Nat → Int32}
theorem dk_yo19 {M : Nat → Nat} {r : Nat → Nat → Prop} (hM : ∀ p, p < 5 → M p = dk_m (fun q => dk_b (r p q)) 5) (tr : ∀ a b c, r a b → r b c → r a c) {left c : Nat} (h0 : left ≠ 0) (hl : left < 32) (hc : c < 5) (dir : Bool) (post : Int32 → SY → Prop) (J) (hJ : J (nI (dk_dif left (2 ^ dk_np r left dir))) (nI (c + 1)) (dk_N kn) (dk_N nd) (dk_N ot) (dk_N le) (dk_N gr) (dk_N op) (dk_N ex) (dk_N it) (dk_N nm) (dk_N sh) (dk_W wl) yg (dk_T ya) (dk_N M) (upd yl c (nI (dk_np r left dir))) yq yo yt) : ∀ d j, j + d = dk_np r left dir →
    ∃ n, wY_order_19 post J (nI dir.toNat) (nI left) (nI c) yp yb ys yn (dk_N kn) (dk_N nd) (dk_N ot) (dk_N le) (dk_N gr) (dk_N op) (dk_N ex) (dk_N it) (dk_N nm) (dk_N sh) (dk_W wl) yg (dk_T ya) (dk_N M) yl yq yo yt n (nI j)
  | 0, j, hj => by
    obtain ⟨a1, a2, a3, a4⟩ := dk_np_ok tr h0 hl dir
    have e : j = dk_np r left dir := by omega
    rw [← e] at a1 a2 a3 hJ
    refine ⟨1, ?_⟩
    rw [wY_order_19]
    refine br_f (by rw [dk_bit0 (by omega) (by omega), a2]; decide) (dk_yn hM a1 hl dir _ (fun _ => ?_) (fun z => absurd a3 z))
    refine br_f (by decide) ⟨vp_in_nI hc (by omega), nm_r (by rw [nI_clamp (by omega)]) (nm_r (nI_1 c) (nm_r ?_ hJ))⟩
    rw [dk_pow j (by omega), dk_difI left hl _ (dk_p2 j a1)]
  | d + 1, j, hj => by
    obtain ⟨a1, a2, a3, a4⟩ := dk_np_ok tr h0 hl dir
    obtain ⟨n, hn⟩ := dk_yo19 hM tr h0 hl hc dir post J hJ d (j + 1) (by omega)
    refine ⟨n + 1, ?_⟩
    rw [wY_order_19]
    refine br_c (fun _ => nm_r (nI_1 j) hn) (fun z => dk_yn hM (by omega) hl dir _ (fun y => ?_) (fun _ => br_t rfl (nm_r (nI_1 j) hn)))
    rw [dk_bit0 (by omega) (by omega)] at z
    exact absurd y (a4 j (by omega) (by simpa using z))
theorem dk_yo11 {M : Nat → Nat} {r : Nat → Nat → Prop} (hM : ∀ p, p < 5 → M p = dk_m (fun q => dk_b (r p q)) 5) (tr : ∀ a b c, r a b → r b c → r a c) (dir : Bool) : ∀ (m left c : Nat) (yl : Nat → Int32), dk_ones left = m → left < 32 → c + m ≤ 5 →
    ∃ yl' : Nat → Int32, (∀ i, i < c → yl' i = yl i) ∧ (∀ i, i < m → yl' (c + i) = nI ((dk_ord r dir left).getD i 0)) ∧ ∀ post : Int32 → SY → Prop, post (nI (c + m)) (yp, yb, ys, yn, (dk_N kn), (dk_N nd), (dk_N ot), (dk_N le), (dk_N gr), (dk_N op), (dk_N ex), (dk_N it), (dk_N nm), (dk_N sh), (dk_W wl), yg, (dk_T ya), (dk_N M), yl', yq, yo, yt) → ∃ n, wY_order_11 post (nI dir.toNat) yp yb ys yn n (nI left) (nI c) (dk_N kn) (dk_N nd) (dk_N ot) (dk_N le) (dk_N gr) (dk_N op) (dk_N ex) (dk_N it) (dk_N nm) (dk_N sh) (dk_W wl) yg (dk_T ya) (dk_N M) yl yq yo yt
  | 0, left, c, yl, hm, hl, hc => by
    have e := dk_ones0 left hl hm
    subst e
    exact ⟨yl, fun _ _ => rfl, fun i hi => absurd hi (Nat.not_lt_zero _), fun post h => ⟨1, br_t rfl h⟩⟩
  | m + 1, left, c, yl, hm, hl, hc => by
    have h0 : left ≠ 0 := fun e => by rw [e] at hm; have z : dk_ones 0 = 0 := rfl; omega
    obtain ⟨a1, a2, a3, a4⟩ := dk_np_ok tr h0 hl dir
    have e1 := dk_onesC left hl _ a1 a2
    obtain ⟨yl', b1, b2, b3⟩ := dk_yo11 hM tr dir m (dk_dif left (2 ^ dk_np r left dir)) (c + 1) (upd yl c (nI (dk_np r left dir))) (by omega) (dk_difL _ _ hl) (by omega)
    refine ⟨yl', fun i hi => ?_, fun i hi => ?_, fun post h => ?_⟩
    · rw [b1 i (by omega), pk_un (by omega)]
    · rw [dk_ordS tr dir h0 hl]
      cases i with
      | zero => rw [Nat.add_zero, b1 c (by omega), pk_us]; rfl
      | succ i =>
        have := b2 i (by omega)
        rw [show c + (i + 1) = c + 1 + i by omega, this]
        rfl
    · rw [show c + (m + 1) = c + 1 + m by omega] at h
      obtain ⟨n, hn⟩ := b3 post h
      refine ⟨n + 1, ?_⟩
      rw [wY_order_11]
      refine br_f (by rw [dk_eq0 (by omega)]; exact h0) ?_
      exact dk_yo19 hM tr h0 hl (by omega) dir post _ hn (dk_np r left dir) 0 (by omega)
theorem dk_yor {s left : Nat} (hs : s ≤ 5) (hl : left < 32) (hnd : ∀ x, nd x ≤ 4) (hot : ∀ k, ot k < 5) (hya : ∀ i, ya i < 4) (dir : Bool) :
    ∃ (M : Nat → Nat) (yl' : Nat → Int32), (∀ p, p < 5 → M p = dk_m (fun q => dk_b (dk_R (dk_ad nd ot (fun p => ya (s + p))) p q)) 5) ∧ (∀ i, i < dk_ones left → yl' i = nI ((dk_ord (dk_R (dk_ad nd ot (fun p => ya (s + p)))) dir left).getD i 0)) ∧
    ∀ post : Int32 → SY → Prop, post (nI (dk_ones left)) (yp, yb, ys, yn, (dk_N kn), (dk_N nd), (dk_N ot), (dk_N le), (dk_N gr), (dk_N op), (dk_N ex), (dk_N it), (dk_N nm), (dk_N sh), (dk_W wl), yg, (dk_T ya), (dk_N M), yl', yq, yo, yt) → wpY_order post (yp, yb, ys, yn, (dk_N kn), (dk_N nd), (dk_N ot), (dk_N le), (dk_N gr), (dk_N op), (dk_N ex), (dk_N it), (dk_N nm), (dk_N sh), (dk_W wl), yg, (dk_T ya), yr, yl, yq, yo, yt) (nI s) (nI left) (nI dir.toNat) := by
  obtain ⟨M, h1, h2⟩ := dk_yfr (yp := yp) (yb := yb) (ys := ys) (yn := yn) (kn := kn) (le := le) (gr := gr) (op := op) (it := it) (nm := nm) (sh := sh) (ex := ex) (wl := wl) (yg := yg) (yr := yr) (yl := yl) (yq := yq) (yo := yo) (yt := yt) hs hnd hot hya
  obtain ⟨yl', b1, b2, b3⟩ := dk_yo11 (yp := yp) (yb := yb) (ys := ys) (yn := yn) (kn := kn) (nd := nd) (ot := ot) (le := le) (gr := gr) (op := op) (it := it) (nm := nm) (sh := sh) (ex := ex) (wl := wl) (ya := ya) (yg := yg) (yq := yq) (yo := yo) (yt := yt) h1 (fun _ _ _ => dk_Rt) dir (dk_ones left) left 0 yl rfl hl (by have := dk_onesL left; omega)
  refine ⟨M, yl', h1, fun i hi => by rw [← b2 i hi, Nat.zero_add], fun post h => ?_⟩
  rw [Nat.zero_add] at b3
  exact h2 _ (b3 post h)
end
end
section
-- lists of those come upon, as arrays and masks
def dk_rep (a : Nat → Int32) (row : Nat) (l : List Nat) : Prop := ∀ i, i < l.length → a (row + i) = nI (l.getD i 0)
def dk_mk (l : List Nat) : Nat := dk_m (fun q => decide (q ∈ l)) 5
def dk_ls (t : Nat → Nat) (l : List Nat) : Prop := l.Nodup ∧ ∀ x, x ∈ l → x < 5 ∧ 0 < t x
theorem dk_mkL (l : List Nat) : dk_mk l < 32 := dk_m5L _
theorem dk_mkB {l : List Nat} {q : Nat} (hq : q < 5) : (dk_mk l).testBit q = decide (q ∈ l) := by
  unfold dk_mk; rw [dk_mB]; simp [hq]
theorem dk_mk_snoc {l : List Nat} {q : Nat} (hq : q < 5) : dk_mk l ||| 2 ^ q = dk_mk (l ++ [q]) := by
  apply dk_bx (dk_orL (dk_mkL l) (dk_p2 q hq)) (dk_mkL _)
  intro i hi
  rw [Nat.testBit_or, dk_mkB hi, dk_mkB hi, dk_tp2]
  by_cases h : i = q
  · subst h; simp
  · have h' : ¬ q = i := fun e => h e.symm
    simp [h, h']
theorem dk_mk_1 {p : Nat} (hp : p < 5) : 2 ^ p = dk_mk [p] := by
  apply dk_bx (dk_p2 p hp) (dk_mkL _)
  intro i hi
  rw [dk_mkB hi, dk_tp2]
  simp [eq_comm]
theorem dk_ls_len {t : Nat → Nat} {l : List Nat} (h : dk_ls t l) : l.length ≤ 5 := dk_len 5 l h.1 (fun x hx => (h.2 x hx).1)
theorem dk_ls_snoc {t : Nat → Nat} {l : List Nat} {q : Nat} (h : dk_ls t l) (hq : q < 5) (ht : 0 < t q) (hn : q ∉ l) : dk_ls t (l ++ [q]) := by
  have e : dk_vis l q = l ++ [q] := if_neg hn
  refine ⟨e ▸ dk_vis_n h.1 q, fun x hx => ?_⟩
  rcases List.mem_append.mp hx with z | z
  · exact h.2 x z
  · rw [List.mem_singleton] at z; subst z; exact ⟨hq, ht⟩
theorem dk_ls_fold {t : Nat → Nat} : ∀ (xs l : List Nat), dk_ls t l → (∀ x, x ∈ xs → x < 5 ∧ 0 < t x) → dk_ls t (xs.foldl dk_vis l)
  | [], l, h, _ => h
  | q :: xs, l, h, hx => by
    rw [List.foldl_cons]
    refine dk_ls_fold xs _ ?_ (fun x z => hx x (List.mem_cons_of_mem _ z))
    refine ⟨dk_vis_n h.1 q, fun x z => ?_⟩
    rcases (dk_vis_m _ _ _).mp z with z | z
    · exact h.2 x z
    · exact hx x (z ▸ List.mem_cons_self ..)
theorem dk_rep_snoc {a : Nat → Int32} {row : Nat} {l : List Nat} {q : Nat} (h : dk_rep a row l) : dk_rep (upd a (row + l.length) (nI q)) row (l ++ [q]) := by
  intro i hi
  rw [List.length_append, List.length_singleton] at hi
  by_cases e : i = l.length
  · subst e; rw [pk_us, dk_getD_end]
  · rw [pk_un (by omega), dk_getD_app (by omega)]; exact h i (by omega)
theorem dk_sf_t {ot t : Nat → Nat} {x d j : Nat} (h : 0 < t (ot (4 * x + j))) (l : List Nat) : (dk_sf ot t x (d + 1) j).foldl dk_vis l = (dk_sf ot t x d (j + 1)).foldl dk_vis (dk_vis l (ot (4 * x + j))) := by
  rw [dk_sf, if_pos h, List.foldl_cons]
theorem dk_sf_f {ot t : Nat → Nat} {x d j : Nat} (h : ¬ 0 < t (ot (4 * x + j))) (l : List Nat) : (dk_sf ot t x (d + 1) j).foldl dk_vis l = (dk_sf ot t x d (j + 1)).foldl dk_vis l := by
  rw [dk_sf, if_neg h]
-- what a plugin of a state exports, refers to; where a name is found (1 more than the plugin, 0 for none)
def dk_Ex (it nm ex t : Nat → Nat) (n q : Nat) : Prop := q < 5 ∧ 0 < t q ∧ ∃ k, k < it (dk_x t q) ∧ ex (6 * dk_x t q + k) = 1 ∧ nm (6 * dk_x t q + k) = n
def dk_Rf (it nm ex t : Nat → Nat) (n q : Nat) : Prop := q < 5 ∧ 0 < t q ∧ ∃ k, k < it (dk_x t q) ∧ ex (6 * dk_x t q + k) = 0 ∧ nm (6 * dk_x t q + k) = n
def dk_Sp (it nm sh ex t : Nat → Nat) (n s q : Nat) : Prop := q < 5 ∧ 0 < t q ∧ ∃ k, k < it (dk_x t q) ∧ ex (6 * dk_x t q + k) = 1 ∧ nm (6 * dk_x t q + k) = n ∧ sh (6 * dk_x t q + k) = s
noncomputable def dk_pl (E : Nat → Prop) : List Nat → Nat
  | [] => 0
  | q :: l => if dk_b (E q) = true then q + 1 else dk_pl E l
theorem dk_pl_t {E : Nat → Prop} {q : Nat} (h : E q) (l : List Nat) : dk_pl E (q :: l) = q + 1 := by rw [dk_pl, if_pos (dk_bT' h)]
theorem dk_pl_f {E : Nat → Prop} {q : Nat} (h : ¬ E q) (l : List Nat) : dk_pl E (q :: l) = dk_pl E l := by
  rw [dk_pl, if_neg]; rw [dk_bF' h]; decide
theorem dk_pl_s {E : Nat → Prop} : ∀ {l : List Nat} {q : Nat}, dk_pl E l = q + 1 → E q ∧ q ∈ l
  | [], q, h => absurd h (by simp [dk_pl])
  | a :: l, q, h => by
    by_cases z : E a
    · rw [dk_pl_t z] at h
      have : a = q := by omega
      subst this; exact ⟨z, List.mem_cons_self ..⟩
    · rw [dk_pl_f z] at h
      have := dk_pl_s h
      exact ⟨this.1, List.mem_cons_of_mem _ this.2⟩
noncomputable def dk_place (nd ot it nm ex t : Nat → Nat) (p n : Nat) : Nat := dk_pl (dk_Ex it nm ex t n) (dk_bfs (dk_ad nd ot t) p)
theorem dk_place5 {nd ot it nm ex t : Nat → Nat} {p n : Nat} : dk_place nd ot it nm ex t p n ≤ 5 := by
  cases e : dk_place nd ot it nm ex t p n with
  | zero => omega
  | succ q => have := (dk_pl_s e).1.1; omega
section
variable {yp yb ys yn : Int32} {kn nd ot le gr op it nm sh ex wl ya : Nat → Nat} {yg yr yl yq yo yt : Nat → Int32}
theorem dk_ye_l {x c : Nat} (hx : x < 15) (hc : c < 12) (hit : ∀ x, it x ≤ 6) (hnm : ∀ k, nm k < 12) (hex : ∀ k, ex k ≤ 1) (post : Int32 → Prop) : ∀ d j, j + d = it x →
    (∀ k, j ≤ k → k < it x → ex (6 * x + k) = 1 → nm (6 * x + k) = c → post (nI (6 * x + k))) → ((¬ ∃ k, j ≤ k ∧ k < it x ∧ ex (6 * x + k) = 1 ∧ nm (6 * x + k) = c) → post (-1)) → ∃ n, wY_exported_5 post (nI x) (nI c) yp yb ys yn (dk_N kn) (dk_N nd) (dk_N ot) (dk_N le) (dk_N gr) (dk_N op) (dk_N ex) (dk_N it) (dk_N nm) (dk_N sh) (dk_W wl) yg (dk_T ya) yr yl yq yo yt n (nI (6 * x + j))
  | 0, j, hj, h1, h0 => by
    have := hit x
    refine ⟨1, ?_⟩
    simp (disch := omega) only [wY_exported_5, nI_clamp, dk_Na, dk_Ta, dk_Wa, dk_m2, dk_m3, dk_m4, dk_m5, dk_m6, dk_a5, dk_a10, nI_add, nI_1, nI_leI, nI_ltI, nI_eq, dk_le3, dk_le5, dk_le6, dk_le16, dk_le20, dk_le25, dk_le32, dk_le36, dk_le1024, dk_lt0, dk_ge0, dk_lez, dk_eq0, dk_eq1, dk_eq4, dk_eq6, dk_tneg, dk_tpos, dk_teq, dk_tle]
    refine ⟨vp_in_nI hx (by omega), br_t (by omega) (h0 ?_)⟩
    rintro ⟨k, a, b, _⟩; omega
  | d + 1, j, hj, h1, h0 => by
    have := hit x
    have he := hex (6 * x + j)
    have hn := hnm (6 * x + j)
    by_cases z : ex (6 * x + j) = 1 ∧ nm (6 * x + j) = c
    · refine ⟨1, ?_⟩
      simp (disch := omega) only [wY_exported_5, nI_clamp, dk_Na, dk_Ta, dk_Wa, dk_m2, dk_m3, dk_m4, dk_m5, dk_m6, dk_a5, dk_a10, nI_add, nI_1, nI_leI, nI_ltI, nI_eq, dk_le3, dk_le5, dk_le6, dk_le16, dk_le20, dk_le25, dk_le32, dk_le36, dk_le1024, dk_lt0, dk_ge0, dk_lez, dk_eq0, dk_eq1, dk_eq4, dk_eq6, dk_tneg, dk_tpos, dk_teq, dk_tle]
      exact ⟨vp_in_nI hx (by omega), br_f (by omega) ⟨vp_in_nI (by omega) (by omega), br_f (by omega) ⟨vp_in_nI (by omega) (by omega), br_t z.2 (h1 j (Nat.le_refl _) (by omega) z.1 z.2)⟩⟩⟩
    · obtain ⟨n, hn⟩ := dk_ye_l hx hc hit hnm hex post d (j + 1) (by omega) (fun k a => h1 k (by omega)) (fun h => h0 fun ⟨k, a, b, c⟩ => h ⟨k, by
        have : k ≠ j := fun e => z (e ▸ c)
        omega, b, c⟩)
      refine ⟨n + 1, ?_⟩
      simp (disch := omega) only [wY_exported_5, nI_clamp, dk_Na, dk_Ta, dk_Wa, dk_m2, dk_m3, dk_m4, dk_m5, dk_m6, dk_a5, dk_a10, nI_add, nI_1, nI_leI, nI_ltI, nI_eq, dk_le3, dk_le5, dk_le6, dk_le16, dk_le20, dk_le25, dk_le32, dk_le36, dk_le1024, dk_lt0, dk_ge0, dk_lez, dk_eq0, dk_eq1, dk_eq4, dk_eq6, dk_tneg, dk_tpos, dk_teq, dk_tle]
      exact ⟨vp_in_nI hx (by omega), br_f (by omega) ⟨vp_in_nI (by omega) (by omega), br_c (fun _ => nm_e hn) (fun y => ⟨vp_in_nI (by omega) (by omega), br_f (by omega) (nm_e hn)⟩)⟩⟩
theorem dk_ye {x c : Nat} (hx : x < 15) (hc : c < 12) (hit : ∀ x, it x ≤ 6) (hnm : ∀ k, nm k < 12) (hex : ∀ k, ex k ≤ 1) (post : Int32 → Prop)
    (h1 : ∀ k, k < it x → ex (6 * x + k) = 1 → nm (6 * x + k) = c → post (nI (6 * x + k))) (h0 : (¬ ∃ k, k < it x ∧ ex (6 * x + k) = 1 ∧ nm (6 * x + k) = c) → post (-1)) : wpY_exported post (yp, yb, ys, yn, (dk_N kn), (dk_N nd), (dk_N ot), (dk_N le), (dk_N gr), (dk_N op), (dk_N ex), (dk_N it), (dk_N nm), (dk_N sh), (dk_W wl), yg, (dk_T ya), yr, yl, yq, yo, yt) (nI x) (nI c) := by
  refine nm_r (dk_m6 x) ?_
  exact dk_ye_l hx hc hit hnm hex post (it x) 0 (by omega) (fun k _ => h1 k) (fun h => h0 fun ⟨k, a⟩ => h ⟨k, Nat.zero_le _, a⟩)
-- look
theorem dk_yl69 {s k x c : Nat} (hs : s ≤ 5) (hx : x < 15) (hnd : ∀ x, nd x ≤ 4) (hot : ∀ k, ot k < 5) (hya : ∀ i, ya i < 4) : ∀ d j (l : List Nat) (yq : Nat → Int32), j + d = nd x → dk_ls (fun p => ya (s + p)) l → dk_rep yq 0 l →
    ∃ yq' : Nat → Int32, dk_rep yq' 0 ((dk_sf ot (fun p => ya (s + p)) x d j).foldl dk_vis l) ∧ ∀ (post : Int32 → SY → Prop) J,
    J (nI (dk_mk ((dk_sf ot (fun p => ya (s + p)) x d j).foldl dk_vis l))) (nI ((dk_sf ot (fun p => ya (s + p)) x d j).foldl dk_vis l).length) (nI (k + 1)) (dk_N kn) (dk_N nd) (dk_N ot) (dk_N le) (dk_N gr) (dk_N op) (dk_N ex) (dk_N it) (dk_N nm) (dk_N sh) (dk_W wl) yg (dk_T ya) yr yl yq' yo yt →
    ∃ n, wY_look_69 post J (nI s) (nI c) (nI k) (nI x) yp yb ys yn n (nI (dk_mk l)) (nI l.length) (nI (4 * x + j)) (dk_N kn) (dk_N nd) (dk_N ot) (dk_N le) (dk_N gr) (dk_N op) (dk_N ex) (dk_N it) (dk_N nm) (dk_N sh) (dk_W wl) yg (dk_T ya) yr yl yq yo yt
  | 0, j, l, yq, hj, hl, hr => by
    have := hnd x
    refine ⟨yq, hr, fun post J h => ⟨1, ?_⟩⟩
    simp (disch := omega) only [wY_look_69, nI_clamp, dk_Na, dk_Ta, dk_Wa, dk_m2, dk_m3, dk_m4, dk_m5, dk_m6, dk_a5, dk_a10, nI_add, nI_1, nI_leI, nI_ltI, nI_eq, dk_le3, dk_le5, dk_le6, dk_le16, dk_le20, dk_le25, dk_le32, dk_le36, dk_le1024, dk_lt0, dk_ge0, dk_lez, dk_eq0, dk_eq1, dk_eq4, dk_eq6, dk_tneg, dk_tpos, dk_teq, dk_tle]
    exact ⟨vp_in_nI hx (by omega), br_t (by omega) (nm_e h)⟩
  | d + 1, j, l, yq, hj, hl, hr => by
    have := hnd x
    have ho := hot (4 * x + j)
    have hy := hya (s + ot (4 * x + j))
    have hlen := dk_ls_len hl
    have hmk := dk_mkL l
    by_cases z : 0 < ya (s + ot (4 * x + j))
    · rw [dk_sf_t (t := fun p => ya (s + p)) z]
      by_cases m : ot (4 * x + j) ∈ l
      · have e : dk_vis l (ot (4 * x + j)) = l := if_pos m
        rw [e]
        obtain ⟨yq', b1, b2⟩ := dk_yl69 hs hx hnd hot hya d (j + 1) l yq (by omega) hl hr
        refine ⟨yq', b1, fun post J h => ?_⟩
        obtain ⟨n, hn⟩ := b2 post J h
        refine ⟨n + 1, ?_⟩
        simp (disch := omega) only [wY_look_69, nI_clamp, dk_Na, dk_Ta, dk_Wa, dk_m2, dk_m3, dk_m4, dk_m5, dk_m6, dk_a5, dk_a10, nI_add, nI_1, nI_leI, nI_ltI, nI_eq, dk_le3, dk_le5, dk_le6, dk_le16, dk_le20, dk_le25, dk_le32, dk_le36, dk_le1024, dk_lt0, dk_ge0, dk_lez, dk_eq0, dk_eq1, dk_eq4, dk_eq6, dk_tneg, dk_tpos, dk_teq, dk_tle, dk_bit1]
        refine ⟨vp_in_nI hx (by omega), br_f (by omega) ⟨vp_in_nI (by omega) (by omega), nm_e ?_⟩⟩
        simp (disch := omega) only [nI_clamp, dk_Na, dk_Ta, dk_Wa, dk_m2, dk_m3, dk_m4, dk_m5, dk_m6, dk_a5, dk_a10, nI_add, nI_1, nI_leI, nI_ltI, nI_eq, dk_le3, dk_le5, dk_le6, dk_le16, dk_le20, dk_le25, dk_le32, dk_le36, dk_le1024, dk_lt0, dk_ge0, dk_lez, dk_eq0, dk_eq1, dk_eq4, dk_eq6, dk_tneg, dk_tpos, dk_teq, dk_tle, dk_bit1]
        exact ⟨vp_in_nI (by omega) (by omega), br_f (by omega) (br_t (by rw [dk_mkB ho]; exact decide_eq_true m) (nm_e hn))⟩
      · have e : dk_vis l (ot (4 * x + j)) = l ++ [ot (4 * x + j)] := if_neg m
        rw [e]
        have hl' := dk_ls_snoc hl ho z m
        have hlen' := dk_ls_len hl'
        rw [List.length_append, List.length_singleton] at hlen'
        obtain ⟨yq', b1, b2⟩ := dk_yl69 hs hx hnd hot hya d (j + 1) (l ++ [ot (4 * x + j)]) (upd yq (0 + l.length) (nI (ot (4 * x + j)))) (by omega) hl' (dk_rep_snoc hr)
        refine ⟨yq', b1, fun post J h => ?_⟩
        obtain ⟨n, hn⟩ := b2 post J h
        refine ⟨n + 1, ?_⟩
        simp (disch := omega) only [wY_look_69, nI_clamp, dk_Na, dk_Ta, dk_Wa, dk_m2, dk_m3, dk_m4, dk_m5, dk_m6, dk_a5, dk_a10, nI_add, nI_1, nI_leI, nI_ltI, nI_eq, dk_le3, dk_le5, dk_le6, dk_le16, dk_le20, dk_le25, dk_le32, dk_le36, dk_le1024, dk_lt0, dk_ge0, dk_lez, dk_eq0, dk_eq1, dk_eq4, dk_eq6, dk_tneg, dk_tpos, dk_teq, dk_tle, dk_bit1]
        refine ⟨vp_in_nI hx (by omega), br_f (by omega) ⟨vp_in_nI (by omega) (by omega), nm_e ?_⟩⟩
        simp (disch := omega) only [nI_clamp, dk_Na, dk_Ta, dk_Wa, dk_m2, dk_m3, dk_m4, dk_m5, dk_m6, dk_a5, dk_a10, nI_add, nI_1, nI_leI, nI_ltI, nI_eq, dk_le3, dk_le5, dk_le6, dk_le16, dk_le20, dk_le25, dk_le32, dk_le36, dk_le1024, dk_lt0, dk_ge0, dk_lez, dk_eq0, dk_eq1, dk_eq4, dk_eq6, dk_tneg, dk_tpos, dk_teq, dk_tle, dk_bit1]
        refine ⟨vp_in_nI (by omega) (by omega), br_f (by omega) (br_f (by rw [dk_mkB ho]; simp [m]) (nm_r (e' := nI (dk_mk (l ++ [ot (4 * x + j)]))) ?_ ⟨vp_in_nI (by omega) (by omega), nm_e (nm_e (nm_e ?_))⟩))⟩
        · rw [dk_pow _ (by omega), dk_or, dk_mk_snoc ho]
        · rw [List.length_append, List.length_singleton, Nat.zero_add] at hn
          exact hn
    · rw [dk_sf_f (t := fun p => ya (s + p)) z]
      obtain ⟨yq', b1, b2⟩ := dk_yl69 hs hx hnd hot hya d (j + 1) l yq (by omega) hl hr
      refine ⟨yq', b1, fun post J h => ?_⟩
      obtain ⟨n, hn⟩ := b2 post J h
      refine ⟨n + 1, ?_⟩
      simp (disch := omega) only [wY_look_69, nI_clamp, dk_Na, dk_Ta, dk_Wa, dk_m2, dk_m3, dk_m4, dk_m5, dk_m6, dk_a5, dk_a10, nI_add, nI_1, nI_leI, nI_ltI, nI_eq, dk_le3, dk_le5, dk_le6, dk_le16, dk_le20, dk_le25, dk_le32, dk_le36, dk_le1024, dk_lt0, dk_ge0, dk_lez, dk_eq0, dk_eq1, dk_eq4, dk_eq6, dk_tneg, dk_tpos, dk_teq, dk_tle, dk_bit1]
      refine ⟨vp_in_nI hx (by omega), br_f (by omega) ⟨vp_in_nI (by omega) (by omega), nm_e ?_⟩⟩
      simp (disch := omega) only [nI_clamp, dk_Na, dk_Ta, dk_Wa, dk_m2, dk_m3, dk_m4, dk_m5, dk_m6, dk_a5, dk_a10, nI_add, nI_1, nI_leI, nI_ltI, nI_eq, dk_le3, dk_le5, dk_le6, dk_le16, dk_le20, dk_le25, dk_le32, dk_le36, dk_le1024, dk_lt0, dk_ge0, dk_lez, dk_eq0, dk_eq1, dk_eq4, dk_eq6, dk_tneg, dk_tpos, dk_teq, dk_tle, dk_bit1]
      exact ⟨vp_in_nI (by omega) (by omega), br_t (by omega) (nm_e hn)⟩
theorem dk_drop_app {l m : List Nat} {k : Nat} (h : k < l.length) : (l ++ m).drop k = l.getD k 0 :: (l ++ m).drop (k + 1) := by
  have h' : k < (l ++ m).length := by rw [List.length_append]; omega
  rw [List.drop_eq_getElem_cons h', ← dk_getD_app (m := m) h, List.getD_eq_getElem?_getD, List.getElem?_eq_getElem h']
  rfl
theorem dk_yl18 {s c : Nat} (hs : s ≤ 5) (hc : c < 12) (hnd : ∀ x, nd x ≤ 4) (hot : ∀ k, ot k < 5) (hya : ∀ i, ya i < 4) (hit : ∀ x, it x ≤ 6) (hnm : ∀ k, nm k < 12) (hex : ∀ k, ex k ≤ 1) : ∀ m k (l : List Nat) (yq : Nat → Int32), m + k = 5 → dk_ls (fun p => ya (s + p)) l → dk_rep yq 0 l →
    ∃ yq' : Nat → Int32, ∀ post : Int32 → SY → Prop, post (nI (dk_pl (dk_Ex it nm ex (fun p => ya (s + p)) c) ((dk_bf (dk_ad nd ot (fun p => ya (s + p))) m k l).drop k)) - 1) (yp, yb, ys, yn, (dk_N kn), (dk_N nd), (dk_N ot), (dk_N le), (dk_N gr), (dk_N op), (dk_N ex), (dk_N it), (dk_N nm), (dk_N sh), (dk_W wl), yg, (dk_T ya), yr, yl, yq', yo, yt) →
    ∃ n, wY_look_18 post (nI s) (nI c) yp yb ys yn n (nI (dk_mk l)) (nI l.length) (nI k) (dk_N kn) (dk_N nd) (dk_N ot) (dk_N le) (dk_N gr) (dk_N op) (dk_N ex) (dk_N it) (dk_N nm) (dk_N sh) (dk_W wl) yg (dk_T ya) yr yl yq yo yt := by
  intro m
  induction m with
  | zero =>
    intro k l yq hk hl hr
    have hlen := dk_ls_len hl
    refine ⟨yq, fun post h => ⟨1, ?_⟩⟩
    rw [dk_bf, List.drop_eq_nil_of_le (by omega)] at h
    simp (disch := omega) only [wY_look_18, nI_leI]
    exact br_t (by omega) h
  | succ m ih =>
    intro k l yq hk hl hr
    have hlen := dk_ls_len hl
    by_cases z : k < l.length
    · have hm := dk_getD_mem z
      have e0 := hr k z
      generalize hq : l.getD k 0 = q at *
      obtain ⟨q5, qt⟩ := hl.2 q hm
      have qy := hya (s + q)
      have hx := dk_x15 (t := fun p => ya (s + p)) q5 qy
      have ex3 := dk_xI (t := fun p => ya (s + p)) (q := q) qt
      rw [dk_m3] at ex3
      have ead : dk_ad nd ot (fun p => ya (s + p)) q = dk_sf ot (fun p => ya (s + p)) (dk_x (fun p => ya (s + p)) q) (nd (dk_x (fun p => ya (s + p)) q)) 0 := if_pos ⟨q5, qt⟩
      have ebf : dk_bf (dk_ad nd ot (fun p => ya (s + p))) (m + 1) k l = dk_bf (dk_ad nd ot (fun p => ya (s + p))) m (k + 1) ((dk_ad nd ot (fun p => ya (s + p)) q).foldl dk_vis l) := by rw [dk_bf, if_pos z, hq]
      obtain ⟨w, hw⟩ := dk_bf_p (dk_ad nd ot (fun p => ya (s + p))) (m + 1) k l
      have edr := dk_drop_app (m := w) z
      rw [← hw, hq] at edr
      by_cases hE : dk_Ex it nm ex (fun p => ya (s + p)) c q
      · refine ⟨yq, fun post h => ⟨1, ?_⟩⟩
        rw [edr, dk_pl_t hE, nI_succ, Int32.add_sub_cancel] at h
        simp (disch := omega) only [wY_look_18, nI_clamp, dk_Na, dk_Ta, dk_Wa, dk_m2, dk_m3, dk_m4, dk_m5, dk_m6, dk_a5, dk_a10, nI_add, nI_1, nI_leI, nI_ltI, nI_eq, dk_le3, dk_le5, dk_le6, dk_le16, dk_le20, dk_le25, dk_le32, dk_le36, dk_le1024, dk_lt0, dk_ge0, dk_lez, dk_eq0, dk_eq1, dk_eq4, dk_eq6, dk_tneg, dk_tpos, dk_teq, dk_tle]
        refine br_f (by omega) ⟨vp_in_nI (by omega) (by omega), nm_r (e' := nI q) (by rw [← e0, Nat.zero_add]) ?_⟩
        simp (disch := omega) only [nI_clamp, dk_Na, dk_Ta, dk_Wa, dk_m2, dk_m3, dk_m4, dk_m5, dk_m6, dk_a5, dk_a10, nI_add, nI_1, nI_leI, nI_ltI, nI_eq, dk_le3, dk_le5, dk_le6, dk_le16, dk_le20, dk_le25, dk_le32, dk_le36, dk_le1024, dk_lt0, dk_ge0, dk_lez, dk_eq0, dk_eq1, dk_eq4, dk_eq6, dk_tneg, dk_tpos, dk_teq, dk_tle]
        refine ⟨vp_in_nI (by omega) (by omega), nm_r ex3 ?_⟩
        refine dk_ye hx hc hit hnm hex _ (fun j a b c => ?_) (fun y => absurd hE.2.2 y)
        have := hit (dk_x (fun p => ya (s + p)) q)
        rw [dk_lt0 (by omega)]
        exact br_f (fun y => y) h
      · obtain ⟨yq1, b1, b2⟩ := dk_yl69 (yp := yp) (yb := yb) (ys := ys) (yn := yn) (kn := kn) (le := le) (gr := gr) (op := op) (it := it) (nm := nm) (sh := sh) (ex := ex) (wl := wl) (yg := yg) (yr := yr) (yl := yl) (yo := yo) (yt := yt) (k := k) (c := c) hs hx hnd hot hya (nd (dk_x (fun p => ya (s + p)) q)) 0 l yq (by omega) hl hr
        rw [← ead] at b1 b2
        have hl' : dk_ls (fun p => ya (s + p)) ((dk_ad nd ot (fun p => ya (s + p)) q).foldl dk_vis l) := dk_ls_fold _ _ hl (fun x hx => ⟨dk_ad5 hot _ _ hx, ((dk_ad_m _ _ _ _ _).mp hx).2.2.1⟩)
        obtain ⟨yq', b3⟩ := ih (k + 1) _ yq1 (by omega) hl' b1
        refine ⟨yq', fun post h => ?_⟩
        rw [edr, dk_pl_f hE, ebf] at h
        obtain ⟨n, hn⟩ := b3 post h
        refine ⟨n + 1, ?_⟩
        have b4 := b2 post _ hn
        simp (disch := omega) only [wY_look_18, nI_clamp, dk_Na, dk_Ta, dk_Wa, dk_m2, dk_m3, dk_m4, dk_m5, dk_m6, dk_a5, dk_a10, nI_add, nI_1, nI_leI, nI_ltI, nI_eq, dk_le3, dk_le5, dk_le6, dk_le16, dk_le20, dk_le25, dk_le32, dk_le36, dk_le1024, dk_lt0, dk_ge0, dk_lez, dk_eq0, dk_eq1, dk_eq4, dk_eq6, dk_tneg, dk_tpos, dk_teq, dk_tle]
        refine br_f (by omega) ⟨vp_in_nI (by omega) (by omega), nm_r (e' := nI q) (by rw [← e0, Nat.zero_add]) ?_⟩
        simp (disch := omega) only [nI_clamp, dk_Na, dk_Ta, dk_Wa, dk_m2, dk_m3, dk_m4, dk_m5, dk_m6, dk_a5, dk_a10, nI_add, nI_1, nI_leI, nI_ltI, nI_eq, dk_le3, dk_le5, dk_le6, dk_le16, dk_le20, dk_le25, dk_le32, dk_le36, dk_le1024, dk_lt0, dk_ge0, dk_lez, dk_eq0, dk_eq1, dk_eq4, dk_eq6, dk_tneg, dk_tpos, dk_teq, dk_tle]
        refine ⟨vp_in_nI (by omega) (by omega), nm_r ex3 ?_⟩
        refine dk_ye hx hc hit hnm hex _ (fun j a b c => absurd ⟨q5, qt, j, a, b, c⟩ hE) (fun y => ?_)
        refine br_t (by decide) (nm_r (dk_m4 _) b4)
    · refine ⟨yq, fun post h => ⟨1, ?_⟩⟩
      rw [dk_bf, if_neg z, List.drop_eq_nil_of_le (by omega)] at h
      simp (disch := omega) only [wY_look_18, nI_leI]
      exact br_t (by omega) h
theorem dk_ylk {s p c : Nat} (hs : s ≤ 5) (hp : p < 5) (hc : c < 12) (hnd : ∀ x, nd x ≤ 4) (hot : ∀ k, ot k < 5) (hya : ∀ i, ya i < 4) (hit : ∀ x, it x ≤ 6) (hnm : ∀ k, nm k < 12) (hex : ∀ k, ex k ≤ 1) (ht : 0 < ya (s + p)) :
    ∃ yq' : Nat → Int32, ∀ post : Int32 → SY → Prop, post (nI (dk_place nd ot it nm ex (fun p => ya (s + p)) p c) - 1) (yp, yb, ys, yn, (dk_N kn), (dk_N nd), (dk_N ot), (dk_N le), (dk_N gr), (dk_N op), (dk_N ex), (dk_N it), (dk_N nm), (dk_N sh), (dk_W wl), yg, (dk_T ya), yr, yl, yq', yo, yt) → wpY_look post (yp, yb, ys, yn, (dk_N kn), (dk_N nd), (dk_N ot), (dk_N le), (dk_N gr), (dk_N op), (dk_N ex), (dk_N it), (dk_N nm), (dk_N sh), (dk_W wl), yg, (dk_T ya), yr, yl, yq, yo, yt) (nI s) (nI p) (nI c) := by
  obtain ⟨yq', h⟩ := dk_yl18 (yp := yp) (yb := yb) (ys := ys) (yn := yn) (kn := kn) (le := le) (gr := gr) (op := op) (sh := sh) (wl := wl) (yg := yg) (yr := yr) (yl := yl) (yo := yo) (yt := yt) hs hc hnd hot hya hit hnm hex 5 0 [p] (upd yq 0 (nI p)) rfl ⟨by simp, fun x hx => by rw [List.mem_singleton] at hx; subst hx; exact ⟨hp, ht⟩⟩ (fun i hi => by
    have : i = 0 := by simpa using hi
    subst this; exact pk_us)
  refine ⟨yq', fun post h' => ?_⟩
  refine nm_r (e' := nI (dk_mk [p])) (by rw [dk_pow p (by omega), dk_mk_1 hp]) (nm_e ?_)
  exact h post h'
end
end
section
def dk_cf (nd ot it nm ex t : Nat → Nat) (p n u : Nat) : Prop := u ∈ dk_ad nd ot t p ∧ dk_Rf it nm ex t n u ∧ dk_place nd ot it nm ex t u n ≠ 0 ∧ dk_place nd ot it nm ex t u n ≠ dk_place nd ot it nm ex t p n
/-- the fault of a reference of plugin p to a name n of shape s -/
noncomputable def dk_fo (nd ot it nm sh ex t : Nat → Nat) (p n s : Nat) : Nat :=
  if dk_place nd ot it nm ex t p n = 0 then 1 else if dk_b (dk_Sp it nm sh ex t n s (dk_place nd ot it nm ex t p n - 1)) = true then (if dk_b (∃ u, dk_cf nd ot it nm ex t p n u) = true then 3 else 0) else 2
noncomputable def dk_fk (nd ot it nm sh ex t : Nat → Nat) (p k : Nat) : Nat := if ex k = 1 then 0 else dk_fo nd ot it nm sh ex t p (nm k) (sh k)
theorem dk_fo3 (nd ot it nm sh ex t : Nat → Nat) (p n s : Nat) : dk_fo nd ot it nm sh ex t p n s ≤ 3 := by
  unfold dk_fo
  split
  · omega
  · split
    · split <;> omega
    · omega
theorem dk_fk3 (nd ot it nm sh ex t : Nat → Nat) (p k : Nat) : dk_fk nd ot it nm sh ex t p k ≤ 3 := by
  unfold dk_fk
  split
  · omega
  · exact dk_fo3 ..
def dk_Un (it nm ex : Nat → Nat) : Prop := ∀ x i j, x < 15 → i < j → j < it x → ex (6 * x + i) = 1 → ex (6 * x + j) = 1 → nm (6 * x + i) ≠ nm (6 * x + j)
theorem dk_Un_eq {it nm ex : Nat → Nat} (h : dk_Un it nm ex) {x i j : Nat} (hx : x < 15) (hi : i < it x) (hj : j < it x) (ei : ex (6 * x + i) = 1) (ej : ex (6 * x + j) = 1) (en : nm (6 * x + i) = nm (6 * x + j)) : i = j := by
  rcases Nat.lt_trichotomy i j with z | z | z
  · exact absurd en (h x i j hx z hj ei ej)
  · exact z
  · exact absurd en.symm (h x j i hx z hi ej ei)
section
variable {yp yb ys yn : Int32} {kn nd ot le gr op it nm sh ex wl ya : Nat → Nat} {yg yr yl yq yo yt : Nat → Int32}
theorem dk_yrf_l {x c : Nat} (hx : x < 15) (hc : c < 12) (hit : ∀ x, it x ≤ 6) (hnm : ∀ k, nm k < 12) (hex : ∀ k, ex k ≤ 1) (post : Int32 → Prop) : ∀ d j, j + d = it x →
    ((∃ k, j ≤ k ∧ k < it x ∧ ex (6 * x + k) = 0 ∧ nm (6 * x + k) = c) → post 1) → ((¬ ∃ k, j ≤ k ∧ k < it x ∧ ex (6 * x + k) = 0 ∧ nm (6 * x + k) = c) → post 0) → ∃ n, wY_refers_21 post (nI c) (nI x) yp yb ys yn (dk_N kn) (dk_N nd) (dk_N ot) (dk_N le) (dk_N gr) (dk_N op) (dk_N ex) (dk_N it) (dk_N nm) (dk_N sh) (dk_W wl) yg (dk_T ya) yr yl yq yo yt n (nI (6 * x + j))
  | 0, j, hj, h1, h0 => by
    have := hit x
    refine ⟨1, ?_⟩
    simp (disch := omega) only [wY_refers_21, nI_clamp, dk_Na, dk_Ta, dk_Wa, dk_m2, dk_m3, dk_m4, dk_m5, dk_m6, dk_a5, dk_a10, nI_add, nI_1, nI_leI, nI_ltI, nI_eq, dk_le3, dk_le5, dk_le6, dk_le16, dk_le20, dk_le25, dk_le32, dk_le36, dk_le1024, dk_lt0, dk_ge0, dk_lez, dk_eq0, dk_eq1, dk_eq4, dk_eq6, dk_tneg, dk_tpos, dk_teq, dk_tle]
    refine ⟨vp_in_nI hx (by omega), br_t (by omega) (h0 ?_)⟩
    rintro ⟨k, a, b, _⟩; omega
  | d + 1, j, hj, h1, h0 => by
    have := hit x
    have he := hex (6 * x + j)
    have hn := hnm (6 * x + j)
    by_cases z : ex (6 * x + j) = 0 ∧ nm (6 * x + j) = c
    · refine ⟨1, ?_⟩
      simp (disch := omega) only [wY_refers_21, nI_clamp, dk_Na, dk_Ta, dk_Wa, dk_m2, dk_m3, dk_m4, dk_m5, dk_m6, dk_a5, dk_a10, nI_add, nI_1, nI_leI, nI_ltI, nI_eq, dk_le3, dk_le5, dk_le6, dk_le16, dk_le20, dk_le25, dk_le32, dk_le36, dk_le1024, dk_lt0, dk_ge0, dk_lez, dk_eq0, dk_eq1, dk_eq4, dk_eq6, dk_tneg, dk_tpos, dk_teq, dk_tle]
      exact ⟨vp_in_nI hx (by omega), br_f (by omega) ⟨vp_in_nI (by omega) (by omega), br_t (by omega) ⟨vp_in_nI (by omega) (by omega), br_t z.2 (h1 ⟨j, Nat.le_refl _, by omega, z.1, z.2⟩)⟩⟩⟩
    · obtain ⟨n, hn⟩ := dk_yrf_l hx hc hit hnm hex post d (j + 1) (by omega) (fun ⟨k, a, b⟩ => h1 ⟨k, by omega, b⟩) (fun h => h0 fun ⟨k, a, b, c⟩ => h ⟨k, by
        have : k ≠ j := fun e => z (e ▸ c)
        omega, b, c⟩)
      refine ⟨n + 1, ?_⟩
      simp (disch := omega) only [wY_refers_21, nI_clamp, dk_Na, dk_Ta, dk_Wa, dk_m2, dk_m3, dk_m4, dk_m5, dk_m6, dk_a5, dk_a10, nI_add, nI_1, nI_leI, nI_ltI, nI_eq, dk_le3, dk_le5, dk_le6, dk_le16, dk_le20, dk_le25, dk_le32, dk_le36, dk_le1024, dk_lt0, dk_ge0, dk_lez, dk_eq0, dk_eq1, dk_eq4, dk_eq6, dk_tneg, dk_tpos, dk_teq, dk_tle]
      exact ⟨vp_in_nI hx (by omega), br_f (by omega) ⟨vp_in_nI (by omega) (by omega), br_c (fun y => ⟨vp_in_nI (by omega) (by omega), br_f (by omega) (nm_e hn)⟩) (fun _ => nm_e hn)⟩⟩
theorem dk_yrf {s p c : Nat} (hs : s ≤ 5) (hp : p < 5) (hc : c < 12) (hya : ∀ i, ya i < 4) (hit : ∀ x, it x ≤ 6) (hnm : ∀ k, nm k < 12) (hex : ∀ k, ex k ≤ 1) (ht : 0 < ya (s + p)) (post : Int32 → Prop)
    (h1 : dk_Rf it nm ex (fun p => ya (s + p)) c p → post 1) (h0 : ¬ dk_Rf it nm ex (fun p => ya (s + p)) c p → post 0) : wpY_refers post (yp, yb, ys, yn, (dk_N kn), (dk_N nd), (dk_N ot), (dk_N le), (dk_N gr), (dk_N op), (dk_N ex), (dk_N it), (dk_N nm), (dk_N sh), (dk_W wl), yg, (dk_T ya), yr, yl, yq, yo, yt) (nI s) (nI p) (nI c) := by
  have qy := hya (s + p)
  have hx := dk_x15 (t := fun p => ya (s + p)) hp qy
  have ex3 := dk_xI (t := fun p => ya (s + p)) (q := p) ht
  rw [dk_m3] at ex3
  simp (disch := omega) only [wpY_refers, nI_clamp, dk_Na, dk_Ta, dk_Wa, dk_m2, dk_m3, dk_m4, dk_m5, dk_m6, dk_a5, dk_a10, nI_add, nI_1, nI_leI, nI_ltI, nI_eq, dk_le3, dk_le5, dk_le6, dk_le16, dk_le20, dk_le25, dk_le32, dk_le36, dk_le1024, dk_lt0, dk_ge0, dk_lez, dk_eq0, dk_eq1, dk_eq4, dk_eq6, dk_tneg, dk_tpos, dk_teq, dk_tle]
  refine ⟨vp_in_nI (by omega) (by omega), nm_r ex3 (nm_r (dk_m6 _) ?_)⟩
  exact dk_yrf_l hx hc hit hnm hex post (it (dk_x (fun p => ya (s + p)) p)) 0 (by omega) (fun ⟨k, _, a⟩ => h1 ⟨hp, ht, k, a⟩) (fun h => h0 fun ⟨_, _, k, a⟩ => h ⟨k, Nat.zero_le _, a⟩)
theorem dk_yf83 {s p c q : Nat} (hs : s ≤ 5) (hp : p < 5) (hc : c < 12) (hnd : ∀ x, nd x ≤ 4) (hot : ∀ k, ot k < 5) (hya : ∀ i, ya i < 4) (hit : ∀ x, it x ≤ 6) (hnm : ∀ k, nm k < 12) (hex : ∀ k, ex k ≤ 1)
    (hpl : dk_place nd ot it nm ex (fun p => ya (s + p)) p c = q + 1) : ∀ d j (yq : Nat → Int32), j + d = 5 →
    ∃ yq' : Nat → Int32, ∀ post : Int32 → SY → Prop, post (nI (if dk_b (∃ u, j ≤ u ∧ dk_cf nd ot it nm ex (fun p => ya (s + p)) p c u) = true then 3 else 0)) (yp, yb, ys, yn, (dk_N kn), (dk_N nd), (dk_N ot), (dk_N le), (dk_N gr), (dk_N op), (dk_N ex), (dk_N it), (dk_N nm), (dk_N sh), (dk_W wl), yg, (dk_T ya), yr, yl, yq', yo, yt) →
    ∃ n, wY_faultOf_83 post (nI s) (nI p) (nI c) (nI q) n (nI j) yp yb ys yn (dk_N kn) (dk_N nd) (dk_N ot) (dk_N le) (dk_N gr) (dk_N op) (dk_N ex) (dk_N it) (dk_N nm) (dk_N sh) (dk_W wl) yg (dk_T ya) yr yl yq yo yt
  | 0, j, yq, hj => by
    refine ⟨yq, fun post h => ⟨1, ?_⟩⟩
    rw [dk_bF' (by
      rintro ⟨u, a, b, _⟩
      have := dk_ad5 hot _ _ b
      omega)] at h
    have : j = 5 := by omega
    subst this
    exact br_t (by decide) h
  | d + 1, j, yq, hj => by
    have q5 : q < 5 := by have := dk_place5 (nd := nd) (ot := ot) (it := it) (nm := nm) (ex := ex) (t := fun p => ya (s + p)) (p := p) (n := c); omega
    have step : ¬ dk_cf nd ot it nm ex (fun p => ya (s + p)) p c j → dk_b (∃ u, j ≤ u ∧ dk_cf nd ot it nm ex (fun p => ya (s + p)) p c u) = dk_b (∃ u, j + 1 ≤ u ∧ dk_cf nd ot it nm ex (fun p => ya (s + p)) p c u) := fun z => dk_bC ⟨fun ⟨u, a, b⟩ => ⟨u, by
        have : u ≠ j := fun e => z (e ▸ b)
        omega, b⟩, fun ⟨u, a, b⟩ => ⟨u, by omega, b⟩⟩
    by_cases hu : j ∈ dk_ad nd ot (fun p => ya (s + p)) p
    · have ht : 0 < ya (s + j) := ((dk_ad_m _ _ _ _ _).mp hu).2.2.1
      by_cases hr : dk_Rf it nm ex (fun p => ya (s + p)) c j
      · obtain ⟨yq1, b1⟩ := dk_ylk (yp := yp) (yb := yb) (ys := ys) (yn := yn) (kn := kn) (nd := nd) (ot := ot) (le := le) (gr := gr) (op := op) (it := it) (nm := nm) (sh := sh) (ex := ex) (wl := wl) (yg := yg) (yr := yr) (yl := yl) (yq := yq) (yo := yo) (yt := yt) (p := j) hs (by omega) hc hnd hot hya hit hnm hex ht
        have p5 := dk_place5 (nd := nd) (ot := ot) (it := it) (nm := nm) (ex := ex) (t := fun p => ya (s + p)) (p := j) (n := c)
        by_cases z : dk_cf nd ot it nm ex (fun p => ya (s + p)) p c j
        · refine ⟨yq1, fun post h => ⟨1, ?_⟩⟩
          rw [dk_bT' ⟨j, Nat.le_refl _, z⟩] at h
          rw [wY_faultOf_83]
          refine br_f (by rw [dk_le5 (by omega)]; omega) (dk_yu hs hp (by omega) hnd hot hya _ (fun _ => ?_) (fun y => absurd hu y))
          refine br_f (by decide) (dk_yrf hs (by omega) hc hya hit hnm hex ht _ (fun _ => ?_) (fun y => absurd hr y))
          refine br_f (by decide) (b1 _ ?_)
          have z1 := z.2.2.1
          have z2 := z.2.2.2
          dsimp only
          rw [dk_tneg (by omega), dk_teqn (by omega) (by omega)]
          exact br_f (by omega) (br_f (by omega) h)
        · obtain ⟨yq', b2⟩ := dk_yf83 hs hp hc hnd hot hya hit hnm hex hpl d (j + 1) yq1 (by omega)
          refine ⟨yq', fun post h => ?_⟩
          rw [step z] at h
          obtain ⟨n, hn⟩ := b2 post h
          refine ⟨n + 1, ?_⟩
          rw [wY_faultOf_83]
          refine br_f (by rw [dk_le5 (by omega)]; omega) (dk_yu hs hp (by omega) hnd hot hya _ (fun _ => ?_) (fun y => absurd hu y))
          refine br_f (by decide) (dk_yrf hs (by omega) hc hya hit hnm hex ht _ (fun _ => ?_) (fun y => absurd hr y))
          refine br_f (by decide) (b1 _ ?_)
          dsimp only
          rw [dk_tneg (by omega), dk_teqn (by omega) (by omega)]
          refine br_c (fun _ => nm_r (nI_1 j) hn) (fun z1 => br_t ?_ (nm_r (nI_1 j) hn))
          exact Classical.byContradiction fun z2 => z ⟨hu, hr, z1, by omega⟩
      · obtain ⟨yq', b2⟩ := dk_yf83 hs hp hc hnd hot hya hit hnm hex hpl d (j + 1) yq (by omega)
        refine ⟨yq', fun post h => ?_⟩
        rw [step (fun z => hr z.2.1)] at h
        obtain ⟨n, hn⟩ := b2 post h
        refine ⟨n + 1, ?_⟩
        rw [wY_faultOf_83]
        refine br_f (by rw [dk_le5 (by omega)]; omega) (dk_yu hs hp (by omega) hnd hot hya _ (fun _ => ?_) (fun y => absurd hu y))
        refine br_f (by decide) (dk_yrf hs (by omega) hc hya hit hnm hex ht _ (fun y => absurd y hr) (fun _ => ?_))
        exact br_t rfl (nm_r (nI_1 j) hn)
    · obtain ⟨yq', b2⟩ := dk_yf83 hs hp hc hnd hot hya hit hnm hex hpl d (j + 1) yq (by omega)
      refine ⟨yq', fun post h => ?_⟩
      rw [step (fun z => hu z.1)] at h
      obtain ⟨n, hn⟩ := b2 post h
      refine ⟨n + 1, ?_⟩
      rw [wY_faultOf_83]
      refine br_f (by rw [dk_le5 (by omega)]; omega) (dk_yu hs hp (by omega) hnd hot hya _ (fun y => absurd y hu) (fun _ => ?_))
      exact br_t rfl (nm_r (nI_1 j) hn)
theorem dk_yfo {s p k : Nat} (hs : s ≤ 5) (hp : p < 5) (hk : k < 90) (hnd : ∀ x, nd x ≤ 4) (hot : ∀ k, ot k < 5) (hya : ∀ i, ya i < 4) (hit : ∀ x, it x ≤ 6) (hnm : ∀ k, nm k < 12) (hsh : ∀ k, sh k < 4) (hex : ∀ k, ex k ≤ 1) (hun : dk_Un it nm ex) (ht : 0 < ya (s + p)) :
    ∃ yq' : Nat → Int32, ∀ post : Int32 → SY → Prop, post (nI (dk_fk nd ot it nm sh ex (fun p => ya (s + p)) p k)) (yp, yb, ys, yn, (dk_N kn), (dk_N nd), (dk_N ot), (dk_N le), (dk_N gr), (dk_N op), (dk_N ex), (dk_N it), (dk_N nm), (dk_N sh), (dk_W wl), yg, (dk_T ya), yr, yl, yq', yo, yt) → wpY_faultOf post (yp, yb, ys, yn, (dk_N kn), (dk_N nd), (dk_N ot), (dk_N le), (dk_N gr), (dk_N op), (dk_N ex), (dk_N it), (dk_N nm), (dk_N sh), (dk_W wl), yg, (dk_T ya), yr, yl, yq, yo, yt) (nI s) (nI p) (nI k) := by
  have he := hex k
  have hn := hnm k
  have hs4 := hsh k
  by_cases e : ex k = 1
  · refine ⟨yq, fun post h => ?_⟩
    rw [dk_fk, if_pos e] at h
    simp (disch := omega) only [wpY_faultOf, nI_clamp, dk_Na, dk_Ta, dk_Wa, dk_m2, dk_m3, dk_m4, dk_m5, dk_m6, dk_a5, dk_a10, nI_add, nI_1, nI_leI, nI_ltI, nI_eq, dk_le3, dk_le5, dk_le6, dk_le16, dk_le20, dk_le25, dk_le32, dk_le36, dk_le1024, dk_lt0, dk_ge0, dk_lez, dk_eq0, dk_eq1, dk_eq4, dk_eq6, dk_tneg, dk_tpos, dk_teq, dk_tle]
    exact ⟨vp_in_nI hk (by omega), br_f (by omega) h⟩
  · obtain ⟨yq1, b1⟩ := dk_ylk (yp := yp) (yb := yb) (ys := ys) (yn := yn) (kn := kn) (nd := nd) (ot := ot) (le := le) (gr := gr) (op := op) (it := it) (nm := nm) (sh := sh) (ex := ex) (wl := wl) (yg := yg) (yr := yr) (yl := yl) (yq := yq) (yo := yo) (yt := yt) (p := p) hs hp hn hnd hot hya hit hnm hex ht
    have p5 := dk_place5 (nd := nd) (ot := ot) (it := it) (nm := nm) (ex := ex) (t := fun p => ya (s + p)) (p := p) (n := nm k)
    cases hpl : dk_place nd ot it nm ex (fun p => ya (s + p)) p (nm k) with
    | zero =>
      rw [hpl] at b1
      refine ⟨yq1, fun post h => ?_⟩
      rw [dk_fk, if_neg e, dk_fo, if_pos hpl] at h
      simp (disch := omega) only [wpY_faultOf, nI_clamp, dk_Na, dk_Ta, dk_Wa, dk_m2, dk_m3, dk_m4, dk_m5, dk_m6, dk_a5, dk_a10, nI_add, nI_1, nI_leI, nI_ltI, nI_eq, dk_le3, dk_le5, dk_le6, dk_le16, dk_le20, dk_le25, dk_le32, dk_le36, dk_le1024, dk_lt0, dk_ge0, dk_lez, dk_eq0, dk_eq1, dk_eq4, dk_eq6, dk_tneg, dk_tpos, dk_teq, dk_tle]
      refine ⟨vp_in_nI hk (by omega), br_t (by omega) ⟨vp_in_nI hk (by omega), nm_e (b1 _ ?_)⟩⟩
      exact br_f (by decide) h
    | succ q =>
      rw [hpl] at b1 p5
      obtain ⟨hE, _⟩ := dk_pl_s hpl
      have hE' := hE
      obtain ⟨q5, qt, k0, c1, c2, c3⟩ := hE
      have qy := hya (s + q)
      have hx := dk_x15 (t := fun p => ya (s + p)) q5 qy
      have ex3 := dk_xI (t := fun p => ya (s + p)) (q := q) qt
      rw [dk_m3] at ex3
      have bq : nI (q + 1) - 1 = nI q := by rw [nI_succ, Int32.add_sub_cancel]
      rw [bq] at b1
      have hitx := hit (dk_x (fun p => ya (s + p)) q)
      have spI : ∀ k', k' < it (dk_x (fun p => ya (s + p)) q) → ex (6 * dk_x (fun p => ya (s + p)) q + k') = 1 → nm (6 * dk_x (fun p => ya (s + p)) q + k') = nm k → (sh (6 * dk_x (fun p => ya (s + p)) q + k') = sh k ↔ dk_Sp it nm sh ex (fun p => ya (s + p)) (nm k) (sh k) q) := by
        intro k' a b c
        refine ⟨fun d => ⟨q5, qt, k', a, b, c, d⟩, ?_⟩
        rintro ⟨_, _, k2, a2, b2, c2, d2⟩
        have := dk_Un_eq hun hx a a2 b b2 (c.trans c2.symm)
        rw [this]; exact d2
      by_cases z : dk_Sp it nm sh ex (fun p => ya (s + p)) (nm k) (sh k) q
      · obtain ⟨yq2, b2⟩ := dk_yf83 (yp := yp) (yb := yb) (ys := ys) (yn := yn) (kn := kn) (nd := nd) (ot := ot) (le := le) (gr := gr) (op := op) (it := it) (nm := nm) (sh := sh) (ex := ex) (wl := wl) (yg := yg) (yr := yr) (yl := yl) (yo := yo) (yt := yt) hs hp hn hnd hot hya hit hnm hex hpl 5 0 yq1 rfl
        refine ⟨yq2, fun post h => ?_⟩
        rw [dk_fk, if_neg e, dk_fo, if_neg (by omega), hpl, show q + 1 - 1 = q by omega, if_pos (dk_bT' z)] at h
        have b3 := b2 post (by
          rw [dk_bC (Q := ∃ u, dk_cf nd ot it nm ex (fun p => ya (s + p)) p (nm k) u) ⟨fun ⟨u, a, b⟩ => ⟨u, b⟩, fun ⟨u, b⟩ => ⟨u, Nat.zero_le _, b⟩⟩]
          exact h)
        simp (disch := omega) only [wpY_faultOf, nI_clamp, dk_Na, dk_Ta, dk_Wa, dk_m2, dk_m3, dk_m4, dk_m5, dk_m6, dk_a5, dk_a10, nI_add, nI_1, nI_leI, nI_ltI, nI_eq, dk_le3, dk_le5, dk_le6, dk_le16, dk_le20, dk_le25, dk_le32, dk_le36, dk_le1024, dk_lt0, dk_ge0, dk_lez, dk_eq0, dk_eq1, dk_eq4, dk_eq6, dk_tneg, dk_tpos, dk_teq, dk_tle]
        refine ⟨vp_in_nI hk (by omega), br_t (by omega) ⟨vp_in_nI hk (by omega), nm_e (b1 _ ?_)⟩⟩
        simp (disch := omega) only [nI_clamp, dk_Na, dk_Ta, dk_Wa, dk_m2, dk_m3, dk_m4, dk_m5, dk_m6, dk_a5, dk_a10, nI_add, nI_1, nI_leI, nI_ltI, nI_eq, dk_le3, dk_le5, dk_le6, dk_le16, dk_le20, dk_le25, dk_le32, dk_le36, dk_le1024, dk_lt0, dk_ge0, dk_lez, dk_eq0, dk_eq1, dk_eq4, dk_eq6, dk_tneg, dk_tpos, dk_teq, dk_tle]
        refine br_t trivial ⟨vp_in_nI (by omega) (by omega), nm_r ex3 ?_⟩
        refine dk_ye hx hn hit hnm hex _ (fun k' a b c => ?_) (fun y => absurd hE'.2.2 y)
        have := hsh (6 * dk_x (fun p => ya (s + p)) q + k')
        simp (disch := omega) only [nI_clamp, dk_Na, dk_Ta, dk_Wa, dk_m2, dk_m3, dk_m4, dk_m5, dk_m6, dk_a5, dk_a10, nI_add, nI_1, nI_leI, nI_ltI, nI_eq, dk_le3, dk_le5, dk_le6, dk_le16, dk_le20, dk_le25, dk_le32, dk_le36, dk_le1024, dk_lt0, dk_ge0, dk_lez, dk_eq0, dk_eq1, dk_eq4, dk_eq6, dk_tneg, dk_tpos, dk_teq, dk_tle]
        exact ⟨vp_in_nI (by omega) (by omega), vp_in_nI hk (by omega), br_t ((spI k' a b c).mpr z) b3⟩
      · refine ⟨yq1, fun post h => ?_⟩
        rw [dk_fk, if_neg e, dk_fo, if_neg (by omega), hpl, if_neg (by rw [show q + 1 - 1 = q by omega, dk_bF' z]; decide)] at h
        simp (disch := omega) only [wpY_faultOf, nI_clamp, dk_Na, dk_Ta, dk_Wa, dk_m2, dk_m3, dk_m4, dk_m5, dk_m6, dk_a5, dk_a10, nI_add, nI_1, nI_leI, nI_ltI, nI_eq, dk_le3, dk_le5, dk_le6, dk_le16, dk_le20, dk_le25, dk_le32, dk_le36, dk_le1024, dk_lt0, dk_ge0, dk_lez, dk_eq0, dk_eq1, dk_eq4, dk_eq6, dk_tneg, dk_tpos, dk_teq, dk_tle]
        refine ⟨vp_in_nI hk (by omega), br_t (by omega) ⟨vp_in_nI hk (by omega), nm_e (b1 _ ?_)⟩⟩
        simp (disch := omega) only [nI_clamp, dk_Na, dk_Ta, dk_Wa, dk_m2, dk_m3, dk_m4, dk_m5, dk_m6, dk_a5, dk_a10, nI_add, nI_1, nI_leI, nI_ltI, nI_eq, dk_le3, dk_le5, dk_le6, dk_le16, dk_le20, dk_le25, dk_le32, dk_le36, dk_le1024, dk_lt0, dk_ge0, dk_lez, dk_eq0, dk_eq1, dk_eq4, dk_eq6, dk_tneg, dk_tpos, dk_teq, dk_tle]
        refine br_t trivial ⟨vp_in_nI (by omega) (by omega), nm_r ex3 ?_⟩
        refine dk_ye hx hn hit hnm hex _ (fun k' a b c => ?_) (fun y => absurd hE'.2.2 y)
        have := hsh (6 * dk_x (fun p => ya (s + p)) q + k')
        simp (disch := omega) only [nI_clamp, dk_Na, dk_Ta, dk_Wa, dk_m2, dk_m3, dk_m4, dk_m5, dk_m6, dk_a5, dk_a10, nI_add, nI_1, nI_leI, nI_ltI, nI_eq, dk_le3, dk_le5, dk_le6, dk_le16, dk_le20, dk_le25, dk_le32, dk_le36, dk_le1024, dk_lt0, dk_ge0, dk_lez, dk_eq0, dk_eq1, dk_eq4, dk_eq6, dk_tneg, dk_tpos, dk_teq, dk_tle]
        exact ⟨vp_in_nI (by omega) (by omega), vp_in_nI hk (by omega), br_f (fun y => z ((spI k' a b c).mp y)) h⟩
-- isFaulty
theorem dk_yif_l {s p x : Nat} (hs : s ≤ 5) (hp : p < 5) (hx : x < 15) (hnd : ∀ x, nd x ≤ 4) (hot : ∀ k, ot k < 5) (hya : ∀ i, ya i < 4) (hit : ∀ x, it x ≤ 6) (hnm : ∀ k, nm k < 12) (hsh : ∀ k, sh k < 4) (hex : ∀ k, ex k ≤ 1) (hun : dk_Un it nm ex) (ht : 0 < ya (s + p)) : ∀ d j (yq : Nat → Int32), j + d = it x →
    ∃ yq' : Nat → Int32, ∀ post : Int32 → SY → Prop, post (nI (if dk_b (∃ k, j ≤ k ∧ k < it x ∧ dk_fk nd ot it nm sh ex (fun p => ya (s + p)) p (6 * x + k) ≠ 0) = true then 1 else 0)) (yp, yb, ys, yn, (dk_N kn), (dk_N nd), (dk_N ot), (dk_N le), (dk_N gr), (dk_N op), (dk_N ex), (dk_N it), (dk_N nm), (dk_N sh), (dk_W wl), yg, (dk_T ya), yr, yl, yq', yo, yt) →
    ∃ n, wY_isFaulty_32 post (nI s) (nI p) (nI x) n (nI (6 * x + j)) yp yb ys yn (dk_N kn) (dk_N nd) (dk_N ot) (dk_N le) (dk_N gr) (dk_N op) (dk_N ex) (dk_N it) (dk_N nm) (dk_N sh) (dk_W wl) yg (dk_T ya) yr yl yq yo yt
  | 0, j, yq, hj => by
    have := hit x
    refine ⟨yq, fun post h => ⟨1, ?_⟩⟩
    rw [dk_bF' (by rintro ⟨k, a, b, _⟩; omega)] at h
    simp (disch := omega) only [wY_isFaulty_32, nI_clamp, dk_Na, dk_Ta, dk_Wa, dk_m2, dk_m3, dk_m4, dk_m5, dk_m6, dk_a5, dk_a10, nI_add, nI_1, nI_leI, nI_ltI, nI_eq, dk_le3, dk_le5, dk_le6, dk_le16, dk_le20, dk_le25, dk_le32, dk_le36, dk_le1024, dk_lt0, dk_ge0, dk_lez, dk_eq0, dk_eq1, dk_eq4, dk_eq6, dk_tneg, dk_tpos, dk_teq, dk_tle]
    exact ⟨vp_in_nI hx (by omega), br_t (by omega) h⟩
  | d + 1, j, yq, hj => by
    have hi := hit x
    have f3 := dk_fk3 nd ot it nm sh ex (fun p => ya (s + p)) p (6 * x + j)
    obtain ⟨yq1, b1⟩ := dk_yfo (yp := yp) (yb := yb) (ys := ys) (yn := yn) (kn := kn) (nd := nd) (ot := ot) (le := le) (gr := gr) (op := op) (it := it) (nm := nm) (sh := sh) (ex := ex) (wl := wl) (yg := yg) (yr := yr) (yl := yl) (yq := yq) (yo := yo) (yt := yt) (p := p) (k := 6 * x + j) hs hp (by omega) hnd hot hya hit hnm hsh hex hun ht
    by_cases z : dk_fk nd ot it nm sh ex (fun p => ya (s + p)) p (6 * x + j) = 0
    · obtain ⟨yq', b2⟩ := dk_yif_l hs hp hx hnd hot hya hit hnm hsh hex hun ht d (j + 1) yq1 (by omega)
      refine ⟨yq', fun post h => ?_⟩
      rw [dk_bC (Q := ∃ k, j + 1 ≤ k ∧ k < it x ∧ dk_fk nd ot it nm sh ex (fun p => ya (s + p)) p (6 * x + k) ≠ 0) ⟨fun ⟨k, a, b, c⟩ => ⟨k, by
        have : k ≠ j := fun e => c (e ▸ z)
        omega, b, c⟩, fun ⟨k, a, b⟩ => ⟨k, by omega, b⟩⟩] at h
      obtain ⟨n, hn⟩ := b2 post h
      refine ⟨n + 1, ?_⟩
      simp (disch := omega) only [wY_isFaulty_32, nI_clamp, dk_Na, dk_Ta, dk_Wa, dk_m2, dk_m3, dk_m4, dk_m5, dk_m6, dk_a5, dk_a10, nI_add, nI_1, nI_leI, nI_ltI, nI_eq, dk_le3, dk_le5, dk_le6, dk_le16, dk_le20, dk_le25, dk_le32, dk_le36, dk_le1024, dk_lt0, dk_ge0, dk_lez, dk_eq0, dk_eq1, dk_eq4, dk_eq6, dk_tneg, dk_tpos, dk_teq, dk_tle]
      refine ⟨vp_in_nI hx (by omega), br_f (by omega) (b1 _ ?_)⟩
      dsimp only
      rw [dk_lez (by omega)]
      exact br_t z (nm_e hn)
    · refine ⟨yq1, fun post h => ⟨1, ?_⟩⟩
      rw [dk_bT' ⟨j, Nat.le_refl _, by omega, z⟩] at h
      simp (disch := omega) only [wY_isFaulty_32, nI_clamp, dk_Na, dk_Ta, dk_Wa, dk_m2, dk_m3, dk_m4, dk_m5, dk_m6, dk_a5, dk_a10, nI_add, nI_1, nI_leI, nI_ltI, nI_eq, dk_le3, dk_le5, dk_le6, dk_le16, dk_le20, dk_le25, dk_le32, dk_le36, dk_le1024, dk_lt0, dk_ge0, dk_lez, dk_eq0, dk_eq1, dk_eq4, dk_eq6, dk_tneg, dk_tpos, dk_teq, dk_tle]
      refine ⟨vp_in_nI hx (by omega), br_f (by omega) (b1 _ ?_)⟩
      dsimp only
      rw [dk_lez (by omega)]
      exact br_f z h
end
/-- whether a plugin of a state has a fault -/
def dk_fy (nd ot it nm sh ex t : Nat → Nat) (p : Nat) : Prop := 0 < t p ∧ ∃ k, k < it (dk_x t p) ∧ dk_fk nd ot it nm sh ex t p (6 * dk_x t p + k) ≠ 0
section
variable {yp yb ys yn : Int32} {kn nd ot le gr op it nm sh ex wl ya : Nat → Nat} {yg yr yl yq yo yt : Nat → Int32}
theorem dk_yif {s p : Nat} (hs : s ≤ 5) (hp : p < 5) (hnd : ∀ x, nd x ≤ 4) (hot : ∀ k, ot k < 5) (hya : ∀ i, ya i < 4) (hit : ∀ x, it x ≤ 6) (hnm : ∀ k, nm k < 12) (hsh : ∀ k, sh k < 4) (hex : ∀ k, ex k ≤ 1) (hun : dk_Un it nm ex) :
    ∃ yq' : Nat → Int32, ∀ post : Int32 → SY → Prop, post (nI (if dk_b (dk_fy nd ot it nm sh ex (fun p => ya (s + p)) p) = true then 1 else 0)) (yp, yb, ys, yn, (dk_N kn), (dk_N nd), (dk_N ot), (dk_N le), (dk_N gr), (dk_N op), (dk_N ex), (dk_N it), (dk_N nm), (dk_N sh), (dk_W wl), yg, (dk_T ya), yr, yl, yq', yo, yt) → wpY_isFaulty post (yp, yb, ys, yn, (dk_N kn), (dk_N nd), (dk_N ot), (dk_N le), (dk_N gr), (dk_N op), (dk_N ex), (dk_N it), (dk_N nm), (dk_N sh), (dk_W wl), yg, (dk_T ya), yr, yl, yq, yo, yt) (nI s) (nI p) := by
  have qy := hya (s + p)
  by_cases ht : 0 < ya (s + p)
  · have hx := dk_x15 (t := fun p => ya (s + p)) hp qy
    have ex3 := dk_xI (t := fun p => ya (s + p)) (q := p) ht
    rw [dk_m3] at ex3
    obtain ⟨yq', b⟩ := dk_yif_l (yp := yp) (yb := yb) (ys := ys) (yn := yn) (kn := kn) (nd := nd) (ot := ot) (le := le) (gr := gr) (op := op) (it := it) (nm := nm) (sh := sh) (ex := ex) (wl := wl) (yg := yg) (yr := yr) (yl := yl) (yo := yo) (yt := yt) (p := p) hs hp hx hnd hot hya hit hnm hsh hex hun ht (it (dk_x (fun p => ya (s + p)) p)) 0 yq (by omega)
    refine ⟨yq', fun post h => ?_⟩
    simp (disch := omega) only [wpY_isFaulty, nI_clamp, dk_Na, dk_Ta, dk_Wa, dk_m2, dk_m3, dk_m4, dk_m5, dk_m6, dk_a5, dk_a10, nI_add, nI_1, nI_leI, nI_ltI, nI_eq, dk_le3, dk_le5, dk_le6, dk_le16, dk_le20, dk_le25, dk_le32, dk_le36, dk_le1024, dk_lt0, dk_ge0, dk_lez, dk_eq0, dk_eq1, dk_eq4, dk_eq6, dk_tneg, dk_tpos, dk_teq, dk_tle]
    refine ⟨vp_in_nI (by omega) (by omega), br_t ht ⟨vp_in_nI (by omega) (by omega), nm_r ex3 (nm_r (dk_m6 _) (b post ?_))⟩⟩
    rw [dk_bC (Q := dk_fy nd ot it nm sh ex (fun p => ya (s + p)) p) ⟨fun ⟨k, a, b, c⟩ => ⟨ht, k, b, c⟩, fun ⟨_, k, b, c⟩ => ⟨k, Nat.zero_le _, b, c⟩⟩]
    exact h
  · refine ⟨yq, fun post h => ?_⟩
    rw [dk_bF' (fun z => ht z.1)] at h
    simp (disch := omega) only [wpY_isFaulty, nI_clamp, dk_Na, dk_Ta, dk_Wa, dk_m2, dk_m3, dk_m4, dk_m5, dk_m6, dk_a5, dk_a10, nI_add, nI_1, nI_leI, nI_ltI, nI_eq, dk_le3, dk_le5, dk_le6, dk_le16, dk_le20, dk_le25, dk_le32, dk_le36, dk_le1024, dk_lt0, dk_ge0, dk_lez, dk_eq0, dk_eq1, dk_eq4, dk_eq6, dk_tneg, dk_tpos, dk_teq, dk_tle]
    exact ⟨vp_in_nI (by omega) (by omega), br_f ht h⟩
end
end
section
theorem dk_xb {m k : Nat} (hm : m < 2 ^ 31) (hk : k < 31) (post : Int32 → Prop) (h1 : m.testBit k = true → post 1) (h0 : m.testBit k = false → post 0) : wpX_bit post (nI m) (nI k) := by
  unfold wpX_bit
  rw [dk_bit0 hm hk]
  exact br_c h0 (fun z => h1 (by simpa using z))
/-- those come upon from a plugin, itself first; none if it is not there -/
def dk_lst (nd ot t : Nat → Nat) (p : Nat) : List Nat := if t p = 0 then [] else dk_bfs (dk_ad nd ot t) p
noncomputable def dk_reM (ad : Nat → List Nat) (p : Nat) : Nat := dk_m (fun q => dk_b (q ≠ p ∧ dk_R ad p q)) 5
noncomputable def dk_rdM (ad : Nat → List Nat) (p : Nat) : Nat := dk_m (fun q => dk_b (q ≠ p ∧ dk_R ad q p)) 5
theorem dk_lst_ls {nd ot t : Nat → Nat} (hot : ∀ k, ot k < 5) {p : Nat} (hp : p < 5) : dk_ls t (dk_lst nd ot t p) := by
  unfold dk_lst
  by_cases h : t p = 0
  · rw [if_pos h]; exact ⟨by simp, fun x hx => absurd hx (by simp)⟩
  · rw [if_neg h]
    have b := (dk_bfs_ok (dk_ad5 (nd := nd) (t := t) hot) hp).1
    refine ⟨b.1, fun x hx => ⟨b.2.1 x hx, ?_⟩⟩
    rcases b.2.2.2 x hx with e | e
    · subst e; omega
    · exact (dk_R0 e).2.2
theorem dk_lst_re {nd ot t : Nat → Nat} (hot : ∀ k, ot k < 5) {p : Nat} (hp : p < 5) : dk_mk ((dk_lst nd ot t p).drop 1) = dk_reM (dk_ad nd ot t) p := by
  apply dk_mX (dk_mkL _)
  intro q hq
  rw [dk_mkB hq]
  unfold dk_lst
  by_cases h : t p = 0
  · rw [if_pos h]
    rw [dk_bF' (fun z => by have := (dk_R0 z.2).2.1; omega)]
    simp
  · rw [if_neg h]
    obtain ⟨m, e⟩ := dk_bfs_hd (dk_ad nd ot t) p
    have b := (dk_bfs_ok (dk_ad5 (nd := nd) (t := t) hot) hp).1.1
    have c := dk_bfs_m (dk_ad5 (nd := nd) (t := t) hot) hp q
    rw [e] at b c ⊢
    rw [List.drop_one, List.tail_cons]
    rw [List.mem_cons] at c
    rw [List.nodup_cons] at b
    by_cases z : q = p
    · subst z
      rw [dk_bF' (fun y => y.1 rfl)]
      exact decide_eq_false b.1
    · by_cases y : dk_R (dk_ad nd ot t) p q
      · rw [dk_bT' ⟨z, y⟩]
        rcases c.mpr (Or.inr y) with w | w
        · exact absurd w z
        · exact decide_eq_true w
      · rw [dk_bF' (fun w => y w.2)]
        exact decide_eq_false fun w => (c.mp (Or.inr w)).elim z y
section
variable {pr bl na sc fa st no : Int32} {kn nd ot le gr op it nm sh ex wl wg th : Nat → Nat} {re rd od on : Nat → Int32} {wh : Nat → Int64} {ss rf wi lv dm ch cg my sp fA fS nt : Nat → Int32}
theorem dk_xat {s p : Nat} (hs : s ≤ 1) (hp : p < 5) (hth : ∀ i, th i < 4) (post : Int32 → Prop) (h1 : 0 < th (5 * s + p) → post (nI (dk_x (fun p => th (5 * s + p)) p))) (h0 : th (5 * s + p) = 0 → post (-1)) : wpX_at post (pr, bl, na, sc, fa, st, no, (dk_N kn), (dk_N nd), (dk_N (dk_E ot le gr op)), (dk_N it), (dk_N nm), (dk_N sh), (dk_N ex), (dk_W wl), (dk_N wg), (dk_T th), re, rd, od, on, wh, ss, rf, wi, lv, dm, ch, cg, my, sp, fA, fS, nt) (nI s) (nI p) := by
  have a := hth (5 * s + p)
  simp (disch := omega) only [wpX_at, nI_clamp, dk_Na, dk_Ta, dk_Wa, dk_m2, dk_m3, dk_m4, dk_m5, dk_m6, dk_a5, dk_a10, nI_add, nI_1, nI_leI, nI_ltI, nI_eq, dk_le3, dk_le5, dk_le6, dk_le16, dk_le20, dk_le25, dk_le32, dk_le36, dk_le1024, dk_lt0, dk_ge0, dk_lez, dk_eq0, dk_eq1, dk_eq4, dk_eq6, dk_tneg, dk_tpos, dk_teq, dk_tle]
  refine ⟨vp_in_nI (by omega) (by omega), br_c (fun z => ⟨vp_in_nI (by omega) (by omega), ?_⟩) (fun z => h0 (by omega))⟩
  have e := dk_xI (t := fun p => th (5 * s + p)) (q := p) z
  rw [dk_m3] at e
  rw [e]; exact h1 z
theorem dk_xw75 {s p k x row : Nat} (hs : s ≤ 1) (hx : x < 15) (hrow : row + 5 ≤ 50) (hnd : ∀ x, nd x ≤ 4) (hot : ∀ k, ot k < 5) (hle : ∀ k, le k ≤ 2) (hgr : ∀ k, gr k ≤ 2) (hop : ∀ k, op k ≤ 1) (hth : ∀ i, th i < 4) : ∀ d j (l : List Nat) (od : Nat → Int32), j + d = nd x → dk_ls (fun p => th (5 * s + p)) l → dk_rep od row l →
    ∃ od' : Nat → Int32, dk_rep od' row ((dk_sf ot (fun p => th (5 * s + p)) x d j).foldl dk_vis l) ∧ (∀ i, i < row ∨ row + 5 ≤ i → od' i = od i) ∧ ∀ (post : SX → Prop) J,
    J (nI ((dk_sf ot (fun p => th (5 * s + p)) x d j).foldl dk_vis l).length) (nI (dk_mk ((dk_sf ot (fun p => th (5 * s + p)) x d j).foldl dk_vis l))) (nI (k + 1)) (dk_N kn) (dk_N nd) (dk_N (dk_E ot le gr op)) (dk_N it) (dk_N nm) (dk_N sh) (dk_N ex) (dk_W wl) (dk_N wg) (dk_T th) re rd od' on wh ss rf wi lv dm ch cg my sp fA fS nt →
    ∃ n, wX_walk_75 post J (nI s) (nI p) (nI row) (nI k) (nI x) pr bl na sc fa st no n (nI l.length) (nI (dk_mk l)) (nI (4 * x + j)) (dk_N kn) (dk_N nd) (dk_N (dk_E ot le gr op)) (dk_N it) (dk_N nm) (dk_N sh) (dk_N ex) (dk_W wl) (dk_N wg) (dk_T th) re rd od on wh ss rf wi lv dm ch cg my sp fA fS nt
  | 0, j, l, od, hj, hl, hr => by
    have := hnd x
    refine ⟨od, hr, fun _ _ => rfl, fun post J h => ⟨1, ?_⟩⟩
    simp (disch := omega) only [wX_walk_75, nI_clamp, dk_Na, dk_Ta, dk_Wa, dk_m2, dk_m3, dk_m4, dk_m5, dk_m6, dk_a5, dk_a10, nI_add, nI_1, nI_leI, nI_ltI, nI_eq, dk_le3, dk_le5, dk_le6, dk_le16, dk_le20, dk_le25, dk_le32, dk_le36, dk_le1024, dk_lt0, dk_ge0, dk_lez, dk_eq0, dk_eq1, dk_eq4, dk_eq6, dk_tneg, dk_tpos, dk_teq, dk_tle]
    exact ⟨vp_in_nI hx (by omega), br_t (by omega) (nm_e h)⟩
  | d + 1, j, l, od, hj, hl, hr => by
    have := hnd x
    have ho := hot (4 * x + j)
    have h1 := hle (4 * x + j)
    have h2 := hgr (4 * x + j)
    have h3 := hop (4 * x + j)
    have hy := hth (5 * s + ot (4 * x + j))
    have hlen := dk_ls_len hl
    have hmk := dk_mkL l
    have he : dk_E ot le gr op (4 * x + j) < 256 := by unfold dk_E; omega
    have hm : dk_E ot le gr op (4 * x + j) % 8 = ot (4 * x + j) := by unfold dk_E; omega
    by_cases z : 0 < th (5 * s + ot (4 * x + j))
    · rw [dk_sf_t (t := fun p => th (5 * s + p)) z]
      by_cases m : ot (4 * x + j) ∈ l
      · have e : dk_vis l (ot (4 * x + j)) = l := if_pos m
        rw [e]
        obtain ⟨od', b1, b0, b2⟩ := dk_xw75 hs hx hrow hnd hot hle hgr hop hth d (j + 1) l od (by omega) hl hr
        refine ⟨od', b1, b0, fun post J h => ?_⟩
        obtain ⟨n, hn⟩ := b2 post J h
        refine ⟨n + 1, ?_⟩
        simp (disch := omega) only [wX_walk_75, nI_clamp, dk_Na, dk_Ta, dk_Wa, dk_m2, dk_m3, dk_m4, dk_m5, dk_m6, dk_a5, dk_a10, nI_add, nI_1, nI_leI, nI_ltI, nI_eq, dk_le3, dk_le5, dk_le6, dk_le16, dk_le20, dk_le25, dk_le32, dk_le36, dk_le1024, dk_lt0, dk_ge0, dk_lez, dk_eq0, dk_eq1, dk_eq4, dk_eq6, dk_tneg, dk_tpos, dk_teq, dk_tle, dk_e7, hm]
        refine ⟨vp_in_nI hx (by omega), br_f (by omega) ⟨vp_in_nI (by omega) (by omega), nm_e ?_⟩⟩
        refine dk_xb (by omega) (by omega) _ (fun _ => ?_) (fun y => ?_)
        · exact br_f (by decide) (nm_e hn)
        · rw [dk_mkB ho] at y; exact absurd m (of_decide_eq_false y)
      · have e : dk_vis l (ot (4 * x + j)) = l ++ [ot (4 * x + j)] := if_neg m
        rw [e]
        have hl' := dk_ls_snoc hl ho z m
        have hlen' := dk_ls_len hl'
        rw [List.length_append, List.length_singleton] at hlen'
        obtain ⟨od', b1, b0, b2⟩ := dk_xw75 hs hx hrow hnd hot hle hgr hop hth d (j + 1) (l ++ [ot (4 * x + j)]) (upd od (row + l.length) (nI (ot (4 * x + j)))) (by omega) hl' (dk_rep_snoc hr)
        refine ⟨od', b1, fun i hi => by rw [b0 i hi, pk_un (by omega)], fun post J h => ?_⟩
        obtain ⟨n, hn⟩ := b2 post J h
        refine ⟨n + 1, ?_⟩
        simp (disch := omega) only [wX_walk_75, nI_clamp, dk_Na, dk_Ta, dk_Wa, dk_m2, dk_m3, dk_m4, dk_m5, dk_m6, dk_a5, dk_a10, nI_add, nI_1, nI_leI, nI_ltI, nI_eq, dk_le3, dk_le5, dk_le6, dk_le16, dk_le20, dk_le25, dk_le32, dk_le36, dk_le1024, dk_lt0, dk_ge0, dk_lez, dk_eq0, dk_eq1, dk_eq4, dk_eq6, dk_tneg, dk_tpos, dk_teq, dk_tle, dk_e7, hm]
        refine ⟨vp_in_nI hx (by omega), br_f (by omega) ⟨vp_in_nI (by omega) (by omega), nm_e ?_⟩⟩
        refine dk_xb (by omega) (by omega) _ (fun y => ?_) (fun y => ?_)
        · rw [dk_mkB ho] at y; exact absurd (of_decide_eq_true y) m
        · simp (disch := omega) only [nI_clamp, dk_Na, dk_Ta, dk_Wa, dk_m2, dk_m3, dk_m4, dk_m5, dk_m6, dk_a5, dk_a10, nI_add, nI_1, nI_leI, nI_ltI, nI_eq, dk_le3, dk_le5, dk_le6, dk_le16, dk_le20, dk_le25, dk_le32, dk_le36, dk_le1024, dk_lt0, dk_ge0, dk_lez, dk_eq0, dk_eq1, dk_eq4, dk_eq6, dk_tneg, dk_tpos, dk_teq, dk_tle, dk_vbb]
          refine br_t trivial ⟨vp_in_nI (by omega) (by omega), br_t z (nm_r (e' := nI (dk_mk (l ++ [ot (4 * x + j)]))) ?_ (nm_e ⟨vp_in_nI (by omega) (by omega), nm_e (nm_e ?_)⟩))⟩
          · rw [dk_pow _ (by omega), dk_or, dk_mk_snoc ho]
          · rw [List.length_append, List.length_singleton] at hn
            exact hn
    · rw [dk_sf_f (t := fun p => th (5 * s + p)) z]
      obtain ⟨od', b1, b0, b2⟩ := dk_xw75 hs hx hrow hnd hot hle hgr hop hth d (j + 1) l od (by omega) hl hr
      refine ⟨od', b1, b0, fun post J h => ?_⟩
      obtain ⟨n, hn⟩ := b2 post J h
      refine ⟨n + 1, ?_⟩
      simp (disch := omega) only [wX_walk_75, nI_clamp, dk_Na, dk_Ta, dk_Wa, dk_m2, dk_m3, dk_m4, dk_m5, dk_m6, dk_a5, dk_a10, nI_add, nI_1, nI_leI, nI_ltI, nI_eq, dk_le3, dk_le5, dk_le6, dk_le16, dk_le20, dk_le25, dk_le32, dk_le36, dk_le1024, dk_lt0, dk_ge0, dk_lez, dk_eq0, dk_eq1, dk_eq4, dk_eq6, dk_tneg, dk_tpos, dk_teq, dk_tle, dk_e7, hm]
      refine ⟨vp_in_nI hx (by omega), br_f (by omega) ⟨vp_in_nI (by omega) (by omega), nm_e ?_⟩⟩
      refine dk_xb (by omega) (by omega) _ (fun _ => ?_) (fun _ => ?_)
      · exact br_f (by decide) (nm_e hn)
      · simp (disch := omega) only [nI_clamp, dk_Na, dk_Ta, dk_Wa, dk_m2, dk_m3, dk_m4, dk_m5, dk_m6, dk_a5, dk_a10, nI_add, nI_1, nI_leI, nI_ltI, nI_eq, dk_le3, dk_le5, dk_le6, dk_le16, dk_le20, dk_le25, dk_le32, dk_le36, dk_le1024, dk_lt0, dk_ge0, dk_lez, dk_eq0, dk_eq1, dk_eq4, dk_eq6, dk_tneg, dk_tpos, dk_teq, dk_tle]
        exact br_t trivial ⟨vp_in_nI (by omega) (by omega), br_f z (nm_e hn)⟩
theorem dk_xw46 {s p : Nat} (hs : s ≤ 1) (hp : p < 5) (hnd : ∀ x, nd x ≤ 4) (hot : ∀ k, ot k < 5) (hle : ∀ k, le k ≤ 2) (hgr : ∀ k, gr k ≤ 2) (hop : ∀ k, op k ≤ 1) (hth : ∀ i, th i < 4) : ∀ m k (l : List Nat) (od : Nat → Int32), m + k = 5 → dk_ls (fun p => th (5 * s + p)) l → dk_rep od (5 * (5 * s + p)) l →
    ∃ od' : Nat → Int32, dk_rep od' (5 * (5 * s + p)) (dk_bf (dk_ad nd ot (fun p => th (5 * s + p))) m k l) ∧ (∀ i, i < 5 * (5 * s + p) ∨ 5 * (5 * s + p) + 5 ≤ i → od' i = od i) ∧ ∀ post : SX → Prop,
    post (pr, bl, na, sc, fa, st, no, (dk_N kn), (dk_N nd), (dk_N (dk_E ot le gr op)), (dk_N it), (dk_N nm), (dk_N sh), (dk_N ex), (dk_W wl), (dk_N wg), (dk_T th), re, rd, od', (upd on (5 * s + p) (nI (dk_bf (dk_ad nd ot (fun p => th (5 * s + p))) m k l).length)), wh, ss, rf, wi, lv, dm, ch, cg, my, sp, fA, fS, nt) →
    ∃ n, wX_walk_46 post (nI s) (nI p) (nI (5 * (5 * s + p))) pr bl na sc fa st no n (nI l.length) (nI (dk_mk l)) (nI k) (dk_N kn) (dk_N nd) (dk_N (dk_E ot le gr op)) (dk_N it) (dk_N nm) (dk_N sh) (dk_N ex) (dk_W wl) (dk_N wg) (dk_T th) re rd od on wh ss rf wi lv dm ch cg my sp fA fS nt := by
  intro m
  induction m with
  | zero =>
    intro k l od hk hl hr
    have hlen := dk_ls_len hl
    refine ⟨od, hr, fun _ _ => rfl, fun post h => ⟨1, ?_⟩⟩
    rw [dk_bf] at h
    simp (disch := omega) only [wX_walk_46, nI_clamp, dk_Na, dk_Ta, dk_Wa, dk_m2, dk_m3, dk_m4, dk_m5, dk_m6, dk_a5, dk_a10, nI_add, nI_1, nI_leI, nI_ltI, nI_eq, dk_le3, dk_le5, dk_le6, dk_le16, dk_le20, dk_le25, dk_le32, dk_le36, dk_le1024, dk_lt0, dk_ge0, dk_lez, dk_eq0, dk_eq1, dk_eq4, dk_eq6, dk_tneg, dk_tpos, dk_teq, dk_tle, dk_vbb]
    exact br_t (by omega) ⟨vp_in_nI (by omega) (by omega), nm_e h⟩
  | succ m ih =>
    intro k l od hk hl hr
    have hlen := dk_ls_len hl
    by_cases z : k < l.length
    · have hm := dk_getD_mem z
      have e0 := hr k z
      generalize hq : l.getD k 0 = q at *
      obtain ⟨q5, qt⟩ := hl.2 q hm
      have qy := hth (5 * s + q)
      have hx := dk_x15 (t := fun p => th (5 * s + p)) q5 qy
      have ead : dk_ad nd ot (fun p => th (5 * s + p)) q = dk_sf ot (fun p => th (5 * s + p)) (dk_x (fun p => th (5 * s + p)) q) (nd (dk_x (fun p => th (5 * s + p)) q)) 0 := if_pos ⟨q5, qt⟩
      have ebf : dk_bf (dk_ad nd ot (fun p => th (5 * s + p))) (m + 1) k l = dk_bf (dk_ad nd ot (fun p => th (5 * s + p))) m (k + 1) ((dk_ad nd ot (fun p => th (5 * s + p)) q).foldl dk_vis l) := by rw [dk_bf, if_pos z, hq]
      obtain ⟨od1, b1, b0, b2⟩ := dk_xw75 (pr := pr) (bl := bl) (na := na) (sc := sc) (fa := fa) (st := st) (no := no) (kn := kn) (nd := nd) (ot := ot) (le := le) (gr := gr) (op := op) (it := it) (nm := nm) (sh := sh) (ex := ex) (wl := wl) (wg := wg) (th := th) (re := re) (rd := rd) (on := on) (wh := wh) (ss := ss) (rf := rf) (wi := wi) (lv := lv) (dm := dm) (ch := ch) (cg := cg) (my := my) (sp := sp) (fA := fA) (fS := fS) (nt := nt) (p := p) (k := k) (row := 5 * (5 * s + p)) hs hx (by omega) hnd hot hle hgr hop hth (nd (dk_x (fun p => th (5 * s + p)) q)) 0 l od (by omega) hl hr
      rw [← ead] at b1 b2
      have hl' : dk_ls (fun p => th (5 * s + p)) ((dk_ad nd ot (fun p => th (5 * s + p)) q).foldl dk_vis l) := dk_ls_fold _ _ hl (fun x hx => ⟨dk_ad5 hot _ _ hx, ((dk_ad_m _ _ _ _ _).mp hx).2.2.1⟩)
      obtain ⟨od', b3, b4, b5⟩ := ih (k + 1) _ od1 (by omega) hl' b1
      rw [ebf]
      refine ⟨od', b3, fun i hi => by rw [b4 i hi, b0 i hi], fun post h => ?_⟩
      obtain ⟨n, hn⟩ := b5 post h
      refine ⟨n + 1, ?_⟩
      have b6 := b2 post _ hn
      simp (disch := omega) only [wX_walk_46, nI_clamp, dk_Na, dk_Ta, dk_Wa, dk_m2, dk_m3, dk_m4, dk_m5, dk_m6, dk_a5, dk_a10, nI_add, nI_1, nI_leI, nI_ltI, nI_eq, dk_le3, dk_le5, dk_le6, dk_le16, dk_le20, dk_le25, dk_le32, dk_le36, dk_le1024, dk_lt0, dk_ge0, dk_lez, dk_eq0, dk_eq1, dk_eq4, dk_eq6, dk_tneg, dk_tpos, dk_teq, dk_tle]
      rw [e0]
      refine br_f (by omega) ⟨vp_in_nI (by omega) (by omega), dk_xat hs q5 hth _ (fun _ => nm_r (dk_m4 _) b6) (fun y => absurd qt (Nat.not_lt.mpr (Nat.le_of_eq y)))⟩
    · refine ⟨od, ?_, fun _ _ => rfl, fun post h => ⟨1, ?_⟩⟩
      · rw [dk_bf, if_neg z]; exact hr
      rw [dk_bf, if_neg z] at h
      simp (disch := omega) only [wX_walk_46, nI_clamp, dk_Na, dk_Ta, dk_Wa, dk_m2, dk_m3, dk_m4, dk_m5, dk_m6, dk_a5, dk_a10, nI_add, nI_1, nI_leI, nI_ltI, nI_eq, dk_le3, dk_le5, dk_le6, dk_le16, dk_le20, dk_le25, dk_le32, dk_le36, dk_le1024, dk_lt0, dk_ge0, dk_lez, dk_eq0, dk_eq1, dk_eq4, dk_eq6, dk_tneg, dk_tpos, dk_teq, dk_tle, dk_vbb]
      exact br_t (by omega) ⟨vp_in_nI (by omega) (by omega), nm_e h⟩
theorem dk_xwk {s p : Nat} (hs : s ≤ 1) (hp : p < 5) (hnd : ∀ x, nd x ≤ 4) (hot : ∀ k, ot k < 5) (hle : ∀ k, le k ≤ 2) (hgr : ∀ k, gr k ≤ 2) (hop : ∀ k, op k ≤ 1) (hth : ∀ i, th i < 4) :
    ∃ od' : Nat → Int32, dk_rep od' (5 * (5 * s + p)) (dk_lst nd ot (fun p => th (5 * s + p)) p) ∧ (∀ i, i < 5 * (5 * s + p) ∨ 5 * (5 * s + p) + 5 ≤ i → od' i = od i) ∧ ∀ post : SX → Prop,
    post (pr, bl, na, sc, fa, st, no, (dk_N kn), (dk_N nd), (dk_N (dk_E ot le gr op)), (dk_N it), (dk_N nm), (dk_N sh), (dk_N ex), (dk_W wl), (dk_N wg), (dk_T th), re, rd, od', (upd on (5 * s + p) (nI (dk_lst nd ot (fun p => th (5 * s + p)) p).length)), wh, ss, rf, wi, lv, dm, ch, cg, my, sp, fA, fS, nt) → wpX_walk post (pr, bl, na, sc, fa, st, no, (dk_N kn), (dk_N nd), (dk_N (dk_E ot le gr op)), (dk_N it), (dk_N nm), (dk_N sh), (dk_N ex), (dk_W wl), (dk_N wg), (dk_T th), re, rd, od, on, wh, ss, rf, wi, lv, dm, ch, cg, my, sp, fA, fS, nt) (nI s) (nI p) := by
  have a := hth (5 * s + p)
  by_cases z : th (5 * s + p) = 0
  · have e : dk_lst nd ot (fun p => th (5 * s + p)) p = [] := if_pos z
    rw [e]
    refine ⟨od, fun i hi => absurd hi (Nat.not_lt_zero _), fun _ _ => rfl, fun post h => ?_⟩
    simp (disch := omega) only [wpX_walk, nI_clamp, dk_Na, dk_Ta, dk_Wa, dk_m2, dk_m3, dk_m4, dk_m5, dk_m6, dk_a5, dk_a10, nI_add, nI_1, nI_leI, nI_ltI, nI_eq, dk_le3, dk_le5, dk_le6, dk_le16, dk_le20, dk_le25, dk_le32, dk_le36, dk_le1024, dk_lt0, dk_ge0, dk_lez, dk_eq0, dk_eq1, dk_eq4, dk_eq6, dk_tneg, dk_tpos, dk_teq, dk_tle, dk_pow]
    refine nm_e (nm_e ⟨vp_in_nI (by omega) (by omega), br_t z ⟨1, ?_⟩⟩)
    rw [wX_walk_46]
    refine br_t (by decide) ⟨by simp (disch := omega) only [nI_clamp, dk_Na, dk_Ta, dk_Wa, dk_m2, dk_m3, dk_m4, dk_m5, dk_m6, dk_a5, dk_a10, nI_add, nI_1]; exact vp_in_nI (by omega) (by omega), nm_r ?_ h⟩
    simp (disch := omega) only [nI_clamp, dk_Na, dk_Ta, dk_Wa, dk_m2, dk_m3, dk_m4, dk_m5, dk_m6, dk_a5, dk_a10, nI_add, nI_1]
    rfl
  · have e : dk_lst nd ot (fun p => th (5 * s + p)) p = dk_bf (dk_ad nd ot (fun p => th (5 * s + p))) 5 0 [p] := if_neg z
    obtain ⟨od', b1, b2, b3⟩ := dk_xw46 (pr := pr) (bl := bl) (na := na) (sc := sc) (fa := fa) (st := st) (no := no) (kn := kn) (nd := nd) (ot := ot) (le := le) (gr := gr) (op := op) (it := it) (nm := nm) (sh := sh) (ex := ex) (wl := wl) (wg := wg) (th := th) (re := re) (rd := rd) (on := on) (wh := wh) (ss := ss) (rf := rf) (wi := wi) (lv := lv) (dm := dm) (ch := ch) (cg := cg) (my := my) (sp := sp) (fA := fA) (fS := fS) (nt := nt) hs hp hnd hot hle hgr hop hth 5 0 [p] (upd od (5 * (5 * s + p)) (nI p)) rfl ⟨by simp, fun x hx => by rw [List.mem_singleton] at hx; subst hx; exact ⟨hp, by show 0 < th (5 * s + x); omega⟩⟩ (fun i hi => by
      have : i = 0 := by simpa using hi
      subst this; exact pk_us)
    rw [← e] at b1 b3
    refine ⟨od', b1, fun i hi => by rw [b2 i hi, pk_un (by omega)], fun post h => ?_⟩
    have b4 := b3 post h
    simp (disch := omega) only [wpX_walk, nI_clamp, dk_Na, dk_Ta, dk_Wa, dk_m2, dk_m3, dk_m4, dk_m5, dk_m6, dk_a5, dk_a10, nI_add, nI_1, nI_leI, nI_ltI, nI_eq, dk_le3, dk_le5, dk_le6, dk_le16, dk_le20, dk_le25, dk_le32, dk_le36, dk_le1024, dk_lt0, dk_ge0, dk_lez, dk_eq0, dk_eq1, dk_eq4, dk_eq6, dk_tneg, dk_tpos, dk_teq, dk_tle, dk_pow]
    refine nm_e (nm_r (e' := nI (dk_mk [p])) (by rw [dk_mk_1 hp]) ⟨vp_in_nI (by omega) (by omega), br_f z (nm_e ?_)⟩)
    have e0 : nI (5 * (5 * s + p)) + 0 = nI (5 * (5 * s + p)) := nI_add _ 0
    rw [e0, nI_clamp (by omega), dk_vbb (by omega)]
    exact ⟨vp_in_nI (by omega) (by omega), nm_e b4⟩
end
end
section
-- tables packed into a long (four bits a name) and an int (two bits a name)
def dk_H4 (w : Int64) (d : Nat → Nat) : Prop := ∀ n j, n < 12 → j < 4 → w.toBitVec.getLsbD (4 * n + j) = (d n).testBit j
def dk_H2 (w : Int32) (d : Nat → Nat) : Prop := ∀ n j, n < 12 → j < 2 → bt w (2 * n + j) = (d n).testBit j
theorem dk_H4r {w : Int64} {d : Nat → Nat} (h : dk_H4 w d) {n : Nat} (hn : n < 12) (hd : d n < 16) :
    (((w.toUInt64 >>> ((nI (4 * n)).toInt64.toUInt64 &&& Int64.toUInt64 63)).toInt64) &&& 15).toInt32 = nI (d n) := by
  obtain ⟨m, hm, rfl⟩ := wb_of w
  rw [wb_shr hm (by omega)]
  have e : (15 : Int64) = lN (2 ^ 4 - 1) := rfl
  rw [e, wb_mask (Nat.lt_of_le_of_lt (Nat.div_le_self _ _) hm) (by omega), lN_i]
  congr 1
  apply Nat.eq_of_testBit_eq
  intro j
  rw [Nat.testBit_mod_two_pow, Nat.testBit_div_two_pow]
  by_cases hj : j < 4
  · have := h n j hn hj
    rw [wb_tb, BitVec.getLsbD_ofNat] at this
    have h64 : 4 * n + j < 64 := by omega
    rw [← this]
    rw [Nat.add_comm j]
    simp [hj, h64]
  · rw [Nat.testBit_lt_two_pow (i := j) (x := d n) (Nat.lt_of_lt_of_le hd (Nat.pow_le_pow_right (n := 2) (i := 4) (by omega) (by omega)))]
    simp [hj]
theorem dk_H4u {w : Int64} {d : Nat → Nat} (h : dk_H4 w d) {n q : Nat} (hn : n < 12) (hq : q < 5) :
    dk_H4 ((w &&& (((15 : Int64) <<< ((nI (4 * n)).toInt64 &&& 63)) ^^^ (-1))) ||| (((nI q).toInt64 + 1) <<< ((nI (4 * n)).toInt64 &&& 63))) (dk_u d n (q + 1)) := by
  have e : (15 : Int64) = lN 15 := rfl
  rw [e, nI_l (n := q) (by omega), lN_1, wb_shl 15 (by omega), wb_shl (q + 1) (by omega)]
  intro n' j hn' hj
  have h64 : 4 * n' + j < 64 := by omega
  have m1 : (-1 : Int64).toBitVec = BitVec.allOnes 64 := by decide
  rw [Int64.toBitVec_or, Int64.toBitVec_and, Int64.toBitVec_xor, m1, wb_tb, wb_tb, BitVec.getLsbD_or, BitVec.getLsbD_and, BitVec.getLsbD_xor, BitVec.getLsbD_ofNat, BitVec.getLsbD_ofNat, BitVec.getLsbD_allOnes, Nat.testBit_mul_two_pow, Nat.testBit_mul_two_pow, h n' j hn' hj]
  simp only [h64, decide_true, Bool.true_and]
  have e15 : ∀ i, Nat.testBit 15 i = decide (i < 4) := fun i => Nat.testBit_two_pow_sub_one 4 i
  rw [e15]
  by_cases z : n' = n
  · subst z
    rw [dk_us, show 4 * n' + j - 4 * n' = j by omega]
    simp [hj]
  · rw [dk_un z]
    by_cases y : 4 * n ≤ 4 * n' + j
    · have y4 : ¬ 4 * n' + j - 4 * n < 4 := by omega
      have q8 : (q + 1).testBit (4 * n' + j - 4 * n) = false := Nat.testBit_lt_two_pow (Nat.lt_of_lt_of_le (show q + 1 < 2 ^ 4 by omega) (Nat.pow_le_pow_right (n := 2) (by omega) (by omega)))
      simp [y, y4, q8]
    · simp [y]
theorem dk_btn {m i : Nat} (hi : i < 32) : bt (nI m) i = m.testBit i := by
  unfold bt nI
  show (BitVec.ofNat 32 m).getLsbD i = _
  rw [BitVec.getLsbD_ofNat]; simp [hi]
theorem dk_H2r {w : Int32} {d : Nat → Nat} (h : dk_H2 w d) {n : Nat} (hn : n < 12) (hd : d n < 4) :
    ((w.toUInt32 >>> ((nI (2 * n)).toUInt32 &&& Int32.toUInt32 31)).toInt32) &&& 3 = nI (d n) := by
  apply b_ext
  intro i hi
  have e : (3 : Int32) = nI 3 := rfl
  rw [b_and, b_ushr _ (by omega), e, dk_btn hi, dk_btn hi]
  have e3 : ∀ i, Nat.testBit 3 i = decide (i < 2) := fun i => Nat.testBit_two_pow_sub_one 2 i
  rw [e3]
  by_cases hj : i < 2
  · rw [h n i hn hj]; simp [hj]
  · rw [Nat.testBit_lt_two_pow (i := i) (x := d n) (Nat.lt_of_lt_of_le hd (Nat.pow_le_pow_right (n := 2) (i := 2) (by omega) (by omega)))]
    simp [hj]
theorem dk_H2u {w : Int32} {d : Nat → Nat} (h : dk_H2 w d) {n s : Nat} (hn : n < 12) (hs : s < 4) :
    dk_H2 ((w &&& (((3 : Int32) <<< (nI (2 * n) &&& 31)) ^^^ (-1))) ||| (nI s <<< (nI (2 * n) &&& 31))) (dk_u d n s) := by
  intro n' j hn' hj
  have h32 : 2 * n' + j < 32 := by omega
  have e : (3 : Int32) = nI 3 := rfl
  rw [b_or, b_and, b_xor, b_shl _ (by omega) _ h32, b_shl _ (by omega) _ h32, b_m1 _ h32, h n' j hn' hj, e]
  have e3 : ∀ i, Nat.testBit 3 i = decide (i < 2) := fun i => Nat.testBit_two_pow_sub_one 2 i
  rw [dk_btn (by omega), dk_btn (by omega), e3]
  by_cases z : n' = n
  · subst z
    rw [dk_us, show 2 * n' + j - 2 * n' = j by omega]
    simp [hj]
  · rw [dk_un z]
    by_cases y : 2 * n ≤ 2 * n' + j
    · have y4 : ¬ 2 * n' + j - 2 * n < 2 := by omega
      have q8 : s.testBit (2 * n' + j - 2 * n) = false := Nat.testBit_lt_two_pow (Nat.lt_of_lt_of_le (show s < 2 ^ 2 by omega) (Nat.pow_le_pow_right (n := 2) (by omega) (by omega)))
      simp [y, y4, q8]
    · simp [y]
theorem dk_H4_0 : dk_H4 0 (fun _ => 0) := by
  intro n j _ _
  show (0#64).getLsbD _ = _
  simp
theorem dk_H2_0 : dk_H2 0 (fun _ => 0) := by
  intro n j _ _
  rw [b_0]; simp
-- what the items of one plugin do to the tables
def dk_dg (nm ex : Nat → Nat) (q x : Nat) : Nat → Nat → (Nat → Nat) → Nat → Nat
  | 0, _, D => D
  | d + 1, j, D => dk_dg nm ex q x d (j + 1) (if ex (6 * x + j) = 1 then dk_u D (nm (6 * x + j)) (q + 1) else D)
def dk_sg (nm sh ex : Nat → Nat) (x : Nat) : Nat → Nat → (Nat → Nat) → Nat → Nat
  | 0, _, S => S
  | d + 1, j, S => dk_sg nm sh ex x d (j + 1) (if ex (6 * x + j) = 1 then dk_u S (nm (6 * x + j)) (sh (6 * x + j)) else S)
def dk_rg (nm ex : Nat → Nat) (q p x : Nat) : Nat → Nat → Nat → Nat
  | 0, _, m => m
  | d + 1, j, m => dk_rg nm ex q p x d (j + 1) (if ex (6 * x + j) = 1 then m else if q = p then m ||| 2 ^ nm (6 * x + j) else m)
theorem dk_dg_ok (nm ex : Nat → Nat) (q x n : Nat) : ∀ d j D, ((∃ k, j ≤ k ∧ k < j + d ∧ ex (6 * x + k) = 1 ∧ nm (6 * x + k) = n) → dk_dg nm ex q x d j D n = q + 1) ∧ ((¬ ∃ k, j ≤ k ∧ k < j + d ∧ ex (6 * x + k) = 1 ∧ nm (6 * x + k) = n) → dk_dg nm ex q x d j D n = D n)
  | 0, j, D => ⟨fun ⟨k, a, b, _⟩ => by omega, fun _ => rfl⟩
  | d + 1, j, D => by
    rw [dk_dg]
    obtain ⟨i1, i2⟩ := dk_dg_ok nm ex q x n d (j + 1) (if ex (6 * x + j) = 1 then dk_u D (nm (6 * x + j)) (q + 1) else D)
    by_cases z : ∃ k, j + 1 ≤ k ∧ k < j + 1 + d ∧ ex (6 * x + k) = 1 ∧ nm (6 * x + k) = n
    · refine ⟨fun _ => i1 z, fun y => absurd ?_ y⟩
      obtain ⟨k, a, b, c⟩ := z
      exact ⟨k, by omega, by omega, c⟩
    · rw [i2 z]
      by_cases y : ex (6 * x + j) = 1 ∧ nm (6 * x + j) = n
      · rw [if_pos y.1, y.2, dk_us]
        exact ⟨fun _ => rfl, fun w => absurd ⟨j, Nat.le_refl _, by omega, y⟩ w⟩
      · have : (if ex (6 * x + j) = 1 then dk_u D (nm (6 * x + j)) (q + 1) else D) n = D n := by
          by_cases w : ex (6 * x + j) = 1
          · rw [if_pos w, dk_un (fun e => y ⟨w, e.symm⟩)]
          · rw [if_neg w]
        rw [this]
        refine ⟨fun ⟨k, a, b, c⟩ => absurd ⟨k, ?_, by omega, c⟩ z, fun _ => rfl⟩
        have : k ≠ j := fun e => y (e ▸ c)
        omega
theorem dk_sg_ok (nm sh ex : Nat → Nat) (x n : Nat) : ∀ d j S, (∃ k, j ≤ k ∧ k < j + d ∧ ex (6 * x + k) = 1 ∧ nm (6 * x + k) = n ∧ sh (6 * x + k) = dk_sg nm sh ex x d j S n) ∨ ((¬ ∃ k, j ≤ k ∧ k < j + d ∧ ex (6 * x + k) = 1 ∧ nm (6 * x + k) = n) ∧ dk_sg nm sh ex x d j S n = S n)
  | 0, j, S => Or.inr ⟨fun ⟨k, a, b, _⟩ => by omega, rfl⟩
  | d + 1, j, S => by
    rw [dk_sg]
    rcases dk_sg_ok nm sh ex x n d (j + 1) (if ex (6 * x + j) = 1 then dk_u S (nm (6 * x + j)) (sh (6 * x + j)) else S) with ⟨k, a, b, c⟩ | ⟨z, e⟩
    · exact Or.inl ⟨k, by omega, by omega, c⟩
    · by_cases y : ex (6 * x + j) = 1 ∧ nm (6 * x + j) = n
      · refine Or.inl ⟨j, Nat.le_refl _, by omega, y.1, y.2, ?_⟩
        rw [e, if_pos y.1, y.2, dk_us]
      · refine Or.inr ⟨fun ⟨k, a, b, c⟩ => z ⟨k, ?_, by omega, c⟩, ?_⟩
        · have : k ≠ j := fun e => y (e ▸ c)
          omega
        · rw [e]
          by_cases w : ex (6 * x + j) = 1
          · rw [if_pos w, dk_un (fun e => y ⟨w, e.symm⟩)]
          · rw [if_neg w]
theorem dk_rg_ok (nm ex : Nat → Nat) (q p x : Nat) (hnm : ∀ k, nm k < 12) : ∀ d j m, m < 4096 → dk_rg nm ex q p x d j m < 4096 ∧ ∀ n, (dk_rg nm ex q p x d j m).testBit n = true ↔ m.testBit n = true ∨ (q = p ∧ ∃ k, j ≤ k ∧ k < j + d ∧ ¬ ex (6 * x + k) = 1 ∧ nm (6 * x + k) = n)
  | 0, j, m, hm => ⟨hm, fun n => ⟨Or.inl, fun h => h.elim id (fun ⟨_, k, a, b, _⟩ => by omega)⟩⟩
  | d + 1, j, m, hm => by
    rw [dk_rg]
    have hm' : (if ex (6 * x + j) = 1 then m else if q = p then m ||| 2 ^ nm (6 * x + j) else m) < 4096 := by
      split
      · exact hm
      · split
        · exact Nat.or_lt_two_pow (n := 12) hm (Nat.pow_lt_pow_right (by omega) (hnm _))
        · exact hm
    obtain ⟨a, b⟩ := dk_rg_ok nm ex q p x hnm d (j + 1) _ hm'
    refine ⟨a, fun n => ?_⟩
    rw [b n]
    by_cases y : ex (6 * x + j) = 1
    · rw [if_pos y]
      constructor
      · rintro (h | ⟨h, k, c1, c2, c3⟩)
        · exact Or.inl h
        · exact Or.inr ⟨h, k, by omega, by omega, c3⟩
      · rintro (h | ⟨h, k, c1, c2, c3, c4⟩)
        · exact Or.inl h
        · have : k ≠ j := fun e => c3 (e ▸ y)
          exact Or.inr ⟨h, k, by omega, by omega, c3, c4⟩
    · rw [if_neg y]
      by_cases w : q = p
      · rw [if_pos w, Nat.testBit_or, Bool.or_eq_true, dk_tp2, decide_eq_true_iff]
        constructor
        · rintro ((h | h) | ⟨h, k, c1, c2, c3⟩)
          · exact Or.inl h
          · exact Or.inr ⟨w, j, Nat.le_refl _, by omega, y, h⟩
          · exact Or.inr ⟨h, k, by omega, by omega, c3⟩
        · rintro (h | ⟨h, k, c1, c2, c3, c4⟩)
          · exact Or.inl (Or.inl h)
          · by_cases e : k = j
            · subst e; exact Or.inl (Or.inr c4)
            · exact Or.inr ⟨h, k, by omega, by omega, c3, c4⟩
      · rw [if_neg w]
        constructor
        · rintro (h | ⟨h, _⟩)
          · exact Or.inl h
          · exact absurd h w
        · rintro (h | ⟨h, _⟩)
          · exact Or.inl h
          · exact absurd h w
theorem dk_am1 (x : Int32) : x + (-1) = x - 1 := (Int32.sub_eq_add_neg ..).symm
end
section
section
variable {pr bl na sc fa st no : Int32} {kn nd ot le gr op it nm sh ex wl wg th : Nat → Nat} {re rd od on : Nat → Int32} {wh : Nat → Int64} {ss rf wi lv dm ch cg my sp fA fS nt : Nat → Int32}
theorem dk_xl59 {s p k q x : Nat} (hx : x < 15) (hq : q < 5) (hp : p < 5) (hit : ∀ x, it x ≤ 6) (hnm : ∀ k, nm k < 12) (hsh : ∀ k, sh k < 4) (hex : ∀ k, ex k ≤ 1) : ∀ d j (w : Int64) (v : Int32) (m : Nat) (D S : Nat → Nat), j + d = it x → dk_H4 w D → dk_H2 v S → m < 4096 →
    ∃ (w' : Int64) (v' : Int32), dk_H4 w' (dk_dg nm ex q x d j D) ∧ dk_H2 v' (dk_sg nm sh ex x d j S) ∧ ∀ (post : SX → Prop) J, J w' v' (nI (dk_rg nm ex q p x d j m)) (nI k - 1) →
    ∃ n, wX_look_59 post J (nI s) (nI p) (nI (5 * s + p)) (nI k) (nI q) (nI x) pr bl na sc fa st no (dk_N kn) (dk_N nd) (dk_N (dk_E ot le gr op)) (dk_N it) (dk_N nm) (dk_N sh) (dk_N ex) (dk_W wl) (dk_N wg) (dk_T th) re rd od on wh ss rf wi lv dm ch cg my sp fA fS nt n w v (nI m) (nI (6 * x + j))
  | 0, j, w, v, m, D, S, hj, hw, hv, hm => by
    have := hit x
    refine ⟨w, v, hw, hv, fun post J h => ⟨1, ?_⟩⟩
    simp (disch := omega) only [wX_look_59, nI_clamp, dk_Na, dk_Ta, dk_Wa, dk_m2, dk_m3, dk_m4, dk_m5, dk_m6, dk_a5, dk_a10, nI_add, nI_1, nI_leI, nI_ltI, nI_eq, dk_le3, dk_le5, dk_le6, dk_le16, dk_le20, dk_le25, dk_le32, dk_le36, dk_le1024, dk_lt0, dk_ge0, dk_lez, dk_eq0, dk_eq1, dk_eq4, dk_eq6, dk_tneg, dk_tpos, dk_teq, dk_tle, dk_am1]
    exact ⟨vp_in_nI hx (by omega), br_t (by omega) (nm_e h)⟩
  | d + 1, j, w, v, m, D, S, hj, hw, hv, hm => by
    have hi := hit x
    have hn := hnm (6 * x + j)
    have hs := hsh (6 * x + j)
    have he := hex (6 * x + j)
    by_cases z : ex (6 * x + j) = 1
    · obtain ⟨w', v', b1, b2, b3⟩ := dk_xl59 (s := s) (p := p) (k := k) hx hq hp hit hnm hsh hex d (j + 1) _ _ m _ _ (by omega) (dk_H4u hw hn hq) (dk_H2u hv hn hs) hm
      refine ⟨w', v', ?_, ?_, fun post J h => ?_⟩
      · rw [dk_dg, if_pos z]; exact b1
      · rw [dk_sg, if_pos z]; exact b2
      rw [dk_rg, if_pos z] at h
      obtain ⟨n, hn⟩ := b3 post J h
      refine ⟨n + 1, ?_⟩
      simp (disch := omega) only [wX_look_59, nI_clamp, dk_Na, dk_Ta, dk_Wa, dk_m2, dk_m3, dk_m4, dk_m5, dk_m6, dk_a5, dk_a10, nI_add, nI_1, nI_leI, nI_ltI, nI_eq, dk_le3, dk_le5, dk_le6, dk_le16, dk_le20, dk_le25, dk_le32, dk_le36, dk_le1024, dk_lt0, dk_ge0, dk_lez, dk_eq0, dk_eq1, dk_eq4, dk_eq6, dk_tneg, dk_tpos, dk_teq, dk_tle]
      refine ⟨vp_in_nI hx (by omega), br_f (by omega) ⟨vp_in_nI (by omega) (by omega), nm_e ⟨vp_in_nI (by omega) (by omega), br_f (by omega) ?_⟩⟩⟩
      simp (disch := omega) only [nI_clamp, dk_Na, dk_Ta, dk_Wa, dk_m2, dk_m3, dk_m4, dk_m5, dk_m6, dk_a5, dk_a10, nI_add, nI_1]
      exact nm_e ⟨vp_in_nI (by omega) (by omega), nm_e (nm_e hn)⟩
    · have hm' : (if q = p then m ||| 2 ^ nm (6 * x + j) else m) < 4096 := by
        split
        · exact Nat.or_lt_two_pow (n := 12) hm (Nat.pow_lt_pow_right (by omega) hn)
        · exact hm
      obtain ⟨w', v', b1, b2, b3⟩ := dk_xl59 (s := s) (p := p) (k := k) hx hq hp hit hnm hsh hex d (j + 1) w v (if q = p then m ||| 2 ^ nm (6 * x + j) else m) D S (by omega) hw hv hm'
      refine ⟨w', v', ?_, ?_, fun post J h => ?_⟩
      · rw [dk_dg, if_neg z]; exact b1
      · rw [dk_sg, if_neg z]; exact b2
      rw [dk_rg, if_neg z] at h
      obtain ⟨n, hn⟩ := b3 post J h
      refine ⟨n + 1, ?_⟩
      simp (disch := omega) only [wX_look_59, nI_clamp, dk_Na, dk_Ta, dk_Wa, dk_m2, dk_m3, dk_m4, dk_m5, dk_m6, dk_a5, dk_a10, nI_add, nI_1, nI_leI, nI_ltI, nI_eq, dk_le3, dk_le5, dk_le6, dk_le16, dk_le20, dk_le25, dk_le32, dk_le36, dk_le1024, dk_lt0, dk_ge0, dk_lez, dk_eq0, dk_eq1, dk_eq4, dk_eq6, dk_tneg, dk_tpos, dk_teq, dk_tle]
      refine ⟨vp_in_nI hx (by omega), br_f (by omega) ⟨vp_in_nI (by omega) (by omega), nm_e ⟨vp_in_nI (by omega) (by omega), br_t (by omega) ?_⟩⟩⟩
      by_cases y : q = p
      · rw [if_pos y] at hn
        exact br_t y (nm_r (by rw [dk_pow _ (by omega), dk_or]) (nm_e hn))
      · rw [if_neg y] at hn
        exact br_f y (nm_e hn)
/-- the tables of a plugin, from its list of those come upon -/
def dk_Lk (it nm sh ex t : Nat → Nat) (p : Nat) (l : List Nat) (w : Int64) (v : Int32) (m : Nat) : Prop :=
  dk_H4 w (fun n => dk_pl (dk_Ex it nm ex t n) l) ∧ (∃ S : Nat → Nat, dk_H2 v S ∧ (∀ n, n < 12 → S n < 4) ∧ ∀ n q, dk_pl (dk_Ex it nm ex t n) l = q + 1 → dk_Sp it nm sh ex t n (S n) q) ∧ m < 4096 ∧ ∀ n, m.testBit n = true ↔ p ∈ l ∧ dk_Rf it nm ex t n p
theorem dk_Lk_0 (it nm sh ex t : Nat → Nat) (p : Nat) : dk_Lk it nm sh ex t p [] 0 0 0 :=
  ⟨dk_H4_0, ⟨fun _ => 0, dk_H2_0, fun _ _ => (by decide : (0 : Nat) < 4), fun n q h => absurd h (by simp [dk_pl])⟩, by omega, fun n => by simp⟩
theorem dk_Lk_s {t : Nat → Nat} {p q : Nat} {l : List Nat} {w w' : Int64} {v v' : Int32} {m : Nat} {S : Nat → Nat} (hnm : ∀ k, nm k < 12) (hsh : ∀ k, sh k < 4) (hex : ∀ k, ex k ≤ 1) (hq : q < 5) (ht : 0 < t q) (hS : ∀ n, n < 12 → S n < 4) (hSp : ∀ n q, dk_pl (dk_Ex it nm ex t n) l = q + 1 → dk_Sp it nm sh ex t n (S n) q) (hm : m < 4096) (hmb : ∀ n, m.testBit n = true ↔ p ∈ l ∧ dk_Rf it nm ex t n p)
    (h1 : dk_H4 w' (dk_dg nm ex q (dk_x t q) (it (dk_x t q)) 0 (fun n => dk_pl (dk_Ex it nm ex t n) l))) (h2 : dk_H2 v' (dk_sg nm sh ex (dk_x t q) (it (dk_x t q)) 0 S)) :
    dk_Lk it nm sh ex t p (q :: l) w' v' (dk_rg nm ex q p (dk_x t q) (it (dk_x t q)) 0 m) := by
  have eE : ∀ n, (∃ k, 0 ≤ k ∧ k < 0 + it (dk_x t q) ∧ ex (6 * dk_x t q + k) = 1 ∧ nm (6 * dk_x t q + k) = n) ↔ dk_Ex it nm ex t n q := fun n => ⟨fun ⟨k, _, a, b⟩ => ⟨hq, ht, k, by omega, b⟩, fun ⟨_, _, k, a, b⟩ => ⟨k, Nat.zero_le _, by omega, b⟩⟩
  refine ⟨?_, ⟨_, h2, fun n hn => ?_, fun n q' h => ?_⟩, ?_, fun n => ?_⟩
  · have : (fun n => dk_pl (dk_Ex it nm ex t n) (q :: l)) = dk_dg nm ex q (dk_x t q) (it (dk_x t q)) 0 (fun n => dk_pl (dk_Ex it nm ex t n) l) := by
      funext n
      have := dk_dg_ok nm ex q (dk_x t q) n (it (dk_x t q)) 0 (fun n => dk_pl (dk_Ex it nm ex t n) l)
      rw [eE] at this
      by_cases z : dk_Ex it nm ex t n q
      · rw [dk_pl_t z, this.1 z]
      · rw [dk_pl_f z, this.2 z]
    rw [this]; exact h1
  · rcases dk_sg_ok nm sh ex (dk_x t q) n (it (dk_x t q)) 0 S with ⟨k, _, _, _, _, e⟩ | ⟨_, e⟩
    · rw [← e]; exact hsh _
    · rw [e]; exact hS n hn
  · rcases dk_sg_ok nm sh ex (dk_x t q) n (it (dk_x t q)) 0 S with ⟨k, a, b, c, d, e⟩ | ⟨z, e⟩
    · have hE : dk_Ex it nm ex t n q := ⟨hq, ht, k, by omega, c, d⟩
      rw [dk_pl_t hE] at h
      have : q' = q := by omega
      subst this
      exact ⟨hq, ht, k, by omega, c, d, e⟩
    · rw [eE] at z
      rw [dk_pl_f z] at h
      rw [e]; exact hSp n q' h
  · exact (dk_rg_ok nm ex q p (dk_x t q) hnm (it (dk_x t q)) 0 m hm).1
  · rw [(dk_rg_ok nm ex q p (dk_x t q) hnm (it (dk_x t q)) 0 m hm).2 n, hmb n, List.mem_cons]
    constructor
    · rintro (h | ⟨e, k, a, b, c, d⟩)
      · exact ⟨Or.inr h.1, h.2⟩
      · subst e
        have := hex (6 * dk_x t q + k)
        exact ⟨Or.inl rfl, hq, ht, k, by omega, by omega, d⟩
    · rintro ⟨h | h, r⟩
      · subst h
        obtain ⟨_, _, k, a, b, c⟩ := r
        exact Or.inr ⟨rfl, k, Nat.zero_le _, by omega, by omega, c⟩
      · exact Or.inl ⟨h, r⟩
theorem dk_xl25 {s p : Nat} (hs : s ≤ 1) (hp : p < 5) (hth : ∀ i, th i < 4) (hit : ∀ x, it x ≤ 6) (hnm : ∀ k, nm k < 12) (hsh : ∀ k, sh k < 4) (hex : ∀ k, ex k ≤ 1) {l : List Nat} (hl : dk_ls (fun p => th (5 * s + p)) l) (hr : dk_rep od (5 * (5 * s + p)) l) : ∀ c (w : Int64) (v : Int32) (m : Nat), c ≤ l.length → dk_Lk it nm sh ex (fun p => th (5 * s + p)) p (l.drop c) w v m →
    ∃ (w' : Int64) (v' : Int32) (m' : Nat), dk_Lk it nm sh ex (fun p => th (5 * s + p)) p l w' v' m' ∧ ∀ post : SX → Prop, post (pr, bl, na, sc, fa, st, no, (dk_N kn), (dk_N nd), (dk_N (dk_E ot le gr op)), (dk_N it), (dk_N nm), (dk_N sh), (dk_N ex), (dk_W wl), (dk_N wg), (dk_T th), re, rd, od, on, (vp_updL wh (5 * s + p) w'), (upd ss (5 * s + p) v'), (upd rf (5 * s + p) (nI m')), wi, lv, dm, ch, cg, my, sp, fA, fS, nt) →
    ∃ n, wX_look_25 post (nI s) (nI p) (nI (5 * s + p)) pr bl na sc fa st no (dk_N kn) (dk_N nd) (dk_N (dk_E ot le gr op)) (dk_N it) (dk_N nm) (dk_N sh) (dk_N ex) (dk_W wl) (dk_N wg) (dk_T th) re rd od on wh ss rf wi lv dm ch cg my sp fA fS nt n w v (nI m) (nI c - 1)
  | 0, w, v, m, hc, h => by
    rw [List.drop_zero] at h
    have hm := h.2.2.1
    refine ⟨w, v, m, h, fun post h' => ⟨1, ?_⟩⟩
    simp (disch := omega) only [wX_look_25, nI_clamp, dk_Na, dk_Ta, dk_Wa, dk_m2, dk_m3, dk_m4, dk_m5, dk_m6, dk_a5, dk_a10, nI_add, nI_1, nI_leI, nI_ltI, nI_eq, dk_le3, dk_le5, dk_le6, dk_le16, dk_le20, dk_le25, dk_le32, dk_le36, dk_le1024, dk_lt0, dk_ge0, dk_lez, dk_eq0, dk_eq1, dk_eq4, dk_eq6, dk_tneg, dk_tpos, dk_teq, dk_tle, dk_vss]
    exact br_t trivial ⟨vp_in_nI (by omega) (by omega), nm_e ⟨vp_in_nI (by omega) (by omega), nm_e ⟨vp_in_nI (by omega) (by omega), nm_e h'⟩⟩⟩
  | c + 1, w, v, m, hc, h => by
    have hc' : c < l.length := by omega
    have hlen := dk_ls_len hl
    have e0 := hr c hc'
    have hm := dk_getD_mem hc'
    have ed : l.drop c = l.getD c 0 :: l.drop (c + 1) := by
      have := dk_drop_app (l := l) (m := []) hc'
      simpa using this
    generalize hq : l.getD c 0 = q at *
    obtain ⟨q5, qt⟩ := hl.2 q hm
    have qy := hth (5 * s + q)
    have hx := dk_x15 (t := fun p => th (5 * s + p)) q5 qy
    obtain ⟨h1, ⟨S, h2, h3, h4⟩, h5, h6⟩ := h
    obtain ⟨w1, v1, b1, b2, b3⟩ := dk_xl59 (pr := pr) (bl := bl) (na := na) (sc := sc) (fa := fa) (st := st) (no := no) (kn := kn) (nd := nd) (ot := ot) (le := le) (gr := gr) (op := op) (it := it) (nm := nm) (sh := sh) (ex := ex) (wl := wl) (wg := wg) (th := th) (re := re) (rd := rd) (od := od) (on := on) (wh := wh) (ss := ss) (rf := rf) (wi := wi) (lv := lv) (dm := dm) (ch := ch) (cg := cg) (my := my) (sp := sp) (fA := fA) (fS := fS) (nt := nt) (s := s) (p := p) (k := c) hx q5 hp hit hnm hsh hex (it (dk_x (fun p => th (5 * s + p)) q)) 0 w v m _ S (by omega) h1 h2 h5
    have := dk_Lk_s (t := fun p => th (5 * s + p)) (w := w) (v := v) hnm hsh hex q5 qt h3 h4 h5 h6 b1 b2
    rw [← ed] at this
    obtain ⟨w', v', m', c1, c2⟩ := dk_xl25 hs hp hth hit hnm hsh hex hl hr c w1 v1 _ (by omega) this
    refine ⟨w', v', m', c1, fun post h => ?_⟩
    obtain ⟨n, hn⟩ := c2 post h
    refine ⟨n + 1, ?_⟩
    have b4 := b3 post _ hn
    rw [nI_succ, Int32.add_sub_cancel]
    simp (disch := omega) only [wX_look_25, nI_clamp, dk_Na, dk_Ta, dk_Wa, dk_m2, dk_m3, dk_m4, dk_m5, dk_m6, dk_a5, dk_a10, nI_add, nI_1, nI_leI, nI_ltI, nI_eq, dk_le3, dk_le5, dk_le6, dk_le16, dk_le20, dk_le25, dk_le32, dk_le36, dk_le1024, dk_lt0, dk_ge0, dk_lez, dk_eq0, dk_eq1, dk_eq4, dk_eq6, dk_tneg, dk_tpos, dk_teq, dk_tle]
    refine br_f (fun y => y) ⟨vp_in_nI (by omega) (by omega), nm_r e0 (dk_xat hs q5 hth _ (fun _ => nm_r (dk_m6 _) b4) (fun y => absurd qt (Nat.not_lt.mpr (Nat.le_of_eq y))))⟩
theorem dk_xlk {s p : Nat} (hs : s ≤ 1) (hp : p < 5) (hth : ∀ i, th i < 4) (hit : ∀ x, it x ≤ 6) (hnm : ∀ k, nm k < 12) (hsh : ∀ k, sh k < 4) (hex : ∀ k, ex k ≤ 1) {l : List Nat} (hl : dk_ls (fun p => th (5 * s + p)) l) (hr : dk_rep od (5 * (5 * s + p)) l) (ho : on (5 * s + p) = nI l.length) :
    ∃ (w' : Int64) (v' : Int32) (m' : Nat), dk_Lk it nm sh ex (fun p => th (5 * s + p)) p l w' v' m' ∧ ∀ post : SX → Prop, post (pr, bl, na, sc, fa, st, no, (dk_N kn), (dk_N nd), (dk_N (dk_E ot le gr op)), (dk_N it), (dk_N nm), (dk_N sh), (dk_N ex), (dk_W wl), (dk_N wg), (dk_T th), re, rd, od, on, (vp_updL wh (5 * s + p) w'), (upd ss (5 * s + p) v'), (upd rf (5 * s + p) (nI m')), wi, lv, dm, ch, cg, my, sp, fA, fS, nt) → wpX_look post (pr, bl, na, sc, fa, st, no, (dk_N kn), (dk_N nd), (dk_N (dk_E ot le gr op)), (dk_N it), (dk_N nm), (dk_N sh), (dk_N ex), (dk_W wl), (dk_N wg), (dk_T th), re, rd, od, on, wh, ss, rf, wi, lv, dm, ch, cg, my, sp, fA, fS, nt) (nI s) (nI p) := by
  obtain ⟨w', v', m', c1, c2⟩ := dk_xl25 (pr := pr) (bl := bl) (na := na) (sc := sc) (fa := fa) (st := st) (no := no) (kn := kn) (nd := nd) (ot := ot) (le := le) (gr := gr) (op := op) (it := it) (nm := nm) (sh := sh) (ex := ex) (wl := wl) (wg := wg) (th := th) (re := re) (rd := rd) (od := od) (on := on) (wh := wh) (ss := ss) (rf := rf) (wi := wi) (lv := lv) (dm := dm) (ch := ch) (cg := cg) (my := my) (sp := sp) (fA := fA) (fS := fS) (nt := nt) hs hp hth hit hnm hsh hex hl hr l.length 0 0 0 (Nat.le_refl _) (by rw [List.drop_length]; exact dk_Lk_0 ..)
  refine ⟨w', v', m', c1, fun post h => ?_⟩
  have := c2 post h
  simp (disch := omega) only [wpX_look, nI_clamp, dk_Na, dk_Ta, dk_Wa, dk_m2, dk_m3, dk_m4, dk_m5, dk_m6, dk_a5, dk_a10, nI_add, nI_1]
  refine nm_e ⟨vp_in_nI (by omega) (by omega), nm_r (by rw [nI_clamp (by omega), ho]) this⟩
end
end
section
/-- the tables of a state are right -/
def dk_Wi (nd ot it nm sh ex t : Nat → Nat) (s : Nat) (re rd : Nat → Int32) (wh : Nat → Int64) (ss rf : Nat → Int32) : Prop :=
  ∀ p, p < 5 → re (5 * s + p) = nI (dk_reM (dk_ad nd ot t) p) ∧ rd (5 * s + p) = nI (dk_rdM (dk_ad nd ot t) p) ∧ ∃ m, dk_Lk it nm sh ex t p (dk_lst nd ot t p) (wh (5 * s + p)) (ss (5 * s + p)) m ∧ rf (5 * s + p) = nI m
/-- nothing changes outside the rows of a state -/
def dk_Fr {α : Type} (s : Nat) (a a' : Nat → α) : Prop := ∀ i, i < 5 * s ∨ 5 * s + 5 ≤ i → a' i = a i
theorem dk_Fr_r {α : Type} {s : Nat} {a : Nat → α} : dk_Fr s a a := fun _ _ => rfl
theorem dk_Fr_t {α : Type} {s : Nat} {a b c : Nat → α} (h : dk_Fr s a b) (h' : dk_Fr s b c) : dk_Fr s a c := fun i hi => (h' i hi).trans (h i hi)
theorem dk_Fr_u {s p : Nat} {a : Nat → Int32} {x : Int32} (hp : p < 5) : dk_Fr s a (upd a (5 * s + p) x) := fun i hi => pk_un (by omega)
theorem dk_Fr_uL {s p : Nat} {a : Nat → Int64} {x : Int64} (hp : p < 5) : dk_Fr s a (vp_updL a (5 * s + p) x) := fun i hi => pk_uLn (by omega)
theorem dk_take_s {l : List Nat} {j : Nat} (h1 : 1 ≤ j) (h : j < l.length) : (l.take (j + 1)).drop 1 = (l.take j).drop 1 ++ [l.getD j 0] := by
  rw [List.take_succ, List.getElem?_eq_getElem h, Option.toList_some, List.drop_append_of_le_length (by rw [List.length_take]; omega), List.getD_eq_getElem?_getD, List.getElem?_eq_getElem h]
  rfl
section
variable {pr bl na sc fa st no : Int32} {kn nd ot le gr op it nm sh ex wl wg th : Nat → Nat} {re rd od on : Nat → Int32} {wh : Nat → Int64} {ss rf wi lv dm ch cg my sp fA fS nt : Nat → Int32}
theorem dk_xw40 {s p : Nat} (hs : s ≤ 1) (hp : p < 5) {l : List Nat} (hl : l.length ≤ 5) (h5 : ∀ x, x ∈ l → x < 5) (hr : dk_rep od (5 * (5 * s + p)) l) (ho : on (5 * s + p) = nI l.length) (post : SX → Prop) (J) (h : J (nI (p + 1)) pr bl na sc fa st no (dk_N kn) (dk_N nd) (dk_N (dk_E ot le gr op)) (dk_N it) (dk_N nm) (dk_N sh) (dk_N ex) (dk_W wl) (dk_N wg) (dk_T th) (upd re (5 * s + p) (nI (dk_mk (l.drop 1)))) rd od on wh ss rf wi lv dm ch cg my sp fA fS nt) : ∀ d j, 1 ≤ j → j ≤ 5 → l.length ≤ j + d →
    ∃ n, wX_wire_40 post J (nI s) (nI (5 * s)) (nI p) pr bl na sc fa st no (dk_N kn) (dk_N nd) (dk_N (dk_E ot le gr op)) (dk_N it) (dk_N nm) (dk_N sh) (dk_N ex) (dk_W wl) (dk_N wg) (dk_T th) re rd od on wh ss rf wi lv dm ch cg my sp fA fS nt n (nI (dk_mk ((l.take j).drop 1))) (nI j) := by
  intro d
  induction d with
  | zero =>
    intro j h1 hj hd
    refine ⟨1, ?_⟩
    have hm := dk_mkL (l.drop 1)
    rw [List.take_of_length_le (by omega)]
    simp (disch := omega) only [wX_wire_40, nI_clamp, dk_Na, dk_Ta, dk_Wa, dk_m2, dk_m3, dk_m4, dk_m5, dk_m6, dk_a5, dk_a10, nI_add, nI_1, ho, nI_leI, nI_ltI, nI_eq, dk_le3, dk_le5, dk_le6, dk_le16, dk_le20, dk_le25, dk_le32, dk_le36, dk_le1024, dk_lt0, dk_ge0, dk_lez, dk_eq0, dk_eq1, dk_eq4, dk_eq6, dk_tneg, dk_tpos, dk_teq, dk_tle, dk_vbb]
    exact ⟨vp_in_nI (by omega) (by omega), br_t (by omega) ⟨vp_in_nI (by omega) (by omega), nm_e (nm_e h)⟩⟩
  | succ d ih =>
    intro j h1 hj hd
    by_cases z : j < l.length
    · obtain ⟨n, hn⟩ := ih (j + 1) (by omega) (by omega) (by omega)
      refine ⟨n + 1, ?_⟩
      have e0 := hr j z
      have m5 := h5 _ (dk_getD_mem z)
      rw [dk_take_s h1 z, ← dk_mk_snoc m5] at hn
      simp (disch := omega) only [wX_wire_40, nI_clamp, dk_Na, dk_Ta, dk_Wa, dk_m2, dk_m3, dk_m4, dk_m5, dk_m6, dk_a5, dk_a10, nI_add, nI_1, ho, nI_leI, nI_ltI, nI_eq, dk_le3, dk_le5, dk_le6, dk_le16, dk_le20, dk_le25, dk_le32, dk_le36, dk_le1024, dk_lt0, dk_ge0, dk_lez, dk_eq0, dk_eq1, dk_eq4, dk_eq6, dk_tneg, dk_tpos, dk_teq, dk_tle, e0, dk_pow, dk_or]
      exact ⟨vp_in_nI (by omega) (by omega), br_f (by omega) ⟨vp_in_nI (by omega) (by omega), nm_e (nm_e hn)⟩⟩
    · refine ⟨1, ?_⟩
      have hm := dk_mkL (l.drop 1)
      rw [List.take_of_length_le (by omega)]
      simp (disch := omega) only [wX_wire_40, nI_clamp, dk_Na, dk_Ta, dk_Wa, dk_m2, dk_m3, dk_m4, dk_m5, dk_m6, dk_a5, dk_a10, nI_add, nI_1, ho, nI_leI, nI_ltI, nI_eq, dk_le3, dk_le5, dk_le6, dk_le16, dk_le20, dk_le25, dk_le32, dk_le36, dk_le1024, dk_lt0, dk_ge0, dk_lez, dk_eq0, dk_eq1, dk_eq4, dk_eq6, dk_tneg, dk_tpos, dk_teq, dk_tle, dk_vbb]
      exact ⟨vp_in_nI (by omega) (by omega), br_t (by omega) ⟨vp_in_nI (by omega) (by omega), nm_e (nm_e h)⟩⟩
theorem dk_xw23 {s : Nat} (hs : s ≤ 1) (hnd : ∀ x, nd x ≤ 4) (hot : ∀ k, ot k < 5) (hle : ∀ k, le k ≤ 2) (hgr : ∀ k, gr k ≤ 2) (hop : ∀ k, op k ≤ 1) (hth : ∀ i, th i < 4) : ∀ d j (re od on : Nat → Int32), j + d = 5 →
    (∀ p, p < j → re (5 * s + p) = nI (dk_reM (dk_ad nd ot (fun p => th (5 * s + p))) p) ∧ dk_rep od (5 * (5 * s + p)) (dk_lst nd ot (fun p => th (5 * s + p)) p) ∧ on (5 * s + p) = nI (dk_lst nd ot (fun p => th (5 * s + p)) p).length) →
    ∃ re' od' on' : Nat → Int32, (∀ p, p < 5 → re' (5 * s + p) = nI (dk_reM (dk_ad nd ot (fun p => th (5 * s + p))) p) ∧ dk_rep od' (5 * (5 * s + p)) (dk_lst nd ot (fun p => th (5 * s + p)) p) ∧ on' (5 * s + p) = nI (dk_lst nd ot (fun p => th (5 * s + p)) p).length) ∧ dk_Fr s re re' ∧
    ∀ post : SX → Prop, (∃ n98, wX_wire_98 post (nI s) (nI (5 * s)) pr bl na sc fa st no n98 0 (dk_N kn) (dk_N nd) (dk_N (dk_E ot le gr op)) (dk_N it) (dk_N nm) (dk_N sh) (dk_N ex) (dk_W wl) (dk_N wg) (dk_T th) re' rd od' on' wh ss rf wi lv dm ch cg my sp fA fS nt) → ∃ n, wX_wire_23 post (nI s) (nI (5 * s)) n (nI j) pr bl na sc fa st no (dk_N kn) (dk_N nd) (dk_N (dk_E ot le gr op)) (dk_N it) (dk_N nm) (dk_N sh) (dk_N ex) (dk_W wl) (dk_N wg) (dk_T th) re rd od on wh ss rf wi lv dm ch cg my sp fA fS nt
  | 0, j, re, od, on, hj, h => by
    have : j = 5 := by omega
    subst this
    exact ⟨re, od, on, h, dk_Fr_r, fun post h => ⟨1, br_t (by decide) h⟩⟩
  | d + 1, j, re, od, on, hj, h => by
    have hls := dk_lst_ls (nd := nd) (t := fun p => th (5 * s + p)) hot (p := j) (by omega)
    obtain ⟨od1, b1, b2, b3⟩ := dk_xwk (pr := pr) (bl := bl) (na := na) (sc := sc) (fa := fa) (st := st) (no := no) (kn := kn) (nd := nd) (ot := ot) (le := le) (gr := gr) (op := op) (it := it) (nm := nm) (sh := sh) (ex := ex) (wl := wl) (wg := wg) (th := th) (re := re) (rd := rd) (od := od) (on := on) (wh := wh) (ss := ss) (rf := rf) (wi := wi) (lv := lv) (dm := dm) (ch := ch) (cg := cg) (my := my) (sp := sp) (fA := fA) (fS := fS) (nt := nt) hs (p := j) (by omega) hnd hot hle hgr hop hth
    obtain ⟨re', od', on', c1, c2, c3⟩ := dk_xw23 hs hnd hot hle hgr hop hth d (j + 1) (upd re (5 * s + j) (nI (dk_reM (dk_ad nd ot (fun p => th (5 * s + p))) j))) od1 (upd on (5 * s + j) (nI (dk_lst nd ot (fun p => th (5 * s + p)) j).length)) (by omega) (fun p hp => by
      by_cases e : p = j
      · subst e; exact ⟨pk_us, b1, pk_us⟩
      · obtain ⟨i1, i2, i3⟩ := h p (by omega)
        have hlen := dk_ls_len (dk_lst_ls (nd := nd) (t := fun p => th (5 * s + p)) hot (p := p) (by omega))
        refine ⟨by rw [pk_un (by omega)]; exact i1, fun i hi => ?_, by rw [pk_un (by omega)]; exact i3⟩
        rw [b2 _ (by omega)]; exact i2 i hi)
    refine ⟨re', od', on', c1, dk_Fr_t (dk_Fr_u (by omega)) c2, fun post h' => ?_⟩
    obtain ⟨n, hn⟩ := c3 post h'
    refine ⟨n + 1, ?_⟩
    rw [← dk_lst_re hot (by omega)] at hn
    rw [wX_wire_23]
    refine br_f (by rw [dk_le5 (by omega)]; omega) (b3 _ ?_)
    have w := dk_xw40 (pr := pr) (bl := bl) (na := na) (sc := sc) (fa := fa) (st := st) (no := no) (kn := kn) (nd := nd) (ot := ot) (le := le) (gr := gr) (op := op) (it := it) (nm := nm) (sh := sh) (ex := ex) (wl := wl) (wg := wg) (th := th) (re := re) (rd := rd) (wh := wh) (ss := ss) (rf := rf) (wi := wi) (lv := lv) (dm := dm) (ch := ch) (cg := cg) (my := my) (sp := sp) (fA := fA) (fS := fS) (nt := nt) (od := od1) (on := upd on (5 * s + j) (nI (dk_lst nd ot (fun p => th (5 * s + p)) j).length)) hs (by omega) (dk_ls_len hls) (fun x hx => (hls.2 x hx).1) b1 pk_us post _ hn 5 1 (by omega) (by omega) (by have := dk_ls_len hls; omega)
    rw [List.drop_eq_nil_of_le (by rw [List.length_take]; omega)] at w
    exact w
theorem dk_xw109 {s p : Nat} {ad : Nat → List Nat} (hs : s ≤ 1) (hp : p < 5) (hre : ∀ q, q < 5 → re (5 * s + q) = nI (dk_reM ad q)) (post : SX → Prop) (J) (h : J (nI (p + 1)) (dk_N kn) (dk_N nd) (dk_N (dk_E ot le gr op)) (dk_N it) (dk_N nm) (dk_N sh) (dk_N ex) (dk_W wl) (dk_N wg) (dk_T th) re (upd rd (5 * s + p) (nI (dk_rdM ad p))) od on wh ss rf wi lv dm ch cg my sp fA fS nt) : ∀ d j, j + d = 5 →
    ∃ n, wX_wire_109 post J (nI s) (nI (5 * s)) (nI p) pr bl na sc fa st no (dk_N kn) (dk_N nd) (dk_N (dk_E ot le gr op)) (dk_N it) (dk_N nm) (dk_N sh) (dk_N ex) (dk_W wl) (dk_N wg) (dk_T th) re rd od on wh ss rf wi lv dm ch cg my sp fA fS nt n (nI (dk_m (fun q => dk_b (q ≠ p ∧ dk_R ad q p)) j)) (nI j)
  | 0, j, hj => by
    have : j = 5 := by omega
    subst this
    refine ⟨1, ?_⟩
    have hm : dk_m (fun q => dk_b (q ≠ p ∧ dk_R ad q p)) 5 < 32 := dk_m5L _
    simp (disch := omega) only [wX_wire_109, nI_clamp, dk_Na, dk_Ta, dk_Wa, dk_m2, dk_m3, dk_m4, dk_m5, dk_m6, dk_a5, dk_a10, nI_add, nI_1, nI_leI, nI_ltI, nI_eq, dk_le3, dk_le5, dk_le6, dk_le16, dk_le20, dk_le25, dk_le32, dk_le36, dk_le1024, dk_lt0, dk_ge0, dk_lez, dk_eq0, dk_eq1, dk_eq4, dk_eq6, dk_tneg, dk_tpos, dk_teq, dk_tle, dk_vbb]
    exact br_t (by omega) ⟨vp_in_nI (by omega) (by omega), nm_e (nm_e h)⟩
  | d + 1, j, hj => by
    obtain ⟨n, hn⟩ := dk_xw109 hs hp hre post J h d (j + 1) (by omega)
    have hm : dk_reM ad j < 32 := dk_m5L _
    have hb : (dk_reM ad j).testBit p = dk_b (j ≠ p ∧ dk_R ad j p) := by
      unfold dk_reM
      rw [dk_mB]
      have : dk_b (p ≠ j ∧ dk_R ad j p) = dk_b (j ≠ p ∧ dk_R ad j p) := dk_bC ⟨fun h => ⟨fun e => h.1 e.symm, h.2⟩, fun h => ⟨fun e => h.1 e.symm, h.2⟩⟩
      simp [hp, this]
    rw [dk_m, ← hb] at hn
    refine ⟨n + 1, ?_⟩
    simp (disch := omega) only [wX_wire_109, nI_clamp, dk_Na, dk_Ta, dk_Wa, dk_m2, dk_m3, dk_m4, dk_m5, dk_m6, dk_a5, dk_a10, nI_add, nI_1, nI_leI, nI_ltI, nI_eq, dk_le3, dk_le5, dk_le6, dk_le16, dk_le20, dk_le25, dk_le32, dk_le36, dk_le1024, dk_lt0, dk_ge0, dk_lez, dk_eq0, dk_eq1, dk_eq4, dk_eq6, dk_tneg, dk_tpos, dk_teq, dk_tle, hre, dk_pow, dk_or]
    refine br_f (by omega) ⟨vp_in_nI (by omega) (by omega), dk_xb (by omega) (by omega) _ (fun y => ?_) (fun y => ?_)⟩
    · rw [y, if_pos rfl] at hn
      exact br_f (by decide) (nm_e (nm_e hn))
    · rw [y] at hn
      refine br_t rfl (nm_e ?_)
      simpa using hn
theorem dk_xw98 {s : Nat} {ad : Nat → List Nat} (hs : s ≤ 1) (hre : ∀ q, q < 5 → re (5 * s + q) = nI (dk_reM ad q)) : ∀ d j (rd : Nat → Int32), j + d = 5 → (∀ p, p < j → rd (5 * s + p) = nI (dk_rdM ad p)) →
    ∃ rd' : Nat → Int32, (∀ p, p < 5 → rd' (5 * s + p) = nI (dk_rdM ad p)) ∧ dk_Fr s rd rd' ∧ ∀ post : SX → Prop, (∃ n165, wX_wire_165 post (nI s) n165 0 pr bl na sc fa st no (dk_N kn) (dk_N nd) (dk_N (dk_E ot le gr op)) (dk_N it) (dk_N nm) (dk_N sh) (dk_N ex) (dk_W wl) (dk_N wg) (dk_T th) re rd' od on wh ss rf wi lv dm ch cg my sp fA fS nt) → ∃ n, wX_wire_98 post (nI s) (nI (5 * s)) pr bl na sc fa st no n (nI j) (dk_N kn) (dk_N nd) (dk_N (dk_E ot le gr op)) (dk_N it) (dk_N nm) (dk_N sh) (dk_N ex) (dk_W wl) (dk_N wg) (dk_T th) re rd od on wh ss rf wi lv dm ch cg my sp fA fS nt
  | 0, j, rd, hj, h => by
    have : j = 5 := by omega
    subst this
    exact ⟨rd, h, dk_Fr_r, fun post h => ⟨1, br_t (by decide) h⟩⟩
  | d + 1, j, rd, hj, h => by
    obtain ⟨rd', c1, c2, c3⟩ := dk_xw98 hs hre d (j + 1) (upd rd (5 * s + j) (nI (dk_rdM ad j))) (by omega) (fun p hp => by
      by_cases e : p = j
      · subst e; exact pk_us
      · rw [pk_un (by omega)]; exact h p (by omega))
    refine ⟨rd', c1, dk_Fr_t (dk_Fr_u (by omega)) c2, fun post h' => ?_⟩
    obtain ⟨n, hn⟩ := c3 post h'
    refine ⟨n + 1, ?_⟩
    rw [wX_wire_98]
    refine br_f (by rw [dk_le5 (by omega)]; omega) ?_
    exact dk_xw109 hs (by omega) hre post _ hn 5 0 rfl
theorem dk_xw165 {s : Nat} (hs : s ≤ 1) (hot : ∀ k, ot k < 5) (hth : ∀ i, th i < 4) (hit : ∀ x, it x ≤ 6) (hnm : ∀ k, nm k < 12) (hsh : ∀ k, sh k < 4) (hex : ∀ k, ex k ≤ 1)
    (ho : ∀ p, p < 5 → dk_rep od (5 * (5 * s + p)) (dk_lst nd ot (fun p => th (5 * s + p)) p) ∧ on (5 * s + p) = nI (dk_lst nd ot (fun p => th (5 * s + p)) p).length) : ∀ d j (wh : Nat → Int64) (ss rf : Nat → Int32), j + d = 5 →
    (∀ p, p < j → ∃ m, dk_Lk it nm sh ex (fun p => th (5 * s + p)) p (dk_lst nd ot (fun p => th (5 * s + p)) p) (wh (5 * s + p)) (ss (5 * s + p)) m ∧ rf (5 * s + p) = nI m) →
    ∃ (wh' : Nat → Int64) (ss' rf' : Nat → Int32), (∀ p, p < 5 → ∃ m, dk_Lk it nm sh ex (fun p => th (5 * s + p)) p (dk_lst nd ot (fun p => th (5 * s + p)) p) (wh' (5 * s + p)) (ss' (5 * s + p)) m ∧ rf' (5 * s + p) = nI m) ∧ dk_Fr s wh wh' ∧ dk_Fr s ss ss' ∧ dk_Fr s rf rf' ∧
    ∀ post : SX → Prop, post (pr, bl, na, sc, fa, st, no, (dk_N kn), (dk_N nd), (dk_N (dk_E ot le gr op)), (dk_N it), (dk_N nm), (dk_N sh), (dk_N ex), (dk_W wl), (dk_N wg), (dk_T th), re, rd, od, on, wh', ss', rf', wi, lv, dm, ch, cg, my, sp, fA, fS, nt) → ∃ n, wX_wire_165 post (nI s) n (nI j) pr bl na sc fa st no (dk_N kn) (dk_N nd) (dk_N (dk_E ot le gr op)) (dk_N it) (dk_N nm) (dk_N sh) (dk_N ex) (dk_W wl) (dk_N wg) (dk_T th) re rd od on wh ss rf wi lv dm ch cg my sp fA fS nt
  | 0, j, wh, ss, rf, hj, h => by
    have : j = 5 := by omega
    subst this
    exact ⟨wh, ss, rf, h, dk_Fr_r, dk_Fr_r, dk_Fr_r, fun post h => ⟨1, br_t (by decide) h⟩⟩
  | d + 1, j, wh, ss, rf, hj, h => by
    obtain ⟨o1, o2⟩ := ho j (by omega)
    obtain ⟨w, v, m, b1, b2⟩ := dk_xlk (pr := pr) (bl := bl) (na := na) (sc := sc) (fa := fa) (st := st) (no := no) (kn := kn) (nd := nd) (ot := ot) (le := le) (gr := gr) (op := op) (it := it) (nm := nm) (sh := sh) (ex := ex) (wl := wl) (wg := wg) (th := th) (re := re) (rd := rd) (od := od) (on := on) (wh := wh) (ss := ss) (rf := rf) (wi := wi) (lv := lv) (dm := dm) (ch := ch) (cg := cg) (my := my) (sp := sp) (fA := fA) (fS := fS) (nt := nt) hs (p := j) (by omega) hth hit hnm hsh hex (dk_lst_ls (nd := nd) (t := fun p => th (5 * s + p)) hot (by omega)) o1 o2
    obtain ⟨wh', ss', rf', c1, c2, c3, c4, c5⟩ := dk_xw165 hs hot hth hit hnm hsh hex ho d (j + 1) (vp_updL wh (5 * s + j) w) (upd ss (5 * s + j) v) (upd rf (5 * s + j) (nI m)) (by omega) (fun p hp => by
      by_cases e : p = j
      · subst e
        refine ⟨m, ?_, pk_us⟩
        rw [pk_us, pk_uLs]; exact b1
      · rw [pk_un (by omega), pk_un (by omega), pk_uLn (by omega)]; exact h p (by omega))
    refine ⟨wh', ss', rf', c1, dk_Fr_t (dk_Fr_uL (by omega)) c2, dk_Fr_t (dk_Fr_u (by omega)) c3, dk_Fr_t (dk_Fr_u (by omega)) c4, fun post h' => ?_⟩
    obtain ⟨n, hn⟩ := c5 post h'
    refine ⟨n + 1, ?_⟩
    rw [wX_wire_165]
    refine br_f (by rw [dk_le5 (by omega)]; omega) (b2 _ ?_)
    exact nm_r (nI_1 j) hn
/-- wire: afterwards the tables of the state are right, the other state's are as before -/
theorem dk_xwi {s : Nat} (hs : s ≤ 1) (hnd : ∀ x, nd x ≤ 4) (hot : ∀ k, ot k < 5) (hle : ∀ k, le k ≤ 2) (hgr : ∀ k, gr k ≤ 2) (hop : ∀ k, op k ≤ 1) (hth : ∀ i, th i < 4) (hit : ∀ x, it x ≤ 6) (hnm : ∀ k, nm k < 12) (hsh : ∀ k, sh k < 4) (hex : ∀ k, ex k ≤ 1)
    (hw : ¬ wi s = 0 → dk_Wi nd ot it nm sh ex (fun p => th (5 * s + p)) s re rd wh ss rf) :
    ∃ (re' rd' od' on' : Nat → Int32) (wh' : Nat → Int64) (ss' rf' wi' : Nat → Int32), dk_Wi nd ot it nm sh ex (fun p => th (5 * s + p)) s re' rd' wh' ss' rf' ∧ (¬ wi' s = 0) ∧ (∀ i, i ≠ s → wi' i = wi i) ∧ dk_Fr s re re' ∧ dk_Fr s rd rd' ∧ dk_Fr s wh wh' ∧ dk_Fr s ss ss' ∧ dk_Fr s rf rf' ∧
    ∀ post : SX → Prop, post (pr, bl, na, sc, fa, st, no, (dk_N kn), (dk_N nd), (dk_N (dk_E ot le gr op)), (dk_N it), (dk_N nm), (dk_N sh), (dk_N ex), (dk_W wl), (dk_N wg), (dk_T th), re', rd', od', on', wh', ss', rf', wi', lv, dm, ch, cg, my, sp, fA, fS, nt) → wpX_wire post (pr, bl, na, sc, fa, st, no, (dk_N kn), (dk_N nd), (dk_N (dk_E ot le gr op)), (dk_N it), (dk_N nm), (dk_N sh), (dk_N ex), (dk_W wl), (dk_N wg), (dk_T th), re, rd, od, on, wh, ss, rf, wi, lv, dm, ch, cg, my, sp, fA, fS, nt) (nI s) := by
  by_cases z : wi s = 0
  · obtain ⟨re', od', on', a1, a2, a3⟩ := dk_xw23 (pr := pr) (bl := bl) (na := na) (sc := sc) (fa := fa) (st := st) (no := no) (kn := kn) (nd := nd) (ot := ot) (le := le) (gr := gr) (op := op) (it := it) (nm := nm) (sh := sh) (ex := ex) (wl := wl) (wg := wg) (th := th) (rd := rd) (wh := wh) (ss := ss) (rf := rf) (lv := lv) (dm := dm) (ch := ch) (cg := cg) (my := my) (sp := sp) (fA := fA) (fS := fS) (nt := nt) (wi := upd wi s (nI 1)) hs hnd hot hle hgr hop hth 5 0 re od on rfl (fun p hp => absurd hp (Nat.not_lt_zero _))
    obtain ⟨rd', b1, b2, b3⟩ := dk_xw98 (pr := pr) (bl := bl) (na := na) (sc := sc) (fa := fa) (st := st) (no := no) (kn := kn) (nd := nd) (ot := ot) (le := le) (gr := gr) (op := op) (it := it) (nm := nm) (sh := sh) (ex := ex) (wl := wl) (wg := wg) (th := th) (wh := wh) (ss := ss) (rf := rf) (lv := lv) (dm := dm) (ch := ch) (cg := cg) (my := my) (sp := sp) (fA := fA) (fS := fS) (nt := nt) (re := re') (od := od') (on := on') (wi := upd wi s (nI 1)) hs (fun q hq => (a1 q hq).1) 5 0 rd rfl (fun p hp => absurd hp (Nat.not_lt_zero _))
    obtain ⟨wh', ss', rf', c1, c2, c3, c4, c5⟩ := dk_xw165 (pr := pr) (bl := bl) (na := na) (sc := sc) (fa := fa) (st := st) (no := no) (kn := kn) (nd := nd) (ot := ot) (le := le) (gr := gr) (op := op) (it := it) (nm := nm) (sh := sh) (ex := ex) (wl := wl) (wg := wg) (th := th) (lv := lv) (dm := dm) (ch := ch) (cg := cg) (my := my) (sp := sp) (fA := fA) (fS := fS) (nt := nt) (re := re') (rd := rd') (od := od') (on := on') (wi := upd wi s (nI 1)) hs hot hth hit hnm hsh hex (fun p hp => (a1 p hp).2) 5 0 wh ss rf rfl (fun p hp => absurd hp (Nat.not_lt_zero _))
    refine ⟨re', rd', od', on', wh', ss', rf', upd wi s (nI 1), fun p hp => ⟨(a1 p hp).1, b1 p hp, c1 p hp⟩, by rw [pk_us]; decide, fun i hi => pk_un hi, a2, b2, c2, c3, c4, fun post h => ?_⟩
    have := a3 post (b3 post (c5 post h))
    simp (disch := omega) only [wpX_wire, nI_clamp, dk_Na, dk_Ta, dk_Wa, dk_m2, dk_m3, dk_m4, dk_m5, dk_m6, dk_a5, dk_a10, nI_add, nI_1, dk_vz1]
    exact ⟨vp_in_nI (by omega) (by omega), br_t z ⟨vp_in_nI (by omega) (by omega), nm_e (nm_e this)⟩⟩
  · refine ⟨re, rd, od, on, wh, ss, rf, wi, hw z, z, fun _ _ => rfl, dk_Fr_r, dk_Fr_r, dk_Fr_r, dk_Fr_r, dk_Fr_r, fun post h => ?_⟩
    simp (disch := omega) only [wpX_wire, nI_clamp, dk_Na, dk_Ta, dk_Wa, dk_m2, dk_m3, dk_m4, dk_m5, dk_m6, dk_a5, dk_a10, nI_add, nI_1]
    exact ⟨vp_in_nI (by omega) (by omega), br_f z h⟩
end
end
section
theorem dk_nz {a b c : Nat} (ha : a < 32) : dk_dif a b &&& c = 0 ↔ ∀ q, q < 5 → a.testBit q = true → ¬ b.testBit q = true → ¬ c.testBit q = true := by
  constructor
  · intro h q hq h1 h2 h3
    have := congrArg (fun z => Nat.testBit z q) h
    simp only [Nat.testBit_and, dk_difB _ _ ha, h1, h3, Nat.zero_testBit] at this
    cases e : b.testBit q
    · rw [e] at this; exact absurd this (by decide)
    · exact h2 e
  · intro h
    apply Nat.eq_of_testBit_eq
    intro q
    rw [Nat.testBit_and, dk_difB _ _ ha, Nat.zero_testBit]
    by_cases hq : q < 5
    · have := h q hq
      cases e1 : a.testBit q
      · rfl
      · cases e2 : b.testBit q
        · cases e3 : c.testBit q
          · rfl
          · exact absurd e3 (this e1 (by rw [e2]; decide))
        · rfl
    · rw [dk_big ha (by omega)]; rfl
theorem dk_reB {ad : Nat → List Nat} {p q : Nat} (hq : q < 5) : (dk_reM ad p).testBit q = true ↔ q ≠ p ∧ dk_R ad p q := by
  unfold dk_reM; rw [dk_mB]; simp [hq, dk_bt]
theorem dk_rdB {ad : Nat → List Nat} {p q : Nat} (hq : q < 5) : (dk_rdM ad p).testBit q = true ↔ q ≠ p ∧ dk_R ad q p := by
  unfold dk_rdM; rw [dk_mB]; simp [hq, dk_bt]
theorem dk_reL (ad : Nat → List Nat) (p : Nat) : dk_reM ad p < 32 := dk_m5L _
theorem dk_rdL (ad : Nat → List Nat) (p : Nat) : dk_rdM ad p < 32 := dk_m5L _
theorem dk_nzO {ad : Nat → List Nat} {p left : Nat} (hp : p < 5) (hl : left < 32) : dk_dif (dk_rdM ad p) (dk_reM ad p) &&& dk_dif left (2 ^ p) = 0 ↔ dk_nxt (dk_R ad) left true p := by
  rw [dk_nz (dk_rdL ad p)]
  constructor
  · intro h q hq hn hb hr
    have := h q hq ((dk_rdB hq).mpr ⟨hn, hr⟩)
    rw [dk_reB hq] at this
    refine Classical.byContradiction fun z => this (fun y => z y.2) ?_
    rw [dk_difB _ _ hl, hb, dk_tp2]
    simp [Ne.symm hn]
  · intro h q hq h1 h2 h3
    rw [dk_rdB hq] at h1
    rw [dk_reB hq] at h2
    rw [dk_difB _ _ hl, Bool.and_eq_true] at h3
    exact h2 ⟨h1.1, h q hq h1.1 h3.1 h1.2⟩
theorem dk_nzI {ad : Nat → List Nat} {p left : Nat} (hp : p < 5) (hl : left < 32) : dk_dif (dk_reM ad p) (dk_rdM ad p) &&& dk_dif left (2 ^ p) = 0 ↔ dk_nxt (dk_R ad) left false p := by
  rw [dk_nz (dk_reL ad p)]
  constructor
  · intro h q hq hn hb hr
    have := h q hq ((dk_reB hq).mpr ⟨hn, hr⟩)
    rw [dk_rdB hq] at this
    refine Classical.byContradiction fun z => this (fun y => z y.2) ?_
    rw [dk_difB _ _ hl, hb, dk_tp2]
    simp [Ne.symm hn]
  · intro h q hq h1 h2 h3
    rw [dk_reB hq] at h1
    rw [dk_rdB hq] at h2
    rw [dk_difB _ _ hl, Bool.and_eq_true] at h3
    exact h2 ⟨h1.1, h q hq h1.1 h3.1 h1.2⟩
section
variable {pr bl na sc fa st no : Int32} {kn nd ot le gr op it nm sh ex wl wg th : Nat → Nat} {re rd od on : Nat → Int32} {wh : Nat → Int64} {ss rf wi lv dm ch cg my sp fA fS nt : Nat → Int32}
theorem dk_xn3 {s left : Nat} {ad : Nat → List Nat} (hs : s ≤ 1) (h0 : left ≠ 0) (hl : left < 32) (hre : ∀ q, q < 5 → re (5 * s + q) = nI (dk_reM ad q)) (hrd : ∀ q, q < 5 → rd (5 * s + q) = nI (dk_rdM ad q)) (dir : Bool) (post : Int32 → Prop) (h : post (nI (dk_np (dk_R ad) left dir))) : ∀ d j, j + d = dk_np (dk_R ad) left dir →
    ∃ n, wX_next_3 post (nI s) (nI left) (nI (!dir).toNat) pr bl na sc fa st no (dk_N kn) (dk_N nd) (dk_N (dk_E ot le gr op)) (dk_N it) (dk_N nm) (dk_N sh) (dk_N ex) (dk_W wl) (dk_N wg) (dk_T th) re rd od on wh ss rf wi lv dm ch cg my sp fA fS nt n (nI j)
  | 0, j, hj => by
    obtain ⟨a1, a2, a3, a4⟩ := dk_np_ok (r := dk_R ad) (fun _ _ _ => dk_Rt) h0 hl dir
    have e : j = dk_np (dk_R ad) left dir := by omega
    rw [← e] at a1 a2 a3 h
    refine ⟨1, ?_⟩
    have r1 := dk_reL ad j
    have r2 := dk_rdL ad j
    have p2 := dk_p2 j a1
    have d1 := dk_difL (dk_rdM ad j) (dk_reM ad j) r2
    have d2 := dk_difL (dk_reM ad j) (dk_rdM ad j) r1
    have d3 : dk_dif (dk_rdM ad j) (dk_reM ad j) &&& dk_dif left (2 ^ j) < 32 := Nat.lt_of_le_of_lt Nat.and_le_left d1
    have d4 : dk_dif (dk_reM ad j) (dk_rdM ad j) &&& dk_dif left (2 ^ j) < 32 := Nat.lt_of_le_of_lt Nat.and_le_left d2
    simp (disch := omega) only [wX_next_3, nI_clamp, dk_Na, dk_Ta, dk_Wa, dk_m2, dk_m3, dk_m4, dk_m5, dk_m6, dk_a5, dk_a10, nI_add, nI_1, nI_leI, nI_ltI, nI_eq, dk_le3, dk_le5, dk_le6, dk_le16, dk_le20, dk_le25, dk_le32, dk_le36, dk_le1024, dk_lt0, dk_ge0, dk_lez, dk_eq0, dk_eq1, dk_eq4, dk_eq6, dk_tneg, dk_tpos, dk_teq, dk_tle, dk_pow, hre, hrd]
    refine br_f (by omega) (dk_xb (by omega) (by omega) _ (fun _ => ?_) (fun y => by rw [a2] at y; exact absurd y (by decide)))
    refine br_f (by decide) ⟨vp_in_nI (by omega) (by omega), nm_e ⟨vp_in_nI (by omega) (by omega), nm_e (nm_e ?_)⟩⟩
    rw [dk_difI _ r2 _ r1, dk_difI _ r1 _ r2, dk_difI _ hl _ p2, dk_and, dk_and, dk_eq0 (show dk_dif (dk_rdM ad j) (dk_reM ad j) &&& dk_dif left (2 ^ j) < 2 ^ 31 by omega), dk_eq0 (show dk_dif (dk_reM ad j) (dk_rdM ad j) &&& dk_dif left (2 ^ j) < 2 ^ 31 by omega), dk_nzO a1 hl, dk_nzI a1 hl]
    cases dir
    · exact br_f (by decide) (br_t a3 h)
    · exact br_t rfl (br_t a3 h)
  | d + 1, j, hj => by
    obtain ⟨a1, a2, a3, a4⟩ := dk_np_ok (r := dk_R ad) (fun _ _ _ => dk_Rt) h0 hl dir
    obtain ⟨n, hn⟩ := dk_xn3 hs h0 hl hre hrd dir post h d (j + 1) (by omega)
    refine ⟨n + 1, ?_⟩
    have j5 : j < 5 := by omega
    have r1 := dk_reL ad j
    have r2 := dk_rdL ad j
    have p2 := dk_p2 j j5
    have d1 := dk_difL (dk_rdM ad j) (dk_reM ad j) r2
    have d2 := dk_difL (dk_reM ad j) (dk_rdM ad j) r1
    have d3 : dk_dif (dk_rdM ad j) (dk_reM ad j) &&& dk_dif left (2 ^ j) < 32 := Nat.lt_of_le_of_lt Nat.and_le_left d1
    have d4 : dk_dif (dk_reM ad j) (dk_rdM ad j) &&& dk_dif left (2 ^ j) < 32 := Nat.lt_of_le_of_lt Nat.and_le_left d2
    simp (disch := omega) only [wX_next_3, nI_clamp, dk_Na, dk_Ta, dk_Wa, dk_m2, dk_m3, dk_m4, dk_m5, dk_m6, dk_a5, dk_a10, nI_add, nI_1, nI_leI, nI_ltI, nI_eq, dk_le3, dk_le5, dk_le6, dk_le16, dk_le20, dk_le25, dk_le32, dk_le36, dk_le1024, dk_lt0, dk_ge0, dk_lez, dk_eq0, dk_eq1, dk_eq4, dk_eq6, dk_tneg, dk_tpos, dk_teq, dk_tle, dk_pow, hre, hrd]
    refine br_f (by omega) (dk_xb (by omega) (by omega) _ (fun y => ?_) (fun y => br_t rfl (nm_e hn)))
    refine br_f (by decide) ⟨vp_in_nI (by omega) (by omega), nm_e ⟨vp_in_nI (by omega) (by omega), nm_e (nm_e ?_)⟩⟩
    rw [dk_difI _ r2 _ r1, dk_difI _ r1 _ r2, dk_difI _ hl _ p2, dk_and, dk_and, dk_eq0 (show dk_dif (dk_rdM ad j) (dk_reM ad j) &&& dk_dif left (2 ^ j) < 2 ^ 31 by omega), dk_eq0 (show dk_dif (dk_reM ad j) (dk_rdM ad j) &&& dk_dif left (2 ^ j) < 2 ^ 31 by omega), dk_nzO j5 hl, dk_nzI j5 hl]
    have a5 := a4 j (by omega) y
    cases dir
    · exact br_f (by decide) (br_f a5 (nm_e hn))
    · exact br_t rfl (br_f a5 (nm_e hn))
theorem dk_xn {s left : Nat} {ad : Nat → List Nat} (hs : s ≤ 1) (h0 : left ≠ 0) (hl : left < 32) (hre : ∀ q, q < 5 → re (5 * s + q) = nI (dk_reM ad q)) (hrd : ∀ q, q < 5 → rd (5 * s + q) = nI (dk_rdM ad q)) (dir : Bool) (post : Int32 → Prop) (h : post (nI (dk_np (dk_R ad) left dir))) :
    wpX_next post (pr, bl, na, sc, fa, st, no, (dk_N kn), (dk_N nd), (dk_N (dk_E ot le gr op)), (dk_N it), (dk_N nm), (dk_N sh), (dk_N ex), (dk_W wl), (dk_N wg), (dk_T th), re, rd, od, on, wh, ss, rf, wi, lv, dm, ch, cg, my, sp, fA, fS, nt) (nI s) (nI left) (nI (!dir).toNat) :=
  dk_xn3 hs h0 hl hre hrd dir post h _ 0 (Nat.zero_add _)
theorem dk_xpc {b n : Nat} {D : Nat → Nat} (hb : b < 10) (hn : n < 12) (h : dk_H4 (wh b) D) (hD : D n < 16) (post : Int32 → Prop) (hp : post (nI (D n) - 1)) : wpX_place post (pr, bl, na, sc, fa, st, no, (dk_N kn), (dk_N nd), (dk_N (dk_E ot le gr op)), (dk_N it), (dk_N nm), (dk_N sh), (dk_N ex), (dk_W wl), (dk_N wg), (dk_T th), re, rd, od, on, wh, ss, rf, wi, lv, dm, ch, cg, my, sp, fA, fS, nt) (nI b) (nI n) := by
  simp (disch := omega) only [wpX_place, nI_clamp, dk_Na, dk_Ta, dk_Wa, dk_m2, dk_m3, dk_m4, dk_m5, dk_m6, dk_a5, dk_a10, nI_add, nI_1]
  rw [dk_H4r h hn hD]
  exact ⟨vp_in_nI hb (by omega), hp⟩
theorem dk_Wi_pl {nd ot it nm sh ex t : Nat → Nat} {s : Nat} {re rd : Nat → Int32} {wh : Nat → Int64} {ss rf : Nat → Int32} (h : dk_Wi nd ot it nm sh ex t s re rd wh ss rf) {p : Nat} (hp : p < 5) (ht : 0 < t p) :
    dk_H4 (wh (5 * s + p)) (fun n => dk_place nd ot it nm ex t p n) ∧ (∃ S : Nat → Nat, dk_H2 (ss (5 * s + p)) S ∧ (∀ n, n < 12 → S n < 4) ∧ ∀ n q, dk_place nd ot it nm ex t p n = q + 1 → dk_Sp it nm sh ex t n (S n) q) ∧ ∃ m, rf (5 * s + p) = nI m ∧ m < 4096 ∧ ∀ n, m.testBit n = true ↔ dk_Rf it nm ex t n p := by
  obtain ⟨_, _, m, ⟨a, b, c, d⟩, e⟩ := h p hp
  have el : dk_lst nd ot t p = dk_bfs (dk_ad nd ot t) p := if_neg (by omega)
  rw [el] at a b d
  refine ⟨a, b, m, e, c, fun n => ?_⟩
  rw [d n]
  have : p ∈ dk_bfs (dk_ad nd ot t) p := by
    obtain ⟨m, hm⟩ := dk_bfs_hd (dk_ad nd ot t) p
    rw [hm]; exact List.mem_cons_self ..
  exact ⟨fun h => h.2, fun h => ⟨this, h⟩⟩
theorem dk_xf70 {s p c q x : Nat} (hs : s ≤ 1) (hp : p < 5) (hc : c < 12) (hnd : ∀ x, nd x ≤ 4) (hot : ∀ k, ot k < 5) (hle : ∀ k, le k ≤ 2) (hgr : ∀ k, gr k ≤ 2) (hop : ∀ k, op k ≤ 1) (hth : ∀ i, th i < 4)
    (hw : dk_Wi nd ot it nm sh ex (fun p => th (5 * s + p)) s re rd wh ss rf) (ht : 0 < th (5 * s + p)) (hxe : dk_x (fun p => th (5 * s + p)) p = x)
    (hpl : dk_place nd ot it nm ex (fun p => th (5 * s + p)) p c = q + 1) (post : Int32 → Prop) : ∀ d j, j + d = nd x →
    post (nI (if dk_b (∃ k, j ≤ k ∧ k < nd x ∧ dk_cf nd ot it nm ex (fun p => th (5 * s + p)) p c (ot (4 * x + k))) = true then 3 else 0)) →
    ∃ n, wX_faultOf_70 post (nI s) (nI c) (nI q) (nI x) pr bl na sc fa st no (dk_N kn) (dk_N nd) (dk_N (dk_E ot le gr op)) (dk_N it) (dk_N nm) (dk_N sh) (dk_N ex) (dk_W wl) (dk_N wg) (dk_T th) re rd od on wh ss rf wi lv dm ch cg my sp fA fS nt n (nI (4 * x + j))
  | 0, j, hj, h => by
    have hx : x < 15 := by rw [← hxe]; exact dk_x15 hp (hth _)
    have := hnd x
    rw [dk_bF' (by rintro ⟨k, a, b, _⟩; omega)] at h
    refine ⟨1, ?_⟩
    simp (disch := omega) only [wX_faultOf_70, nI_clamp, dk_Na, dk_Ta, dk_Wa, dk_m2, dk_m3, dk_m4, dk_m5, dk_m6, dk_a5, dk_a10, nI_add, nI_1, nI_leI, nI_ltI, nI_eq, dk_le3, dk_le5, dk_le6, dk_le16, dk_le20, dk_le25, dk_le32, dk_le36, dk_le1024, dk_lt0, dk_ge0, dk_lez, dk_eq0, dk_eq1, dk_eq4, dk_eq6, dk_tneg, dk_tpos, dk_teq, dk_tle]
    exact ⟨vp_in_nI hx (by omega), br_t (by omega) h⟩
  | d + 1, j, hj, h => by
    have hx : x < 15 := by rw [← hxe]; exact dk_x15 hp (hth _)
    have hn := hnd x
    have ho := hot (4 * x + j)
    have h1 := hle (4 * x + j)
    have h2 := hgr (4 * x + j)
    have h3 := hop (4 * x + j)
    have hy := hth (5 * s + ot (4 * x + j))
    have he : dk_E ot le gr op (4 * x + j) < 256 := by unfold dk_E; omega
    have hm : dk_E ot le gr op (4 * x + j) % 8 = ot (4 * x + j) := by unfold dk_E; omega
    have q5 : q < 5 := by have := dk_place5 (nd := nd) (ot := ot) (it := it) (nm := nm) (ex := ex) (t := fun p => th (5 * s + p)) (p := p) (n := c); omega
    have rest : ¬ dk_cf nd ot it nm ex (fun p => th (5 * s + p)) p c (ot (4 * x + j)) → ∃ n, wX_faultOf_70 post (nI s) (nI c) (nI q) (nI x) pr bl na sc fa st no (dk_N kn) (dk_N nd) (dk_N (dk_E ot le gr op)) (dk_N it) (dk_N nm) (dk_N sh) (dk_N ex) (dk_W wl) (dk_N wg) (dk_T th) re rd od on wh ss rf wi lv dm ch cg my sp fA fS nt n (nI (4 * x + (j + 1))) := fun z => by
      refine dk_xf70 hs hp hc hnd hot hle hgr hop hth hw ht hxe hpl post d (j + 1) (by omega) ?_
      rw [dk_bC (Q := ∃ k, j ≤ k ∧ k < nd x ∧ dk_cf nd ot it nm ex (fun p => th (5 * s + p)) p c (ot (4 * x + k))) ⟨fun ⟨k, a, b⟩ => ⟨k, by omega, b⟩, fun ⟨k, a, b, c⟩ => ⟨k, by
        have : k ≠ j := fun e => z (e ▸ c)
        omega, b, c⟩⟩]
      exact h
    by_cases z : 0 < th (5 * s + ot (4 * x + j))
    · have hu : ot (4 * x + j) ∈ dk_ad nd ot (fun p => th (5 * s + p)) p := (dk_ad_m _ _ _ _ _).mpr ⟨hp, ht, z, j, by rw [hxe]; omega, by rw [hxe]⟩
      obtain ⟨w1, _, m, w2, w3, w4⟩ := dk_Wi_pl hw ho z
      have p5 := dk_place5 (nd := nd) (ot := ot) (it := it) (nm := nm) (ex := ex) (t := fun p => th (5 * s + p)) (p := ot (4 * x + j)) (n := c)
      by_cases y : dk_cf nd ot it nm ex (fun p => th (5 * s + p)) p c (ot (4 * x + j))
      · rw [dk_bT' ⟨j, Nat.le_refl _, by omega, y⟩] at h
        refine ⟨1, ?_⟩
        simp (disch := omega) only [wX_faultOf_70, nI_clamp, dk_Na, dk_Ta, dk_Wa, dk_m2, dk_m3, dk_m4, dk_m5, dk_m6, dk_a5, dk_a10, nI_add, nI_1, nI_leI, nI_ltI, nI_eq, dk_le3, dk_le5, dk_le6, dk_le16, dk_le20, dk_le25, dk_le32, dk_le36, dk_le1024, dk_lt0, dk_ge0, dk_lez, dk_eq0, dk_eq1, dk_eq4, dk_eq6, dk_tneg, dk_tpos, dk_teq, dk_tle, dk_e7, hm]
        refine ⟨vp_in_nI hx (by omega), br_f (by omega) ⟨vp_in_nI (by omega) (by omega), nm_e ?_⟩⟩
        simp (disch := omega) only [nI_clamp, dk_Na, dk_Ta, dk_Wa, dk_m2, dk_m3, dk_m4, dk_m5, dk_m6, dk_a5, dk_a10, nI_add, nI_1, nI_leI, nI_ltI, nI_eq, dk_le3, dk_le5, dk_le6, dk_le16, dk_le20, dk_le25, dk_le32, dk_le36, dk_le1024, dk_lt0, dk_ge0, dk_lez, dk_eq0, dk_eq1, dk_eq4, dk_eq6, dk_tneg, dk_tpos, dk_teq, dk_tle, w2]
        refine ⟨vp_in_nI (by omega) (by omega), br_f (by omega) ⟨vp_in_nI (by omega) (by omega), dk_xb (by omega) (by omega) _ (fun _ => ?_) (fun v => ?_)⟩⟩
        · refine br_f (by decide) (dk_xpc (by omega) hc w1 (by omega) _ ?_)
          have y1 := y.2.2.1
          have y2 := y.2.2.2
          rw [dk_tneg (by omega), dk_teqn (by omega) (by omega)]
          exact br_f y1 (br_f (by omega) h)
        · rw [(w4 c).mpr y.2.1] at v; exact absurd v (by decide)
      · obtain ⟨n, hn'⟩ := rest y
        refine ⟨n + 1, ?_⟩
        simp (disch := omega) only [wX_faultOf_70, nI_clamp, dk_Na, dk_Ta, dk_Wa, dk_m2, dk_m3, dk_m4, dk_m5, dk_m6, dk_a5, dk_a10, nI_add, nI_1, nI_leI, nI_ltI, nI_eq, dk_le3, dk_le5, dk_le6, dk_le16, dk_le20, dk_le25, dk_le32, dk_le36, dk_le1024, dk_lt0, dk_ge0, dk_lez, dk_eq0, dk_eq1, dk_eq4, dk_eq6, dk_tneg, dk_tpos, dk_teq, dk_tle, dk_e7, hm]
        refine ⟨vp_in_nI hx (by omega), br_f (by omega) ⟨vp_in_nI (by omega) (by omega), nm_e ?_⟩⟩
        simp (disch := omega) only [nI_clamp, dk_Na, dk_Ta, dk_Wa, dk_m2, dk_m3, dk_m4, dk_m5, dk_m6, dk_a5, dk_a10, nI_add, nI_1, nI_leI, nI_ltI, nI_eq, dk_le3, dk_le5, dk_le6, dk_le16, dk_le20, dk_le25, dk_le32, dk_le36, dk_le1024, dk_lt0, dk_ge0, dk_lez, dk_eq0, dk_eq1, dk_eq4, dk_eq6, dk_tneg, dk_tpos, dk_teq, dk_tle, w2]
        refine ⟨vp_in_nI (by omega) (by omega), br_f (by omega) ⟨vp_in_nI (by omega) (by omega), dk_xb (by omega) (by omega) _ (fun v => ?_) (fun v => br_t rfl (nm_e hn'))⟩⟩
        refine br_f (by decide) (dk_xpc (by omega) hc w1 (by omega) _ ?_)
        rw [dk_tneg (by omega), dk_teqn (by omega) (by omega)]
        refine br_c (fun _ => nm_e hn') (fun z1 => br_t ?_ (nm_e hn'))
        exact Classical.byContradiction fun z2 => y ⟨hu, (w4 c).mp v, z1, by omega⟩
    · obtain ⟨n, hn'⟩ := rest (fun y => z ((dk_ad_m _ _ _ _ _).mp y.1).2.2.1)
      refine ⟨n + 1, ?_⟩
      simp (disch := omega) only [wX_faultOf_70, nI_clamp, dk_Na, dk_Ta, dk_Wa, dk_m2, dk_m3, dk_m4, dk_m5, dk_m6, dk_a5, dk_a10, nI_add, nI_1, nI_leI, nI_ltI, nI_eq, dk_le3, dk_le5, dk_le6, dk_le16, dk_le20, dk_le25, dk_le32, dk_le36, dk_le1024, dk_lt0, dk_ge0, dk_lez, dk_eq0, dk_eq1, dk_eq4, dk_eq6, dk_tneg, dk_tpos, dk_teq, dk_tle, dk_e7, hm]
      refine ⟨vp_in_nI hx (by omega), br_f (by omega) ⟨vp_in_nI (by omega) (by omega), nm_e ?_⟩⟩
      simp (disch := omega) only [nI_clamp, dk_Na, dk_Ta, dk_Wa, dk_m2, dk_m3, dk_m4, dk_m5, dk_m6, dk_a5, dk_a10, nI_add, nI_1, nI_leI, nI_ltI, nI_eq, dk_le3, dk_le5, dk_le6, dk_le16, dk_le20, dk_le25, dk_le32, dk_le36, dk_le1024, dk_lt0, dk_ge0, dk_lez, dk_eq0, dk_eq1, dk_eq4, dk_eq6, dk_tneg, dk_tpos, dk_teq, dk_tle]
      exact ⟨vp_in_nI (by omega) (by omega), br_t (by omega) (nm_e hn')⟩
theorem dk_xfo {s p k : Nat} (hs : s ≤ 1) (hp : p < 5) (hk : k < 90) (hnd : ∀ x, nd x ≤ 4) (hot : ∀ k, ot k < 5) (hle : ∀ k, le k ≤ 2) (hgr : ∀ k, gr k ≤ 2) (hop : ∀ k, op k ≤ 1) (hth : ∀ i, th i < 4) (hnm : ∀ k, nm k < 12) (hsh : ∀ k, sh k < 4) (hun : dk_Un it nm ex)
    (hw : dk_Wi nd ot it nm sh ex (fun p => th (5 * s + p)) s re rd wh ss rf) (ht : 0 < th (5 * s + p)) (post : Int32 → Prop) (h : post (nI (dk_fo nd ot it nm sh ex (fun p => th (5 * s + p)) p (nm k) (sh k)))) : wpX_faultOf post (pr, bl, na, sc, fa, st, no, (dk_N kn), (dk_N nd), (dk_N (dk_E ot le gr op)), (dk_N it), (dk_N nm), (dk_N sh), (dk_N ex), (dk_W wl), (dk_N wg), (dk_T th), re, rd, od, on, wh, ss, rf, wi, lv, dm, ch, cg, my, sp, fA, fS, nt) (nI s) (nI p) (nI k) := by
  obtain ⟨w1, ⟨S, w2, w3, w4⟩, _⟩ := dk_Wi_pl hw hp ht
  have hn := hnm k
  have p5 := dk_place5 (nd := nd) (ot := ot) (it := it) (nm := nm) (ex := ex) (t := fun p => th (5 * s + p)) (p := p) (n := nm k)
  have hS := w3 (nm k) hn
  have hs4 := hsh k
  simp (disch := omega) only [wpX_faultOf, nI_clamp, dk_Na, dk_Ta, dk_Wa, dk_m2, dk_m3, dk_m4, dk_m5, dk_m6, dk_a5, dk_a10, nI_add, nI_1, nI_leI, nI_ltI, nI_eq, dk_le3, dk_le5, dk_le6, dk_le16, dk_le20, dk_le25, dk_le32, dk_le36, dk_le1024, dk_lt0, dk_ge0, dk_lez, dk_eq0, dk_eq1, dk_eq4, dk_eq6, dk_tneg, dk_tpos, dk_teq, dk_tle]
  refine ⟨vp_in_nI hk (by omega), nm_e (dk_xpc (by omega) hn w1 (by omega) _ ?_)⟩
  simp (disch := omega) only [nI_clamp, dk_Na, dk_Ta, dk_Wa, dk_m2, dk_m3, dk_m4, dk_m5, dk_m6, dk_a5, dk_a10, nI_add, nI_1, nI_leI, nI_ltI, nI_eq, dk_le3, dk_le5, dk_le6, dk_le16, dk_le20, dk_le25, dk_le32, dk_le36, dk_le1024, dk_lt0, dk_ge0, dk_lez, dk_eq0, dk_eq1, dk_eq4, dk_eq6, dk_tneg, dk_tpos, dk_teq, dk_tle]
  rw [dk_H2r w2 hn hS, nI_eq (by omega) (by omega)]
  cases hpl : dk_place nd ot it nm ex (fun p => th (5 * s + p)) p (nm k) with
  | zero =>
    rw [dk_fo, if_pos hpl] at h
    exact br_f (by omega) h
  | succ q =>
    have sp := w4 (nm k) q hpl
    have qx : dk_x (fun p => th (5 * s + p)) q < 15 := dk_x15 sp.1 (hth _)
    rw [dk_fo, if_neg (by omega), hpl, show q + 1 - 1 = q by omega] at h
    refine br_t (by omega) ⟨vp_in_nI (by omega) (by omega), vp_in_nI hk (by omega), br_c (fun e => ?_) (fun e => ?_)⟩
    · rw [e] at sp
      rw [if_pos (dk_bT' sp)] at h
      refine dk_xat hs hp hth _ (fun _ => nm_r (dk_m4 _) ?_) (fun y => absurd ht (by omega))
      rw [nI_succ, Int32.add_sub_cancel]
      refine dk_xf70 hs hp hn hnd hot hle hgr hop hth hw ht rfl hpl post (nd (dk_x (fun p => th (5 * s + p)) p)) 0 (by omega) ?_
      rw [dk_bC (Q := ∃ u, dk_cf nd ot it nm ex (fun p => th (5 * s + p)) p (nm k) u)]
      · exact h
      · refine ⟨fun ⟨k, _, _, c⟩ => ⟨_, c⟩, fun ⟨u, c⟩ => ?_⟩
        obtain ⟨_, _, _, k', a, b⟩ := (dk_ad_m _ _ _ _ _).mp c.1
        exact ⟨k', Nat.zero_le _, a, b ▸ c⟩
    · rw [if_neg] at h
      · exact h
      · rw [dk_bF']
        · decide
        · rintro ⟨_, _, k2, a2, b2, c2, d2⟩
          obtain ⟨_, _, k1, a1, b1, c1, d1⟩ := sp
          have := dk_Un_eq hun qx a1 a2 b1 b2 (c1.trans c2.symm)
          rw [this, d2] at d1
          exact e d1.symm
end
end
section
-- lists of faults
def dk_fl (f : Nat → Nat) (b : Nat) : Nat → Nat → List (Nat × Nat)
  | 0, _ => []
  | d + 1, j => if f (b + j) = 0 then dk_fl f b d (j + 1) else (b + j, f (b + j)) :: dk_fl f b d (j + 1)
noncomputable def dk_fp (nd ot it nm sh ex t : Nat → Nat) (p : Nat) : List (Nat × Nat) := if t p = 0 then [] else dk_fl (dk_fk nd ot it nm sh ex t p) (6 * dk_x t p) (it (dk_x t p)) 0
noncomputable def dk_fs (nd ot it nm sh ex t : Nat → Nat) (set : Nat) : Nat → Nat → List (Nat × Nat)
  | 0, _ => []
  | d + 1, p => (if set.testBit p = true then dk_fp nd ot it nm sh ex t p else []) ++ dk_fs nd ot it nm sh ex t set d (p + 1)
def dk_rep2 (a b : Nat → Int32) (L : List (Nat × Nat)) : Prop := ∀ i, i < L.length → a i = nI (L.getD i (0, 0)).1 ∧ b i = nI (L.getD i (0, 0)).2
theorem dk_getD_app2 {l m : List (Nat × Nat)} {i : Nat} (h : i < l.length) : (l ++ m).getD i (0, 0) = l.getD i (0, 0) := by
  rw [List.getD_eq_getElem?_getD, List.getD_eq_getElem?_getD, List.getElem?_append_left h]
theorem dk_getD_end2 (l : List (Nat × Nat)) (q : Nat × Nat) : (l ++ [q]).getD l.length (0, 0) = q := by
  rw [List.getD_eq_getElem?_getD, List.getElem?_append_right (Nat.le_refl _)]; simp
theorem dk_rep2_snoc {a b : Nat → Int32} {L : List (Nat × Nat)} {k f : Nat} (h : dk_rep2 a b L) : dk_rep2 (upd a L.length (nI k)) (upd b L.length (nI f)) (L ++ [(k, f)]) := by
  intro i hi
  rw [List.length_append, List.length_singleton] at hi
  by_cases e : i = L.length
  · subst e; rw [pk_us, pk_us, dk_getD_end2]; exact ⟨rfl, rfl⟩
  · rw [pk_un e, pk_un e, dk_getD_app2 (by omega)]; exact h i (by omega)
theorem dk_fl_len (f : Nat → Nat) (b : Nat) : ∀ d j, (dk_fl f b d j).length ≤ d
  | 0, _ => Nat.le_refl _
  | d + 1, j => by
    have := dk_fl_len f b d (j + 1)
    rw [dk_fl]
    split
    · omega
    · rw [List.length_cons]; omega
theorem dk_fp_len {nd ot it nm sh ex t : Nat → Nat} (hit : ∀ x, it x ≤ 6) (p : Nat) : (dk_fp nd ot it nm sh ex t p).length ≤ 6 := by
  unfold dk_fp
  split
  · exact Nat.zero_le _
  · exact Nat.le_trans (dk_fl_len _ _ _ _) (hit _)
section
variable {pr bl na sc fa st no : Int32} {kn nd ot le gr op it nm sh ex wl wg th : Nat → Nat} {re rd od on : Nat → Int32} {wh : Nat → Int64} {ss rf wi lv dm ch cg my sp fA fS nt : Nat → Int32}
theorem dk_xa44 {s p set x : Nat} (hs : s ≤ 1) (hp : p < 5) (hxe : dk_x (fun p => th (5 * s + p)) p = x) (hnd : ∀ x, nd x ≤ 4) (hot : ∀ k, ot k < 5) (hle : ∀ k, le k ≤ 2) (hgr : ∀ k, gr k ≤ 2) (hop : ∀ k, op k ≤ 1) (hth : ∀ i, th i < 4) (hit : ∀ x, it x ≤ 6) (hnm : ∀ k, nm k < 12) (hsh : ∀ k, sh k < 4) (hex : ∀ k, ex k ≤ 1) (hun : dk_Un it nm ex)
    (hw : dk_Wi nd ot it nm sh ex (fun p => th (5 * s + p)) s re rd wh ss rf) (ht : 0 < th (5 * s + p)) : ∀ d j (L : List (Nat × Nat)) (fA fS : Nat → Int32), j + d = it x → L.length ≤ 6 * p + j → dk_rep2 fA fS L →
    ∃ fA' fS' : Nat → Int32, dk_rep2 fA' fS' (L ++ dk_fl (dk_fk nd ot it nm sh ex (fun p => th (5 * s + p)) p) (6 * x) d j) ∧ ∀ (post : SX → Prop) J,
    J (nI (p + 1)) (nI (L ++ dk_fl (dk_fk nd ot it nm sh ex (fun p => th (5 * s + p)) p) (6 * x) d j).length) (dk_N kn) (dk_N nd) (dk_N (dk_E ot le gr op)) (dk_N it) (dk_N nm) (dk_N sh) (dk_N ex) (dk_W wl) (dk_N wg) (dk_T th) re rd od on wh ss rf wi lv dm ch cg my sp fA' fS' nt →
    ∃ n, wX_audit_44 post J (nI s) (nI set) (nI p) (nI x) pr bl na sc st no n (nI (6 * x + j)) (nI L.length) (dk_N kn) (dk_N nd) (dk_N (dk_E ot le gr op)) (dk_N it) (dk_N nm) (dk_N sh) (dk_N ex) (dk_W wl) (dk_N wg) (dk_T th) re rd od on wh ss rf wi lv dm ch cg my sp fA fS nt
  | 0, j, L, fA, fS, hj, hL, hr => by
    have hx : x < 15 := by rw [← hxe]; exact dk_x15 hp (hth _)
    have := hit x
    rw [dk_fl, List.append_nil]
    refine ⟨fA, fS, hr, fun post J h => ⟨1, ?_⟩⟩
    simp (disch := omega) only [wX_audit_44, nI_clamp, dk_Na, dk_Ta, dk_Wa, dk_m2, dk_m3, dk_m4, dk_m5, dk_m6, dk_a5, dk_a10, nI_add, nI_1, nI_leI, nI_ltI, nI_eq, dk_le3, dk_le5, dk_le6, dk_le16, dk_le20, dk_le25, dk_le32, dk_le36, dk_le1024, dk_lt0, dk_ge0, dk_lez, dk_eq0, dk_eq1, dk_eq4, dk_eq6, dk_tneg, dk_tpos, dk_teq, dk_tle]
    exact br_f (fun y => y) ⟨vp_in_nI hx (by omega), br_t (by omega) (nm_e h)⟩
  | d + 1, j, L, fA, fS, hj, hL, hr => by
    have hx : x < 15 := by rw [← hxe]; exact dk_x15 hp (hth _)
    have hi := hit x
    have he := hex (6 * x + j)
    have f3 := dk_fk3 nd ot it nm sh ex (fun p => th (5 * s + p)) p (6 * x + j)
    have f3' := dk_fo3 nd ot it nm sh ex (fun p => th (5 * s + p)) p (nm (6 * x + j)) (sh (6 * x + j))
    by_cases z : dk_fk nd ot it nm sh ex (fun p => th (5 * s + p)) p (6 * x + j) = 0
    · obtain ⟨fA', fS', b1, b2⟩ := dk_xa44 (set := set) hs hp hxe hnd hot hle hgr hop hth hit hnm hsh hex hun hw ht d (j + 1) L fA fS (by omega) (by omega) hr
      rw [dk_fl, if_pos z]
      refine ⟨fA', fS', b1, fun post J h => ?_⟩
      obtain ⟨n, hn⟩ := b2 post J h
      refine ⟨n + 1, ?_⟩
      simp (disch := omega) only [wX_audit_44, nI_clamp, dk_Na, dk_Ta, dk_Wa, dk_m2, dk_m3, dk_m4, dk_m5, dk_m6, dk_a5, dk_a10, nI_add, nI_1, nI_leI, nI_ltI, nI_eq, dk_le3, dk_le5, dk_le6, dk_le16, dk_le20, dk_le25, dk_le32, dk_le36, dk_le1024, dk_lt0, dk_ge0, dk_lez, dk_eq0, dk_eq1, dk_eq4, dk_eq6, dk_tneg, dk_tpos, dk_teq, dk_tle]
      refine br_f (fun y => y) ⟨vp_in_nI hx (by omega), br_f (by omega) ⟨vp_in_nI (by omega) (by omega), br_c (fun y => ?_) (fun y => ?_)⟩⟩
      · refine dk_xfo hs hp (by omega) hnd hot hle hgr hop hth hnm hsh hun hw ht _ ?_
        rw [dk_fk, if_neg (by omega)] at z
        rw [z]
        exact br_t rfl (nm_r (nI_1 _) hn)
      · exact br_t rfl (nm_r (nI_1 _) hn)
    · have hne : ¬ ex (6 * x + j) = 1 := fun y => z (by rw [dk_fk, if_pos y])
      have ef : dk_fk nd ot it nm sh ex (fun p => th (5 * s + p)) p (6 * x + j) = dk_fo nd ot it nm sh ex (fun p => th (5 * s + p)) p (nm (6 * x + j)) (sh (6 * x + j)) := by rw [dk_fk, if_neg hne]
      obtain ⟨fA', fS', b1, b2⟩ := dk_xa44 (set := set) hs hp hxe hnd hot hle hgr hop hth hit hnm hsh hex hun hw ht d (j + 1) (L ++ [(6 * x + j, dk_fk nd ot it nm sh ex (fun p => th (5 * s + p)) p (6 * x + j))]) _ _ (by omega) (by rw [List.length_append, List.length_singleton]; omega) (dk_rep2_snoc hr)
      rw [dk_fl, if_neg z]
      rw [List.append_assoc, List.singleton_append] at b1 b2
      refine ⟨fA', fS', b1, fun post J h => ?_⟩
      obtain ⟨n, hn⟩ := b2 post J h
      refine ⟨n + 1, ?_⟩
      simp (disch := omega) only [wX_audit_44, nI_clamp, dk_Na, dk_Ta, dk_Wa, dk_m2, dk_m3, dk_m4, dk_m5, dk_m6, dk_a5, dk_a10, nI_add, nI_1, nI_leI, nI_ltI, nI_eq, dk_le3, dk_le5, dk_le6, dk_le16, dk_le20, dk_le25, dk_le32, dk_le36, dk_le1024, dk_lt0, dk_ge0, dk_lez, dk_eq0, dk_eq1, dk_eq4, dk_eq6, dk_tneg, dk_tpos, dk_teq, dk_tle]
      refine br_f (fun y => y) ⟨vp_in_nI hx (by omega), br_f (by omega) ⟨vp_in_nI (by omega) (by omega), br_t (by omega) ?_⟩⟩
      refine dk_xfo hs hp (by omega) hnd hot hle hgr hop hth hnm hsh hun hw ht _ ?_
      rw [List.length_append, List.length_singleton, ef] at hn
      rw [ef] at z
      simp (disch := omega) only [wX_audit_89, nI_clamp, dk_Na, dk_Ta, dk_Wa, dk_m2, dk_m3, dk_m4, dk_m5, dk_m6, dk_a5, dk_a10, nI_add, nI_1, nI_leI, nI_ltI, nI_eq, dk_le3, dk_le5, dk_le6, dk_le16, dk_le20, dk_le25, dk_le32, dk_le36, dk_le1024, dk_lt0, dk_ge0, dk_lez, dk_eq0, dk_eq1, dk_eq4, dk_eq6, dk_tneg, dk_tpos, dk_teq, dk_tle, dk_vbb]
      exact br_f z ⟨vp_in_nI (by omega) (by omega), nm_e (nm_e ⟨vp_in_nI (by omega) (by omega), nm_e (nm_e hn)⟩)⟩
theorem dk_xa12 {s set : Nat} (hs : s ≤ 1) (hset : set < 32) (hnd : ∀ x, nd x ≤ 4) (hot : ∀ k, ot k < 5) (hle : ∀ k, le k ≤ 2) (hgr : ∀ k, gr k ≤ 2) (hop : ∀ k, op k ≤ 1) (hth : ∀ i, th i < 4) (hit : ∀ x, it x ≤ 6) (hnm : ∀ k, nm k < 12) (hsh : ∀ k, sh k < 4) (hex : ∀ k, ex k ≤ 1) (hun : dk_Un it nm ex)
    (hw : dk_Wi nd ot it nm sh ex (fun p => th (5 * s + p)) s re rd wh ss rf) : ∀ d p (L : List (Nat × Nat)) (fA fS : Nat → Int32), p + d = 5 → L.length ≤ 6 * p → dk_rep2 fA fS L →
    ∃ fA' fS' : Nat → Int32, dk_rep2 fA' fS' (L ++ dk_fs nd ot it nm sh ex (fun p => th (5 * s + p)) set d p) ∧ ∀ post : SX → Prop,
    post (pr, bl, na, sc, (nI (L ++ dk_fs nd ot it nm sh ex (fun p => th (5 * s + p)) set d p).length), st, no, (dk_N kn), (dk_N nd), (dk_N (dk_E ot le gr op)), (dk_N it), (dk_N nm), (dk_N sh), (dk_N ex), (dk_W wl), (dk_N wg), (dk_T th), re, rd, od, on, wh, ss, rf, wi, lv, dm, ch, cg, my, sp, fA', fS', nt) →
    ∃ n, wX_audit_12 post (nI s) (nI set) pr bl na sc st no n (nI p) (nI L.length) (dk_N kn) (dk_N nd) (dk_N (dk_E ot le gr op)) (dk_N it) (dk_N nm) (dk_N sh) (dk_N ex) (dk_W wl) (dk_N wg) (dk_T th) re rd od on wh ss rf wi lv dm ch cg my sp fA fS nt
  | 0, p, L, fA, fS, hp, hL, hr => by
    have : p = 5 := by omega
    subst this
    rw [dk_fs, List.append_nil]
    exact ⟨fA, fS, hr, fun post h => ⟨1, br_t (by decide) h⟩⟩
  | d + 1, p, L, fA, fS, hp, hL, hr => by
    have hp5 : p < 5 := by omega
    have h4 := hth (5 * s + p)
    have h6 := dk_fp_len (nd := nd) (ot := ot) (nm := nm) (sh := sh) (ex := ex) (t := fun p => th (5 * s + p)) hit p
    by_cases z : set.testBit p = true ∧ 0 < th (5 * s + p)
    · have e : (if set.testBit p = true then dk_fp nd ot it nm sh ex (fun p => th (5 * s + p)) p else []) = dk_fl (dk_fk nd ot it nm sh ex (fun p => th (5 * s + p)) p) (6 * dk_x (fun p => th (5 * s + p)) p) (it (dk_x (fun p => th (5 * s + p)) p)) 0 := by
        rw [if_pos z.1]; exact if_neg (show ¬ th (5 * s + p) = 0 by omega)
      have h6' := Nat.le_trans (dk_fl_len (dk_fk nd ot it nm sh ex (fun p => th (5 * s + p)) p) (6 * dk_x (fun p => th (5 * s + p)) p) (it (dk_x (fun p => th (5 * s + p)) p)) 0) (hit _)
      obtain ⟨fA1, fS1, b1, b2⟩ := dk_xa44 (pr := pr) (bl := bl) (na := na) (sc := sc) (st := st) (no := no) (kn := kn) (nd := nd) (ot := ot) (le := le) (gr := gr) (op := op) (it := it) (nm := nm) (sh := sh) (ex := ex) (wl := wl) (wg := wg) (th := th) (re := re) (rd := rd) (od := od) (on := on) (wh := wh) (ss := ss) (rf := rf) (wi := wi) (lv := lv) (dm := dm) (ch := ch) (cg := cg) (my := my) (sp := sp) (nt := nt) (set := set) hs hp5 rfl hnd hot hle hgr hop hth hit hnm hsh hex hun hw z.2 (it (dk_x (fun p => th (5 * s + p)) p)) 0 L fA fS (by omega) (by omega) hr
      obtain ⟨fA', fS', c1, c2⟩ := dk_xa12 hs hset hnd hot hle hgr hop hth hit hnm hsh hex hun hw d (p + 1) _ fA1 fS1 (by omega) (by rw [List.length_append]; omega) b1
      rw [dk_fs, e]
      rw [List.append_assoc] at c1 c2
      refine ⟨fA', fS', c1, fun post h => ?_⟩
      obtain ⟨n, hn⟩ := c2 post h
      have b3 := b2 post _ hn
      refine ⟨n + 1, ?_⟩
      rw [wX_audit_12]
      refine br_f (by rw [dk_le5 (by omega)]; omega) (dk_xb (by omega) (by omega) _ (fun _ => ?_) (fun y => by rw [z.1] at y; exact absurd y (by decide)))
      exact br_f (by decide) (dk_xat hs hp5 hth _ (fun _ => nm_r (dk_m6 _) b3) (fun y => absurd z.2 (by omega)))
    · have e : (if set.testBit p = true then dk_fp nd ot it nm sh ex (fun p => th (5 * s + p)) p else []) = [] := by
        by_cases y : set.testBit p = true
        · rw [if_pos y]; exact if_pos (by have : ¬ 0 < th (5 * s + p) := fun w => z ⟨y, w⟩; show th (5 * s + p) = 0; omega)
        · rw [if_neg y]
      obtain ⟨fA', fS', c1, c2⟩ := dk_xa12 hs hset hnd hot hle hgr hop hth hit hnm hsh hex hun hw d (p + 1) L fA fS (by omega) (by omega) hr
      rw [dk_fs, e, List.nil_append]
      refine ⟨fA', fS', c1, fun post h => ?_⟩
      obtain ⟨n, hn⟩ := c2 post h
      refine ⟨n + 1, ?_⟩
      rw [wX_audit_12]
      refine br_f (by rw [dk_le5 (by omega)]; omega) (dk_xb (by omega) (by omega) _ (fun y => ?_) (fun y => ?_))
      · refine br_f (by decide) (dk_xat hs hp5 hth _ (fun w => absurd ⟨y, w⟩ z) (fun _ => nm_e ⟨1, ?_⟩))
        exact br_t (by decide) (nm_r (nI_1 p) hn)
      · exact br_t rfl (nm_e ⟨1, br_t (by decide) (nm_r (nI_1 p) hn)⟩)
theorem dk_xau {s set : Nat} (hs : s ≤ 1) (hset : set < 32) (hnd : ∀ x, nd x ≤ 4) (hot : ∀ k, ot k < 5) (hle : ∀ k, le k ≤ 2) (hgr : ∀ k, gr k ≤ 2) (hop : ∀ k, op k ≤ 1) (hth : ∀ i, th i < 4) (hit : ∀ x, it x ≤ 6) (hnm : ∀ k, nm k < 12) (hsh : ∀ k, sh k < 4) (hex : ∀ k, ex k ≤ 1) (hun : dk_Un it nm ex)
    (hw : ¬ wi s = 0 → dk_Wi nd ot it nm sh ex (fun p => th (5 * s + p)) s re rd wh ss rf) :
    ∃ (re' rd' od' on' : Nat → Int32) (wh' : Nat → Int64) (ss' rf' wi' fA' fS' : Nat → Int32), dk_rep2 fA' fS' (dk_fs nd ot it nm sh ex (fun p => th (5 * s + p)) set 5 0) ∧ dk_Wi nd ot it nm sh ex (fun p => th (5 * s + p)) s re' rd' wh' ss' rf' ∧ (¬ wi' s = 0) ∧ (∀ i, i ≠ s → wi' i = wi i) ∧ dk_Fr s re re' ∧ dk_Fr s rd rd' ∧ dk_Fr s wh wh' ∧ dk_Fr s ss ss' ∧ dk_Fr s rf rf' ∧
    ∀ post : SX → Prop, post (pr, bl, na, sc, (nI (dk_fs nd ot it nm sh ex (fun p => th (5 * s + p)) set 5 0).length), st, no, (dk_N kn), (dk_N nd), (dk_N (dk_E ot le gr op)), (dk_N it), (dk_N nm), (dk_N sh), (dk_N ex), (dk_W wl), (dk_N wg), (dk_T th), re', rd', od', on', wh', ss', rf', wi', lv, dm, ch, cg, my, sp, fA', fS', nt) → wpX_audit post (pr, bl, na, sc, fa, st, no, (dk_N kn), (dk_N nd), (dk_N (dk_E ot le gr op)), (dk_N it), (dk_N nm), (dk_N sh), (dk_N ex), (dk_W wl), (dk_N wg), (dk_T th), re, rd, od, on, wh, ss, rf, wi, lv, dm, ch, cg, my, sp, fA, fS, nt) (nI s) (nI set) := by
  obtain ⟨re', rd', od', on', wh', ss', rf', wi', a1, a2, a3, a4, a5, a6, a7, a8, a9⟩ := dk_xwi (pr := pr) (bl := bl) (na := na) (sc := sc) (fa := fa) (st := st) (no := no) (kn := kn) (nd := nd) (ot := ot) (le := le) (gr := gr) (op := op) (it := it) (nm := nm) (sh := sh) (ex := ex) (wl := wl) (wg := wg) (th := th) (re := re) (rd := rd) (od := od) (on := on) (wh := wh) (ss := ss) (rf := rf) (wi := wi) (lv := lv) (dm := dm) (ch := ch) (cg := cg) (my := my) (sp := sp) (fA := fA) (fS := fS) (nt := nt) hs hnd hot hle hgr hop hth hit hnm hsh hex hw
  obtain ⟨fA', fS', b1, b2⟩ := dk_xa12 (pr := pr) (bl := bl) (na := na) (sc := sc) (st := st) (no := no) (kn := kn) (nd := nd) (ot := ot) (le := le) (gr := gr) (op := op) (it := it) (nm := nm) (sh := sh) (ex := ex) (wl := wl) (wg := wg) (th := th) (lv := lv) (dm := dm) (ch := ch) (cg := cg) (my := my) (sp := sp) (nt := nt) (re := re') (rd := rd') (od := od') (on := on') (wh := wh') (ss := ss') (rf := rf') (wi := wi') hs hset hnd hot hle hgr hop hth hit hnm hsh hex hun a1 5 0 [] fA fS rfl (Nat.le_refl _) (fun i hi => absurd hi (Nat.not_lt_zero _))
  rw [List.nil_append] at b1 b2
  refine ⟨re', rd', od', on', wh', ss', rf', wi', fA', fS', b1, a1, a2, a3, a4, a5, a6, a7, a8, fun post h => ?_⟩
  exact a9 _ (b2 post h)
end
end
section
-- what choices leave for others
def dk_okn (le gr op : Nat → Nat) (k b : Nat) : Prop := (b = 0 → op k = 1) ∧ (0 < b → le k + 1 ≤ b ∧ b ≤ gr k + 1)
def dk_al (kn nd ot le gr op : Nat → Nat) (p c q b : Nat) : Prop := 0 < c → kn (3 * p + (c - 1)) = 1 → ∀ k, k < nd (3 * p + (c - 1)) → ot (4 * (3 * p + (c - 1)) + k) = q → dk_okn le gr op (4 * (3 * p + (c - 1)) + k) b
def dk_fi (kn wl wg : Nat → Nat) (p : Nat) (w : Bool) (b : Nat) : Prop := (0 < b → kn (3 * p + (b - 1)) = 1) ∧ (w = true → (wl p = 1 → b = 0) ∧ (2 ≤ wl p → wl p ≤ b + 1 ∧ b ≤ wg p + 1))
noncomputable def dk_lm (kn nd ot le gr op : Nat → Nat) (p c q : Nat) : Nat := dk_m (fun b => dk_b (dk_al kn nd ot le gr op p c q b)) 4
noncomputable def dk_fm (kn wl wg : Nat → Nat) (p : Nat) (w : Bool) : Nat := dk_m (fun b => dk_b (dk_fi kn wl wg p w b)) 4
theorem dk_m4L (f : Nat → Bool) : dk_m f 4 < 16 := dk_mL f 4
theorem dk_mand (f g : Nat → Bool) (n : Nat) : dk_m f n &&& dk_m g n = dk_m (fun i => f i && g i) n := by
  apply dk_mX (Nat.lt_of_le_of_lt Nat.and_le_left (dk_mL f n))
  intro i hi
  rw [Nat.testBit_and, dk_mB, dk_mB]; simp [hi]
theorem dk_band {P Q : Prop} : (dk_b P && dk_b Q) = dk_b (P ∧ Q) := by
  by_cases hp : P
  · by_cases hq : Q
    · rw [dk_bT' hp, dk_bT' hq, dk_bT' ⟨hp, hq⟩]; rfl
    · rw [dk_bT' hp, dk_bF' hq, dk_bF' (P := P ∧ Q) (fun h => hq h.2)]; rfl
  · rw [dk_bF' hp, dk_bF' (P := P ∧ Q) (fun h => hp h.1)]; rfl
section
variable {pr bl na sc fa st no : Int32} {kn nd ot le gr op it nm sh ex wl wg th : Nat → Nat} {re rd od on : Nat → Int32} {wh : Nat → Int64} {ss rf wi lv dm ch cg my sp fA fS nt : Nat → Int32}
theorem dk_xnb41 {c x k q : Nat} (hc : c < 20) (hk : k < 60) (ho : ot k = q) (hq : q < 5) (hg : gr k ≤ 2) (hl : le k ≤ gr k) (hop : op k ≤ 1) (m : Nat) (hm : m < 16) (hlv : lv (5 * c + q) = nI m) (post : SX → Prop) (J)
    (h : J (nI (k + 1)) (dk_N kn) (dk_N nd) (dk_N (dk_E ot le gr op)) (dk_N it) (dk_N nm) (dk_N sh) (dk_N ex) (dk_W wl) (dk_N wg) (dk_T th) re rd od on wh ss rf wi (upd lv (5 * c + q) (nI (m &&& dk_m (fun b => dk_b (dk_okn le gr op k b)) 4))) dm ch cg my sp fA fS nt) : ∀ d v, v + d = gr k + 1 → le k ≤ v →
    ∃ n, wX_narrowBy_41 post J (nI c) (nI x) (nI k) pr bl na sc fa st no (dk_N kn) (dk_N nd) (dk_N (dk_E ot le gr op)) (dk_N it) (dk_N nm) (dk_N sh) (dk_N ex) (dk_W wl) (dk_N wg) (dk_T th) re rd od on wh ss rf wi lv dm ch cg my sp fA fS nt n (nI (dk_m (fun b => dk_b ((b = 0 → op k = 1) ∧ (0 < b → le k + 1 ≤ b ∧ b ≤ v))) 4)) (nI v)
  | 0, v, hv, hlv' => by
    have : v = gr k + 1 := by omega
    subst this
    have he : dk_E ot le gr op k < 256 := by unfold dk_E; omega
    have e1 : dk_E ot le gr op k % 8 = q := by unfold dk_E; omega
    have e2 : dk_E ot le gr op k / 32 % 4 = gr k := by unfold dk_E; omega
    have hm' : m &&& dk_m (fun b => dk_b (dk_okn le gr op k b)) 4 < 16 := Nat.lt_of_le_of_lt Nat.and_le_left hm
    refine ⟨1, ?_⟩
    have h' := h
    unfold dk_okn at h' hm'
    simp (disch := omega) only [wX_narrowBy_41, nI_clamp, dk_Na, dk_Ta, dk_Wa, dk_m2, dk_m3, dk_m4, dk_m5, dk_m6, dk_a5, dk_a10, nI_add, nI_1, nI_leI, nI_ltI, nI_eq, dk_le3, dk_le5, dk_le6, dk_le16, dk_le20, dk_le25, dk_le32, dk_le36, dk_le1024, dk_lt0, dk_ge0, dk_lez, dk_eq0, dk_eq1, dk_eq4, dk_eq6, dk_tneg, dk_tpos, dk_teq, dk_tle, dk_e7, dk_eg, e1, e2, hlv, dk_and, dk_vbb]
    exact ⟨vp_in_nI hk (by omega), br_t (by omega) ⟨vp_in_nI hk (by omega), vp_in_nI (by omega) (by omega), vp_in_nI (by omega) (by omega), nm_e (nm_e h')⟩⟩
  | d + 1, v, hv, hlv' => by
    have he : dk_E ot le gr op k < 256 := by unfold dk_E; omega
    have e2 : dk_E ot le gr op k / 32 % 4 = gr k := by unfold dk_E; omega
    obtain ⟨n, hn⟩ := dk_xnb41 hc hk ho hq hg hl hop m hm hlv post J h d (v + 1) (by omega) (by omega)
    refine ⟨n + 1, ?_⟩
    have e3 : dk_m (fun b => dk_b ((b = 0 → op k = 1) ∧ (0 < b → le k + 1 ≤ b ∧ b ≤ v))) 4 ||| 2 ^ (v + 1) = dk_m (fun b => dk_b ((b = 0 → op k = 1) ∧ (0 < b → le k + 1 ≤ b ∧ b ≤ v + 1))) 4 := by
      apply dk_mX
      · exact Nat.or_lt_two_pow (dk_mL _ _) (Nat.pow_lt_pow_right (by omega) (by omega))
      · intro i hi
        rw [Nat.testBit_or, dk_mB, dk_tp2]
        by_cases z : v + 1 = i
        · rw [dk_bT' (P := (i = 0 → op k = 1) ∧ (0 < i → le k + 1 ≤ i ∧ i ≤ v + 1)) ⟨by omega, by omega⟩]
          simp [z]
        · have : dk_b ((i = 0 → op k = 1) ∧ (0 < i → le k + 1 ≤ i ∧ i ≤ v)) = dk_b ((i = 0 → op k = 1) ∧ (0 < i → le k + 1 ≤ i ∧ i ≤ v + 1)) := dk_bC ⟨fun y => ⟨y.1, fun w => ⟨(y.2 w).1, by have := (y.2 w).2; omega⟩⟩, fun y => ⟨y.1, fun w => ⟨(y.2 w).1, by have := (y.2 w).2; omega⟩⟩⟩
          simp [z, hi, this]
    rw [← e3] at hn
    simp (disch := omega) only [wX_narrowBy_41, nI_clamp, dk_Na, dk_Ta, dk_Wa, dk_m2, dk_m3, dk_m4, dk_m5, dk_m6, dk_a5, dk_a10, nI_add, nI_1, nI_leI, nI_ltI, nI_eq, dk_le3, dk_le5, dk_le6, dk_le16, dk_le20, dk_le25, dk_le32, dk_le36, dk_le1024, dk_lt0, dk_ge0, dk_lez, dk_eq0, dk_eq1, dk_eq4, dk_eq6, dk_tneg, dk_tpos, dk_teq, dk_tle, dk_eg, e2, dk_pow2, dk_or]
    exact ⟨vp_in_nI hk (by omega), br_f (by omega) (nm_e (nm_e hn))⟩
theorem dk_xnb4 {c x : Nat} (hc : c < 20) (hx : x < 15) (hnd : ∀ x, nd x ≤ 4) (hot : ∀ k, ot k < 5) (hlg : ∀ k, le k ≤ gr k) (hgr : ∀ k, gr k ≤ 2) (hop : ∀ k, op k ≤ 1) : ∀ d j (lv : Nat → Int32), j + d = nd x →
    (∀ q, q < 5 → lv (5 * c + q) = nI (dk_m (fun b => dk_b (∀ k, k < j → ot (4 * x + k) = q → dk_okn le gr op (4 * x + k) b)) 4)) →
    ∃ lv' : Nat → Int32, (∀ q, q < 5 → lv' (5 * c + q) = nI (dk_m (fun b => dk_b (∀ k, k < nd x → ot (4 * x + k) = q → dk_okn le gr op (4 * x + k) b)) 4)) ∧ (∀ i, i < 5 * c ∨ 5 * c + 5 ≤ i → lv' i = lv i) ∧
    ∀ post : SX → Prop, post (pr, bl, na, sc, fa, st, no, (dk_N kn), (dk_N nd), (dk_N (dk_E ot le gr op)), (dk_N it), (dk_N nm), (dk_N sh), (dk_N ex), (dk_W wl), (dk_N wg), (dk_T th), re, rd, od, on, wh, ss, rf, wi, lv', dm, ch, cg, my, sp, fA, fS, nt) → ∃ n, wX_narrowBy_4 post (nI c) (nI x) pr bl na sc fa st no n (nI (4 * x + j)) (dk_N kn) (dk_N nd) (dk_N (dk_E ot le gr op)) (dk_N it) (dk_N nm) (dk_N sh) (dk_N ex) (dk_W wl) (dk_N wg) (dk_T th) re rd od on wh ss rf wi lv dm ch cg my sp fA fS nt
  | 0, j, lv, hj, h => by
    have := hnd x
    have e : j = nd x := by omega
    rw [e] at h
    refine ⟨lv, h, fun _ _ => rfl, fun post h' => ⟨1, ?_⟩⟩
    simp (disch := omega) only [wX_narrowBy_4, nI_clamp, dk_Na, dk_Ta, dk_Wa, dk_m2, dk_m3, dk_m4, dk_m5, dk_m6, dk_a5, dk_a10, nI_add, nI_1, nI_leI, nI_ltI, nI_eq, dk_le3, dk_le5, dk_le6, dk_le16, dk_le20, dk_le25, dk_le32, dk_le36, dk_le1024, dk_lt0, dk_ge0, dk_lez, dk_eq0, dk_eq1, dk_eq4, dk_eq6, dk_tneg, dk_tpos, dk_teq, dk_tle]
    exact ⟨vp_in_nI hx (by omega), br_t (by omega) h'⟩
  | d + 1, j, lv, hj, h => by
    have hn := hnd x
    have ho := hot (4 * x + j)
    have h1 := hlg (4 * x + j)
    have h2 := hgr (4 * x + j)
    have h3 := hop (4 * x + j)
    have he : dk_E ot le gr op (4 * x + j) < 256 := by unfold dk_E; omega
    have e1 : dk_E ot le gr op (4 * x + j) / 128 = op (4 * x + j) := by unfold dk_E; omega
    have e2 : dk_E ot le gr op (4 * x + j) / 8 % 4 = le (4 * x + j) := by unfold dk_E; omega
    obtain ⟨lv', b1, b2, b3⟩ := dk_xnb4 hc hx hnd hot hlg hgr hop d (j + 1) (upd lv (5 * c + ot (4 * x + j)) (nI (dk_m (fun b => dk_b (∀ k, k < j → ot (4 * x + k) = ot (4 * x + j) → dk_okn le gr op (4 * x + k) b)) 4 &&& dk_m (fun b => dk_b (dk_okn le gr op (4 * x + j) b)) 4))) (by omega) (fun q hq => by
      by_cases z : q = ot (4 * x + j)
      · subst z
        rw [pk_us, dk_mand]
        congr 1
        apply dk_mC
        intro i hi
        rw [dk_band]
        exact dk_bC ⟨fun y k hk e => by
          by_cases w : k = j
          · subst w; exact y.2
          · exact y.1 k (by omega) e, fun y => ⟨fun k hk e => y k (by omega) e, y j (by omega) rfl⟩⟩
      · rw [pk_un (by omega), h q hq]
        congr 1
        apply dk_mC
        intro i hi
        exact dk_bC ⟨fun y k hk e => by
          by_cases w : k = j
          · subst w; exact absurd e.symm z
          · exact y k (by omega) e, fun y k hk e => y k (by omega) e⟩)
    refine ⟨lv', b1, fun i hi => by rw [b2 i hi, pk_un (by omega)], fun post h' => ?_⟩
    obtain ⟨n, hn'⟩ := b3 post h'
    refine ⟨n + 1, ?_⟩
    have w := dk_xnb41 (pr := pr) (bl := bl) (na := na) (sc := sc) (fa := fa) (st := st) (no := no) (kn := kn) (nd := nd) (ot := ot) (le := le) (gr := gr) (op := op) (it := it) (nm := nm) (sh := sh) (ex := ex) (wl := wl) (wg := wg) (th := th) (re := re) (rd := rd) (od := od) (on := on) (wh := wh) (ss := ss) (rf := rf) (wi := wi) (lv := lv) (dm := dm) (ch := ch) (cg := cg) (my := my) (sp := sp) (fA := fA) (fS := fS) (nt := nt) (x := x) (c := c) (k := 4 * x + j) (q := ot (4 * x + j)) hc (by omega) rfl ho h2 h1 h3 _ (dk_m4L _) (h _ ho) post _ hn' (gr (4 * x + j) + 1 - le (4 * x + j)) (le (4 * x + j)) (by omega) (Nat.le_refl _)
    have e4 : dk_m (fun b => dk_b ((b = 0 → op (4 * x + j) = 1) ∧ (0 < b → le (4 * x + j) + 1 ≤ b ∧ b ≤ le (4 * x + j)))) 4 = op (4 * x + j) := by
      symm
      apply dk_mX (by omega)
      intro i hi
      rcases (by omega : op (4 * x + j) = 0 ∨ op (4 * x + j) = 1) with e | e <;> rw [e]
      · rw [dk_bF' (by
          rintro ⟨a, b⟩
          by_cases z : i = 0
          · have := a z; omega
          · have := b (by omega); omega)]
        simp
      · by_cases z : i = 0
        · rw [dk_bT' ⟨fun _ => rfl, fun y => by omega⟩, z]; rfl
        · rw [dk_bF' (by
            rintro ⟨a, b⟩
            have := b (by omega); omega)]
          exact Nat.testBit_lt_two_pow (Nat.one_lt_two_pow (by omega))
    rw [e4] at w
    simp (disch := omega) only [wX_narrowBy_4, nI_clamp, dk_Na, dk_Ta, dk_Wa, dk_m2, dk_m3, dk_m4, dk_m5, dk_m6, dk_a5, dk_a10, nI_add, nI_1, nI_leI, nI_ltI, nI_eq, dk_le3, dk_le5, dk_le6, dk_le16, dk_le20, dk_le25, dk_le32, dk_le36, dk_le1024, dk_lt0, dk_ge0, dk_lez, dk_eq0, dk_eq1, dk_eq4, dk_eq6, dk_tneg, dk_tpos, dk_teq, dk_tle, dk_eo, dk_el, e1, e2]
    exact ⟨vp_in_nI hx (by omega), br_f (by omega) ⟨vp_in_nI (by omega) (by omega), nm_e ⟨vp_in_nI (by omega) (by omega), nm_e w⟩⟩⟩
theorem dk_xnb {c x : Nat} (hc : c < 20) (hx : x < 15) (hnd : ∀ x, nd x ≤ 4) (hot : ∀ k, ot k < 5) (hlg : ∀ k, le k ≤ gr k) (hgr : ∀ k, gr k ≤ 2) (hop : ∀ k, op k ≤ 1) (h : ∀ q, q < 5 → lv (5 * c + q) = nI 15) :
    ∃ lv' : Nat → Int32, (∀ q, q < 5 → lv' (5 * c + q) = nI (dk_m (fun b => dk_b (∀ k, k < nd x → ot (4 * x + k) = q → dk_okn le gr op (4 * x + k) b)) 4)) ∧ (∀ i, i < 5 * c ∨ 5 * c + 5 ≤ i → lv' i = lv i) ∧
    ∀ post : SX → Prop, post (pr, bl, na, sc, fa, st, no, (dk_N kn), (dk_N nd), (dk_N (dk_E ot le gr op)), (dk_N it), (dk_N nm), (dk_N sh), (dk_N ex), (dk_W wl), (dk_N wg), (dk_T th), re, rd, od, on, wh, ss, rf, wi, lv', dm, ch, cg, my, sp, fA, fS, nt) → wpX_narrowBy post (pr, bl, na, sc, fa, st, no, (dk_N kn), (dk_N nd), (dk_N (dk_E ot le gr op)), (dk_N it), (dk_N nm), (dk_N sh), (dk_N ex), (dk_W wl), (dk_N wg), (dk_T th), re, rd, od, on, wh, ss, rf, wi, lv, dm, ch, cg, my, sp, fA, fS, nt) (nI c) (nI x) := by
  have e15 : ∀ f : Nat → Bool, (∀ i, i < 4 → f i = true) → dk_m f 4 = 15 := fun f hf => by
    symm
    apply dk_mX (by omega)
    intro i hi
    rw [hf i hi]
    have : Nat.testBit 15 i = decide (i < 4) := Nat.testBit_two_pow_sub_one 4 i
    rw [this]; exact decide_eq_true hi
  obtain ⟨lv', b1, b2, b3⟩ := dk_xnb4 (pr := pr) (bl := bl) (na := na) (sc := sc) (fa := fa) (st := st) (no := no) (kn := kn) (nd := nd) (ot := ot) (le := le) (gr := gr) (op := op) (it := it) (nm := nm) (sh := sh) (ex := ex) (wl := wl) (wg := wg) (th := th) (re := re) (rd := rd) (od := od) (on := on) (wh := wh) (ss := ss) (rf := rf) (wi := wi) (dm := dm) (ch := ch) (cg := cg) (my := my) (sp := sp) (fA := fA) (fS := fS) (nt := nt) hc hx hnd hot hlg hgr hop (nd x) 0 lv (by omega) (fun q hq => by
    rw [h q hq, e15 _ (fun i hi => dk_bT' (fun k hk => absurd hk (Nat.not_lt_zero _)))])
  exact ⟨lv', b1, b2, fun post h' => nm_r (dk_m4 x) (b3 post h')⟩
theorem dk_xn23 {c : Nat} (hc : c < 20) (hnd : ∀ x, nd x ≤ 4) (hot : ∀ k, ot k < 5) (hlg : ∀ k, le k ≤ gr k) (hgr : ∀ k, gr k ≤ 2) (hop : ∀ k, op k ≤ 1) (hkn : ∀ x, kn x ≤ 1) : ∀ d j (lv : Nat → Int32), j + d = 5 → (∀ q, q < j → lv (5 * c + q) = nI 15) →
    ∃ lv' : Nat → Int32, (∀ q, q < 5 → lv' (5 * c + q) = nI (dk_lm kn nd ot le gr op (c / 4) (c % 4) q)) ∧ (∀ i, i < 5 * c ∨ 5 * c + 5 ≤ i → lv' i = lv i) ∧
    ∀ (post : SX → Prop) J, J (nI (c + 1)) pr bl na sc fa st no (dk_N kn) (dk_N nd) (dk_N (dk_E ot le gr op)) (dk_N it) (dk_N nm) (dk_N sh) (dk_N ex) (dk_W wl) (dk_N wg) (dk_T th) re rd od on wh ss rf wi lv' dm ch cg my sp fA fS nt → ∃ n, wX_narrow_23 post J (nI c) pr bl na sc fa st no n (nI j) (dk_N kn) (dk_N nd) (dk_N (dk_E ot le gr op)) (dk_N it) (dk_N nm) (dk_N sh) (dk_N ex) (dk_W wl) (dk_N wg) (dk_T th) re rd od on wh ss rf wi lv dm ch cg my sp fA fS nt
  | 0, j, lv, hj, h => by
    have : j = 5 := by omega
    subst this
    have e15 : ∀ f : Nat → Bool, (∀ i, i < 4 → f i = true) → dk_m f 4 = 15 := fun f hf => by
      symm
      apply dk_mX (by omega)
      intro i hi
      rw [hf i hi]
      have : Nat.testBit 15 i = decide (i < 4) := Nat.testBit_two_pow_sub_one 4 i
      rw [this]; exact decide_eq_true hi
    by_cases z : 0 < c % 4 ∧ kn (3 * (c / 4) + (c % 4 - 1)) = 1
    · obtain ⟨lv', b1, b2, b3⟩ := dk_xnb (pr := pr) (bl := bl) (na := na) (sc := sc) (fa := fa) (st := st) (no := no) (kn := kn) (nd := nd) (ot := ot) (le := le) (gr := gr) (op := op) (it := it) (nm := nm) (sh := sh) (ex := ex) (wl := wl) (wg := wg) (th := th) (re := re) (rd := rd) (od := od) (on := on) (wh := wh) (ss := ss) (rf := rf) (wi := wi) (lv := lv) (dm := dm) (ch := ch) (cg := cg) (my := my) (sp := sp) (fA := fA) (fS := fS) (nt := nt) (c := c) (x := 3 * (c / 4) + (c % 4 - 1)) hc (by omega) hnd hot hlg hgr hop h
      refine ⟨lv', fun q hq => ?_, b2, fun post J h' => ⟨1, ?_⟩⟩
      · rw [b1 q hq]
        unfold dk_lm
        congr 1
        apply dk_mC
        intro i hi
        exact dk_bC ⟨fun y _ _ => y, fun y => y z.1 z.2⟩
      · have e : nI (3 * (c / 4)) + nI (c % 4) - 1 = nI (3 * (c / 4) + (c % 4 - 1)) := by
          rw [nI_add]; have := pk_sub (a := 3 * (c / 4) + c % 4) (b := 1) (by omega)
          rw [show 3 * (c / 4) + (c % 4 - 1) = 3 * (c / 4) + c % 4 - 1 by omega]; exact this
        simp only [wX_narrow_23]
        rw [dk_r4 (by omega), dk_d4 (by omega), dk_m3, e, dk_lez (by omega)]
        refine br_t (by decide) ⟨by decide, by decide, nm_e ⟨by decide, br_f (by omega) ⟨vp_in_nI (by omega) (by omega), ?_⟩⟩⟩
        rw [nI_clamp (by omega), dk_Na, dk_eq0 (by omega), z.2]
        exact br_f (by decide) (b3 _ (nm_r (nI_1 c) h'))
    · refine ⟨lv, fun q hq => ?_, fun _ _ => rfl, fun post J h' => ⟨1, ?_⟩⟩
      · rw [h q hq]
        unfold dk_lm
        rw [e15 _ (fun i hi => dk_bT' (P := dk_al kn nd ot le gr op (c / 4) (c % 4) q i) (fun y1 y2 => absurd ⟨y1, y2⟩ z))]
      · simp only [wX_narrow_23]
        rw [dk_r4 (by omega), dk_d4 (by omega), dk_m3, nI_add, dk_lez (by omega)]
        refine br_t (by decide) ⟨by decide, by decide, ?_⟩
        by_cases y : c % 4 = 0
        · exact nm_e ⟨by decide, br_t y (nm_r (nI_1 c) h')⟩
        · have e : nI (3 * (c / 4) + c % 4) - 1 = nI (3 * (c / 4) + (c % 4 - 1)) := by
            have := pk_sub (a := 3 * (c / 4) + c % 4) (b := 1) (by omega)
            rw [show 3 * (c / 4) + (c % 4 - 1) = 3 * (c / 4) + c % 4 - 1 by omega]; exact this
          have hk := hkn (3 * (c / 4) + (c % 4 - 1))
          have hz : kn (3 * (c / 4) + (c % 4 - 1)) = 0 := by
            rcases (by omega : kn (3 * (c / 4) + (c % 4 - 1)) = 0 ∨ kn (3 * (c / 4) + (c % 4 - 1)) = 1) with w | w
            · exact w
            · exact absurd ⟨by omega, w⟩ z
          rw [e]
          refine nm_e ⟨by decide, br_f y ⟨vp_in_nI (by omega) (by omega), ?_⟩⟩
          rw [nI_clamp (by omega), dk_Na, hz]
          exact br_t rfl (nm_r (nI_1 c) h')
  | d + 1, j, lv, hj, h => by
    obtain ⟨lv', b1, b2, b3⟩ := dk_xn23 hc hnd hot hlg hgr hop hkn d (j + 1) (upd lv (5 * c + j) (nI 15)) (by omega) (fun q hq => by
      by_cases e : q = j
      · subst e; exact pk_us
      · rw [pk_un (by omega)]; exact h q (by omega))
    refine ⟨lv', b1, fun i hi => by rw [b2 i hi, pk_un (by omega)], fun post J h' => ?_⟩
    obtain ⟨n, hn⟩ := b3 post J h'
    refine ⟨n + 1, ?_⟩
    have v15 : vp_nar .byte 15 = nI 15 := dk_vb (n := 15) (by omega)
    simp (disch := omega) only [wX_narrow_23, nI_clamp, dk_Na, dk_Ta, dk_Wa, dk_m2, dk_m3, dk_m4, dk_m5, dk_m6, dk_a5, dk_a10, nI_add, nI_1, v15]
    exact br_f (by rw [dk_le5 (by omega)]; omega) ⟨vp_in_nI (by omega) (by omega), nm_e (nm_e hn)⟩
def dk_LvOK (kn nd ot le gr op : Nat → Nat) (lv : Nat → Int32) : Prop := ∀ c q, c < 20 → q < 5 → lv (5 * c + q) = nI (dk_lm kn nd ot le gr op (c / 4) (c % 4) q)
theorem dk_xn15 (hnd : ∀ x, nd x ≤ 4) (hot : ∀ k, ot k < 5) (hlg : ∀ k, le k ≤ gr k) (hgr : ∀ k, gr k ≤ 2) (hop : ∀ k, op k ≤ 1) (hkn : ∀ x, kn x ≤ 1) : ∀ d j (lv : Nat → Int32), j + d = 20 → (∀ c q, c < j → q < 5 → lv (5 * c + q) = nI (dk_lm kn nd ot le gr op (c / 4) (c % 4) q)) →
    ∃ lv' : Nat → Int32, dk_LvOK kn nd ot le gr op lv' ∧ ∀ post : SX → Prop, post (pr, bl, na, sc, fa, st, no, (dk_N kn), (dk_N nd), (dk_N (dk_E ot le gr op)), (dk_N it), (dk_N nm), (dk_N sh), (dk_N ex), (dk_W wl), (dk_N wg), (dk_T th), re, rd, od, on, wh, ss, rf, wi, lv', dm, ch, cg, my, sp, fA, fS, nt) → ∃ n, wX_narrow_15 post n (nI j) pr bl na sc fa st no (dk_N kn) (dk_N nd) (dk_N (dk_E ot le gr op)) (dk_N it) (dk_N nm) (dk_N sh) (dk_N ex) (dk_W wl) (dk_N wg) (dk_T th) re rd od on wh ss rf wi lv dm ch cg my sp fA fS nt
  | 0, j, lv, hj, h => by
    have : j = 20 := by omega
    subst this
    exact ⟨lv, h, fun post h' => ⟨1, br_t (by decide) h'⟩⟩
  | d + 1, j, lv, hj, h => by
    obtain ⟨lv1, b1, b2, b3⟩ := dk_xn23 (pr := pr) (bl := bl) (na := na) (sc := sc) (fa := fa) (st := st) (no := no) (kn := kn) (nd := nd) (ot := ot) (le := le) (gr := gr) (op := op) (it := it) (nm := nm) (sh := sh) (ex := ex) (wl := wl) (wg := wg) (th := th) (re := re) (rd := rd) (od := od) (on := on) (wh := wh) (ss := ss) (rf := rf) (wi := wi) (dm := dm) (ch := ch) (cg := cg) (my := my) (sp := sp) (fA := fA) (fS := fS) (nt := nt) (c := j) (by omega) hnd hot hlg hgr hop hkn 5 0 lv rfl (fun q hq => absurd hq (Nat.not_lt_zero _))
    obtain ⟨lv', c1, c2⟩ := dk_xn15 hnd hot hlg hgr hop hkn d (j + 1) lv1 (by omega) (fun c q hc hq => by
      by_cases e : c = j
      · subst e; exact b1 q hq
      · rw [b2 _ (by omega)]; exact h c q (by omega) hq)
    refine ⟨lv', c1, fun post h' => ?_⟩
    obtain ⟨n, hn⟩ := c2 post h'
    refine ⟨n + 1, ?_⟩
    exact br_f (by rw [dk_le20 (by omega)]; omega) (b3 post _ hn)
theorem dk_xnr (hnd : ∀ x, nd x ≤ 4) (hot : ∀ k, ot k < 5) (hlg : ∀ k, le k ≤ gr k) (hgr : ∀ k, gr k ≤ 2) (hop : ∀ k, op k ≤ 1) (hkn : ∀ x, kn x ≤ 1) (hna : ¬ na = 0 → dk_LvOK kn nd ot le gr op lv) :
    ∃ (na' : Int32) (lv' : Nat → Int32), dk_LvOK kn nd ot le gr op lv' ∧ ∀ post : SX → Prop, post (pr, bl, na', sc, fa, st, no, (dk_N kn), (dk_N nd), (dk_N (dk_E ot le gr op)), (dk_N it), (dk_N nm), (dk_N sh), (dk_N ex), (dk_W wl), (dk_N wg), (dk_T th), re, rd, od, on, wh, ss, rf, wi, lv', dm, ch, cg, my, sp, fA, fS, nt) → wpX_narrow post (pr, bl, na, sc, fa, st, no, (dk_N kn), (dk_N nd), (dk_N (dk_E ot le gr op)), (dk_N it), (dk_N nm), (dk_N sh), (dk_N ex), (dk_W wl), (dk_N wg), (dk_T th), re, rd, od, on, wh, ss, rf, wi, lv, dm, ch, cg, my, sp, fA, fS, nt) := by
  by_cases z : na = 0
  · obtain ⟨lv', b1, b2⟩ := dk_xn15 (pr := pr) (bl := bl) (sc := sc) (fa := fa) (st := st) (no := no) (kn := kn) (nd := nd) (ot := ot) (le := le) (gr := gr) (op := op) (it := it) (nm := nm) (sh := sh) (ex := ex) (wl := wl) (wg := wg) (th := th) (re := re) (rd := rd) (od := od) (on := on) (wh := wh) (ss := ss) (rf := rf) (wi := wi) (dm := dm) (ch := ch) (cg := cg) (my := my) (sp := sp) (fA := fA) (fS := fS) (nt := nt) (na := 1) hnd hot hlg hgr hop hkn 20 0 lv rfl (fun c q hc => absurd hc (Nat.not_lt_zero _))
    exact ⟨1, lv', b1, fun post h => br_t z (b2 post h)⟩
  · exact ⟨na, lv, hna z, fun post h => br_f z h⟩
end
end
section
section
variable {pr bl na sc fa st no : Int32} {kn nd ot le gr op it nm sh ex wl wg th : Nat → Nat} {re rd od on : Nat → Int32} {wh : Nat → Int64} {ss rf wi lv dm ch cg my sp fA fS nt : Nat → Int32}
-- the choices of a plugin that are known and wanted
theorem dk_xfi5 {p : Nat} {w : Bool} (hp : p < 5) (hkn : ∀ x, kn x ≤ 1) (hwl : ∀ p, wl p ≤ 4) (hwg : ∀ p, wg p ≤ 2) (hww : ∀ p, 2 ≤ wl p → wl p - 2 ≤ wg p) (post : Int32 → Prop) (h : post (nI (dk_fm kn wl wg p w))) : ∀ d v, v + d = 3 →
    ∃ n, wX_first_5 post (nI p) (nI w.toNat) pr bl na sc fa st no (dk_N kn) (dk_N nd) (dk_N (dk_E ot le gr op)) (dk_N it) (dk_N nm) (dk_N sh) (dk_N ex) (dk_W wl) (dk_N wg) (dk_T th) re rd od on wh ss rf wi lv dm ch cg my sp fA fS nt n (nI (dk_m (fun b => dk_b (0 < b → kn (3 * p + (b - 1)) = 1)) (v + 1))) (nI v)
  | 0, v, hv => by
    have : v = 3 := by omega
    subst this
    have l := dk_m4L (fun b => dk_b (0 < b → kn (3 * p + (b - 1)) = 1))
    have h1 := hwl p
    have h2 := hwg p
    refine ⟨1, ?_⟩
    have e1 : ∀ a, a < 16 → nI a &&& 1 = nI (a &&& 1) := fun a _ => dk_and a 1
    have eR : ∀ g, g < 3 → ∀ l, l ≤ g → ((2 : Int32) <<< ((nI g + 1) &&& 31)) - ((2 : Int32) <<< (nI l &&& 31)) = nI (2 ^ (g + 2) - 2 ^ (l + 1)) := by decide +kernel
    have tR : ∀ g, g < 3 → ∀ l, l ≤ g → ∀ b, b < 4 → (2 ^ (g + 2) - 2 ^ (l + 1)).testBit b = decide (l + 1 ≤ b ∧ b ≤ g + 1) := by decide
    simp (disch := omega) only [wX_first_5, nI_clamp, dk_Na, dk_Ta, dk_Wa, dk_m2, dk_m3, dk_m4, dk_m5, dk_m6, dk_a5, dk_a10, nI_add, nI_1, dk_le3]
    refine br_t (by omega) ?_
    unfold wX_first_53 wX_first_65
    cases w
    · refine br_t rfl (br_f (by decide) (br_f (by decide) ?_))
      have e : dk_fm kn wl wg p false = dk_m (fun b => dk_b (0 < b → kn (3 * p + (b - 1)) = 1)) (3 + 1) := dk_mC (fun i hi => dk_bC ⟨fun y => y.1, fun y => ⟨y, fun z => absurd z (by decide)⟩⟩)
      rw [← e]; exact h
    · refine br_f (by decide) ⟨vp_in_nI hp (by omega), ?_⟩
      rw [dk_wm1 (by omega), dk_w0 (by omega)]
      refine br_c (fun z => nm_r (dk_and _ 1) (br_f (by omega) ?_)) (fun z => br_c (fun y => ⟨vp_in_nI hp (by omega), ?_⟩) (fun y => ?_))
      · have e : dk_fm kn wl wg p true = dk_m (fun b => dk_b (0 < b → kn (3 * p + (b - 1)) = 1)) (3 + 1) &&& 1 := by
          symm
          apply dk_mX (Nat.lt_of_le_of_lt Nat.and_le_left l)
          intro i hi
          have t1 : Nat.testBit 1 i = decide (i < 1) := Nat.testBit_two_pow_sub_one 1 i
          rw [Nat.testBit_and, dk_mB, t1]
          by_cases w : i = 0
          · subst w
            rw [dk_bT' (fun y => absurd y (by omega)), dk_bT' ⟨fun y => absurd y (by omega), fun _ => ⟨fun _ => rfl, fun y => by omega⟩⟩]
            rfl
          · rw [dk_bF' (P := dk_fi kn wl wg p true i) (fun y => w ((y.2 rfl).1 z))]
            simp [w]
        rw [← e]; exact h
      · have hw2 := hww p y
        rw [dk_wp y, dk_Na, nI_clamp (by omega), eR _ (by omega) _ hw2]
        refine nm_e ?_
        rw [dk_and]
        have e : dk_fm kn wl wg p true = dk_m (fun b => dk_b (0 < b → kn (3 * p + (b - 1)) = 1)) (3 + 1) &&& (2 ^ (wg p + 2) - 2 ^ (wl p - 2 + 1)) := by
          symm
          apply dk_mX (Nat.lt_of_le_of_lt Nat.and_le_left l)
          intro i hi
          rw [Nat.testBit_and, dk_mB, tR _ (by omega) _ hw2 i hi]
          by_cases a : 0 < i → kn (3 * p + (i - 1)) = 1
          · rw [dk_bT' a]
            by_cases b : wl p - 2 + 1 ≤ i ∧ i ≤ wg p + 1
            · rw [dk_bT' (P := dk_fi kn wl wg p true i) ⟨a, fun _ => ⟨fun w => absurd w z, fun _ => ⟨by omega, b.2⟩⟩⟩]
              simp [hi, b]
            · rw [dk_bF' (P := dk_fi kn wl wg p true i) (fun w => b (by have := (w.2 rfl).2 y; omega))]
              have : decide (wl p - 2 + 1 ≤ i ∧ i ≤ wg p + 1) = false := decide_eq_false b
              rw [this]; simp
          · rw [dk_bF' a, dk_bF' (P := dk_fi kn wl wg p true i) (fun w => a w.1)]
            simp
        rw [← e]; exact h
      · have e : dk_fm kn wl wg p true = dk_m (fun b => dk_b (0 < b → kn (3 * p + (b - 1)) = 1)) (3 + 1) := dk_mC (fun i hi => dk_bC ⟨fun w => w.1, fun w => ⟨w, fun _ => ⟨fun v => absurd v z, fun v => absurd v y⟩⟩⟩)
        rw [← e]; exact h
  | d + 1, v, hv => by
    obtain ⟨n, hn⟩ := dk_xfi5 hp hkn hwl hwg hww post h d (v + 1) (by omega)
    refine ⟨n + 1, ?_⟩
    have hk := hkn (3 * p + v)
    simp (disch := omega) only [wX_first_5, nI_clamp, dk_Na, dk_Ta, dk_Wa, dk_m2, dk_m3, dk_m4, dk_m5, dk_m6, dk_a5, dk_a10, nI_add, nI_1, nI_leI, nI_ltI, nI_eq, dk_le3, dk_le5, dk_le6, dk_le16, dk_le20, dk_le25, dk_le32, dk_le36, dk_le1024, dk_lt0, dk_ge0, dk_lez, dk_eq0, dk_eq1, dk_eq4, dk_eq6, dk_tneg, dk_tpos, dk_teq, dk_tle, dk_pow2, dk_or]
    refine br_f (by omega) ⟨vp_in_nI (by omega) (by omega), br_c (fun z => nm_e ?_) (fun z => nm_e (nm_e ?_))⟩
    · rw [dk_m, dk_bF' (by
        intro y
        have := y (by omega)
        rw [show v + 1 - 1 = v by omega] at this
        omega)] at hn
      simpa using hn
    · rw [dk_m, dk_bT' (by
        intro y
        rw [show v + 1 - 1 = v by omega]
        omega), if_pos rfl] at hn
      exact hn
theorem dk_xfi {p : Nat} {w : Bool} (hp : p < 5) (hkn : ∀ x, kn x ≤ 1) (hwl : ∀ p, wl p ≤ 4) (hwg : ∀ p, wg p ≤ 2) (hww : ∀ p, 2 ≤ wl p → wl p - 2 ≤ wg p) (post : Int32 → Prop) (h : post (nI (dk_fm kn wl wg p w))) : wpX_first post (pr, bl, na, sc, fa, st, no, (dk_N kn), (dk_N nd), (dk_N (dk_E ot le gr op)), (dk_N it), (dk_N nm), (dk_N sh), (dk_N ex), (dk_W wl), (dk_N wg), (dk_T th), re, rd, od, on, wh, ss, rf, wi, lv, dm, ch, cg, my, sp, fA, fS, nt) (nI p) (nI w.toNat) := by
  have := dk_xfi5 (pr := pr) (bl := bl) (na := na) (sc := sc) (fa := fa) (st := st) (no := no) (kn := kn) (nd := nd) (ot := ot) (le := le) (gr := gr) (op := op) (it := it) (nm := nm) (sh := sh) (ex := ex) (wl := wl) (wg := wg) (th := th) (re := re) (rd := rd) (od := od) (on := on) (wh := wh) (ss := ss) (rf := rf) (wi := wi) (lv := lv) (dm := dm) (ch := ch) (cg := cg) (my := my) (sp := sp) (fA := fA) (fS := fS) (nt := nt) hp hkn hwl hwg hww post h 3 0 rfl
  rw [show dk_m (fun b => dk_b (0 < b → kn (3 * p + (b - 1)) = 1)) (0 + 1) = 1 by
    rw [dk_m, dk_bT' (fun y => absurd y (by omega))]; simp [dk_m]] at this
  exact this
/-- the greatest member below one: 1 more than it, or 0 -/
def dk_bel (m : Nat) : Nat → Nat
  | 0 => 0
  | c + 1 => if m.testBit c = true then c + 1 else dk_bel m c
theorem dk_bel_le (m : Nat) : ∀ c, dk_bel m c ≤ c
  | 0 => Nat.le_refl _
  | c + 1 => by
    have := dk_bel_le m c
    rw [dk_bel]; split <;> omega
theorem dk_bel_s {m : Nat} : ∀ {c b}, dk_bel m c = b + 1 → m.testBit b = true ∧ b < c ∧ ∀ a, b < a → a < c → ¬ m.testBit a = true
  | 0, b, h => absurd h (by simp [dk_bel])
  | c + 1, b, h => by
    rw [dk_bel] at h
    by_cases z : m.testBit c = true
    · rw [if_pos z] at h
      have : c = b := by omega
      subst this
      exact ⟨z, by omega, fun a h1 h2 => by omega⟩
    · rw [if_neg z] at h
      obtain ⟨a1, a2, a3⟩ := dk_bel_s h
      refine ⟨a1, by omega, fun a h1 h2 => ?_⟩
      by_cases e : a = c
      · subst e; exact z
      · exact a3 a h1 (by omega)
theorem dk_bel_0 {m : Nat} : ∀ {c}, dk_bel m c = 0 → ∀ a, a < c → ¬ m.testBit a = true
  | 0, _, a, ha => absurd ha (Nat.not_lt_zero _)
  | c + 1, h, a, ha => by
    rw [dk_bel] at h
    by_cases z : m.testBit c = true
    · rw [if_pos z] at h; omega
    · rw [if_neg z] at h
      by_cases e : a = c
      · subst e; exact z
      · exact dk_bel_0 h a (by omega)
theorem dk_xbl_l {m : Nat} (hm : m < 16) (post : Int32 → Prop) : ∀ c, c ≤ 4 → post (nI (dk_bel m c) - 1) → ∃ n, wX_below_2 post (nI m) n (nI c)
  | 0, _, h => by
    rw [dk_bel] at h
    refine ⟨1, ?_⟩
    exact nm_r (e' := nI 0 - 1) (dk_am1 _) (br_t ((dk_tneg (by omega)).mpr rfl) h)
  | c + 1, hc, h => by
    by_cases z : m.testBit c = true
    · rw [dk_bel, if_pos z, nI_succ, Int32.add_sub_cancel] at h
      refine ⟨1, nm_r (pk_m1 c) (br_f (nI_pos (by omega)) (dk_xb (by omega) (by omega) _ (fun _ => br_f (by decide) h) (fun y => ?_)))⟩
      rw [z] at y; exact absurd y (by decide)
    · rw [dk_bel, if_neg z] at h
      obtain ⟨n, hn⟩ := dk_xbl_l hm post c (by omega) h
      exact ⟨n + 1, nm_r (pk_m1 c) (br_f (nI_pos (by omega)) (dk_xb (by omega) (by omega) _ (fun y => absurd y z) (fun _ => br_t rfl hn)))⟩
end
end
section
-- the search, over abstract conditions: al p c q b (choice c of p leaves b for q), fi q b (b is one of the first choices of q)
noncomputable def dk_dM (al : Nat → Nat → Nat → Nat → Prop) (fi : Nat → Nat → Prop) (c : Nat → Nat) (i q : Nat) : Nat := dk_m (fun b => dk_b (fi q b ∧ ∀ j, j < i → al j (c j) q b)) 4
def dk_cc (th c : Nat → Nat) : Nat → Nat
  | 0 => 0
  | i + 1 => dk_cc th c i + (if th i = c i then 0 else 1)
def dk_cm (c : Nat → Nat) : Nat → Nat
  | 0 => 0
  | i + 1 => dk_cm c i + (if c i = 0 then 0 else 1)
def dk_Sk (al : Nat → Nat → Nat → Nat → Prop) (fi : Nat → Nat → Prop) (th : Nat → Nat) (p : Nat) (c : Nat → Nat) (dm ch cg my : Nat → Int32) : Prop :=
  (∀ i, i < p → c i < 4 ∧ ch i = nI (c i)) ∧ (∀ i, i ≤ p → cg i = nI (dk_cc th c i) ∧ my i = nI (dk_cm c i)) ∧ (∀ i q, i ≤ p → i ≤ q → q < 5 → dm (5 * i + q) = nI (dk_dM al fi c i q)) ∧ (∀ i, i < p → fi i (c i)) ∧ (∀ i j, i < p → j < p → i ≠ j → al i (c i) j (c j))
def dk_V (al : Nat → Nat → Nat → Nat → Prop) (fi : Nat → Nat → Prop) (a : Nat → Nat) : Prop := (∀ i, i < 5 → a i < 4) ∧ (∀ i, i < 5 → fi i (a i)) ∧ ∀ i j, i < 5 → j < 5 → i ≠ j → al i (a i) j (a j)
def dk_Vl (al : Nat → Nat → Nat → Nat → Prop) (fi : Nat → Nat → Prop) (th : Nat → Nat) (lim : Option (Nat × Nat)) (a : Nat → Nat) : Prop := dk_V al fi a ∧ ∀ x y, lim = some (x, y) → dk_cc th a 5 = x ∧ dk_cm a 5 = y
def dk_lA : Option (Nat × Nat) → Int32
  | none => -1
  | some (x, _) => nI x
def dk_lB : Option (Nat × Nat) → Int32
  | none => -1
  | some (_, y) => nI y
def dk_ck (lim : Option (Nat × Nat)) (p x y : Nat) : Prop := ∀ a b, lim = some (a, b) → x ≤ a ∧ a ≤ x + 4 - p ∧ y ≤ b ∧ b ≤ y + 4 - p
def dk_go (al : Nat → Nat → Nat → Nat → Prop) (fi : Nat → Nat → Prop) (th : Nat → Nat) (lim : Option (Nat × Nat)) (c : Nat → Nat) (p b : Nat) : Prop :=
  dk_ck lim p (dk_cc th (dk_u c p b) (p + 1)) (dk_cm (dk_u c p b) (p + 1)) ∧ (∀ q, q < p → al p b q (c q)) ∧ ∀ q, p < q → q < 5 → dk_dM al fi (dk_u c p b) (p + 1) q ≠ 0
theorem dk_cc_x {th c c' : Nat → Nat} : ∀ {i}, (∀ j, j < i → c j = c' j) → dk_cc th c i = dk_cc th c' i
  | 0, _ => rfl
  | i + 1, h => by rw [dk_cc, dk_cc, dk_cc_x (fun j hj => h j (by omega)), h i (by omega)]
theorem dk_cm_x {c c' : Nat → Nat} : ∀ {i}, (∀ j, j < i → c j = c' j) → dk_cm c i = dk_cm c' i
  | 0, _ => rfl
  | i + 1, h => by rw [dk_cm, dk_cm, dk_cm_x (fun j hj => h j (by omega)), h i (by omega)]
theorem dk_cc_le (th c : Nat → Nat) : ∀ i, dk_cc th c i ≤ i
  | 0 => Nat.le_refl _
  | i + 1 => by have := dk_cc_le th c i; rw [dk_cc]; split <;> omega
theorem dk_cm_le (c : Nat → Nat) : ∀ i, dk_cm c i ≤ i
  | 0 => Nat.le_refl _
  | i + 1 => by have := dk_cm_le c i; rw [dk_cm]; split <;> omega
theorem dk_cc_up (th c : Nat → Nat) (i : Nat) : ∀ d, dk_cc th c i ≤ dk_cc th c (i + d) ∧ dk_cc th c (i + d) ≤ dk_cc th c i + d
  | 0 => ⟨Nat.le_refl _, Nat.le_refl _⟩
  | d + 1 => by have := dk_cc_up th c i d; rw [← Nat.add_assoc, dk_cc]; split <;> omega
theorem dk_cm_up (c : Nat → Nat) (i : Nat) : ∀ d, dk_cm c i ≤ dk_cm c (i + d) ∧ dk_cm c (i + d) ≤ dk_cm c i + d
  | 0 => ⟨Nat.le_refl _, Nat.le_refl _⟩
  | d + 1 => by have := dk_cm_up c i d; rw [← Nat.add_assoc, dk_cm]; split <;> omega
theorem dk_dM_x {al : Nat → Nat → Nat → Nat → Prop} {fi : Nat → Nat → Prop} {c c' : Nat → Nat} {i q : Nat} (h : ∀ j, j < i → c j = c' j) : dk_dM al fi c i q = dk_dM al fi c' i q :=
  dk_mC (fun b _ => dk_bC ⟨fun y => ⟨y.1, fun j hj => h j hj ▸ y.2 j hj⟩, fun y => ⟨y.1, fun j hj => (h j hj).symm ▸ y.2 j hj⟩⟩)
theorem dk_dM_B {al : Nat → Nat → Nat → Nat → Prop} {fi : Nat → Nat → Prop} {c : Nat → Nat} {i q b : Nat} (hb : b < 4) : (dk_dM al fi c i q).testBit b = true ↔ fi q b ∧ ∀ j, j < i → al j (c j) q b := by
  unfold dk_dM; rw [dk_mB]; simp [hb, dk_bt]
theorem dk_dM_L {al : Nat → Nat → Nat → Nat → Prop} {fi : Nat → Nat → Prop} {c : Nat → Nat} {i q : Nat} : dk_dM al fi c i q < 16 := dk_m4L _
theorem dk_dM_s {al : Nat → Nat → Nat → Nat → Prop} {fi : Nat → Nat → Prop} {c : Nat → Nat} {p b q : Nat} : dk_dM al fi c p q &&& dk_m (fun x => dk_b (al p b q x)) 4 = dk_dM al fi (dk_u c p b) (p + 1) q := by
  unfold dk_dM
  rw [dk_mand]
  apply dk_mC
  intro x hx
  rw [dk_band]
  refine dk_bC ⟨fun y => ⟨y.1.1, fun j hj => ?_⟩, fun y => ⟨⟨y.1, fun j hj => ?_⟩, ?_⟩⟩
  · by_cases e : j = p
    · subst e; rw [dk_us]; exact y.2
    · rw [dk_un e]; exact y.1.2 j (by omega)
  · have := y.2 j (by omega)
    rw [dk_un (by omega)] at this; exact this
  · have := y.2 p (by omega)
    rw [dk_us] at this; exact this
/-- a choice that doesn't go is part of no answer -/
theorem dk_go_no {al : Nat → Nat → Nat → Nat → Prop} {fi : Nat → Nat → Prop} {th : Nat → Nat} {lim : Option (Nat × Nat)} {c : Nat → Nat} {p b : Nat} (hp : p < 5) {a : Nat → Nat} (ha : dk_Vl al fi th lim a) (hc : ∀ i, i < p → a i = c i) (hb : a p = b) : dk_go al fi th lim c p b := by
  have e : ∀ j, j < p + 1 → a j = dk_u c p b j := fun j hj => by
    by_cases e : j = p
    · subst e; rw [dk_us]; exact hb
    · rw [dk_un e]; exact hc j (by omega)
  refine ⟨fun x y hl => ?_, fun q hq => ?_, fun q h1 h2 z => ?_⟩
  · obtain ⟨h1, h2⟩ := ha.2 x y hl
    rw [← dk_cc_x e, ← dk_cm_x e]
    have u1 := dk_cc_up th a (p + 1) (4 - p)
    have u2 := dk_cm_up a (p + 1) (4 - p)
    rw [show p + 1 + (4 - p) = 5 by omega] at u1 u2
    omega
  · have := ha.1.2.2 p q hp (by omega) (by omega)
    rw [hb, hc q hq] at this; exact this
  · have := (dk_dM_B (al := al) (fi := fi) (c := dk_u c p b) (i := p + 1) (q := q) (ha.1.1 q h2)).mpr ⟨ha.1.2.1 q h2, fun j hj => by
      rw [← e j hj]; exact ha.1.2.2 j q (by omega) h2 (by omega)⟩
    rw [z] at this
    simp at this
section
variable {pr bl na sc fa st no : Int32} {kn nd ot le gr op it nm sh ex wl wg th : Nat → Nat} {re rd od on : Nat → Int32} {wh : Nat → Int64} {ss rf wi lv dm ch cg my sp fA fS nt : Nat → Int32}
theorem dk_xg160 {al : Nat → Nat → Nat → Nat → Prop} {fi : Nat → Nat → Prop} {c : Nat → Nat} {p b : Nat} (hp : p < 5) (hb : b < 4) (hlv : ∀ q, q < 5 → lv (5 * (4 * p + b) + q) = nI (dk_m (fun x => dk_b (al p b q x)) 4)) : ∀ d q (dm : Nat → Int32), q + d = 5 → p < q → (∀ r, p < r → r < 5 → dm (5 * p + r) = nI (dk_dM al fi c p r)) → (∀ r, p < r → r < q → dm (5 * (p + 1) + r) = nI (dk_dM al fi (dk_u c p b) (p + 1) r)) →
    ∃ dm' : Nat → Int32, (∀ j, j < 5 * p + 5 → dm' j = dm j) ∧ ((∀ r, q ≤ r → r < 5 → dk_dM al fi (dk_u c p b) (p + 1) r ≠ 0) → ∀ r, p < r → r < 5 → dm' (5 * (p + 1) + r) = nI (dk_dM al fi (dk_u c p b) (p + 1) r)) ∧
    ∀ post : Int32 → SX → Prop, post (nI (dk_b (∀ r, q ≤ r → r < 5 → dk_dM al fi (dk_u c p b) (p + 1) r ≠ 0)).toNat) (pr, bl, na, sc, fa, st, no, (dk_N kn), (dk_N nd), (dk_N (dk_E ot le gr op)), (dk_N it), (dk_N nm), (dk_N sh), (dk_N ex), (dk_W wl), (dk_N wg), (dk_T th), re, rd, od, on, wh, ss, rf, wi, lv, dm', ch, cg, my, sp, fA, fS, nt) → ∃ n, wX_goes_160 post (nI p) (nI (5 * (4 * p + b))) pr bl na sc fa st no n (nI q) (dk_N kn) (dk_N nd) (dk_N (dk_E ot le gr op)) (dk_N it) (dk_N nm) (dk_N sh) (dk_N ex) (dk_W wl) (dk_N wg) (dk_T th) re rd od on wh ss rf wi lv dm ch cg my sp fA fS nt
  | 0, q, dm, hq, hpq, h1, h2 => by
    have : q = 5 := by omega
    subst this
    refine ⟨dm, fun _ _ => rfl, fun _ r a b => h2 r a b, fun post h => ⟨1, ?_⟩⟩
    rw [dk_bT' (fun r a b => by omega)] at h
    exact br_t (by decide) h
  | d + 1, q, dm, hq, hpq, h1, h2 => by
    have L := dk_dM_L (al := al) (fi := fi) (c := dk_u c p b) (i := p + 1) (q := q)
    by_cases z : dk_dM al fi (dk_u c p b) (p + 1) q = 0
    · refine ⟨dm, fun _ _ => rfl, fun y => absurd z (y q (Nat.le_refl _) (by omega)), fun post h => ⟨1, ?_⟩⟩
      rw [dk_bF' (fun y => y q (Nat.le_refl _) (by omega) z)] at h
      simp (disch := omega) only [wX_goes_160, nI_clamp, dk_Na, dk_Ta, dk_Wa, dk_m2, dk_m3, dk_m4, dk_m5, dk_m6, dk_a5, dk_a10, nI_add, nI_1, dk_p5, dk_le5, h1, hlv, dk_and]
      rw [dk_dM_s]
      exact br_f (by omega) ⟨vp_in_nI (by omega) (by omega), vp_in_nI (by omega) (by omega), nm_e (br_t (by rw [z]; rfl) h)⟩
    · obtain ⟨dm', b1, b2, b3⟩ := dk_xg160 hp hb hlv d (q + 1) (upd dm (5 * p + 5 + q) (nI (dk_dM al fi (dk_u c p b) (p + 1) q))) (by omega) (by omega) (fun r a b => by rw [pk_un (by omega)]; exact h1 r a b) (fun r a b' => by
        by_cases e : r = q
        · subst e; rw [show 5 * (p + 1) + r = 5 * p + 5 + r by omega]; exact pk_us
        · rw [pk_un (by omega)]; exact h2 r a (by omega))
      refine ⟨dm', fun j hj => by rw [b1 j hj, pk_un (by omega)], fun y => b2 (fun r a => y r (by omega)), fun post h => ?_⟩
      rw [dk_bC (Q := ∀ r, q + 1 ≤ r → r < 5 → dk_dM al fi (dk_u c p b) (p + 1) r ≠ 0) ⟨fun y r a => y r (by omega), fun y r a a' => by
        by_cases e : r = q
        · subst e; exact z
        · exact y r (by omega) a'⟩] at h
      obtain ⟨n, hn⟩ := b3 post h
      refine ⟨n + 1, ?_⟩
      simp (disch := omega) only [wX_goes_160, nI_clamp, dk_Na, dk_Ta, dk_Wa, dk_m2, dk_m3, dk_m4, dk_m5, dk_m6, dk_a5, dk_a10, nI_add, nI_1, dk_p5, dk_le5, h1, hlv, dk_and]
      rw [dk_dM_s]
      refine br_f (by omega) ⟨vp_in_nI (by omega) (by omega), vp_in_nI (by omega) (by omega), nm_e (br_f (by rw [dk_eq0 (by omega)]; exact z) ?_)⟩
      rw [dk_vbb (by omega)]
      exact ⟨vp_in_nI (by omega) (by omega), nm_e (nm_e hn)⟩
theorem dk_xg118 {al : Nat → Nat → Nat → Nat → Prop} {c : Nat → Nat} {p b : Nat} (hp : p < 5) (hb : b < 4) (hlv : ∀ q, q < 5 → lv (5 * (4 * p + b) + q) = nI (dk_m (fun x => dk_b (al p b q x)) 4)) (hch : ∀ i, i < p → c i < 4 ∧ ch i = nI (c i)) (post : Int32 → SX → Prop) : ∀ d q, q + d = p →
    ((∀ r, q ≤ r → r < p → al p b r (c r)) → ∃ n, wX_goes_160 post (nI p) (nI (5 * (4 * p + b))) pr bl na sc fa st no n (nI (p + 1)) (dk_N kn) (dk_N nd) (dk_N (dk_E ot le gr op)) (dk_N it) (dk_N nm) (dk_N sh) (dk_N ex) (dk_W wl) (dk_N wg) (dk_T th) re rd od on wh ss rf wi lv dm ch cg my sp fA fS nt) → ((¬ ∀ r, q ≤ r → r < p → al p b r (c r)) → post 0 (pr, bl, na, sc, fa, st, no, (dk_N kn), (dk_N nd), (dk_N (dk_E ot le gr op)), (dk_N it), (dk_N nm), (dk_N sh), (dk_N ex), (dk_W wl), (dk_N wg), (dk_T th), re, rd, od, on, wh, ss, rf, wi, lv, dm, ch, cg, my, sp, fA, fS, nt)) → ∃ n, wX_goes_118 post (nI p) (nI (5 * (4 * p + b))) pr bl na sc fa st no (dk_N kn) (dk_N nd) (dk_N (dk_E ot le gr op)) (dk_N it) (dk_N nm) (dk_N sh) (dk_N ex) (dk_W wl) (dk_N wg) (dk_T th) re rd od on wh ss rf wi lv dm ch cg my sp fA fS nt n (nI q)
  | 0, q, hq, h1, h0 => by
    obtain ⟨n, hn⟩ := h1 (fun r a b => by omega)
    refine ⟨1, ?_⟩
    simp (disch := omega) only [wX_goes_118, nI_clamp, dk_Na, dk_Ta, dk_Wa, dk_m2, dk_m3, dk_m4, dk_m5, dk_m6, dk_a5, dk_a10, nI_add, nI_1, nI_leI, nI_ltI, nI_eq, dk_le3, dk_le5, dk_le6, dk_le16, dk_le20, dk_le25, dk_le32, dk_le36, dk_le1024, dk_lt0, dk_ge0, dk_lez, dk_eq0, dk_eq1, dk_eq4, dk_eq6, dk_tneg, dk_tpos, dk_teq, dk_tle]
    exact br_t (by omega) (nm_e ⟨n, hn⟩)
  | d + 1, q, hq, h1, h0 => by
    obtain ⟨c4, ce⟩ := hch q (by omega)
    have L := dk_m4L (fun x => dk_b (al p b q x))
    have B : (dk_m (fun x => dk_b (al p b q x)) 4).testBit (c q) = dk_b (al p b q (c q)) := by rw [dk_mB]; simp [c4]
    by_cases z : al p b q (c q)
    · obtain ⟨n, hn⟩ := dk_xg118 hp hb hlv hch post d (q + 1) (by omega) (fun y => h1 (fun r a a' => by
        by_cases e : r = q
        · subst e; exact z
        · exact y r (by omega) a')) (fun y => h0 fun w => y fun r a => w r (by omega))
      refine ⟨n + 1, ?_⟩
      simp (disch := omega) only [wX_goes_118, nI_clamp, dk_Na, dk_Ta, dk_Wa, dk_m2, dk_m3, dk_m4, dk_m5, dk_m6, dk_a5, dk_a10, nI_add, nI_1, nI_leI, nI_ltI, nI_eq, dk_le3, dk_le5, dk_le6, dk_le16, dk_le20, dk_le25, dk_le32, dk_le36, dk_le1024, dk_lt0, dk_ge0, dk_lez, dk_eq0, dk_eq1, dk_eq4, dk_eq6, dk_tneg, dk_tpos, dk_teq, dk_tle, hlv, ce]
      refine br_f (by omega) ⟨vp_in_nI (by omega) (by omega), vp_in_nI (by omega) (by omega), dk_xb (by omega) (by omega) _ (fun _ => br_f (by decide) (nm_e hn)) (fun y => ?_)⟩
      rw [B, dk_bT' z] at y; exact absurd y (by decide)
    · refine ⟨1, ?_⟩
      have h0' := h0 (fun w => z (w q (Nat.le_refl _) (by omega)))
      simp (disch := omega) only [wX_goes_118, nI_clamp, dk_Na, dk_Ta, dk_Wa, dk_m2, dk_m3, dk_m4, dk_m5, dk_m6, dk_a5, dk_a10, nI_add, nI_1, nI_leI, nI_ltI, nI_eq, dk_le3, dk_le5, dk_le6, dk_le16, dk_le20, dk_le25, dk_le32, dk_le36, dk_le1024, dk_lt0, dk_ge0, dk_lez, dk_eq0, dk_eq1, dk_eq4, dk_eq6, dk_tneg, dk_tpos, dk_teq, dk_tle, hlv, ce]
      refine br_f (by omega) ⟨vp_in_nI (by omega) (by omega), vp_in_nI (by omega) (by omega), dk_xb (by omega) (by omega) _ (fun y => ?_) (fun _ => br_t rfl h0')⟩
      rw [B, dk_bF' z] at y; exact absurd y (by decide)
theorem dk_xg41 {lim : Option (Nat × Nat)} {p b x y : Nat} {z0 z1 : Int32} (hp : p < 5) (hlim : ∀ a b, lim = some (a, b) → a < 2 ^ 20 ∧ b < 2 ^ 20) (hx : x ≤ 5) (hy : y ≤ 5) (e : z1 + z0 = nI y) (post : Int32 → SX → Prop) (h1 : dk_ck lim p x y → wX_goes_84 post (nI p) (nI b) (nI x) (nI y) pr bl na sc fa st no (dk_N kn) (dk_N nd) (dk_N (dk_E ot le gr op)) (dk_N it) (dk_N nm) (dk_N sh) (dk_N ex) (dk_W wl) (dk_N wg) (dk_T th) re rd od on wh ss rf wi lv dm ch cg my sp fA fS nt) (h0 : ¬ dk_ck lim p x y → post 0 (pr, bl, na, sc, fa, st, no, (dk_N kn), (dk_N nd), (dk_N (dk_E ot le gr op)), (dk_N it), (dk_N nm), (dk_N sh), (dk_N ex), (dk_W wl), (dk_N wg), (dk_T th), re, rd, od, on, wh, ss, rf, wi, lv, dm, ch, cg, my, sp, fA, fS, nt)) :
    wX_goes_41 post (nI p) (nI b) (dk_lA lim) (dk_lB lim) (nI x) z0 z1 pr bl na sc fa st no (dk_N kn) (dk_N nd) (dk_N (dk_E ot le gr op)) (dk_N it) (dk_N nm) (dk_N sh) (dk_N ex) (dk_W wl) (dk_N wg) (dk_T th) re rd od on wh ss rf wi lv dm ch cg my sp fA fS nt := by
  unfold wX_goes_41
  rw [e]
  refine nm_e ?_
  cases lim with
  | none => exact br_t (by decide : (-1 : Int32) < 0) (h1 (fun _ _ h => absurd h (by simp)))
  | some ab =>
    obtain ⟨a, b⟩ := ab
    obtain ⟨l1, l2⟩ := hlim a b rfl
    have e4 : ∀ v, v ≤ 5 → nI v + 4 - nI p = nI (v + 4 - p) := fun v hv => by
      have e1 : nI v + 4 = nI (v + 4) := nI_add v 4
      rw [e1]; exact pk_sub (by omega)
    have ck : dk_ck (some (a, b)) p x y ↔ (x ≤ a ∧ a ≤ x + 4 - p ∧ y ≤ b ∧ b ≤ y + 4 - p) := ⟨fun h => h a b rfl, fun h a' b' h' => by
      injection h' with h'
      injection h' with h3 h4
      subst h3; subst h4; exact h⟩
    rw [ck] at h1 h0
    simp (disch := omega) only [dk_lA, dk_lB, e4, dk_lt0, nI_ltI, nI_leI]
    refine br_f (fun y => y) (br_c (fun w => h0 (by omega)) (fun w => br_c (fun w' => h0 (by omega)) (fun w' => br_c (fun w'' => h0 (by omega)) (fun w'' => br_c (fun w3 => h1 (by omega)) (fun w3 => h0 (by omega))))))
theorem dk_xg {al : Nat → Nat → Nat → Nat → Prop} {fi : Nat → Nat → Prop} {lim : Option (Nat × Nat)} {c : Nat → Nat} {p b : Nat} (hp : p < 5) (hb : b < 4) (hth : ∀ i, th i < 4) (hlim : ∀ a b, lim = some (a, b) → a < 2 ^ 20 ∧ b < 2 ^ 20)
    (hlv : ∀ p b q, p < 5 → b < 4 → q < 5 → lv (5 * (4 * p + b) + q) = nI (dk_m (fun x => dk_b (al p b q x)) 4)) (hS : dk_Sk al fi th p c dm ch cg my) (hcp : ch p = nI b) (hbm : fi p b ∧ ∀ j, j < p → al j (c j) p b) :
    ∃ dm' cg' my' : Nat → Int32, dk_Sk al fi th p c dm' ch cg' my' ∧ (dk_go al fi th lim c p b → dk_Sk al fi th (p + 1) (dk_u c p b) dm' ch cg' my') ∧
    ∀ post : Int32 → SX → Prop, post (nI (dk_b (dk_go al fi th lim c p b)).toNat) (pr, bl, na, sc, fa, st, no, (dk_N kn), (dk_N nd), (dk_N (dk_E ot le gr op)), (dk_N it), (dk_N nm), (dk_N sh), (dk_N ex), (dk_W wl), (dk_N wg), (dk_T th), re, rd, od, on, wh, ss, rf, wi, lv, dm', ch, cg', my', sp, fA, fS, nt) → wpX_goes post (pr, bl, na, sc, fa, st, no, (dk_N kn), (dk_N nd), (dk_N (dk_E ot le gr op)), (dk_N it), (dk_N nm), (dk_N sh), (dk_N ex), (dk_W wl), (dk_N wg), (dk_T th), re, rd, od, on, wh, ss, rf, wi, lv, dm, ch, cg, my, sp, fA, fS, nt) (nI p) (nI b) (dk_lA lim) (dk_lB lim) := by
  obtain ⟨s1, s2, s3, s4, s5⟩ := hS
  obtain ⟨s2a, s2b⟩ := s2 p (Nat.le_refl _)
  have c1 := dk_cc_le th c p
  have c2 := dk_cm_le c p
  have c3 := dk_cc_le th (dk_u c p b) (p + 1)
  have c4 := dk_cm_le (dk_u c p b) (p + 1)
  have ex1 : ∀ j, j < p → dk_u c p b j = c j := fun j hj => dk_un (by omega)
  have e1 : dk_cc th (dk_u c p b) (p + 1) = dk_cc th c p + (if th p = b then 0 else 1) := by rw [dk_cc, dk_cc_x ex1, dk_us]
  have e2 : dk_cm (dk_u c p b) (p + 1) = dk_cm c p + (if b = 0 then 0 else 1) := by rw [dk_cm, dk_cm_x ex1, dk_us]
  have t4 := hth p
  -- arrays after the counts are stored
  have S1 : ∀ cg' my' : Nat → Int32, (∀ i, i ≤ p → cg' i = cg i) → (∀ i, i ≤ p → my' i = my i) → ∀ dm' : Nat → Int32, (∀ j, j < 5 * p + 5 → dm' j = dm j) → dk_Sk al fi th p c dm' ch cg' my' := fun cg' my' h1 h2 dm' h3 =>
    ⟨s1, fun i hi => by rw [h1 i hi, h2 i hi]; exact s2 i hi, fun i q a a' a'' => by rw [h3 _ (by omega)]; exact s3 i q a a' a'', s4, s5⟩
  -- reading the head of goes
  have head : ∀ (post : Int32 → SX → Prop), (dk_ck lim p (dk_cc th (dk_u c p b) (p + 1)) (dk_cm (dk_u c p b) (p + 1)) → wX_goes_84 post (nI p) (nI b) (nI (dk_cc th (dk_u c p b) (p + 1))) (nI (dk_cm (dk_u c p b) (p + 1))) pr bl na sc fa st no (dk_N kn) (dk_N nd) (dk_N (dk_E ot le gr op)) (dk_N it) (dk_N nm) (dk_N sh) (dk_N ex) (dk_W wl) (dk_N wg) (dk_T th) re rd od on wh ss rf wi lv dm ch cg my sp fA fS nt) →
      (¬ dk_ck lim p (dk_cc th (dk_u c p b) (p + 1)) (dk_cm (dk_u c p b) (p + 1)) → post 0 (pr, bl, na, sc, fa, st, no, (dk_N kn), (dk_N nd), (dk_N (dk_E ot le gr op)), (dk_N it), (dk_N nm), (dk_N sh), (dk_N ex), (dk_W wl), (dk_N wg), (dk_T th), re, rd, od, on, wh, ss, rf, wi, lv, dm, ch, cg, my, sp, fA, fS, nt)) → wpX_goes post (pr, bl, na, sc, fa, st, no, (dk_N kn), (dk_N nd), (dk_N (dk_E ot le gr op)), (dk_N it), (dk_N nm), (dk_N sh), (dk_N ex), (dk_W wl), (dk_N wg), (dk_T th), re, rd, od, on, wh, ss, rf, wi, lv, dm, ch, cg, my, sp, fA, fS, nt) (nI p) (nI b) (dk_lA lim) (dk_lB lim) := by
    intro post h1 h0
    have k23 : ∀ z0 : Int32, cg p + z0 = nI (dk_cc th (dk_u c p b) (p + 1)) → wX_goes_23 post (nI p) (nI b) (dk_lA lim) (dk_lB lim) z0 (cg p) pr bl na sc fa st no (dk_N kn) (dk_N nd) (dk_N (dk_E ot le gr op)) (dk_N it) (dk_N nm) (dk_N sh) (dk_N ex) (dk_W wl) (dk_N wg) (dk_T th) re rd od on wh ss rf wi lv dm ch cg my sp fA fS nt := by
      intro z0 hz
      unfold wX_goes_23
      refine nm_r hz ⟨vp_in_nI (by omega) (by omega), ?_⟩
      rw [nI_clamp (by omega), dk_eq0 (by omega)]
      refine br_c (fun z => ?_) (fun z => ?_)
      · refine dk_xg41 hp hlim (by omega) (by omega) ?_ post h1 h0
        rw [s2b, e2, if_pos z]; exact nI_add _ 0
      · refine dk_xg41 hp hlim (by omega) (by omega) ?_ post h1 h0
        rw [s2b, e2, if_neg z]; exact nI_add _ 1
    simp (disch := omega) only [wpX_goes, nI_clamp, dk_Na, dk_Ta, dk_Wa, dk_m2, dk_m3, dk_m4, dk_m5, dk_m6, dk_a5, dk_a10, nI_add, nI_1, dk_ts, nI_eq]
    refine ⟨vp_in_nI (by omega) (by omega), vp_in_nI (by omega) (by omega), br_c (fun z => k23 0 ?_) (fun z => k23 1 ?_)⟩
    · rw [s2a, e1, if_pos z]; exact nI_add _ 0
    · rw [s2a, e1, if_neg z]; exact nI_add _ 1
  by_cases zk : dk_ck lim p (dk_cc th (dk_u c p b) (p + 1)) (dk_cm (dk_u c p b) (p + 1))
  · have k84 : ∀ post : Int32 → SX → Prop, (∃ n, wX_goes_118 post (nI p) (nI (5 * (4 * p + b))) pr bl na sc fa st no (dk_N kn) (dk_N nd) (dk_N (dk_E ot le gr op)) (dk_N it) (dk_N nm) (dk_N sh) (dk_N ex) (dk_W wl) (dk_N wg) (dk_T th) re rd od on wh ss rf wi lv dm ch (upd cg (p + 1) (nI (dk_cc th (dk_u c p b) (p + 1)))) (upd my (p + 1) (nI (dk_cm (dk_u c p b) (p + 1)))) sp fA fS nt n (nI 0)) → wX_goes_84 post (nI p) (nI b) (nI (dk_cc th (dk_u c p b) (p + 1))) (nI (dk_cm (dk_u c p b) (p + 1))) pr bl na sc fa st no (dk_N kn) (dk_N nd) (dk_N (dk_E ot le gr op)) (dk_N it) (dk_N nm) (dk_N sh) (dk_N ex) (dk_W wl) (dk_N wg) (dk_T th) re rd od on wh ss rf wi lv dm ch cg my sp fA fS nt := by
      intro post h
      simp (disch := omega) only [wX_goes_84, nI_clamp, dk_Na, dk_Ta, dk_Wa, dk_m2, dk_m3, dk_m4, dk_m5, dk_m6, dk_a5, dk_a10, nI_add, nI_1, dk_vbb]
      exact ⟨vp_in_nI (by omega) (by omega), nm_e ⟨vp_in_nI (by omega) (by omega), nm_e (nm_e h)⟩⟩
    obtain ⟨dm', d1, d2, d3⟩ := dk_xg160 (pr := pr) (bl := bl) (na := na) (sc := sc) (fa := fa) (st := st) (no := no) (kn := kn) (nd := nd) (ot := ot) (le := le) (gr := gr) (op := op) (it := it) (nm := nm) (sh := sh) (ex := ex) (wl := wl) (wg := wg) (th := th) (re := re) (rd := rd) (od := od) (on := on) (wh := wh) (ss := ss) (rf := rf) (wi := wi) (lv := lv) (ch := ch) (sp := sp) (fA := fA) (fS := fS) (nt := nt) (al := al) (fi := fi) (c := c) (cg := upd cg (p + 1) (nI (dk_cc th (dk_u c p b) (p + 1)))) (my := upd my (p + 1) (nI (dk_cm (dk_u c p b) (p + 1)))) hp hb (fun q hq => hlv p b q hp hb hq) (4 - p) (p + 1) dm (by omega) (by omega) (fun r a a' => s3 p r (Nat.le_refl _) (by omega) a') (fun r a a' => by omega)
    by_cases zb : ∀ q, q < p → al p b q (c q)
    · refine ⟨dm', upd cg (p + 1) (nI (dk_cc th (dk_u c p b) (p + 1))), upd my (p + 1) (nI (dk_cm (dk_u c p b) (p + 1))), S1 _ _ (fun i hi => pk_un (by omega)) (fun i hi => pk_un (by omega)) _ d1, fun hg => ?_, fun post h => ?_⟩
      · refine ⟨fun i hi => ?_, fun i hi => ?_, fun i q a a' a'' => ?_, fun i hi => ?_, fun i j hi hj hn => ?_⟩
        · by_cases e : i = p
          · subst e; rw [dk_us]; exact ⟨hb, hcp⟩
          · rw [dk_un e]; exact s1 i (by omega)
        · by_cases e : i = p + 1
          · subst e; exact ⟨pk_us, pk_us⟩
          · rw [pk_un e, pk_un e, dk_cc_x (fun j hj => dk_un (by omega)), dk_cm_x (fun j hj => dk_un (by omega))]; exact s2 i (by omega)
        · by_cases e : i = p + 1
          · subst e; exact d2 (fun r y => hg.2.2 r (by omega)) q (by omega) a''
          · rw [d1 _ (by omega), dk_dM_x (c' := c) (fun j hj => dk_un (by omega))]; exact s3 i q (by omega) a' a''
        · by_cases e : i = p
          · subst e; rw [dk_us]; exact hbm.1
          · rw [dk_un e]; exact s4 i (by omega)
        · by_cases e : i = p
          · subst e
            rw [dk_us, dk_un (fun y => hn y.symm)]; exact zb j (by omega)
          · by_cases e' : j = p
            · subst e'
              rw [dk_us, dk_un e]; exact hbm.2 i (by omega)
            · rw [dk_un e, dk_un e']; exact s5 i j (by omega) (by omega) hn
      · refine head post (fun _ => k84 post ?_) (fun y => absurd zk y)
        refine dk_xg118 hp hb (fun q hq => hlv p b q hp hb hq) s1 post p 0 (by omega) (fun _ => d3 post ?_) (fun y => absurd (fun r _ => zb r) y)
        rw [dk_bC (Q := dk_go al fi th lim c p b) ⟨fun y => ⟨zk, zb, fun q a => y q (by omega)⟩, fun y r a => y.2.2 r (by omega)⟩]
        exact h
    · refine ⟨dm, upd cg (p + 1) (nI (dk_cc th (dk_u c p b) (p + 1))), upd my (p + 1) (nI (dk_cm (dk_u c p b) (p + 1))), S1 _ _ (fun i hi => pk_un (by omega)) (fun i hi => pk_un (by omega)) _ (fun _ _ => rfl), fun hg => absurd hg.2.1 zb, fun post h => ?_⟩
      rw [dk_bF' (fun hg => zb hg.2.1)] at h
      refine head post (fun _ => k84 post ?_) (fun y => absurd zk y)
      exact dk_xg118 hp hb (fun q hq => hlv p b q hp hb hq) s1 post p 0 (by omega) (fun y => absurd (fun r a => y r (Nat.zero_le _) a) zb) (fun _ => h)
  · refine ⟨dm, cg, my, S1 _ _ (fun _ _ => rfl) (fun _ _ => rfl) _ (fun _ _ => rfl), fun hg => absurd hg.1 zk, fun post h => ?_⟩
    rw [dk_bF' (fun hg => zk hg.1)] at h
    exact head post (fun y => absurd y zk) (fun _ => h)
end
end
section
def dk_code (a : Nat → Nat) : Nat := a 0 * 256 + a 1 * 64 + a 2 * 16 + a 3 * 4 + a 4
theorem dk_code_lt {a a' : Nat → Nat} (h : ∀ i, i < 5 → a i < 4) (h' : ∀ i, i < 5 → a' i < 4) {p : Nat} (hp : p < 5) (e : ∀ i, i < p → a i = a' i) (l : a p < a' p) : dk_code a < dk_code a' := by
  have h0 := h 0 (by omega); have h1 := h 1 (by omega); have h2 := h 2 (by omega); have h3 := h 3 (by omega); have h4 := h 4 (by omega)
  have k0 := h' 0 (by omega); have k1 := h' 1 (by omega); have k2 := h' 2 (by omega); have k3 := h' 3 (by omega); have k4 := h' 4 (by omega)
  unfold dk_code
  rcases (by omega : p = 0 ∨ p = 1 ∨ p = 2 ∨ p = 3 ∨ p = 4) with r | r | r | r | r <;> subst r
  · omega
  · have := e 0 (by omega); omega
  · have := e 0 (by omega); have := e 1 (by omega); omega
  · have := e 0 (by omega); have := e 1 (by omega); have := e 2 (by omega); omega
  · have := e 0 (by omega); have := e 1 (by omega); have := e 2 (by omega); have := e 3 (by omega); omega
theorem dk_code_x {a a' : Nat → Nat} (e : ∀ i, i < 5 → a i = a' i) : dk_code a = dk_code a' := by
  unfold dk_code
  rw [e 0 (by omega), e 1 (by omega), e 2 (by omega), e 3 (by omega), e 4 (by omega)]
def dk_Sol (al : Nat → Nat → Nat → Nat → Prop) (fi : Nat → Nat → Prop) (th : Nat → Nat) (lim : Option (Nat × Nat)) (c : Nat → Nat) (p b : Nat) (a : Nat → Nat) : Prop := dk_Vl al fi th lim a ∧ (∀ i, i < p → a i = c i) ∧ a p < b
theorem dk_Sol_m {al : Nat → Nat → Nat → Nat → Prop} {fi : Nat → Nat → Prop} {th : Nat → Nat} {lim : Option (Nat × Nat)} {c : Nat → Nat} {p b : Nat} {a : Nat → Nat} (hp : p < 5) (h : dk_Sol al fi th lim c p b a) : (dk_dM al fi c p p).testBit (a p) = true := by
  rw [dk_dM_B (h.1.1.1 p hp)]
  exact ⟨h.1.1.2.1 p hp, fun j hj => by rw [← h.2.1 j hj]; exact h.1.1.2.2 j p (by omega) hp (by omega)⟩
theorem dk_Sk_ch {al : Nat → Nat → Nat → Nat → Prop} {fi : Nat → Nat → Prop} {th : Nat → Nat} {p : Nat} {c : Nat → Nat} {dm ch cg my : Nat → Int32} (h : dk_Sk al fi th p c dm ch cg my) {q : Nat} (hq : p ≤ q) (x : Int32) : dk_Sk al fi th p c dm (upd ch q x) cg my :=
  ⟨fun i hi => by rw [pk_un (by omega)]; exact h.1 i hi, h.2⟩
theorem dk_Sk_dn {al : Nat → Nat → Nat → Nat → Prop} {fi : Nat → Nat → Prop} {th : Nat → Nat} {p b : Nat} {c : Nat → Nat} {dm ch cg my : Nat → Int32} (h : dk_Sk al fi th (p + 1) (dk_u c p b) dm ch cg my) : dk_Sk al fi th p c dm ch cg my ∧ ch p = nI b := by
  obtain ⟨h1, h2, h3, h4, h5⟩ := h
  have ex : ∀ j, j < p → dk_u c p b j = c j := fun j hj => dk_un (by omega)
  refine ⟨⟨fun i hi => ?_, fun i hi => ?_, fun i q a a' a'' => ?_, fun i hi => ?_, fun i j hi hj hn => ?_⟩, ?_⟩
  · have := h1 i (by omega); rw [ex i hi] at this; exact this
  · have := h2 i (by omega); rw [dk_cc_x (fun j hj => ex j (by omega)), dk_cm_x (fun j hj => ex j (by omega))] at this; exact this
  · have := h3 i q (by omega) a' a''; rw [dk_dM_x (fun j hj => ex j (by omega))] at this; exact this
  · have := h4 i (by omega); rw [ex i hi] at this; exact this
  · have := h5 i j (by omega) (by omega) hn; rw [ex i hi, ex j hj] at this; exact this
  · have := (h1 p (by omega)).2; rw [dk_us] at this; exact this
section
variable {pr bl na sc fa st no : Int32} {kn nd ot le gr op it nm sh ex wl wg th : Nat → Nat} {re rd od on : Nat → Int32} {wh : Nat → Int64} {ss rf wi lv dm ch cg my sp fA fS nt : Nat → Int32}
theorem dk_xs63 {al : Nat → Nat → Nat → Nat → Prop} {fi : Nat → Nat → Prop} {lim : Option (Nat × Nat)} (hth : ∀ i, th i < 4) (hlim : ∀ a b, lim = some (a, b) → a < 2 ^ 20 ∧ b < 2 ^ 20)
    (hlv : ∀ p b q, p < 5 → b < 4 → q < 5 → lv (5 * (4 * p + b) + q) = nI (dk_m (fun x => dk_b (al p b q x)) 4)) : ∀ d p, p + d = 4 → ∀ b, b ≤ 4 → ∀ (c : Nat → Nat) (dm ch cg my : Nat → Int32), dk_Sk al fi th p c dm ch cg my → ch p = nI b →
    (∃ (a : Nat → Nat) (dm' ch' cg' my' : Nat → Int32), dk_Sol al fi th lim c p b a ∧ (∀ a', dk_Sol al fi th lim c p b a' → dk_code a' ≤ dk_code a) ∧ (∀ i, i < 5 → ch' i = nI (a i)) ∧
      ∀ post : Int32 → SX → Prop, post 1 (pr, bl, na, sc, fa, st, no, (dk_N kn), (dk_N nd), (dk_N (dk_E ot le gr op)), (dk_N it), (dk_N nm), (dk_N sh), (dk_N ex), (dk_W wl), (dk_N wg), (dk_T th), re, rd, od, on, wh, ss, rf, wi, lv, dm', ch', cg', my', sp, fA, fS, nt) → ∃ n, wX_seek_63 post (dk_lA lim) (dk_lB lim) n (nI p) pr bl na sc fa st no (dk_N kn) (dk_N nd) (dk_N (dk_E ot le gr op)) (dk_N it) (dk_N nm) (dk_N sh) (dk_N ex) (dk_W wl) (dk_N wg) (dk_T th) re rd od on wh ss rf wi lv dm ch cg my sp fA fS nt) ∨
    ((¬ ∃ a, dk_Sol al fi th lim c p b a) ∧ ∃ dm' ch' cg' my' : Nat → Int32, dk_Sk al fi th p c dm' ch' cg' my' ∧
      ∀ post : Int32 → SX → Prop, (∃ n, wX_seek_63 post (dk_lA lim) (dk_lB lim) n (nI p - 1) pr bl na sc fa st no (dk_N kn) (dk_N nd) (dk_N (dk_E ot le gr op)) (dk_N it) (dk_N nm) (dk_N sh) (dk_N ex) (dk_W wl) (dk_N wg) (dk_T th) re rd od on wh ss rf wi lv dm' ch' cg' my' sp fA fS nt) → ∃ n, wX_seek_63 post (dk_lA lim) (dk_lB lim) n (nI p) pr bl na sc fa st no (dk_N kn) (dk_N nd) (dk_N (dk_E ot le gr op)) (dk_N it) (dk_N nm) (dk_N sh) (dk_N ex) (dk_W wl) (dk_N wg) (dk_T th) re rd od on wh ss rf wi lv dm ch cg my sp fA fS nt) := by
  intro d
  induction d with
  | zero =>
    intro p hp b
    have : p = 4 := by omega
    subst this
    induction b using Nat.strongRecOn with
    | ind b ihb =>
    intro hb c dm ch cg my hS hcp
    have hdm := hS.2.2.1 4 4 (Nat.le_refl _) (Nat.le_refl _) (by omega)
    have L := dk_dM_L (al := al) (fi := fi) (c := c) (i := 4) (q := 4)
    have ble := dk_bel_le (dk_dM al fi c 4 4) b
    cases hbel : dk_bel (dk_dM al fi c 4 4) b with
    | zero =>
      have no := dk_bel_0 hbel
      refine Or.inr ⟨fun ⟨a, ha⟩ => no (a 4) ha.2.2 (dk_Sol_m (by omega) ha), dm, upd ch 4 (nI 0 - 1), cg, my, dk_Sk_ch hS (Nat.le_refl _) _, fun post h => ?_⟩
      obtain ⟨n, hn⟩ := h
      refine ⟨n + 1, ?_⟩
      rw [wX_seek_63]
      refine br_f (nI_pos (by omega)) ?_
      rw [dk_m5, nI_add, nI_clamp (by omega), nI_clamp (by omega), hdm, hcp]
      refine ⟨vp_in_nI (by omega) (by omega), vp_in_nI (by omega) (by omega), dk_xbl_l L _ b hb ?_⟩
      rw [hbel, dk_vbbT (by omega)]
      exact ⟨vp_in_nI (by omega) (by omega), nm_e (br_f (by rw [dk_tpos (by omega)]; omega) (nm_r (dk_am1 _) hn))⟩
    | succ b' =>
      rw [hbel] at ble
      obtain ⟨m1, m2, m3⟩ := dk_bel_s hbel
      have b4 : b' < 4 := by omega
      have hbm := (dk_dM_B b4).mp m1
      obtain ⟨dm1, cg1, my1, g1, g2, g3⟩ := dk_xg (pr := pr) (bl := bl) (na := na) (sc := sc) (fa := fa) (st := st) (no := no) (kn := kn) (nd := nd) (ot := ot) (le := le) (gr := gr) (op := op) (it := it) (nm := nm) (sh := sh) (ex := ex) (wl := wl) (wg := wg) (th := th) (re := re) (rd := rd) (od := od) (on := on) (wh := wh) (ss := ss) (rf := rf) (wi := wi) (lv := lv) (sp := sp) (fA := fA) (fS := fS) (nt := nt) (dm := dm) (ch := upd ch 4 (nI b')) (cg := cg) (my := my) (lim := lim) (by omega) b4 hth hlim hlv (dk_Sk_ch hS (Nat.le_refl _) _) pk_us hbm
      have eb : nI (b' + 1) - 1 = nI b' := by rw [nI_succ, Int32.add_sub_cancel]
      have walk : ∀ (post : Int32 → SX → Prop) n, (∀ r : Int32, r = nI (dk_b (dk_go al fi th lim c 4 b')).toNat → (r = 0 → wX_seek_63 post (dk_lA lim) (dk_lB lim) n (nI 4) pr bl na sc fa st no (dk_N kn) (dk_N nd) (dk_N (dk_E ot le gr op)) (dk_N it) (dk_N nm) (dk_N sh) (dk_N ex) (dk_W wl) (dk_N wg) (dk_T th) re rd od on wh ss rf wi lv dm1 (upd ch 4 (nI b')) cg1 my1 sp fA fS nt) ∧ (¬ r = 0 → post 1 (pr, bl, na, sc, fa, st, no, (dk_N kn), (dk_N nd), (dk_N (dk_E ot le gr op)), (dk_N it), (dk_N nm), (dk_N sh), (dk_N ex), (dk_W wl), (dk_N wg), (dk_T th), re, rd, od, on, wh, ss, rf, wi, lv, dm1, (upd ch 4 (nI b')), cg1, my1, sp, fA, fS, nt))) → wX_seek_63 post (dk_lA lim) (dk_lB lim) (n + 1) (nI 4) pr bl na sc fa st no (dk_N kn) (dk_N nd) (dk_N (dk_E ot le gr op)) (dk_N it) (dk_N nm) (dk_N sh) (dk_N ex) (dk_W wl) (dk_N wg) (dk_T th) re rd od on wh ss rf wi lv dm ch cg my sp fA fS nt := by
        intro post n h
        rw [wX_seek_63]
        refine br_f (nI_pos (by omega)) ?_
        rw [dk_m5, nI_add, nI_clamp (by omega), nI_clamp (by omega), hdm, hcp]
        refine ⟨vp_in_nI (by omega) (by omega), vp_in_nI (by omega) (by omega), dk_xbl_l L _ b hb ?_⟩
        rw [hbel, eb, dk_vbb (by omega)]
        refine ⟨vp_in_nI (by omega) (by omega), nm_e (br_t (nI_pos' (by omega)) (g3 _ ?_))⟩
        obtain ⟨h1, h2⟩ := h _ rfl
        exact ⟨h1, fun z => br_t rfl (h2 z)⟩
      by_cases hg : dk_go al fi th lim c 4 b'
      · refine Or.inl ⟨dk_u c 4 b', dm1, upd ch 4 (nI b'), cg1, my1, ?_, fun a' ha' => ?_, fun i hi => ?_, fun post h => ⟨1, walk post 0 (fun r hr => ?_)⟩⟩
        · obtain ⟨q1, q2, q3, q4, q5⟩ := g2 hg
          refine ⟨⟨⟨fun i hi => (q1 i hi).1, q4, q5⟩, fun x y hl => ?_⟩, fun i hi => dk_un (by omega), by rw [dk_us]; omega⟩
          have : dk_cc th (dk_u c 4 b') 5 ≤ x ∧ x ≤ dk_cc th (dk_u c 4 b') 5 + 4 - 4 ∧ dk_cm (dk_u c 4 b') 5 ≤ y ∧ y ≤ dk_cm (dk_u c 4 b') 5 + 4 - 4 := hg.1 x y hl
          omega
        · have l4 : a' 4 ≤ b' := by
            have := dk_Sol_m (by omega) ha'
            refine Nat.le_of_not_lt fun y => m3 (a' 4) y ha'.2.2 this
          rcases Nat.lt_or_ge (a' 4) b' with y | y
          · exact Nat.le_of_lt (dk_code_lt (p := 4) ha'.1.1.1 (fun i hi => ((g2 hg).1 i hi).1) (by omega) (fun i hi => by rw [dk_un (by omega)]; exact ha'.2.1 i hi) (by rw [dk_us]; exact y))
          · refine Nat.le_of_eq (dk_code_x fun i hi => ?_)
            by_cases e : i = 4
            · subst e; rw [dk_us]; omega
            · rw [dk_un e]; exact ha'.2.1 i (by omega)
        · by_cases e : i = 4
          · subst e; rw [pk_us, dk_us]
          · rw [pk_un e, dk_un e]; exact (hS.1 i (by omega)).2
        · rw [dk_bT' hg] at hr
          subst hr
          exact br_f (by decide) h
      · have shr : ∀ a, dk_Sol al fi th lim c 4 b a → dk_Sol al fi th lim c 4 b' a := fun a ha => ⟨ha.1, ha.2.1, by
          have h1 := dk_Sol_m (by omega) ha
          have h2 : ¬ b' < a 4 := fun y => m3 (a 4) y ha.2.2 h1
          have h3 : a 4 ≠ b' := fun y => hg (dk_go_no (by omega) ha.1 ha.2.1 y)
          omega⟩
        rcases ihb b' m2 (by omega) c dm1 (upd ch 4 (nI b')) cg1 my1 g1 pk_us with ⟨a, dm', ch', cg', my', r1, r2, r3, r4⟩ | ⟨r1, dm', ch', cg', my', r2, r3⟩
        · refine Or.inl ⟨a, dm', ch', cg', my', ⟨r1.1, r1.2.1, by have := r1.2.2; omega⟩, fun a' ha' => r2 a' (shr a' ha'), r3, fun post h => ?_⟩
          obtain ⟨n, hn⟩ := r4 post h
          refine ⟨n + 1, walk post n (fun r hr => ?_)⟩
          rw [dk_bF' hg] at hr
          subst hr
          exact br_t rfl hn
        · refine Or.inr ⟨fun ⟨a, ha⟩ => r1 ⟨a, shr a ha⟩, dm', ch', cg', my', r2, fun post h => ?_⟩
          obtain ⟨n, hn⟩ := r3 post h
          refine ⟨n + 1, walk post n (fun r hr => ?_)⟩
          rw [dk_bF' hg] at hr
          subst hr
          exact br_t rfl hn
  | succ d ihd =>
    intro p hp b
    have hp4 : p < 4 := by omega
    induction b using Nat.strongRecOn with
    | ind b ihb =>
    intro hb c dm ch cg my hS hcp
    have hdm := hS.2.2.1 p p (Nat.le_refl _) (Nat.le_refl _) (by omega)
    have L := dk_dM_L (al := al) (fi := fi) (c := c) (i := p) (q := p)
    have ble := dk_bel_le (dk_dM al fi c p p) b
    cases hbel : dk_bel (dk_dM al fi c p p) b with
    | zero =>
      have no := dk_bel_0 hbel
      refine Or.inr ⟨fun ⟨a, ha⟩ => no (a p) ha.2.2 (dk_Sol_m (by omega) ha), dm, upd ch p (nI 0 - 1), cg, my, dk_Sk_ch hS (Nat.le_refl _) _, fun post h => ?_⟩
      obtain ⟨n, hn⟩ := h
      refine ⟨n + 1, ?_⟩
      rw [wX_seek_63]
      refine br_f (nI_pos (by omega)) ?_
      rw [dk_m5, nI_add, nI_clamp (by omega), nI_clamp (by omega), hdm, hcp]
      refine ⟨vp_in_nI (by omega) (by omega), vp_in_nI (by omega) (by omega), dk_xbl_l L _ b hb ?_⟩
      rw [hbel, dk_vbbT (by omega)]
      exact ⟨vp_in_nI (by omega) (by omega), nm_e (br_f (by rw [dk_tpos (by omega)]; omega) (nm_r (dk_am1 _) hn))⟩
    | succ b' =>
      rw [hbel] at ble
      obtain ⟨m1, m2, m3⟩ := dk_bel_s hbel
      have b4 : b' < 4 := by omega
      have hbm := (dk_dM_B b4).mp m1
      obtain ⟨dm1, cg1, my1, g1, g2, g3⟩ := dk_xg (pr := pr) (bl := bl) (na := na) (sc := sc) (fa := fa) (st := st) (no := no) (kn := kn) (nd := nd) (ot := ot) (le := le) (gr := gr) (op := op) (it := it) (nm := nm) (sh := sh) (ex := ex) (wl := wl) (wg := wg) (th := th) (re := re) (rd := rd) (od := od) (on := on) (wh := wh) (ss := ss) (rf := rf) (wi := wi) (lv := lv) (sp := sp) (fA := fA) (fS := fS) (nt := nt) (dm := dm) (ch := upd ch p (nI b')) (cg := cg) (my := my) (lim := lim) (by omega) b4 hth hlim hlv (dk_Sk_ch hS (Nat.le_refl _) _) pk_us hbm
      have eb : nI (b' + 1) - 1 = nI b' := by rw [nI_succ, Int32.add_sub_cancel]
      have v4 : vp_nar .byte 4 = nI 4 := dk_vb (n := 4) (by omega)
      have walk : ∀ (post : Int32 → SX → Prop) n, (∀ r : Int32, r = nI (dk_b (dk_go al fi th lim c p b')).toNat → (r = 0 → wX_seek_63 post (dk_lA lim) (dk_lB lim) n (nI p) pr bl na sc fa st no (dk_N kn) (dk_N nd) (dk_N (dk_E ot le gr op)) (dk_N it) (dk_N nm) (dk_N sh) (dk_N ex) (dk_W wl) (dk_N wg) (dk_T th) re rd od on wh ss rf wi lv dm1 (upd ch p (nI b')) cg1 my1 sp fA fS nt) ∧ (¬ r = 0 → wX_seek_63 post (dk_lA lim) (dk_lB lim) n (nI (p + 1)) pr bl na sc fa st no (dk_N kn) (dk_N nd) (dk_N (dk_E ot le gr op)) (dk_N it) (dk_N nm) (dk_N sh) (dk_N ex) (dk_W wl) (dk_N wg) (dk_T th) re rd od on wh ss rf wi lv dm1 (upd (upd ch p (nI b')) (p + 1) (nI 4)) cg1 my1 sp fA fS nt)) → wX_seek_63 post (dk_lA lim) (dk_lB lim) (n + 1) (nI p) pr bl na sc fa st no (dk_N kn) (dk_N nd) (dk_N (dk_E ot le gr op)) (dk_N it) (dk_N nm) (dk_N sh) (dk_N ex) (dk_W wl) (dk_N wg) (dk_T th) re rd od on wh ss rf wi lv dm ch cg my sp fA fS nt := by
        intro post n h
        rw [wX_seek_63]
        refine br_f (nI_pos (by omega)) ?_
        rw [dk_m5, nI_add, nI_clamp (by omega), nI_clamp (by omega), hdm, hcp]
        refine ⟨vp_in_nI (by omega) (by omega), vp_in_nI (by omega) (by omega), dk_xbl_l L _ b hb ?_⟩
        rw [hbel, eb, dk_vbb (by omega)]
        refine ⟨vp_in_nI (by omega) (by omega), nm_e (br_t (nI_pos' (by omega)) (g3 _ ?_))⟩
        obtain ⟨h1, h2⟩ := h _ rfl
        refine ⟨h1, fun z => br_f (by rw [dk_eq4 (by omega)]; omega) (nm_r (nI_1 p) ?_)⟩
        rw [nI_clamp (by omega), v4]
        exact ⟨vp_in_nI (by omega) (by omega), nm_e (h2 z)⟩
      by_cases hg : dk_go al fi th lim c p b'
      · have S2 := dk_Sk_ch (g2 hg) (Nat.le_refl _) (nI 4)
        have shr : (¬ ∃ a, dk_Sol al fi th lim (dk_u c p b') (p + 1) 4 a) → ∀ a, dk_Sol al fi th lim c p b a → dk_Sol al fi th lim c p b' a := fun no a ha => ⟨ha.1, ha.2.1, by
          have h1 := dk_Sol_m (by omega) ha
          have h2 : ¬ b' < a p := fun y => m3 (a p) y ha.2.2 h1
          have h3 : a p ≠ b' := fun y => no ⟨a, ha.1, fun i hi => by
            by_cases e : i = p
            · subst e; rw [dk_us]; exact y
            · rw [dk_un e]; exact ha.2.1 i (by omega), ha.1.1.1 (p + 1) (by omega)⟩
          omega⟩
        rcases ihd (p + 1) (by omega) 4 (Nat.le_refl _) (dk_u c p b') dm1 (upd (upd ch p (nI b')) (p + 1) (nI 4)) cg1 my1 S2 pk_us with ⟨a, dm', ch', cg', my', r1, r2, r3, r4⟩ | ⟨r1, dm', ch', cg', my', r2, r3⟩
        · have ap : a p = b' := by have := r1.2.1 p (by omega); rw [dk_us] at this; exact this
          refine Or.inl ⟨a, dm', ch', cg', my', ⟨r1.1, fun i hi => by have := r1.2.1 i (by omega); rw [dk_un (by omega)] at this; exact this, by omega⟩, fun a' ha' => ?_, r3, fun post h => ?_⟩
          · have l4 : a' p ≤ b' := by
              have := dk_Sol_m (by omega) ha'
              refine Nat.le_of_not_lt fun y => m3 (a' p) y ha'.2.2 this
            rcases Nat.lt_or_ge (a' p) b' with y | y
            · exact Nat.le_of_lt (dk_code_lt (p := p) ha'.1.1.1 r1.1.1.1 (by omega) (fun i hi => by
                have := r1.2.1 i (by omega); rw [dk_un (by omega)] at this
                rw [this]; exact ha'.2.1 i hi) (by omega))
            · refine r2 a' ⟨ha'.1, fun i hi => ?_, ha'.1.1.1 (p + 1) (by omega)⟩
              by_cases e : i = p
              · subst e; rw [dk_us]; omega
              · rw [dk_un e]; exact ha'.2.1 i (by omega)
          · obtain ⟨n, hn⟩ := r4 post h
            refine ⟨n + 1, walk post n (fun r hr => ?_)⟩
            rw [dk_bT' hg] at hr
            subst hr
            exact br_f (by decide) hn
        · obtain ⟨S3, cp3⟩ := dk_Sk_dn r2
          have back : ∀ (post : Int32 → SX → Prop), (∃ n, wX_seek_63 post (dk_lA lim) (dk_lB lim) n (nI p) pr bl na sc fa st no (dk_N kn) (dk_N nd) (dk_N (dk_E ot le gr op)) (dk_N it) (dk_N nm) (dk_N sh) (dk_N ex) (dk_W wl) (dk_N wg) (dk_T th) re rd od on wh ss rf wi lv dm' ch' cg' my' sp fA fS nt) → ∃ n, wX_seek_63 post (dk_lA lim) (dk_lB lim) n (nI p) pr bl na sc fa st no (dk_N kn) (dk_N nd) (dk_N (dk_E ot le gr op)) (dk_N it) (dk_N nm) (dk_N sh) (dk_N ex) (dk_W wl) (dk_N wg) (dk_T th) re rd od on wh ss rf wi lv dm ch cg my sp fA fS nt := by
            intro post h
            obtain ⟨n, hn⟩ := r3 post (by rw [nI_succ, Int32.add_sub_cancel]; exact h)
            refine ⟨n + 1, walk post n (fun r hr => ?_)⟩
            rw [dk_bT' hg] at hr
            subst hr
            exact br_f (by decide) hn
          rcases ihb b' m2 (by omega) c dm' ch' cg' my' S3 cp3 with ⟨a, dm2, ch2, cg2, my2, t1, t2, t3, t4⟩ | ⟨t1, dm2, ch2, cg2, my2, t2, t3⟩
          · exact Or.inl ⟨a, dm2, ch2, cg2, my2, ⟨t1.1, t1.2.1, by have := t1.2.2; omega⟩, fun a' ha' => t2 a' (shr r1 a' ha'), t3, fun post h => back post (t4 post h)⟩
          · exact Or.inr ⟨fun ⟨a, ha⟩ => t1 ⟨a, shr r1 a ha⟩, dm2, ch2, cg2, my2, t2, fun post h => back post (t3 post h)⟩
      · have shr : ∀ a, dk_Sol al fi th lim c p b a → dk_Sol al fi th lim c p b' a := fun a ha => ⟨ha.1, ha.2.1, by
          have h1 := dk_Sol_m (by omega) ha
          have h2 : ¬ b' < a p := fun y => m3 (a p) y ha.2.2 h1
          have h3 : a p ≠ b' := fun y => hg (dk_go_no (by omega) ha.1 ha.2.1 y)
          omega⟩
        rcases ihb b' m2 (by omega) c dm1 (upd ch p (nI b')) cg1 my1 g1 pk_us with ⟨a, dm', ch', cg', my', r1, r2, r3, r4⟩ | ⟨r1, dm', ch', cg', my', r2, r3⟩
        · refine Or.inl ⟨a, dm', ch', cg', my', ⟨r1.1, r1.2.1, by have := r1.2.2; omega⟩, fun a' ha' => r2 a' (shr a' ha'), r3, fun post h => ?_⟩
          obtain ⟨n, hn⟩ := r4 post h
          refine ⟨n + 1, walk post n (fun r hr => ?_)⟩
          rw [dk_bF' hg] at hr
          subst hr
          exact br_t rfl hn
        · refine Or.inr ⟨fun ⟨a, ha⟩ => r1 ⟨a, shr a ha⟩, dm', ch', cg', my', r2, fun post h => ?_⟩
          obtain ⟨n, hn⟩ := r3 post h
          refine ⟨n + 1, walk post n (fun r hr => ?_)⟩
          rw [dk_bF' hg] at hr
          subst hr
          exact br_t rfl hn
end
end
section
-- one search: the greatest answer, or none
def dk_VS (kn nd ot le gr op wl wg : Nat → Nat) (set : Nat) (a : Nat → Nat) : Prop := dk_V (dk_al kn nd ot le gr op) (fun q b => dk_fi kn wl wg q (set.testBit q) b) a
def dk_VL (kn nd ot le gr op wl wg th : Nat → Nat) (set : Nat) (lim : Option (Nat × Nat)) (a : Nat → Nat) : Prop := dk_Vl (dk_al kn nd ot le gr op) (fun q b => dk_fi kn wl wg q (set.testBit q) b) th lim a
def dk_rank (th a : Nat → Nat) : Nat := (6 * dk_cc th a 5 + dk_cm a 5) * 1024 + (1023 - dk_code a)
theorem dk_code_b {a : Nat → Nat} (h : ∀ i, i < 5 → a i < 4) : dk_code a < 1024 := by
  have h0 := h 0 (by omega); have h1 := h 1 (by omega); have h2 := h 2 (by omega); have h3 := h 3 (by omega); have h4 := h 4 (by omega)
  unfold dk_code; omega
section
variable {pr bl na sc fa st no : Int32} {kn nd ot le gr op it nm sh ex wl wg th : Nat → Nat} {re rd od on : Nat → Int32} {wh : Nat → Int64} {ss rf wi lv dm ch cg my sp fA fS nt : Nat → Int32}
theorem dk_xs3 {set : Nat} {lim : Option (Nat × Nat)} (hset : set < 32) (hkn : ∀ x, kn x ≤ 1) (hwl : ∀ p, wl p ≤ 4) (hwg : ∀ p, wg p ≤ 2) (hww : ∀ p, 2 ≤ wl p → wl p - 2 ≤ wg p) : ∀ d p (dm : Nat → Int32), p + d = 5 → (∀ q, q < p → dm q = nI (dk_fm kn wl wg q (set.testBit q))) →
    ∃ dm' : Nat → Int32, (∀ q, q < 5 → dm' q = nI (dk_fm kn wl wg q (set.testBit q))) ∧ ∀ post : Int32 → SX → Prop, (∃ n63, wX_seek_63 post (dk_lA lim) (dk_lB lim) n63 (nI 0) pr bl na sc fa st no (dk_N kn) (dk_N nd) (dk_N (dk_E ot le gr op)) (dk_N it) (dk_N nm) (dk_N sh) (dk_N ex) (dk_W wl) (dk_N wg) (dk_T th) re rd od on wh ss rf wi lv dm' (upd ch 0 (nI 4)) (upd cg 0 (nI 0)) (upd my 0 (nI 0)) sp fA fS nt) → ∃ n, wX_seek_3 post (dk_lA lim) (dk_lB lim) (nI set) pr bl na sc fa st no n (nI p) (dk_N kn) (dk_N nd) (dk_N (dk_E ot le gr op)) (dk_N it) (dk_N nm) (dk_N sh) (dk_N ex) (dk_W wl) (dk_N wg) (dk_T th) re rd od on wh ss rf wi lv dm ch cg my sp fA fS nt
  | 0, p, dm, hp, h => by
    have : p = 5 := by omega
    subst this
    refine ⟨dm, h, fun post h' => ⟨1, ?_⟩⟩
    have v4 : vp_nar .byte 4 = nI 4 := dk_vb (n := 4) (by omega)
    have v0 : vp_nar .byte 0 = nI 0 := dk_vb (n := 0) (by omega)
    exact br_t (by decide) (nm_r (by rw [v0]) (nm_r (by rw [v0]) (nm_r (by rw [v4]) h')))
  | d + 1, p, dm, hp, h => by
    have hp5 : p < 5 := by omega
    obtain ⟨dm', b1, b2⟩ := dk_xs3 hset hkn hwl hwg hww d (p + 1) (upd dm p (nI (dk_fm kn wl wg p (set.testBit p)))) (by omega) (fun q hq => by
      by_cases e : q = p
      · subst e; exact pk_us
      · rw [pk_un e]; exact h q (by omega))
    refine ⟨dm', b1, fun post h' => ?_⟩
    obtain ⟨n, hn⟩ := b2 post h'
    have L : dk_fm kn wl wg p (set.testBit p) < 16 := dk_m4L _
    refine ⟨n + 1, br_f (by rw [dk_le5 (by omega)]; omega) (dk_xb (by omega) (by omega) _ (fun z => ?_) (fun z => ?_))⟩
    · rw [z] at hn L
      refine dk_xfi (w := true) hp5 hkn hwl hwg hww _ ⟨vp_in_nI (by omega) (by omega), nm_r ?_ (nm_r (nI_1 p) hn)⟩
      rw [nI_clamp (by omega), dk_vbb (by omega)]
    · rw [z] at hn L
      refine dk_xfi (w := false) hp5 hkn hwl hwg hww _ ⟨vp_in_nI (by omega) (by omega), nm_r ?_ (nm_r (nI_1 p) hn)⟩
      rw [nI_clamp (by omega), dk_vbb (by omega)]
theorem dk_xsk {set : Nat} {lim : Option (Nat × Nat)} (hset : set < 32) (hth : ∀ i, th i < 4) (hlim : ∀ a b, lim = some (a, b) → a < 2 ^ 20 ∧ b < 2 ^ 20) (hkn : ∀ x, kn x ≤ 1) (hwl : ∀ p, wl p ≤ 4) (hwg : ∀ p, wg p ≤ 2) (hww : ∀ p, 2 ≤ wl p → wl p - 2 ≤ wg p) (hlv : dk_LvOK kn nd ot le gr op lv) :
    (∃ (a : Nat → Nat) (dm' ch' cg' my' : Nat → Int32), dk_VL kn nd ot le gr op wl wg th set lim a ∧ (∀ a', dk_VL kn nd ot le gr op wl wg th set lim a' → dk_code a' ≤ dk_code a) ∧ (∀ i, i < 5 → ch' i = nI (a i)) ∧
      ∀ post : Int32 → SX → Prop, post 1 (pr, bl, na, sc, fa, st, no, (dk_N kn), (dk_N nd), (dk_N (dk_E ot le gr op)), (dk_N it), (dk_N nm), (dk_N sh), (dk_N ex), (dk_W wl), (dk_N wg), (dk_T th), re, rd, od, on, wh, ss, rf, wi, lv, dm', ch', cg', my', sp, fA, fS, nt) → wpX_seek post (pr, bl, na, sc, fa, st, no, (dk_N kn), (dk_N nd), (dk_N (dk_E ot le gr op)), (dk_N it), (dk_N nm), (dk_N sh), (dk_N ex), (dk_W wl), (dk_N wg), (dk_T th), re, rd, od, on, wh, ss, rf, wi, lv, dm, ch, cg, my, sp, fA, fS, nt) (dk_lA lim) (dk_lB lim) (nI set)) ∨
    ((¬ ∃ a, dk_VL kn nd ot le gr op wl wg th set lim a) ∧ ∃ dm' ch' cg' my' : Nat → Int32, ∀ post : Int32 → SX → Prop, post 0 (pr, bl, na, sc, fa, st, no, (dk_N kn), (dk_N nd), (dk_N (dk_E ot le gr op)), (dk_N it), (dk_N nm), (dk_N sh), (dk_N ex), (dk_W wl), (dk_N wg), (dk_T th), re, rd, od, on, wh, ss, rf, wi, lv, dm', ch', cg', my', sp, fA, fS, nt) → wpX_seek post (pr, bl, na, sc, fa, st, no, (dk_N kn), (dk_N nd), (dk_N (dk_E ot le gr op)), (dk_N it), (dk_N nm), (dk_N sh), (dk_N ex), (dk_W wl), (dk_N wg), (dk_T th), re, rd, od, on, wh, ss, rf, wi, lv, dm, ch, cg, my, sp, fA, fS, nt) (dk_lA lim) (dk_lB lim) (nI set)) := by
  obtain ⟨dm1, d1, d2⟩ := dk_xs3 (pr := pr) (bl := bl) (na := na) (sc := sc) (fa := fa) (st := st) (no := no) (kn := kn) (nd := nd) (ot := ot) (le := le) (gr := gr) (op := op) (it := it) (nm := nm) (sh := sh) (ex := ex) (wl := wl) (wg := wg) (th := th) (re := re) (rd := rd) (od := od) (on := on) (wh := wh) (ss := ss) (rf := rf) (wi := wi) (lv := lv) (ch := ch) (cg := cg) (my := my) (sp := sp) (fA := fA) (fS := fS) (nt := nt) (lim := lim) hset hkn hwl hwg hww 5 0 dm rfl (fun q hq => absurd hq (Nat.not_lt_zero _))
  have S : dk_Sk (dk_al kn nd ot le gr op) (fun q b => dk_fi kn wl wg q (set.testBit q) b) th 0 (fun _ => 0) dm1 (upd ch 0 (nI 4)) (upd cg 0 (nI 0)) (upd my 0 (nI 0)) := by
    refine ⟨fun i hi => absurd hi (Nat.not_lt_zero _), fun i hi => ?_, fun i q a a' a'' => ?_, fun i hi => absurd hi (Nat.not_lt_zero _), fun i j hi => absurd hi (Nat.not_lt_zero _)⟩
    · have : i = 0 := by omega
      subst this; exact ⟨pk_us, pk_us⟩
    · have : i = 0 := by omega
      subst this
      rw [Nat.mul_zero, Nat.zero_add, d1 q a'']
      congr 1
      exact dk_mC (fun b _ => dk_bC ⟨fun y => ⟨y, fun j hj => absurd hj (Nat.not_lt_zero _)⟩, fun y => y.1⟩)
  have hlv' : ∀ p b q, p < 5 → b < 4 → q < 5 → lv (5 * (4 * p + b) + q) = nI (dk_m (fun x => dk_b (dk_al kn nd ot le gr op p b q x)) 4) := fun p b q hp hb hq => by
    have := hlv (4 * p + b) q (by omega) hq
    rw [show (4 * p + b) / 4 = p by omega, show (4 * p + b) % 4 = b by omega] at this
    exact this
  have toS : ∀ a, dk_VL kn nd ot le gr op wl wg th set lim a → dk_Sol (dk_al kn nd ot le gr op) (fun q b => dk_fi kn wl wg q (set.testBit q) b) th lim (fun _ => 0) 0 4 a := fun a h => ⟨h, fun i hi => absurd hi (Nat.not_lt_zero _), h.1.1 0 (by omega)⟩
  rcases dk_xs63 (pr := pr) (bl := bl) (na := na) (sc := sc) (fa := fa) (st := st) (no := no) (kn := kn) (nd := nd) (ot := ot) (le := le) (gr := gr) (op := op) (it := it) (nm := nm) (sh := sh) (ex := ex) (wl := wl) (wg := wg) (th := th) (re := re) (rd := rd) (od := od) (on := on) (wh := wh) (ss := ss) (rf := rf) (wi := wi) (lv := lv) (sp := sp) (fA := fA) (fS := fS) (nt := nt) (lim := lim) hth hlim hlv' 4 0 rfl 4 (Nat.le_refl _) _ dm1 _ _ _ S pk_us with ⟨a, dm', ch', cg', my', r1, r2, r3, r4⟩ | ⟨r1, dm', ch', cg', my', r2, r3⟩
  · exact Or.inl ⟨a, dm', ch', cg', my', r1.1, fun a' h => r2 a' (toS a' h), r3, fun post h => d2 post (r4 post h)⟩
  · refine Or.inr ⟨fun ⟨a, h⟩ => r1 ⟨a, toS a h⟩, dm', ch', cg', my', fun post h => d2 post (r3 post ⟨1, ?_⟩)⟩
    exact br_t ((dk_tneg (by omega)).mpr rfl) h
theorem dk_xo_l (post : Int32 → Prop) : ∀ k m c, dk_ones m = k → m < 32 → c + k < 100 → post (nI (c + k)) → ∃ n, wX_ones_4 post n (nI c) (nI m)
  | 0, m, c, hk, hm, hc, h => by
    rw [dk_ones0 m hm hk]
    exact ⟨1, br_t rfl h⟩
  | k + 1, m, c, hk, hm, hc, h => by
    have h0 : m ≠ 0 := fun e => by rw [e] at hk; have z : dk_ones 0 = 0 := rfl; omega
    have e := dk_onesK m hm h0
    obtain ⟨n, hn⟩ := dk_xo_l post k (m &&& (m - 1)) (c + 1) (by omega) (Nat.lt_of_le_of_lt Nat.and_le_left hm) (by omega) (by rw [show c + 1 + k = c + (k + 1) by omega]; exact h)
    have e1 : nI m - 1 = nI (m - 1) := dk_tp (by omega)
    exact ⟨n + 1, br_f (by rw [dk_eq0 (by omega)]; exact h0) (nm_r (nI_1 c) (nm_r (by rw [e1, dk_and]) hn))⟩
theorem dk_xo {m : Nat} (hm : m < 32) (post : Int32 → Prop) (h : post (nI (dk_ones m))) : wpX_ones post (nI m) :=
  dk_xo_l post (dk_ones m) m 0 rfl hm (by have := dk_onesL m; omega) (by rw [Nat.zero_add]; exact h)
end
-- the smallest set that can't be met
def dk_U (kn nd ot le gr op wl wg : Nat → Nat) (set : Nat) : Prop := ¬ ∃ a, dk_VS kn nd ot le gr op wl wg set a
section
variable {pr bl na sc fa st no : Int32} {kn nd ot le gr op it nm sh ex wl wg th : Nat → Nat} {re rd od on : Nat → Int32} {wh : Nat → Int64} {ss rf wi lv dm ch cg my sp fA fS nt : Nat → Int32}
theorem dk_xls10 {k : Nat} (hk : k < 6) (hth : ∀ i, th i < 4) (hkn : ∀ x, kn x ≤ 1) (hwl : ∀ p, wl p ≤ 4) (hwg : ∀ p, wg p ≤ 2) (hww : ∀ p, 2 ≤ wl p → wl p - 2 ≤ wg p) (hlv : dk_LvOK kn nd ot le gr op lv) : ∀ d set (dm ch cg my : Nat → Int32), set + d = 32 →
    (∃ (r : Nat) (dm' ch' cg' my' : Nat → Int32), dk_U kn nd ot le gr op wl wg r ∧ dk_ones r = k ∧ set ≤ r ∧ r < 32 ∧ (∀ m, set ≤ m → m < r → dk_ones m = k → ¬ dk_U kn nd ot le gr op wl wg m) ∧
      ∀ (post : Int32 → SX → Prop) J, post (nI r) (pr, bl, na, sc, fa, st, no, (dk_N kn), (dk_N nd), (dk_N (dk_E ot le gr op)), (dk_N it), (dk_N nm), (dk_N sh), (dk_N ex), (dk_W wl), (dk_N wg), (dk_T th), re, rd, od, on, wh, ss, rf, wi, lv, dm', ch', cg', my', sp, fA, fS, nt) → ∃ n, wX_least_10 post J (nI k) n (nI set) pr bl na sc fa st no (dk_N kn) (dk_N nd) (dk_N (dk_E ot le gr op)) (dk_N it) (dk_N nm) (dk_N sh) (dk_N ex) (dk_W wl) (dk_N wg) (dk_T th) re rd od on wh ss rf wi lv dm ch cg my sp fA fS nt) ∨
    ((∀ m, set ≤ m → m < 32 → dk_ones m = k → ¬ dk_U kn nd ot le gr op wl wg m) ∧ ∃ dm' ch' cg' my' : Nat → Int32,
      ∀ (post : Int32 → SX → Prop) J, J (nI (k + 1)) pr bl na sc fa st no (dk_N kn) (dk_N nd) (dk_N (dk_E ot le gr op)) (dk_N it) (dk_N nm) (dk_N sh) (dk_N ex) (dk_W wl) (dk_N wg) (dk_T th) re rd od on wh ss rf wi lv dm' ch' cg' my' sp fA fS nt → ∃ n, wX_least_10 post J (nI k) n (nI set) pr bl na sc fa st no (dk_N kn) (dk_N nd) (dk_N (dk_E ot le gr op)) (dk_N it) (dk_N nm) (dk_N sh) (dk_N ex) (dk_W wl) (dk_N wg) (dk_T th) re rd od on wh ss rf wi lv dm ch cg my sp fA fS nt)
  | 0, set, dm, ch, cg, my, hs => by
    have : set = 32 := by omega
    subst this
    exact Or.inr ⟨fun m a b => by omega, dm, ch, cg, my, fun post J h => ⟨1, br_t (by decide) (nm_r (nI_1 k) h)⟩⟩
  | d + 1, set, dm, ch, cg, my, hs => by
    have s32 : set < 32 := by omega
    have o5 := dk_onesL set
    by_cases z : dk_ones set = k
    · rcases dk_xsk (pr := pr) (bl := bl) (na := na) (sc := sc) (fa := fa) (st := st) (no := no) (kn := kn) (nd := nd) (ot := ot) (le := le) (gr := gr) (op := op) (it := it) (nm := nm) (sh := sh) (ex := ex) (wl := wl) (wg := wg) (th := th) (re := re) (rd := rd) (od := od) (on := on) (wh := wh) (ss := ss) (rf := rf) (wi := wi) (lv := lv) (sp := sp) (fA := fA) (fS := fS) (nt := nt) (dm := dm) (ch := ch) (cg := cg) (my := my) (set := set) (lim := none) s32 hth (fun _ _ h => absurd h (by simp)) hkn hwl hwg hww hlv with ⟨a, dm1, ch1, cg1, my1, r1, r2, r3, r4⟩ | ⟨r1, dm1, ch1, cg1, my1, r2⟩
      · have met : ¬ dk_U kn nd ot le gr op wl wg set := fun y => y ⟨a, r1.1⟩
        have walk : ∀ (post : Int32 → SX → Prop) J n, wX_least_10 post J (nI k) n (nI (set + 1)) pr bl na sc fa st no (dk_N kn) (dk_N nd) (dk_N (dk_E ot le gr op)) (dk_N it) (dk_N nm) (dk_N sh) (dk_N ex) (dk_W wl) (dk_N wg) (dk_T th) re rd od on wh ss rf wi lv dm1 ch1 cg1 my1 sp fA fS nt → wX_least_10 post J (nI k) (n + 1) (nI set) pr bl na sc fa st no (dk_N kn) (dk_N nd) (dk_N (dk_E ot le gr op)) (dk_N it) (dk_N nm) (dk_N sh) (dk_N ex) (dk_W wl) (dk_N wg) (dk_T th) re rd od on wh ss rf wi lv dm ch cg my sp fA fS nt := fun post J n hn =>
          br_f (by rw [dk_le32 (by omega)]; omega) (dk_xo s32 _ (br_t (by rw [z]) (r4 _ (br_f (by decide) (nm_r (nI_1 set) hn)))))
        rcases dk_xls10 hk hth hkn hwl hwg hww hlv d (set + 1) dm1 ch1 cg1 my1 (by omega) with ⟨r, dm', ch', cg', my', t1, t2, t3, t4, t5, t6⟩ | ⟨t1, dm', ch', cg', my', t2⟩
        · refine Or.inl ⟨r, dm', ch', cg', my', t1, t2, by omega, t4, fun m a b c => ?_, fun post J h => ?_⟩
          · by_cases e : m = set
            · subst e; exact met
            · exact t5 m (by omega) b c
          · obtain ⟨n, hn⟩ := t6 post J h
            exact ⟨n + 1, walk post J n hn⟩
        · refine Or.inr ⟨fun m a b c => ?_, dm', ch', cg', my', fun post J h => ?_⟩
          · by_cases e : m = set
            · subst e; exact met
            · exact t1 m (by omega) b c
          · obtain ⟨n, hn⟩ := t2 post J h
            exact ⟨n + 1, walk post J n hn⟩
      · refine Or.inl ⟨set, dm1, ch1, cg1, my1, fun ⟨a, ha⟩ => r1 ⟨a, ha, fun _ _ h => absurd h (by simp)⟩, z, Nat.le_refl _, s32, fun m a b => by omega, fun post J h => ⟨1, ?_⟩⟩
        exact br_f (by rw [dk_le32 (by omega)]; omega) (dk_xo s32 _ (br_t (by rw [z]) (r2 _ (br_t rfl h))))
    · have walk : ∀ (post : Int32 → SX → Prop) J n, wX_least_10 post J (nI k) n (nI (set + 1)) pr bl na sc fa st no (dk_N kn) (dk_N nd) (dk_N (dk_E ot le gr op)) (dk_N it) (dk_N nm) (dk_N sh) (dk_N ex) (dk_W wl) (dk_N wg) (dk_T th) re rd od on wh ss rf wi lv dm ch cg my sp fA fS nt → wX_least_10 post J (nI k) (n + 1) (nI set) pr bl na sc fa st no (dk_N kn) (dk_N nd) (dk_N (dk_E ot le gr op)) (dk_N it) (dk_N nm) (dk_N sh) (dk_N ex) (dk_W wl) (dk_N wg) (dk_T th) re rd od on wh ss rf wi lv dm ch cg my sp fA fS nt := fun post J n hn =>
        br_f (by rw [dk_le32 (by omega)]; omega) (dk_xo s32 _ (br_f (by rw [nI_eq (by omega) (by omega)]; exact z) (nm_r (nI_1 set) hn)))
      rcases dk_xls10 hk hth hkn hwl hwg hww hlv d (set + 1) dm ch cg my (by omega) with ⟨r, dm', ch', cg', my', t1, t2, t3, t4, t5, t6⟩ | ⟨t1, dm', ch', cg', my', t2⟩
      · refine Or.inl ⟨r, dm', ch', cg', my', t1, t2, by omega, t4, fun m a b c => ?_, fun post J h => ?_⟩
        · by_cases e : m = set
          · subst e; exact absurd c z
          · exact t5 m (by omega) b c
        · obtain ⟨n, hn⟩ := t6 post J h
          exact ⟨n + 1, walk post J n hn⟩
      · refine Or.inr ⟨fun m a b c => ?_, dm', ch', cg', my', fun post J h => ?_⟩
        · by_cases e : m = set
          · subst e; exact absurd c z
          · exact t1 m (by omega) b c
        · obtain ⟨n, hn⟩ := t2 post J h
          exact ⟨n + 1, walk post J n hn⟩
theorem dk_xls2 (hth : ∀ i, th i < 4) (hkn : ∀ x, kn x ≤ 1) (hwl : ∀ p, wl p ≤ 4) (hwg : ∀ p, wg p ≤ 2) (hww : ∀ p, 2 ≤ wl p → wl p - 2 ≤ wg p) (hlv : dk_LvOK kn nd ot le gr op lv) : ∀ d k (dm ch cg my : Nat → Int32), k + d = 6 → (∀ m, 1 ≤ m → m < 32 → dk_ones m < k → ¬ dk_U kn nd ot le gr op wl wg m) →
    ∃ (r : Nat) (dm' ch' cg' my' : Nat → Int32), r < 32 ∧ ((∃ m, 1 ≤ m ∧ m < 32 ∧ dk_U kn nd ot le gr op wl wg m) → 1 ≤ r ∧ dk_U kn nd ot le gr op wl wg r ∧ ∀ m, 1 ≤ m → m < 32 → dk_U kn nd ot le gr op wl wg m → 32 * dk_ones r + r ≤ 32 * dk_ones m + m) ∧
      ∀ post : Int32 → SX → Prop, post (nI r) (pr, bl, na, sc, fa, st, no, (dk_N kn), (dk_N nd), (dk_N (dk_E ot le gr op)), (dk_N it), (dk_N nm), (dk_N sh), (dk_N ex), (dk_W wl), (dk_N wg), (dk_T th), re, rd, od, on, wh, ss, rf, wi, lv, dm', ch', cg', my', sp, fA, fS, nt) → ∃ n, wX_least_2 post n (nI k) pr bl na sc fa st no (dk_N kn) (dk_N nd) (dk_N (dk_E ot le gr op)) (dk_N it) (dk_N nm) (dk_N sh) (dk_N ex) (dk_W wl) (dk_N wg) (dk_T th) re rd od on wh ss rf wi lv dm ch cg my sp fA fS nt
  | 0, k, dm, ch, cg, my, hk, h => by
    have : k = 6 := by omega
    subst this
    refine ⟨0, dm, ch, cg, my, by omega, fun ⟨m, a, b, c⟩ => absurd c (h m a b (by have := dk_onesL m; omega)), fun post h' => ⟨1, br_t (by decide) h'⟩⟩
  | d + 1, k, dm, ch, cg, my, hk, h => by
    rcases dk_xls10 (pr := pr) (bl := bl) (na := na) (sc := sc) (fa := fa) (st := st) (no := no) (kn := kn) (nd := nd) (ot := ot) (le := le) (gr := gr) (op := op) (it := it) (nm := nm) (sh := sh) (ex := ex) (wl := wl) (wg := wg) (th := th) (re := re) (rd := rd) (od := od) (on := on) (wh := wh) (ss := ss) (rf := rf) (wi := wi) (lv := lv) (sp := sp) (fA := fA) (fS := fS) (nt := nt) (k := k) (by omega) hth hkn hwl hwg hww hlv 31 1 dm ch cg my rfl with ⟨r, dm', ch', cg', my', t1, t2, t3, t4, t5, t6⟩ | ⟨t1, dm1, ch1, cg1, my1, t2⟩
    · refine ⟨r, dm', ch', cg', my', t4, fun _ => ⟨t3, t1, fun m a b c => ?_⟩, fun post h' => ⟨1, ?_⟩⟩
      · have h1 : ¬ dk_ones m < k := fun y => h m a b y c
        by_cases e : dk_ones m = k
        · have : ¬ m < r := fun y => t5 m a y e c
          omega
        · omega
      · exact br_f (by rw [dk_le6 (by omega)]; omega) (t6 post _ h')
    · obtain ⟨r, dm', ch', cg', my', u1, u2, u3⟩ := dk_xls2 hth hkn hwl hwg hww hlv d (k + 1) dm1 ch1 cg1 my1 (by omega) (fun m a b c => by
        by_cases e : dk_ones m = k
        · exact t1 m a b e
        · exact h m a b (by omega))
      refine ⟨r, dm', ch', cg', my', u1, u2, fun post h' => ?_⟩
      obtain ⟨n, hn⟩ := u3 post h'
      exact ⟨n + 1, br_f (by rw [dk_le6 (by omega)]; omega) (t2 post _ hn)⟩
theorem dk_xls (hth : ∀ i, th i < 4) (hkn : ∀ x, kn x ≤ 1) (hwl : ∀ p, wl p ≤ 4) (hwg : ∀ p, wg p ≤ 2) (hww : ∀ p, 2 ≤ wl p → wl p - 2 ≤ wg p) (hlv : dk_LvOK kn nd ot le gr op lv) :
    ∃ (r : Nat) (dm' ch' cg' my' : Nat → Int32), r < 32 ∧ ((∃ m, 1 ≤ m ∧ m < 32 ∧ dk_U kn nd ot le gr op wl wg m) → 1 ≤ r ∧ dk_U kn nd ot le gr op wl wg r ∧ ∀ m, 1 ≤ m → m < 32 → dk_U kn nd ot le gr op wl wg m → 32 * dk_ones r + r ≤ 32 * dk_ones m + m) ∧
      ∀ post : Int32 → SX → Prop, post (nI r) (pr, bl, na, sc, fa, st, no, (dk_N kn), (dk_N nd), (dk_N (dk_E ot le gr op)), (dk_N it), (dk_N nm), (dk_N sh), (dk_N ex), (dk_W wl), (dk_N wg), (dk_T th), re, rd, od, on, wh, ss, rf, wi, lv, dm', ch', cg', my', sp, fA, fS, nt) → wpX_least post (pr, bl, na, sc, fa, st, no, (dk_N kn), (dk_N nd), (dk_N (dk_E ot le gr op)), (dk_N it), (dk_N nm), (dk_N sh), (dk_N ex), (dk_W wl), (dk_N wg), (dk_T th), re, rd, od, on, wh, ss, rf, wi, lv, dm, ch, cg, my, sp, fA, fS, nt) :=
  dk_xls2 hth hkn hwl hwg hww hlv 5 1 dm ch cg my rfl (fun m a b c => by
    have := dk_ones0 m b (by omega)
    omega)
-- the best answer
theorem dk_xso19 (hth : ∀ i, th i < 4) (hkn : ∀ x, kn x ≤ 1) (hwl : ∀ p, wl p ≤ 4) (hwg : ∀ p, wg p ≤ 2) (hww : ∀ p, 2 ≤ wl p → wl p - 2 ≤ wg p) (hlv : dk_LvOK kn nd ot le gr op lv) : ∀ d j (dm ch cg my : Nat → Int32), j + d = 36 → (∀ a, dk_VS kn nd ot le gr op wl wg 31 a → j ≤ 6 * dk_cc th a 5 + dk_cm a 5) →
    (∃ (a : Nat → Nat) (dm' ch' cg' my' : Nat → Int32), dk_VS kn nd ot le gr op wl wg 31 a ∧ (∀ a', dk_VS kn nd ot le gr op wl wg 31 a' → dk_rank th a ≤ dk_rank th a') ∧ (∀ i, i < 5 → ch' i = nI (a i)) ∧
      ∀ post : Int32 → SX → Prop, wX_solve_59 post (nI (dk_cc th a 5)) pr bl na sc fa st no (dk_N kn) (dk_N nd) (dk_N (dk_E ot le gr op)) (dk_N it) (dk_N nm) (dk_N sh) (dk_N ex) (dk_W wl) (dk_N wg) (dk_T th) re rd od on wh ss rf wi lv dm' ch' cg' my' sp fA fS nt → ∃ n, wX_solve_19 post n (-3) (nI j) pr bl na sc fa st no (dk_N kn) (dk_N nd) (dk_N (dk_E ot le gr op)) (dk_N it) (dk_N nm) (dk_N sh) (dk_N ex) (dk_W wl) (dk_N wg) (dk_T th) re rd od on wh ss rf wi lv dm ch cg my sp fA fS nt) ∨
    ((¬ ∃ a, dk_VS kn nd ot le gr op wl wg 31 a) ∧ ∃ dm' ch' cg' my' : Nat → Int32,
      ∀ post : Int32 → SX → Prop, wX_solve_59 post (-3) pr bl na sc fa st no (dk_N kn) (dk_N nd) (dk_N (dk_E ot le gr op)) (dk_N it) (dk_N nm) (dk_N sh) (dk_N ex) (dk_W wl) (dk_N wg) (dk_T th) re rd od on wh ss rf wi lv dm' ch' cg' my' sp fA fS nt → ∃ n, wX_solve_19 post n (-3) (nI j) pr bl na sc fa st no (dk_N kn) (dk_N nd) (dk_N (dk_E ot le gr op)) (dk_N it) (dk_N nm) (dk_N sh) (dk_N ex) (dk_W wl) (dk_N wg) (dk_T th) re rd od on wh ss rf wi lv dm ch cg my sp fA fS nt)
  | 0, j, dm, ch, cg, my, hj, h => by
    have : j = 36 := by omega
    subst this
    refine Or.inr ⟨fun ⟨a, ha⟩ => ?_, dm, ch, cg, my, fun post h' => ⟨1, br_t (by decide) h'⟩⟩
    have := h a ha
    have := dk_cc_le th a 5
    have := dk_cm_le a 5
    omega
  | d + 1, j, dm, ch, cg, my, hj, h => by
    have iff6 : ∀ a, dk_VS kn nd ot le gr op wl wg 31 a → (dk_VL kn nd ot le gr op wl wg th 31 (some (j / 6, j % 6)) a ↔ 6 * dk_cc th a 5 + dk_cm a 5 = j) := fun a ha => by
      have c1 := dk_cc_le th a 5
      have c2 := dk_cm_le a 5
      refine ⟨fun y => ?_, fun y => ⟨ha, fun x y' e => ?_⟩⟩
      · have := y.2 _ _ rfl; omega
      · injection e with e
        injection e with e1 e2
        omega
    rcases dk_xsk (pr := pr) (bl := bl) (na := na) (sc := sc) (fa := fa) (st := st) (no := no) (kn := kn) (nd := nd) (ot := ot) (le := le) (gr := gr) (op := op) (it := it) (nm := nm) (sh := sh) (ex := ex) (wl := wl) (wg := wg) (th := th) (re := re) (rd := rd) (od := od) (on := on) (wh := wh) (ss := ss) (rf := rf) (wi := wi) (lv := lv) (sp := sp) (fA := fA) (fS := fS) (nt := nt) (dm := dm) (ch := ch) (cg := cg) (my := my) (set := 31) (lim := some (j / 6, j % 6)) (by omega) hth (fun x y e => by
        injection e with e
        injection e with e1 e2
        omega) hkn hwl hwg hww hlv with ⟨a, dm1, ch1, cg1, my1, r1, r2, r3, r4⟩ | ⟨r1, dm1, ch1, cg1, my1, r2⟩
    · have ea := (iff6 a r1.1).mp r1
      have ec := (r1.2 _ _ rfl).1
      refine Or.inl ⟨a, dm1, ch1, cg1, my1, r1.1, fun a' ha' => ?_, r3, fun post h' => ⟨2, ?_⟩⟩
      · have l1 := h a' ha'
        have b1 := dk_code_b r1.1.1
        have b2 := dk_code_b ha'.1
        unfold dk_rank
        by_cases e : 6 * dk_cc th a' 5 + dk_cm a' 5 = j
        · have := r2 a' ((iff6 a' ha').mpr e)
          omega
        · omega
      · rw [wX_solve_19]
        dsimp only
        rw [dk_r6 (by omega), dk_d6 (by omega)]
        refine br_f (by rw [dk_le36 (by omega)]; omega) (br_f (by decide) ⟨by decide, by decide, r4 _ ?_⟩)
        refine br_f (by decide) ⟨by decide, nm_e (nm_r (nI_1 j) ?_)⟩
        rw [ec] at h'
        exact br_c (fun _ => h') (fun _ => br_t (nI_pos' (by omega)) h')
    · have h2 : ∀ a, dk_VS kn nd ot le gr op wl wg 31 a → j + 1 ≤ 6 * dk_cc th a 5 + dk_cm a 5 := fun a ha => by
        have l1 := h a ha
        have : 6 * dk_cc th a 5 + dk_cm a 5 ≠ j := fun e => r1 ⟨a, (iff6 a ha).mpr e⟩
        omega
      have walk : ∀ (post : Int32 → SX → Prop) n, wX_solve_19 post n (-3) (nI (j + 1)) pr bl na sc fa st no (dk_N kn) (dk_N nd) (dk_N (dk_E ot le gr op)) (dk_N it) (dk_N nm) (dk_N sh) (dk_N ex) (dk_W wl) (dk_N wg) (dk_T th) re rd od on wh ss rf wi lv dm1 ch1 cg1 my1 sp fA fS nt → wX_solve_19 post (n + 1) (-3) (nI j) pr bl na sc fa st no (dk_N kn) (dk_N nd) (dk_N (dk_E ot le gr op)) (dk_N it) (dk_N nm) (dk_N sh) (dk_N ex) (dk_W wl) (dk_N wg) (dk_T th) re rd od on wh ss rf wi lv dm ch cg my sp fA fS nt := fun post n hn => by
        rw [wX_solve_19]
        dsimp only
        rw [dk_r6 (by omega), dk_d6 (by omega)]
        refine br_f (by rw [dk_le36 (by omega)]; omega) (br_f (by decide) ⟨by decide, by decide, r2 _ ?_⟩)
        exact br_t rfl (nm_r (nI_1 j) hn)
      rcases dk_xso19 hth hkn hwl hwg hww hlv d (j + 1) dm1 ch1 cg1 my1 (by omega) h2 with ⟨a, dm', ch', cg', my', t1, t2, t3, t4⟩ | ⟨t1, dm', ch', cg', my', t2⟩
      · refine Or.inl ⟨a, dm', ch', cg', my', t1, t2, t3, fun post h' => ?_⟩
        obtain ⟨n, hn⟩ := t4 post h'
        exact ⟨n + 1, walk post n hn⟩
      · refine Or.inr ⟨t1, dm', ch', cg', my', fun post h' => ?_⟩
        obtain ⟨n, hn⟩ := t2 post h'
        exact ⟨n + 1, walk post n hn⟩
end
end
section
/-- two states and catalogues look alike: the same versions, and these have the same needs and items -/
def dk_VC (nd ot it nm sh ex t nd' ot' it' nm' sh' ex' t' : Nat → Nat) : Prop :=
  ∀ p, p < 5 → t p = t' p ∧ (0 < t p → nd (dk_x t p) = nd' (dk_x t p) ∧ (∀ k, k < nd (dk_x t p) → ot (4 * dk_x t p + k) = ot' (4 * dk_x t p + k)) ∧ it (dk_x t p) = it' (dk_x t p) ∧ ∀ k, k < it (dk_x t p) → nm (6 * dk_x t p + k) = nm' (6 * dk_x t p + k) ∧ sh (6 * dk_x t p + k) = sh' (6 * dk_x t p + k) ∧ ex (6 * dk_x t p + k) = ex' (6 * dk_x t p + k))
theorem dk_VC_t {nd ot it nm sh ex t t' : Nat → Nat} (h : ∀ p, p < 5 → t p = t' p) : dk_VC nd ot it nm sh ex t nd ot it nm sh ex t' :=
  fun p hp => ⟨h p hp, fun _ => ⟨rfl, fun _ _ => rfl, rfl, fun _ _ => ⟨rfl, rfl, rfl⟩⟩⟩
theorem dk_sf_c {ot ot' t t' : Nat → Nat} {x : Nat} (hot : ∀ k, ot k < 5) (ht : ∀ p, p < 5 → t p = t' p) : ∀ d j, (∀ k, j ≤ k → k < j + d → ot (4 * x + k) = ot' (4 * x + k)) → dk_sf ot t x d j = dk_sf ot' t' x d j
  | 0, _, _ => rfl
  | d + 1, j, h => by
    have e := h j (Nat.le_refl _) (by omega)
    rw [dk_sf, dk_sf, dk_sf_c hot ht d (j + 1) (fun k a b => h k (by omega) (by omega)), ← e, ht _ (hot _)]
theorem dk_ad_c {nd ot it nm sh ex t nd' ot' it' nm' sh' ex' t' : Nat → Nat} (hot : ∀ k, ot k < 5) (h : dk_VC nd ot it nm sh ex t nd' ot' it' nm' sh' ex' t') : dk_ad nd ot t = dk_ad nd' ot' t' := by
  funext q
  unfold dk_ad
  by_cases z : q < 5 ∧ 0 < t q
  · obtain ⟨h1, h2⟩ := h q z.1
    obtain ⟨h3, h4, _⟩ := h2 z.2
    have ex1 : dk_x t' q = dk_x t q := by unfold dk_x; rw [h1]
    rw [if_pos z, if_pos ⟨z.1, by rw [← h1]; exact z.2⟩, ex1, ← h3]
    exact dk_sf_c hot (fun p hp => (h p hp).1) _ _ (fun k a b => h4 k (by omega))
  · rw [if_neg z, if_neg]
    rintro ⟨a, b⟩
    rw [← (h q a).1] at b
    exact z ⟨a, b⟩
theorem dk_Ex_c {nd ot it nm sh ex t nd' ot' it' nm' sh' ex' t' : Nat → Nat} (h : dk_VC nd ot it nm sh ex t nd' ot' it' nm' sh' ex' t') : dk_Ex it nm ex t = dk_Ex it' nm' ex' t' := by
  funext n q
  apply propext
  unfold dk_Ex
  constructor
  · rintro ⟨a, b, k, c, d, e⟩
    obtain ⟨h1, h2⟩ := h q a
    obtain ⟨_, _, h5, h6⟩ := h2 b
    obtain ⟨i1, i2, i3⟩ := h6 k c
    have ex1 : dk_x t' q = dk_x t q := by unfold dk_x; rw [h1]
    rw [ex1, ← h1]
    exact ⟨a, b, k, by rw [← h5]; exact c, by rw [← i3]; exact d, by rw [← i1]; exact e⟩
  · rintro ⟨a, b, k, c, d, e⟩
    obtain ⟨h1, h2⟩ := h q a
    rw [← h1] at b
    obtain ⟨_, _, h5, h6⟩ := h2 b
    have ex1 : dk_x t' q = dk_x t q := by unfold dk_x; rw [h1]
    rw [ex1] at c d e
    rw [← h5] at c
    obtain ⟨i1, i2, i3⟩ := h6 k c
    exact ⟨a, b, k, c, by rw [i3]; exact d, by rw [i1]; exact e⟩
theorem dk_Rf_c {nd ot it nm sh ex t nd' ot' it' nm' sh' ex' t' : Nat → Nat} (h : dk_VC nd ot it nm sh ex t nd' ot' it' nm' sh' ex' t') : dk_Rf it nm ex t = dk_Rf it' nm' ex' t' := by
  funext n q
  apply propext
  unfold dk_Rf
  constructor
  · rintro ⟨a, b, k, c, d, e⟩
    obtain ⟨h1, h2⟩ := h q a
    obtain ⟨_, _, h5, h6⟩ := h2 b
    obtain ⟨i1, i2, i3⟩ := h6 k c
    have ex1 : dk_x t' q = dk_x t q := by unfold dk_x; rw [h1]
    rw [ex1, ← h1]
    exact ⟨a, b, k, by rw [← h5]; exact c, by rw [← i3]; exact d, by rw [← i1]; exact e⟩
  · rintro ⟨a, b, k, c, d, e⟩
    obtain ⟨h1, h2⟩ := h q a
    rw [← h1] at b
    obtain ⟨_, _, h5, h6⟩ := h2 b
    have ex1 : dk_x t' q = dk_x t q := by unfold dk_x; rw [h1]
    rw [ex1] at c d e
    rw [← h5] at c
    obtain ⟨i1, i2, i3⟩ := h6 k c
    exact ⟨a, b, k, c, by rw [i3]; exact d, by rw [i1]; exact e⟩
theorem dk_Sp_c {nd ot it nm sh ex t nd' ot' it' nm' sh' ex' t' : Nat → Nat} (h : dk_VC nd ot it nm sh ex t nd' ot' it' nm' sh' ex' t') : dk_Sp it nm sh ex t = dk_Sp it' nm' sh' ex' t' := by
  funext n s q
  apply propext
  unfold dk_Sp
  constructor
  · rintro ⟨a, b, k, c, d, e, f⟩
    obtain ⟨h1, h2⟩ := h q a
    obtain ⟨_, _, h5, h6⟩ := h2 b
    obtain ⟨i1, i2, i3⟩ := h6 k c
    have ex1 : dk_x t' q = dk_x t q := by unfold dk_x; rw [h1]
    rw [ex1, ← h1]
    exact ⟨a, b, k, by rw [← h5]; exact c, by rw [← i3]; exact d, by rw [← i1]; exact e, by rw [← i2]; exact f⟩
  · rintro ⟨a, b, k, c, d, e, f⟩
    obtain ⟨h1, h2⟩ := h q a
    rw [← h1] at b
    obtain ⟨_, _, h5, h6⟩ := h2 b
    have ex1 : dk_x t' q = dk_x t q := by unfold dk_x; rw [h1]
    rw [ex1] at c d e f
    rw [← h5] at c
    obtain ⟨i1, i2, i3⟩ := h6 k c
    exact ⟨a, b, k, c, by rw [i3]; exact d, by rw [i1]; exact e, by rw [i2]; exact f⟩
theorem dk_Wi_c {nd ot it nm sh ex t nd' ot' it' nm' sh' ex' t' : Nat → Nat} (hot : ∀ k, ot k < 5) (h : dk_VC nd ot it nm sh ex t nd' ot' it' nm' sh' ex' t') {s : Nat} {re rd : Nat → Int32} {wh : Nat → Int64} {ss rf : Nat → Int32}
    (w : dk_Wi nd ot it nm sh ex t s re rd wh ss rf) : dk_Wi nd' ot' it' nm' sh' ex' t' s re rd wh ss rf := by
  intro p hp
  obtain ⟨a, b, m, ⟨c1, c2, c3, c4⟩, d⟩ := w p hp
  have el : dk_lst nd' ot' t' p = dk_lst nd ot t p := by unfold dk_lst; rw [← (h p hp).1, dk_ad_c hot h]
  refine ⟨by rw [← dk_ad_c hot h]; exact a, by rw [← dk_ad_c hot h]; exact b, m, ⟨?_, ?_, c3, ?_⟩, d⟩
  · rw [el, ← dk_Ex_c h]; exact c1
  · rw [el, ← dk_Ex_c h, ← dk_Sp_c h]; exact c2
  · rw [el, ← dk_Rf_c h]; exact c4
theorem dk_Wi_f {nd ot it nm sh ex t : Nat → Nat} {s s' : Nat} (hs : s ≠ s') {re rd re' rd' : Nat → Int32} {wh wh' : Nat → Int64} {ss rf ss' rf' : Nat → Int32} (w : dk_Wi nd ot it nm sh ex t s re rd wh ss rf)
    (h1 : dk_Fr s' re re') (h2 : dk_Fr s' rd rd') (h3 : dk_Fr s' wh wh') (h4 : dk_Fr s' ss ss') (h5 : dk_Fr s' rf rf') : dk_Wi nd ot it nm sh ex t s re' rd' wh' ss' rf' := by
  intro p hp
  have o : 5 * s + p < 5 * s' ∨ 5 * s' + 5 ≤ 5 * s + p := by omega
  rw [h1 _ o, h2 _ o, h3 _ o, h4 _ o, h5 _ o]
  exact w p hp
theorem dk_pl_c {nd ot it nm sh ex t nd' ot' it' nm' sh' ex' t' : Nat → Nat} (hot : ∀ k, ot k < 5) (h : dk_VC nd ot it nm sh ex t nd' ot' it' nm' sh' ex' t') : dk_place nd ot it nm ex t = dk_place nd' ot' it' nm' ex' t' := by
  funext p n
  unfold dk_place
  rw [dk_ad_c hot h, dk_Ex_c h]
theorem dk_fo_c {nd ot it nm sh ex t nd' ot' it' nm' sh' ex' t' : Nat → Nat} (hot : ∀ k, ot k < 5) (h : dk_VC nd ot it nm sh ex t nd' ot' it' nm' sh' ex' t') : dk_fo nd ot it nm sh ex t = dk_fo nd' ot' it' nm' sh' ex' t' := by
  funext p n s
  unfold dk_fo dk_cf
  rw [dk_ad_c hot h, dk_pl_c hot h, dk_Sp_c h, dk_Rf_c h]
theorem dk_fk_t {nd ot it nm sh ex t t' : Nat → Nat} (hot : ∀ k, ot k < 5) (h : ∀ p, p < 5 → t p = t' p) : dk_fk nd ot it nm sh ex t = dk_fk nd ot it nm sh ex t' := by
  funext p k
  unfold dk_fk
  rw [dk_fo_c hot (dk_VC_t h)]
theorem dk_fp_t {nd ot it nm sh ex t t' : Nat → Nat} (hot : ∀ k, ot k < 5) (h : ∀ p, p < 5 → t p = t' p) {p : Nat} (hp : p < 5) : dk_fp nd ot it nm sh ex t p = dk_fp nd ot it nm sh ex t' p := by
  unfold dk_fp dk_x
  rw [dk_fk_t hot h, h p hp]
theorem dk_fs_t {nd ot it nm sh ex t t' : Nat → Nat} (hot : ∀ k, ot k < 5) (h : ∀ p, p < 5 → t p = t' p) (set : Nat) : ∀ d p, p + d ≤ 5 → dk_fs nd ot it nm sh ex t set d p = dk_fs nd ot it nm sh ex t' set d p
  | 0, _, _ => rfl
  | d + 1, p, hp => by rw [dk_fs, dk_fs, dk_fp_t hot h (by omega), dk_fs_t hot h set d (p + 1) (by omega)]
theorem dk_fy_t {nd ot it nm sh ex t t' : Nat → Nat} (hot : ∀ k, ot k < 5) (h : ∀ p, p < 5 → t p = t' p) {p : Nat} (hp : p < 5) : dk_fy nd ot it nm sh ex t p = dk_fy nd ot it nm sh ex t' p := by
  unfold dk_fy dk_x
  rw [dk_fk_t hot h, h p hp]
theorem dk_ad_t {nd ot t t' : Nat → Nat} (hot : ∀ k, ot k < 5) (h : ∀ p, p < 5 → t p = t' p) : dk_ad nd ot t = dk_ad nd ot t' :=
  dk_ad_c (it := nd) (nm := nd) (sh := nd) (ex := nd) hot (dk_VC_t h)
end
section
-- the steps between two states
def dk_gone (t t' : Nat → Nat) : Nat := dk_m (fun p => decide (t p ≠ t' p ∧ 0 < t p)) 5
def dk_fresh (t t' : Nat → Nat) : Nat := dk_m (fun p => decide (t p ≠ t' p ∧ 0 < t' p)) 5
noncomputable def dk_stp (nd ot t t' : Nat → Nat) : List Nat :=
  (dk_ord (dk_R (dk_ad nd ot t)) true (dk_gone t t')).map (fun q => 2 * q) ++ (dk_ord (dk_R (dk_ad nd ot t')) false (dk_fresh t t')).map (fun q => 2 * q + 1)
theorem dk_ord_l {ad : Nat → List Nat} (dir : Bool) {left : Nat} (h : left < 32) : (dk_ord (dk_R ad) dir left).length = dk_ones left := dk_ord_len (r := dk_R ad) (fun _ _ _ => dk_Rt) dir _ left h rfl
theorem dk_goneL (t t' : Nat → Nat) : dk_gone t t' < 32 := dk_m5L _
theorem dk_freshL (t t' : Nat → Nat) : dk_fresh t t' < 32 := dk_m5L _
theorem dk_stp_len (nd ot t t' : Nat → Nat) : (dk_stp nd ot t t').length = dk_ones (dk_gone t t') + dk_ones (dk_fresh t t') := by
  unfold dk_stp
  rw [List.length_append, List.length_map, List.length_map, dk_ord_l _ (dk_goneL _ _), dk_ord_l _ (dk_freshL _ _)]
theorem dk_getD_map (f : Nat → Nat) {l : List Nat} {i : Nat} (h : i < l.length) : (l.map f).getD i 0 = f (l.getD i 0) := by
  rw [List.getD_eq_getElem?_getD, List.getElem?_map, List.getD_eq_getElem?_getD, List.getElem?_eq_getElem h]
  rfl
theorem dk_getD_appR {l m : List Nat} {i : Nat} : (l ++ m).getD (l.length + i) 0 = m.getD i 0 := by
  rw [List.getD_eq_getElem?_getD, List.getD_eq_getElem?_getD, List.getElem?_append_right (by omega), Nat.add_sub_cancel_left]
theorem dk_stp_rep {nd ot t t' : Nat → Nat} {sp : Nat → Int32} (h1 : ∀ i, i < dk_ones (dk_gone t t') → sp i = nI (2 * (dk_ord (dk_R (dk_ad nd ot t)) true (dk_gone t t')).getD i 0))
    (h2 : ∀ i, i < dk_ones (dk_fresh t t') → sp (dk_ones (dk_gone t t') + i) = nI (2 * (dk_ord (dk_R (dk_ad nd ot t')) false (dk_fresh t t')).getD i 0 + 1)) : dk_rep sp 0 (dk_stp nd ot t t') := by
  intro i hi
  rw [dk_stp_len] at hi
  have l1 := dk_ord_l (ad := dk_ad nd ot t) true (dk_goneL t t')
  have l2 := dk_ord_l (ad := dk_ad nd ot t') false (dk_freshL t t')
  rw [Nat.zero_add]
  unfold dk_stp
  by_cases z : i < dk_ones (dk_gone t t')
  · rw [h1 i z, dk_getD_app (by rw [List.length_map]; omega), dk_getD_map _ (by omega)]
  · have e := h2 (i - dk_ones (dk_gone t t')) (by omega)
    rw [show dk_ones (dk_gone t t') + (i - dk_ones (dk_gone t t')) = i by omega] at e
    rw [e]
    have := dk_getD_appR (l := (dk_ord (dk_R (dk_ad nd ot t)) true (dk_gone t t')).map (fun q => 2 * q)) (m := (dk_ord (dk_R (dk_ad nd ot t')) false (dk_fresh t t')).map (fun q => 2 * q + 1)) (i := i - dk_ones (dk_gone t t'))
    rw [List.length_map, l1, show dk_ones (dk_gone t t') + (i - dk_ones (dk_gone t t')) = i by omega] at this
    rw [this, dk_getD_map _ (by omega)]
section
variable {pr bl na sc fa st no : Int32} {kn nd ot le gr op it nm sh ex wl wg th : Nat → Nat} {re rd od on : Nat → Int32} {wh : Nat → Int64} {ss rf wi lv dm ch cg my sp fA fS nt : Nat → Int32}
theorem dk_xp145 {ad : Nat → List Nat} (hre : ∀ q, q < 5 → re (5 * 1 + q) = nI (dk_reM ad q)) (hrd : ∀ q, q < 5 → rd (5 * 1 + q) = nI (dk_rdM ad q)) : ∀ (m left c : Nat) (sp : Nat → Int32), dk_ones left = m → left < 32 → c + m ≤ 10 →
    ∃ sp' : Nat → Int32, (∀ i, i < c → sp' i = sp i) ∧ (∀ i, i < m → sp' (c + i) = nI (2 * (dk_ord (dk_R ad) false left).getD i 0 + 1)) ∧ ∀ post : SX → Prop, post (pr, bl, na, (nI (c + m)), fa, st, no, (dk_N kn), (dk_N nd), (dk_N (dk_E ot le gr op)), (dk_N it), (dk_N nm), (dk_N sh), (dk_N ex), (dk_W wl), (dk_N wg), (dk_T th), re, rd, od, on, wh, ss, rf, wi, lv, dm, ch, cg, my, sp', fA, fS, nt) → ∃ n, wX_plan_145 post pr bl na fa st no n (nI left) (nI c) (dk_N kn) (dk_N nd) (dk_N (dk_E ot le gr op)) (dk_N it) (dk_N nm) (dk_N sh) (dk_N ex) (dk_W wl) (dk_N wg) (dk_T th) re rd od on wh ss rf wi lv dm ch cg my sp fA fS nt
  | 0, left, c, sp, hm, hl, hc => by
    have e := dk_ones0 left hl hm
    subst e
    exact ⟨sp, fun _ _ => rfl, fun i hi => absurd hi (Nat.not_lt_zero _), fun post h => ⟨1, br_t rfl h⟩⟩
  | m + 1, left, c, sp, hm, hl, hc => by
    have h0 : left ≠ 0 := fun e => by rw [e] at hm; have z : dk_ones 0 = 0 := rfl; omega
    have tr : ∀ a b c, dk_R ad a b → dk_R ad b c → dk_R ad a c := fun _ _ _ => dk_Rt
    obtain ⟨a1, a2, a3, a4⟩ := dk_np_ok tr h0 hl false
    have e1 := dk_onesC left hl _ a1 a2
    obtain ⟨sp', b1, b2, b3⟩ := dk_xp145 hre hrd m (dk_dif left (2 ^ dk_np (dk_R ad) left false)) (c + 1) (upd sp c (nI (2 * dk_np (dk_R ad) left false + 1))) (by omega) (dk_difL _ _ hl) (by omega)
    refine ⟨sp', fun i hi => ?_, fun i hi => ?_, fun post h => ?_⟩
    · rw [b1 i (by omega), pk_un (by omega)]
    · rw [dk_ordS tr false h0 hl]
      cases i with
      | zero => rw [Nat.add_zero, b1 c (by omega), pk_us]; rfl
      | succ i =>
        have := b2 i (by omega)
        rw [show c + (i + 1) = c + 1 + i by omega, this]
        rfl
    · rw [show c + (m + 1) = c + 1 + m by omega] at h
      obtain ⟨n, hn⟩ := b3 post h
      refine ⟨n + 1, ?_⟩
      refine br_f (by rw [dk_eq0 (by omega)]; exact h0) (dk_xn (s := 1) (by omega) h0 hl hre hrd false _ ?_)
      have e2 : nI (c + 1) - 1 = nI c := by rw [nI_succ, Int32.add_sub_cancel]
      refine nm_r (nI_1 c) ?_
      rw [e2, dk_m2, nI_1, nI_clamp (by omega), dk_vbb (by omega)]
      refine ⟨vp_in_nI (by omega) (by omega), nm_e ⟨vp_in_nI (by omega) (by omega), by decide, nm_r ?_ hn⟩⟩
      rw [pk_us, dk_d2 (by omega), show (2 * dk_np (dk_R ad) left false + 1) / 2 = dk_np (dk_R ad) left false by omega, dk_pow _ (by omega), dk_difI _ hl _ (dk_p2 _ a1)]
theorem dk_xp86 {ad : Nat → List Nat} {x2 : Int32} (hre : ∀ q, q < 5 → re (5 * 0 + q) = nI (dk_reM ad q)) (hrd : ∀ q, q < 5 → rd (5 * 0 + q) = nI (dk_rdM ad q)) : ∀ (m left c : Nat) (sp : Nat → Int32), dk_ones left = m → left < 32 → c + m ≤ 10 →
    ∃ sp' : Nat → Int32, (∀ i, i < c → sp' i = sp i) ∧ (∀ i, i < m → sp' (c + i) = nI (2 * (dk_ord (dk_R ad) true left).getD i 0)) ∧ ∀ post : SX → Prop, (∃ n145, wX_plan_145 post pr bl na fa st no n145 x2 (nI (c + m)) (dk_N kn) (dk_N nd) (dk_N (dk_E ot le gr op)) (dk_N it) (dk_N nm) (dk_N sh) (dk_N ex) (dk_W wl) (dk_N wg) (dk_T th) re rd od on wh ss rf wi lv dm ch cg my sp' fA fS nt) → ∃ n, wX_plan_86 post x2 pr bl na fa st no n (nI left) (nI c) (dk_N kn) (dk_N nd) (dk_N (dk_E ot le gr op)) (dk_N it) (dk_N nm) (dk_N sh) (dk_N ex) (dk_W wl) (dk_N wg) (dk_T th) re rd od on wh ss rf wi lv dm ch cg my sp fA fS nt
  | 0, left, c, sp, hm, hl, hc => by
    have e := dk_ones0 left hl hm
    subst e
    exact ⟨sp, fun _ _ => rfl, fun i hi => absurd hi (Nat.not_lt_zero _), fun post h => ⟨1, br_t rfl h⟩⟩
  | m + 1, left, c, sp, hm, hl, hc => by
    have h0 : left ≠ 0 := fun e => by rw [e] at hm; have z : dk_ones 0 = 0 := rfl; omega
    have tr : ∀ a b c, dk_R ad a b → dk_R ad b c → dk_R ad a c := fun _ _ _ => dk_Rt
    obtain ⟨a1, a2, a3, a4⟩ := dk_np_ok tr h0 hl true
    have e1 := dk_onesC left hl _ a1 a2
    obtain ⟨sp', b1, b2, b3⟩ := dk_xp86 hre hrd m (dk_dif left (2 ^ dk_np (dk_R ad) left true)) (c + 1) (upd sp c (nI (2 * dk_np (dk_R ad) left true))) (by omega) (dk_difL _ _ hl) (by omega)
    refine ⟨sp', fun i hi => ?_, fun i hi => ?_, fun post h => ?_⟩
    · rw [b1 i (by omega), pk_un (by omega)]
    · rw [dk_ordS tr true h0 hl]
      cases i with
      | zero => rw [Nat.add_zero, b1 c (by omega), pk_us]; rfl
      | succ i =>
        have := b2 i (by omega)
        rw [show c + (i + 1) = c + 1 + i by omega, this]
        rfl
    · rw [show c + (m + 1) = c + 1 + m by omega] at h
      obtain ⟨n, hn⟩ := b3 post h
      refine ⟨n + 1, ?_⟩
      refine br_f (by rw [dk_eq0 (by omega)]; exact h0) (dk_xn (s := 0) (by omega) h0 hl hre hrd true _ ?_)
      have e2 : nI (c + 1) - 1 = nI c := by rw [nI_succ, Int32.add_sub_cancel]
      refine nm_r (nI_1 c) ?_
      rw [e2, dk_m2, nI_clamp (by omega), dk_vbb (by omega)]
      refine ⟨vp_in_nI (by omega) (by omega), nm_e ⟨vp_in_nI (by omega) (by omega), by decide, nm_r ?_ hn⟩⟩
      rw [pk_us, dk_d2 (by omega), show (2 * dk_np (dk_R ad) left true) / 2 = dk_np (dk_R ad) left true by omega, dk_pow _ (by omega), dk_difI _ hl _ (dk_p2 _ a1)]
theorem dk_xp21 (hth : ∀ i, th i < 4) (post : SX → Prop)
    (h : ∃ n86, wX_plan_86 post (nI (dk_fresh (fun p => th (5 * 0 + p)) (fun p => th (5 * 1 + p)))) pr bl na fa st no n86 (nI (dk_gone (fun p => th (5 * 0 + p)) (fun p => th (5 * 1 + p)))) sc (dk_N kn) (dk_N nd) (dk_N (dk_E ot le gr op)) (dk_N it) (dk_N nm) (dk_N sh) (dk_N ex) (dk_W wl) (dk_N wg) (dk_T th) re rd od on wh ss rf wi lv dm ch cg my sp fA fS nt) : ∀ d j, j + d = 5 →
    ∃ n, wX_plan_21 post pr bl na sc fa st no (dk_N kn) (dk_N nd) (dk_N (dk_E ot le gr op)) (dk_N it) (dk_N nm) (dk_N sh) (dk_N ex) (dk_W wl) (dk_N wg) (dk_T th) re rd od on wh ss rf wi lv dm ch cg my sp fA fS nt n (nI (dk_m (fun p => decide (th (5 * 0 + p) ≠ th (5 * 1 + p) ∧ 0 < th (5 * 0 + p))) j)) (nI (dk_m (fun p => decide (th (5 * 0 + p) ≠ th (5 * 1 + p) ∧ 0 < th (5 * 1 + p))) j)) (nI j)
  | 0, j, hj => by
    have : j = 5 := by omega
    subst this
    exact ⟨1, br_t (by decide) h⟩
  | d + 1, j, hj => by
    obtain ⟨n, hn⟩ := dk_xp21 hth post h d (j + 1) (by omega)
    have h0 := hth j
    have h1 := hth (5 + j)
    rw [dk_m, dk_m, show 5 * 0 + j = j by omega, show 5 * 1 + j = 5 + j by omega] at hn
    refine ⟨n + 1, ?_⟩
    simp (disch := omega) only [wX_plan_21, wX_plan_61, nI_clamp, dk_Na, dk_Ta, dk_Wa, dk_m2, dk_m3, dk_m4, dk_m5, dk_m6, dk_a5, dk_a10, nI_add, nI_1, nI_leI, nI_ltI, nI_eq, dk_le3, dk_le5, dk_le6, dk_le16, dk_le20, dk_le25, dk_le32, dk_le36, dk_le1024, dk_lt0, dk_ge0, dk_lez, dk_eq0, dk_eq1, dk_eq4, dk_eq6, dk_tneg, dk_tpos, dk_teq, dk_tle, dk_pow, dk_or]
    refine br_f (by omega) ⟨vp_in_nI (by omega) (by omega), vp_in_nI (by omega) (by omega), br_c (fun z => nm_e ?_) (fun z => ⟨vp_in_nI (by omega) (by omega), br_c (fun y => ⟨vp_in_nI (by omega) (by omega), br_c (fun w => nm_e ?_) (fun w => nm_e (nm_e ?_))⟩) (fun y => nm_e ⟨vp_in_nI (by omega) (by omega), br_c (fun w => nm_e ?_) (fun w => nm_e (nm_e ?_))⟩)⟩)⟩
    · simpa [z] using hn
    · exact absurd (y.trans w.symm) z
    · have w' : 0 < th (5 + j) := by omega
      have z' : ¬ 0 = th (5 + j) := by omega
      simpa [y, w', z'] using hn
    · have y' : 0 < th j := by omega
      simpa [w, y', y] using hn
    · have y' : 0 < th j := by omega
      have w' : 0 < th (5 + j) := by omega
      simpa [z, y', w'] using hn
theorem dk_xpl (hnd : ∀ x, nd x ≤ 4) (hot : ∀ k, ot k < 5) (hle : ∀ k, le k ≤ 2) (hgr : ∀ k, gr k ≤ 2) (hop : ∀ k, op k ≤ 1) (hth : ∀ i, th i < 4) (hit : ∀ x, it x ≤ 6) (hnm : ∀ k, nm k < 12) (hsh : ∀ k, sh k < 4) (hex : ∀ k, ex k ≤ 1)
    (hw0 : ¬ wi 0 = 0 → dk_Wi nd ot it nm sh ex (fun p => th (5 * 0 + p)) 0 re rd wh ss rf) (hw1 : ¬ wi 1 = 0 → dk_Wi nd ot it nm sh ex (fun p => th (5 * 1 + p)) 1 re rd wh ss rf) :
    ∃ (re' rd' od' on' : Nat → Int32) (wh' : Nat → Int64) (ss' rf' wi' sp' : Nat → Int32), dk_Wi nd ot it nm sh ex (fun p => th (5 * 0 + p)) 0 re' rd' wh' ss' rf' ∧ dk_Wi nd ot it nm sh ex (fun p => th (5 * 1 + p)) 1 re' rd' wh' ss' rf' ∧
    dk_rep sp' 0 (dk_stp nd ot (fun p => th (5 * 0 + p)) (fun p => th (5 * 1 + p))) ∧
    ∀ post : SX → Prop, post (pr, bl, na, (nI (dk_stp nd ot (fun p => th (5 * 0 + p)) (fun p => th (5 * 1 + p))).length), fa, st, no, (dk_N kn), (dk_N nd), (dk_N (dk_E ot le gr op)), (dk_N it), (dk_N nm), (dk_N sh), (dk_N ex), (dk_W wl), (dk_N wg), (dk_T th), re', rd', od', on', wh', ss', rf', wi', lv, dm, ch, cg, my, sp', fA, fS, nt) → wpX_plan post (pr, bl, na, sc, fa, st, no, (dk_N kn), (dk_N nd), (dk_N (dk_E ot le gr op)), (dk_N it), (dk_N nm), (dk_N sh), (dk_N ex), (dk_W wl), (dk_N wg), (dk_T th), re, rd, od, on, wh, ss, rf, wi, lv, dm, ch, cg, my, sp, fA, fS, nt) := by
  obtain ⟨re1, rd1, od1, on1, wh1, ss1, rf1, wi1, a1, a2, a3, a4, a5, a6, a7, a8, a9⟩ := dk_xwi (pr := pr) (bl := bl) (na := na) (sc := sc) (fa := fa) (st := st) (no := no) (kn := kn) (nd := nd) (ot := ot) (le := le) (gr := gr) (op := op) (it := it) (nm := nm) (sh := sh) (ex := ex) (wl := wl) (wg := wg) (th := th) (re := re) (rd := rd) (od := od) (on := on) (wh := wh) (ss := ss) (rf := rf) (wi := wi) (lv := lv) (dm := dm) (ch := ch) (cg := cg) (my := my) (sp := sp) (fA := fA) (fS := fS) (nt := nt) (s := 0) (by omega) hnd hot hle hgr hop hth hit hnm hsh hex hw0
  obtain ⟨re2, rd2, od2, on2, wh2, ss2, rf2, wi2, b1, b2, b3, b4, b5, b6, b7, b8, b9⟩ := dk_xwi (pr := pr) (bl := bl) (na := na) (sc := sc) (fa := fa) (st := st) (no := no) (kn := kn) (nd := nd) (ot := ot) (le := le) (gr := gr) (op := op) (it := it) (nm := nm) (sh := sh) (ex := ex) (wl := wl) (wg := wg) (th := th) (lv := lv) (dm := dm) (ch := ch) (cg := cg) (my := my) (sp := sp) (fA := fA) (fS := fS) (nt := nt) (re := re1) (rd := rd1) (od := od1) (on := on1) (wh := wh1) (ss := ss1) (rf := rf1) (wi := wi1) (s := 1) (by omega) hnd hot hle hgr hop hth hit hnm hsh hex (fun h => by
    rw [a3 1 (by omega)] at h
    exact dk_Wi_f (by omega) (hw1 h) a4 a5 a6 a7 a8)
  have w0 := dk_Wi_f (s := 0) (s' := 1) (by omega) a1 b4 b5 b6 b7 b8
  have o1 := dk_onesL (dk_gone (fun p => th (5 * 0 + p)) (fun p => th (5 * 1 + p)))
  have o2 := dk_onesL (dk_fresh (fun p => th (5 * 0 + p)) (fun p => th (5 * 1 + p)))
  obtain ⟨sp1, c1, c2, c3⟩ := dk_xp86 (pr := pr) (bl := bl) (na := na) (fa := fa) (st := st) (no := no) (kn := kn) (nd := nd) (ot := ot) (le := le) (gr := gr) (op := op) (it := it) (nm := nm) (sh := sh) (ex := ex) (wl := wl) (wg := wg) (th := th) (lv := lv) (dm := dm) (ch := ch) (cg := cg) (my := my) (fA := fA) (fS := fS) (nt := nt) (re := re2) (rd := rd2) (od := od2) (on := on2) (wh := wh2) (ss := ss2) (rf := rf2) (wi := wi2) (x2 := nI (dk_fresh (fun p => th (5 * 0 + p)) (fun p => th (5 * 1 + p)))) (fun q hq => (w0 q hq).1) (fun q hq => (w0 q hq).2.1) _ (dk_gone (fun p => th (5 * 0 + p)) (fun p => th (5 * 1 + p))) 0 sp rfl (dk_goneL _ _) (by omega)
  obtain ⟨sp2, d1, d2, d3⟩ := dk_xp145 (pr := pr) (bl := bl) (na := na) (fa := fa) (st := st) (no := no) (kn := kn) (nd := nd) (ot := ot) (le := le) (gr := gr) (op := op) (it := it) (nm := nm) (sh := sh) (ex := ex) (wl := wl) (wg := wg) (th := th) (lv := lv) (dm := dm) (ch := ch) (cg := cg) (my := my) (fA := fA) (fS := fS) (nt := nt) (re := re2) (rd := rd2) (od := od2) (on := on2) (wh := wh2) (ss := ss2) (rf := rf2) (wi := wi2) (fun q hq => (b1 q hq).1) (fun q hq => (b1 q hq).2.1) _ (dk_fresh (fun p => th (5 * 0 + p)) (fun p => th (5 * 1 + p))) (dk_ones (dk_gone (fun p => th (5 * 0 + p)) (fun p => th (5 * 1 + p)))) sp1 rfl (dk_freshL _ _) (by omega)
  refine ⟨re2, rd2, od2, on2, wh2, ss2, rf2, wi2, sp2, w0, b1, dk_stp_rep (fun i hi => ?_) d2, fun post h => ?_⟩
  · rw [d1 i hi, ← c2 i hi, Nat.zero_add]
  · rw [dk_stp_len] at h
    have e1 := d3 post h
    have e2 := c3 post (by rw [Nat.zero_add]; exact e1)
    refine a9 _ (b9 _ ?_)
    exact dk_xp21 (sc := 0) hth post e2 5 0 rfl
end
end
section
section
variable {pr bl na sc fa st no : Int32} {kn nd ot le gr op it nm sh ex wl wg th : Nat → Nat} {re rd od on : Nat → Int32} {wh : Nat → Int64} {ss rf wi lv dm ch cg my sp fA fS nt : Nat → Int32}
theorem dk_xso76 {a : Nat → Nat} {x1 : Int32} (ha : ∀ i, i < 5 → a i < 4) (hch : ∀ i, i < 5 → ch i = nI (a i)) : ∀ d j (th : Nat → Nat), j + d = 5 → (∀ i, i < j → th (5 + i) = a i) → (∀ i, th i < 4) →
    ∃ th' : Nat → Nat, (∀ i, i < 5 → th' (5 + i) = a i) ∧ (∀ i, th' i < 4) ∧ (∀ i, i < 5 → th' i = th i) ∧ ∀ post : Int32 → SX → Prop, wpX_plan (fun u => post x1 u) (1, bl, na, sc, fa, st, no, (dk_N kn), (dk_N nd), (dk_N (dk_E ot le gr op)), (dk_N it), (dk_N nm), (dk_N sh), (dk_N ex), (dk_W wl), (dk_N wg), (dk_T th'), re, rd, od, on, wh, ss, rf, (upd wi 1 (nI 0)), lv, dm, ch, cg, my, sp, fA, fS, nt) →
    ∃ n, wX_solve_76 post x1 pr bl na sc fa st no n (nI j) (dk_N kn) (dk_N nd) (dk_N (dk_E ot le gr op)) (dk_N it) (dk_N nm) (dk_N sh) (dk_N ex) (dk_W wl) (dk_N wg) (dk_T th) re rd od on wh ss rf wi lv dm ch cg my sp fA fS nt
  | 0, j, th, hj, h, h4 => by
    have : j = 5 := by omega
    subst this
    exact ⟨th, h, h4, fun _ _ => rfl, fun post h' => ⟨1, br_t (by decide) (nm_r (by rw [dk_vz0]) h')⟩⟩
  | d + 1, j, th, hj, h, h4 => by
    have a4 := ha j (by omega)
    obtain ⟨th', b1, b2, b3, b4⟩ := dk_xso76 ha hch d (j + 1) (dk_u th (5 + j) (a j)) (by omega) (fun i hi => by
      by_cases e : i = j
      · subst e; rw [dk_us]
      · rw [dk_un (by omega)]; exact h i (by omega)) (fun i => by
      by_cases e : i = 5 + j
      · subst e; rw [dk_us]; exact a4
      · rw [dk_un e]; exact h4 i)
    refine ⟨th', b1, b2, fun i hi => by rw [b3 i hi, dk_un (by omega)], fun post h' => ?_⟩
    obtain ⟨n, hn⟩ := b4 post h'
    refine ⟨n + 1, br_f (by rw [dk_le5 (by omega)]; omega) ⟨vp_in_nI (by omega) (by omega), ?_⟩⟩
    rw [dk_a5, nI_clamp (by omega), nI_clamp (by omega), hch j (by omega), dk_vbbT (by omega), dk_uT]
    exact ⟨vp_in_nI (by omega) (by omega), nm_e (nm_r (nI_1 j) hn)⟩
/-- solve: the best answer is proposed, with its steps; or the smallest set that can't be met is blamed -/
theorem dk_xsolve (hnd : ∀ x, nd x ≤ 4) (hot : ∀ k, ot k < 5) (hlg : ∀ k, le k ≤ gr k) (hgr : ∀ k, gr k ≤ 2) (hop : ∀ k, op k ≤ 1) (hth : ∀ i, th i < 4) (hit : ∀ x, it x ≤ 6) (hnm : ∀ k, nm k < 12) (hsh : ∀ k, sh k < 4) (hex : ∀ k, ex k ≤ 1) (hkn : ∀ x, kn x ≤ 1) (hwl : ∀ p, wl p ≤ 4) (hwg : ∀ p, wg p ≤ 2) (hww : ∀ p, 2 ≤ wl p → wl p - 2 ≤ wg p)
    (hna : ¬ na = 0 → dk_LvOK kn nd ot le gr op lv) (hw0 : ¬ wi 0 = 0 → dk_Wi nd ot it nm sh ex (fun p => th (5 * 0 + p)) 0 re rd wh ss rf) :
    (∃ (a th' : Nat → Nat) (na' : Int32) (re' rd' od' on' : Nat → Int32) (wh' : Nat → Int64) (ss' rf' wi' lv' dm' ch' cg' my' sp' : Nat → Int32), dk_VS kn nd ot le gr op wl wg 31 a ∧ (∀ a', dk_VS kn nd ot le gr op wl wg 31 a' → dk_rank th a ≤ dk_rank th a') ∧ (∀ i, i < 5 → th' (5 + i) = a i) ∧ (∀ i, th' i < 4) ∧ (∀ i, i < 5 → th' i = th i) ∧ dk_LvOK kn nd ot le gr op lv' ∧
      dk_Wi nd ot it nm sh ex (fun p => th' (5 * 0 + p)) 0 re' rd' wh' ss' rf' ∧ dk_Wi nd ot it nm sh ex (fun p => th' (5 * 1 + p)) 1 re' rd' wh' ss' rf' ∧ dk_rep sp' 0 (dk_stp nd ot (fun p => th' (5 * 0 + p)) (fun p => th' (5 * 1 + p))) ∧
      ∀ post : Int32 → SX → Prop, post (nI (dk_cc th a 5)) (1, 0, na', (nI (dk_stp nd ot (fun p => th' (5 * 0 + p)) (fun p => th' (5 * 1 + p))).length), fa, st, no, (dk_N kn), (dk_N nd), (dk_N (dk_E ot le gr op)), (dk_N it), (dk_N nm), (dk_N sh), (dk_N ex), (dk_W wl), (dk_N wg), (dk_T th'), re', rd', od', on', wh', ss', rf', wi', lv', dm', ch', cg', my', sp', fA, fS, nt) → wpX_solve post (pr, bl, na, sc, fa, st, no, (dk_N kn), (dk_N nd), (dk_N (dk_E ot le gr op)), (dk_N it), (dk_N nm), (dk_N sh), (dk_N ex), (dk_W wl), (dk_N wg), (dk_T th), re, rd, od, on, wh, ss, rf, wi, lv, dm, ch, cg, my, sp, fA, fS, nt)) ∨
    ((¬ ∃ a, dk_VS kn nd ot le gr op wl wg 31 a) ∧ ∃ (r : Nat) (na' : Int32) (lv' dm' ch' cg' my' : Nat → Int32), r < 32 ∧ ((∃ m, 1 ≤ m ∧ m < 32 ∧ dk_U kn nd ot le gr op wl wg m) → 1 ≤ r ∧ dk_U kn nd ot le gr op wl wg r ∧ ∀ m, 1 ≤ m → m < 32 → dk_U kn nd ot le gr op wl wg m → 32 * dk_ones r + r ≤ 32 * dk_ones m + m) ∧ dk_LvOK kn nd ot le gr op lv' ∧
      ∀ post : Int32 → SX → Prop, post (-3) (0, (nI r), na', sc, fa, st, no, (dk_N kn), (dk_N nd), (dk_N (dk_E ot le gr op)), (dk_N it), (dk_N nm), (dk_N sh), (dk_N ex), (dk_W wl), (dk_N wg), (dk_T th), re, rd, od, on, wh, ss, rf, wi, lv', dm', ch', cg', my', sp, fA, fS, nt) → wpX_solve post (pr, bl, na, sc, fa, st, no, (dk_N kn), (dk_N nd), (dk_N (dk_E ot le gr op)), (dk_N it), (dk_N nm), (dk_N sh), (dk_N ex), (dk_W wl), (dk_N wg), (dk_T th), re, rd, od, on, wh, ss, rf, wi, lv, dm, ch, cg, my, sp, fA, fS, nt)) := by
  have hle : ∀ k, le k ≤ 2 := fun k => Nat.le_trans (hlg k) (hgr k)
  obtain ⟨na1, lv1, n1, n2⟩ := dk_xnr (pr := pr) (bl := bl) (na := na) (sc := sc) (fa := fa) (st := st) (no := no) (kn := kn) (nd := nd) (ot := ot) (le := le) (gr := gr) (op := op) (it := it) (nm := nm) (sh := sh) (ex := ex) (wl := wl) (wg := wg) (th := th) (re := re) (rd := rd) (od := od) (on := on) (wh := wh) (ss := ss) (rf := rf) (wi := wi) (lv := lv) (dm := dm) (ch := ch) (cg := cg) (my := my) (sp := sp) (fA := fA) (fS := fS) (nt := nt) hnd hot hlg hgr hop hkn hna
  rcases dk_xso19 (sc := sc) (fa := fa) (st := st) (no := no) (kn := kn) (nd := nd) (ot := ot) (le := le) (gr := gr) (op := op) (it := it) (nm := nm) (sh := sh) (ex := ex) (wl := wl) (wg := wg) (th := th) (re := re) (rd := rd) (od := od) (on := on) (wh := wh) (ss := ss) (rf := rf) (wi := wi) (sp := sp) (fA := fA) (fS := fS) (nt := nt) (pr := 0) (bl := 0) (na := na1) (lv := lv1) hth hkn hwl hwg hww n1 36 0 dm ch cg my rfl (fun a _ => Nat.zero_le _) with ⟨a, dm1, ch1, cg1, my1, t1, t2, t3, t4⟩ | ⟨t1, dm1, ch1, cg1, my1, t2⟩
  · obtain ⟨th', u1, u2, u3, u4⟩ := dk_xso76 (sc := sc) (fa := fa) (st := st) (no := no) (kn := kn) (nd := nd) (ot := ot) (le := le) (gr := gr) (op := op) (it := it) (nm := nm) (sh := sh) (ex := ex) (wl := wl) (wg := wg) (re := re) (rd := rd) (od := od) (on := on) (wh := wh) (ss := ss) (rf := rf) (wi := wi) (sp := sp) (fA := fA) (fS := fS) (nt := nt) (pr := 0) (bl := 0) (na := na1) (lv := lv1) (dm := dm1) (ch := ch1) (cg := cg1) (my := my1) (x1 := nI (dk_cc th a 5)) t1.1 t3 5 0 th rfl (fun i hi => absurd hi (Nat.not_lt_zero _)) hth
    obtain ⟨re', rd', od', on', wh', ss', rf', wi', sp', v1, v2, v3, v4⟩ := dk_xpl (sc := sc) (fa := fa) (st := st) (no := no) (kn := kn) (nd := nd) (ot := ot) (le := le) (gr := gr) (op := op) (it := it) (nm := nm) (sh := sh) (ex := ex) (wl := wl) (wg := wg) (re := re) (rd := rd) (od := od) (on := on) (wh := wh) (ss := ss) (rf := rf) (sp := sp) (fA := fA) (fS := fS) (nt := nt) (pr := 1) (bl := 0) (na := na1) (lv := lv1) (dm := dm1) (ch := ch1) (cg := cg1) (my := my1) (th := th') (wi := upd wi 1 (nI 0)) hnd hot hle hgr hop u2 hit hnm hsh hex (fun h => by
      rw [pk_un (by omega)] at h
      exact dk_Wi_c hot (dk_VC_t (fun p hp => (u3 (5 * 0 + p) (by omega)).symm)) (hw0 h)) (fun h => absurd pk_us h)
    refine Or.inl ⟨a, th', na1, re', rd', od', on', wh', ss', rf', wi', lv1, dm1, ch1, cg1, my1, sp', t1, t2, u1, u2, u3, n1, v1, v2, v3, fun post h => ?_⟩
    have c5 := dk_cc_le th a 5
    refine n2 _ (t4 post ?_)
    exact br_t (nI_pos' (by omega)) (u4 post (v4 _ h))
  · obtain ⟨r, dm2, ch2, cg2, my2, w1, w2, w3⟩ := dk_xls (sc := sc) (fa := fa) (st := st) (no := no) (kn := kn) (nd := nd) (ot := ot) (le := le) (gr := gr) (op := op) (it := it) (nm := nm) (sh := sh) (ex := ex) (wl := wl) (wg := wg) (th := th) (re := re) (rd := rd) (od := od) (on := on) (wh := wh) (ss := ss) (rf := rf) (wi := wi) (sp := sp) (fA := fA) (fS := fS) (nt := nt) (pr := 0) (bl := 0) (na := na1) (lv := lv1) (dm := dm1) (ch := ch1) (cg := cg1) (my := my1) hth hkn hwl hwg hww n1
    refine Or.inr ⟨t1, r, na1, lv1, dm2, ch2, cg2, my2, w1, w2, n1, fun post h => ?_⟩
    refine n2 _ (t2 post ?_)
    exact br_f (by decide) (w3 _ h)
end
end
section
-- the reference's states of choices
def dk_as (s : Nat) : Nat → Nat := fun p => s / 4 ^ p % 4
theorem dk_as4 (s p : Nat) : dk_as s p < 4 := Nat.mod_lt _ (by omega)
def dk_Kn (kn a : Nat → Nat) (j : Nat) : Prop := ∀ q, q < j → 0 < a q → kn (3 * q + (a q - 1)) = 1
def dk_So (nd ot le gr op a : Nat → Nat) (j : Nat) : Prop := ∀ p, j ≤ p → p < 5 → 0 < a p → ∀ k, k < nd (3 * p + (a p - 1)) → dk_okn le gr op (4 * (3 * p + (a p - 1)) + k) (a (ot (4 * (3 * p + (a p - 1)) + k)))
def dk_Me (wl wg a : Nat → Nat) (set j : Nat) : Prop := ∀ p, j ≤ p → p < 5 → set.testBit p = true → (wl p = 1 → a p = 0) ∧ (2 ≤ wl p → wl p ≤ a p + 1 ∧ a p ≤ wg p + 1)
theorem dk_VS_Y {kn nd ot le gr op wl wg : Nat → Nat} (hot : ∀ k, ot k < 5) (hown : ∀ x k, x < 15 → k < nd x → ot (4 * x + k) ≠ x / 3) {set : Nat} {a : Nat → Nat} (ha : ∀ i, i < 5 → a i < 4) : dk_VS kn nd ot le gr op wl wg set a ↔ dk_Kn kn a 5 ∧ dk_So nd ot le gr op a 0 ∧ dk_Me wl wg a set 0 := by
  constructor
  · rintro ⟨h1, h2, h3⟩
    refine ⟨fun q hq => (h2 q hq).1, fun p _ hp h0 k hk => ?_, fun p _ hp hs => (h2 p hp).2 hs⟩
    have hx : 3 * p + (a p - 1) < 15 := by have := h1 p hp; omega
    have ho := hown _ k hx hk
    have hd : (3 * p + (a p - 1)) / 3 = p := by have := h1 p hp; omega
    rw [hd] at ho
    exact h3 p (ot (4 * (3 * p + (a p - 1)) + k)) hp (hot _) (fun e => ho e.symm) h0 ((h2 p hp).1 h0) k hk rfl
  · rintro ⟨h1, h2, h3⟩
    refine ⟨ha, fun p hp => ⟨h1 p hp, fun hs => h3 p (Nat.zero_le _) hp hs⟩, fun i j hi hj hn h0 _ k hk e => ?_⟩
    have := h2 i (Nat.zero_le _) hi h0 k hk
    rw [e] at this; exact this
theorem dk_twl {b w : Nat} (hb : b < 2 ^ 30) (hw : w < 2 ^ 30) : nI b - 1 < nI w - 2 ↔ b + 1 < w := by
  rw [Int32.lt_iff_toInt_lt, dk_t1 hb, dk_t2 hw]; omega
section
variable {yp yb ys yn : Int32} {kn nd ot le gr op it nm sh ex wl ya : Nat → Nat} {yg yr yl yq yo yt : Nat → Int32}
theorem dk_yis40 {p : Nat} {x : Nat} (hx : x < 15) (hnd : ∀ x, nd x ≤ 4) (hot : ∀ k, ot k < 5) (hle : ∀ k, le k ≤ 2) (hgr : ∀ k, gr k ≤ 2) (hop : ∀ k, op k ≤ 1) (hya : ∀ i, ya i < 4) (post : Int32 → Prop) (J) : ∀ d j, j + d = nd x →
    ((∀ k, j ≤ k → k < nd x → dk_okn le gr op (4 * x + k) (ya (10 + ot (4 * x + k)))) → J (nI (p + 1))) → ((¬ ∀ k, j ≤ k → k < nd x → dk_okn le gr op (4 * x + k) (ya (10 + ot (4 * x + k)))) → post 0) → ∃ n, wY_isSound_40 post J (nI p) (nI x) yp yb ys yn (dk_N kn) (dk_N nd) (dk_N ot) (dk_N le) (dk_N gr) (dk_N op) (dk_N ex) (dk_N it) (dk_N nm) (dk_N sh) (dk_W wl) yg (dk_T ya) yr yl yq yo yt n (nI (4 * x + j))
  | 0, j, hj, h1, h0 => by
    have := hnd x
    refine ⟨1, ?_⟩
    simp (disch := omega) only [wY_isSound_40, nI_clamp, dk_Na, dk_Ta, dk_Wa, dk_m2, dk_m3, dk_m4, dk_m5, dk_m6, dk_a5, dk_a10, nI_add, nI_1, nI_leI, nI_ltI, nI_eq, dk_le3, dk_le5, dk_le6, dk_le16, dk_le20, dk_le25, dk_le32, dk_le36, dk_le1024, dk_lt0, dk_ge0, dk_lez, dk_eq0, dk_eq1, dk_eq4, dk_eq6, dk_tneg, dk_tpos, dk_teq, dk_tle]
    exact ⟨vp_in_nI hx (by omega), br_t (by omega) (nm_e (h1 (fun k a b => by omega)))⟩
  | d + 1, j, hj, h1, h0 => by
    have hn := hnd x
    have ho := hot (4 * x + j)
    have hl := hle (4 * x + j)
    have hg := hgr (4 * x + j)
    have hp := hop (4 * x + j)
    have hy := hya (10 + ot (4 * x + j))
    by_cases z : dk_okn le gr op (4 * x + j) (ya (10 + ot (4 * x + j)))
    · obtain ⟨n, hn'⟩ := dk_yis40 hx hnd hot hle hgr hop hya post J d (j + 1) (by omega) (fun y => h1 fun k a b => by
        by_cases e : k = j
        · subst e; exact z
        · exact y k (by omega) b) (fun y => h0 fun w => y fun k a => w k (by omega))
      refine ⟨n + 1, ?_⟩
      simp (disch := omega) only [wY_isSound_40, nI_clamp, dk_Na, dk_Ta, dk_Wa, dk_m2, dk_m3, dk_m4, dk_m5, dk_m6, dk_a5, dk_a10, nI_add, nI_1, nI_leI, nI_ltI, nI_eq, dk_le3, dk_le5, dk_le6, dk_le16, dk_le20, dk_le25, dk_le32, dk_le36, dk_le1024, dk_lt0, dk_ge0, dk_lez, dk_eq0, dk_eq1, dk_eq4, dk_eq6, dk_tneg, dk_tpos, dk_teq, dk_tle]
      refine ⟨vp_in_nI hx (by omega), br_f (by omega) ⟨vp_in_nI (by omega) (by omega), vp_in_nI (by omega) (by omega), nm_e ?_⟩⟩
      rw [dk_tpos (by omega), dk_tltn (by omega) (by omega), dk_tlen (by omega) (by omega)]
      refine br_c (fun y => ?_) (fun y => ?_)
      · have := z.2 y
        exact ⟨vp_in_nI (by omega) (by omega), br_f (by omega) ⟨vp_in_nI (by omega) (by omega), br_t (by omega) (nm_e hn')⟩⟩
      · have := z.1 (by omega)
        exact ⟨vp_in_nI (by omega) (by omega), br_f (by omega) (nm_e hn')⟩
    · have h0' := h0 (fun w => z (w j (Nat.le_refl _) (by omega)))
      refine ⟨1, ?_⟩
      simp (disch := omega) only [wY_isSound_40, nI_clamp, dk_Na, dk_Ta, dk_Wa, dk_m2, dk_m3, dk_m4, dk_m5, dk_m6, dk_a5, dk_a10, nI_add, nI_1, nI_leI, nI_ltI, nI_eq, dk_le3, dk_le5, dk_le6, dk_le16, dk_le20, dk_le25, dk_le32, dk_le36, dk_le1024, dk_lt0, dk_ge0, dk_lez, dk_eq0, dk_eq1, dk_eq4, dk_eq6, dk_tneg, dk_tpos, dk_teq, dk_tle]
      refine ⟨vp_in_nI hx (by omega), br_f (by omega) ⟨vp_in_nI (by omega) (by omega), vp_in_nI (by omega) (by omega), nm_e ?_⟩⟩
      rw [dk_tpos (by omega), dk_tltn (by omega) (by omega), dk_tlen (by omega) (by omega)]
      refine br_c (fun y => ⟨vp_in_nI (by omega) (by omega), br_c (fun _ => h0') (fun w => ⟨vp_in_nI (by omega) (by omega), br_f (fun v => z ⟨fun e => by omega, fun _ => by omega⟩) h0'⟩)⟩) (fun y => ⟨vp_in_nI (by omega) (by omega), br_t ?_ h0'⟩)
      rcases (by omega : op (4 * x + j) = 0 ∨ op (4 * x + j) = 1) with e | e
      · exact e
      · exact absurd ⟨fun _ => e, fun w => absurd w y⟩ z
theorem dk_yis2 (hnd : ∀ x, nd x ≤ 4) (hot : ∀ k, ot k < 5) (hle : ∀ k, le k ≤ 2) (hgr : ∀ k, gr k ≤ 2) (hop : ∀ k, op k ≤ 1) (hya : ∀ i, ya i < 4) (post : Int32 → Prop) : ∀ d j, j + d = 5 →
    (dk_So nd ot le gr op (fun p => ya (10 + p)) j → post 1) → (¬ dk_So nd ot le gr op (fun p => ya (10 + p)) j → post 0) → ∃ n, wY_isSound_2 post yp yb ys yn (dk_N kn) (dk_N nd) (dk_N ot) (dk_N le) (dk_N gr) (dk_N op) (dk_N ex) (dk_N it) (dk_N nm) (dk_N sh) (dk_W wl) yg (dk_T ya) yr yl yq yo yt n (nI j)
  | 0, j, hj, h1, h0 => by
    have : j = 5 := by omega
    subst this
    exact ⟨1, br_t (by decide) (h1 (fun p a b => by omega))⟩
  | d + 1, j, hj, h1, h0 => by
    have hy := hya (10 + j)
    by_cases z : 0 < ya (10 + j)
    · have e3 : nI (3 * j) + (nI (ya (10 + j)) - 1) = nI (3 * j + (ya (10 + j) - 1)) := by rw [dk_tp z, nI_add]
      by_cases y : ∀ k, k < nd (3 * j + (ya (10 + j) - 1)) → dk_okn le gr op (4 * (3 * j + (ya (10 + j) - 1)) + k) (ya (10 + ot (4 * (3 * j + (ya (10 + j) - 1)) + k)))
      · obtain ⟨n, hn⟩ := dk_yis2 hnd hot hle hgr hop hya post d (j + 1) (by omega) (fun w => h1 fun p a b => by
          by_cases e : p = j
          · subst e; exact fun _ => y
          · exact w p (by omega) b) (fun w => h0 fun v => w fun p a => v p (by omega))
        refine ⟨n + 1, ?_⟩
        simp (disch := omega) only [wY_isSound_2, nI_clamp, dk_Na, dk_Ta, dk_Wa, dk_m2, dk_m3, dk_m4, dk_m5, dk_m6, dk_a5, dk_a10, nI_add, nI_1, nI_leI, nI_ltI, nI_eq, dk_le3, dk_le5, dk_le6, dk_le16, dk_le20, dk_le25, dk_le32, dk_le36, dk_le1024, dk_lt0, dk_ge0, dk_lez, dk_eq0, dk_eq1, dk_eq4, dk_eq6, dk_tneg, dk_tpos, dk_teq, dk_tle]
        refine br_f (by omega) ⟨vp_in_nI (by omega) (by omega), br_t z ⟨vp_in_nI (by omega) (by omega), nm_r e3 (nm_r (dk_m4 _) ?_)⟩⟩
        exact dk_yis40 (by omega) hnd hot hle hgr hop hya post _ (nd (3 * j + (ya (10 + j) - 1))) 0 (by omega) (fun _ => hn) (fun w => absurd (fun k _ => y k) w)
      · have h0' := h0 (fun w => y (w j (Nat.le_refl _) (by omega) z))
        refine ⟨1, ?_⟩
        simp (disch := omega) only [wY_isSound_2, nI_clamp, dk_Na, dk_Ta, dk_Wa, dk_m2, dk_m3, dk_m4, dk_m5, dk_m6, dk_a5, dk_a10, nI_add, nI_1, nI_leI, nI_ltI, nI_eq, dk_le3, dk_le5, dk_le6, dk_le16, dk_le20, dk_le25, dk_le32, dk_le36, dk_le1024, dk_lt0, dk_ge0, dk_lez, dk_eq0, dk_eq1, dk_eq4, dk_eq6, dk_tneg, dk_tpos, dk_teq, dk_tle]
        refine br_f (by omega) ⟨vp_in_nI (by omega) (by omega), br_t z ⟨vp_in_nI (by omega) (by omega), nm_r e3 (nm_r (dk_m4 _) ?_)⟩⟩
        exact dk_yis40 (by omega) hnd hot hle hgr hop hya post _ (nd (3 * j + (ya (10 + j) - 1))) 0 (by omega) (fun w => absurd (fun k => w k (Nat.zero_le _)) y) (fun _ => h0')
    · obtain ⟨n, hn⟩ := dk_yis2 hnd hot hle hgr hop hya post d (j + 1) (by omega) (fun w => h1 fun p a b c => by
        by_cases e : p = j
        · subst e; exact absurd c z
        · exact w p (by omega) b c) (fun w => h0 fun v => w fun p a => v p (by omega))
      refine ⟨n + 1, ?_⟩
      simp (disch := omega) only [wY_isSound_2, nI_clamp, dk_Na, dk_Ta, dk_Wa, dk_m2, dk_m3, dk_m4, dk_m5, dk_m6, dk_a5, dk_a10, nI_add, nI_1, nI_leI, nI_ltI, nI_eq, dk_le3, dk_le5, dk_le6, dk_le16, dk_le20, dk_le25, dk_le32, dk_le36, dk_le1024, dk_lt0, dk_ge0, dk_lez, dk_eq0, dk_eq1, dk_eq4, dk_eq6, dk_tneg, dk_tpos, dk_teq, dk_tle]
      exact br_f (by omega) ⟨vp_in_nI (by omega) (by omega), br_f z (nm_e hn)⟩
theorem dk_ych7 {s : Nat} (hs : s < 1024) (hkn : ∀ x, kn x ≤ 1) (hnd : ∀ x, nd x ≤ 4) (hot : ∀ k, ot k < 5) (hle : ∀ k, le k ≤ 2) (hgr : ∀ k, gr k ≤ 2) (hop : ∀ k, op k ≤ 1) : ∀ d j (ya : Nat → Nat), j + d = 5 → (∀ i, ya i < 4) → (∀ i, i < j → ya (10 + i) = dk_as s i) →
    ∃ ya' : Nat → Nat, (∀ i, ya' i < 4) ∧ (∀ i, i < 5 → ya' (10 + i) = dk_as s i) ∧ (∀ i, i < 10 → ya' i = ya i) ∧ ∀ post : Int32 → SY → Prop, post (nI (dk_b (dk_Kn kn (dk_as s) 5 ∧ dk_So nd ot le gr op (dk_as s) 0)).toNat) (yp, yb, ys, yn, (dk_N kn), (dk_N nd), (dk_N ot), (dk_N le), (dk_N gr), (dk_N op), (dk_N ex), (dk_N it), (dk_N nm), (dk_N sh), (dk_W wl), yg, (dk_T ya'), yr, yl, yq, yo, yt) →
    ∃ n, wY_choose_7 post yp yb ys yn n (nI (s / 4 ^ j)) (nI (dk_b (dk_Kn kn (dk_as s) j)).toNat) (nI j) (dk_N kn) (dk_N nd) (dk_N ot) (dk_N le) (dk_N gr) (dk_N op) (dk_N ex) (dk_N it) (dk_N nm) (dk_N sh) (dk_W wl) yg (dk_T ya) yr yl yq yo yt
  | 0, j, ya, hj, h4, h => by
    have : j = 5 := by omega
    subst this
    refine ⟨ya, h4, h, fun _ _ => rfl, fun post h' => ⟨1, br_t (by decide) ?_⟩⟩
    by_cases z : dk_Kn kn (dk_as s) 5
    · rw [dk_bT' z]
      have eq : dk_So nd ot le gr op (fun p => ya (10 + p)) 0 ↔ dk_So nd ot le gr op (dk_as s) 0 := by
        constructor
        · intro y p a b c k hk
          have hp := h p b
          have := y p a b (by show 0 < ya (10 + p); rw [hp]; exact c) k (by show k < nd (3 * p + (ya (10 + p) - 1)); rw [hp]; exact hk)
          dsimp only at this
          rw [hp, h _ (hot _)] at this; exact this
        · intro y p a b c k hk
          have hp := h p b
          dsimp only at c hk ⊢
          rw [hp] at c hk ⊢
          rw [h _ (hot _)]
          exact y p a b c k hk
      refine br_f (by decide) (dk_yis2 hnd hot hle hgr hop h4 _ 5 0 rfl (fun y => br_f (by decide) ?_) (fun y => br_t rfl ?_))
      · rw [dk_bT' ⟨z, eq.mp y⟩] at h'; exact h'
      · rw [dk_bF' (fun w => y (eq.mpr w.2))] at h'; exact h'
    · rw [dk_bF' z]
      rw [dk_bF' (fun w => z w.1)] at h'
      exact br_t rfl h'
  | d + 1, j, ya, hj, h4, h => by
    have a4 := dk_as4 s j
    obtain ⟨ya', b1, b2, b3, b4⟩ := dk_ych7 hs hkn hnd hot hle hgr hop d (j + 1) (dk_u ya (10 + j) (dk_as s j)) (by omega) (fun i => by
      by_cases e : i = 10 + j
      · subst e; rw [dk_us]; exact a4
      · rw [dk_un e]; exact h4 i) (fun i hi => by
      by_cases e : i = j
      · subst e; rw [dk_us]
      · rw [dk_un (by omega)]; exact h i (by omega))
    refine ⟨ya', b1, b2, fun i hi => by rw [b3 i hi, dk_un (by omega)], fun post h' => ?_⟩
    obtain ⟨n, hn⟩ := b4 post h'
    refine ⟨n + 1, ?_⟩
    have l1 : s / 4 ^ j < 2 ^ 31 := Nat.lt_of_le_of_lt (Nat.div_le_self _ _) (by omega)
    have e1 : nI (s / 4 ^ j) &&& 3 = nI (dk_as s j) := by
      rw [pk_andN (Nat.lt_trans l1 (by omega)) 2 (by decide)]; rfl
    have e2 : nI (s / 4 ^ j) >>> ((2 : Int32) &&& 31) = nI (s / 4 ^ (j + 1)) := by
      rw [pk_shrN l1 _ 2 (by decide), Nat.div_div_eq_div_mul, ← Nat.pow_succ]
    rw [wY_choose_7]
    dsimp only
    rw [e1, e2, dk_a10, nI_clamp (by omega), dk_uT, dk_m3]
    refine br_f (by rw [dk_le5 (by omega)]; omega) ⟨vp_in_nI (by omega) (by omega), nm_e ⟨vp_in_nI (by omega) (by omega), ?_⟩⟩
    rw [dk_Ta, dk_us, dk_tneg (by omega)]
    refine br_c (fun z => nm_e (nm_r (nI_1 j) ?_)) (fun z => ⟨vp_in_nI (by omega) (by omega), ?_⟩)
    · rw [dk_bC (Q := dk_Kn kn (dk_as s) (j + 1)) ⟨fun y q hq h0 => by
        by_cases e : q = j
        · subst e; omega
        · exact y q (by omega) h0, fun y q hq => y q (by omega)⟩]
      exact hn
    · have hk := hkn (3 * j + (dk_as s j - 1))
      rw [dk_tp (by omega), nI_add, nI_clamp (by omega), dk_Na, dk_eq0 (by omega)]
      refine ⟨vp_in_nI (by omega) (by omega), br_c (fun y => nm_e (nm_r (nI_1 j) ?_)) (fun y => nm_e (nm_r (nI_1 j) ?_))⟩
      · rw [dk_bF' (fun w : dk_Kn kn (dk_as s) (j + 1) => by have := w j (by omega) (by omega); omega)] at hn
        exact hn
      · rw [dk_bC (Q := dk_Kn kn (dk_as s) (j + 1)) ⟨fun w q hq h0 => by
          by_cases e : q = j
          · subst e; omega
          · exact w q (by omega) h0, fun w q hq => w q (by omega)⟩]
        exact hn
theorem dk_ych {s : Nat} (hs : s < 1024) (hkn : ∀ x, kn x ≤ 1) (hnd : ∀ x, nd x ≤ 4) (hot : ∀ k, ot k < 5) (hle : ∀ k, le k ≤ 2) (hgr : ∀ k, gr k ≤ 2) (hop : ∀ k, op k ≤ 1) (hya : ∀ i, ya i < 4) :
    ∃ ya' : Nat → Nat, (∀ i, ya' i < 4) ∧ (∀ i, i < 5 → ya' (10 + i) = dk_as s i) ∧ (∀ i, i < 10 → ya' i = ya i) ∧ ∀ post : Int32 → SY → Prop, post (nI (dk_b (dk_Kn kn (dk_as s) 5 ∧ dk_So nd ot le gr op (dk_as s) 0)).toNat) (yp, yb, ys, yn, (dk_N kn), (dk_N nd), (dk_N ot), (dk_N le), (dk_N gr), (dk_N op), (dk_N ex), (dk_N it), (dk_N nm), (dk_N sh), (dk_W wl), yg, (dk_T ya'), yr, yl, yq, yo, yt) → wpY_choose post (yp, yb, ys, yn, (dk_N kn), (dk_N nd), (dk_N ot), (dk_N le), (dk_N gr), (dk_N op), (dk_N ex), (dk_N it), (dk_N nm), (dk_N sh), (dk_W wl), yg, (dk_T ya), yr, yl, yq, yo, yt) (nI s) := by
  obtain ⟨ya', b1, b2, b3, b4⟩ := dk_ych7 (yp := yp) (yb := yb) (ys := ys) (yn := yn) (kn := kn) (nd := nd) (ot := ot) (le := le) (gr := gr) (op := op) (it := it) (nm := nm) (sh := sh) (ex := ex) (wl := wl) (yg := yg) (yr := yr) (yl := yl) (yq := yq) (yo := yo) (yt := yt) hs hkn hnd hot hle hgr hop 5 0 ya rfl hya (fun i hi => absurd hi (Nat.not_lt_zero _))
  refine ⟨ya', b1, b2, b3, fun post h => ?_⟩
  have := b4 post h
  rw [dk_bT' (P := dk_Kn kn (dk_as s) 0) (fun q hq => absurd hq (Nat.not_lt_zero _)), Nat.pow_zero, Nat.div_one] at this
  exact this
theorem dk_yme2 {set : Nat} {wg : Nat → Nat} (hset : set < 32) (hya : ∀ i, ya i < 4) (hwl : ∀ p, wl p ≤ 4) (hwg : ∀ p, wg p ≤ 2) (hyg : ∀ p, p < 5 → 2 ≤ wl p → yg p = nI (wg p)) (post : Int32 → Prop) : ∀ d j, j + d = 5 →
    (dk_Me wl wg (fun p => ya (10 + p)) set j → post 1) → (¬ dk_Me wl wg (fun p => ya (10 + p)) set j → post 0) → ∃ n, wY_meets_2 post (nI set) yp yb ys yn (dk_N kn) (dk_N nd) (dk_N ot) (dk_N le) (dk_N gr) (dk_N op) (dk_N ex) (dk_N it) (dk_N nm) (dk_N sh) (dk_W wl) yg (dk_T ya) yr yl yq yo yt n (nI j)
  | 0, j, hj, h1, h0 => by
    have : j = 5 := by omega
    subst this
    exact ⟨1, br_t (by decide) (h1 (fun p a b => by omega))⟩
  | d + 1, j, hj, h1, h0 => by
    have hy := hya (10 + j)
    have hw := hwl j
    have hg := hwg j
    by_cases z : set.testBit j = true → (wl j = 1 → ya (10 + j) = 0) ∧ (2 ≤ wl j → wl j ≤ ya (10 + j) + 1 ∧ ya (10 + j) ≤ wg j + 1)
    · obtain ⟨n, hn⟩ := dk_yme2 hset hya hwl hwg hyg post d (j + 1) (by omega) (fun w => h1 fun p a b => by
          by_cases e : p = j
          · subst e; exact z
          · exact w p (by omega) b) (fun w => h0 fun v => w fun p a => v p (by omega))
      refine ⟨n + 1, ?_⟩
      simp (disch := omega) only [wY_meets_2, nI_clamp, dk_Na, dk_Ta, dk_Wa, dk_m2, dk_m3, dk_m4, dk_m5, dk_m6, dk_a5, dk_a10, nI_add, nI_1, dk_le5, dk_bit0]
      refine br_f (by omega) ⟨vp_in_nI (by omega) (by omega), nm_e (br_c (fun _ => nm_e hn) (fun y => ⟨vp_in_nI (by omega) (by omega), ?_⟩))⟩
      rw [dk_wm2 (by omega), dk_w0 (by omega)]
      obtain ⟨z1, z2⟩ := z (by simpa using y)
      refine br_c (fun _ => nm_e hn) (fun w => ⟨vp_in_nI (by omega) (by omega), br_c (fun v => ⟨vp_in_nI (by omega) (by omega), ?_⟩) (fun v => ?_)⟩)
      · rw [hyg j (by omega) v, dk_twl (by omega) (by omega), dk_tlen (by omega) (by omega)]
        have := z2 v
        exact br_f (by omega) ⟨vp_in_nI (by omega) (by omega), br_t (by omega) (nm_e hn)⟩
      · rw [dk_tneg (by omega)]
        exact br_t (z1 (by omega)) (nm_e hn)
    · have h0' := h0 (fun w => z (w j (Nat.le_refl _) (by omega)))
      have zb : set.testBit j = true := Classical.byContradiction fun y => z fun w => absurd w y
      refine ⟨1, ?_⟩
      simp (disch := omega) only [wY_meets_2, nI_clamp, dk_Na, dk_Ta, dk_Wa, dk_m2, dk_m3, dk_m4, dk_m5, dk_m6, dk_a5, dk_a10, nI_add, nI_1, dk_le5, dk_bit0]
      refine br_f (by omega) ⟨vp_in_nI (by omega) (by omega), nm_e (br_f (by rw [zb]; decide) ⟨vp_in_nI (by omega) (by omega), ?_⟩)⟩
      rw [dk_wm2 (by omega), dk_w0 (by omega)]
      have zz : ¬ ((wl j = 1 → ya (10 + j) = 0) ∧ (2 ≤ wl j → wl j ≤ ya (10 + j) + 1 ∧ ya (10 + j) ≤ wg j + 1)) := fun y => z fun _ => y
      refine br_f (fun y => zz ⟨fun w => by omega, fun w => by omega⟩) ⟨vp_in_nI (by omega) (by omega), br_c (fun v => ⟨vp_in_nI (by omega) (by omega), ?_⟩) (fun v => ?_)⟩
      · rw [hyg j (by omega) v, dk_twl (by omega) (by omega), dk_tlen (by omega) (by omega)]
        exact br_c (fun _ => h0') (fun w => ⟨vp_in_nI (by omega) (by omega), br_f (fun u => zz ⟨fun w => by omega, fun _ => by omega⟩) h0'⟩)
      · rw [dk_tneg (by omega)]
        exact br_f (fun u => zz ⟨fun _ => u, fun w => absurd w v⟩) h0'
theorem dk_yme {set : Nat} {wg : Nat → Nat} (hset : set < 32) (hya : ∀ i, ya i < 4) (hwl : ∀ p, wl p ≤ 4) (hwg : ∀ p, wg p ≤ 2) (hyg : ∀ p, p < 5 → 2 ≤ wl p → yg p = nI (wg p)) (post : Int32 → Prop)
    (h1 : dk_Me wl wg (fun p => ya (10 + p)) set 0 → post 1) (h0 : ¬ dk_Me wl wg (fun p => ya (10 + p)) set 0 → post 0) : wpY_meets post (yp, yb, ys, yn, (dk_N kn), (dk_N nd), (dk_N ot), (dk_N le), (dk_N gr), (dk_N op), (dk_N ex), (dk_N it), (dk_N nm), (dk_N sh), (dk_W wl), yg, (dk_T ya), yr, yl, yq, yo, yt) (nI set) :=
  dk_yme2 hset hya hwl hwg hyg post 5 0 rfl h1 h0
end
end
section
theorem dk_VS_x {kn nd ot le gr op wl wg : Nat → Nat} {set : Nat} {a a' : Nat → Nat} (e : ∀ i, i < 5 → a i = a' i) (h : dk_VS kn nd ot le gr op wl wg set a) : dk_VS kn nd ot le gr op wl wg set a' := by
  obtain ⟨h1, h2, h3⟩ := h
  refine ⟨fun i hi => by rw [← e i hi]; exact h1 i hi, fun i hi => by rw [← e i hi]; exact h2 i hi, fun i j hi hj hn => by rw [← e i hi, ← e j hj]; exact h3 i j hi hj hn⟩
theorem dk_cc_t {th th' c : Nat → Nat} : ∀ {i}, (∀ j, j < i → th j = th' j) → dk_cc th c i = dk_cc th' c i
  | 0, _ => rfl
  | i + 1, h => by rw [dk_cc, dk_cc, dk_cc_t (fun j hj => h j (by omega)), h i (by omega)]
theorem dk_rank_x {th th' a a' : Nat → Nat} (ht : ∀ i, i < 5 → th i = th' i) (e : ∀ i, i < 5 → a i = a' i) : dk_rank th a = dk_rank th' a' := by
  unfold dk_rank
  rw [dk_cc_t ht, dk_cc_x e, dk_cm_x e, dk_code_x e]
theorem dk_rank_u {th a a' : Nat → Nat} (h : ∀ i, i < 5 → a i < 4) (h' : ∀ i, i < 5 → a' i < 4) (e : dk_rank th a = dk_rank th a') : ∀ i, i < 5 → a i = a' i := by
  have b := dk_code_b h
  have b' := dk_code_b h'
  have c : dk_code a = dk_code a' := by unfold dk_rank at e; omega
  have h0 := h 0 (by omega); have h1 := h 1 (by omega); have h2 := h 2 (by omega); have h3 := h 3 (by omega); have h4 := h 4 (by omega)
  have k0 := h' 0 (by omega); have k1 := h' 1 (by omega); have k2 := h' 2 (by omega); have k3 := h' 3 (by omega); have k4 := h' 4 (by omega)
  unfold dk_code at c
  intro i hi
  rcases (by omega : i = 0 ∨ i = 1 ∨ i = 2 ∨ i = 3 ∨ i = 4) with r | r | r | r | r <;> subst r <;> omega
theorem dk_as_ex {a : Nat → Nat} (h : ∀ i, i < 5 → a i < 4) : ∃ s, s < 1024 ∧ ∀ i, i < 5 → dk_as s i = a i := by
  have h0 := h 0 (by omega); have h1 := h 1 (by omega); have h2 := h 2 (by omega); have h3 := h 3 (by omega); have h4 := h 4 (by omega)
  refine ⟨a 0 + 4 * a 1 + 16 * a 2 + 64 * a 3 + 256 * a 4, by omega, fun i hi => ?_⟩
  unfold dk_as
  rcases (by omega : i = 0 ∨ i = 1 ∨ i = 2 ∨ i = 3 ∨ i = 4) with r | r | r | r | r <;> subst r
  · rw [show 4 ^ 0 = 1 by rfl]; omega
  · rw [show 4 ^ 1 = 4 by rfl]; omega
  · rw [show 4 ^ 2 = 16 by rfl]; omega
  · rw [show 4 ^ 3 = 64 by rfl]; omega
  · rw [show 4 ^ 4 = 256 by rfl]; omega
section
variable {yp yb ys yn : Int32} {kn nd ot le gr op it nm sh ex wl ya : Nat → Nat} {yg yr yl yq yo yt : Nat → Int32}
theorem dk_yb137 (hya : ∀ i, ya i < 4) (post : Int32 → Prop) : ∀ d j, j + d = 5 → (∀ i, i < j → ya (10 + i) = ya (5 + i)) → (dk_code (fun p => ya (5 + p)) < dk_code (fun p => ya (10 + p)) → post 1) → (¬ dk_code (fun p => ya (5 + p)) < dk_code (fun p => ya (10 + p)) → post 0) → ∃ n, wY_isBetter_137 post yp yb ys yn (dk_N kn) (dk_N nd) (dk_N ot) (dk_N le) (dk_N gr) (dk_N op) (dk_N ex) (dk_N it) (dk_N nm) (dk_N sh) (dk_W wl) yg (dk_T ya) yr yl yq yo yt n (nI j)
  | 0, j, hj, he, h1, h0 => by
    have : j = 5 := by omega
    subst this
    exact ⟨1, br_t (by decide) (h0 (by rw [dk_code_x he]; omega))⟩
  | d + 1, j, hj, he, h1, h0 => by
    have a4 := hya (10 + j)
    have b4 := hya (5 + j)
    by_cases z : ya (10 + j) = ya (5 + j)
    · obtain ⟨n, hn⟩ := dk_yb137 hya post d (j + 1) (by omega) (fun i hi => by
        by_cases e : i = j
        · subst e; exact z
        · exact he i (by omega)) h1 h0
      refine ⟨n + 1, ?_⟩
      simp (disch := omega) only [wY_isBetter_137, nI_clamp, dk_Na, dk_Ta, dk_Wa, dk_m2, dk_m3, dk_m4, dk_m5, dk_m6, dk_a5, dk_a10, nI_add, nI_1, nI_leI, nI_ltI, nI_eq, dk_le3, dk_le5, dk_le6, dk_le16, dk_le20, dk_le25, dk_le32, dk_le36, dk_le1024, dk_lt0, dk_ge0, dk_lez, dk_eq0, dk_eq1, dk_eq4, dk_eq6, dk_tneg, dk_tpos, dk_teq, dk_tle]
      exact br_f (by omega) ⟨vp_in_nI (by omega) (by omega), vp_in_nI (by omega) (by omega), br_t z (nm_e hn)⟩
    · refine ⟨1, ?_⟩
      simp (disch := omega) only [wY_isBetter_137, nI_clamp, dk_Na, dk_Ta, dk_Wa, dk_m2, dk_m3, dk_m4, dk_m5, dk_m6, dk_a5, dk_a10, nI_add, nI_1, nI_leI, nI_ltI, nI_eq, dk_le3, dk_le5, dk_le6, dk_le16, dk_le20, dk_le25, dk_le32, dk_le36, dk_le1024, dk_lt0, dk_ge0, dk_lez, dk_eq0, dk_eq1, dk_eq4, dk_eq6, dk_tneg, dk_tpos, dk_teq, dk_tle]
      refine br_f (by omega) ⟨vp_in_nI (by omega) (by omega), vp_in_nI (by omega) (by omega), br_f z ⟨vp_in_nI (by omega) (by omega), vp_in_nI (by omega) (by omega), br_c (fun y => h0 ?_) (fun y => h1 ?_)⟩⟩
      · have := dk_code_lt (a := fun p => ya (10 + p)) (a' := fun p => ya (5 + p)) (p := j) (fun i _ => hya _) (fun i _ => hya _) (by omega) he (by show ya (10 + j) < ya (5 + j); omega)
        omega
      · exact dk_code_lt (p := j) (fun i _ => hya _) (fun i _ => hya _) (by omega) (fun i hi => (he i hi).symm) (by show ya (5 + j) < ya (10 + j); omega)
theorem dk_yb12 (hya : ∀ i, ya i < 4) (post : Int32 → Prop) (h1 : dk_rank ya (fun p => ya (10 + p)) < dk_rank ya (fun p => ya (5 + p)) → post 1) (h0 : ¬ dk_rank ya (fun p => ya (10 + p)) < dk_rank ya (fun p => ya (5 + p)) → post 0) : ∀ d j, j + d = 5 →
    ∃ n, wY_isBetter_12 post yp yb ys yn (dk_N kn) (dk_N nd) (dk_N ot) (dk_N le) (dk_N gr) (dk_N op) (dk_N ex) (dk_N it) (dk_N nm) (dk_N sh) (dk_W wl) yg (dk_T ya) yr yl yq yo yt n (nI (dk_cc ya (fun p => ya (10 + p)) j)) (nI (dk_cc ya (fun p => ya (5 + p)) j)) (nI (dk_cm (fun p => ya (10 + p)) j)) (nI (dk_cm (fun p => ya (5 + p)) j)) (nI j)
  | 0, j, hj => by
    have : j = 5 := by omega
    subst this
    have c1 := dk_cc_le ya (fun p => ya (10 + p)) 5
    have c2 := dk_cc_le ya (fun p => ya (5 + p)) 5
    have c3 := dk_cm_le (fun p => ya (10 + p)) 5
    have c4 := dk_cm_le (fun p => ya (5 + p)) 5
    have k1 := dk_code_b (a := fun p => ya (10 + p)) (fun i _ => hya _)
    have k2 := dk_code_b (a := fun p => ya (5 + p)) (fun i _ => hya _)
    unfold dk_rank at h1 h0
    refine ⟨1, ?_⟩
    simp (disch := omega) only [wY_isBetter_12, nI_eq, nI_leI]
    refine br_t (by decide) (br_c (fun z => br_c (fun y => ?_) (fun y => br_c (fun w => h0 (by omega)) (fun w => h1 (by omega)))) (fun z => br_c (fun w => h0 (by omega)) (fun w => h1 (by omega))))
    exact dk_yb137 hya post 5 0 rfl (fun i hi => absurd hi (Nat.not_lt_zero _)) (fun w => h1 (by omega)) (fun w => h0 (by omega))
  | d + 1, j, hj => by
    obtain ⟨n, hn⟩ := dk_yb12 hya post h1 h0 d (j + 1) (by omega)
    have a4 := hya (10 + j)
    have b4 := hya (5 + j)
    have t4 := hya j
    refine ⟨n + 1, ?_⟩
    simp only [dk_cc, dk_cm] at hn
    have k79 : ∀ x1 x2 x3 x4 : Nat, wY_isBetter_12 post yp yb ys yn (dk_N kn) (dk_N nd) (dk_N ot) (dk_N le) (dk_N gr) (dk_N op) (dk_N ex) (dk_N it) (dk_N nm) (dk_N sh) (dk_W wl) yg (dk_T ya) yr yl yq yo yt n (nI x1) (nI x2) (nI x3) (nI (x4 + if ya (5 + j) = 0 then 0 else 1)) (nI (j + 1)) → wY_isBetter_79 post (wY_isBetter_12 post yp yb ys yn (dk_N kn) (dk_N nd) (dk_N ot) (dk_N le) (dk_N gr) (dk_N op) (dk_N ex) (dk_N it) (dk_N nm) (dk_N sh) (dk_W wl) yg (dk_T ya) yr yl yq yo yt n) (nI x1) (nI x2) (nI x3) (nI x4) (nI j) yp yb ys yn (dk_N kn) (dk_N nd) (dk_N ot) (dk_N le) (dk_N gr) (dk_N op) (dk_N ex) (dk_N it) (dk_N nm) (dk_N sh) (dk_W wl) yg (dk_T ya) yr yl yq yo yt := by
      intro x1 x2 x3 x4 h
      simp (disch := omega) only [wY_isBetter_79, nI_clamp, dk_Na, dk_Ta, dk_Wa, dk_m2, dk_m3, dk_m4, dk_m5, dk_m6, dk_a5, dk_a10, nI_add, nI_1, nI_leI, nI_ltI, nI_eq, dk_le3, dk_le5, dk_le6, dk_le16, dk_le20, dk_le25, dk_le32, dk_le36, dk_le1024, dk_lt0, dk_ge0, dk_lez, dk_eq0, dk_eq1, dk_eq4, dk_eq6, dk_tneg, dk_tpos, dk_teq, dk_tle]
      refine ⟨vp_in_nI (by omega) (by omega), br_c (fun z => nm_e ?_) (fun z => nm_e (nm_e ?_))⟩
      · rw [if_pos z] at h; exact h
      · rw [if_neg z] at h; exact h
    have k63 : ∀ x1 x2 x3 x4 : Nat, wY_isBetter_79 post (wY_isBetter_12 post yp yb ys yn (dk_N kn) (dk_N nd) (dk_N ot) (dk_N le) (dk_N gr) (dk_N op) (dk_N ex) (dk_N it) (dk_N nm) (dk_N sh) (dk_W wl) yg (dk_T ya) yr yl yq yo yt n) (nI x1) (nI x2) (nI (x3 + if ya (10 + j) = 0 then 0 else 1)) (nI x4) (nI j) yp yb ys yn (dk_N kn) (dk_N nd) (dk_N ot) (dk_N le) (dk_N gr) (dk_N op) (dk_N ex) (dk_N it) (dk_N nm) (dk_N sh) (dk_W wl) yg (dk_T ya) yr yl yq yo yt → wY_isBetter_63 post (wY_isBetter_12 post yp yb ys yn (dk_N kn) (dk_N nd) (dk_N ot) (dk_N le) (dk_N gr) (dk_N op) (dk_N ex) (dk_N it) (dk_N nm) (dk_N sh) (dk_W wl) yg (dk_T ya) yr yl yq yo yt n) (nI x1) (nI x2) (nI x3) (nI x4) (nI j) yp yb ys yn (dk_N kn) (dk_N nd) (dk_N ot) (dk_N le) (dk_N gr) (dk_N op) (dk_N ex) (dk_N it) (dk_N nm) (dk_N sh) (dk_W wl) yg (dk_T ya) yr yl yq yo yt := by
      intro x1 x2 x3 x4 h
      simp (disch := omega) only [wY_isBetter_63, nI_clamp, dk_Na, dk_Ta, dk_Wa, dk_m2, dk_m3, dk_m4, dk_m5, dk_m6, dk_a5, dk_a10, nI_add, nI_1, nI_leI, nI_ltI, nI_eq, dk_le3, dk_le5, dk_le6, dk_le16, dk_le20, dk_le25, dk_le32, dk_le36, dk_le1024, dk_lt0, dk_ge0, dk_lez, dk_eq0, dk_eq1, dk_eq4, dk_eq6, dk_tneg, dk_tpos, dk_teq, dk_tle]
      refine ⟨vp_in_nI (by omega) (by omega), br_c (fun z => ?_) (fun z => nm_e ?_)⟩
      · rw [if_pos z] at h; exact h
      · rw [if_neg z] at h; exact h
    have k41 : ∀ x1 x2 x3 x4 : Nat, wY_isBetter_63 post (wY_isBetter_12 post yp yb ys yn (dk_N kn) (dk_N nd) (dk_N ot) (dk_N le) (dk_N gr) (dk_N op) (dk_N ex) (dk_N it) (dk_N nm) (dk_N sh) (dk_W wl) yg (dk_T ya) yr yl yq yo yt n) (nI x1) (nI (x2 + if ya j = ya (5 + j) then 0 else 1)) (nI x3) (nI x4) (nI j) yp yb ys yn (dk_N kn) (dk_N nd) (dk_N ot) (dk_N le) (dk_N gr) (dk_N op) (dk_N ex) (dk_N it) (dk_N nm) (dk_N sh) (dk_W wl) yg (dk_T ya) yr yl yq yo yt → wY_isBetter_41 post (wY_isBetter_12 post yp yb ys yn (dk_N kn) (dk_N nd) (dk_N ot) (dk_N le) (dk_N gr) (dk_N op) (dk_N ex) (dk_N it) (dk_N nm) (dk_N sh) (dk_W wl) yg (dk_T ya) yr yl yq yo yt n) (nI x1) (nI x2) (nI x3) (nI x4) (nI j) yp yb ys yn (dk_N kn) (dk_N nd) (dk_N ot) (dk_N le) (dk_N gr) (dk_N op) (dk_N ex) (dk_N it) (dk_N nm) (dk_N sh) (dk_W wl) yg (dk_T ya) yr yl yq yo yt := by
      intro x1 x2 x3 x4 h
      simp (disch := omega) only [wY_isBetter_41, nI_clamp, dk_Na, dk_Ta, dk_Wa, dk_m2, dk_m3, dk_m4, dk_m5, dk_m6, dk_a5, dk_a10, nI_add, nI_1, nI_leI, nI_ltI, nI_eq, dk_le3, dk_le5, dk_le6, dk_le16, dk_le20, dk_le25, dk_le32, dk_le36, dk_le1024, dk_lt0, dk_ge0, dk_lez, dk_eq0, dk_eq1, dk_eq4, dk_eq6, dk_tneg, dk_tpos, dk_teq, dk_tle]
      refine ⟨vp_in_nI (by omega) (by omega), vp_in_nI (by omega) (by omega), br_c (fun z => ?_) (fun z => nm_e ?_)⟩
      · rw [if_pos z.symm] at h; exact h
      · rw [if_neg (fun y => z y.symm)] at h; exact h
    simp (disch := omega) only [wY_isBetter_12, nI_clamp, dk_Na, dk_Ta, dk_Wa, dk_m2, dk_m3, dk_m4, dk_m5, dk_m6, dk_a5, dk_a10, nI_add, nI_1, nI_leI, nI_ltI, nI_eq, dk_le3, dk_le5, dk_le6, dk_le16, dk_le20, dk_le25, dk_le32, dk_le36, dk_le1024, dk_lt0, dk_ge0, dk_lez, dk_eq0, dk_eq1, dk_eq4, dk_eq6, dk_tneg, dk_tpos, dk_teq, dk_tle]
    refine br_f (by omega) ⟨vp_in_nI (by omega) (by omega), vp_in_nI (by omega) (by omega), br_c (fun z => k41 _ _ _ _ (k63 _ _ _ _ (k79 _ _ _ _ ?_))) (fun z => nm_e (k41 _ _ _ _ (k63 _ _ _ _ (k79 _ _ _ _ ?_))))⟩
    · rw [if_pos z.symm] at hn; exact hn
    · rw [if_neg (fun y => z y.symm)] at hn; exact hn
theorem dk_yb (hya : ∀ i, ya i < 4) (post : Int32 → Prop) (h1 : dk_rank ya (fun p => ya (10 + p)) < dk_rank ya (fun p => ya (5 + p)) → post 1) (h0 : ¬ dk_rank ya (fun p => ya (10 + p)) < dk_rank ya (fun p => ya (5 + p)) → post 0) : wpY_isBetter post (yp, yb, ys, yn, (dk_N kn), (dk_N nd), (dk_N ot), (dk_N le), (dk_N gr), (dk_N op), (dk_N ex), (dk_N it), (dk_N nm), (dk_N sh), (dk_W wl), yg, (dk_T ya), yr, yl, yq, yo, yt) :=
  dk_yb12 hya post h1 h0 5 0 rfl
-- can a set be met
theorem dk_yMe_x {wl wg a a' : Nat → Nat} {set : Nat} (e : ∀ i, i < 5 → a i = a' i) : dk_Me wl wg a set 0 ↔ dk_Me wl wg a' set 0 := by
  constructor
  · intro h p _ hp; rw [← e p hp]; exact h p (Nat.zero_le _) hp
  · intro h p _ hp; rw [e p hp]; exact h p (Nat.zero_le _) hp
theorem dk_ycm2 {set : Nat} {wg : Nat → Nat} (hset : set < 32) (hkn : ∀ x, kn x ≤ 1) (hnd : ∀ x, nd x ≤ 4) (hot : ∀ k, ot k < 5) (hle : ∀ k, le k ≤ 2) (hgr : ∀ k, gr k ≤ 2) (hop : ∀ k, op k ≤ 1) (hwl : ∀ p, wl p ≤ 4) (hwg : ∀ p, wg p ≤ 2) (hyg : ∀ p, p < 5 → 2 ≤ wl p → yg p = nI (wg p)) (hown : ∀ x k, x < 15 → k < nd x → ot (4 * x + k) ≠ x / 3) : ∀ d s (ya : Nat → Nat), s + d = 1024 → (∀ i, ya i < 4) →
    ∃ ya' : Nat → Nat, (∀ i, ya' i < 4) ∧ (∀ i, i < 10 → ya' i = ya i) ∧ ∀ post : Int32 → SY → Prop, post (nI (dk_b (∃ r, s ≤ r ∧ r < 1024 ∧ dk_VS kn nd ot le gr op wl wg set (dk_as r))).toNat) (yp, yb, ys, yn, (dk_N kn), (dk_N nd), (dk_N ot), (dk_N le), (dk_N gr), (dk_N op), (dk_N ex), (dk_N it), (dk_N nm), (dk_N sh), (dk_W wl), yg, (dk_T ya'), yr, yl, yq, yo, yt) → ∃ n, wY_canBeMet_2 post (nI set) n (nI s) yp yb ys yn (dk_N kn) (dk_N nd) (dk_N ot) (dk_N le) (dk_N gr) (dk_N op) (dk_N ex) (dk_N it) (dk_N nm) (dk_N sh) (dk_W wl) yg (dk_T ya) yr yl yq yo yt
  | 0, s, ya, hs, hya => by
    have : s = 1024 := by omega
    subst this
    refine ⟨ya, hya, fun _ _ => rfl, fun post h => ⟨1, ?_⟩⟩
    rw [dk_bF' (by rintro ⟨r, a, b, _⟩; omega)] at h
    exact br_t (by decide) h
  | d + 1, s, ya, hs, hya => by
    obtain ⟨ya1, a1, a2, a3, a4⟩ := dk_ych (yp := yp) (yb := yb) (ys := ys) (yn := yn) (kn := kn) (nd := nd) (ot := ot) (le := le) (gr := gr) (op := op) (it := it) (nm := nm) (sh := sh) (ex := ex) (wl := wl) (ya := ya) (yg := yg) (yr := yr) (yl := yl) (yq := yq) (yo := yo) (yt := yt) (s := s) (by omega) hkn hnd hot hle hgr hop hya
    have iff := dk_VS_Y (kn := kn) (le := le) (gr := gr) (op := op) (wl := wl) (wg := wg) hot hown (set := set) (a := dk_as s) (fun i _ => dk_as4 s i)
    by_cases z : dk_VS kn nd ot le gr op wl wg set (dk_as s)
    · obtain ⟨z1, z2, z3⟩ := iff.mp z
      refine ⟨ya1, a1, a3, fun post h => ⟨1, ?_⟩⟩
      rw [dk_bT' ⟨s, Nat.le_refl _, by omega, z⟩] at h
      refine br_f (by rw [dk_le1024 (by omega)]; omega) (a4 _ ?_)
      rw [dk_bT' ⟨z1, z2⟩]
      refine br_f (by decide) (dk_yme hset a1 hwl hwg hyg _ (fun _ => br_f (by decide) h) (fun y => absurd ((dk_yMe_x a2).mpr z3) y))
    · obtain ⟨ya', b1, b2, b3⟩ := dk_ycm2 hset hkn hnd hot hle hgr hop hwl hwg hyg hown d (s + 1) ya1 (by omega) a1
      refine ⟨ya', b1, fun i hi => by rw [b2 i hi, a3 i hi], fun post h => ?_⟩
      rw [dk_bC (Q := ∃ r, s + 1 ≤ r ∧ r < 1024 ∧ dk_VS kn nd ot le gr op wl wg set (dk_as r)) ⟨fun ⟨r, a, b, c⟩ => ⟨r, by
        have : r ≠ s := fun e => z (e ▸ c)
        omega, b, c⟩, fun ⟨r, a, b⟩ => ⟨r, by omega, b⟩⟩] at h
      obtain ⟨n, hn⟩ := b3 post h
      refine ⟨n + 1, br_f (by rw [dk_le1024 (by omega)]; omega) (a4 _ ?_)⟩
      by_cases y : dk_Kn kn (dk_as s) 5 ∧ dk_So nd ot le gr op (dk_as s) 0
      · rw [dk_bT' y]
        exact br_f (by decide) (dk_yme hset a1 hwl hwg hyg _ (fun w => absurd (iff.mpr ⟨y.1, y.2, (dk_yMe_x a2).mp w⟩) z) (fun _ => br_t rfl (nm_r (nI_1 s) hn)))
      · rw [dk_bF' y]
        exact br_t rfl (nm_r (nI_1 s) hn)
theorem dk_ycm {set : Nat} {wg : Nat → Nat} (hset : set < 32) (hkn : ∀ x, kn x ≤ 1) (hnd : ∀ x, nd x ≤ 4) (hot : ∀ k, ot k < 5) (hle : ∀ k, le k ≤ 2) (hgr : ∀ k, gr k ≤ 2) (hop : ∀ k, op k ≤ 1) (hwl : ∀ p, wl p ≤ 4) (hwg : ∀ p, wg p ≤ 2) (hyg : ∀ p, p < 5 → 2 ≤ wl p → yg p = nI (wg p)) (hown : ∀ x k, x < 15 → k < nd x → ot (4 * x + k) ≠ x / 3) (hya : ∀ i, ya i < 4) :
    ∃ ya' : Nat → Nat, (∀ i, ya' i < 4) ∧ (∀ i, i < 10 → ya' i = ya i) ∧ ∀ post : Int32 → SY → Prop, post (nI (dk_b (¬ dk_U kn nd ot le gr op wl wg set)).toNat) (yp, yb, ys, yn, (dk_N kn), (dk_N nd), (dk_N ot), (dk_N le), (dk_N gr), (dk_N op), (dk_N ex), (dk_N it), (dk_N nm), (dk_N sh), (dk_W wl), yg, (dk_T ya'), yr, yl, yq, yo, yt) → wpY_canBeMet post (yp, yb, ys, yn, (dk_N kn), (dk_N nd), (dk_N ot), (dk_N le), (dk_N gr), (dk_N op), (dk_N ex), (dk_N it), (dk_N nm), (dk_N sh), (dk_W wl), yg, (dk_T ya), yr, yl, yq, yo, yt) (nI set) := by
  obtain ⟨ya', b1, b2, b3⟩ := dk_ycm2 (yp := yp) (yb := yb) (ys := ys) (yn := yn) (kn := kn) (nd := nd) (ot := ot) (le := le) (gr := gr) (op := op) (it := it) (nm := nm) (sh := sh) (ex := ex) (wl := wl) (yg := yg) (yr := yr) (yl := yl) (yq := yq) (yo := yo) (yt := yt) (wg := wg) hset hkn hnd hot hle hgr hop hwl hwg hyg hown 1024 0 ya rfl hya
  refine ⟨ya', b1, b2, fun post h => b3 post ?_⟩
  rw [dk_bC (Q := ¬ dk_U kn nd ot le gr op wl wg set)]
  · exact h
  · constructor
    · rintro ⟨r, _, _, c⟩ y; exact y ⟨_, c⟩
    · intro y
      obtain ⟨a, ha⟩ := Classical.not_not.mp y
      obtain ⟨s, hs, e⟩ := dk_as_ex ha.1
      exact ⟨s, Nat.zero_le _, hs, dk_VS_x (fun i hi => (e i hi).symm) ha⟩
end
end
section
def dk_on (m : Nat) : Nat → Nat
  | 0 => 0
  | j + 1 => dk_on m j + (m.testBit j).toNat
theorem dk_on5 (m : Nat) : dk_on m 5 = dk_ones m := by
  simp only [dk_on, dk_ones]; omega
theorem dk_on_le (m : Nat) : ∀ j, dk_on m j ≤ j
  | 0 => Nat.le_refl _
  | j + 1 => by
    have := dk_on_le m j
    have := Bool.toNat_le (m.testBit j)
    rw [dk_on]; omega
/-- what the scan for the blamed set knows: few, and the set -/
def dk_Bl (U : Nat → Prop) (w set f r : Nat) : Prop :=
  (f = 9 ∧ r = 0 ∧ ∀ m, m < set → dk_dif m w = 0 → ¬ U m) ∨ (f = dk_ones r ∧ r < set ∧ dk_dif r w = 0 ∧ U r ∧ ∀ m, m < set → dk_dif m w = 0 → U m → 32 * dk_ones r + r ≤ 32 * dk_ones m + m)
theorem dk_Bl_f {U : Nat → Prop} {w set f r : Nat} (h : dk_Bl U w set f r) : f ≤ 9 := by
  rcases h with h | h
  · omega
  · have := dk_onesL r; omega
theorem dk_Bl_r {U : Nat → Prop} {w set f r : Nat} (hs : set ≤ 32) (h : dk_Bl U w set f r) : r < 32 := by
  rcases h with h | h <;> omega
theorem dk_Bl_skip {U : Nat → Prop} {w set f r : Nat} (h : dk_Bl U w set f r) (h' : ¬ (dk_dif set w = 0 ∧ U set)) : dk_Bl U w (set + 1) f r := by
  rcases h with ⟨a, b, c⟩ | ⟨a, b, c, d, e⟩
  · refine Or.inl ⟨a, b, fun m hm hd hU => ?_⟩
    by_cases z : m = set
    · subst z; exact h' ⟨hd, hU⟩
    · exact c m (by omega) hd hU
  · refine Or.inr ⟨a, by omega, c, d, fun m hm hd hU => ?_⟩
    by_cases z : m = set
    · subst z; exact absurd ⟨hd, hU⟩ h'
    · exact e m (by omega) hd hU
theorem dk_Bl_more {U : Nat → Prop} {w set f r : Nat} (h : dk_Bl U w set f r) (h' : f ≤ dk_ones set) : dk_Bl U w (set + 1) f r := by
  rcases h with ⟨a, b, c⟩ | ⟨a, b, c, d, e⟩
  · have := dk_onesL set; omega
  · refine Or.inr ⟨a, by omega, c, d, fun m hm hd hU => ?_⟩
    by_cases z : m = set
    · subst z; omega
    · exact e m (by omega) hd hU
theorem dk_Bl_new {U : Nat → Prop} {w set f r : Nat} (hs : set < 32) (h : dk_Bl U w set f r) (h' : dk_ones set < f) (hd : dk_dif set w = 0) (hU : U set) : dk_Bl U w (set + 1) (dk_ones set) set := by
  refine Or.inr ⟨rfl, by omega, hd, hU, fun m hm hdm hUm => ?_⟩
  by_cases z : m = set
  · subst z; exact Nat.le_refl _
  · rcases h with ⟨a, b, c⟩ | ⟨a, b, c, d, e⟩
    · exact absurd hUm (c m (by omega) hdm)
    · have := e m (by omega) hdm hUm
      omega
section
variable {yp yb ys yn : Int32} {kn nd ot le gr op it nm sh ex wl ya : Nat → Nat} {yg yr yl yq yo yt : Nat → Int32}
theorem dk_yfb49 {set w f r : Nat} {wg : Nat → Nat} (hset : set < 32) (hw : w < 32) (hkn : ∀ x, kn x ≤ 1) (hnd : ∀ x, nd x ≤ 4) (hot : ∀ k, ot k < 5) (hle : ∀ k, le k ≤ 2) (hgr : ∀ k, gr k ≤ 2) (hop : ∀ k, op k ≤ 1) (hwl : ∀ p, wl p ≤ 4) (hwg : ∀ p, wg p ≤ 2) (hyg : ∀ p, p < 5 → 2 ≤ wl p → yg p = nI (wg p)) (hown : ∀ x k, x < 15 → k < nd x → ot (4 * x + k) ≠ x / 3) (hya : ∀ i, ya i < 4)
    (hB : dk_Bl (dk_U kn nd ot le gr op wl wg) w set f r) :
    ∃ (f' r' : Nat) (ya' : Nat → Nat), dk_Bl (dk_U kn nd ot le gr op wl wg) w (set + 1) f' r' ∧ (∀ i, ya' i < 4) ∧ (∀ i, i < 10 → ya' i = ya i) ∧ ∀ (post : SY → Prop) J, J (nI f') (nI (set + 1)) yp (nI r') ys yn (dk_N kn) (dk_N nd) (dk_N ot) (dk_N le) (dk_N gr) (dk_N op) (dk_N ex) (dk_N it) (dk_N nm) (dk_N sh) (dk_W wl) yg (dk_T ya') yr yl yq yo yt →
    ∀ d j, j + d = 5 → ∃ n, wY_findBlame_49 post J (nI w) (nI f) (nI set) yp (nI r) ys yn (dk_N kn) (dk_N nd) (dk_N ot) (dk_N le) (dk_N gr) (dk_N op) (dk_N ex) (dk_N it) (dk_N nm) (dk_N sh) (dk_W wl) yg (dk_T ya) yr yl yq yo yt n (nI (dk_on set j)) (nI j) := by
  have loop : ∀ (post : SY → Prop) J, (((nI set &&& (nI w ^^^ (-1))) = 0 → (((nI f ≤ nI (dk_on set 5) → (∀ x : Int32, x = nI set + 1 → (J (nI f) x yp (nI r) ys yn (dk_N kn) (dk_N nd) (dk_N ot) (dk_N le) (dk_N gr) (dk_N op) (dk_N ex) (dk_N it) (dk_N nm) (dk_N sh) (dk_W wl) yg (dk_T ya) yr yl yq yo yt))) ∧ (¬ nI f ≤ nI (dk_on set 5) → (wpY_canBeMet (fun r_8 u => match u with | (yp, yb, ys, yn, k1, k2, k3, k4, k5, k6, k7, k8, k9, k10, k11, yg, k12, yr, yl, yq, yo, yt) => (((r_8 = 0 → (∀ x : Int32, x = nI set + 1 → (J (nI (dk_on set 5)) x yp (nI set) ys yn k1 k2 k3 k4 k5 k6 k7 k8 k9 k10 k11 yg k12 yr yl yq yo yt))) ∧ (¬ r_8 = 0 → (∀ x : Int32, x = nI set + 1 → (J (nI f) x yp yb ys yn k1 k2 k3 k4 k5 k6 k7 k8 k9 k10 k11 yg k12 yr yl yq yo yt)))))) (yp, (nI r), ys, yn, (dk_N kn), (dk_N nd), (dk_N ot), (dk_N le), (dk_N gr), (dk_N op), (dk_N ex), (dk_N it), (dk_N nm), (dk_N sh), (dk_W wl), yg, (dk_T ya), yr, yl, yq, yo, yt) (nI set)))))) ∧ (¬ (nI set &&& (nI w ^^^ (-1))) = 0 → (∀ x : Int32, x = nI set + 1 → (J (nI f) x yp (nI r) ys yn (dk_N kn) (dk_N nd) (dk_N ot) (dk_N le) (dk_N gr) (dk_N op) (dk_N ex) (dk_N it) (dk_N nm) (dk_N sh) (dk_W wl) yg (dk_T ya) yr yl yq yo yt)))) → ∀ d j, j + d = 5 → ∃ n, wY_findBlame_49 post J (nI w) (nI f) (nI set) yp (nI r) ys yn (dk_N kn) (dk_N nd) (dk_N ot) (dk_N le) (dk_N gr) (dk_N op) (dk_N ex) (dk_N it) (dk_N nm) (dk_N sh) (dk_W wl) yg (dk_T ya) yr yl yq yo yt n (nI (dk_on set j)) (nI j) := by
    intro post J h d
    induction d with
    | zero =>
      intro j hj
      have : j = 5 := by omega
      subst this
      exact ⟨1, br_t (by decide) h⟩
    | succ d ih =>
      intro j hj
      obtain ⟨n, hn⟩ := ih (j + 1) (by omega)
      refine ⟨n + 1, br_f (by rw [dk_le5 (by omega)]; omega) (nm_r ?_ (nm_r (nI_1 j) hn))⟩
      rw [dk_bit (by omega) (by omega), nI_add]; rfl
  have f9 := dk_Bl_f hB
  have o5 := dk_onesL set
  by_cases z : dk_dif set w = 0
  · by_cases y : f ≤ dk_ones set
    · refine ⟨f, r, ya, dk_Bl_more hB y, hya, fun _ _ => rfl, fun post J h => loop post J ?_⟩
      rw [dk_difI set hset w hw, z, dk_on5, nI_leI (by omega) (by omega)]
      exact br_t rfl (br_t y (nm_r (nI_1 set) h))
    · obtain ⟨ya', b1, b2, b3⟩ := dk_ycm (yp := yp) (ys := ys) (yn := yn) (kn := kn) (nd := nd) (ot := ot) (le := le) (gr := gr) (op := op) (it := it) (nm := nm) (sh := sh) (ex := ex) (wl := wl) (ya := ya) (yg := yg) (yr := yr) (yl := yl) (yq := yq) (yo := yo) (yt := yt) (yb := nI r) (wg := wg) hset hkn hnd hot hle hgr hop hwl hwg hyg hown hya
      by_cases u : dk_U kn nd ot le gr op wl wg set
      · refine ⟨dk_ones set, set, ya', dk_Bl_new hset hB (by omega) z u, b1, b2, fun post J h => loop post J ?_⟩
        rw [dk_difI set hset w hw, z, dk_on5, nI_leI (by omega) (by omega)]
        refine br_t rfl (br_f y (b3 _ ?_))
        rw [dk_bF' (fun v => v u)]
        exact br_t rfl (nm_r (nI_1 set) h)
      · refine ⟨f, r, ya', dk_Bl_skip hB (fun v => u v.2), b1, b2, fun post J h => loop post J ?_⟩
        rw [dk_difI set hset w hw, z, dk_on5, nI_leI (by omega) (by omega)]
        refine br_t rfl (br_f y (b3 _ ?_))
        rw [dk_bT' u]
        exact br_f (by decide) (nm_r (nI_1 set) h)
  · refine ⟨f, r, ya, dk_Bl_skip hB (fun v => z v.1), hya, fun _ _ => rfl, fun post J h => loop post J ?_⟩
    have dl := dk_difL set w hset
    rw [dk_difI set hset w hw, dk_eq0 (by omega)]
    exact br_f z (nm_r (nI_1 set) h)
theorem dk_yfb37 {w : Nat} {wg : Nat → Nat} (hw : w < 32) (hkn : ∀ x, kn x ≤ 1) (hnd : ∀ x, nd x ≤ 4) (hot : ∀ k, ot k < 5) (hle : ∀ k, le k ≤ 2) (hgr : ∀ k, gr k ≤ 2) (hop : ∀ k, op k ≤ 1) (hwl : ∀ p, wl p ≤ 4) (hwg : ∀ p, wg p ≤ 2) (hyg : ∀ p, p < 5 → 2 ≤ wl p → yg p = nI (wg p)) (hown : ∀ x k, x < 15 → k < nd x → ot (4 * x + k) ≠ x / 3) : ∀ d set f r (ya : Nat → Nat), set + d = 32 → (∀ i, ya i < 4) → dk_Bl (dk_U kn nd ot le gr op wl wg) w set f r →
    ∃ (f' r' : Nat) (ya' : Nat → Nat), dk_Bl (dk_U kn nd ot le gr op wl wg) w 32 f' r' ∧ (∀ i, ya' i < 4) ∧ (∀ i, i < 10 → ya' i = ya i) ∧ ∀ post : SY → Prop, post (yp, (nI r'), ys, yn, (dk_N kn), (dk_N nd), (dk_N ot), (dk_N le), (dk_N gr), (dk_N op), (dk_N ex), (dk_N it), (dk_N nm), (dk_N sh), (dk_W wl), yg, (dk_T ya'), yr, yl, yq, yo, yt) → ∃ n, wY_findBlame_37 post (nI w) n (nI f) (nI set) yp (nI r) ys yn (dk_N kn) (dk_N nd) (dk_N ot) (dk_N le) (dk_N gr) (dk_N op) (dk_N ex) (dk_N it) (dk_N nm) (dk_N sh) (dk_W wl) yg (dk_T ya) yr yl yq yo yt
  | 0, set, f, r, ya, hs, hya, hB => by
    have : set = 32 := by omega
    subst this
    exact ⟨f, r, ya, hB, hya, fun _ _ => rfl, fun post h => ⟨1, br_t (by decide) h⟩⟩
  | d + 1, set, f, r, ya, hs, hya, hB => by
    obtain ⟨f1, r1, ya1, a1, a2, a3, a4⟩ := dk_yfb49 (yp := yp) (ys := ys) (yn := yn) (kn := kn) (nd := nd) (ot := ot) (le := le) (gr := gr) (op := op) (it := it) (nm := nm) (sh := sh) (ex := ex) (wl := wl) (ya := ya) (yg := yg) (yr := yr) (yl := yl) (yq := yq) (yo := yo) (yt := yt) (wg := wg) (by omega) hw hkn hnd hot hle hgr hop hwl hwg hyg hown hya hB
    obtain ⟨f', r', ya', b1, b2, b3, b4⟩ := dk_yfb37 hw hkn hnd hot hle hgr hop hwl hwg hyg hown d (set + 1) f1 r1 ya1 (by omega) a2 a1
    refine ⟨f', r', ya', b1, b2, fun i hi => by rw [b3 i hi, a3 i hi], fun post h => ?_⟩
    obtain ⟨n, hn⟩ := b4 post h
    refine ⟨n + 1, br_f (by rw [dk_le32 (by omega)]; omega) ?_⟩
    exact a4 post _ hn 5 0 rfl
theorem dk_yfb7 {x2 : Int32} (hwl : ∀ p, wl p ≤ 4) (post : SY → Prop) (h : ∃ n37, wY_findBlame_37 post (nI (dk_m (fun p => decide (wl p ≠ 0)) 5)) n37 x2 (nI 0) yp yb ys yn (dk_N kn) (dk_N nd) (dk_N ot) (dk_N le) (dk_N gr) (dk_N op) (dk_N ex) (dk_N it) (dk_N nm) (dk_N sh) (dk_W wl) yg (dk_T ya) yr yl yq yo yt) : ∀ d j, j + d = 5 → ∃ n, wY_findBlame_7 post x2 yp yb ys yn (dk_N kn) (dk_N nd) (dk_N ot) (dk_N le) (dk_N gr) (dk_N op) (dk_N ex) (dk_N it) (dk_N nm) (dk_N sh) (dk_W wl) yg (dk_T ya) yr yl yq yo yt n (nI (dk_m (fun p => decide (wl p ≠ 0)) j)) (nI j)
  | 0, j, hj => by
    have : j = 5 := by omega
    subst this
    exact ⟨1, br_t (by decide) h⟩
  | d + 1, j, hj => by
    obtain ⟨n, hn⟩ := dk_yfb7 hwl post h d (j + 1) (by omega)
    have hw := hwl j
    rw [dk_m] at hn
    refine ⟨n + 1, ?_⟩
    simp (disch := omega) only [wY_findBlame_7, nI_clamp, dk_Na, dk_Ta, dk_Wa, dk_m2, dk_m3, dk_m4, dk_m5, dk_m6, dk_a5, dk_a10, nI_add, nI_1, dk_le5, dk_wm2, dk_pow, dk_or]
    refine br_f (by omega) ⟨vp_in_nI (by omega) (by omega), br_c (fun z => nm_e ?_) (fun z => nm_e (nm_e ?_))⟩
    · simpa [z] using hn
    · simpa [z] using hn
theorem dk_yfbl {wg : Nat → Nat} (hkn : ∀ x, kn x ≤ 1) (hnd : ∀ x, nd x ≤ 4) (hot : ∀ k, ot k < 5) (hle : ∀ k, le k ≤ 2) (hgr : ∀ k, gr k ≤ 2) (hop : ∀ k, op k ≤ 1) (hwl : ∀ p, wl p ≤ 4) (hwg : ∀ p, wg p ≤ 2) (hyg : ∀ p, p < 5 → 2 ≤ wl p → yg p = nI (wg p)) (hown : ∀ x k, x < 15 → k < nd x → ot (4 * x + k) ≠ x / 3) (hya : ∀ i, ya i < 4) :
    ∃ (f r : Nat) (ya' : Nat → Nat), dk_Bl (dk_U kn nd ot le gr op wl wg) (dk_m (fun p => decide (wl p ≠ 0)) 5) 32 f r ∧ (∀ i, ya' i < 4) ∧ (∀ i, i < 10 → ya' i = ya i) ∧ ∀ post : SY → Prop, post (yp, (nI r), ys, yn, (dk_N kn), (dk_N nd), (dk_N ot), (dk_N le), (dk_N gr), (dk_N op), (dk_N ex), (dk_N it), (dk_N nm), (dk_N sh), (dk_W wl), yg, (dk_T ya'), yr, yl, yq, yo, yt) → wpY_findBlame post (yp, 0, ys, yn, (dk_N kn), (dk_N nd), (dk_N ot), (dk_N le), (dk_N gr), (dk_N op), (dk_N ex), (dk_N it), (dk_N nm), (dk_N sh), (dk_W wl), yg, (dk_T ya), yr, yl, yq, yo, yt) := by
  obtain ⟨f, r, ya', b1, b2, b3, b4⟩ := dk_yfb37 (yp := yp) (ys := ys) (yn := yn) (kn := kn) (nd := nd) (ot := ot) (le := le) (gr := gr) (op := op) (it := it) (nm := nm) (sh := sh) (ex := ex) (wl := wl) (yg := yg) (yr := yr) (yl := yl) (yq := yq) (yo := yo) (yt := yt) (w := dk_m (fun p => decide (wl p ≠ 0)) 5) (wg := wg) (dk_m5L _) hkn hnd hot hle hgr hop hwl hwg hyg hown 32 0 9 0 ya rfl hya (Or.inl ⟨rfl, rfl, fun m hm => absurd hm (Nat.not_lt_zero _)⟩)
  refine ⟨f, r, ya', b1, b2, b3, fun post h => ?_⟩
  exact dk_yfb7 hwl post (b4 post h) 5 0 rfl
-- solve
theorem dk_yso55 {s : Nat} (hs : s < 1024) : ∀ d j (ya : Nat → Nat), j + d = 5 → (∀ i, ya i < 4) → (∀ i, i < j → ya (5 + i) = ya (10 + i)) →
    ∃ ya' : Nat → Nat, (∀ i, ya' i < 4) ∧ (∀ i, i < 5 → ya' (5 + i) = ya (10 + i)) ∧ (∀ i, i < 5 → ya' i = ya i) ∧ ∀ (post : Int32 → SY → Prop) J, J (nI (s + 1)) 1 yb ys yn (dk_N kn) (dk_N nd) (dk_N ot) (dk_N le) (dk_N gr) (dk_N op) (dk_N ex) (dk_N it) (dk_N nm) (dk_N sh) (dk_W wl) yg (dk_T ya') yr yl yq yo yt → ∃ n, wY_solve_55 post J (nI s) yp yb ys yn n (nI j) (dk_N kn) (dk_N nd) (dk_N ot) (dk_N le) (dk_N gr) (dk_N op) (dk_N ex) (dk_N it) (dk_N nm) (dk_N sh) (dk_W wl) yg (dk_T ya) yr yl yq yo yt
  | 0, j, ya, hj, h4, h => by
    have : j = 5 := by omega
    subst this
    exact ⟨ya, h4, h, fun _ _ => rfl, fun post J h' => ⟨1, br_t (by decide) (nm_r (nI_1 s) h')⟩⟩
  | d + 1, j, ya, hj, h4, h => by
    obtain ⟨ya', b1, b2, b3, b4⟩ := dk_yso55 hs d (j + 1) (dk_u ya (5 + j) (ya (10 + j))) (by omega) (fun i => by
      by_cases e : i = 5 + j
      · subst e; rw [dk_us]; exact h4 _
      · rw [dk_un e]; exact h4 i) (fun i hi => by
      rw [dk_un (j := 10 + i) (by omega)]
      by_cases e : i = j
      · subst e; rw [dk_us]
      · rw [dk_un (by omega)]; exact h i (by omega))
    refine ⟨ya', b1, fun i hi => by rw [b2 i hi, dk_un (by omega)], fun i hi => by rw [b3 i hi, dk_un (by omega)], fun post J h' => ?_⟩
    obtain ⟨n, hn⟩ := b4 post J h'
    refine ⟨n + 1, br_f (by rw [dk_le5 (by omega)]; omega) ?_⟩
    rw [dk_a5, dk_a10, nI_clamp (by omega), nI_clamp (by omega), dk_Ta, dk_uT]
    exact ⟨vp_in_nI (by omega) (by omega), vp_in_nI (by omega) (by omega), nm_e (nm_r (nI_1 j) hn)⟩
def dk_YI (V : (Nat → Nat) → Prop) (s f : Nat) (ya : Nat → Nat) : Prop := (f = 0 ∧ ∀ r, r < s → ¬ V (dk_as r)) ∨ (f = 1 ∧ V (fun p => ya (5 + p)) ∧ ∀ r, r < s → V (dk_as r) → dk_rank ya (fun p => ya (5 + p)) ≤ dk_rank ya (dk_as r))
theorem dk_yso12 {wg : Nat → Nat} (hkn : ∀ x, kn x ≤ 1) (hnd : ∀ x, nd x ≤ 4) (hot : ∀ k, ot k < 5) (hle : ∀ k, le k ≤ 2) (hgr : ∀ k, gr k ≤ 2) (hop : ∀ k, op k ≤ 1) (hwl : ∀ p, wl p ≤ 4) (hwg : ∀ p, wg p ≤ 2) (hyg : ∀ p, p < 5 → 2 ≤ wl p → yg p = nI (wg p)) (hown : ∀ x k, x < 15 → k < nd x → ot (4 * x + k) ≠ x / 3) : ∀ d s f (ya : Nat → Nat), s + d = 1024 → (∀ i, ya i < 4) → dk_YI (dk_VS kn nd ot le gr op wl wg 31) s f ya →
    ∃ (f' : Nat) (ya' : Nat → Nat), dk_YI (dk_VS kn nd ot le gr op wl wg 31) 1024 f' ya' ∧ (∀ i, ya' i < 4) ∧ (∀ i, i < 5 → ya' i = ya i) ∧ ∀ post : Int32 → SY → Prop, wY_solve_12 post 1 (nI 1024) (nI f') yb ys yn (dk_N kn) (dk_N nd) (dk_N ot) (dk_N le) (dk_N gr) (dk_N op) (dk_N ex) (dk_N it) (dk_N nm) (dk_N sh) (dk_W wl) yg (dk_T ya') yr yl yq yo yt → ∃ n, wY_solve_12 post n (nI s) (nI f) yb ys yn (dk_N kn) (dk_N nd) (dk_N ot) (dk_N le) (dk_N gr) (dk_N op) (dk_N ex) (dk_N it) (dk_N nm) (dk_N sh) (dk_W wl) yg (dk_T ya) yr yl yq yo yt
  | 0, s, f, ya, hs, hya, hI => by
    have : s = 1024 := by omega
    subst this
    exact ⟨f, ya, hI, hya, fun _ _ => rfl, fun post h => ⟨1, h⟩⟩
  | d + 1, s, f, ya, hs, hya, hI => by
    have hs' : s < 1024 := by omega
    obtain ⟨ya1, a1, a2, a3, a4⟩ := dk_ych (yb := yb) (ys := ys) (yn := yn) (kn := kn) (nd := nd) (ot := ot) (le := le) (gr := gr) (op := op) (it := it) (nm := nm) (sh := sh) (ex := ex) (wl := wl) (ya := ya) (yg := yg) (yr := yr) (yl := yl) (yq := yq) (yo := yo) (yt := yt) (yp := nI f) (s := s) hs' hkn hnd hot hle hgr hop hya
    have iff := dk_VS_Y (kn := kn) (le := le) (gr := gr) (op := op) (wl := wl) (wg := wg) hot hown (set := 31) (a := dk_as s) (fun i _ => dk_as4 s i)
    have r5 : ∀ i, i < 5 → ya1 (5 + i) = ya (5 + i) := fun i hi => a3 (5 + i) (by omega)
    have r0 : ∀ i, i < 5 → ya1 i = ya i := fun i hi => a3 i (by omega)
    have I1 : dk_YI (dk_VS kn nd ot le gr op wl wg 31) s f ya1 := by
      rcases hI with h | ⟨h1, h2, h3⟩
      · exact Or.inl h
      · refine Or.inr ⟨h1, dk_VS_x (fun i hi => (r5 i hi).symm) h2, fun r hr hv => ?_⟩
        rw [dk_rank_x r0 r5, dk_rank_x (a := dk_as r) (a' := dk_as r) r0 (fun _ _ => rfl)]
        exact h3 r hr hv
    have f1 : f ≤ 1 := by rcases hI with h | h <;> omega
    -- skip
    have skip : dk_YI (dk_VS kn nd ot le gr op wl wg 31) (s + 1) f ya1 → (∀ (post : Int32 → SY → Prop) n, wY_solve_12 post n (nI (s + 1)) (nI f) yb ys yn (dk_N kn) (dk_N nd) (dk_N ot) (dk_N le) (dk_N gr) (dk_N op) (dk_N ex) (dk_N it) (dk_N nm) (dk_N sh) (dk_W wl) yg (dk_T ya1) yr yl yq yo yt → wY_solve_12 post (n + 1) (nI s) (nI f) yb ys yn (dk_N kn) (dk_N nd) (dk_N ot) (dk_N le) (dk_N gr) (dk_N op) (dk_N ex) (dk_N it) (dk_N nm) (dk_N sh) (dk_W wl) yg (dk_T ya) yr yl yq yo yt) →
        ∃ (f' : Nat) (ya' : Nat → Nat), dk_YI (dk_VS kn nd ot le gr op wl wg 31) 1024 f' ya' ∧ (∀ i, ya' i < 4) ∧ (∀ i, i < 5 → ya' i = ya i) ∧ ∀ post : Int32 → SY → Prop, wY_solve_12 post 1 (nI 1024) (nI f') yb ys yn (dk_N kn) (dk_N nd) (dk_N ot) (dk_N le) (dk_N gr) (dk_N op) (dk_N ex) (dk_N it) (dk_N nm) (dk_N sh) (dk_W wl) yg (dk_T ya') yr yl yq yo yt → ∃ n, wY_solve_12 post n (nI s) (nI f) yb ys yn (dk_N kn) (dk_N nd) (dk_N ot) (dk_N le) (dk_N gr) (dk_N op) (dk_N ex) (dk_N it) (dk_N nm) (dk_N sh) (dk_W wl) yg (dk_T ya) yr yl yq yo yt := by
      intro I2 walk
      obtain ⟨f', ya', b1, b2, b3, b4⟩ := dk_yso12 hkn hnd hot hle hgr hop hwl hwg hyg hown d (s + 1) f ya1 (by omega) a1 I2
      refine ⟨f', ya', b1, b2, fun i hi => by rw [b3 i hi, r0 i hi], fun post h => ?_⟩
      obtain ⟨n, hn⟩ := b4 post h
      exact ⟨n + 1, walk post n hn⟩
    by_cases z : dk_VS kn nd ot le gr op wl wg 31 (dk_as s)
    · obtain ⟨z1, z2, z3⟩ := iff.mp z
      -- take
      have take : (∀ r, r < s → dk_VS kn nd ot le gr op wl wg 31 (dk_as r) → dk_rank ya1 (dk_as s) ≤ dk_rank ya1 (dk_as r)) → (∀ (post : Int32 → SY → Prop) n, (∃ n55, wY_solve_55 post (wY_solve_12 post n) (nI s) (nI f) yb ys yn n55 (nI 0) (dk_N kn) (dk_N nd) (dk_N ot) (dk_N le) (dk_N gr) (dk_N op) (dk_N ex) (dk_N it) (dk_N nm) (dk_N sh) (dk_W wl) yg (dk_T ya1) yr yl yq yo yt) → wY_solve_12 post (n + 1) (nI s) (nI f) yb ys yn (dk_N kn) (dk_N nd) (dk_N ot) (dk_N le) (dk_N gr) (dk_N op) (dk_N ex) (dk_N it) (dk_N nm) (dk_N sh) (dk_W wl) yg (dk_T ya) yr yl yq yo yt) →
          ∃ (f' : Nat) (ya' : Nat → Nat), dk_YI (dk_VS kn nd ot le gr op wl wg 31) 1024 f' ya' ∧ (∀ i, ya' i < 4) ∧ (∀ i, i < 5 → ya' i = ya i) ∧ ∀ post : Int32 → SY → Prop, wY_solve_12 post 1 (nI 1024) (nI f') yb ys yn (dk_N kn) (dk_N nd) (dk_N ot) (dk_N le) (dk_N gr) (dk_N op) (dk_N ex) (dk_N it) (dk_N nm) (dk_N sh) (dk_W wl) yg (dk_T ya') yr yl yq yo yt → ∃ n, wY_solve_12 post n (nI s) (nI f) yb ys yn (dk_N kn) (dk_N nd) (dk_N ot) (dk_N le) (dk_N gr) (dk_N op) (dk_N ex) (dk_N it) (dk_N nm) (dk_N sh) (dk_W wl) yg (dk_T ya) yr yl yq yo yt := by
        intro hr walk
        obtain ⟨ya2, c1, c2, c3, c4⟩ := dk_yso55 (yb := yb) (ys := ys) (yn := yn) (kn := kn) (nd := nd) (ot := ot) (le := le) (gr := gr) (op := op) (it := it) (nm := nm) (sh := sh) (ex := ex) (wl := wl) (yg := yg) (yr := yr) (yl := yl) (yq := yq) (yo := yo) (yt := yt) (yp := nI f) hs' 5 0 ya1 rfl a1 (fun i hi => absurd hi (Nat.not_lt_zero _))
        have e2 : ∀ i, i < 5 → ya2 (5 + i) = dk_as s i := fun i hi => by rw [c2 i hi, a2 i hi]
        obtain ⟨f', ya', b1, b2, b3, b4⟩ := dk_yso12 hkn hnd hot hle hgr hop hwl hwg hyg hown d (s + 1) 1 ya2 (by omega) c1 (Or.inr ⟨rfl, dk_VS_x (fun i hi => (e2 i hi).symm) z, fun r hr' hv => by
          rw [dk_rank_x c3 e2, dk_rank_x (a := dk_as r) (a' := dk_as r) c3 (fun _ _ => rfl)]
          by_cases e : r = s
          · subst e; exact Nat.le_refl _
          · exact hr r (by omega) hv⟩)
        refine ⟨f', ya', b1, b2, fun i hi => by rw [b3 i hi, c3 i hi, r0 i hi], fun post h => ?_⟩
        obtain ⟨n, hn⟩ := b4 post h
        exact ⟨n + 1, walk post n (c4 post _ hn)⟩
      rcases I1 with ⟨h1, h2⟩ | ⟨h1, h2, h3⟩
      · refine take (fun r hr hv => absurd hv (h2 r hr)) (fun post n hn => br_f (by rw [dk_le1024 (by omega)]; omega) (a4 _ ?_))
        rw [dk_bT' ⟨z1, z2⟩]
        refine br_f (by decide) (dk_yme (wg := wg) (set := 31) (by omega) a1 hwl hwg hyg _ (fun _ => br_f (by decide) ?_) (fun y => absurd ((dk_yMe_x a2).mpr z3) y))
        exact br_t (by rw [h1]; rfl) hn
      · have e10 : dk_rank ya1 (fun p => ya1 (10 + p)) = dk_rank ya1 (dk_as s) := dk_rank_x (fun _ _ => rfl) a2
        by_cases y : dk_rank ya1 (fun p => ya1 (10 + p)) < dk_rank ya1 (fun p => ya1 (5 + p))
        · refine take (fun r hr hv => by have := h3 r hr hv; omega) (fun post n hn => br_f (by rw [dk_le1024 (by omega)]; omega) (a4 _ ?_))
          rw [dk_bT' ⟨z1, z2⟩]
          refine br_f (by decide) (dk_yme (wg := wg) (set := 31) (by omega) a1 hwl hwg hyg _ (fun _ => br_f (by decide) ?_) (fun y => absurd ((dk_yMe_x a2).mpr z3) y))
          exact br_f (by rw [h1]; decide) (dk_yb a1 _ (fun _ => br_f (by decide) hn) (fun w => absurd y w))
        · refine skip (Or.inr ⟨h1, h2, fun r hr hv => ?_⟩) (fun post n hn => br_f (by rw [dk_le1024 (by omega)]; omega) (a4 _ ?_))
          · by_cases e : r = s
            · subst e; omega
            · exact h3 r (by omega) hv
          · rw [dk_bT' ⟨z1, z2⟩]
            refine br_f (by decide) (dk_yme (wg := wg) (set := 31) (by omega) a1 hwl hwg hyg _ (fun _ => br_f (by decide) ?_) (fun y => absurd ((dk_yMe_x a2).mpr z3) y))
            exact br_f (by rw [h1]; decide) (dk_yb a1 _ (fun w => absurd w y) (fun _ => br_t rfl (nm_r (nI_1 s) hn)))
    · refine skip ?_ (fun post n hn => br_f (by rw [dk_le1024 (by omega)]; omega) (a4 _ ?_))
      · rcases I1 with ⟨h1, h2⟩ | ⟨h1, h2, h3⟩
        · refine Or.inl ⟨h1, fun r hr => ?_⟩
          by_cases e : r = s
          · subst e; exact z
          · exact h2 r (by omega)
        · refine Or.inr ⟨h1, h2, fun r hr hv => ?_⟩
          by_cases e : r = s
          · subst e; exact absurd hv z
          · exact h3 r (by omega) hv
      · by_cases y : dk_Kn kn (dk_as s) 5 ∧ dk_So nd ot le gr op (dk_as s) 0
        · rw [dk_bT' y]
          exact br_f (by decide) (dk_yme (wg := wg) (set := 31) (by omega) a1 hwl hwg hyg _ (fun w => absurd (iff.mpr ⟨y.1, y.2, (dk_yMe_x a2).mp w⟩) z) (fun _ => br_t rfl (nm_r (nI_1 s) hn)))
        · rw [dk_bF' y]
          exact br_t rfl (nm_r (nI_1 s) hn)
theorem dk_yso112 (hya : ∀ i, ya i < 4) (post : Int32 → SY → Prop) (h : post (nI (dk_cc ya (fun p => ya (5 + p)) 5)) (yp, yb, ys, yn, (dk_N kn), (dk_N nd), (dk_N ot), (dk_N le), (dk_N gr), (dk_N op), (dk_N ex), (dk_N it), (dk_N nm), (dk_N sh), (dk_W wl), yg, (dk_T ya), yr, yl, yq, yo, yt)) : ∀ d j, j + d = 5 → ∃ n, wY_solve_112 post yp yb ys yn (dk_N kn) (dk_N nd) (dk_N ot) (dk_N le) (dk_N gr) (dk_N op) (dk_N ex) (dk_N it) (dk_N nm) (dk_N sh) (dk_W wl) yg (dk_T ya) yr yl yq yo yt n (nI (dk_cc ya (fun p => ya (5 + p)) j)) (nI j)
  | 0, j, hj => by
    have : j = 5 := by omega
    subst this
    exact ⟨1, br_t (by decide) h⟩
  | d + 1, j, hj => by
    obtain ⟨n, hn⟩ := dk_yso112 hya post h d (j + 1) (by omega)
    have a4 := hya (5 + j)
    have t4 := hya j
    rw [dk_cc] at hn
    refine ⟨n + 1, ?_⟩
    simp (disch := omega) only [wY_solve_112, nI_clamp, dk_Na, dk_Ta, dk_Wa, dk_m2, dk_m3, dk_m4, dk_m5, dk_m6, dk_a5, dk_a10, nI_add, nI_1, nI_leI, nI_ltI, nI_eq, dk_le3, dk_le5, dk_le6, dk_le16, dk_le20, dk_le25, dk_le32, dk_le36, dk_le1024, dk_lt0, dk_ge0, dk_lez, dk_eq0, dk_eq1, dk_eq4, dk_eq6, dk_tneg, dk_tpos, dk_teq, dk_tle]
    refine br_f (by omega) ⟨vp_in_nI (by omega) (by omega), vp_in_nI (by omega) (by omega), br_c (fun z => nm_e ?_) (fun z => nm_e (nm_e ?_))⟩
    · rw [if_pos z.symm] at hn; exact hn
    · rw [if_neg (fun y => z y.symm)] at hn; exact hn
theorem dk_ysolve {wg : Nat → Nat} (hkn : ∀ x, kn x ≤ 1) (hnd : ∀ x, nd x ≤ 4) (hot : ∀ k, ot k < 5) (hle : ∀ k, le k ≤ 2) (hgr : ∀ k, gr k ≤ 2) (hop : ∀ k, op k ≤ 1) (hwl : ∀ p, wl p ≤ 4) (hwg : ∀ p, wg p ≤ 2) (hyg : ∀ p, p < 5 → 2 ≤ wl p → yg p = nI (wg p)) (hown : ∀ x k, x < 15 → k < nd x → ot (4 * x + k) ≠ x / 3) (hya : ∀ i, ya i < 4) :
    (∃ ya' : Nat → Nat, dk_VS kn nd ot le gr op wl wg 31 (fun p => ya' (5 + p)) ∧ (∀ a', dk_VS kn nd ot le gr op wl wg 31 a' → dk_rank ya (fun p => ya' (5 + p)) ≤ dk_rank ya a') ∧ (∀ i, ya' i < 4) ∧ (∀ i, i < 5 → ya' i = ya i) ∧
      ∀ post : Int32 → SY → Prop, post (nI (dk_cc ya (fun p => ya' (5 + p)) 5)) (1, 0, ys, yn, (dk_N kn), (dk_N nd), (dk_N ot), (dk_N le), (dk_N gr), (dk_N op), (dk_N ex), (dk_N it), (dk_N nm), (dk_N sh), (dk_W wl), yg, (dk_T ya'), yr, yl, yq, yo, yt) → wpY_solve post (yp, yb, ys, yn, (dk_N kn), (dk_N nd), (dk_N ot), (dk_N le), (dk_N gr), (dk_N op), (dk_N ex), (dk_N it), (dk_N nm), (dk_N sh), (dk_W wl), yg, (dk_T ya), yr, yl, yq, yo, yt)) ∨
    ((¬ ∃ a, dk_VS kn nd ot le gr op wl wg 31 a) ∧ ∃ (f r : Nat) (ya' : Nat → Nat), dk_Bl (dk_U kn nd ot le gr op wl wg) (dk_m (fun p => decide (wl p ≠ 0)) 5) 32 f r ∧ (∀ i, ya' i < 4) ∧ (∀ i, i < 5 → ya' i = ya i) ∧
      ∀ post : Int32 → SY → Prop, post (-3) (0, (nI r), ys, yn, (dk_N kn), (dk_N nd), (dk_N ot), (dk_N le), (dk_N gr), (dk_N op), (dk_N ex), (dk_N it), (dk_N nm), (dk_N sh), (dk_W wl), yg, (dk_T ya'), yr, yl, yq, yo, yt) → wpY_solve post (yp, yb, ys, yn, (dk_N kn), (dk_N nd), (dk_N ot), (dk_N le), (dk_N gr), (dk_N op), (dk_N ex), (dk_N it), (dk_N nm), (dk_N sh), (dk_W wl), yg, (dk_T ya), yr, yl, yq, yo, yt)) := by
  obtain ⟨f, ya1, b1, b2, b3, b4⟩ := dk_yso12 (ys := ys) (yn := yn) (kn := kn) (nd := nd) (ot := ot) (le := le) (gr := gr) (op := op) (it := it) (nm := nm) (sh := sh) (ex := ex) (wl := wl) (yg := yg) (yr := yr) (yl := yl) (yq := yq) (yo := yo) (yt := yt) (yb := 0) (wg := wg) hkn hnd hot hle hgr hop hwl hwg hyg hown 1024 0 0 ya rfl hya (Or.inl ⟨rfl, fun r hr => absurd hr (Nat.not_lt_zero _)⟩)
  rcases b1 with ⟨h1, h2⟩ | ⟨h1, h2, h3⟩
  · subst h1
    obtain ⟨f, r, ya', c1, c2, c3, c4⟩ := dk_yfbl (ys := ys) (yn := yn) (kn := kn) (nd := nd) (ot := ot) (le := le) (gr := gr) (op := op) (it := it) (nm := nm) (sh := sh) (ex := ex) (wl := wl) (yg := yg) (yr := yr) (yl := yl) (yq := yq) (yo := yo) (yt := yt) (yp := 0) (ya := ya1) (wg := wg) hkn hnd hot hle hgr hop hwl hwg hyg hown b2
    refine Or.inr ⟨fun ⟨a, ha⟩ => ?_, f, r, ya', c1, c2, fun i hi => by rw [c3 i (by omega), b3 i hi], fun post h => b4 post ?_⟩
    · obtain ⟨s, hs, e⟩ := dk_as_ex ha.1
      exact h2 s hs (dk_VS_x (fun i hi => (e i hi).symm) ha)
    · exact br_t (by decide) (br_t rfl (c4 _ h))
  · subst h1
    have rk : ∀ a, dk_rank ya1 a = dk_rank ya a := fun a => dk_rank_x b3 (fun _ _ => rfl)
    refine Or.inl ⟨ya1, h2, fun a' ha' => ?_, b2, b3, fun post h => b4 post ?_⟩
    · obtain ⟨s, hs, e⟩ := dk_as_ex ha'.1
      have := h3 s hs (dk_VS_x (fun i hi => (e i hi).symm) ha')
      rw [rk, dk_rank_x (a := dk_as s) (a' := a') b3 e] at this
      exact this
    · refine br_t (by decide) (br_f (by decide) ?_)
      refine dk_yso112 (ys := ys) (yn := yn) (kn := kn) (nd := nd) (ot := ot) (le := le) (gr := gr) (op := op) (it := it) (nm := nm) (sh := sh) (ex := ex) (wl := wl) (yg := yg) (yr := yr) (yl := yl) (yq := yq) (yo := yo) (yt := yt) (yp := 1) (yb := 0) (ya := ya1) b2 post ?_ 5 0 rfl
      rw [dk_cc_t b3]; exact h
end
-- the two solvers agree
theorem dk_best_u {kn nd ot le gr op wl wg th ya a b : Nat → Nat} (ht : ∀ i, i < 5 → th i = ya i) (ha : dk_VS kn nd ot le gr op wl wg 31 a) (ha' : ∀ a', dk_VS kn nd ot le gr op wl wg 31 a' → dk_rank th a ≤ dk_rank th a') (hb : dk_VS kn nd ot le gr op wl wg 31 b) (hb' : ∀ a', dk_VS kn nd ot le gr op wl wg 31 a' → dk_rank ya b ≤ dk_rank ya a') : ∀ i, i < 5 → a i = b i := by
  apply dk_rank_u (th := th) ha.1 hb.1
  have h1 := ha' b hb
  have h2 := hb' a ha
  rw [← dk_rank_x ht (fun _ _ => rfl), ← dk_rank_x (a := a) ht (fun _ _ => rfl)] at h2
  omega
theorem dk_blame_u {kn nd ot le gr op wl wg : Nat → Nat} {r r' f : Nat} (h31 : ¬ ∃ a, dk_VS kn nd ot le gr op wl wg 31 a) (hr : r < 32)
    (hX : (∃ m, 1 ≤ m ∧ m < 32 ∧ dk_U kn nd ot le gr op wl wg m) → 1 ≤ r ∧ dk_U kn nd ot le gr op wl wg r ∧ ∀ m, 1 ≤ m → m < 32 → dk_U kn nd ot le gr op wl wg m → 32 * dk_ones r + r ≤ 32 * dk_ones m + m)
    (hY : dk_Bl (dk_U kn nd ot le gr op wl wg) (dk_m (fun p => decide (wl p ≠ 0)) 5) 32 f r') : r = r' := by
  obtain ⟨x1, x2, x3⟩ := hX ⟨31, by omega, by omega, h31⟩
  have U0 : ¬ dk_U kn nd ot le gr op wl wg 0 := fun h => h ⟨fun _ => 0, fun _ _ => by show 0 < 4; omega, fun i _ => ⟨fun h => absurd h (Nat.lt_irrefl 0), fun h => absurd h (by simp)⟩, fun i j _ _ _ h => absurd h (Nat.lt_irrefl 0)⟩
  -- the blamed of X are wanting
  have sub : dk_dif r (dk_m (fun p => decide (wl p ≠ 0)) 5) = 0 := by
    apply dk_bx (dk_difL _ _ hr) (by omega)
    intro p hp
    rw [dk_difB _ _ hr, dk_mB, Nat.zero_testBit]
    by_cases z : r.testBit p = true
    · by_cases y : wl p = 0
      · exfalso
        have Um : dk_U kn nd ot le gr op wl wg (dk_dif r (2 ^ p)) := fun ⟨a, h1, h2, h3⟩ => x2 ⟨a, h1, fun i hi => by
          have := h2 i hi
          dsimp only at this ⊢
          rw [dk_difB _ _ hr, dk_tp2] at this
          by_cases e : p = i
          · subst e; exact ⟨this.1, fun _ => ⟨fun w => by omega, fun w => by omega⟩⟩
          · simpa [e] using this, h3⟩
        have o := dk_onesC r hr p hp z
        have m1 : 1 ≤ dk_dif r (2 ^ p) := by
          rcases Nat.eq_zero_or_pos (dk_dif r (2 ^ p)) with e | e
          · rw [e] at Um; exact absurd Um U0
          · exact e
        have := x3 _ m1 (dk_difL _ _ hr) Um
        have := dk_difL r (2 ^ p) hr
        omega
      · simp [hp, y]
    · have : r.testBit p = false := by simpa using z
      rw [this]; rfl
  rcases hY with ⟨_, _, c⟩ | ⟨a, b, c, d, e⟩
  · exact absurd x2 (c r hr sub)
  · have y1 := e r hr sub x2
    have r1 : 1 ≤ r' := by
      rcases Nat.eq_zero_or_pos r' with e | e
      · rw [e] at d; exact absurd d U0
      · exact e
    have y2 := x3 r' r1 b d
    omega
end
section
-- what was noted
def dk_xno (s : Nat × (Nat → Int32)) (w : Nat) : Nat × (Nat → Int32) := (if s.1 + 1 = 32 then 16 else s.1 + 1, upd s.2 (s.1 % 16) (nI w))
def dk_yno (s : Nat × (Nat → Int32)) (w : Nat) : Nat × (Nat → Int32) := (if 16 ≤ s.1 then s.1 else s.1 + 1, fun k => if k = 0 then nI w else if k < 16 then s.2 (k - 1) else s.2 k)
def dk_NR (x y : Nat × (Nat → Int32)) : Prop := x.1 < 32 ∧ (x.1 < 16 → y.1 = x.1) ∧ (16 ≤ x.1 → y.1 = 16) ∧ ∀ k, k < y.1 → x.2 ((x.1 - 1 - k) % 16) = y.2 k
theorem dk_NR_s {x y : Nat × (Nat → Int32)} (h : dk_NR x y) (w : Nat) : dk_NR (dk_xno x w) (dk_yno y w) := by
  obtain ⟨c, nt⟩ := x
  obtain ⟨m, yo⟩ := y
  obtain ⟨h1, h2, h3, h4⟩ := h
  dsimp only at h1 h2 h3 h4
  unfold dk_xno dk_yno
  refine ⟨?_, ?_, ?_, ?_⟩
  · dsimp only; split <;> omega
  · dsimp only; intro a; split at a <;> split <;> omega
  · dsimp only; intro a; split at a <;> split <;> omega
  · dsimp only
    intro k hk
    have hk16 : k < 16 := by split at hk <;> omega
    by_cases z : k = 0
    · subst z
      rw [if_pos rfl]
      have : ((if c + 1 = 32 then 16 else c + 1) - 1 - 0) % 16 = c % 16 := by split <;> omega
      rw [this, pk_us]
    · rw [if_neg z, if_pos hk16]
      have e1 : k - 1 < m := by split at hk <;> omega
      have e2 : ((if c + 1 = 32 then 16 else c + 1) - 1 - k) % 16 = (c - 1 - (k - 1)) % 16 := by
        have : k ≤ c := by omega
        split <;> omega
      have e3 : (c - 1 - (k - 1)) % 16 ≠ c % 16 := by
        have : k ≤ c := by omega
        omega
      rw [e2, pk_un e3]
      exact h4 (k - 1) e1
theorem dk_NR_f : ∀ (l : List Nat) {x y : Nat × (Nat → Int32)}, dk_NR x y → dk_NR (l.foldl dk_xno x) (l.foldl dk_yno y)
  | [], _, _, h => h
  | w :: l, _, _, h => dk_NR_f l (dk_NR_s h w)
theorem dk_xno_L (s : Nat × (Nat → Int32)) (h : s.1 < 32) (w : Nat) : (dk_xno s w).1 < 32 := by
  unfold dk_xno; dsimp only; split <;> omega
theorem dk_xnf_L : ∀ (l : List Nat) (s : Nat × (Nat → Int32)), s.1 < 32 → (l.foldl dk_xno s).1 < 32
  | [], _, h => h
  | w :: l, s, h => dk_xnf_L l _ (dk_xno_L s h w)
theorem dk_yno_L (s : Nat × (Nat → Int32)) (h : s.1 ≤ 16) (w : Nat) : (dk_yno s w).1 ≤ 16 := by
  unfold dk_yno; dsimp only; split <;> omega
section
variable {pr bl na sc fa st no : Int32} {kn nd ot le gr op it nm sh ex wl wg th : Nat → Nat} {re rd od on : Nat → Int32} {wh : Nat → Int64} {ss rf wi lv dm ch cg my sp fA fS nt : Nat → Int32}
theorem dk_xnt {s : Nat × (Nat → Int32)} {w : Nat} (hc : s.1 < 32) (hw : w < 128) (post : SX → Prop) (h : post (pr, bl, na, sc, fa, st, (nI (dk_xno s w).1), (dk_N kn), (dk_N nd), (dk_N (dk_E ot le gr op)), (dk_N it), (dk_N nm), (dk_N sh), (dk_N ex), (dk_W wl), (dk_N wg), (dk_T th), re, rd, od, on, wh, ss, rf, wi, lv, dm, ch, cg, my, sp, fA, fS, ((dk_xno s w).2))) : wpX_note post (pr, bl, na, sc, fa, st, (nI s.1), (dk_N kn), (dk_N nd), (dk_N (dk_E ot le gr op)), (dk_N it), (dk_N nm), (dk_N sh), (dk_N ex), (dk_W wl), (dk_N wg), (dk_T th), re, rd, od, on, wh, ss, rf, wi, lv, dm, ch, cg, my, sp, fA, fS, s.2) (nI w) := by
  have e1 : nI s.1 &&& 15 = nI (s.1 % 16) := pk_andN (n := s.1) (by omega) 4 (by decide)
  have e32 : nI (s.1 + 1) = 32 ↔ s.1 + 1 = 32 := nI_eq (b := 32) (by omega) (by omega)
  unfold dk_xno at h
  dsimp only at h
  simp only [wpX_note]
  rw [e1, nI_clamp (by omega), dk_vbb hw]
  refine nm_r (nI_1 _) ⟨vp_in_nI (by omega) (by omega), nm_e ?_⟩
  rw [e32]
  refine br_c (fun z => ?_) (fun z => ?_)
  · rw [if_pos z] at h; exact h
  · rw [if_neg z] at h; exact h
end
section
variable {yp yb ys yn : Int32} {kn nd ot le gr op it nm sh ex wl ya : Nat → Nat} {yg yr yl yq yo yt : Nat → Int32}
theorem dk_ynt3 {m w : Nat} (hm : m ≤ 16) (post : SY → Prop) {yo0 : Nat → Int32} (h : post (yp, yb, ys, (nI (dk_yno (m, yo0) w).1), (dk_N kn), (dk_N nd), (dk_N ot), (dk_N le), (dk_N gr), (dk_N op), (dk_N ex), (dk_N it), (dk_N nm), (dk_N sh), (dk_W wl), yg, (dk_T ya), yr, yl, yq, ((dk_yno (m, yo0) w).2), yt)) : ∀ j (yo : Nat → Int32), j ≤ 15 → (∀ k, k ≤ j → yo k = yo0 k) → (∀ k, j < k → k < 16 → yo k = yo0 (k - 1)) → (∀ k, 16 ≤ k → yo k = yo0 k) →
    ∃ n, wY_note_3 post (nI w) yp yb ys (nI m) n (nI j) (dk_N kn) (dk_N nd) (dk_N ot) (dk_N le) (dk_N gr) (dk_N op) (dk_N ex) (dk_N it) (dk_N nm) (dk_N sh) (dk_W wl) yg (dk_T ya) yr yl yq yo yt
  | 0, yo, hj, h1, h2, h3 => by
    have e : upd yo 0 (nI w) = (dk_yno (m, yo0) w).2 := by
      funext k
      unfold dk_yno upd
      dsimp only
      by_cases z : k = 0
      · rw [if_pos z, if_pos z]
      · rw [if_neg z, if_neg z]
        by_cases y : k < 16
        · rw [if_pos y]; exact h2 k (by omega) y
        · rw [if_neg y]; exact h3 k (by omega)
    refine ⟨1, br_t (by decide) (nm_r e ?_)⟩
    rw [dk_le16 (by omega)]
    unfold dk_yno at h ⊢
    dsimp only at h ⊢
    refine br_c (fun z => ?_) (fun z => nm_r (nI_1 m) ?_)
    · rw [if_pos z] at h; exact h
    · rw [if_neg z] at h; exact h
  | j + 1, yo, hj, h1, h2, h3 => by
    obtain ⟨n, hn⟩ := dk_ynt3 hm post h j (upd yo (j + 1) (yo j)) (by omega) (fun k hk => by rw [pk_un (by omega)]; exact h1 k (by omega)) (fun k hk hk' => by
      by_cases e : k = j + 1
      · subst e; rw [pk_us]; exact h1 j (by omega)
      · rw [pk_un e]; exact h2 k (by omega) hk') (fun k hk => by rw [pk_un (by omega)]; exact h3 k hk)
    refine ⟨n + 1, br_f (by rw [dk_lez (by omega)]; omega) ?_⟩
    have e : nI (j + 1) - 1 = nI j := by rw [nI_succ, Int32.add_sub_cancel]
    rw [e, nI_clamp (by omega), nI_clamp (by omega), pk_m1]
    exact ⟨vp_in_nI (by omega) (by omega), vp_in_nI (by omega) (by omega), nm_e (nm_e hn)⟩
theorem dk_ynt {s : Nat × (Nat → Int32)} {w : Nat} (hm : s.1 ≤ 16) (post : SY → Prop) (h : post (yp, yb, ys, (nI (dk_yno s w).1), (dk_N kn), (dk_N nd), (dk_N ot), (dk_N le), (dk_N gr), (dk_N op), (dk_N ex), (dk_N it), (dk_N nm), (dk_N sh), (dk_W wl), yg, (dk_T ya), yr, yl, yq, ((dk_yno s w).2), yt)) : wpY_note post (yp, yb, ys, (nI s.1), (dk_N kn), (dk_N nd), (dk_N ot), (dk_N le), (dk_N gr), (dk_N op), (dk_N ex), (dk_N it), (dk_N nm), (dk_N sh), (dk_W wl), yg, (dk_T ya), yr, yl, yq, s.2, yt) (nI w) :=
  dk_ynt3 hm post (yo0 := s.2) h 15 s.2 (Nat.le_refl _) (fun _ _ => rfl) (fun k a b => by omega) (fun _ _ => rfl)
theorem dk_ybi {m : Nat} (hm : m < 32) (post : Int32 → Prop) (h : post (nI (dk_ones m))) : wpY_bits post (nI m) := by
  have key : ∀ d j, j + d = 5 → ∃ n, wY_bits_4 post (nI m) n (nI (dk_on m j)) (nI j) := by
    intro d
    induction d with
    | zero =>
      intro j hj
      have : j = 5 := by omega
      subst this
      rw [dk_on5]
      exact ⟨1, br_t (by decide) h⟩
    | succ d ih =>
      intro j hj
      obtain ⟨n, hn⟩ := ih (j + 1) (by omega)
      refine ⟨n + 1, br_f (by rw [dk_le5 (by omega)]; omega) (nm_r ?_ (nm_r (nI_1 j) hn))⟩
      rw [dk_bit (by omega) (by omega), nI_add]; rfl
  exact key 5 0 rfl
end
-- stops and starts
noncomputable def dk_eS (ad : Nat → List Nat) (sm p : Nat) : Nat := (dk_rdM ad p ||| 2 ^ p) &&& sm
noncomputable def dk_eL (ad : Nat → List Nat) (sm p : Nat) : List Nat := (dk_ord (dk_R ad) true (dk_eS ad sm p)).map (fun q => 2 * q)
noncomputable def dk_bS (ad : Nat → List Nat) (sm p : Nat) : Nat := dk_dif (dk_reM ad p ||| 2 ^ p) sm
noncomputable def dk_bL (ad : Nat → List Nat) (sm p : Nat) : List Nat := (dk_ord (dk_R ad) false (dk_bS ad sm p)).map (fun q => 2 * q + 1)
theorem dk_eSL {ad : Nat → List Nat} {sm p : Nat} (hs : sm < 32) : dk_eS ad sm p < 32 := Nat.lt_of_le_of_lt Nat.and_le_right hs
theorem dk_bSL {ad : Nat → List Nat} {sm p : Nat} (hp : p < 5) : dk_bS ad sm p < 32 := dk_difL _ _ (dk_orL (dk_reL _ _) (dk_p2 p hp))
theorem dk_eSB {ad : Nat → List Nat} {sm p q : Nat} (hq : q < 5) : (dk_eS ad sm p).testBit q = true ↔ (q = p ∨ dk_R ad q p) ∧ sm.testBit q = true := by
  unfold dk_eS
  rw [Nat.testBit_and, Nat.testBit_or, dk_tp2, Bool.and_eq_true, Bool.or_eq_true, dk_rdB hq, decide_eq_true_iff]
  constructor
  · rintro ⟨h | h, h'⟩
    · exact ⟨Or.inr h.2, h'⟩
    · exact ⟨Or.inl h.symm, h'⟩
  · rintro ⟨h | h, h'⟩
    · exact ⟨Or.inr h.symm, h'⟩
    · by_cases e : q = p
      · exact ⟨Or.inr e.symm, h'⟩
      · exact ⟨Or.inl ⟨e, h⟩, h'⟩
theorem dk_bSB {ad : Nat → List Nat} {sm p q : Nat} (hp : p < 5) (hq : q < 5) : (dk_bS ad sm p).testBit q = true ↔ (q = p ∨ dk_R ad p q) ∧ ¬ sm.testBit q = true := by
  unfold dk_bS
  rw [dk_difB _ _ (dk_orL (dk_reL _ _) (dk_p2 p hp)), Nat.testBit_or, dk_tp2, Bool.and_eq_true, Bool.or_eq_true, dk_reB hq, decide_eq_true_iff]
  have e : ((!sm.testBit q) = true) ↔ ¬ sm.testBit q = true := by cases sm.testBit q <;> decide
  rw [e]
  constructor
  · rintro ⟨h | h, h'⟩
    · exact ⟨Or.inr h.2, h'⟩
    · exact ⟨Or.inl h.symm, h'⟩
  · rintro ⟨h | h, h'⟩
    · exact ⟨Or.inr h.symm, h'⟩
    · by_cases e : q = p
      · exact ⟨Or.inr e.symm, h'⟩
      · exact ⟨Or.inl ⟨e, h⟩, h'⟩
end
section
/-- the tables are right wherever they are marked so (of the proposal only while there is one) -/
def dk_TI (nd ot it nm sh ex th : Nat → Nat) (pp : Prop) (wi re rd : Nat → Int32) (wh : Nat → Int64) (ss rf : Nat → Int32) : Prop :=
  (¬ wi 0 = 0 → dk_Wi nd ot it nm sh ex (fun p => th (5 * 0 + p)) 0 re rd wh ss rf) ∧ (pp → ¬ wi 1 = 0 → dk_Wi nd ot it nm sh ex (fun p => th (5 * 1 + p)) 1 re rd wh ss rf)
def dk_Cx (nd ot le gr op it nm sh ex th : Nat → Nat) : Prop := (∀ x, nd x ≤ 4) ∧ (∀ k, ot k < 5) ∧ (∀ k, le k ≤ gr k) ∧ (∀ k, gr k ≤ 2) ∧ (∀ k, op k ≤ 1) ∧ (∀ i, th i < 4) ∧ (∀ x, it x ≤ 6) ∧ (∀ k, nm k < 12) ∧ (∀ k, sh k < 4) ∧ (∀ k, ex k ≤ 1) ∧ dk_Un it nm ex
section
variable {pr bl na sc fa st no : Int32} {kn nd ot le gr op it nm sh ex wl wg th : Nat → Nat} {re rd od on : Nat → Int32} {wh : Nat → Int64} {ss rf wi lv dm ch cg my sp fA fS nt : Nat → Int32}
theorem dk_xwT {s : Nat} {pp : Prop} (hs : s = 0 ∨ (s = 1 ∧ pp)) (hC : dk_Cx nd ot le gr op it nm sh ex th) (hT : dk_TI nd ot it nm sh ex th pp wi re rd wh ss rf) :
    ∃ (re' rd' od' on' : Nat → Int32) (wh' : Nat → Int64) (ss' rf' wi' : Nat → Int32), dk_TI nd ot it nm sh ex th pp wi' re' rd' wh' ss' rf' ∧ dk_Wi nd ot it nm sh ex (fun p => th (5 * s + p)) s re' rd' wh' ss' rf' ∧
    ∀ post : SX → Prop, post (pr, bl, na, sc, fa, st, no, (dk_N kn), (dk_N nd), (dk_N (dk_E ot le gr op)), (dk_N it), (dk_N nm), (dk_N sh), (dk_N ex), (dk_W wl), (dk_N wg), (dk_T th), re', rd', od', on', wh', ss', rf', wi', lv, dm, ch, cg, my, sp, fA, fS, nt) → wpX_wire post (pr, bl, na, sc, fa, st, no, (dk_N kn), (dk_N nd), (dk_N (dk_E ot le gr op)), (dk_N it), (dk_N nm), (dk_N sh), (dk_N ex), (dk_W wl), (dk_N wg), (dk_T th), re, rd, od, on, wh, ss, rf, wi, lv, dm, ch, cg, my, sp, fA, fS, nt) (nI s) := by
  obtain ⟨hnd, hot, hlg, hgr, hop, hth, hit, hnm, hsh, hex, hun⟩ := hC
  have hle : ∀ k, le k ≤ 2 := fun k => Nat.le_trans (hlg k) (hgr k)
  have s1 : s ≤ 1 := by rcases hs with h | h <;> omega
  obtain ⟨re1, rd1, od1, on1, wh1, ss1, rf1, wi1, a1, a2, a3, a4, a5, a6, a7, a8, a9⟩ := dk_xwi (pr := pr) (bl := bl) (na := na) (sc := sc) (fa := fa) (st := st) (no := no) (kn := kn) (nd := nd) (ot := ot) (le := le) (gr := gr) (op := op) (it := it) (nm := nm) (sh := sh) (ex := ex) (wl := wl) (wg := wg) (th := th) (re := re) (rd := rd) (od := od) (on := on) (wh := wh) (ss := ss) (rf := rf) (wi := wi) (lv := lv) (dm := dm) (ch := ch) (cg := cg) (my := my) (sp := sp) (fA := fA) (fS := fS) (nt := nt) (s := s) s1 hnd hot hle hgr hop hth hit hnm hsh hex (by
    rcases hs with h | h
    · subst h; exact hT.1
    · have := h.1; subst this; exact hT.2 h.2)
  refine ⟨re1, rd1, od1, on1, wh1, ss1, rf1, wi1, ?_, a1, a9⟩
  rcases hs with h | h
  · subst h
    refine ⟨fun _ => a1, fun hp hw => ?_⟩
    rw [a3 1 (by omega)] at hw
    exact dk_Wi_f (by omega) (hT.2 hp hw) a4 a5 a6 a7 a8
  · have e := h.1
    subst e
    refine ⟨fun hw => ?_, fun _ _ => a1⟩
    rw [a3 0 (by omega)] at hw
    exact dk_Wi_f (by omega) (hT.1 hw) a4 a5 a6 a7 a8
theorem dk_xaT {s set : Nat} {pp : Prop} (hs : s = 0 ∨ (s = 1 ∧ pp)) (hset : set < 32) (hC : dk_Cx nd ot le gr op it nm sh ex th) (hT : dk_TI nd ot it nm sh ex th pp wi re rd wh ss rf) :
    ∃ (re' rd' od' on' : Nat → Int32) (wh' : Nat → Int64) (ss' rf' wi' fA' fS' : Nat → Int32), dk_TI nd ot it nm sh ex th pp wi' re' rd' wh' ss' rf' ∧ dk_Wi nd ot it nm sh ex (fun p => th (5 * s + p)) s re' rd' wh' ss' rf' ∧ dk_rep2 fA' fS' (dk_fs nd ot it nm sh ex (fun p => th (5 * s + p)) set 5 0) ∧
    ∀ post : SX → Prop, post (pr, bl, na, sc, (nI (dk_fs nd ot it nm sh ex (fun p => th (5 * s + p)) set 5 0).length), st, no, (dk_N kn), (dk_N nd), (dk_N (dk_E ot le gr op)), (dk_N it), (dk_N nm), (dk_N sh), (dk_N ex), (dk_W wl), (dk_N wg), (dk_T th), re', rd', od', on', wh', ss', rf', wi', lv, dm, ch, cg, my, sp, fA', fS', nt) → wpX_audit post (pr, bl, na, sc, fa, st, no, (dk_N kn), (dk_N nd), (dk_N (dk_E ot le gr op)), (dk_N it), (dk_N nm), (dk_N sh), (dk_N ex), (dk_W wl), (dk_N wg), (dk_T th), re, rd, od, on, wh, ss, rf, wi, lv, dm, ch, cg, my, sp, fA, fS, nt) (nI s) (nI set) := by
  obtain ⟨hnd, hot, hlg, hgr, hop, hth, hit, hnm, hsh, hex, hun⟩ := hC
  have hle : ∀ k, le k ≤ 2 := fun k => Nat.le_trans (hlg k) (hgr k)
  have s1 : s ≤ 1 := by rcases hs with h | h <;> omega
  obtain ⟨re1, rd1, od1, on1, wh1, ss1, rf1, wi1, fA1, fS1, b1, a1, a2, a3, a4, a5, a6, a7, a8, a9⟩ := dk_xau (pr := pr) (bl := bl) (na := na) (sc := sc) (fa := fa) (st := st) (no := no) (kn := kn) (nd := nd) (ot := ot) (le := le) (gr := gr) (op := op) (it := it) (nm := nm) (sh := sh) (ex := ex) (wl := wl) (wg := wg) (th := th) (re := re) (rd := rd) (od := od) (on := on) (wh := wh) (ss := ss) (rf := rf) (wi := wi) (lv := lv) (dm := dm) (ch := ch) (cg := cg) (my := my) (sp := sp) (fA := fA) (fS := fS) (nt := nt) (s := s) s1 hset hnd hot hle hgr hop hth hit hnm hsh hex hun (by
    rcases hs with h | h
    · subst h; exact hT.1
    · have := h.1; subst this; exact hT.2 h.2)
  refine ⟨re1, rd1, od1, on1, wh1, ss1, rf1, wi1, fA1, fS1, ?_, a1, b1, a9⟩
  rcases hs with h | h
  · subst h
    refine ⟨fun _ => a1, fun hp hw => ?_⟩
    rw [a3 1 (by omega)] at hw
    exact dk_Wi_f (by omega) (hT.2 hp hw) a4 a5 a6 a7 a8
  · have e := h.1
    subst e
    refine ⟨fun hw => ?_, fun _ _ => a1⟩
    rw [a3 0 (by omega)] at hw
    exact dk_Wi_f (by omega) (hT.1 hw) a4 a5 a6 a7 a8
-- begin, end
theorem dk_xe23 {ad : Nat → List Nat} {sm set : Nat} (hsm : sm < 32) (hset : set < 32) (hre : ∀ q, q < 5 → re (5 * 0 + q) = nI (dk_reM ad q)) (hrd : ∀ q, q < 5 → rd (5 * 0 + q) = nI (dk_rdM ad q)) : ∀ (m left : Nat) (N : Nat × (Nat → Int32)), dk_ones left = m → left < 32 → N.1 < 32 → ∀ post : Int32 → SX → Prop,
    post (nI (dk_ones set)) (pr, bl, na, sc, fa, (nI (dk_dif sm set)), (nI (((dk_ord (dk_R ad) true left).map (fun q => 2 * q)).foldl dk_xno N).1), (dk_N kn), (dk_N nd), (dk_N (dk_E ot le gr op)), (dk_N it), (dk_N nm), (dk_N sh), (dk_N ex), (dk_W wl), (dk_N wg), (dk_T th), re, rd, od, on, wh, ss, rf, wi, lv, dm, ch, cg, my, sp, fA, fS, ((((dk_ord (dk_R ad) true left).map (fun q => 2 * q)).foldl dk_xno N).2)) →
    ∃ n, wX_end_23 post (nI set) n (nI left) pr bl na sc fa (nI sm) (nI N.1) (dk_N kn) (dk_N nd) (dk_N (dk_E ot le gr op)) (dk_N it) (dk_N nm) (dk_N sh) (dk_N ex) (dk_W wl) (dk_N wg) (dk_T th) re rd od on wh ss rf wi lv dm ch cg my sp fA fS N.2
  | 0, left, N, hm, hl, hN, post, h => by
    have e := dk_ones0 left hl hm
    subst e
    refine ⟨1, br_t rfl (nm_r (dk_difI sm hsm set hset) (dk_xo hset _ h))⟩
  | m + 1, left, N, hm, hl, hN, post, h => by
    have h0 : left ≠ 0 := fun e => by rw [e] at hm; have z : dk_ones 0 = 0 := rfl; omega
    have tr : ∀ a b c, dk_R ad a b → dk_R ad b c → dk_R ad a c := fun _ _ _ => dk_Rt
    obtain ⟨a1, a2, a3, a4⟩ := dk_np_ok tr h0 hl true
    have e1 := dk_onesC left hl _ a1 a2
    rw [dk_ordS tr true h0 hl, List.map_cons, List.foldl_cons] at h
    obtain ⟨n, hn⟩ := dk_xe23 hsm hset hre hrd m (dk_dif left (2 ^ dk_np (dk_R ad) left true)) (dk_xno N (2 * dk_np (dk_R ad) left true)) (by omega) (dk_difL _ _ hl) (dk_xno_L _ hN _) post h
    refine ⟨n + 1, br_f (by rw [dk_eq0 (by omega)]; exact h0) (dk_xn (s := 0) (by omega) h0 hl hre hrd true _ (nm_r (e' := nI (dk_dif left (2 ^ dk_np (dk_R ad) left true))) ?_ ?_))⟩
    · rw [dk_pow _ (by omega), dk_difI _ hl _ (dk_p2 _ a1)]
    · rw [dk_m2]
      exact dk_xnt hN (by omega) _ hn
theorem dk_xb15 {ad : Nat → List Nat} {sm set : Nat} (hset : set < 32) (hre : ∀ q, q < 5 → re (5 * 0 + q) = nI (dk_reM ad q)) (hrd : ∀ q, q < 5 → rd (5 * 0 + q) = nI (dk_rdM ad q)) : ∀ (m left : Nat) (N : Nat × (Nat → Int32)), dk_ones left = m → left < 32 → N.1 < 32 → ∀ post : Int32 → SX → Prop,
    post (nI (dk_ones set)) (pr, bl, na, sc, fa, (nI (sm ||| set)), (nI (((dk_ord (dk_R ad) false left).map (fun q => 2 * q + 1)).foldl dk_xno N).1), (dk_N kn), (dk_N nd), (dk_N (dk_E ot le gr op)), (dk_N it), (dk_N nm), (dk_N sh), (dk_N ex), (dk_W wl), (dk_N wg), (dk_T th), re, rd, od, on, wh, ss, rf, wi, lv, dm, ch, cg, my, sp, fA, fS, ((((dk_ord (dk_R ad) false left).map (fun q => 2 * q + 1)).foldl dk_xno N).2)) →
    ∃ n, wX_begin_15 post (nI set) n (nI left) pr bl na sc fa (nI sm) (nI N.1) (dk_N kn) (dk_N nd) (dk_N (dk_E ot le gr op)) (dk_N it) (dk_N nm) (dk_N sh) (dk_N ex) (dk_W wl) (dk_N wg) (dk_T th) re rd od on wh ss rf wi lv dm ch cg my sp fA fS N.2
  | 0, left, N, hm, hl, hN, post, h => by
    have e := dk_ones0 left hl hm
    subst e
    refine ⟨1, br_t rfl (nm_r (dk_or sm set) (dk_xo hset _ h))⟩
  | m + 1, left, N, hm, hl, hN, post, h => by
    have h0 : left ≠ 0 := fun e => by rw [e] at hm; have z : dk_ones 0 = 0 := rfl; omega
    have tr : ∀ a b c, dk_R ad a b → dk_R ad b c → dk_R ad a c := fun _ _ _ => dk_Rt
    obtain ⟨a1, a2, a3, a4⟩ := dk_np_ok tr h0 hl false
    have e1 := dk_onesC left hl _ a1 a2
    rw [dk_ordS tr false h0 hl, List.map_cons, List.foldl_cons] at h
    obtain ⟨n, hn⟩ := dk_xb15 hset hre hrd m (dk_dif left (2 ^ dk_np (dk_R ad) left false)) (dk_xno N (2 * dk_np (dk_R ad) left false + 1)) (by omega) (dk_difL _ _ hl) (dk_xno_L _ hN _) post h
    refine ⟨n + 1, br_f (by rw [dk_eq0 (by omega)]; exact h0) (dk_xn (s := 0) (by omega) h0 hl hre hrd false _ (nm_r (e' := nI (dk_dif left (2 ^ dk_np (dk_R ad) left false))) ?_ ?_))⟩
    · rw [dk_pow _ (by omega), dk_difI _ hl _ (dk_p2 _ a1)]
    · rw [dk_m2, nI_1]
      exact dk_xnt hN (by omega) _ hn
theorem dk_xen {p sm : Nat} {pp : Prop} {N : Nat × (Nat → Int32)} (hp : p < 5) (hsm : sm < 32) (hN : N.1 < 32) (hC : dk_Cx nd ot le gr op it nm sh ex th) (hT : dk_TI nd ot it nm sh ex th pp wi re rd wh ss rf) :
    ∃ (re' rd' od' on' : Nat → Int32) (wh' : Nat → Int64) (ss' rf' wi' : Nat → Int32), dk_TI nd ot it nm sh ex th pp wi' re' rd' wh' ss' rf' ∧
    ∀ post : Int32 → SX → Prop, post (nI (dk_ones (dk_eS (dk_ad nd ot (fun p => th (5 * 0 + p))) sm p))) (pr, bl, na, sc, fa, (nI (dk_dif sm (dk_eS (dk_ad nd ot (fun p => th (5 * 0 + p))) sm p))), (nI ((dk_eL (dk_ad nd ot (fun p => th (5 * 0 + p))) sm p).foldl dk_xno N).1), (dk_N kn), (dk_N nd), (dk_N (dk_E ot le gr op)), (dk_N it), (dk_N nm), (dk_N sh), (dk_N ex), (dk_W wl), (dk_N wg), (dk_T th), re', rd', od', on', wh', ss', rf', wi', lv, dm, ch, cg, my, sp, fA, fS, (((dk_eL (dk_ad nd ot (fun p => th (5 * 0 + p))) sm p).foldl dk_xno N).2)) →
      wpX_end post (pr, bl, na, sc, fa, (nI sm), (nI N.1), (dk_N kn), (dk_N nd), (dk_N (dk_E ot le gr op)), (dk_N it), (dk_N nm), (dk_N sh), (dk_N ex), (dk_W wl), (dk_N wg), (dk_T th), re, rd, od, on, wh, ss, rf, wi, lv, dm, ch, cg, my, sp, fA, fS, N.2) (nI p) := by
  obtain ⟨re1, rd1, od1, on1, wh1, ss1, rf1, wi1, a1, a2, a3⟩ := dk_xwT (pr := pr) (bl := bl) (na := na) (sc := sc) (fa := fa) (kn := kn) (nd := nd) (ot := ot) (le := le) (gr := gr) (op := op) (it := it) (nm := nm) (sh := sh) (ex := ex) (wl := wl) (wg := wg) (th := th) (re := re) (rd := rd) (od := od) (on := on) (wh := wh) (ss := ss) (rf := rf) (wi := wi) (lv := lv) (dm := dm) (ch := ch) (cg := cg) (my := my) (sp := sp) (fA := fA) (fS := fS) (st := nI sm) (no := nI N.1) (nt := N.2) (s := 0) (pp := pp) (Or.inl rfl) hC hT
  refine ⟨re1, rd1, od1, on1, wh1, ss1, rf1, wi1, a1, fun post h => a3 _ ?_⟩
  have r5 := (a2 p hp).2.1
  rw [show 5 * 0 + p = p by omega] at r5
  dsimp only
  rw [nI_clamp (by omega), r5, dk_pow p (by omega), dk_or, dk_and]
  exact ⟨vp_in_nI (by omega) (by omega), nm_e (dk_xe23 (ad := dk_ad nd ot (fun p => th (5 * 0 + p))) hsm (dk_eSL hsm) (fun q hq => (a2 q hq).1) (fun q hq => (a2 q hq).2.1) _ _ N rfl (dk_eSL hsm) hN post h)⟩
theorem dk_xbg {p sm : Nat} {pp : Prop} {N : Nat × (Nat → Int32)} (hp : p < 5) (hsm : sm < 32) (hN : N.1 < 32) (hC : dk_Cx nd ot le gr op it nm sh ex th) (hT : dk_TI nd ot it nm sh ex th pp wi re rd wh ss rf) :
    ∃ (fa' : Int32) (re' rd' od' on' : Nat → Int32) (wh' : Nat → Int64) (ss' rf' wi' fA' fS' : Nat → Int32), dk_TI nd ot it nm sh ex th pp wi' re' rd' wh' ss' rf' ∧
    (dk_fs nd ot it nm sh ex (fun p => th (5 * 0 + p)) (dk_bS (dk_ad nd ot (fun p => th (5 * 0 + p))) sm p) 5 0 = [] → ∀ post : Int32 → SX → Prop, post (nI (dk_ones (dk_bS (dk_ad nd ot (fun p => th (5 * 0 + p))) sm p))) (pr, bl, na, sc, fa', (nI (sm ||| dk_bS (dk_ad nd ot (fun p => th (5 * 0 + p))) sm p)), (nI ((dk_bL (dk_ad nd ot (fun p => th (5 * 0 + p))) sm p).foldl dk_xno N).1), (dk_N kn), (dk_N nd), (dk_N (dk_E ot le gr op)), (dk_N it), (dk_N nm), (dk_N sh), (dk_N ex), (dk_W wl), (dk_N wg), (dk_T th), re', rd', od', on', wh', ss', rf', wi', lv, dm, ch, cg, my, sp, fA', fS', (((dk_bL (dk_ad nd ot (fun p => th (5 * 0 + p))) sm p).foldl dk_xno N).2)) →
      wpX_begin post (pr, bl, na, sc, fa, (nI sm), (nI N.1), (dk_N kn), (dk_N nd), (dk_N (dk_E ot le gr op)), (dk_N it), (dk_N nm), (dk_N sh), (dk_N ex), (dk_W wl), (dk_N wg), (dk_T th), re, rd, od, on, wh, ss, rf, wi, lv, dm, ch, cg, my, sp, fA, fS, N.2) (nI p)) ∧
    (dk_fs nd ot it nm sh ex (fun p => th (5 * 0 + p)) (dk_bS (dk_ad nd ot (fun p => th (5 * 0 + p))) sm p) 5 0 ≠ [] → ∀ post : Int32 → SX → Prop, post (-4) (pr, bl, na, sc, fa', (nI sm), (nI N.1), (dk_N kn), (dk_N nd), (dk_N (dk_E ot le gr op)), (dk_N it), (dk_N nm), (dk_N sh), (dk_N ex), (dk_W wl), (dk_N wg), (dk_T th), re', rd', od', on', wh', ss', rf', wi', lv, dm, ch, cg, my, sp, fA', fS', N.2) →
      wpX_begin post (pr, bl, na, sc, fa, (nI sm), (nI N.1), (dk_N kn), (dk_N nd), (dk_N (dk_E ot le gr op)), (dk_N it), (dk_N nm), (dk_N sh), (dk_N ex), (dk_W wl), (dk_N wg), (dk_T th), re, rd, od, on, wh, ss, rf, wi, lv, dm, ch, cg, my, sp, fA, fS, N.2) (nI p)) := by
  obtain ⟨re1, rd1, od1, on1, wh1, ss1, rf1, wi1, a1, a2, a3⟩ := dk_xwT (pr := pr) (bl := bl) (na := na) (sc := sc) (fa := fa) (kn := kn) (nd := nd) (ot := ot) (le := le) (gr := gr) (op := op) (it := it) (nm := nm) (sh := sh) (ex := ex) (wl := wl) (wg := wg) (th := th) (re := re) (rd := rd) (od := od) (on := on) (wh := wh) (ss := ss) (rf := rf) (wi := wi) (lv := lv) (dm := dm) (ch := ch) (cg := cg) (my := my) (sp := sp) (fA := fA) (fS := fS) (st := nI sm) (no := nI N.1) (nt := N.2) (s := 0) (pp := pp) (Or.inl rfl) hC hT
  have sL := dk_bSL (ad := dk_ad nd ot (fun p => th (5 * 0 + p))) (sm := sm) hp
  obtain ⟨re2, rd2, od2, on2, wh2, ss2, rf2, wi2, fA2, fS2, b1, b2, b3, b4⟩ := dk_xaT (pr := pr) (bl := bl) (na := na) (sc := sc) (fa := fa) (kn := kn) (nd := nd) (ot := ot) (le := le) (gr := gr) (op := op) (it := it) (nm := nm) (sh := sh) (ex := ex) (wl := wl) (wg := wg) (th := th) (lv := lv) (dm := dm) (ch := ch) (cg := cg) (my := my) (sp := sp) (fA := fA) (fS := fS) (re := re1) (rd := rd1) (od := od1) (on := on1) (wh := wh1) (ss := ss1) (rf := rf1) (wi := wi1) (st := nI sm) (no := nI N.1) (nt := N.2) (s := 0) (pp := pp) (Or.inl rfl) sL hC a1
  have r5 := (a2 p hp).1
  rw [show 5 * 0 + p = p by omega] at r5
  have len : (dk_fs nd ot it nm sh ex (fun p => th (5 * 0 + p)) (dk_bS (dk_ad nd ot (fun p => th (5 * 0 + p))) sm p) 5 0).length < 2 ^ 31 := by
    have key : ∀ d q, (dk_fs nd ot it nm sh ex (fun p => th (5 * 0 + p)) (dk_bS (dk_ad nd ot (fun p => th (5 * 0 + p))) sm p) d q).length ≤ 6 * d := by
      intro d
      induction d with
      | zero => intro q; exact Nat.le_refl _
      | succ d ih =>
        intro q
        have := ih (q + 1)
        have h6 := dk_fp_len (nd := nd) (ot := ot) (nm := nm) (sh := sh) (ex := ex) (t := fun p => th (5 * 0 + p)) hC.2.2.2.2.2.2.1 q
        rw [dk_fs, List.length_append]
        split
        · omega
        · rw [List.length_nil]; omega
    have := key 5 0
    omega
  refine ⟨nI (dk_fs nd ot it nm sh ex (fun p => th (5 * 0 + p)) (dk_bS (dk_ad nd ot (fun p => th (5 * 0 + p))) sm p) 5 0).length, re2, rd2, od2, on2, wh2, ss2, rf2, wi2, fA2, fS2, b1, fun hf post h => ?_, fun hf post h => ?_⟩
  · refine a3 _ ?_
    dsimp only
    rw [nI_clamp (by omega), r5, dk_pow p (by omega), dk_or, dk_difI _ (dk_orL (dk_reL _ _) (dk_p2 p hp)) _ hsm]
    refine ⟨vp_in_nI (by omega) (by omega), nm_e (b4 _ ?_)⟩
    rw [hf] at h ⊢
    dsimp only
    refine br_t (by decide) (br_t (nI_pos' (by unfold dk_bS at sL; omega)) ?_)
    exact dk_xb15 (ad := dk_ad nd ot (fun p => th (5 * 0 + p))) sL (fun q hq => (b2 q hq).1) (fun q hq => (b2 q hq).2.1) _ _ N rfl sL hN post h
  · refine a3 _ ?_
    dsimp only
    rw [nI_clamp (by omega), r5, dk_pow p (by omega), dk_or, dk_difI _ (dk_orL (dk_reL _ _) (dk_p2 p hp)) _ hsm]
    refine ⟨vp_in_nI (by omega) (by omega), nm_e (b4 _ ?_)⟩
    dsimp only
    rw [dk_lez len]
    exact br_f (fun e => hf (List.length_eq_zero_iff.mp e)) (br_f (by decide) h)
end
end
section
theorem dk_fl_nil (f : Nat → Nat) (b : Nat) : ∀ d j, dk_fl f b d j = [] ↔ ∀ k, j ≤ k → k < j + d → f (b + k) = 0
  | 0, j => ⟨fun _ k a b => by omega, fun _ => rfl⟩
  | d + 1, j => by
    rw [dk_fl]
    by_cases z : f (b + j) = 0
    · rw [if_pos z, dk_fl_nil f b d (j + 1)]
      constructor
      · intro h k h1 h2
        by_cases e : k = j
        · subst e; exact z
        · exact h k (by omega) (by omega)
      · intro h k h1 h2; exact h k (by omega) (by omega)
    · rw [if_neg z]
      constructor
      · intro h; exact absurd h (by simp)
      · intro h; exact absurd (h j (Nat.le_refl _) (by omega)) z
theorem dk_fp_nil (nd ot it nm sh ex t : Nat → Nat) (p : Nat) : dk_fp nd ot it nm sh ex t p = [] ↔ ¬ dk_fy nd ot it nm sh ex t p := by
  unfold dk_fp dk_fy
  by_cases z : t p = 0
  · rw [if_pos z]
    exact ⟨fun _ h => by omega, fun _ => rfl⟩
  · rw [if_neg z, dk_fl_nil]
    constructor
    · rintro h ⟨_, k, a, b⟩; exact b (h k (Nat.zero_le _) (by omega))
    · intro h k _ hk
      exact Classical.byContradiction fun y => h ⟨by omega, k, by omega, y⟩
theorem dk_fs_nil (nd ot it nm sh ex t : Nat → Nat) (set : Nat) : ∀ d p, dk_fs nd ot it nm sh ex t set d p = [] ↔ ¬ ∃ q, p ≤ q ∧ q < p + d ∧ set.testBit q = true ∧ dk_fy nd ot it nm sh ex t q
  | 0, p => ⟨fun _ ⟨q, a, b, _⟩ => by omega, fun _ => rfl⟩
  | d + 1, p => by
    rw [dk_fs, List.append_eq_nil_iff, dk_fs_nil nd ot it nm sh ex t set d (p + 1)]
    constructor
    · rintro ⟨h1, h2⟩ ⟨q, a, b, c, e⟩
      by_cases z : q = p
      · subst z
        rw [if_pos c, dk_fp_nil] at h1
        exact h1 e
      · exact h2 ⟨q, by omega, by omega, c, e⟩
    · intro h
      refine ⟨?_, fun ⟨q, a, b, c⟩ => h ⟨q, by omega, by omega, c⟩⟩
      by_cases z : set.testBit p = true
      · rw [if_pos z, dk_fp_nil]; exact fun y => h ⟨p, Nat.le_refl _, by omega, z, y⟩
      · rw [if_neg z]
theorem dk_eS_m {ad : Nat → List Nat} {sm p : Nat} (hs : sm < 32) : dk_eS ad sm p = dk_m (fun q => dk_b ((q = p ∨ dk_R ad q p) ∧ sm.testBit q = true)) 5 := by
  apply dk_mX (dk_eSL hs)
  intro q hq
  by_cases z : (q = p ∨ dk_R ad q p) ∧ sm.testBit q = true
  · rw [dk_bT' z, (dk_eSB hq).mpr z]
  · rw [dk_bF' z]
    cases e : (dk_eS ad sm p).testBit q
    · rfl
    · exact absurd ((dk_eSB hq).mp e) z
theorem dk_bS_m {ad : Nat → List Nat} {sm p : Nat} (hp : p < 5) : dk_dif (dk_m (fun q => dk_b (dk_R ad p q)) 5 ||| 2 ^ p) sm = dk_bS ad sm p := by
  unfold dk_bS
  congr 1
  apply dk_bx (dk_orL (dk_m5L _) (dk_p2 p hp)) (dk_orL (dk_reL _ _) (dk_p2 p hp))
  intro q hq
  rw [Nat.testBit_or, Nat.testBit_or, dk_tp2, dk_mB]
  by_cases e : p = q
  · simp [e]
  · have : (dk_reM ad p).testBit q = dk_b (dk_R ad p q) := by
      unfold dk_reM
      rw [dk_mB, dk_bC (Q := dk_R ad p q) ⟨fun h => h.2, fun h => ⟨fun y => e y.symm, h⟩⟩]
      simp [hq]
    rw [this]; simp [hq, e]
section
variable {yp yb ys yn : Int32} {kn nd ot le gr op it nm sh ex wl ya : Nat → Nat} {yg yr yl yq yo yt : Nat → Int32}
-- halt
theorem dk_yh63 {sm set : Nat} (hsm : sm < 32) (hset : set < 32) : ∀ (l : List Nat) (j cnt : Nat) (N : Nat × (Nat → Int32)), j + l.length = cnt → cnt ≤ 5 → (∀ i, i < l.length → yl (j + i) = nI (l.getD i 0)) → N.1 ≤ 16 → ∀ post : Int32 → SY → Prop,
    post (nI set) (yp, yb, (nI (dk_dif sm set)), (nI ((l.map (fun q => 2 * q)).foldl dk_yno N).1), (dk_N kn), (dk_N nd), (dk_N ot), (dk_N le), (dk_N gr), (dk_N op), (dk_N ex), (dk_N it), (dk_N nm), (dk_N sh), (dk_W wl), yg, (dk_T ya), yr, yl, yq, (((l.map (fun q => 2 * q)).foldl dk_yno N).2), yt) → ∃ n, wY_halt_63 post (nI set) (nI cnt) n (nI j) yp yb (nI sm) (nI N.1) (dk_N kn) (dk_N nd) (dk_N ot) (dk_N le) (dk_N gr) (dk_N op) (dk_N ex) (dk_N it) (dk_N nm) (dk_N sh) (dk_W wl) yg (dk_T ya) yr yl yq N.2 yt
  | [], j, cnt, N, hj, hc, hl, hN, post, h => by
    have : j = cnt := by simpa using hj
    subst this
    exact ⟨1, br_t (nI_le (Nat.le_refl _) (by omega)) (nm_r (dk_difI sm hsm set hset) h)⟩
  | q :: l, j, cnt, N, hj, hc, hl, hN, post, h => by
    rw [List.length_cons] at hj
    have e0 : yl j = nI q := by have := hl 0 (by simp); simpa using this
    rw [List.map_cons, List.foldl_cons] at h
    obtain ⟨n, hn⟩ := dk_yh63 hsm hset l (j + 1) cnt (dk_yno N (2 * q)) (by omega) hc (fun i hi => by
      have := hl (i + 1) (by rw [List.length_cons]; omega)
      rw [show j + 1 + i = j + (i + 1) by omega, this]; rfl) (dk_yno_L _ hN _) post h
    refine ⟨n + 1, br_f (nI_ge (by omega) (by omega)) ⟨vp_in_nI (by omega) (by omega), ?_⟩⟩
    rw [nI_clamp (by omega), e0, dk_m2]
    exact dk_ynt hN _ (nm_r (nI_1 j) hn)
theorem dk_yh9 {p sm : Nat} {ad : Nat → List Nat} {M : Nat → Nat} (hp : p < 5) (hsm : sm < 32) (hM : ∀ p, p < 5 → M p = dk_m (fun q => dk_b (dk_R ad p q)) 5) (post : Int32 → SY → Prop)
    (h : wY_halt_9 post (nI p) yp yb (nI sm) yn (dk_N kn) (dk_N nd) (dk_N ot) (dk_N le) (dk_N gr) (dk_N op) (dk_N ex) (dk_N it) (dk_N nm) (dk_N sh) (dk_W wl) yg (dk_T ya) (dk_N M) yl yq yo yt 1 (nI (dk_eS ad sm p)) (nI 5)) : ∀ d j, j + d = 5 → ∃ n, wY_halt_9 post (nI p) yp yb (nI sm) yn (dk_N kn) (dk_N nd) (dk_N ot) (dk_N le) (dk_N gr) (dk_N op) (dk_N ex) (dk_N it) (dk_N nm) (dk_N sh) (dk_W wl) yg (dk_T ya) (dk_N M) yl yq yo yt n (nI (dk_m (fun q => dk_b ((q = p ∨ dk_R ad q p) ∧ sm.testBit q = true)) j)) (nI j)
  | 0, j, hj => by
    have : j = 5 := by omega
    subst this
    rw [dk_eS_m hsm] at h
    exact ⟨1, h⟩
  | d + 1, j, hj => by
    obtain ⟨n, hn⟩ := dk_yh9 hp hsm hM post h d (j + 1) (by omega)
    rw [dk_m] at hn
    have k40 : (j = p ∨ dk_R ad j p) ∧ sm.testBit j = true → wY_halt_40 post (wY_halt_9 post (nI p) yp yb (nI sm) yn (dk_N kn) (dk_N nd) (dk_N ot) (dk_N le) (dk_N gr) (dk_N op) (dk_N ex) (dk_N it) (dk_N nm) (dk_N sh) (dk_W wl) yg (dk_T ya) (dk_N M) yl yq yo yt n) (nI p) (nI (dk_m (fun q => dk_b ((q = p ∨ dk_R ad q p) ∧ sm.testBit q = true)) j)) (nI j) yp yb (nI sm) yn (dk_N kn) (dk_N nd) (dk_N ot) (dk_N le) (dk_N gr) (dk_N op) (dk_N ex) (dk_N it) (dk_N nm) (dk_N sh) (dk_W wl) yg (dk_T ya) (dk_N M) yl yq yo yt := by
      intro z
      rw [dk_bT' z, if_pos rfl] at hn
      refine nm_r ?_ (nm_r (nI_1 j) hn)
      rw [dk_pow _ (by omega), dk_or]
    have skip : ¬ ((j = p ∨ dk_R ad j p) ∧ sm.testBit j = true) → wY_halt_9 post (nI p) yp yb (nI sm) yn (dk_N kn) (dk_N nd) (dk_N ot) (dk_N le) (dk_N gr) (dk_N op) (dk_N ex) (dk_N it) (dk_N nm) (dk_N sh) (dk_W wl) yg (dk_T ya) (dk_N M) yl yq yo yt n (nI (dk_m (fun q => dk_b ((q = p ∨ dk_R ad q p) ∧ sm.testBit q = true)) j)) (nI (j + 1)) := by
      intro z
      rw [dk_bF' z] at hn
      simpa using hn
    refine ⟨n + 1, br_f (by rw [dk_le5 (by omega)]; omega) ?_⟩
    rw [dk_bit1 (by omega) (by omega), nI_eq (by omega) (by omega)]
    refine br_c (fun z => br_c (fun y => k40 ⟨Or.inl y, z⟩) (fun y => dk_yre hM (by omega) hp _ (fun w => br_f (by decide) (k40 ⟨Or.inr w, z⟩)) (fun w => br_t rfl (nm_r (nI_1 j) (skip fun v => v.1.elim y w))))) (fun z => nm_r (nI_1 j) (skip fun v => z v.2))
theorem dk_yha {p sm : Nat} {N : Nat × (Nat → Int32)} (hp : p < 5) (hsm : sm < 32) (hN : N.1 ≤ 16) (hnd : ∀ x, nd x ≤ 4) (hot : ∀ k, ot k < 5) (hya : ∀ i, ya i < 4) :
    ∃ yr' yl' : Nat → Int32, ∀ post : Int32 → SY → Prop, post (nI (dk_eS (dk_ad nd ot (fun p => ya (0 + p))) sm p)) (yp, yb, (nI (dk_dif sm (dk_eS (dk_ad nd ot (fun p => ya (0 + p))) sm p))), (nI ((dk_eL (dk_ad nd ot (fun p => ya (0 + p))) sm p).foldl dk_yno N).1), (dk_N kn), (dk_N nd), (dk_N ot), (dk_N le), (dk_N gr), (dk_N op), (dk_N ex), (dk_N it), (dk_N nm), (dk_N sh), (dk_W wl), yg, (dk_T ya), yr', yl', yq, (((dk_eL (dk_ad nd ot (fun p => ya (0 + p))) sm p).foldl dk_yno N).2), yt) →
      wpY_halt post (yp, yb, (nI sm), (nI N.1), (dk_N kn), (dk_N nd), (dk_N ot), (dk_N le), (dk_N gr), (dk_N op), (dk_N ex), (dk_N it), (dk_N nm), (dk_N sh), (dk_W wl), yg, (dk_T ya), yr, yl, yq, N.2, yt) (nI p) := by
  obtain ⟨M, h1, h2⟩ := dk_yfr (yp := yp) (yb := yb) (kn := kn) (nd := nd) (ot := ot) (le := le) (gr := gr) (op := op) (it := it) (nm := nm) (sh := sh) (ex := ex) (wl := wl) (ya := ya) (yg := yg) (yr := yr) (yl := yl) (yq := yq) (yt := yt) (ys := nI sm) (yn := nI N.1) (yo := N.2) (s := 0) (by omega) hnd hot hya
  have sL := dk_eSL (ad := dk_ad nd ot (fun p => ya (0 + p))) (p := p) hsm
  obtain ⟨M', yl', c1, c2, c3⟩ := dk_yor (yp := yp) (yb := yb) (kn := kn) (nd := nd) (ot := ot) (le := le) (gr := gr) (op := op) (it := it) (nm := nm) (sh := sh) (ex := ex) (wl := wl) (ya := ya) (yg := yg) (yl := yl) (yq := yq) (yt := yt) (yr := dk_N M) (ys := nI sm) (yn := nI N.1) (yo := N.2) (s := 0) (by omega) sL hnd hot hya true
  have ol := dk_ord_l (ad := dk_ad nd ot (fun p => ya (0 + p))) true sL
  refine ⟨dk_N M', yl', fun post h => h2 _ ?_⟩
  refine dk_yh9 hp hsm h1 post (br_t (by decide) (c3 _ ?_)) 5 0 rfl
  exact dk_yh63 hsm sL (dk_ord (dk_R (dk_ad nd ot (fun p => ya (0 + p)))) true (dk_eS (dk_ad nd ot (fun p => ya (0 + p))) sm p)) 0 _ N (by omega) (dk_onesL _) (fun i hi => by rw [Nat.zero_add]; exact c2 i (by omega)) hN post h
-- launch
theorem dk_yl67 {sm set : Nat} : ∀ (l : List Nat) (j cnt : Nat) (N : Nat × (Nat → Int32)), j + l.length = cnt → cnt ≤ 5 → (∀ i, i < l.length → yl (j + i) = nI (l.getD i 0)) → N.1 ≤ 16 → ∀ post : Int32 → SY → Prop,
    post (nI set) (yp, yb, (nI (sm ||| set)), (nI ((l.map (fun q => 2 * q + 1)).foldl dk_yno N).1), (dk_N kn), (dk_N nd), (dk_N ot), (dk_N le), (dk_N gr), (dk_N op), (dk_N ex), (dk_N it), (dk_N nm), (dk_N sh), (dk_W wl), yg, (dk_T ya), yr, yl, yq, (((l.map (fun q => 2 * q + 1)).foldl dk_yno N).2), yt) → ∃ n, wY_launch_67 post (nI set) (nI cnt) n (nI j) yp yb (nI sm) (nI N.1) (dk_N kn) (dk_N nd) (dk_N ot) (dk_N le) (dk_N gr) (dk_N op) (dk_N ex) (dk_N it) (dk_N nm) (dk_N sh) (dk_W wl) yg (dk_T ya) yr yl yq N.2 yt
  | [], j, cnt, N, hj, hc, hl, hN, post, h => by
    have : j = cnt := by simpa using hj
    subst this
    exact ⟨1, br_t (nI_le (Nat.le_refl _) (by omega)) (nm_r (dk_or sm set) h)⟩
  | q :: l, j, cnt, N, hj, hc, hl, hN, post, h => by
    rw [List.length_cons] at hj
    have e0 : yl j = nI q := by have := hl 0 (by simp); simpa using this
    rw [List.map_cons, List.foldl_cons] at h
    obtain ⟨n, hn⟩ := dk_yl67 l (j + 1) cnt (dk_yno N (2 * q + 1)) (by omega) hc (fun i hi => by
      have := hl (i + 1) (by rw [List.length_cons]; omega)
      rw [show j + 1 + i = j + (i + 1) by omega, this]; rfl) (dk_yno_L _ hN _) post h
    refine ⟨n + 1, br_f (nI_ge (by omega) (by omega)) ⟨vp_in_nI (by omega) (by omega), ?_⟩⟩
    rw [nI_clamp (by omega), e0, dk_m2, nI_1 (2 * q)]
    exact dk_ynt hN _ (nm_r (nI_1 j) hn)
theorem dk_yl25 {set : Nat} (hset : set < 32) (hnd : ∀ x, nd x ≤ 4) (hot : ∀ k, ot k < 5) (hya : ∀ i, ya i < 4) (hit : ∀ x, it x ≤ 6) (hnm : ∀ k, nm k < 12) (hsh : ∀ k, sh k < 4) (hex : ∀ k, ex k ≤ 1) (hun : dk_Un it nm ex) : ∀ d j (yq : Nat → Int32), j + d = 5 →
    ∃ yq' : Nat → Int32, ((∃ q, j ≤ q ∧ q < 5 ∧ set.testBit q = true ∧ dk_fy nd ot it nm sh ex (fun p => ya (0 + p)) q) → ∀ post : Int32 → SY → Prop, post (-1) (yp, yb, ys, yn, (dk_N kn), (dk_N nd), (dk_N ot), (dk_N le), (dk_N gr), (dk_N op), (dk_N ex), (dk_N it), (dk_N nm), (dk_N sh), (dk_W wl), yg, (dk_T ya), yr, yl, yq', yo, yt) → ∃ n, wY_launch_25 post (nI set) n (nI j) yp yb ys yn (dk_N kn) (dk_N nd) (dk_N ot) (dk_N le) (dk_N gr) (dk_N op) (dk_N ex) (dk_N it) (dk_N nm) (dk_N sh) (dk_W wl) yg (dk_T ya) yr yl yq yo yt) ∧
    ((¬ ∃ q, j ≤ q ∧ q < 5 ∧ set.testBit q = true ∧ dk_fy nd ot it nm sh ex (fun p => ya (0 + p)) q) → ∀ post : Int32 → SY → Prop, wY_launch_25 post (nI set) 1 (nI 5) yp yb ys yn (dk_N kn) (dk_N nd) (dk_N ot) (dk_N le) (dk_N gr) (dk_N op) (dk_N ex) (dk_N it) (dk_N nm) (dk_N sh) (dk_W wl) yg (dk_T ya) yr yl yq' yo yt → ∃ n, wY_launch_25 post (nI set) n (nI j) yp yb ys yn (dk_N kn) (dk_N nd) (dk_N ot) (dk_N le) (dk_N gr) (dk_N op) (dk_N ex) (dk_N it) (dk_N nm) (dk_N sh) (dk_W wl) yg (dk_T ya) yr yl yq yo yt)
  | 0, j, yq, hj => by
    have : j = 5 := by omega
    subst this
    exact ⟨yq, fun ⟨q, a, b, _⟩ => by omega, fun _ post h => ⟨1, h⟩⟩
  | d + 1, j, yq, hj => by
    have jump : ∀ (yq1 yq' : Nat → Int32), ¬ (set.testBit j = true ∧ dk_fy nd ot it nm sh ex (fun p => ya (0 + p)) j) → (∀ (post : Int32 → SY → Prop) n, wY_launch_25 post (nI set) n (nI (j + 1)) yp yb ys yn (dk_N kn) (dk_N nd) (dk_N ot) (dk_N le) (dk_N gr) (dk_N op) (dk_N ex) (dk_N it) (dk_N nm) (dk_N sh) (dk_W wl) yg (dk_T ya) yr yl yq1 yo yt → wY_launch_25 post (nI set) (n + 1) (nI j) yp yb ys yn (dk_N kn) (dk_N nd) (dk_N ot) (dk_N le) (dk_N gr) (dk_N op) (dk_N ex) (dk_N it) (dk_N nm) (dk_N sh) (dk_W wl) yg (dk_T ya) yr yl yq yo yt) →
        (((∃ q, j + 1 ≤ q ∧ q < 5 ∧ set.testBit q = true ∧ dk_fy nd ot it nm sh ex (fun p => ya (0 + p)) q) → ∀ post : Int32 → SY → Prop, post (-1) (yp, yb, ys, yn, (dk_N kn), (dk_N nd), (dk_N ot), (dk_N le), (dk_N gr), (dk_N op), (dk_N ex), (dk_N it), (dk_N nm), (dk_N sh), (dk_W wl), yg, (dk_T ya), yr, yl, yq', yo, yt) → ∃ n, wY_launch_25 post (nI set) n (nI (j + 1)) yp yb ys yn (dk_N kn) (dk_N nd) (dk_N ot) (dk_N le) (dk_N gr) (dk_N op) (dk_N ex) (dk_N it) (dk_N nm) (dk_N sh) (dk_W wl) yg (dk_T ya) yr yl yq1 yo yt) ∧
        ((¬ ∃ q, j + 1 ≤ q ∧ q < 5 ∧ set.testBit q = true ∧ dk_fy nd ot it nm sh ex (fun p => ya (0 + p)) q) → ∀ post : Int32 → SY → Prop, wY_launch_25 post (nI set) 1 (nI 5) yp yb ys yn (dk_N kn) (dk_N nd) (dk_N ot) (dk_N le) (dk_N gr) (dk_N op) (dk_N ex) (dk_N it) (dk_N nm) (dk_N sh) (dk_W wl) yg (dk_T ya) yr yl yq' yo yt → ∃ n, wY_launch_25 post (nI set) n (nI (j + 1)) yp yb ys yn (dk_N kn) (dk_N nd) (dk_N ot) (dk_N le) (dk_N gr) (dk_N op) (dk_N ex) (dk_N it) (dk_N nm) (dk_N sh) (dk_W wl) yg (dk_T ya) yr yl yq1 yo yt)) →
        (((∃ q, j ≤ q ∧ q < 5 ∧ set.testBit q = true ∧ dk_fy nd ot it nm sh ex (fun p => ya (0 + p)) q) → ∀ post : Int32 → SY → Prop, post (-1) (yp, yb, ys, yn, (dk_N kn), (dk_N nd), (dk_N ot), (dk_N le), (dk_N gr), (dk_N op), (dk_N ex), (dk_N it), (dk_N nm), (dk_N sh), (dk_W wl), yg, (dk_T ya), yr, yl, yq', yo, yt) → ∃ n, wY_launch_25 post (nI set) n (nI j) yp yb ys yn (dk_N kn) (dk_N nd) (dk_N ot) (dk_N le) (dk_N gr) (dk_N op) (dk_N ex) (dk_N it) (dk_N nm) (dk_N sh) (dk_W wl) yg (dk_T ya) yr yl yq yo yt) ∧
        ((¬ ∃ q, j ≤ q ∧ q < 5 ∧ set.testBit q = true ∧ dk_fy nd ot it nm sh ex (fun p => ya (0 + p)) q) → ∀ post : Int32 → SY → Prop, wY_launch_25 post (nI set) 1 (nI 5) yp yb ys yn (dk_N kn) (dk_N nd) (dk_N ot) (dk_N le) (dk_N gr) (dk_N op) (dk_N ex) (dk_N it) (dk_N nm) (dk_N sh) (dk_W wl) yg (dk_T ya) yr yl yq' yo yt → ∃ n, wY_launch_25 post (nI set) n (nI j) yp yb ys yn (dk_N kn) (dk_N nd) (dk_N ot) (dk_N le) (dk_N gr) (dk_N op) (dk_N ex) (dk_N it) (dk_N nm) (dk_N sh) (dk_W wl) yg (dk_T ya) yr yl yq yo yt)) := by
      intro yq1 yq' z walk h
      refine ⟨fun ⟨q, a, b, c⟩ post hp => ?_, fun y post hp => ?_⟩
      · obtain ⟨n, hn⟩ := h.1 ⟨q, by
          have : q ≠ j := fun e => z (e ▸ c)
          omega, b, c⟩ post hp
        exact ⟨n + 1, walk post n hn⟩
      · obtain ⟨n, hn⟩ := h.2 (fun ⟨q, a, b⟩ => y ⟨q, by omega, b⟩) post hp
        exact ⟨n + 1, walk post n hn⟩
    by_cases z : set.testBit j = true
    · obtain ⟨yq1, b1⟩ := dk_yif (yp := yp) (yb := yb) (ys := ys) (yn := yn) (kn := kn) (nd := nd) (ot := ot) (le := le) (gr := gr) (op := op) (it := it) (nm := nm) (sh := sh) (ex := ex) (wl := wl) (ya := ya) (yg := yg) (yr := yr) (yl := yl) (yq := yq) (yo := yo) (yt := yt) (s := 0) (p := j) (by omega) (by omega) hnd hot hya hit hnm hsh hex hun
      by_cases y : dk_fy nd ot it nm sh ex (fun p => ya (0 + p)) j
      · rw [dk_bT' y, if_pos rfl] at b1
        refine ⟨yq1, fun _ post h => ⟨1, br_f (by rw [dk_le5 (by omega)]; omega) ?_⟩, fun w => absurd ⟨j, Nat.le_refl _, by omega, z, y⟩ w⟩
        rw [dk_bit1 (by omega) (by omega)]
        exact br_t z (b1 _ (br_f (by decide) h))
      · rw [dk_bF' y] at b1
        obtain ⟨yq', b2⟩ := dk_yl25 hset hnd hot hya hit hnm hsh hex hun d (j + 1) yq1 (by omega)
        refine ⟨yq', jump yq1 yq' (fun w => y w.2) (fun post n hn => br_f (by rw [dk_le5 (by omega)]; omega) ?_) b2⟩
        rw [dk_bit1 (by omega) (by omega)]
        exact br_t z (b1 _ (br_t rfl (nm_r (nI_1 j) hn)))
    · obtain ⟨yq', b2⟩ := dk_yl25 hset hnd hot hya hit hnm hsh hex hun d (j + 1) yq (by omega)
      refine ⟨yq', jump yq yq' (fun w => z w.1) (fun post n hn => br_f (by rw [dk_le5 (by omega)]; omega) ?_) b2⟩
      rw [dk_bit1 (by omega) (by omega)]
      exact br_f z (nm_r (nI_1 j) hn)
theorem dk_yln_no {p sm : Nat} {N : Nat × (Nat → Int32)} (hp : p < 5) (hsm : sm < 32) (hnd : ∀ x, nd x ≤ 4) (hot : ∀ k, ot k < 5) (hya : ∀ i, ya i < 4) (hit : ∀ x, it x ≤ 6) (hnm : ∀ k, nm k < 12) (hsh : ∀ k, sh k < 4) (hex : ∀ k, ex k ≤ 1) (hun : dk_Un it nm ex)
    (hf : ∃ q, 0 ≤ q ∧ q < 5 ∧ (dk_bS (dk_ad nd ot (fun p => ya (0 + p))) sm p).testBit q = true ∧ dk_fy nd ot it nm sh ex (fun p => ya (0 + p)) q) :
    ∃ yr' yq' : Nat → Int32, ∀ post : Int32 → SY → Prop, post (-1) (yp, yb, (nI sm), (nI N.1), (dk_N kn), (dk_N nd), (dk_N ot), (dk_N le), (dk_N gr), (dk_N op), (dk_N ex), (dk_N it), (dk_N nm), (dk_N sh), (dk_W wl), yg, (dk_T ya), yr', yl, yq', N.2, yt) → wpY_launch post (yp, yb, (nI sm), (nI N.1), (dk_N kn), (dk_N nd), (dk_N ot), (dk_N le), (dk_N gr), (dk_N op), (dk_N ex), (dk_N it), (dk_N nm), (dk_N sh), (dk_W wl), yg, (dk_T ya), yr, yl, yq, N.2, yt) (nI p) := by
  obtain ⟨M, h1, h2⟩ := dk_yfr (yp := yp) (yb := yb) (kn := kn) (nd := nd) (ot := ot) (le := le) (gr := gr) (op := op) (it := it) (nm := nm) (sh := sh) (ex := ex) (wl := wl) (ya := ya) (yg := yg) (yr := yr) (yl := yl) (yq := yq) (yt := yt) (ys := nI sm) (yn := nI N.1) (yo := N.2) (s := 0) (by omega) hnd hot hya
  have sL := dk_bSL (ad := dk_ad nd ot (fun p => ya (0 + p))) (sm := sm) hp
  obtain ⟨yq', b1, b2⟩ := dk_yl25 (yp := yp) (yb := yb) (kn := kn) (nd := nd) (ot := ot) (le := le) (gr := gr) (op := op) (it := it) (nm := nm) (sh := sh) (ex := ex) (wl := wl) (ya := ya) (yg := yg) (yl := yl) (yt := yt) (yr := dk_N M) (ys := nI sm) (yn := nI N.1) (yo := N.2) sL hnd hot hya hit hnm hsh hex hun 5 0 yq rfl
  refine ⟨dk_N M, yq', fun post h => h2 _ ⟨vp_in_nI hp (by omega), nm_r (e' := nI (dk_bS (dk_ad nd ot (fun p => ya (0 + p))) sm p)) ?_ (b1 hf post h)⟩⟩
  rw [nI_clamp (by omega), dk_Na, h1 p hp, dk_pow p (by omega), dk_or, dk_difI _ (dk_orL (dk_m5L _) (dk_p2 p hp)) _ hsm, dk_bS_m hp]
theorem dk_yln_ok {p sm : Nat} {N : Nat × (Nat → Int32)} (hp : p < 5) (hsm : sm < 32) (hN : N.1 ≤ 16) (hnd : ∀ x, nd x ≤ 4) (hot : ∀ k, ot k < 5) (hya : ∀ i, ya i < 4) (hit : ∀ x, it x ≤ 6) (hnm : ∀ k, nm k < 12) (hsh : ∀ k, sh k < 4) (hex : ∀ k, ex k ≤ 1) (hun : dk_Un it nm ex)
    (hf : ¬ ∃ q, 0 ≤ q ∧ q < 5 ∧ (dk_bS (dk_ad nd ot (fun p => ya (0 + p))) sm p).testBit q = true ∧ dk_fy nd ot it nm sh ex (fun p => ya (0 + p)) q) :
    ∃ yr' yl' yq' : Nat → Int32, ∀ post : Int32 → SY → Prop, post (nI (dk_bS (dk_ad nd ot (fun p => ya (0 + p))) sm p)) (yp, yb, (nI (sm ||| dk_bS (dk_ad nd ot (fun p => ya (0 + p))) sm p)), (nI ((dk_bL (dk_ad nd ot (fun p => ya (0 + p))) sm p).foldl dk_yno N).1), (dk_N kn), (dk_N nd), (dk_N ot), (dk_N le), (dk_N gr), (dk_N op), (dk_N ex), (dk_N it), (dk_N nm), (dk_N sh), (dk_W wl), yg, (dk_T ya), yr', yl', yq', (((dk_bL (dk_ad nd ot (fun p => ya (0 + p))) sm p).foldl dk_yno N).2), yt) → wpY_launch post (yp, yb, (nI sm), (nI N.1), (dk_N kn), (dk_N nd), (dk_N ot), (dk_N le), (dk_N gr), (dk_N op), (dk_N ex), (dk_N it), (dk_N nm), (dk_N sh), (dk_W wl), yg, (dk_T ya), yr, yl, yq, N.2, yt) (nI p) := by
  obtain ⟨M, h1, h2⟩ := dk_yfr (yp := yp) (yb := yb) (kn := kn) (nd := nd) (ot := ot) (le := le) (gr := gr) (op := op) (it := it) (nm := nm) (sh := sh) (ex := ex) (wl := wl) (ya := ya) (yg := yg) (yr := yr) (yl := yl) (yq := yq) (yt := yt) (ys := nI sm) (yn := nI N.1) (yo := N.2) (s := 0) (by omega) hnd hot hya
  have sL := dk_bSL (ad := dk_ad nd ot (fun p => ya (0 + p))) (sm := sm) hp
  obtain ⟨yq', b1, b2⟩ := dk_yl25 (yp := yp) (yb := yb) (kn := kn) (nd := nd) (ot := ot) (le := le) (gr := gr) (op := op) (it := it) (nm := nm) (sh := sh) (ex := ex) (wl := wl) (ya := ya) (yg := yg) (yl := yl) (yt := yt) (yr := dk_N M) (ys := nI sm) (yn := nI N.1) (yo := N.2) sL hnd hot hya hit hnm hsh hex hun 5 0 yq rfl
  obtain ⟨M', yl', c1, c2, c3⟩ := dk_yor (yp := yp) (yb := yb) (kn := kn) (nd := nd) (ot := ot) (le := le) (gr := gr) (op := op) (it := it) (nm := nm) (sh := sh) (ex := ex) (wl := wl) (ya := ya) (yg := yg) (yl := yl) (yt := yt) (yr := dk_N M) (yq := yq') (ys := nI sm) (yn := nI N.1) (yo := N.2) (s := 0) (by omega) sL hnd hot hya false
  have ol := dk_ord_l (ad := dk_ad nd ot (fun p => ya (0 + p))) false sL
  refine ⟨dk_N M', yl', yq', fun post h => h2 _ ⟨vp_in_nI hp (by omega), nm_r (e' := nI (dk_bS (dk_ad nd ot (fun p => ya (0 + p))) sm p)) ?_ (b2 hf post (br_t (by decide) (c3 _ ?_)))⟩⟩
  · rw [nI_clamp (by omega), dk_Na, h1 p hp, dk_pow p (by omega), dk_or, dk_difI _ (dk_orL (dk_m5L _) (dk_p2 p hp)) _ hsm, dk_bS_m hp]
  · exact dk_yl67 (dk_ord (dk_R (dk_ad nd ot (fun p => ya (0 + p)))) false (dk_bS (dk_ad nd ot (fun p => ya (0 + p))) sm p)) 0 _ N (by omega) (dk_onesL _) (fun i hi => by rw [Nat.zero_add]; exact c2 i (by omega)) hN post h
end
end
section
-- runs of stops and starts, as pure steps: who is started, what gets noted
noncomputable def dk_en (ad : Nat → List Nat) (s : Nat × List Nat) (p : Nat) : Nat × List Nat := (dk_dif s.1 (dk_eS ad s.1 p), s.2 ++ dk_eL ad s.1 p)
def dk_FF (nd ot it nm sh ex t : Nat → Nat) (sm p : Nat) : Prop := ∃ q, 0 ≤ q ∧ q < 5 ∧ (dk_bS (dk_ad nd ot t) sm p).testBit q = true ∧ dk_fy nd ot it nm sh ex t q
noncomputable def dk_bn (nd ot it nm sh ex t : Nat → Nat) (s : Nat × List Nat) (p : Nat) : Nat × List Nat :=
  if dk_b (dk_FF nd ot it nm sh ex t s.1 p) = true then s else (s.1 ||| dk_bS (dk_ad nd ot t) s.1 p, s.2 ++ dk_bL (dk_ad nd ot t) s.1 p)
noncomputable def dk_rs (nd ot it nm sh ex t : Nat → Nat) (stopped : Nat) : Nat → Nat → Nat × List Nat → Nat × List Nat
  | 0, _, s => s
  | d + 1, p, s => dk_rs nd ot it nm sh ex t stopped d (p + 1) (if stopped.testBit p = true ∧ 0 < t p then dk_bn nd ot it nm sh ex t s p else s)
noncomputable def dk_ev (ad : Nat → List Nat) (s : Nat × List Nat) (k : Nat) : Nat × List Nat := if k % 2 = 0 then dk_en ad s (k / 2) else s
theorem dk_en_L {ad : Nat → List Nat} {s : Nat × List Nat} (h : s.1 < 32) (p : Nat) : (dk_en ad s p).1 < 32 := dk_difL _ _ h
theorem dk_bn_L {nd ot it nm sh ex t : Nat → Nat} {s : Nat × List Nat} (h : s.1 < 32) {p : Nat} (hp : p < 5) : (dk_bn nd ot it nm sh ex t s p).1 < 32 := by
  unfold dk_bn
  split
  · exact h
  · exact dk_orL h (dk_bSL hp)
theorem dk_enB {ad : Nat → List Nat} {s : Nat × List Nat} (h : s.1 < 32) {p q : Nat} (hq : q < 5) : (dk_en ad s p).1.testBit q = true ↔ s.1.testBit q = true ∧ ¬ (q = p ∨ dk_R ad q p) := by
  unfold dk_en
  rw [dk_difB _ _ h, Bool.and_eq_true]
  have e : ((!(dk_eS ad s.1 p).testBit q) = true) ↔ ¬ (dk_eS ad s.1 p).testBit q = true := by cases (dk_eS ad s.1 p).testBit q <;> decide
  rw [e, dk_eSB hq]
  constructor
  · rintro ⟨a, b⟩; exact ⟨a, fun c => b ⟨c, a⟩⟩
  · rintro ⟨a, b⟩; exact ⟨a, fun c => b c.1⟩
/-- stops of plugins that nobody started relies on do nothing -/
theorem dk_en_0 {ad : Nat → List Nat} {s : Nat × List Nat} (h : s.1 < 32) {p : Nat} (z : ∀ q, q < 5 → s.1.testBit q = true → ¬ (q = p ∨ dk_R ad q p)) : dk_en ad s p = s := by
  have e : dk_eS ad s.1 p = 0 := by
    apply dk_bx (dk_eSL h) (by omega)
    intro q hq
    rw [Nat.zero_testBit]
    cases y : (dk_eS ad s.1 p).testBit q
    · rfl
    · obtain ⟨a, b⟩ := (dk_eSB hq).mp y
      exact absurd a (z q hq b)
  unfold dk_en dk_eL
  rw [e, dk_ord0, List.map_nil, List.append_nil]
  have : dk_dif s.1 0 = s.1 := by
    apply dk_bx (dk_difL _ _ h) h
    intro q hq
    rw [dk_difB _ _ h, Nat.zero_testBit]; simp
  rw [this]
theorem dk_ens {ad : Nat → List Nat} : ∀ (l : List Nat) {s : Nat × List Nat}, s.1 < 32 → (l.foldl (dk_en ad) s).1 < 32 ∧ ∀ q, q < 5 → ((l.foldl (dk_en ad) s).1.testBit q = true ↔ s.1.testBit q = true ∧ ∀ p, p ∈ l → ¬ (q = p ∨ dk_R ad q p))
  | [], s, h => ⟨h, fun q _ => ⟨fun a => ⟨a, fun p hp => absurd hp (by simp)⟩, fun a => a.1⟩⟩
  | x :: l, s, h => by
    rw [List.foldl_cons]
    obtain ⟨i1, i2⟩ := dk_ens l (s := dk_en ad s x) (dk_en_L h x)
    refine ⟨i1, fun q hq => ?_⟩
    rw [i2 q hq, dk_enB h hq]
    constructor
    · rintro ⟨⟨a, b⟩, c⟩
      refine ⟨a, fun p hp => ?_⟩
      rcases List.mem_cons.mp hp with e | e
      · rw [e]; exact b
      · exact c p e
    · rintro ⟨a, b⟩
      exact ⟨⟨a, b x (List.mem_cons_self ..)⟩, fun p hp => b p (List.mem_cons_of_mem _ hp)⟩
theorem dk_ens_0 {ad : Nat → List Nat} : ∀ (l : List Nat) {s : Nat × List Nat}, s.1 < 32 → (∀ p, p ∈ l → ∀ q, q < 5 → s.1.testBit q = true → ¬ (q = p ∨ dk_R ad q p)) → l.foldl (dk_en ad) s = s
  | [], _, _, _ => rfl
  | x :: l, s, h, z => by
    rw [List.foldl_cons, dk_en_0 h (z x (List.mem_cons_self ..))]
    exact dk_ens_0 l h (fun p hp => z p (List.mem_cons_of_mem _ hp))
theorem dk_ev_2 {ad : Nat → List Nat} : ∀ (l : List Nat) (s : Nat × List Nat), (l.map (fun q => 2 * q)).foldl (dk_ev ad) s = l.foldl (dk_en ad) s
  | [], _ => rfl
  | x :: l, s => by
    rw [List.map_cons, List.foldl_cons, List.foldl_cons, dk_ev_2 l]
    unfold dk_ev
    rw [if_pos (by omega), show 2 * x / 2 = x by omega]
theorem dk_ev_1 {ad : Nat → List Nat} : ∀ (l : List Nat) (s : Nat × List Nat), (l.map (fun q => 2 * q + 1)).foldl (dk_ev ad) s = s
  | [], _ => rfl
  | x :: l, s => by
    rw [List.map_cons, List.foldl_cons]
    have : dk_ev ad s (2 * x + 1) = s := by unfold dk_ev; rw [if_neg (by omega)]
    rw [this, dk_ev_1 l]
theorem dk_goneB {t t' : Nat → Nat} {p : Nat} (hp : p < 5) : (dk_gone t t').testBit p = true ↔ t p ≠ t' p ∧ 0 < t p := by
  unfold dk_gone; rw [dk_mB]; simp [hp]
theorem dk_freshB {t t' : Nat → Nat} {p : Nat} (hp : p < 5) : (dk_fresh t t').testBit p = true ↔ t p ≠ t' p ∧ 0 < t' p := by
  unfold dk_fresh; rw [dk_mB]; simp [hp]
/-- X's stops (all steps) and Y's stops (those of the plugins that go) are the same; afterwards no plugin that goes is started -/
theorem dk_stops {nd ot t t' : Nat → Nat} {s : Nat × List Nat} (hs : s.1 < 32) (hin : ∀ q, q < 5 → s.1.testBit q = true → 0 < t q) :
    ((dk_stp nd ot t t').map (fun k => k / 2)).foldl (dk_en (dk_ad nd ot t)) s = (dk_stp nd ot t t').foldl (dk_ev (dk_ad nd ot t)) s ∧
    ((dk_stp nd ot t t').foldl (dk_ev (dk_ad nd ot t)) s).1 < 32 ∧
    (∀ q, q < 5 → ((dk_stp nd ot t t').foldl (dk_ev (dk_ad nd ot t)) s).1.testBit q = true → s.1.testBit q = true ∧ 0 < t' q) := by
  have tr : ∀ a b c, dk_R (dk_ad nd ot t) a b → dk_R (dk_ad nd ot t) b c → dk_R (dk_ad nd ot t) a c := fun _ _ _ => dk_Rt
  have tr' : ∀ a b c, dk_R (dk_ad nd ot t') a b → dk_R (dk_ad nd ot t') b c → dk_R (dk_ad nd ot t') a c := fun _ _ _ => dk_Rt
  have mG := dk_ord_mem tr true _ (dk_gone t t') (dk_goneL _ _) rfl
  have mF := dk_ord_mem tr' false _ (dk_fresh t t') (dk_freshL _ _) rfl
  obtain ⟨e1, e2⟩ := dk_ens (ad := dk_ad nd ot t) (dk_ord (dk_R (dk_ad nd ot t)) true (dk_gone t t')) hs
  have eY : (dk_stp nd ot t t').foldl (dk_ev (dk_ad nd ot t)) s = (dk_ord (dk_R (dk_ad nd ot t)) true (dk_gone t t')).foldl (dk_en (dk_ad nd ot t)) s := by
    unfold dk_stp
    rw [List.foldl_append, dk_ev_2, dk_ev_1]
  have g5 : ∀ q, (dk_gone t t').testBit q = true → q < 5 := fun q h => Classical.byContradiction fun y => by
    rw [dk_big (dk_goneL _ _) (by omega)] at h; exact absurd h (by decide)
  have f5 : ∀ q, (dk_fresh t t').testBit q = true → q < 5 := fun q h => Classical.byContradiction fun y => by
    rw [dk_big (dk_freshL _ _) (by omega)] at h; exact absurd h (by decide)
  refine ⟨?_, by rw [eY]; exact e1, fun q hq h => ?_⟩
  · rw [eY]
    unfold dk_stp
    rw [List.map_append, List.map_map, List.map_map, List.foldl_append]
    have i1 : (dk_ord (dk_R (dk_ad nd ot t)) true (dk_gone t t')).map ((fun k => k / 2) ∘ fun q => 2 * q) = dk_ord (dk_R (dk_ad nd ot t)) true (dk_gone t t') := by
      rw [show ((fun k => k / 2) ∘ fun q : Nat => 2 * q) = id by funext q; show 2 * q / 2 = q; omega, List.map_id]
    have i2 : (dk_ord (dk_R (dk_ad nd ot t')) false (dk_fresh t t')).map ((fun k => k / 2) ∘ fun q => 2 * q + 1) = dk_ord (dk_R (dk_ad nd ot t')) false (dk_fresh t t') := by
      rw [show ((fun k => k / 2) ∘ fun q : Nat => 2 * q + 1) = id by funext q; show (2 * q + 1) / 2 = q; omega, List.map_id]
    rw [i1, i2]
    refine dk_ens_0 _ e1 (fun p hp q hq hb => ?_)
    obtain ⟨b1, b2⟩ := (e2 q hq).mp hb
    have hpF := (mF p).mp hp
    have p5 := f5 p hpF
    obtain ⟨f1, f2⟩ := (dk_freshB p5).mp hpF
    by_cases z : 0 < t p
    · exact b2 p ((mG p).mpr ((dk_goneB p5).mpr ⟨f1, z⟩))
    · rintro (e | e)
      · subst e; exact z (hin q hq b1)
      · exact z (dk_R0 e).2.2
  · rw [eY] at h
    obtain ⟨b1, b2⟩ := (e2 q hq).mp h
    refine ⟨b1, ?_⟩
    have h0 := hin q hq b1
    by_cases z : t q = t' q
    · rw [← z]; exact h0
    · exact absurd (Or.inl rfl) (b2 q ((mG q).mpr ((dk_goneB hq).mpr ⟨z, h0⟩)))
theorem dk_bn_in {nd ot it nm sh ex t : Nat → Nat} {s : Nat × List Nat} {p : Nat} (hp : p < 5) (ht : 0 < t p) (hin : ∀ q, q < 5 → s.1.testBit q = true → 0 < t q) : ∀ q, q < 5 → (dk_bn nd ot it nm sh ex t s p).1.testBit q = true → 0 < t q := by
  intro q hq
  unfold dk_bn
  split
  · exact hin q hq
  · dsimp only
    rw [Nat.testBit_or, Bool.or_eq_true, dk_bSB hp hq]
    rintro (h | ⟨h | h, _⟩)
    · exact hin q hq h
    · rw [h]; exact ht
    · exact (dk_R0 h).2.2
theorem dk_rs_ok {nd ot it nm sh ex t : Nat → Nat} {stopped : Nat} : ∀ d p (s : Nat × List Nat), p + d ≤ 5 → s.1 < 32 → (∀ q, q < 5 → s.1.testBit q = true → 0 < t q) → (dk_rs nd ot it nm sh ex t stopped d p s).1 < 32 ∧ ∀ q, q < 5 → (dk_rs nd ot it nm sh ex t stopped d p s).1.testBit q = true → 0 < t q
  | 0, _, s, _, h, hin => ⟨h, hin⟩
  | d + 1, p, s, hp, h, hin => by
    rw [dk_rs]
    split
    · rename_i z
      exact dk_rs_ok d (p + 1) _ (by omega) (dk_bn_L h (by omega)) (dk_bn_in (by omega) z.2 hin)
    · exact dk_rs_ok d (p + 1) s (by omega) h hin
theorem dk_bn_t {nd ot it nm sh ex t t' : Nat → Nat} (hot : ∀ k, ot k < 5) (h : ∀ p, p < 5 → t p = t' p) : dk_bn nd ot it nm sh ex t = dk_bn nd ot it nm sh ex t' := by
  funext s p
  have e : dk_FF nd ot it nm sh ex t s.1 p = dk_FF nd ot it nm sh ex t' s.1 p := by
    unfold dk_FF
    rw [dk_ad_t hot h]
    apply propext
    constructor
    · rintro ⟨q, a, b, c, d⟩; exact ⟨q, a, b, c, by rw [← dk_fy_t hot h b]; exact d⟩
    · rintro ⟨q, a, b, c, d⟩; exact ⟨q, a, b, c, by rw [dk_fy_t hot h b]; exact d⟩
  unfold dk_bn
  rw [e, dk_ad_t hot h]
theorem dk_rs_t {nd ot it nm sh ex t t' : Nat → Nat} (hot : ∀ k, ot k < 5) (h : ∀ p, p < 5 → t p = t' p) (stopped : Nat) : ∀ d p (s : Nat × List Nat), p + d ≤ 5 → dk_rs nd ot it nm sh ex t stopped d p s = dk_rs nd ot it nm sh ex t' stopped d p s
  | 0, _, _, _ => rfl
  | d + 1, p, s, hp => by
    rw [dk_rs, dk_rs, dk_bn_t hot h, h p (by omega), dk_rs_t hot h stopped d (p + 1) _ (by omega)]
theorem dk_stp_t {nd ot t t' u u' : Nat → Nat} (hot : ∀ k, ot k < 5) (h : ∀ p, p < 5 → t p = t' p) (h' : ∀ p, p < 5 → u p = u' p) : dk_stp nd ot t u = dk_stp nd ot t' u' := by
  have e1 : dk_gone t u = dk_gone t' u' := dk_mC (fun p hp => by rw [h p hp, h' p hp])
  have e2 : dk_fresh t u = dk_fresh t' u' := dk_mC (fun p hp => by rw [h p hp, h' p hp])
  unfold dk_stp
  rw [dk_ad_t hot h, dk_ad_t hot h', e1, e2]
end
section
section
variable {pr bl na sc fa st no : Int32} {kn nd ot le gr op it nm sh ex wl wg th : Nat → Nat} {re rd od on : Nat → Int32} {wh : Nat → Int64} {ss rf wi lv dm ch cg my sp fA fS nt : Nat → Int32}
theorem dk_xc38 {cnt : Nat} {x2 : Int32} {pp : Prop} {N0 : Nat × (Nat → Int32)} (hcnt : cnt ≤ 10) (hN : N0.1 < 32) (hC : dk_Cx nd ot le gr op it nm sh ex th) : ∀ (l : List Nat) (j : Nat) (s : Nat × List Nat) (wi re rd od on : Nat → Int32) (wh : Nat → Int64) (ss rf : Nat → Int32), j + l.length = cnt → (∀ i, i < l.length → sp (j + i) = nI (l.getD i 0)) → (∀ k, k ∈ l → k < 10) → s.1 < 32 → dk_TI nd ot it nm sh ex th pp wi re rd wh ss rf →
    ∃ (wi' re' rd' od' on' : Nat → Int32) (wh' : Nat → Int64) (ss' rf' : Nat → Int32), dk_TI nd ot it nm sh ex th pp wi' re' rd' wh' ss' rf' ∧
    ∀ post : Int32 → SX → Prop, wX_commit_38 post x2 1 (nI cnt) pr bl na (nI cnt) fa (nI ((l.map (fun k => k / 2)).foldl (dk_en (dk_ad nd ot (fun p => th (5 * 0 + p)))) s).1) (nI ((((l.map (fun k => k / 2)).foldl (dk_en (dk_ad nd ot (fun p => th (5 * 0 + p)))) s).2).foldl dk_xno N0).1) (dk_N kn) (dk_N nd) (dk_N (dk_E ot le gr op)) (dk_N it) (dk_N nm) (dk_N sh) (dk_N ex) (dk_W wl) (dk_N wg) (dk_T th) re' rd' od' on' wh' ss' rf' wi' lv dm ch cg my sp fA fS (((((l.map (fun k => k / 2)).foldl (dk_en (dk_ad nd ot (fun p => th (5 * 0 + p)))) s).2).foldl dk_xno N0).2) →
    ∃ n, wX_commit_38 post x2 n (nI j) pr bl na (nI cnt) fa (nI s.1) (nI (s.2.foldl dk_xno N0).1) (dk_N kn) (dk_N nd) (dk_N (dk_E ot le gr op)) (dk_N it) (dk_N nm) (dk_N sh) (dk_N ex) (dk_W wl) (dk_N wg) (dk_T th) re rd od on wh ss rf wi lv dm ch cg my sp fA fS ((s.2.foldl dk_xno N0).2)
  | [], j, s, wi, re, rd, od, on, wh, ss, rf, hj, hl, hk, hs, hT => by
    have : j = cnt := by simpa using hj
    subst this
    exact ⟨wi, re, rd, od, on, wh, ss, rf, hT, fun post h => ⟨1, h⟩⟩
  | k :: l, j, s, wi, re, rd, od, on, wh, ss, rf, hj, hl, hk, hs, hT => by
    rw [List.length_cons] at hj
    have k10 := hk k (List.mem_cons_self ..)
    have e0 : sp j = nI k := by have := hl 0 (by simp); simpa using this
    obtain ⟨re1, rd1, od1, on1, wh1, ss1, rf1, wi1, a1, a2⟩ := dk_xen (pr := pr) (bl := bl) (na := na) (fa := fa) (kn := kn) (nd := nd) (ot := ot) (le := le) (gr := gr) (op := op) (it := it) (nm := nm) (sh := sh) (ex := ex) (wl := wl) (wg := wg) (th := th) (lv := lv) (dm := dm) (ch := ch) (cg := cg) (my := my) (sp := sp) (fA := fA) (fS := fS) (sc := nI cnt) (re := re) (rd := rd) (od := od) (on := on) (wh := wh) (ss := ss) (rf := rf) (wi := wi) (p := k / 2) (sm := s.1) (pp := pp) (N := s.2.foldl dk_xno N0) (by omega) hs (dk_xnf_L _ _ hN) hC hT
    obtain ⟨wi', re', rd', od', on', wh', ss', rf', b1, b2⟩ := dk_xc38 hcnt hN hC l (j + 1) (dk_en (dk_ad nd ot (fun p => th (5 * 0 + p))) s (k / 2)) wi1 re1 rd1 od1 on1 wh1 ss1 rf1 (by omega) (fun i hi => by
      have := hl (i + 1) (by rw [List.length_cons]; omega)
      rw [show j + 1 + i = j + (i + 1) by omega, this]; rfl) (fun k' hk' => hk k' (List.mem_cons_of_mem _ hk')) (dk_en_L hs _) a1
    refine ⟨wi', re', rd', od', on', wh', ss', rf', b1, fun post h => ?_⟩
    obtain ⟨n, hn⟩ := b2 post h
    refine ⟨n + 1, br_f (nI_ge (by omega) (by omega)) ⟨vp_in_nI (by omega) (by omega), by decide, ?_⟩⟩
    rw [nI_clamp (by omega), e0, dk_d2 (by omega)]
    refine a2 _ (nm_r (nI_1 j) ?_)
    unfold dk_en at hn
    dsimp only at hn
    rw [List.foldl_append] at hn
    exact hn
theorem dk_xc77 {x3 : Int32} : ∀ d j (th : Nat → Nat), j + d = 5 → (∀ i, th i < 4) → (∀ i, i < j → th i = th (5 + i)) →
    ∃ th' : Nat → Nat, (∀ i, i < 5 → th' i = th (5 + i)) ∧ (∀ i, 5 ≤ i → th' i = th i) ∧ (∀ i, th' i < 4) ∧ ∀ post : Int32 → SX → Prop, (∃ n120, wX_commit_120 post x3 n120 (nI 0) 0 bl na sc fa st no (dk_N kn) (dk_N nd) (dk_N (dk_E ot le gr op)) (dk_N it) (dk_N nm) (dk_N sh) (dk_N ex) (dk_W wl) (dk_N wg) (dk_T th') re rd od on wh ss rf (upd wi 0 (nI 0)) lv dm ch cg my sp fA fS nt) → ∃ n, wX_commit_77 post x3 pr bl na sc fa st no n (nI j) (dk_N kn) (dk_N nd) (dk_N (dk_E ot le gr op)) (dk_N it) (dk_N nm) (dk_N sh) (dk_N ex) (dk_W wl) (dk_N wg) (dk_T th) re rd od on wh ss rf wi lv dm ch cg my sp fA fS nt
  | 0, j, th, hj, h4, h => by
    have : j = 5 := by omega
    subst this
    exact ⟨th, h, fun _ _ => rfl, h4, fun post h' => ⟨1, br_t (by decide) (nm_r (by rw [dk_vz0]) h')⟩⟩
  | d + 1, j, th, hj, h4, h => by
    have t4 := h4 (5 + j)
    obtain ⟨th', b1, b2, b3, b4⟩ := dk_xc77 d (j + 1) (dk_u th j (th (5 + j))) (by omega) (fun i => by
      by_cases e : i = j
      · subst e; rw [dk_us]; exact t4
      · rw [dk_un e]; exact h4 i) (fun i hi => by
      rw [dk_un (j := 5 + i) (by omega)]
      by_cases e : i = j
      · subst e; rw [dk_us]
      · rw [dk_un e]; exact h i (by omega))
    refine ⟨th', fun i hi => by rw [b1 i hi, dk_un (by omega)], fun i hi => by rw [b2 i hi, dk_un (by omega)], b3, fun post h' => ?_⟩
    obtain ⟨n, hn⟩ := b4 post h'
    refine ⟨n + 1, br_f (by rw [dk_le5 (by omega)]; omega) ?_⟩
    rw [dk_a5, nI_clamp (by omega), nI_clamp (by omega), dk_Ta, dk_vbT (by omega), dk_uT]
    exact ⟨vp_in_nI (by omega) (by omega), vp_in_nI (by omega) (by omega), nm_e (nm_r (nI_1 j) hn)⟩
theorem dk_xc120 {stopped : Nat} {pp : Prop} {N0 : Nat × (Nat → Int32)} (hst : stopped < 32) (hN : N0.1 < 32) (hC : dk_Cx nd ot le gr op it nm sh ex th) : ∀ d p (s : Nat × List Nat) (fa : Int32) (wi re rd od on : Nat → Int32) (wh : Nat → Int64) (ss rf fA fS : Nat → Int32), p + d = 5 → s.1 < 32 → dk_TI nd ot it nm sh ex th pp wi re rd wh ss rf →
    ∃ (fa' : Int32) (wi' re' rd' od' on' : Nat → Int32) (wh' : Nat → Int64) (ss' rf' fA' fS' : Nat → Int32), dk_TI nd ot it nm sh ex th pp wi' re' rd' wh' ss' rf' ∧
    ∀ post : Int32 → SX → Prop, post sc (pr, bl, na, sc, fa', (nI (dk_rs nd ot it nm sh ex (fun p => th (5 * 0 + p)) stopped d p s).1), (nI ((dk_rs nd ot it nm sh ex (fun p => th (5 * 0 + p)) stopped d p s).2.foldl dk_xno N0).1), (dk_N kn), (dk_N nd), (dk_N (dk_E ot le gr op)), (dk_N it), (dk_N nm), (dk_N sh), (dk_N ex), (dk_W wl), (dk_N wg), (dk_T th), re', rd', od', on', wh', ss', rf', wi', lv, dm, ch, cg, my, sp, fA', fS', (((dk_rs nd ot it nm sh ex (fun p => th (5 * 0 + p)) stopped d p s).2.foldl dk_xno N0).2)) →
    ∃ n, wX_commit_120 post (nI stopped) n (nI p) pr bl na sc fa (nI s.1) (nI (s.2.foldl dk_xno N0).1) (dk_N kn) (dk_N nd) (dk_N (dk_E ot le gr op)) (dk_N it) (dk_N nm) (dk_N sh) (dk_N ex) (dk_W wl) (dk_N wg) (dk_T th) re rd od on wh ss rf wi lv dm ch cg my sp fA fS ((s.2.foldl dk_xno N0).2)
  | 0, p, s, fa, wi, re, rd, od, on, wh, ss, rf, fA, fS, hp, hs, hT => by
    have : p = 5 := by omega
    subst this
    exact ⟨fa, wi, re, rd, od, on, wh, ss, rf, fA, fS, hT, fun post h => ⟨1, br_t (by decide) h⟩⟩
  | d + 1, p, s, fa, wi, re, rd, od, on, wh, ss, rf, fA, fS, hp, hs, hT => by
    have p5 : p < 5 := by omega
    have t4 := hC.2.2.2.2.2.1 p
    have e50 : th (5 * 0 + p) = th p := by rw [show 5 * 0 + p = p by omega]
    by_cases z : stopped.testBit p = true ∧ 0 < th (5 * 0 + p)
    · rw [dk_rs, if_pos z]
      obtain ⟨fa1, re1, rd1, od1, on1, wh1, ss1, rf1, wi1, fA1, fS1, a1, a2, a3⟩ := dk_xbg (pr := pr) (bl := bl) (na := na) (sc := sc) (kn := kn) (nd := nd) (ot := ot) (le := le) (gr := gr) (op := op) (it := it) (nm := nm) (sh := sh) (ex := ex) (wl := wl) (wg := wg) (th := th) (lv := lv) (dm := dm) (ch := ch) (cg := cg) (my := my) (sp := sp) (fa := fa) (fA := fA) (fS := fS) (re := re) (rd := rd) (od := od) (on := on) (wh := wh) (ss := ss) (rf := rf) (wi := wi) (p := p) (sm := s.1) (pp := pp) (N := s.2.foldl dk_xno N0) p5 hs (dk_xnf_L _ _ hN) hC hT
      obtain ⟨fa', wi', re', rd', od', on', wh', ss', rf', fA', fS', b1, b2⟩ := dk_xc120 hst hN hC d (p + 1) (dk_bn nd ot it nm sh ex (fun p => th (5 * 0 + p)) s p) fa1 wi1 re1 rd1 od1 on1 wh1 ss1 rf1 fA1 fS1 (by omega) (dk_bn_L hs p5) a1
      refine ⟨fa', wi', re', rd', od', on', wh', ss', rf', fA', fS', b1, fun post h => ?_⟩
      obtain ⟨n, hn⟩ := b2 post h
      refine ⟨n + 1, br_f (by rw [dk_le5 (by omega)]; omega) (dk_xb (by omega) (by omega) _ (fun _ => ?_) (fun y => by rw [z.1] at y; exact absurd y (by decide)))⟩
      refine br_f (by decide) ⟨vp_in_nI (by omega) (by omega), ?_⟩
      rw [nI_clamp (by omega), dk_Ta, dk_tneg (by omega)]
      refine br_f (by have := z.2; omega) ?_
      have nilI := dk_fs_nil nd ot it nm sh ex (fun p => th (5 * 0 + p)) (dk_bS (dk_ad nd ot (fun p => th (5 * 0 + p))) s.1 p) 5 0
      rw [show 0 + 5 = 5 by omega] at nilI
      by_cases y : dk_FF nd ot it nm sh ex (fun p => th (5 * 0 + p)) s.1 p
      · refine a3 (fun e => nilI.mp e y) _ (nm_r (nI_1 p) ?_)
        unfold dk_bn at hn
        rw [dk_bT' y, if_pos rfl] at hn
        exact hn
      · refine a2 (nilI.mpr y) _ (nm_r (nI_1 p) ?_)
        unfold dk_bn at hn
        rw [dk_bF' y, if_neg (by decide)] at hn
        dsimp only at hn
        rw [List.foldl_append] at hn
        exact hn
    · rw [dk_rs, if_neg z]
      obtain ⟨fa', wi', re', rd', od', on', wh', ss', rf', fA', fS', b1, b2⟩ := dk_xc120 hst hN hC d (p + 1) s fa wi re rd od on wh ss rf fA fS (by omega) hs hT
      refine ⟨fa', wi', re', rd', od', on', wh', ss', rf', fA', fS', b1, fun post h => ?_⟩
      obtain ⟨n, hn⟩ := b2 post h
      refine ⟨n + 1, br_f (by rw [dk_le5 (by omega)]; omega) (dk_xb (by omega) (by omega) _ (fun y => ?_) (fun y => br_t rfl (nm_r (nI_1 p) hn)))⟩
      refine br_f (by decide) ⟨vp_in_nI (by omega) (by omega), ?_⟩
      rw [nI_clamp (by omega), dk_Ta, dk_tneg (by omega)]
      exact br_t (by have : ¬ 0 < th (5 * 0 + p) := fun w => z ⟨y, w⟩; omega) (nm_r (nI_1 p) hn)
theorem dk_fs_len {nd ot it nm sh ex t : Nat → Nat} (hit : ∀ x, it x ≤ 6) (set : Nat) : ∀ d p, (dk_fs nd ot it nm sh ex t set d p).length ≤ 6 * d
  | 0, _ => Nat.le_refl _
  | d + 1, p => by
    have := dk_fs_len (nd := nd) (ot := ot) (nm := nm) (sh := sh) (ex := ex) (t := t) hit set d (p + 1)
    have h6 := dk_fp_len (nd := nd) (ot := ot) (nm := nm) (sh := sh) (ex := ex) (t := t) hit p
    rw [dk_fs, List.length_append]
    split
    · omega
    · rw [List.length_nil]; omega
theorem dk_stp_10 {nd ot t t' : Nat → Nat} : ∀ k, k ∈ dk_stp nd ot t t' → k < 10 := by
  intro k hk
  unfold dk_stp at hk
  rcases List.mem_append.mp hk with h | h
  · obtain ⟨q, hq, e⟩ := List.mem_map.mp h
    have := (dk_ord_mem (r := dk_R (dk_ad nd ot t)) (fun _ _ _ => dk_Rt) true _ (dk_gone t t') (dk_goneL _ _) rfl q).mp hq
    have : q < 5 := Classical.byContradiction fun y => by rw [dk_big (dk_goneL _ _) (by omega)] at this; exact absurd this (by decide)
    omega
  · obtain ⟨q, hq, e⟩ := List.mem_map.mp h
    have := (dk_ord_mem (r := dk_R (dk_ad nd ot t')) (fun _ _ _ => dk_Rt) false _ (dk_fresh t t') (dk_freshL _ _) rfl q).mp hq
    have : q < 5 := Classical.byContradiction fun y => by rw [dk_big (dk_freshL _ _) (by omega)] at this; exact absurd this (by decide)
    omega
theorem dk_stp_len10 (nd ot t t' : Nat → Nat) : (dk_stp nd ot t t').length ≤ 10 := by
  rw [dk_stp_len]
  have := dk_onesL (dk_gone t t'); have := dk_onesL (dk_fresh t t'); omega
/-- commit, where it is refused -/
theorem dk_xcm_no (hpr : ¬ pr = 0) (hC : dk_Cx nd ot le gr op it nm sh ex th) (hT : dk_TI nd ot it nm sh ex th True wi re rd wh ss rf)
    (hf : dk_fs nd ot it nm sh ex (fun p => th (5 * 1 + p)) 31 5 0 ≠ []) :
    ∃ (fa' : Int32) (re' rd' od' on' : Nat → Int32) (wh' : Nat → Int64) (ss' rf' wi' fA' fS' : Nat → Int32), dk_TI nd ot it nm sh ex th True wi' re' rd' wh' ss' rf' ∧
    ∀ post : Int32 → SX → Prop, post (-4) (pr, bl, na, sc, fa', st, no, (dk_N kn), (dk_N nd), (dk_N (dk_E ot le gr op)), (dk_N it), (dk_N nm), (dk_N sh), (dk_N ex), (dk_W wl), (dk_N wg), (dk_T th), re', rd', od', on', wh', ss', rf', wi', lv, dm, ch, cg, my, sp, fA', fS', nt) → wpX_commit post (pr, bl, na, sc, fa, st, no, (dk_N kn), (dk_N nd), (dk_N (dk_E ot le gr op)), (dk_N it), (dk_N nm), (dk_N sh), (dk_N ex), (dk_W wl), (dk_N wg), (dk_T th), re, rd, od, on, wh, ss, rf, wi, lv, dm, ch, cg, my, sp, fA, fS, nt) 0 := by
  obtain ⟨re1, rd1, od1, on1, wh1, ss1, rf1, wi1, fA1, fS1, a1, a2, a3, a4⟩ := dk_xaT (pr := pr) (bl := bl) (na := na) (sc := sc) (fa := fa) (st := st) (no := no) (kn := kn) (nd := nd) (ot := ot) (le := le) (gr := gr) (op := op) (it := it) (nm := nm) (sh := sh) (ex := ex) (wl := wl) (wg := wg) (th := th) (re := re) (rd := rd) (od := od) (on := on) (wh := wh) (ss := ss) (rf := rf) (wi := wi) (lv := lv) (dm := dm) (ch := ch) (cg := cg) (my := my) (sp := sp) (fA := fA) (fS := fS) (nt := nt) (s := 1) (set := 31) (pp := True) (Or.inr ⟨rfl, trivial⟩) (by omega) hC hT
  have len := dk_fs_len (nd := nd) (ot := ot) (nm := nm) (sh := sh) (ex := ex) (t := fun p => th (5 * 1 + p)) hC.2.2.2.2.2.2.1 31 5 0
  refine ⟨nI (dk_fs nd ot it nm sh ex (fun p => th (5 * 1 + p)) 31 5 0).length, re1, rd1, od1, on1, wh1, ss1, rf1, wi1, fA1, fS1, a1, fun post h => br_f hpr (a4 _ ?_)⟩
  dsimp only
  rw [dk_lez (by omega)]
  exact br_f (fun e => hf (List.length_eq_zero_iff.mp e)) (br_t rfl h)
/-- commit, where it goes on -/
theorem dk_xcm_ok {sm : Nat} {fo : Int32} {N0 : Nat × (Nat → Int32)} (hpr : ¬ pr = 0) (hsm : sm < 32) (hN : N0.1 < 32) (hC : dk_Cx nd ot le gr op it nm sh ex th) (hT : dk_TI nd ot it nm sh ex th True wi re rd wh ss rf) (hsp : dk_rep sp 0 (dk_stp nd ot (fun p => th (5 * 0 + p)) (fun p => th (5 * 1 + p))))
    (hin : ∀ q, q < 5 → sm.testBit q = true → 0 < th (5 * 0 + q))
    (hf : dk_fs nd ot it nm sh ex (fun p => th (5 * 1 + p)) 31 5 0 = [] ∨ ¬ fo = 0) :
    ∃ (th' : Nat → Nat) (fa' : Int32) (re' rd' od' on' : Nat → Int32) (wh' : Nat → Int64) (ss' rf' wi' fA' fS' : Nat → Int32), (∀ i, i < 5 → th' i = th (5 + i)) ∧ (∀ i, th' i < 4) ∧ dk_TI nd ot it nm sh ex th' False wi' re' rd' wh' ss' rf' ∧
    ∀ post : Int32 → SX → Prop, post (nI (dk_stp nd ot (fun p => th (5 * 0 + p)) (fun p => th (5 * 1 + p))).length)
      (0, bl, na, (nI (dk_stp nd ot (fun p => th (5 * 0 + p)) (fun p => th (5 * 1 + p))).length), fa', (nI (dk_rs nd ot it nm sh ex (fun p => th' (5 * 0 + p)) (dk_dif sm ((dk_stp nd ot (fun p => th (5 * 0 + p)) (fun p => th (5 * 1 + p))).foldl (dk_ev (dk_ad nd ot (fun p => th (5 * 0 + p)))) (sm, [])).1) 5 0 ((dk_stp nd ot (fun p => th (5 * 0 + p)) (fun p => th (5 * 1 + p))).foldl (dk_ev (dk_ad nd ot (fun p => th (5 * 0 + p)))) (sm, []))).1), (nI ((dk_rs nd ot it nm sh ex (fun p => th' (5 * 0 + p)) (dk_dif sm ((dk_stp nd ot (fun p => th (5 * 0 + p)) (fun p => th (5 * 1 + p))).foldl (dk_ev (dk_ad nd ot (fun p => th (5 * 0 + p)))) (sm, [])).1) 5 0 ((dk_stp nd ot (fun p => th (5 * 0 + p)) (fun p => th (5 * 1 + p))).foldl (dk_ev (dk_ad nd ot (fun p => th (5 * 0 + p)))) (sm, []))).2.foldl dk_xno N0).1), (dk_N kn), (dk_N nd), (dk_N (dk_E ot le gr op)), (dk_N it), (dk_N nm), (dk_N sh), (dk_N ex), (dk_W wl), (dk_N wg), (dk_T th'), re', rd', od', on', wh', ss', rf', wi', lv, dm, ch, cg, my, sp, fA', fS', (((dk_rs nd ot it nm sh ex (fun p => th' (5 * 0 + p)) (dk_dif sm ((dk_stp nd ot (fun p => th (5 * 0 + p)) (fun p => th (5 * 1 + p))).foldl (dk_ev (dk_ad nd ot (fun p => th (5 * 0 + p)))) (sm, [])).1) 5 0 ((dk_stp nd ot (fun p => th (5 * 0 + p)) (fun p => th (5 * 1 + p))).foldl (dk_ev (dk_ad nd ot (fun p => th (5 * 0 + p)))) (sm, []))).2.foldl dk_xno N0).2)) →
      wpX_commit post (pr, bl, na, (nI (dk_stp nd ot (fun p => th (5 * 0 + p)) (fun p => th (5 * 1 + p))).length), fa, (nI sm), (nI N0.1), (dk_N kn), (dk_N nd), (dk_N (dk_E ot le gr op)), (dk_N it), (dk_N nm), (dk_N sh), (dk_N ex), (dk_W wl), (dk_N wg), (dk_T th), re, rd, od, on, wh, ss, rf, wi, lv, dm, ch, cg, my, sp, fA, fS, N0.2) fo := by
  obtain ⟨re1, rd1, od1, on1, wh1, ss1, rf1, wi1, fA1, fS1, a1, a2, a3, a4⟩ := dk_xaT (pr := pr) (bl := bl) (na := na) (fa := fa) (kn := kn) (nd := nd) (ot := ot) (le := le) (gr := gr) (op := op) (it := it) (nm := nm) (sh := sh) (ex := ex) (wl := wl) (wg := wg) (th := th) (re := re) (rd := rd) (od := od) (on := on) (wh := wh) (ss := ss) (rf := rf) (wi := wi) (lv := lv) (dm := dm) (ch := ch) (cg := cg) (my := my) (sp := sp) (fA := fA) (fS := fS) (sc := nI (dk_stp nd ot (fun p => th (5 * 0 + p)) (fun p => th (5 * 1 + p))).length) (st := nI sm) (no := nI N0.1) (nt := N0.2) (s := 1) (set := 31) (pp := True) (Or.inr ⟨rfl, trivial⟩) (by omega) hC hT
  have len := dk_fs_len (nd := nd) (ot := ot) (nm := nm) (sh := sh) (ex := ex) (t := fun p => th (5 * 1 + p)) hC.2.2.2.2.2.2.1 31 5 0
  obtain ⟨s1, s2, s3⟩ := dk_stops (nd := nd) (ot := ot) (t := fun p => th (5 * 0 + p)) (t' := fun p => th (5 * 1 + p)) (s := (sm, [])) hsm hin
  generalize hL : dk_fs nd ot it nm sh ex (fun p => th (5 * 1 + p)) 31 5 0 = L at *
  obtain ⟨wi2, re2, rd2, od2, on2, wh2, ss2, rf2, b1, b2⟩ := dk_xc38 (pr := pr) (bl := bl) (na := na) (kn := kn) (nd := nd) (ot := ot) (le := le) (gr := gr) (op := op) (it := it) (nm := nm) (sh := sh) (ex := ex) (wl := wl) (wg := wg) (th := th) (lv := lv) (dm := dm) (ch := ch) (cg := cg) (my := my) (sp := sp) (fa := nI L.length) (fA := fA1) (fS := fS1) (x2 := nI sm) (pp := True) (N0 := N0) (dk_stp_len10 nd ot (fun p => th (5 * 0 + p)) (fun p => th (5 * 1 + p))) hN hC (dk_stp nd ot (fun p => th (5 * 0 + p)) (fun p => th (5 * 1 + p))) 0 (sm, []) wi1 re1 rd1 od1 on1 wh1 ss1 rf1 (by omega) (fun i hi => by rw [Nat.zero_add]; have := hsp i hi; rw [Nat.zero_add] at this; exact this) dk_stp_10 hsm a1
  rw [s1] at b2
  generalize hS : (dk_stp nd ot (fun p => th (5 * 0 + p)) (fun p => th (5 * 1 + p))).foldl (dk_ev (dk_ad nd ot (fun p => th (5 * 0 + p)))) (sm, []) = S at *
  generalize hcnt : (dk_stp nd ot (fun p => th (5 * 0 + p)) (fun p => th (5 * 1 + p))).length = cnt at *
  obtain ⟨th', c1, c2, c3, c4⟩ := dk_xc77 (pr := pr) (bl := bl) (na := na) (kn := kn) (nd := nd) (ot := ot) (le := le) (gr := gr) (op := op) (it := it) (nm := nm) (sh := sh) (ex := ex) (wl := wl) (wg := wg) (lv := lv) (dm := dm) (ch := ch) (cg := cg) (my := my) (sp := sp) (sc := nI cnt) (st := nI S.1) (no := nI (S.2.foldl dk_xno N0).1) (nt := (S.2.foldl dk_xno N0).2) (re := re2) (rd := rd2) (od := od2) (on := on2) (wh := wh2) (ss := ss2) (rf := rf2) (wi := wi2) (fa := nI L.length) (fA := fA1) (fS := fS1) (x3 := nI (dk_dif sm S.1)) 5 0 th rfl hC.2.2.2.2.2.1 (fun i hi => absurd hi (Nat.not_lt_zero _))
  have hC' : dk_Cx nd ot le gr op it nm sh ex th' := ⟨hC.1, hC.2.1, hC.2.2.1, hC.2.2.2.1, hC.2.2.2.2.1, c3, hC.2.2.2.2.2.2⟩
  obtain ⟨fa', wi', re', rd', od', on', wh', ss', rf', fA', fS', d1, d2⟩ := dk_xc120 (bl := bl) (na := na) (kn := kn) (nd := nd) (ot := ot) (le := le) (gr := gr) (op := op) (it := it) (nm := nm) (sh := sh) (ex := ex) (wl := wl) (wg := wg) (lv := lv) (dm := dm) (ch := ch) (cg := cg) (my := my) (sp := sp) (pr := 0) (th := th') (sc := nI cnt) (stopped := dk_dif sm S.1) (pp := False) (N0 := N0) (dk_difL _ _ hsm) hN hC' 5 0 S (nI L.length) (upd wi2 0 (nI 0)) re2 rd2 od2 on2 wh2 ss2 rf2 fA1 fS1 rfl s2 ⟨fun h => absurd pk_us h, fun h => h.elim⟩
  refine ⟨th', fa', re', rd', od', on', wh', ss', rf', wi', fA', fS', c1, c3, d1, fun post h => br_f hpr (a4 _ ?_)⟩
  have go : ∃ n, wX_commit_38 post (nI sm) n (nI 0) pr bl na (nI cnt) (nI L.length) (nI sm) (nI N0.1) (dk_N kn) (dk_N nd) (dk_N (dk_E ot le gr op)) (dk_N it) (dk_N nm) (dk_N sh) (dk_N ex) (dk_W wl) (dk_N wg) (dk_T th) re1 rd1 od1 on1 wh1 ss1 rf1 wi1 lv dm ch cg my sp fA1 fS1 N0.2 := by
    refine b2 post (br_t (nI_le (Nat.le_refl _) (by have := dk_stp_len10 nd ot (fun p => th (5 * 0 + p)) (fun p => th (5 * 1 + p)); omega)) (nm_r (dk_difI sm hsm S.1 s2) ?_))
    exact c4 post (d2 post h)
  dsimp only
  rw [dk_lez (by omega)]
  refine br_c (fun _ => go) (fun z => br_f (fun e => ?_) go)
  rcases hf with hf | hf
  · rw [hf] at z; exact z rfl
  · exact hf e
end
end
section
section
variable {yp yb ys yn : Int32} {kn nd ot le gr op it nm sh ex wl ya : Nat → Nat} {yg yr yl yq yo yt : Nat → Int32}
theorem dk_yfs150 {cnt c : Nat} (hc : c + cnt ≤ 10) (h5 : cnt ≤ 5) : ∀ (l : List Nat) (j : Nat) (yt : Nat → Int32), j + l.length = cnt → (∀ i, i < l.length → yl (j + i) = nI (l.getD i 0)) →
    ∃ yt' : Nat → Int32, (∀ i, i < c + j → yt' i = yt i) ∧ (∀ i, i < l.length → yt' (c + j + i) = nI (2 * l.getD i 0 + 1)) ∧ ∀ post : Int32 → SY → Prop, post (nI (c + cnt)) (yp, yb, ys, yn, (dk_N kn), (dk_N nd), (dk_N ot), (dk_N le), (dk_N gr), (dk_N op), (dk_N ex), (dk_N it), (dk_N nm), (dk_N sh), (dk_W wl), yg, (dk_T ya), yr, yl, yq, yo, yt') → ∃ n, wY_findSteps_150 post (nI cnt) yp yb ys yn n (nI (c + j)) (nI j) (dk_N kn) (dk_N nd) (dk_N ot) (dk_N le) (dk_N gr) (dk_N op) (dk_N ex) (dk_N it) (dk_N nm) (dk_N sh) (dk_W wl) yg (dk_T ya) yr yl yq yo yt
  | [], j, yt, hj, hl => by
    have : j = cnt := by simpa using hj
    subst this
    exact ⟨yt, fun _ _ => rfl, fun i hi => absurd hi (Nat.not_lt_zero _), fun post h => ⟨1, br_t (nI_le (Nat.le_refl _) (by omega)) h⟩⟩
  | q :: l, j, yt, hj, hl => by
    rw [List.length_cons] at hj
    have e0 : yl j = nI q := by have := hl 0 (by simp); simpa using this
    obtain ⟨yt', b1, b2, b3⟩ := dk_yfs150 hc h5 l (j + 1) (upd yt (c + j) (nI (2 * q + 1))) (by omega) (fun i hi => by
      have := hl (i + 1) (by rw [List.length_cons]; omega)
      rw [show j + 1 + i = j + (i + 1) by omega, this]; rfl)
    refine ⟨yt', fun i hi => by rw [b1 i (by omega), pk_un (by omega)], fun i hi => ?_, fun post h => ?_⟩
    · cases i with
      | zero => rw [Nat.add_zero, b1 (c + j) (by omega), pk_us]; rfl
      | succ i =>
        have := b2 i (by rw [List.length_cons] at hi; omega)
        rw [show c + j + (i + 1) = c + (j + 1) + i by omega, this]; rfl
    · obtain ⟨n, hn⟩ := b3 post h
      refine ⟨n + 1, br_f (nI_ge (by omega) (by omega)) ?_⟩
      rw [nI_clamp (by omega), nI_clamp (by omega), e0, dk_m2, nI_1 (2 * q)]
      exact ⟨vp_in_nI (by omega) (by omega), vp_in_nI (by omega) (by omega), nm_e (nm_r (nI_1 _) (nm_r (nI_1 j) hn))⟩
theorem dk_yfs107 {cnt : Nat} {x2 : Int32} (h5 : cnt ≤ 5) : ∀ (l : List Nat) (j : Nat) (yt : Nat → Int32), j + l.length = cnt → (∀ i, i < l.length → yl (j + i) = nI (l.getD i 0)) →
    ∃ yt' : Nat → Int32, (∀ i, i < j → yt' i = yt i) ∧ (∀ i, i < l.length → yt' (j + i) = nI (2 * l.getD i 0)) ∧ ∀ post : Int32 → SY → Prop, wY_findSteps_107 post x2 (nI cnt) yp yb ys yn 1 (nI cnt) (nI cnt) (dk_N kn) (dk_N nd) (dk_N ot) (dk_N le) (dk_N gr) (dk_N op) (dk_N ex) (dk_N it) (dk_N nm) (dk_N sh) (dk_W wl) yg (dk_T ya) yr yl yq yo yt' → ∃ n, wY_findSteps_107 post x2 (nI cnt) yp yb ys yn n (nI j) (nI j) (dk_N kn) (dk_N nd) (dk_N ot) (dk_N le) (dk_N gr) (dk_N op) (dk_N ex) (dk_N it) (dk_N nm) (dk_N sh) (dk_W wl) yg (dk_T ya) yr yl yq yo yt
  | [], j, yt, hj, hl => by
    have : j = cnt := by simpa using hj
    subst this
    exact ⟨yt, fun _ _ => rfl, fun i hi => absurd hi (Nat.not_lt_zero _), fun post h => ⟨1, h⟩⟩
  | q :: l, j, yt, hj, hl => by
    rw [List.length_cons] at hj
    have e0 : yl j = nI q := by have := hl 0 (by simp); simpa using this
    obtain ⟨yt', b1, b2, b3⟩ := dk_yfs107 h5 l (j + 1) (upd yt j (nI (2 * q))) (by omega) (fun i hi => by
      have := hl (i + 1) (by rw [List.length_cons]; omega)
      rw [show j + 1 + i = j + (i + 1) by omega, this]; rfl)
    refine ⟨yt', fun i hi => by rw [b1 i (by omega), pk_un (by omega)], fun i hi => ?_, fun post h => ?_⟩
    · cases i with
      | zero => rw [Nat.add_zero, b1 j (by omega), pk_us]; rfl
      | succ i =>
        have := b2 i (by rw [List.length_cons] at hi; omega)
        rw [show j + (i + 1) = j + 1 + i by omega, this]; rfl
    · obtain ⟨n, hn⟩ := b3 post h
      refine ⟨n + 1, br_f (nI_ge (by omega) (by omega)) ?_⟩
      rw [nI_clamp (by omega), e0, dk_m2]
      exact ⟨vp_in_nI (by omega) (by omega), vp_in_nI (by omega) (by omega), nm_e (nm_r (nI_1 j) (nm_r (nI_1 j) hn))⟩
theorem dk_yfs9 (hya : ∀ i, ya i < 4) (post : Int32 → SY → Prop) (h : wY_findSteps_9 post 0 yp yb ys yn (dk_N kn) (dk_N nd) (dk_N ot) (dk_N le) (dk_N gr) (dk_N op) (dk_N ex) (dk_N it) (dk_N nm) (dk_N sh) (dk_W wl) yg (dk_T ya) yr yl yq yo yt 1 (nI (dk_gone (fun p => ya (0 + p)) (fun p => ya (5 + p)))) (nI (dk_fresh (fun p => ya (0 + p)) (fun p => ya (5 + p)))) (nI 5)) : ∀ d j, j + d = 5 →
    ∃ n, wY_findSteps_9 post 0 yp yb ys yn (dk_N kn) (dk_N nd) (dk_N ot) (dk_N le) (dk_N gr) (dk_N op) (dk_N ex) (dk_N it) (dk_N nm) (dk_N sh) (dk_W wl) yg (dk_T ya) yr yl yq yo yt n (nI (dk_m (fun p => decide (ya (0 + p) ≠ ya (5 + p) ∧ 0 < ya (0 + p))) j)) (nI (dk_m (fun p => decide (ya (0 + p) ≠ ya (5 + p) ∧ 0 < ya (5 + p))) j)) (nI j)
  | 0, j, hj => by
    have : j = 5 := by omega
    subst this
    exact ⟨1, h⟩
  | d + 1, j, hj => by
    obtain ⟨n, hn⟩ := dk_yfs9 hya post h d (j + 1) (by omega)
    have h0 := hya j
    have h1 := hya (5 + j)
    rw [dk_m, dk_m, Nat.zero_add] at hn
    refine ⟨n + 1, ?_⟩
    simp (disch := omega) only [wY_findSteps_9, wY_findSteps_51, nI_clamp, dk_Na, dk_Ta, dk_Wa, dk_m2, dk_m3, dk_m4, dk_m5, dk_m6, dk_a5, dk_a10, nI_add, nI_1, nI_leI, nI_ltI, nI_eq, dk_le3, dk_le5, dk_le6, dk_le16, dk_le20, dk_le25, dk_le32, dk_le36, dk_le1024, dk_lt0, dk_ge0, dk_lez, dk_eq0, dk_eq1, dk_eq4, dk_eq6, dk_tneg, dk_tpos, dk_teq, dk_tle, dk_pow, dk_or]
    refine br_f (by omega) ⟨vp_in_nI (by omega) (by omega), br_c (fun z => ⟨vp_in_nI (by omega) (by omega), br_c (fun y => nm_e ?_) (fun y => ⟨vp_in_nI (by omega) (by omega), vp_in_nI (by omega) (by omega), br_c (fun w => nm_e ?_) (fun w => nm_e (nm_e ?_))⟩)⟩)
      (fun z => ⟨vp_in_nI (by omega) (by omega), vp_in_nI (by omega) (by omega), br_c (fun v => ⟨vp_in_nI (by omega) (by omega), br_c (fun y => nm_e ?_) (fun y => ⟨vp_in_nI (by omega) (by omega), vp_in_nI (by omega) (by omega), br_c (fun w => nm_e ?_) (fun w => nm_e (nm_e ?_))⟩)⟩) (fun v => nm_e ⟨vp_in_nI (by omega) (by omega), br_c (fun y => nm_e ?_) (fun y => ⟨vp_in_nI (by omega) (by omega), vp_in_nI (by omega) (by omega), br_c (fun w => nm_e ?_) (fun w => nm_e (nm_e ?_))⟩)⟩)⟩)⟩
    · simpa [z, y] using hn
    · exact absurd (w.trans z) y
    · have y' : 0 < ya (5 + j) := by omega
      have w' : ¬ 0 = ya (5 + j) := by omega
      simpa [z, y', w'] using hn
    · omega
    · simpa [w.symm] using hn
    · exact absurd v w
    · have z' : 0 < ya j := by omega
      simpa [y, z, z'] using hn
    · exact absurd w v
    · have z' : 0 < ya j := by omega
      have y' : 0 < ya (5 + j) := by omega
      have v' : ¬ ya j = ya (5 + j) := fun e => v e.symm
      simpa [z', y', v'] using hn
theorem dk_yfs (hnd : ∀ x, nd x ≤ 4) (hot : ∀ k, ot k < 5) (hya : ∀ i, ya i < 4) :
    ∃ yr' yl' yt' : Nat → Int32, dk_rep yt' 0 (dk_stp nd ot (fun p => ya (0 + p)) (fun p => ya (5 + p))) ∧ ∀ post : Int32 → SY → Prop, post (nI (dk_stp nd ot (fun p => ya (0 + p)) (fun p => ya (5 + p))).length) (yp, yb, ys, yn, (dk_N kn), (dk_N nd), (dk_N ot), (dk_N le), (dk_N gr), (dk_N op), (dk_N ex), (dk_N it), (dk_N nm), (dk_N sh), (dk_W wl), yg, (dk_T ya), yr', yl', yq, yo, yt') → wpY_findSteps post (yp, yb, ys, yn, (dk_N kn), (dk_N nd), (dk_N ot), (dk_N le), (dk_N gr), (dk_N op), (dk_N ex), (dk_N it), (dk_N nm), (dk_N sh), (dk_W wl), yg, (dk_T ya), yr, yl, yq, yo, yt) := by
  have o1 := dk_onesL (dk_gone (fun p => ya (0 + p)) (fun p => ya (5 + p)))
  have o2 := dk_onesL (dk_fresh (fun p => ya (0 + p)) (fun p => ya (5 + p)))
  obtain ⟨M1, yl1, a1, a2, a3⟩ := dk_yor (yp := yp) (yb := yb) (ys := ys) (yn := yn) (kn := kn) (nd := nd) (ot := ot) (le := le) (gr := gr) (op := op) (it := it) (nm := nm) (sh := sh) (ex := ex) (wl := wl) (ya := ya) (yg := yg) (yr := yr) (yl := yl) (yq := yq) (yo := yo) (yt := yt) (s := 0) (by omega) (dk_goneL (fun p => ya (0 + p)) (fun p => ya (5 + p))) hnd hot hya true
  have l1 := dk_ord_l (ad := dk_ad nd ot (fun p => ya (0 + p))) true (dk_goneL (fun p => ya (0 + p)) (fun p => ya (5 + p)))
  obtain ⟨yt1, b1, b2, b3⟩ := dk_yfs107 (yp := yp) (yb := yb) (ys := ys) (yn := yn) (kn := kn) (nd := nd) (ot := ot) (le := le) (gr := gr) (op := op) (it := it) (nm := nm) (sh := sh) (ex := ex) (wl := wl) (ya := ya) (yg := yg) (yq := yq) (yo := yo) (yr := dk_N M1) (yl := yl1) (x2 := nI (dk_fresh (fun p => ya (0 + p)) (fun p => ya (5 + p)))) o1 (dk_ord (dk_R (dk_ad nd ot (fun p => ya (0 + p)))) true (dk_gone (fun p => ya (0 + p)) (fun p => ya (5 + p)))) 0 yt (by omega) (fun i hi => by rw [Nat.zero_add]; exact a2 i (by omega))
  obtain ⟨M2, yl2, c1, c2, c3⟩ := dk_yor (yp := yp) (yb := yb) (ys := ys) (yn := yn) (kn := kn) (nd := nd) (ot := ot) (le := le) (gr := gr) (op := op) (it := it) (nm := nm) (sh := sh) (ex := ex) (wl := wl) (ya := ya) (yg := yg) (yq := yq) (yo := yo) (yr := dk_N M1) (yl := yl1) (yt := yt1) (s := 5) (by omega) (dk_freshL (fun p => ya (0 + p)) (fun p => ya (5 + p))) hnd hot hya false
  have l2 := dk_ord_l (ad := dk_ad nd ot (fun p => ya (5 + p))) false (dk_freshL (fun p => ya (0 + p)) (fun p => ya (5 + p)))
  obtain ⟨yt2, d1, d2, d3⟩ := dk_yfs150 (yp := yp) (yb := yb) (ys := ys) (yn := yn) (kn := kn) (nd := nd) (ot := ot) (le := le) (gr := gr) (op := op) (it := it) (nm := nm) (sh := sh) (ex := ex) (wl := wl) (ya := ya) (yg := yg) (yq := yq) (yo := yo) (yr := dk_N M2) (yl := yl2) (c := dk_ones (dk_gone (fun p => ya (0 + p)) (fun p => ya (5 + p)))) (by omega) o2 (dk_ord (dk_R (dk_ad nd ot (fun p => ya (5 + p)))) false (dk_fresh (fun p => ya (0 + p)) (fun p => ya (5 + p)))) 0 yt1 (by omega) (fun i hi => by rw [Nat.zero_add]; exact c2 i (by omega))
  refine ⟨dk_N M2, yl2, yt2, dk_stp_rep (fun i hi => ?_) (fun i hi => ?_), fun post h => ?_⟩
  · rw [d1 i (by omega), ← b2 i (by omega), Nat.zero_add]
  · have := d2 i (by omega)
    rw [Nat.add_zero] at this; exact this
  · rw [dk_stp_len] at h
    refine dk_yfs9 hya post (br_t (by decide) (a3 _ (b3 post (br_t (nI_le (Nat.le_refl _) (by omega)) (c3 _ ?_))))) 5 0 rfl
    exact d3 post h
-- commit
theorem dk_yc12 {fo : Int32} (hnd : ∀ x, nd x ≤ 4) (hot : ∀ k, ot k < 5) (hya : ∀ i, ya i < 4) (hit : ∀ x, it x ≤ 6) (hnm : ∀ k, nm k < 12) (hsh : ∀ k, sh k < 4) (hex : ∀ k, ex k ≤ 1) (hun : dk_Un it nm ex) : ∀ d j (yq : Nat → Int32), j + d = 5 →
    ∃ yq' : Nat → Int32, ((fo = 0 ∧ ∃ q, j ≤ q ∧ q < 5 ∧ dk_fy nd ot it nm sh ex (fun p => ya (5 + p)) q) → ∀ post : Int32 → SY → Prop, post (-4) (yp, yb, ys, yn, (dk_N kn), (dk_N nd), (dk_N ot), (dk_N le), (dk_N gr), (dk_N op), (dk_N ex), (dk_N it), (dk_N nm), (dk_N sh), (dk_W wl), yg, (dk_T ya), yr, yl, yq', yo, yt) → ∃ n, wY_commit_12 post fo n (nI j) yp yb ys yn (dk_N kn) (dk_N nd) (dk_N ot) (dk_N le) (dk_N gr) (dk_N op) (dk_N ex) (dk_N it) (dk_N nm) (dk_N sh) (dk_W wl) yg (dk_T ya) yr yl yq yo yt) ∧
    (¬ (fo = 0 ∧ ∃ q, j ≤ q ∧ q < 5 ∧ dk_fy nd ot it nm sh ex (fun p => ya (5 + p)) q) → ∀ post : Int32 → SY → Prop, wY_commit_12 post fo 1 (nI 5) yp yb ys yn (dk_N kn) (dk_N nd) (dk_N ot) (dk_N le) (dk_N gr) (dk_N op) (dk_N ex) (dk_N it) (dk_N nm) (dk_N sh) (dk_W wl) yg (dk_T ya) yr yl yq' yo yt → ∃ n, wY_commit_12 post fo n (nI j) yp yb ys yn (dk_N kn) (dk_N nd) (dk_N ot) (dk_N le) (dk_N gr) (dk_N op) (dk_N ex) (dk_N it) (dk_N nm) (dk_N sh) (dk_W wl) yg (dk_T ya) yr yl yq yo yt)
  | 0, j, yq, hj => by
    have : j = 5 := by omega
    subst this
    exact ⟨yq, fun ⟨_, q, a, b, _⟩ => by omega, fun _ post h => ⟨1, h⟩⟩
  | d + 1, j, yq, hj => by
    by_cases z : fo = 0
    · obtain ⟨yq1, b1⟩ := dk_yif (yp := yp) (yb := yb) (ys := ys) (yn := yn) (kn := kn) (nd := nd) (ot := ot) (le := le) (gr := gr) (op := op) (it := it) (nm := nm) (sh := sh) (ex := ex) (wl := wl) (ya := ya) (yg := yg) (yr := yr) (yl := yl) (yq := yq) (yo := yo) (yt := yt) (s := 5) (p := j) (by omega) (by omega) hnd hot hya hit hnm hsh hex hun
      by_cases y : dk_fy nd ot it nm sh ex (fun p => ya (5 + p)) j
      · rw [dk_bT' y, if_pos rfl] at b1
        refine ⟨yq1, fun _ post h => ⟨1, br_f (by rw [dk_le5 (by omega)]; omega) (br_t z (b1 _ (br_f (by decide) h)))⟩, fun w => absurd ⟨z, j, Nat.le_refl _, by omega, y⟩ w⟩
      · rw [dk_bF' y] at b1
        obtain ⟨yq', b2, b3⟩ := dk_yc12 (fo := fo) hnd hot hya hit hnm hsh hex hun d (j + 1) yq1 (by omega)
        have walk : ∀ (post : Int32 → SY → Prop) n, wY_commit_12 post fo n (nI (j + 1)) yp yb ys yn (dk_N kn) (dk_N nd) (dk_N ot) (dk_N le) (dk_N gr) (dk_N op) (dk_N ex) (dk_N it) (dk_N nm) (dk_N sh) (dk_W wl) yg (dk_T ya) yr yl yq1 yo yt → wY_commit_12 post fo (n + 1) (nI j) yp yb ys yn (dk_N kn) (dk_N nd) (dk_N ot) (dk_N le) (dk_N gr) (dk_N op) (dk_N ex) (dk_N it) (dk_N nm) (dk_N sh) (dk_W wl) yg (dk_T ya) yr yl yq yo yt := fun post n hn =>
          br_f (by rw [dk_le5 (by omega)]; omega) (br_t z (b1 _ (br_t rfl (nm_r (nI_1 j) hn))))
        refine ⟨yq', fun ⟨_, q, a, b, c⟩ post h => ?_, fun w post h => ?_⟩
        · obtain ⟨n, hn⟩ := b2 ⟨z, q, by
            have : q ≠ j := fun e => y (e ▸ c)
            omega, b, c⟩ post h
          exact ⟨n + 1, walk post n hn⟩
        · obtain ⟨n, hn⟩ := b3 (fun ⟨_, q, a, b⟩ => w ⟨z, q, by omega, b⟩) post h
          exact ⟨n + 1, walk post n hn⟩
    · obtain ⟨yq', b2, b3⟩ := dk_yc12 (fo := fo) hnd hot hya hit hnm hsh hex hun d (j + 1) yq (by omega)
      refine ⟨yq', fun w => absurd w.1 z, fun w post h => ?_⟩
      obtain ⟨n, hn⟩ := b3 (fun v => z v.1) post h
      exact ⟨n + 1, br_f (by rw [dk_le5 (by omega)]; omega) (br_f z (nm_r (nI_1 j) hn))⟩
theorem dk_dif_or {sm0 sm e : Nat} (h0 : sm0 < 32) (hs : sm < 32) (he : e < 32) (hsub : ∀ q, q < 5 → sm.testBit q = true → sm0.testBit q = true) (hes : ∀ q, q < 5 → e.testBit q = true → sm.testBit q = true) : dk_dif sm0 sm ||| e = dk_dif sm0 (dk_dif sm e) := by
  apply dk_bx (dk_orL (dk_difL _ _ h0) he) (dk_difL _ _ h0)
  intro q hq
  rw [Nat.testBit_or, dk_difB _ _ h0, dk_difB _ _ h0, dk_difB _ _ hs]
  have a := hsub q hq
  have b := hes q hq
  cases e1 : sm0.testBit q <;> cases e2 : sm.testBit q <;> cases e3 : e.testBit q <;> simp_all
theorem dk_yc49 {cnt sm0 : Nat} {N0 : Nat × (Nat → Int32)} (hcnt : cnt ≤ 10) (h0 : sm0 < 32) (hN : ∀ l : List Nat, (l.foldl dk_yno N0).1 ≤ 16) (hnd : ∀ x, nd x ≤ 4) (hot : ∀ k, ot k < 5) (hya : ∀ i, ya i < 4) : ∀ (l : List Nat) (j : Nat) (s : Nat × List Nat) (yr yl : Nat → Int32), j + l.length = cnt → (∀ i, i < l.length → yt (j + i) = nI (l.getD i 0)) → (∀ k, k ∈ l → k < 10) → s.1 < 32 → (∀ q, q < 5 → s.1.testBit q = true → sm0.testBit q = true) →
    ∃ yr' yl' : Nat → Int32, ∀ post : Int32 → SY → Prop, wY_commit_49 post (nI cnt) 1 (nI (dk_dif sm0 (l.foldl (dk_ev (dk_ad nd ot (fun p => ya (0 + p)))) s).1)) (nI cnt) yp yb (nI (l.foldl (dk_ev (dk_ad nd ot (fun p => ya (0 + p)))) s).1) (nI ((l.foldl (dk_ev (dk_ad nd ot (fun p => ya (0 + p)))) s).2.foldl dk_yno N0).1) (dk_N kn) (dk_N nd) (dk_N ot) (dk_N le) (dk_N gr) (dk_N op) (dk_N ex) (dk_N it) (dk_N nm) (dk_N sh) (dk_W wl) yg (dk_T ya) yr' yl' yq (((l.foldl (dk_ev (dk_ad nd ot (fun p => ya (0 + p)))) s).2.foldl dk_yno N0).2) yt →
    ∃ n, wY_commit_49 post (nI cnt) n (nI (dk_dif sm0 s.1)) (nI j) yp yb (nI s.1) (nI (s.2.foldl dk_yno N0).1) (dk_N kn) (dk_N nd) (dk_N ot) (dk_N le) (dk_N gr) (dk_N op) (dk_N ex) (dk_N it) (dk_N nm) (dk_N sh) (dk_W wl) yg (dk_T ya) yr yl yq ((s.2.foldl dk_yno N0).2) yt
  | [], j, s, yr, yl, hj, hl, hk, hs, hsub => by
    have : j = cnt := by simpa using hj
    subst this
    exact ⟨yr, yl, fun post h => ⟨1, h⟩⟩
  | k :: l, j, s, yr, yl, hj, hl, hk, hs, hsub => by
    rw [List.length_cons] at hj
    have k10 := hk k (List.mem_cons_self ..)
    have e0 : yt j = nI k := by have := hl 0 (by simp); simpa using this
    have hl' : ∀ i, i < l.length → yt (j + 1 + i) = nI (l.getD i 0) := fun i hi => by
      have := hl (i + 1) (by rw [List.length_cons]; omega)
      rw [show j + 1 + i = j + (i + 1) by omega, this]; rfl
    by_cases z : k % 2 = 0
    · obtain ⟨yr1, yl1, a1⟩ := dk_yha (yp := yp) (yb := yb) (kn := kn) (nd := nd) (ot := ot) (le := le) (gr := gr) (op := op) (it := it) (nm := nm) (sh := sh) (ex := ex) (wl := wl) (ya := ya) (yg := yg) (yq := yq) (yt := yt) (yr := yr) (yl := yl) (p := k / 2) (sm := s.1) (N := s.2.foldl dk_yno N0) (by omega) hs (hN _) hnd hot hya
      have eL := dk_eSL (ad := dk_ad nd ot (fun p => ya (0 + p))) (p := k / 2) hs
      obtain ⟨yr', yl', b1⟩ := dk_yc49 hcnt h0 hN hnd hot hya l (j + 1) (dk_en (dk_ad nd ot (fun p => ya (0 + p))) s (k / 2)) yr1 yl1 (by omega) hl' (fun k' hk' => hk k' (List.mem_cons_of_mem _ hk')) (dk_en_L hs _) (fun q hq hb => hsub q hq ((dk_enB hs hq).mp hb).1)
      refine ⟨yr', yl', fun post h => ?_⟩
      rw [List.foldl_cons] at h
      have ee : dk_ev (dk_ad nd ot (fun p => ya (0 + p))) s k = dk_en (dk_ad nd ot (fun p => ya (0 + p))) s (k / 2) := if_pos z
      rw [ee] at h
      obtain ⟨n, hn⟩ := b1 post h
      refine ⟨n + 1, br_f (nI_ge (by omega) (by omega)) ⟨vp_in_nI (by omega) (by omega), by decide, ?_⟩⟩
      rw [nI_clamp (by omega), e0, dk_r2 (by omega), dk_d2 (by omega), z]
      refine br_t rfl ⟨vp_in_nI (by omega) (by omega), by decide, a1 _ (nm_r (e' := nI (dk_dif sm0 (dk_en (dk_ad nd ot (fun p => ya (0 + p))) s (k / 2)).1)) ?_ (nm_r (nI_1 j) ?_))⟩
      · rw [dk_or, dk_dif_or h0 hs eL hsub (fun q hq hb => ((dk_eSB hq).mp hb).2)]; rfl
      · unfold dk_en at hn
        dsimp only at hn
        rw [List.foldl_append] at hn
        exact hn
    · obtain ⟨yr', yl', b1⟩ := dk_yc49 hcnt h0 hN hnd hot hya l (j + 1) s yr yl (by omega) hl' (fun k' hk' => hk k' (List.mem_cons_of_mem _ hk')) hs hsub
      refine ⟨yr', yl', fun post h => ?_⟩
      rw [List.foldl_cons] at h
      have ee : dk_ev (dk_ad nd ot (fun p => ya (0 + p))) s k = s := if_neg z
      rw [ee] at h
      obtain ⟨n, hn⟩ := b1 post h
      refine ⟨n + 1, br_f (nI_ge (by omega) (by omega)) ⟨vp_in_nI (by omega) (by omega), by decide, ?_⟩⟩
      rw [nI_clamp (by omega), e0, dk_r2 (by omega), dk_eq0 (by omega)]
      exact br_f z (nm_r (nI_1 j) hn)
theorem dk_yc92 {x2 x3 : Int32} : ∀ d j (ya : Nat → Nat), j + d = 5 → (∀ i, ya i < 4) → (∀ i, i < j → ya i = ya (5 + i)) →
    ∃ ya' : Nat → Nat, (∀ i, i < 5 → ya' i = ya (5 + i)) ∧ (∀ i, ya' i < 4) ∧ ∀ post : Int32 → SY → Prop, (∃ n128, wY_commit_128 post x2 x3 n128 (nI 0) 0 yb ys yn (dk_N kn) (dk_N nd) (dk_N ot) (dk_N le) (dk_N gr) (dk_N op) (dk_N ex) (dk_N it) (dk_N nm) (dk_N sh) (dk_W wl) yg (dk_T ya') yr yl yq yo yt) → ∃ n, wY_commit_92 post x2 x3 yp yb ys yn n (nI j) (dk_N kn) (dk_N nd) (dk_N ot) (dk_N le) (dk_N gr) (dk_N op) (dk_N ex) (dk_N it) (dk_N nm) (dk_N sh) (dk_W wl) yg (dk_T ya) yr yl yq yo yt
  | 0, j, ya, hj, h4, h => by
    have : j = 5 := by omega
    subst this
    exact ⟨ya, h, h4, fun post h' => ⟨1, br_t (by decide) h'⟩⟩
  | d + 1, j, ya, hj, h4, h => by
    have t4 := h4 (5 + j)
    obtain ⟨ya', b1, b3, b4⟩ := dk_yc92 d (j + 1) (dk_u ya j (ya (5 + j))) (by omega) (fun i => by
      by_cases e : i = j
      · subst e; rw [dk_us]; exact t4
      · rw [dk_un e]; exact h4 i) (fun i hi => by
      rw [dk_un (j := 5 + i) (by omega)]
      by_cases e : i = j
      · subst e; rw [dk_us]
      · rw [dk_un e]; exact h i (by omega))
    refine ⟨ya', fun i hi => by rw [b1 i hi, dk_un (by omega)], b3, fun post h' => ?_⟩
    obtain ⟨n, hn⟩ := b4 post h'
    refine ⟨n + 1, br_f (by rw [dk_le5 (by omega)]; omega) ?_⟩
    rw [dk_a5, nI_clamp (by omega), nI_clamp (by omega), dk_Ta, dk_uT]
    exact ⟨vp_in_nI (by omega) (by omega), vp_in_nI (by omega) (by omega), nm_e (nm_r (nI_1 j) hn)⟩
theorem dk_yc128 {stopped : Nat} {x2 : Int32} {N0 : Nat × (Nat → Int32)} (hst : stopped < 32) (hN : ∀ l : List Nat, (l.foldl dk_yno N0).1 ≤ 16) (hnd : ∀ x, nd x ≤ 4) (hot : ∀ k, ot k < 5) (hya : ∀ i, ya i < 4) (hit : ∀ x, it x ≤ 6) (hnm : ∀ k, nm k < 12) (hsh : ∀ k, sh k < 4) (hex : ∀ k, ex k ≤ 1) (hun : dk_Un it nm ex) : ∀ d p (s : Nat × List Nat) (yr yl yq : Nat → Int32), p + d = 5 → s.1 < 32 →
    ∃ yr' yl' yq' : Nat → Int32, ∀ post : Int32 → SY → Prop, post x2 (yp, yb, (nI (dk_rs nd ot it nm sh ex (fun p => ya (0 + p)) stopped d p s).1), (nI ((dk_rs nd ot it nm sh ex (fun p => ya (0 + p)) stopped d p s).2.foldl dk_yno N0).1), (dk_N kn), (dk_N nd), (dk_N ot), (dk_N le), (dk_N gr), (dk_N op), (dk_N ex), (dk_N it), (dk_N nm), (dk_N sh), (dk_W wl), yg, (dk_T ya), yr', yl', yq', (((dk_rs nd ot it nm sh ex (fun p => ya (0 + p)) stopped d p s).2.foldl dk_yno N0).2), yt) →
    ∃ n, wY_commit_128 post x2 (nI stopped) n (nI p) yp yb (nI s.1) (nI (s.2.foldl dk_yno N0).1) (dk_N kn) (dk_N nd) (dk_N ot) (dk_N le) (dk_N gr) (dk_N op) (dk_N ex) (dk_N it) (dk_N nm) (dk_N sh) (dk_W wl) yg (dk_T ya) yr yl yq ((s.2.foldl dk_yno N0).2) yt
  | 0, p, s, yr, yl, yq, hp, hs => by
    have : p = 5 := by omega
    subst this
    exact ⟨yr, yl, yq, fun post h => ⟨1, br_t (by decide) h⟩⟩
  | d + 1, p, s, yr, yl, yq, hp, hs => by
    have p5 : p < 5 := by omega
    have t4 := hya p
    have e50 : ya (0 + p) = ya p := by rw [Nat.zero_add]
    by_cases z : stopped.testBit p = true ∧ 0 < ya (0 + p)
    · rw [dk_rs, if_pos z]
      by_cases y : dk_FF nd ot it nm sh ex (fun p => ya (0 + p)) s.1 p
      · obtain ⟨yr1, yq1, a1⟩ := dk_yln_no (yp := yp) (yb := yb) (kn := kn) (nd := nd) (ot := ot) (le := le) (gr := gr) (op := op) (it := it) (nm := nm) (sh := sh) (ex := ex) (wl := wl) (ya := ya) (yg := yg) (yt := yt) (yr := yr) (yl := yl) (yq := yq) (p := p) (sm := s.1) (N := s.2.foldl dk_yno N0) p5 hs hnd hot hya hit hnm hsh hex hun y
        have eb : dk_bn nd ot it nm sh ex (fun p => ya (0 + p)) s p = s := by unfold dk_bn; rw [dk_bT' y, if_pos rfl]
        obtain ⟨yr', yl', yq', b1⟩ := dk_yc128 hst hN hnd hot hya hit hnm hsh hex hun d (p + 1) s yr1 yl yq1 (by omega) hs
        rw [eb]
        refine ⟨yr', yl', yq', fun post h => ?_⟩
        obtain ⟨n, hn⟩ := b1 post h
        refine ⟨n + 1, br_f (by rw [dk_le5 (by omega)]; omega) ?_⟩
        rw [dk_bit1 (by omega) (by omega), nI_clamp (by omega), dk_Ta, dk_tneg (by omega)]
        exact br_t z.1 ⟨vp_in_nI (by omega) (by omega), br_f (by have := z.2; omega) (a1 _ (nm_r (nI_1 p) hn))⟩
      · obtain ⟨yr1, yl1, yq1, a1⟩ := dk_yln_ok (yp := yp) (yb := yb) (kn := kn) (nd := nd) (ot := ot) (le := le) (gr := gr) (op := op) (it := it) (nm := nm) (sh := sh) (ex := ex) (wl := wl) (ya := ya) (yg := yg) (yt := yt) (yr := yr) (yl := yl) (yq := yq) (p := p) (sm := s.1) (N := s.2.foldl dk_yno N0) p5 hs (hN _) hnd hot hya hit hnm hsh hex hun y
        obtain ⟨yr', yl', yq', b1⟩ := dk_yc128 hst hN hnd hot hya hit hnm hsh hex hun d (p + 1) (dk_bn nd ot it nm sh ex (fun p => ya (0 + p)) s p) yr1 yl1 yq1 (by omega) (dk_bn_L hs p5)
        refine ⟨yr', yl', yq', fun post h => ?_⟩
        obtain ⟨n, hn⟩ := b1 post h
        refine ⟨n + 1, br_f (by rw [dk_le5 (by omega)]; omega) ?_⟩
        rw [dk_bit1 (by omega) (by omega), nI_clamp (by omega), dk_Ta, dk_tneg (by omega)]
        refine br_t z.1 ⟨vp_in_nI (by omega) (by omega), br_f (by have := z.2; omega) (a1 _ (nm_r (nI_1 p) ?_))⟩
        unfold dk_bn at hn
        rw [dk_bF' y, if_neg (by decide)] at hn
        dsimp only at hn
        rw [List.foldl_append] at hn
        exact hn
    · rw [dk_rs, if_neg z]
      obtain ⟨yr', yl', yq', b1⟩ := dk_yc128 hst hN hnd hot hya hit hnm hsh hex hun d (p + 1) s yr yl yq (by omega) hs
      refine ⟨yr', yl', yq', fun post h => ?_⟩
      obtain ⟨n, hn⟩ := b1 post h
      refine ⟨n + 1, br_f (by rw [dk_le5 (by omega)]; omega) ?_⟩
      rw [dk_bit1 (by omega) (by omega), nI_clamp (by omega), dk_Ta, dk_tneg (by omega)]
      exact br_c (fun w => ⟨vp_in_nI (by omega) (by omega), br_t (by have : ¬ 0 < ya (0 + p) := fun v => z ⟨w, v⟩; omega) (nm_r (nI_1 p) hn)⟩) (fun w => nm_r (nI_1 p) hn)
theorem dk_ycm_no (hyp : ¬ yp = 0) (hnd : ∀ x, nd x ≤ 4) (hot : ∀ k, ot k < 5) (hya : ∀ i, ya i < 4) (hit : ∀ x, it x ≤ 6) (hnm : ∀ k, nm k < 12) (hsh : ∀ k, sh k < 4) (hex : ∀ k, ex k ≤ 1) (hun : dk_Un it nm ex) (hf : ∃ q, 0 ≤ q ∧ q < 5 ∧ dk_fy nd ot it nm sh ex (fun p => ya (5 + p)) q) :
    ∃ yq' : Nat → Int32, ∀ post : Int32 → SY → Prop, post (-4) (yp, yb, ys, yn, (dk_N kn), (dk_N nd), (dk_N ot), (dk_N le), (dk_N gr), (dk_N op), (dk_N ex), (dk_N it), (dk_N nm), (dk_N sh), (dk_W wl), yg, (dk_T ya), yr, yl, yq', yo, yt) → wpY_commit post (yp, yb, ys, yn, (dk_N kn), (dk_N nd), (dk_N ot), (dk_N le), (dk_N gr), (dk_N op), (dk_N ex), (dk_N it), (dk_N nm), (dk_N sh), (dk_W wl), yg, (dk_T ya), yr, yl, yq, yo, yt) 0 := by
  obtain ⟨yq', b1, _⟩ := dk_yc12 (yp := yp) (yb := yb) (ys := ys) (yn := yn) (kn := kn) (nd := nd) (ot := ot) (le := le) (gr := gr) (op := op) (it := it) (nm := nm) (sh := sh) (ex := ex) (wl := wl) (ya := ya) (yg := yg) (yr := yr) (yl := yl) (yo := yo) (yt := yt) (fo := 0) hnd hot hya hit hnm hsh hex hun 5 0 yq rfl
  exact ⟨yq', fun post h => br_f hyp (b1 ⟨rfl, hf⟩ post h)⟩
theorem dk_ycm_ok {sm : Nat} {fo : Int32} {N0 : Nat × (Nat → Int32)} (hyp : ¬ yp = 0) (hsm : sm < 32) (hN : ∀ l : List Nat, (l.foldl dk_yno N0).1 ≤ 16) (hnd : ∀ x, nd x ≤ 4) (hot : ∀ k, ot k < 5) (hya : ∀ i, ya i < 4) (hit : ∀ x, it x ≤ 6) (hnm : ∀ k, nm k < 12) (hsh : ∀ k, sh k < 4) (hex : ∀ k, ex k ≤ 1) (hun : dk_Un it nm ex) (hin : ∀ q, q < 5 → sm.testBit q = true → 0 < ya (0 + q))
    (hf : ¬ (fo = 0 ∧ ∃ q, 0 ≤ q ∧ q < 5 ∧ dk_fy nd ot it nm sh ex (fun p => ya (5 + p)) q)) :
    ∃ (ya' : Nat → Nat) (yr' yl' yq' yt' : Nat → Int32), (∀ i, i < 5 → ya' i = ya (5 + i)) ∧ (∀ i, ya' i < 4) ∧
    ∀ post : Int32 → SY → Prop, post (nI (dk_stp nd ot (fun p => ya (0 + p)) (fun p => ya (5 + p))).length)
      (0, yb, (nI (dk_rs nd ot it nm sh ex (fun p => ya' (0 + p)) (dk_dif sm ((dk_stp nd ot (fun p => ya (0 + p)) (fun p => ya (5 + p))).foldl (dk_ev (dk_ad nd ot (fun p => ya (0 + p)))) (sm, [])).1) 5 0 ((dk_stp nd ot (fun p => ya (0 + p)) (fun p => ya (5 + p))).foldl (dk_ev (dk_ad nd ot (fun p => ya (0 + p)))) (sm, []))).1), (nI ((dk_rs nd ot it nm sh ex (fun p => ya' (0 + p)) (dk_dif sm ((dk_stp nd ot (fun p => ya (0 + p)) (fun p => ya (5 + p))).foldl (dk_ev (dk_ad nd ot (fun p => ya (0 + p)))) (sm, [])).1) 5 0 ((dk_stp nd ot (fun p => ya (0 + p)) (fun p => ya (5 + p))).foldl (dk_ev (dk_ad nd ot (fun p => ya (0 + p)))) (sm, []))).2.foldl dk_yno N0).1), (dk_N kn), (dk_N nd), (dk_N ot), (dk_N le), (dk_N gr), (dk_N op), (dk_N ex), (dk_N it), (dk_N nm), (dk_N sh), (dk_W wl), yg, (dk_T ya'), yr', yl', yq', (((dk_rs nd ot it nm sh ex (fun p => ya' (0 + p)) (dk_dif sm ((dk_stp nd ot (fun p => ya (0 + p)) (fun p => ya (5 + p))).foldl (dk_ev (dk_ad nd ot (fun p => ya (0 + p)))) (sm, [])).1) 5 0 ((dk_stp nd ot (fun p => ya (0 + p)) (fun p => ya (5 + p))).foldl (dk_ev (dk_ad nd ot (fun p => ya (0 + p)))) (sm, []))).2.foldl dk_yno N0).2), yt') →
      wpY_commit post (yp, yb, (nI sm), (nI N0.1), (dk_N kn), (dk_N nd), (dk_N ot), (dk_N le), (dk_N gr), (dk_N op), (dk_N ex), (dk_N it), (dk_N nm), (dk_N sh), (dk_W wl), yg, (dk_T ya), yr, yl, yq, N0.2, yt) fo := by
  obtain ⟨yq1, _, a2⟩ := dk_yc12 (yp := yp) (yb := yb) (kn := kn) (nd := nd) (ot := ot) (le := le) (gr := gr) (op := op) (it := it) (nm := nm) (sh := sh) (ex := ex) (wl := wl) (ya := ya) (yg := yg) (yr := yr) (yl := yl) (yt := yt) (ys := nI sm) (yn := nI N0.1) (yo := N0.2) (fo := fo) hnd hot hya hit hnm hsh hex hun 5 0 yq rfl
  obtain ⟨yr1, yl1, yt1, b1, b2⟩ := dk_yfs (yp := yp) (yb := yb) (kn := kn) (nd := nd) (ot := ot) (le := le) (gr := gr) (op := op) (it := it) (nm := nm) (sh := sh) (ex := ex) (wl := wl) (ya := ya) (yg := yg) (yr := yr) (yl := yl) (yt := yt) (ys := nI sm) (yn := nI N0.1) (yo := N0.2) (yq := yq1) hnd hot hya
  obtain ⟨s1, s2, s3⟩ := dk_stops (nd := nd) (ot := ot) (t := fun p => ya (0 + p)) (t' := fun p => ya (5 + p)) (s := (sm, [])) hsm hin
  obtain ⟨yr2, yl2, c1⟩ := dk_yc49 (yp := yp) (yb := yb) (kn := kn) (nd := nd) (ot := ot) (le := le) (gr := gr) (op := op) (it := it) (nm := nm) (sh := sh) (ex := ex) (wl := wl) (ya := ya) (yg := yg) (yq := yq1) (yt := yt1) (N0 := N0) (sm0 := sm) (dk_stp_len10 nd ot (fun p => ya (0 + p)) (fun p => ya (5 + p))) hsm hN hnd hot hya (dk_stp nd ot (fun p => ya (0 + p)) (fun p => ya (5 + p))) 0 (sm, []) yr1 yl1 (by omega) (fun i hi => by have := b1 i hi; rw [Nat.zero_add] at this ⊢; exact this) dk_stp_10 hsm (fun _ _ h => h)
  generalize hS : (dk_stp nd ot (fun p => ya (0 + p)) (fun p => ya (5 + p))).foldl (dk_ev (dk_ad nd ot (fun p => ya (0 + p)))) (sm, []) = S at *
  have hlen := dk_stp_len10 nd ot (fun p => ya (0 + p)) (fun p => ya (5 + p))
  generalize hcnt : (dk_stp nd ot (fun p => ya (0 + p)) (fun p => ya (5 + p))).length = cnt at *
  obtain ⟨ya', d1, d2, d3⟩ := dk_yc92 (yp := yp) (yb := yb) (kn := kn) (nd := nd) (ot := ot) (le := le) (gr := gr) (op := op) (it := it) (nm := nm) (sh := sh) (ex := ex) (wl := wl) (yg := yg) (ys := nI S.1) (yn := nI (S.2.foldl dk_yno N0).1) (yo := (S.2.foldl dk_yno N0).2) (yq := yq1) (yr := yr2) (yl := yl2) (yt := yt1) (x2 := nI cnt) (x3 := nI (dk_dif sm S.1)) 5 0 ya rfl hya (fun i hi => absurd hi (Nat.not_lt_zero _))
  obtain ⟨yr', yl', yq', e1⟩ := dk_yc128 (yb := yb) (kn := kn) (nd := nd) (ot := ot) (le := le) (gr := gr) (op := op) (it := it) (nm := nm) (sh := sh) (ex := ex) (wl := wl) (yg := yg) (yp := 0) (yt := yt1) (ya := ya') (x2 := nI cnt) (N0 := N0) (stopped := dk_dif sm S.1) (dk_difL _ _ hsm) hN hnd hot d2 hit hnm hsh hex hun 5 0 S yr2 yl2 yq1 rfl s2
  refine ⟨ya', yr', yl', yq', yt1, d1, d2, fun post h => br_f hyp (a2 hf post (br_t (by decide) (b2 _ ?_)))⟩
  have z : dk_dif sm sm = 0 := by
    apply dk_bx (dk_difL _ _ hsm) (by omega)
    intro q hq
    rw [dk_difB _ _ hsm, Nat.zero_testBit]; cases sm.testBit q <;> rfl
  have w := c1 post (br_t (nI_le (Nat.le_refl _) (by omega)) (d3 post (e1 post h)))
  dsimp only at w
  rw [z] at w
  exact w
end
end
section
theorem dk_fl_m {f : Nat → Nat} {b : Nat} : ∀ {d j : Nat} {e : Nat × Nat}, e ∈ dk_fl f b d j → ∃ i, j ≤ i ∧ i < j + d ∧ e.1 = b + i ∧ e.2 = f (b + i) ∧ e.2 ≠ 0
  | 0, _, _, h => absurd h (by simp [dk_fl])
  | d + 1, j, e, h => by
    rw [dk_fl] at h
    by_cases z : f (b + j) = 0
    · rw [if_pos z] at h
      obtain ⟨i, a, b, c⟩ := dk_fl_m h
      exact ⟨i, by omega, by omega, c⟩
    · rw [if_neg z] at h
      rcases List.mem_cons.mp h with h | h
      · subst h; exact ⟨j, Nat.le_refl _, by omega, rfl, rfl, z⟩
      · obtain ⟨i, a, b, c⟩ := dk_fl_m h
        exact ⟨i, by omega, by omega, c⟩
theorem dk_fs_m {nd ot it nm sh ex t : Nat → Nat} {set : Nat} : ∀ {d p : Nat} {e : Nat × Nat}, e ∈ dk_fs nd ot it nm sh ex t set d p → ∃ q i, p ≤ q ∧ q < p + d ∧ 0 < t q ∧ i < it (dk_x t q) ∧ e.1 = 6 * dk_x t q + i ∧ e.2 = dk_fk nd ot it nm sh ex t q (6 * dk_x t q + i)
  | 0, _, _, h => absurd h (by simp [dk_fs])
  | d + 1, p, e, h => by
    rw [dk_fs] at h
    rcases List.mem_append.mp h with h | h
    · by_cases z : set.testBit p = true
      · rw [if_pos z] at h
        unfold dk_fp at h
        by_cases y : t p = 0
        · rw [if_pos y] at h; exact absurd h (by simp)
        · rw [if_neg y] at h
          obtain ⟨i, a, b, c, d, _⟩ := dk_fl_m h
          exact ⟨p, i, Nat.le_refl _, by omega, by omega, by omega, c, d⟩
      · rw [if_neg z] at h; exact absurd h (by simp)
    · obtain ⟨q, i, a, b, c⟩ := dk_fs_m h
      exact ⟨q, i, by omega, by omega, c⟩
theorem dk_getD_mem2 {l : List (Nat × Nat)} {i : Nat} (h : i < l.length) : l.getD i (0, 0) ∈ l := by
  rw [List.getD_eq_getElem?_getD, List.getElem?_eq_getElem h]
  exact List.getElem_mem h
theorem dk_getD_app2R {l m : List (Nat × Nat)} {i : Nat} (h : l.length ≤ i) : (l ++ m).getD i (0, 0) = m.getD (i - l.length) (0, 0) := by
  rw [List.getD_eq_getElem?_getD, List.getD_eq_getElem?_getD, List.getElem?_append_right h]
/-- what fault answers about a fault -/
noncomputable def dk_an (nd ot it nm ex t : Nat → Nat) (w : Nat) (e : Nat × Nat) : Int32 :=
  if w = 0 then nI (e.1 / 18) else if w = 1 then nI (e.1 % 6) else if w = 2 then nI e.2 else nI (dk_place nd ot it nm ex t (e.1 / 18) (nm e.1)) - 1
section
variable {yp yb ys yn : Int32} {kn nd ot le gr op it nm sh ex wl ya : Nat → Nat} {yg yr yl yq yo yt : Nat → Int32}
theorem dk_yf67 {p x w : Nat} (hp : p < 5) (hw : w < 4) (ht : 0 < ya (5 + p)) (hxe : dk_x (fun p => ya (5 + p)) p = x) (hnd : ∀ x, nd x ≤ 4) (hot : ∀ k, ot k < 5) (hya : ∀ i, ya i < 4) (hit : ∀ x, it x ≤ 6) (hnm : ∀ k, nm k < 12) (hsh : ∀ k, sh k < 4) (hex : ∀ k, ex k ≤ 1) (hun : dk_Un it nm ex) : ∀ d i left (yq : Nat → Int32), i + d = it x → left < 2 ^ 31 →
    ∃ yq' : Nat → Int32, (left < (dk_fl (dk_fk nd ot it nm sh ex (fun p => ya (5 + p)) p) (6 * x) d i).length → ∀ (post : Int32 → SY → Prop) J, post (dk_an nd ot it nm ex (fun p => ya (5 + p)) w ((dk_fl (dk_fk nd ot it nm sh ex (fun p => ya (5 + p)) p) (6 * x) d i).getD left (0, 0))) (yp, yb, ys, yn, (dk_N kn), (dk_N nd), (dk_N ot), (dk_N le), (dk_N gr), (dk_N op), (dk_N ex), (dk_N it), (dk_N nm), (dk_N sh), (dk_W wl), yg, (dk_T ya), yr, yl, yq', yo, yt) → ∃ n, wY_fault_67 post J (nI w) (nI p) (nI x) n (nI left) (nI i) yp yb ys yn (dk_N kn) (dk_N nd) (dk_N ot) (dk_N le) (dk_N gr) (dk_N op) (dk_N ex) (dk_N it) (dk_N nm) (dk_N sh) (dk_W wl) yg (dk_T ya) yr yl yq yo yt) ∧
    (¬ left < (dk_fl (dk_fk nd ot it nm sh ex (fun p => ya (5 + p)) p) (6 * x) d i).length → ∀ (post : Int32 → SY → Prop) J, J (nI (left - (dk_fl (dk_fk nd ot it nm sh ex (fun p => ya (5 + p)) p) (6 * x) d i).length)) (nI (p + 1)) yp yb ys yn (dk_N kn) (dk_N nd) (dk_N ot) (dk_N le) (dk_N gr) (dk_N op) (dk_N ex) (dk_N it) (dk_N nm) (dk_N sh) (dk_W wl) yg (dk_T ya) yr yl yq' yo yt → ∃ n, wY_fault_67 post J (nI w) (nI p) (nI x) n (nI left) (nI i) yp yb ys yn (dk_N kn) (dk_N nd) (dk_N ot) (dk_N le) (dk_N gr) (dk_N op) (dk_N ex) (dk_N it) (dk_N nm) (dk_N sh) (dk_W wl) yg (dk_T ya) yr yl yq yo yt)
  | 0, i, left, yq, hi, hl => by
    have hx : x < 15 := by rw [← hxe]; exact dk_x15 hp (hya _)
    have h6 := hit x
    refine ⟨yq, fun h => absurd h (Nat.not_lt_zero _), fun _ post J h => ⟨1, ?_⟩⟩
    rw [dk_fl, List.length_nil, Nat.sub_zero] at h
    simp (disch := omega) only [wY_fault_67, nI_clamp, dk_Na, dk_Ta, dk_Wa, dk_m2, dk_m3, dk_m4, dk_m5, dk_m6, dk_a5, dk_a10, nI_add, nI_1, nI_leI, nI_ltI, nI_eq, dk_le3, dk_le5, dk_le6, dk_le16, dk_le20, dk_le25, dk_le32, dk_le36, dk_le1024, dk_lt0, dk_ge0, dk_lez, dk_eq0, dk_eq1, dk_eq4, dk_eq6, dk_tneg, dk_tpos, dk_teq, dk_tle]
    exact ⟨vp_in_nI hx (by omega), br_t (by omega) (nm_e h)⟩
  | d + 1, i, left, yq, hi, hl => by
    have hx : x < 15 := by rw [← hxe]; exact dk_x15 hp (hya _)
    have h6 := hit x
    have xv : x / 3 = p := by rw [← hxe]; unfold dk_x; have := hya (5 + p); dsimp only; omega
    have f3 := dk_fk3 nd ot it nm sh ex (fun p => ya (5 + p)) p (6 * x + i)
    obtain ⟨yq1, b1⟩ := dk_yfo (yp := yp) (yb := yb) (ys := ys) (yn := yn) (kn := kn) (nd := nd) (ot := ot) (le := le) (gr := gr) (op := op) (it := it) (nm := nm) (sh := sh) (ex := ex) (wl := wl) (ya := ya) (yg := yg) (yr := yr) (yl := yl) (yq := yq) (yo := yo) (yt := yt) (s := 5) (p := p) (k := 6 * x + i) (by omega) hp (by omega) hnd hot hya hit hnm hsh hex hun ht
    by_cases z : dk_fk nd ot it nm sh ex (fun p => ya (5 + p)) p (6 * x + i) = 0
    · rw [z] at b1
      obtain ⟨yq', c1, c2⟩ := dk_yf67 hp hw ht hxe hnd hot hya hit hnm hsh hex hun d (i + 1) left yq1 (by omega) hl
      have walk : ∀ (post : Int32 → SY → Prop) J n, wY_fault_67 post J (nI w) (nI p) (nI x) n (nI left) (nI (i + 1)) yp yb ys yn (dk_N kn) (dk_N nd) (dk_N ot) (dk_N le) (dk_N gr) (dk_N op) (dk_N ex) (dk_N it) (dk_N nm) (dk_N sh) (dk_W wl) yg (dk_T ya) yr yl yq1 yo yt → wY_fault_67 post J (nI w) (nI p) (nI x) (n + 1) (nI left) (nI i) yp yb ys yn (dk_N kn) (dk_N nd) (dk_N ot) (dk_N le) (dk_N gr) (dk_N op) (dk_N ex) (dk_N it) (dk_N nm) (dk_N sh) (dk_W wl) yg (dk_T ya) yr yl yq yo yt := fun post J n hn => by
        simp (disch := omega) only [wY_fault_67, nI_clamp, dk_Na, dk_Ta, dk_Wa, dk_m2, dk_m3, dk_m4, dk_m5, dk_m6, dk_a5, dk_a10, nI_add, nI_1, nI_leI, nI_ltI, nI_eq, dk_le3, dk_le5, dk_le6, dk_le16, dk_le20, dk_le25, dk_le32, dk_le36, dk_le1024, dk_lt0, dk_ge0, dk_lez, dk_eq0, dk_eq1, dk_eq4, dk_eq6, dk_tneg, dk_tpos, dk_teq, dk_tle]
        exact ⟨vp_in_nI hx (by omega), br_f (by omega) (b1 _ (br_t rfl (nm_e hn)))⟩
      rw [dk_fl, if_pos z]
      refine ⟨yq', fun h post J hp' => ?_, fun h post J hJ => ?_⟩
      · obtain ⟨n, hn⟩ := c1 h post J hp'
        exact ⟨n + 1, walk post J n hn⟩
      · obtain ⟨n, hn⟩ := c2 h post J hJ
        exact ⟨n + 1, walk post J n hn⟩
    · rw [dk_fl, if_neg z]
      cases left with
      | zero =>
        have e18 : (6 * x + i) / 18 = p := by omega
        have e6 : (6 * x + i) % 6 = i := by omega
        obtain ⟨yq2, b2⟩ := dk_ylk (yp := yp) (yb := yb) (ys := ys) (yn := yn) (kn := kn) (nd := nd) (ot := ot) (le := le) (gr := gr) (op := op) (it := it) (nm := nm) (sh := sh) (ex := ex) (wl := wl) (ya := ya) (yg := yg) (yr := yr) (yl := yl) (yo := yo) (yt := yt) (yq := yq1) (s := 5) (p := p) (c := nm (6 * x + i)) (by omega) hp (hnm _) hnd hot hya hit hnm hex ht
        refine ⟨if w = 3 then yq2 else yq1, fun _ post J h => ⟨1, ?_⟩, fun h => absurd (by rw [List.length_cons]; omega) h⟩
        have hd : ((6 * x + i, dk_fk nd ot it nm sh ex (fun p => ya (5 + p)) p (6 * x + i)) :: dk_fl (dk_fk nd ot it nm sh ex (fun p => ya (5 + p)) p) (6 * x) d (i + 1)).getD 0 (0, 0) = (6 * x + i, dk_fk nd ot it nm sh ex (fun p => ya (5 + p)) p (6 * x + i)) := rfl
        rw [hd] at h
        unfold dk_an at h
        dsimp only at h
        rw [e18, e6] at h
        have ew0 : nI w = 0 ↔ w = 0 := dk_eq0 (by omega)
        have ew1 : nI w = 1 ↔ w = 1 := dk_eq1 (by omega)
        have ew2 : nI w = 2 ↔ w = 2 := nI_eq (b := 2) (by omega) (by omega)
        simp (disch := omega) only [wY_fault_67, nI_clamp, dk_Na, dk_Ta, dk_Wa, dk_m2, dk_m3, dk_m4, dk_m5, dk_m6, dk_a5, dk_a10, nI_add, nI_1, nI_leI, nI_ltI, nI_eq, dk_le3, dk_le5, dk_le6, dk_le16, dk_le20, dk_le25, dk_le32, dk_le36, dk_le1024, dk_lt0, dk_ge0, dk_lez, dk_eq0, dk_eq1, dk_eq4, dk_eq6, dk_tneg, dk_tpos, dk_teq, dk_tle]
        refine ⟨vp_in_nI hx (by omega), br_f (by omega) (b1 _ ?_)⟩
        dsimp only
        rw [dk_eq0 (by omega), dk_Na, ew2]
        refine br_f z (br_t trivial (br_c (fun y => ?_) (fun y => br_c (fun y1 => ?_) (fun y1 => br_c (fun y2 => ?_) (fun y2 => ⟨vp_in_nI (by omega) (by omega), b2 _ ?_⟩)))))
        · rw [if_pos y, if_neg (by omega)] at h; exact h
        · rw [if_neg y, if_pos y1, if_neg (by omega)] at h; exact h
        · rw [if_neg y, if_neg y1, if_pos y2, if_neg (by omega)] at h; exact h
        · rw [if_neg y, if_neg y1, if_neg y2, if_pos (by omega)] at h; exact h
      | succ left =>
        obtain ⟨yq', c1, c2⟩ := dk_yf67 hp hw ht hxe hnd hot hya hit hnm hsh hex hun d (i + 1) left yq1 (by omega) (by omega)
        have walk : ∀ (post : Int32 → SY → Prop) J n, wY_fault_67 post J (nI w) (nI p) (nI x) n (nI left) (nI (i + 1)) yp yb ys yn (dk_N kn) (dk_N nd) (dk_N ot) (dk_N le) (dk_N gr) (dk_N op) (dk_N ex) (dk_N it) (dk_N nm) (dk_N sh) (dk_W wl) yg (dk_T ya) yr yl yq1 yo yt → wY_fault_67 post J (nI w) (nI p) (nI x) (n + 1) (nI (left + 1)) (nI i) yp yb ys yn (dk_N kn) (dk_N nd) (dk_N ot) (dk_N le) (dk_N gr) (dk_N op) (dk_N ex) (dk_N it) (dk_N nm) (dk_N sh) (dk_W wl) yg (dk_T ya) yr yl yq yo yt := fun post J n hn => by
          simp (disch := omega) only [wY_fault_67, nI_clamp, dk_Na, dk_Ta, dk_Wa, dk_m2, dk_m3, dk_m4, dk_m5, dk_m6, dk_a5, dk_a10, nI_add, nI_1, nI_leI, nI_ltI, nI_eq, dk_le3, dk_le5, dk_le6, dk_le16, dk_le20, dk_le25, dk_le32, dk_le36, dk_le1024, dk_lt0, dk_ge0, dk_lez, dk_eq0, dk_eq1, dk_eq4, dk_eq6, dk_tneg, dk_tpos, dk_teq, dk_tle]
          refine ⟨vp_in_nI hx (by omega), br_f (by omega) (b1 _ ?_)⟩
          dsimp only
          rw [dk_eq0 (by omega)]
          exact br_f z (br_f (by omega) (nm_r (pk_m1 left) (nm_e hn)))
        refine ⟨yq', fun h post J hp' => ?_, fun h post J hJ => ?_⟩
        · rw [List.length_cons] at h
          obtain ⟨n, hn⟩ := c1 (by omega) post J hp'
          exact ⟨n + 1, walk post J n hn⟩
        · rw [List.length_cons] at h hJ
          rw [Nat.add_sub_add_right] at hJ
          obtain ⟨n, hn⟩ := c2 (by omega) post J hJ
          exact ⟨n + 1, walk post J n hn⟩
theorem dk_yf27 {w : Nat} (hw : w < 4) (hnd : ∀ x, nd x ≤ 4) (hot : ∀ k, ot k < 5) (hya : ∀ i, ya i < 4) (hit : ∀ x, it x ≤ 6) (hnm : ∀ k, nm k < 12) (hsh : ∀ k, sh k < 4) (hex : ∀ k, ex k ≤ 1) (hun : dk_Un it nm ex) : ∀ d p left (yq : Nat → Int32), p + d = 5 → left < 2 ^ 31 →
    ∃ yq' : Nat → Int32, (left < (dk_fs nd ot it nm sh ex (fun p => ya (5 + p)) 31 d p).length → ∀ post : Int32 → SY → Prop, post (dk_an nd ot it nm ex (fun p => ya (5 + p)) w ((dk_fs nd ot it nm sh ex (fun p => ya (5 + p)) 31 d p).getD left (0, 0))) (yp, yb, ys, yn, (dk_N kn), (dk_N nd), (dk_N ot), (dk_N le), (dk_N gr), (dk_N op), (dk_N ex), (dk_N it), (dk_N nm), (dk_N sh), (dk_W wl), yg, (dk_T ya), yr, yl, yq', yo, yt) → ∃ n, wY_fault_27 post (nI w) n (nI left) (nI p) yp yb ys yn (dk_N kn) (dk_N nd) (dk_N ot) (dk_N le) (dk_N gr) (dk_N op) (dk_N ex) (dk_N it) (dk_N nm) (dk_N sh) (dk_W wl) yg (dk_T ya) yr yl yq yo yt) ∧
    (¬ left < (dk_fs nd ot it nm sh ex (fun p => ya (5 + p)) 31 d p).length → ∀ post : Int32 → SY → Prop, post (-3) (yp, yb, ys, yn, (dk_N kn), (dk_N nd), (dk_N ot), (dk_N le), (dk_N gr), (dk_N op), (dk_N ex), (dk_N it), (dk_N nm), (dk_N sh), (dk_W wl), yg, (dk_T ya), yr, yl, yq', yo, yt) → ∃ n, wY_fault_27 post (nI w) n (nI left) (nI p) yp yb ys yn (dk_N kn) (dk_N nd) (dk_N ot) (dk_N le) (dk_N gr) (dk_N op) (dk_N ex) (dk_N it) (dk_N nm) (dk_N sh) (dk_W wl) yg (dk_T ya) yr yl yq yo yt)
  | 0, p, left, yq, hp, hl => by
    have : p = 5 := by omega
    subst this
    exact ⟨yq, fun h => absurd h (Nat.not_lt_zero _), fun _ post h => ⟨1, br_t (by decide) h⟩⟩
  | d + 1, p, left, yq, hp, hl => by
    have p5 : p < 5 := by omega
    have t4 := hya (5 + p)
    have b31 : Nat.testBit 31 p = true := by rw [dk_t31]; exact decide_eq_true p5
    rw [dk_fs, if_pos b31]
    by_cases z : 0 < ya (5 + p)
    · have efp : dk_fp nd ot it nm sh ex (fun p => ya (5 + p)) p = dk_fl (dk_fk nd ot it nm sh ex (fun p => ya (5 + p)) p) (6 * dk_x (fun p => ya (5 + p)) p) (it (dk_x (fun p => ya (5 + p)) p)) 0 := if_neg (show ¬ ya (5 + p) = 0 by omega)
      rw [efp]
      obtain ⟨yq1, b1, b2⟩ := dk_yf67 (yp := yp) (yb := yb) (ys := ys) (yn := yn) (kn := kn) (nd := nd) (ot := ot) (le := le) (gr := gr) (op := op) (it := it) (nm := nm) (sh := sh) (ex := ex) (wl := wl) (ya := ya) (yg := yg) (yr := yr) (yl := yl) (yo := yo) (yt := yt) (w := w) p5 hw z rfl hnd hot hya hit hnm hsh hex hun (it (dk_x (fun p => ya (5 + p)) p)) 0 left yq (by omega) hl
      generalize hF : dk_fl (dk_fk nd ot it nm sh ex (fun p => ya (5 + p)) p) (6 * dk_x (fun p => ya (5 + p)) p) (it (dk_x (fun p => ya (5 + p)) p)) 0 = F at *
      have head : ∀ (post : Int32 → SY → Prop) n, (∃ n67, wY_fault_67 post (wY_fault_27 post (nI w) n) (nI w) (nI p) (nI (dk_x (fun p => ya (5 + p)) p)) n67 (nI left) (nI 0) yp yb ys yn (dk_N kn) (dk_N nd) (dk_N ot) (dk_N le) (dk_N gr) (dk_N op) (dk_N ex) (dk_N it) (dk_N nm) (dk_N sh) (dk_W wl) yg (dk_T ya) yr yl yq yo yt) → wY_fault_27 post (nI w) (n + 1) (nI left) (nI p) yp yb ys yn (dk_N kn) (dk_N nd) (dk_N ot) (dk_N le) (dk_N gr) (dk_N op) (dk_N ex) (dk_N it) (dk_N nm) (dk_N sh) (dk_W wl) yg (dk_T ya) yr yl yq yo yt := fun post n h => by
        have ex3 := dk_xI (t := fun p => ya (5 + p)) (q := p) z
        rw [dk_m3] at ex3
        simp (disch := omega) only [wY_fault_27, nI_clamp, dk_Na, dk_Ta, dk_Wa, dk_m2, dk_m3, dk_m4, dk_m5, dk_m6, dk_a5, dk_a10, nI_add, nI_1, nI_leI, nI_ltI, nI_eq, dk_le3, dk_le5, dk_le6, dk_le16, dk_le20, dk_le25, dk_le32, dk_le36, dk_le1024, dk_lt0, dk_ge0, dk_lez, dk_eq0, dk_eq1, dk_eq4, dk_eq6, dk_tneg, dk_tpos, dk_teq, dk_tle]
        exact br_f (by omega) ⟨vp_in_nI (by omega) (by omega), br_t z ⟨vp_in_nI (by omega) (by omega), nm_r ex3 h⟩⟩
      by_cases y : left < F.length
      · refine ⟨yq1, fun _ post h => ⟨1, head post 0 (b1 y post _ ?_)⟩, fun h => absurd (by rw [List.length_append]; omega) h⟩
        rw [dk_getD_app2 y] at h; exact h
      · obtain ⟨yq', c1, c2⟩ := dk_yf27 hw hnd hot hya hit hnm hsh hex hun d (p + 1) (left - F.length) yq1 (by omega) (by omega)
        refine ⟨yq', fun h post hp' => ?_, fun h post hp' => ?_⟩
        · rw [List.length_append] at h
          rw [dk_getD_app2R (by omega)] at hp'
          obtain ⟨n, hn⟩ := c1 (by omega) post hp'
          exact ⟨n + 1, head post n (b2 y post _ hn)⟩
        · rw [List.length_append] at h
          obtain ⟨n, hn⟩ := c2 (by omega) post hp'
          exact ⟨n + 1, head post n (b2 y post _ hn)⟩
    · have efp : dk_fp nd ot it nm sh ex (fun p => ya (5 + p)) p = [] := if_pos (show ya (5 + p) = 0 by omega)
      rw [efp, List.nil_append]
      obtain ⟨yq', c1, c2⟩ := dk_yf27 hw hnd hot hya hit hnm hsh hex hun d (p + 1) left yq (by omega) hl
      have walk : ∀ (post : Int32 → SY → Prop) n, wY_fault_27 post (nI w) n (nI left) (nI (p + 1)) yp yb ys yn (dk_N kn) (dk_N nd) (dk_N ot) (dk_N le) (dk_N gr) (dk_N op) (dk_N ex) (dk_N it) (dk_N nm) (dk_N sh) (dk_W wl) yg (dk_T ya) yr yl yq yo yt → wY_fault_27 post (nI w) (n + 1) (nI left) (nI p) yp yb ys yn (dk_N kn) (dk_N nd) (dk_N ot) (dk_N le) (dk_N gr) (dk_N op) (dk_N ex) (dk_N it) (dk_N nm) (dk_N sh) (dk_W wl) yg (dk_T ya) yr yl yq yo yt := fun post n hn => by
        simp (disch := omega) only [wY_fault_27, nI_clamp, dk_Na, dk_Ta, dk_Wa, dk_m2, dk_m3, dk_m4, dk_m5, dk_m6, dk_a5, dk_a10, nI_add, nI_1, nI_leI, nI_ltI, nI_eq, dk_le3, dk_le5, dk_le6, dk_le16, dk_le20, dk_le25, dk_le32, dk_le36, dk_le1024, dk_lt0, dk_ge0, dk_lez, dk_eq0, dk_eq1, dk_eq4, dk_eq6, dk_tneg, dk_tpos, dk_teq, dk_tle]
        exact br_f (by omega) ⟨vp_in_nI (by omega) (by omega), br_f z (nm_e hn)⟩
      refine ⟨yq', fun h post hp' => ?_, fun h post hp' => ?_⟩
      · obtain ⟨n, hn⟩ := c1 h post hp'
        exact ⟨n + 1, walk post n hn⟩
      · obtain ⟨n, hn⟩ := c2 h post hp'
        exact ⟨n + 1, walk post n hn⟩
end
section
variable {pr bl na sc fa st no : Int32} {kn nd ot le gr op it nm sh ex wl wg th : Nat → Nat} {re rd od on : Nat → Int32} {wh : Nat → Int64} {ss rf wi lv dm ch cg my sp fA fS nt : Nat → Int32}
/-- X's answer about fault k, once the audit has been made -/
theorem dk_xfault {k w : Nat} (hpr : ¬ pr = 0) (hk : k < 2 ^ 31) (hw : w < 4) (hC : dk_Cx nd ot le gr op it nm sh ex th) (hT : dk_TI nd ot it nm sh ex th True wi re rd wh ss rf) :
    ∃ (fa' : Int32) (re' rd' od' on' : Nat → Int32) (wh' : Nat → Int64) (ss' rf' wi' fA' fS' : Nat → Int32), dk_TI nd ot it nm sh ex th True wi' re' rd' wh' ss' rf' ∧
    ∀ post : Int32 → SX → Prop, post (if k < (dk_fs nd ot it nm sh ex (fun p => th (5 * 1 + p)) 31 5 0).length then dk_an nd ot it nm ex (fun p => th (5 * 1 + p)) w ((dk_fs nd ot it nm sh ex (fun p => th (5 * 1 + p)) 31 5 0).getD k (0, 0)) else -3) (pr, bl, na, sc, fa', st, no, (dk_N kn), (dk_N nd), (dk_N (dk_E ot le gr op)), (dk_N it), (dk_N nm), (dk_N sh), (dk_N ex), (dk_W wl), (dk_N wg), (dk_T th), re', rd', od', on', wh', ss', rf', wi', lv, dm, ch, cg, my, sp, fA', fS', nt) → wpX_fault post (pr, bl, na, sc, fa, st, no, (dk_N kn), (dk_N nd), (dk_N (dk_E ot le gr op)), (dk_N it), (dk_N nm), (dk_N sh), (dk_N ex), (dk_W wl), (dk_N wg), (dk_T th), re, rd, od, on, wh, ss, rf, wi, lv, dm, ch, cg, my, sp, fA, fS, nt) (nI k) (nI w) := by
  obtain ⟨re1, rd1, od1, on1, wh1, ss1, rf1, wi1, fA1, fS1, a1, a2, a3, a4⟩ := dk_xaT (pr := pr) (bl := bl) (na := na) (sc := sc) (fa := fa) (st := st) (no := no) (kn := kn) (nd := nd) (ot := ot) (le := le) (gr := gr) (op := op) (it := it) (nm := nm) (sh := sh) (ex := ex) (wl := wl) (wg := wg) (th := th) (re := re) (rd := rd) (od := od) (on := on) (wh := wh) (ss := ss) (rf := rf) (wi := wi) (lv := lv) (dm := dm) (ch := ch) (cg := cg) (my := my) (sp := sp) (fA := fA) (fS := fS) (nt := nt) (s := 1) (set := 31) (pp := True) (Or.inr ⟨rfl, trivial⟩) (by omega) hC hT
  have len := dk_fs_len (nd := nd) (ot := ot) (nm := nm) (sh := sh) (ex := ex) (t := fun p => th (5 * 1 + p)) hC.2.2.2.2.2.2.1 31 5 0
  refine ⟨nI (dk_fs nd ot it nm sh ex (fun p => th (5 * 1 + p)) 31 5 0).length, re1, rd1, od1, on1, wh1, ss1, rf1, wi1, fA1, fS1, a1, fun post h => br_f hpr ?_⟩
  have l4 : nI w < 4 := nI_lt (b := 4) hw (by omega)
  refine br_f (nI_pos (by omega)) (br_t l4 (br_t rfl (a4 _ ?_)))
  dsimp only
  refine br_f (nI_pos hk) ?_
  rw [nI_ltI hk (by omega)]
  refine br_c (fun z => br_t rfl ?_) (fun z => br_f (by decide) ?_)
  · rw [if_pos z] at h
    obtain ⟨r1, r2⟩ := a3 k z
    obtain ⟨q, i, m1, m2, m3, m4, m5, m6⟩ := dk_fs_m (dk_getD_mem2 z)
    generalize he : (dk_fs nd ot it nm sh ex (fun p => th (5 * 1 + p)) 31 5 0).getD k (0, 0) = e at *
    have q5 : q < 5 := by omega
    have hx := dk_x15 (t := fun p => th (5 * 1 + p)) q5 (hC.2.2.2.2.2.1 _)
    have hit := hC.2.2.2.2.2.2.1 (dk_x (fun p => th (5 * 1 + p)) q)
    have xv : dk_x (fun p => th (5 * 1 + p)) q / 3 = q := by unfold dk_x; have := hC.2.2.2.2.2.1 (5 * 1 + q); dsimp only; omega
    have e90 : e.1 < 90 := by omega
    have e18 : e.1 / 18 = q := by omega
    have hnm := hC.2.2.2.2.2.2.2.1 e.1
    obtain ⟨w1, _⟩ := dk_Wi_pl a2 q5 m3
    have p5 := dk_place5 (nd := nd) (ot := ot) (it := it) (nm := nm) (ex := ex) (t := fun p => th (5 * 1 + p)) (p := q) (n := nm e.1)
    have ew0 : nI w = 0 ↔ w = 0 := dk_eq0 (by omega)
    have ew1 : nI w = 1 ↔ w = 1 := dk_eq1 (by omega)
    have ew2 : nI w = 2 ↔ w = 2 := nI_eq (b := 2) (by omega) (by omega)
    have ew3 : (2 : Int32) < nI w ↔ 2 < w := nI_ltI (a := 2) (by omega) (by omega)
    unfold dk_an at h
    rw [nI_clamp (by omega), r1, r2, dk_d18 (by omega), dk_r6 (by omega), ew0, ew1, ew2, ew3]
    refine ⟨vp_in_nI (by omega) (by omega), by decide, nm_e (br_f (nI_pos (by omega)) (br_c (fun y => ⟨vp_in_nI (by omega) (by omega), vp_in_nI e90 (by omega), ?_⟩) (fun y => br_c (fun y0 => ?_) (fun y0 => br_c (fun y1 => ⟨vp_in_nI (by omega) (by omega), by decide, ?_⟩) (fun y1 => br_c (fun y2 => ⟨vp_in_nI (by omega) (by omega), ?_⟩) (fun y2 => by trivial))))))⟩
    · rw [nI_clamp (by omega), dk_Na, dk_a5, e18]
      refine dk_xpc (D := fun n => dk_place nd ot it nm ex (fun p => th (5 * 1 + p)) q n) (by omega) hnm (by rw [show 5 + q = 5 * 1 + q by omega]; exact w1) (by show dk_place nd ot it nm ex (fun p => th (5 * 1 + p)) q (nm e.1) < 16; omega) _ ?_
      rw [if_neg (by omega), if_neg (by omega), if_neg (by omega), e18] at h
      exact h
    · rw [if_pos y0] at h; exact h
    · rw [if_neg y0, if_pos y1] at h; exact h
    · rw [if_neg y0, if_neg y1, if_pos y2] at h; exact h
  · rw [if_neg z] at h; exact h
end
end
section
def dk_Rl (pr bl na sc fa st no : Int32) (kn nd ot le gr op it nm sh ex wl wg th : Nat → Nat) (re rd od on : Nat → Int32) (wh : Nat → Int64) (ss rf wi lv dm ch cg my sp fA fS nt : Nat → Int32) (yp yb ys yn : Int32) (ya : Nat → Nat) (yg yr yl yq yo yt : Nat → Int32) : Prop :=
  dk_Cx nd ot le gr op it nm sh ex th ∧
  ((∀ x, kn x ≤ 1) ∧ (∀ p, wl p ≤ 4) ∧ (∀ p, wg p ≤ 2) ∧ (∀ p, 2 ≤ wl p → wl p - 2 ≤ wg p) ∧ (∀ x k, x < 15 → k < nd x → ot (4 * x + k) ≠ x / 3) ∧ (∀ i, ya i < 4)) ∧
  (yp = pr ∧ (pr = 0 ∨ pr = 1) ∧ yb = bl) ∧
  (∃ sm : Nat, sm < 32 ∧ st = nI sm ∧ ys = nI sm ∧ ∀ q, q < 5 → sm.testBit q = true → 0 < th q) ∧
  (∃ c m : Nat, no = nI c ∧ yn = nI m ∧ dk_NR (c, nt) (m, yo)) ∧
  (¬ na = 0 → dk_LvOK kn nd ot le gr op lv) ∧
  dk_TI nd ot it nm sh ex th (¬ pr = 0) wi re rd wh ss rf ∧
  ((∀ p, p < 5 → th p = ya p) ∧ (¬ pr = 0 → ∀ p, p < 5 → th (5 + p) = ya (5 + p))) ∧
  (¬ pr = 0 → sc = nI (dk_stp nd ot (fun p => th (5 * 0 + p)) (fun p => th (5 * 1 + p))).length ∧ dk_rep sp 0 (dk_stp nd ot (fun p => th (5 * 0 + p)) (fun p => th (5 * 1 + p)))) ∧
  (∀ p, p < 5 → 2 ≤ wl p → yg p = nI (wg p))
def i_Rel (_ : Nat) (u : SX) (v : SY) : Prop := ∃ (pr bl na sc fa st no : Int32) (kn nd ot le gr op it nm sh ex wl wg th : Nat → Nat) (re rd od on : Nat → Int32) (wh : Nat → Int64) (ss rf wi lv dm ch cg my sp fA fS nt : Nat → Int32) (yp yb ys yn : Int32) (ya : Nat → Nat) (yg yr yl yq yo yt : Nat → Int32), u = (pr, bl, na, sc, fa, st, no, (dk_N kn), (dk_N nd), (dk_N (dk_E ot le gr op)), (dk_N it), (dk_N nm), (dk_N sh), (dk_N ex), (dk_W wl), (dk_N wg), (dk_T th), re, rd, od, on, wh, ss, rf, wi, lv, dm, ch, cg, my, sp, fA, fS, nt) ∧ v = (yp, yb, ys, yn, (dk_N kn), (dk_N nd), (dk_N ot), (dk_N le), (dk_N gr), (dk_N op), (dk_N ex), (dk_N it), (dk_N nm), (dk_N sh), (dk_W wl), yg, (dk_T ya), yr, yl, yq, yo, yt) ∧ dk_Rl pr bl na sc fa st no kn nd ot le gr op it nm sh ex wl wg th re rd od on wh ss rf wi lv dm ch cg my sp fA fS nt yp yb ys yn ya yg yr yl yq yo yt
theorem i_up {k : Nat} {u : SX} {v : SY} (h : i_Rel k u v) : i_Rel (k + 7) u v := h
theorem dk_rel {P : SX → SY → Prop} (h : ∀ (pr bl na sc fa st no : Int32) (kn nd ot le gr op it nm sh ex wl wg th : Nat → Nat) (re rd od on : Nat → Int32) (wh : Nat → Int64) (ss rf wi lv dm ch cg my sp fA fS nt : Nat → Int32) (yp yb ys yn : Int32) (ya : Nat → Nat) (yg yr yl yq yo yt : Nat → Int32), dk_Rl pr bl na sc fa st no kn nd ot le gr op it nm sh ex wl wg th re rd od on wh ss rf wi lv dm ch cg my sp fA fS nt yp yb ys yn ya yg yr yl yq yo yt → P (pr, bl, na, sc, fa, st, no, (dk_N kn), (dk_N nd), (dk_N (dk_E ot le gr op)), (dk_N it), (dk_N nm), (dk_N sh), (dk_N ex), (dk_W wl), (dk_N wg), (dk_T th), re, rd, od, on, wh, ss, rf, wi, lv, dm, ch, cg, my, sp, fA, fS, nt) (yp, yb, ys, yn, (dk_N kn), (dk_N nd), (dk_N ot), (dk_N le), (dk_N gr), (dk_N op), (dk_N ex), (dk_N it), (dk_N nm), (dk_N sh), (dk_W wl), yg, (dk_T ya), yr, yl, yq, yo, yt)) {k : Nat} {u : SX} {v : SY} (I : i_Rel k u v) : P u v :=
  Exists.elim I fun pr I => Exists.elim I fun bl I => Exists.elim I fun na I => Exists.elim I fun sc I => Exists.elim I fun fa I => Exists.elim I fun st I => Exists.elim I fun no I => Exists.elim I fun kn I => Exists.elim I fun nd I => Exists.elim I fun ot I => Exists.elim I fun le I => Exists.elim I fun gr I => Exists.elim I fun op I => Exists.elim I fun it I => Exists.elim I fun nm I => Exists.elim I fun sh I => Exists.elim I fun ex I => Exists.elim I fun wl I => Exists.elim I fun wg I => Exists.elim I fun th I => Exists.elim I fun re I => Exists.elim I fun rd I => Exists.elim I fun od I => Exists.elim I fun on I => Exists.elim I fun wh I => Exists.elim I fun ss I => Exists.elim I fun rf I => Exists.elim I fun wi I => Exists.elim I fun lv I => Exists.elim I fun dm I => Exists.elim I fun ch I => Exists.elim I fun cg I => Exists.elim I fun my I => Exists.elim I fun sp I => Exists.elim I fun fA I => Exists.elim I fun fS I => Exists.elim I fun nt I => Exists.elim I fun yp I => Exists.elim I fun yb I => Exists.elim I fun ys I => Exists.elim I fun yn I => Exists.elim I fun ya I => Exists.elim I fun yg I => Exists.elim I fun yr I => Exists.elim I fun yl I => Exists.elim I fun yq I => Exists.elim I fun yo I => Exists.elim I fun yt I => And.elim (fun hu I => And.elim (fun hv R => by rw [hu, hv]; exact h pr bl na sc fa st no kn nd ot le gr op it nm sh ex wl wg th re rd od on wh ss rf wi lv dm ch cg my sp fA fS nt yp yb ys yn ya yg yr yl yq yo yt R) I) I
theorem dk_ir (pr bl na sc fa st no : Int32) (kn nd ot le gr op it nm sh ex wl wg th : Nat → Nat) (re rd od on : Nat → Int32) (wh : Nat → Int64) (ss rf wi lv dm ch cg my sp fA fS nt : Nat → Int32) (yp yb ys yn : Int32) (ya : Nat → Nat) (yg yr yl yq yo yt : Nat → Int32) {k : Nat} (R : dk_Rl pr bl na sc fa st no kn nd ot le gr op it nm sh ex wl wg th re rd od on wh ss rf wi lv dm ch cg my sp fA fS nt yp yb ys yn ya yg yr yl yq yo yt) : i_Rel k (pr, bl, na, sc, fa, st, no, (dk_N kn), (dk_N nd), (dk_N (dk_E ot le gr op)), (dk_N it), (dk_N nm), (dk_N sh), (dk_N ex), (dk_W wl), (dk_N wg), (dk_T th), re, rd, od, on, wh, ss, rf, wi, lv, dm, ch, cg, my, sp, fA, fS, nt) (yp, yb, ys, yn, (dk_N kn), (dk_N nd), (dk_N ot), (dk_N le), (dk_N gr), (dk_N op), (dk_N ex), (dk_N it), (dk_N nm), (dk_N sh), (dk_W wl), yg, (dk_T ya), yr, yl, yq, yo, yt) :=
  ⟨pr, bl, na, sc, fa, st, no, kn, nd, ot, le, gr, op, it, nm, sh, ex, wl, wg, th, re, rd, od, on, wh, ss, rf, wi, lv, dm, ch, cg, my, sp, fA, fS, nt, yp, yb, ys, yn, ya, yg, yr, yl, yq, yo, yt, rfl, rfl, R⟩
-- bounds of arguments
theorem dk_xout {n : Nat} (hn : n < 2 ^ 31) {x : Int32} (post : Int32 → Prop) (h1 : (¬ ∃ j, j < n ∧ x = nI j) → post 1) (h0 : ∀ j, j < n → x = nI j → post 0) : wpX_out post x (nI n) := by
  rcases pk_ix x hn with h | h | ⟨j, hj, e⟩
  · refine br_t h (h1 fun ⟨j, hj, e⟩ => ?_)
    rw [e] at h; exact nI_pos (by omega) h
  · have h0' : ¬ x < 0 := fun y => by
      have := Int32.lt_of_le_of_lt h y
      exact nI_pos hn this
    refine br_f h0' (br_f (Int32.not_lt.mpr h) (h1 fun ⟨j, hj, e⟩ => ?_))
    rw [e] at h; exact nI_ge hj hn h
  · have h := h0 j hj e
    subst e
    exact br_f (nI_pos (by omega)) (br_t (nI_lt hj hn) h)
theorem dk_yin {n : Nat} (hn : n < 2 ^ 31) {x : Int32} (post : Int32 → Prop) (h0 : (¬ ∃ j, j < n ∧ x = nI j) → post 0) (h1 : ∀ j, j < n → x = nI j → post 1) : wpY_in post x (nI n) := by
  rcases pk_ix x hn with h | h | ⟨j, hj, e⟩
  · refine br_t h (h0 fun ⟨j, hj, e⟩ => ?_)
    rw [e] at h; exact nI_pos (by omega) h
  · have h0' : ¬ x < 0 := fun y => by
      have := Int32.lt_of_le_of_lt h y
      exact nI_pos hn this
    refine br_f h0' (br_t h (h0 fun ⟨j, hj, e⟩ => ?_))
    rw [e] at h; exact nI_ge hj hn h
  · have h := h1 j hj e
    subst e
    exact br_f (nI_pos (by omega)) (br_f (nI_ge hj hn) h)
theorem i_vc_blame {k : Nat} {u : SX} {v : SY} (I : i_Rel k u v) (hk : k + 7 ≤ 3584) : wpX_blame (fun r => wpY_blame (fun r' => r' = r ∧ i_Rel (k + 7) u v) v) u := by
  refine dk_rel (P := fun u v => wpX_blame (fun r => wpY_blame (fun r' => r' = r ∧ i_Rel (k + 7) u v) v) u) ?_ I
  intro pr bl na sc fa st no kn nd ot le gr op it nm sh ex wl wg th re rd od on wh ss rf wi lv dm ch cg my sp fA fS nt yp yb ys yn ya yg yr yl yq yo yt R
  exact ⟨R.2.2.1.2.2, dk_ir pr bl na sc fa st no kn nd ot le gr op it nm sh ex wl wg th re rd od on wh ss rf wi lv dm ch cg my sp fA fS nt yp yb ys yn ya yg yr yl yq yo yt R⟩
theorem i_vc_proposal {k : Nat} {u : SX} {v : SY} (I : i_Rel k u v) (hk : k + 7 ≤ 3584) (v1 : Int32) : wpX_proposal (fun r => wpY_proposal (fun r' => r' = r ∧ i_Rel (k + 7) u v) v v1) u v1 := by
  refine dk_rel (P := fun u v => wpX_proposal (fun r => wpY_proposal (fun r' => r' = r ∧ i_Rel (k + 7) u v) v v1) u v1) ?_ I
  intro pr bl na sc fa st no kn nd ot le gr op it nm sh ex wl wg th re rd od on wh ss rf wi lv dm ch cg my sp fA fS nt yp yb ys yn ya yg yr yl yq yo yt R
  have E := dk_ir pr bl na sc fa st no kn nd ot le gr op it nm sh ex wl wg th re rd od on wh ss rf wi lv dm ch cg my sp fA fS nt yp yb ys yn ya yg yr yl yq yo yt (k := k + 7) R
  obtain ⟨_, _, ⟨e1, _, _⟩, _, _, _, _, ⟨_, e2⟩, _, _⟩ := R
  have key : ∀ r : Int32, (pr = 0 → r = -2) → ((¬ ∃ j, j < 5 ∧ v1 = nI j) → r = -2) → (¬ pr = 0 → ∀ j, j < 5 → v1 = nI j → r = dk_T ya (5 + j)) → wpY_proposal (fun r' => r' = r ∧ i_Rel (k + 7) (pr, bl, na, sc, fa, st, no, (dk_N kn), (dk_N nd), (dk_N (dk_E ot le gr op)), (dk_N it), (dk_N nm), (dk_N sh), (dk_N ex), (dk_W wl), (dk_N wg), (dk_T th), re, rd, od, on, wh, ss, rf, wi, lv, dm, ch, cg, my, sp, fA, fS, nt) (yp, yb, ys, yn, (dk_N kn), (dk_N nd), (dk_N ot), (dk_N le), (dk_N gr), (dk_N op), (dk_N ex), (dk_N it), (dk_N nm), (dk_N sh), (dk_W wl), yg, (dk_T ya), yr, yl, yq, yo, yt)) (yp, yb, ys, yn, (dk_N kn), (dk_N nd), (dk_N ot), (dk_N le), (dk_N gr), (dk_N op), (dk_N ex), (dk_N it), (dk_N nm), (dk_N sh), (dk_W wl), yg, (dk_T ya), yr, yl, yq, yo, yt) v1 := by
    intro r c1 c2 c3
    unfold wpY_proposal
    dsimp only
    refine dk_yin (n := 5) (by omega) _ (fun h => br_t rfl ⟨(c2 h).symm, E⟩) (fun j hj e => br_f (by decide) (br_c (fun z => ⟨(c1 (e1 ▸ z)).symm, E⟩) (fun z => ?_)))
    rw [e, dk_a5, nI_clamp (by omega)]
    exact ⟨vp_in_nI (by omega) (by omega), (c3 (e1 ▸ z) j hj e).symm, E⟩
  refine br_c (fun z => key _ (fun _ => rfl) (fun _ => rfl) (fun y => absurd z y)) (fun z => dk_xout (n := 5) (by omega) _ (fun h => br_f (by decide) (key _ (fun y => absurd y z) (fun _ => rfl) (fun _ j hj e => absurd ⟨j, hj, e⟩ h))) (fun j hj e => br_t rfl ?_))
  subst e
  rw [dk_a5, nI_clamp (by omega)]
  refine ⟨vp_in_nI (by omega) (by omega), key _ (fun y => absurd y z) (fun h => absurd ⟨j, hj, rfl⟩ h) (fun _ i hi e => ?_)⟩
  have : j = i := (nI_eq (by omega) (by omega)).mp e
  subst this
  rw [dk_Ta, dk_Ta, e2 z j hj]
theorem i_vc_installed {k : Nat} {u : SX} {v : SY} (I : i_Rel k u v) (hk : k + 7 ≤ 3584) (v1 : Int32) : wpX_installed (fun r => wpY_installed (fun r' => r' = r ∧ i_Rel (k + 7) u v) v v1) u v1 := by
  refine dk_rel (P := fun u v => wpX_installed (fun r => wpY_installed (fun r' => r' = r ∧ i_Rel (k + 7) u v) v v1) u v1) ?_ I
  intro pr bl na sc fa st no kn nd ot le gr op it nm sh ex wl wg th re rd od on wh ss rf wi lv dm ch cg my sp fA fS nt yp yb ys yn ya yg yr yl yq yo yt R
  have E := dk_ir pr bl na sc fa st no kn nd ot le gr op it nm sh ex wl wg th re rd od on wh ss rf wi lv dm ch cg my sp fA fS nt yp yb ys yn ya yg yr yl yq yo yt (k := k + 7) R
  obtain ⟨_, _, _, _, _, _, _, ⟨e2, _⟩, _, _⟩ := R
  unfold wpX_installed wpY_installed
  dsimp only
  refine dk_xout (n := 5) (by omega) _ (fun h => br_f (by decide) (dk_yin (n := 5) (by omega) _ (fun _ => br_t rfl ⟨rfl, E⟩) (fun j hj e => absurd ⟨j, hj, e⟩ h))) (fun j hj e => br_t rfl ?_)
  subst e
  rw [nI_clamp (by omega)]
  refine ⟨vp_in_nI (by omega) (by omega), dk_yin (n := 5) (by omega) _ (fun h => absurd ⟨j, hj, rfl⟩ h) (fun i hi e => br_f (by decide) ?_)⟩
  exact ⟨vp_in_nI (by omega) (by omega), by rw [dk_Ta, dk_Ta, e2 j hj], E⟩
theorem i_vc_step {k : Nat} {u : SX} {v : SY} (I : i_Rel k u v) (hk : k + 7 ≤ 3584) (v1 : Int32) : wpX_step (fun r => wpY_step (fun r' v' => r' = r ∧ i_Rel (k + 7) u v') v v1) u v1 := by
  refine dk_rel (P := fun u v => wpX_step (fun r => wpY_step (fun r' v' => r' = r ∧ i_Rel (k + 7) u v') v v1) u v1) ?_ I
  intro pr bl na sc fa st no kn nd ot le gr op it nm sh ex wl wg th re rd od on wh ss rf wi lv dm ch cg my sp fA fS nt yp yb ys yn ya yg yr yl yq yo yt R
  have R0 := R
  obtain ⟨hC, ⟨_, _, _, _, _, hya⟩, ⟨e1, _, _⟩, _, _, _, _, ⟨f1, f2⟩, g, _⟩ := R
  refine br_c (fun z => br_t (e1.trans z) ⟨rfl, dk_ir pr bl na sc fa st no kn nd ot le gr op it nm sh ex wl wg th re rd od on wh ss rf wi lv dm ch cg my sp fA fS nt yp yb ys yn ya yg yr yl yq yo yt R0⟩) (fun z => ?_)
  obtain ⟨g1, g2⟩ := g z
  obtain ⟨yr', yl', yt', a1, a2⟩ := dk_yfs (yp := yp) (yb := yb) (ys := ys) (yn := yn) (kn := kn) (nd := nd) (ot := ot) (le := le) (gr := gr) (op := op) (it := it) (nm := nm) (sh := sh) (ex := ex) (wl := wl) (ya := ya) (yg := yg) (yr := yr) (yl := yl) (yq := yq) (yo := yo) (yt := yt) hC.1 hC.2.1 hya
  have es : dk_stp nd ot (fun p => th (5 * 0 + p)) (fun p => th (5 * 1 + p)) = dk_stp nd ot (fun p => ya (0 + p)) (fun p => ya (5 + p)) := dk_stp_t hC.2.1 (fun p hp => by simpa using f1 p hp) (fun p hp => by simpa using f2 z p hp)
  have E : i_Rel (k + 7) (pr, bl, na, sc, fa, st, no, (dk_N kn), (dk_N nd), (dk_N (dk_E ot le gr op)), (dk_N it), (dk_N nm), (dk_N sh), (dk_N ex), (dk_W wl), (dk_N wg), (dk_T th), re, rd, od, on, wh, ss, rf, wi, lv, dm, ch, cg, my, sp, fA, fS, nt) (yp, yb, ys, yn, (dk_N kn), (dk_N nd), (dk_N ot), (dk_N le), (dk_N gr), (dk_N op), (dk_N ex), (dk_N it), (dk_N nm), (dk_N sh), (dk_W wl), yg, (dk_T ya), yr', yl', yq, yo, yt') := dk_ir pr bl na sc fa st no kn nd ot le gr op it nm sh ex wl wg th re rd od on wh ss rf wi lv dm ch cg my sp fA fS nt yp yb ys yn ya yg yr' yl' yq yo yt' R0
  have l10 := dk_stp_len10 nd ot (fun p => ya (0 + p)) (fun p => ya (5 + p))
  rw [es] at g1 g2
  subst g1
  refine dk_xout (by omega) _ (fun h => br_f (by decide) (br_f (fun y => z (e1 ▸ y)) (a2 _ ?_))) (fun j hj e => br_t rfl ?_)
  · exact dk_yin (by omega) _ (fun _ => br_t rfl ⟨rfl, E⟩) (fun j hj e => absurd ⟨j, hj, e⟩ h)
  · subst e
    rw [nI_clamp (by omega)]
    refine ⟨vp_in_nI (by omega) (by omega), br_f (fun y => z (e1 ▸ y)) (a2 _ ?_)⟩
    refine dk_yin (by omega) _ (fun h => absurd ⟨j, hj, rfl⟩ h) (fun i hi e => br_f (by decide) ?_)
    rw [nI_clamp (by omega)]
    refine ⟨vp_in_nI (by omega) (by omega), ?_, E⟩
    have r1 := a1 j hj
    have r2 := g2 j hj
    rw [Nat.zero_add] at r1 r2
    rw [r1, r2]
theorem i_vc_noted {k : Nat} {u : SX} {v : SY} (I : i_Rel k u v) (hk : k + 7 ≤ 3584) (v1 : Int32) : wpX_noted (fun r => wpY_noted (fun r' => r' = r ∧ i_Rel (k + 7) u v) v v1) u v1 := by
  refine dk_rel (P := fun u v => wpX_noted (fun r => wpY_noted (fun r' => r' = r ∧ i_Rel (k + 7) u v) v v1) u v1) ?_ I
  intro pr bl na sc fa st no kn nd ot le gr op it nm sh ex wl wg th re rd od on wh ss rf wi lv dm ch cg my sp fA fS nt yp yb ys yn ya yg yr yl yq yo yt R
  have E := dk_ir pr bl na sc fa st no kn nd ot le gr op it nm sh ex wl wg th re rd od on wh ss rf wi lv dm ch cg my sp fA fS nt yp yb ys yn ya yg yr yl yq yo yt (k := k + 7) R
  obtain ⟨_, _, _, ⟨sm, _, s1, s2, _⟩, ⟨c, m, n1, n2, n3, n4, n5, n6⟩, _⟩ := R
  dsimp only at n3 n4 n5 n6
  have m16 : m ≤ 16 := by omega
  subst n1
  subst n2
  refine br_c (fun z => br_t z ⟨by rw [s1, s2], E⟩) (fun z => dk_xout (n := 16) (by omega) _ (fun h => br_f (by decide) (br_f z ?_)) (fun j hj e => br_t rfl ?_))
  · exact dk_yin (by omega) _ (fun _ => br_t rfl ⟨rfl, E⟩) (fun i hi e => absurd ⟨i, by omega, e⟩ h)
  · subst e
    rw [nI_ltI (by omega) (by omega)]
    refine br_c (fun y => ?_) (fun y => br_f z (dk_yin (by omega) _ (fun _ => br_t rfl ⟨rfl, E⟩) (fun i hi e => ?_)))
    · have e1 : (nI c - 1) - nI j = nI (c - 1 - j) := by
        rw [dk_tp (by omega)]; exact pk_sub (by omega)
      have e2 : nI (c - 1 - j) &&& 15 = nI ((c - 1 - j) % 16) := pk_andN (n := c - 1 - j) (by omega) 4 (by decide)
      rw [e1, e2, nI_clamp (by omega)]
      refine ⟨vp_in_nI (by omega) (by omega), br_f z (dk_yin (by omega) _ (fun h => absurd ⟨j, by omega, rfl⟩ h) (fun i hi e => br_f (by decide) ?_))⟩
      rw [nI_clamp (by omega)]
      exact ⟨vp_in_nI (by omega) (by omega), (n6 j (by omega)).symm, E⟩
    · have : j = i := (nI_eq (by omega) (by omega)).mp e
      omega
end
section
theorem dk_ynf_L : ∀ (l : List Nat) (s : Nat × (Nat → Int32)), s.1 ≤ 16 → (l.foldl dk_yno s).1 ≤ 16
  | [], _, h => h
  | w :: l, s, h => dk_ynf_L l _ (dk_yno_L s h w)
theorem dk_NR16 {x y : Nat × (Nat → Int32)} (h : dk_NR x y) : y.1 ≤ 16 := by
  obtain ⟨h1, h2, h3, _⟩ := h; omega
theorem i_vc_solve {k : Nat} {u : SX} {v : SY} (I : i_Rel k u v) (hk : k + 7 ≤ 3584) : wpX_solve (fun r u' => wpY_solve (fun r' v' => r' = r ∧ i_Rel (k + 7) u' v') v) u := by
  refine dk_rel (P := fun u v => wpX_solve (fun r u' => wpY_solve (fun r' v' => r' = r ∧ i_Rel (k + 7) u' v') v) u) ?_ I
  intro pr bl na sc fa st no kn nd ot le gr op it nm sh ex wl wg th re rd od on wh ss rf wi lv dm ch cg my sp fA fS nt yp yb ys yn ya yg yr yl yq yo yt R
  obtain ⟨hC, ⟨hkn, hwl, hwg, hww, hown, hya⟩, ⟨e1, e2, e3⟩, ⟨sm, s1, s2, s3, s4⟩, hN, hna, hT, ⟨f1, f2⟩, g, hyg⟩ := R
  have hC0 := hC
  obtain ⟨hnd, hot, hlg, hgr, hop, hth, hit, hnm, hsh, hex, hun⟩ := hC
  have hle : ∀ k, le k ≤ 2 := fun k => Nat.le_trans (hlg k) (hgr k)
  have X := dk_xsolve (pr := pr) (bl := bl) (na := na) (sc := sc) (fa := fa) (st := st) (no := no) (kn := kn) (nd := nd) (ot := ot) (le := le) (gr := gr) (op := op) (it := it) (nm := nm) (sh := sh) (ex := ex) (wl := wl) (wg := wg) (th := th) (re := re) (rd := rd) (od := od) (on := on) (wh := wh) (ss := ss) (rf := rf) (wi := wi) (lv := lv) (dm := dm) (ch := ch) (cg := cg) (my := my) (sp := sp) (fA := fA) (fS := fS) (nt := nt) hnd hot hlg hgr hop hth hit hnm hsh hex hkn hwl hwg hww hna hT.1
  have Y := dk_ysolve (yp := yp) (yb := yb) (ys := ys) (yn := yn) (kn := kn) (nd := nd) (ot := ot) (le := le) (gr := gr) (op := op) (it := it) (nm := nm) (sh := sh) (ex := ex) (wl := wl) (ya := ya) (yg := yg) (yr := yr) (yl := yl) (yq := yq) (yo := yo) (yt := yt) (wg := wg) hkn hnd hot hle hgr hop hwl hwg hyg hown hya
  rcases X with ⟨a, th', na', re', rd', od', on', wh', ss', rf', wi', lv', dm', ch', cg', my', sp', x1, x2, x3, x4, x5, x6, x7, x8, x9, x10⟩ | ⟨x1, r, na', lv', dm', ch', cg', my', x2, x3, x4, x5⟩
  · rcases Y with ⟨ya', y1, y2, y3, y4, y5⟩ | ⟨y1, _⟩
    · have ea := dk_best_u f1 x1 x2 y1 y2
      refine x10 _ (y5 _ ⟨?_, dk_ir _ _ _ _ _ _ _ _ _ _ _ _ _ _ _ _ _ _ _ _ _ _ _ _ _ _ _ _ _ _ _ _ _ _ _ _ _ _ _ _ _ _ _ _ _ _ _ _ ⟨⟨hnd, hot, hlg, hgr, hop, x4, hit, hnm, hsh, hex, hun⟩, ⟨hkn, hwl, hwg, hww, hown, y3⟩, ⟨rfl, Or.inr rfl, rfl⟩, ⟨sm, s1, s2, s3, fun q hq hb => by rw [x5 q hq]; exact s4 q hq hb⟩, hN, fun _ => x6, ⟨fun _ => x7, fun _ _ => x8⟩, ⟨fun p hp => by rw [x5 p hp, y4 p hp]; exact f1 p hp, fun _ p hp => by rw [x3 p hp]; exact ea p hp⟩, fun _ => ⟨rfl, x9⟩, hyg⟩⟩)
      rw [dk_cc_t (c := a) (th' := ya) f1, dk_cc_x (c := a) (c' := fun p => ya' (5 + p)) ea]
    · exact absurd ⟨a, x1⟩ y1
  · rcases Y with ⟨ya', y1, _⟩ | ⟨_, f, r', ya', y1, y2, y3, y4⟩
    · exact absurd ⟨_, y1⟩ x1
    · have er := dk_blame_u x1 x2 x3 y1
      subst er
      exact x5 _ (y4 _ ⟨rfl, dk_ir _ _ _ _ _ _ _ _ _ _ _ _ _ _ _ _ _ _ _ _ _ _ _ _ _ _ _ _ _ _ _ _ _ _ _ _ _ _ _ _ _ _ _ _ _ _ _ _ ⟨hC0, ⟨hkn, hwl, hwg, hww, hown, y2⟩, ⟨rfl, Or.inl rfl, rfl⟩, ⟨sm, s1, s2, s3, s4⟩, hN, fun _ => x4, ⟨hT.1, fun y => absurd rfl y⟩, ⟨fun p hp => by rw [y3 p hp]; exact f1 p hp, fun y => absurd rfl y⟩, fun y => absurd rfl y, hyg⟩⟩)
theorem dk_an_t {nd ot it nm ex t t' : Nat → Nat} (hot : ∀ k, ot k < 5) (h : ∀ p, p < 5 → t p = t' p) : dk_an nd ot it nm ex t = dk_an nd ot it nm ex t' := by
  funext w e
  unfold dk_an
  rw [dk_pl_c (sh := nm) hot (dk_VC_t h)]
theorem i_vc_fault {k : Nat} {u : SX} {v : SY} (I : i_Rel k u v) (hk : k + 7 ≤ 3584) (v1 : Int32) (v2 : Int32) : wpX_fault (fun r u' => wpY_fault (fun r' v' => r' = r ∧ i_Rel (k + 7) u' v') v v1 v2) u v1 v2 := by
  refine dk_rel (P := fun u v => wpX_fault (fun r u' => wpY_fault (fun r' v' => r' = r ∧ i_Rel (k + 7) u' v') v v1 v2) u v1 v2) ?_ I
  intro pr bl na sc fa st no kn nd ot le gr op it nm sh ex wl wg th re rd od on wh ss rf wi lv dm ch cg my sp fA fS nt yp yb ys yn ya yg yr yl yq yo yt R
  have E := dk_ir pr bl na sc fa st no kn nd ot le gr op it nm sh ex wl wg th re rd od on wh ss rf wi lv dm ch cg my sp fA fS nt yp yb ys yn ya yg yr yl yq yo yt (k := k + 7) R
  obtain ⟨hC, hD, ⟨e1, e2, e3⟩, hS, hN, hna, hT, ⟨f1, f2⟩, g, hyg⟩ := R
  have hya := hD.2.2.2.2.2
  by_cases z : pr = 0
  · exact br_t z (br_t (e1.trans z) ⟨rfl, E⟩)
  have zy : ¬ yp = 0 := fun y => z (e1 ▸ y)
  have hT' : dk_TI nd ot it nm sh ex th True wi re rd wh ss rf := ⟨hT.1, fun _ => hT.2 z⟩
  have ft : ∀ p, p < 5 → (fun p => th (5 * 1 + p)) p = (fun p => ya (5 + p)) p := fun p hp => by simpa using f2 z p hp
  have mkX : ∀ (fa' : Int32) (re' rd' od' on' : Nat → Int32) (wh' : Nat → Int64) (ss' rf' wi' fA' fS' yq' : Nat → Int32), dk_TI nd ot it nm sh ex th True wi' re' rd' wh' ss' rf' → i_Rel (k + 7) (pr, bl, na, sc, fa', st, no, (dk_N kn), (dk_N nd), (dk_N (dk_E ot le gr op)), (dk_N it), (dk_N nm), (dk_N sh), (dk_N ex), (dk_W wl), (dk_N wg), (dk_T th), re', rd', od', on', wh', ss', rf', wi', lv, dm, ch, cg, my, sp, fA', fS', nt) (yp, yb, ys, yn, (dk_N kn), (dk_N nd), (dk_N ot), (dk_N le), (dk_N gr), (dk_N op), (dk_N ex), (dk_N it), (dk_N nm), (dk_N sh), (dk_W wl), yg, (dk_T ya), yr, yl, yq', yo, yt) := fun fa' re' rd' od' on' wh' ss' rf' wi' fA' fS' yq' t =>
    dk_ir _ _ _ _ _ _ _ _ _ _ _ _ _ _ _ _ _ _ _ _ _ _ _ _ _ _ _ _ _ _ _ _ _ _ _ _ _ _ _ _ _ _ _ _ _ _ _ _ ⟨hC, hD, ⟨e1, e2, e3⟩, hS, hN, hna, ⟨t.1, fun _ => t.2 trivial⟩, ⟨f1, f2⟩, g, hyg⟩
  by_cases zw : ∃ w, w < 4 ∧ v2 = nI w
  · obtain ⟨w, hw, rfl⟩ := zw
    by_cases zk : v1 < 0
    · obtain ⟨re1, rd1, od1, on1, wh1, ss1, rf1, wi1, fA1, fS1, a1, a2, a3, a4⟩ := dk_xaT (pr := pr) (bl := bl) (na := na) (sc := sc) (fa := fa) (st := st) (no := no) (kn := kn) (nd := nd) (ot := ot) (le := le) (gr := gr) (op := op) (it := it) (nm := nm) (sh := sh) (ex := ex) (wl := wl) (wg := wg) (th := th) (re := re) (rd := rd) (od := od) (on := on) (wh := wh) (ss := ss) (rf := rf) (wi := wi) (lv := lv) (dm := dm) (ch := ch) (cg := cg) (my := my) (sp := sp) (fA := fA) (fS := fS) (nt := nt) (s := 1) (set := 31) (pp := True) (Or.inr ⟨rfl, trivial⟩) (by omega) hC hT'
      refine br_f z (br_f (nI_pos (by omega)) (br_t (nI_lt (b := 4) hw (by omega)) (br_t rfl (a4 _ ?_))))
      dsimp only
      exact br_t zk (br_f (by decide) (br_f zy (br_t zk ⟨rfl, mkX _ _ _ _ _ _ _ _ _ _ _ _ a1⟩)))
    · obtain ⟨j, hj, rfl⟩ := nI_of zk
      obtain ⟨fa', re', rd', od', on', wh', ss', rf', wi', fA', fS', a1, a2⟩ := dk_xfault (pr := pr) (bl := bl) (na := na) (sc := sc) (fa := fa) (st := st) (no := no) (kn := kn) (nd := nd) (ot := ot) (le := le) (gr := gr) (op := op) (it := it) (nm := nm) (sh := sh) (ex := ex) (wl := wl) (wg := wg) (th := th) (re := re) (rd := rd) (od := od) (on := on) (wh := wh) (ss := ss) (rf := rf) (wi := wi) (lv := lv) (dm := dm) (ch := ch) (cg := cg) (my := my) (sp := sp) (fA := fA) (fS := fS) (nt := nt) (k := j) (w := w) z hj hw hC hT'
      obtain ⟨yq', b1, b2⟩ := dk_yf27 (yp := yp) (yb := yb) (ys := ys) (yn := yn) (kn := kn) (nd := nd) (ot := ot) (le := le) (gr := gr) (op := op) (it := it) (nm := nm) (sh := sh) (ex := ex) (wl := wl) (ya := ya) (yg := yg) (yr := yr) (yl := yl) (yo := yo) (yt := yt) (w := w) hw hC.1 hC.2.1 hya hC.2.2.2.2.2.2.1 hC.2.2.2.2.2.2.2.1 hC.2.2.2.2.2.2.2.2.1 hC.2.2.2.2.2.2.2.2.2.1 hC.2.2.2.2.2.2.2.2.2.2 5 0 j yq rfl hj
      refine a2 _ (br_f zy (br_f (nI_pos hj) (br_f (nI_pos (by omega)) (br_f (nI_ge (b := 4) hw (by omega)) (br_f (by decide) ?_)))))
      rw [dk_fs_t hC.2.1 ft 31 5 0 (by omega), dk_an_t hC.2.1 ft]
      by_cases y : j < (dk_fs nd ot it nm sh ex (fun p => ya (5 + p)) 31 5 0).length
      · rw [if_pos y]
        exact b1 y _ ⟨rfl, mkX _ _ _ _ _ _ _ _ _ _ _ _ a1⟩
      · rw [if_neg y]
        exact b2 y _ ⟨rfl, mkX _ _ _ _ _ _ _ _ _ _ _ _ a1⟩
  · refine br_f z (dk_xout (n := 4) (by omega) _ (fun _ => br_f (by decide) (br_f zy (br_c (fun _ => ⟨rfl, E⟩) (fun _ => dk_yin (n := 4) (by omega) _ (fun _ => br_t rfl ⟨rfl, E⟩) (fun j hj e => absurd ⟨j, hj, e⟩ zw))))) (fun j hj e => absurd ⟨j, hj, e⟩ zw))
theorem i_vc_commit {k : Nat} {u : SX} {v : SY} (I : i_Rel k u v) (hk : k + 7 ≤ 3584) (v1 : Int32) : wpX_commit (fun r u' => wpY_commit (fun r' v' => r' = r ∧ i_Rel (k + 7) u' v') v (lw_bz v1)) u (lw_bz v1) := by
  refine dk_rel (P := fun u v => wpX_commit (fun r u' => wpY_commit (fun r' v' => r' = r ∧ i_Rel (k + 7) u' v') v (lw_bz v1)) u (lw_bz v1)) ?_ I
  intro pr bl na sc fa st no kn nd ot le gr op it nm sh ex wl wg th re rd od on wh ss rf wi lv dm ch cg my sp fA fS nt yp yb ys yn ya yg yr yl yq yo yt R
  have E := dk_ir pr bl na sc fa st no kn nd ot le gr op it nm sh ex wl wg th re rd od on wh ss rf wi lv dm ch cg my sp fA fS nt yp yb ys yn ya yg yr yl yq yo yt (k := k + 7) R
  obtain ⟨hC, hD, ⟨e1, e2, e3⟩, ⟨sm, s1, s2, s3, s4⟩, ⟨c, m, n1, n2, n3⟩, hna, hT, ⟨f1, f2⟩, g, hyg⟩ := R
  have hya := hD.2.2.2.2.2
  generalize lw_bz v1 = fo
  by_cases z : pr = 0
  · exact br_t z (br_t (e1.trans z) ⟨rfl, E⟩)
  have zy : ¬ yp = 0 := fun y => z (e1 ▸ y)
  have hT' : dk_TI nd ot it nm sh ex th True wi re rd wh ss rf := ⟨hT.1, fun _ => hT.2 z⟩
  have ft : ∀ p, p < 5 → (fun p => th (5 * 1 + p)) p = (fun p => ya (5 + p)) p := fun p hp => by simpa using f2 z p hp
  have f0 : ∀ p, p < 5 → (fun p => th (5 * 0 + p)) p = (fun p => ya (0 + p)) p := fun p hp => by simpa using f1 p hp
  obtain ⟨hnd, hot, hlg, hgr, hop, hth, hit, hnm, hsh, hex, hun⟩ := id hC
  have nilI := dk_fs_nil nd ot it nm sh ex (fun p => th (5 * 1 + p)) 31 5 0
  have nilY : (∃ q, 0 ≤ q ∧ q < 0 + 5 ∧ Nat.testBit 31 q = true ∧ dk_fy nd ot it nm sh ex (fun p => th (5 * 1 + p)) q) ↔ ∃ q, 0 ≤ q ∧ q < 5 ∧ dk_fy nd ot it nm sh ex (fun p => ya (5 + p)) q := by
    constructor
    · rintro ⟨q, a, b, _, d⟩
      exact ⟨q, a, by omega, by rw [← dk_fy_t hot ft (by omega)]; exact d⟩
    · rintro ⟨q, a, b, d⟩
      exact ⟨q, a, by omega, by rw [dk_t31]; exact decide_eq_true b, by rw [dk_fy_t hot ft b]; exact d⟩
  rw [nilY] at nilI
  obtain ⟨g1, g2⟩ := g z
  have hN16 := dk_NR16 n3
  by_cases zf : fo = 0 ∧ ∃ q, 0 ≤ q ∧ q < 5 ∧ dk_fy nd ot it nm sh ex (fun p => ya (5 + p)) q
  · obtain ⟨rfl, zf⟩ := zf
    obtain ⟨fa', re', rd', od', on', wh', ss', rf', wi', fA', fS', a1, a2⟩ := dk_xcm_no (pr := pr) (bl := bl) (na := na) (sc := sc) (fa := fa) (st := st) (no := no) (kn := kn) (nd := nd) (ot := ot) (le := le) (gr := gr) (op := op) (it := it) (nm := nm) (sh := sh) (ex := ex) (wl := wl) (wg := wg) (th := th) (re := re) (rd := rd) (od := od) (on := on) (wh := wh) (ss := ss) (rf := rf) (wi := wi) (lv := lv) (dm := dm) (ch := ch) (cg := cg) (my := my) (sp := sp) (fA := fA) (fS := fS) (nt := nt) z hC hT' (fun e => nilI.mp e zf)
    obtain ⟨yq', b1⟩ := dk_ycm_no (yp := yp) (yb := yb) (ys := ys) (yn := yn) (kn := kn) (nd := nd) (ot := ot) (le := le) (gr := gr) (op := op) (it := it) (nm := nm) (sh := sh) (ex := ex) (wl := wl) (ya := ya) (yg := yg) (yr := yr) (yl := yl) (yq := yq) (yo := yo) (yt := yt) zy hnd hot hya hit hnm hsh hex hun zf
    exact a2 _ (b1 _ ⟨rfl, dk_ir _ _ _ _ _ _ _ _ _ _ _ _ _ _ _ _ _ _ _ _ _ _ _ _ _ _ _ _ _ _ _ _ _ _ _ _ _ _ _ _ _ _ _ _ _ _ _ _ ⟨hC, hD, ⟨e1, e2, e3⟩, ⟨sm, s1, s2, s3, s4⟩, ⟨c, m, n1, n2, n3⟩, hna, ⟨a1.1, fun _ => a1.2 trivial⟩, ⟨f1, f2⟩, g, hyg⟩⟩)
  · subst s2; subst s3; subst n1; subst n2; subst g1
    obtain ⟨th', fa', re', rd', od', on', wh', ss', rf', wi', fA', fS', a1, a2, a3, a4⟩ := dk_xcm_ok (pr := pr) (bl := bl) (na := na) (fa := fa) (kn := kn) (nd := nd) (ot := ot) (le := le) (gr := gr) (op := op) (it := it) (nm := nm) (sh := sh) (ex := ex) (wl := wl) (wg := wg) (th := th) (re := re) (rd := rd) (od := od) (on := on) (wh := wh) (ss := ss) (rf := rf) (wi := wi) (lv := lv) (dm := dm) (ch := ch) (cg := cg) (my := my) (sp := sp) (fA := fA) (fS := fS) (sm := sm) (fo := fo) (N0 := (c, nt)) z s1 n3.1 hC hT' g2 (fun q hq hb => by rw [show 5 * 0 + q = q by omega]; exact s4 q hq hb) (by
      by_cases y : fo = 0
      · exact Or.inl (nilI.mpr fun w => zf ⟨y, w⟩)
      · exact Or.inr y)
    obtain ⟨ya', yr', yl', yq', yt', b1, b2, b3⟩ := dk_ycm_ok (yp := yp) (yb := yb) (kn := kn) (nd := nd) (ot := ot) (le := le) (gr := gr) (op := op) (it := it) (nm := nm) (sh := sh) (ex := ex) (wl := wl) (ya := ya) (yg := yg) (yr := yr) (yl := yl) (yq := yq) (yt := yt) (sm := sm) (fo := fo) (N0 := (m, yo)) zy s1 (fun l => dk_ynf_L l _ hN16) hnd hot hya hit hnm hsh hex hun (fun q hq hb => by rw [Nat.zero_add, ← f1 q hq]; exact s4 q hq hb) zf
    obtain ⟨t1, t2, t3⟩ := dk_stops (nd := nd) (ot := ot) (t := fun p => th (5 * 0 + p)) (t' := fun p => th (5 * 1 + p)) (s := (sm, [])) s1 (fun q hq hb => by show 0 < th (5 * 0 + q); rw [show 5 * 0 + q = q by omega]; exact s4 q hq hb)
    have es := dk_stp_t (nd := nd) hot f0 ft
    have ead := dk_ad_t (nd := nd) hot f0
    have fn : ∀ p, p < 5 → (fun p => th' (5 * 0 + p)) p = (fun p => ya' (0 + p)) p := fun p hp => by
      show th' (5 * 0 + p) = ya' (0 + p)
      rw [show 5 * 0 + p = p by omega, a1 p hp, b1 p hp]; exact f2 z p hp
    rw [← es, ← ead] at b3
    generalize hS : (dk_stp nd ot (fun p => th (5 * 0 + p)) (fun p => th (5 * 1 + p))).foldl (dk_ev (dk_ad nd ot (fun p => th (5 * 0 + p)))) (sm, []) = S at *
    rw [← dk_rs_t hot fn _ 5 0 _ (by omega)] at b3
    obtain ⟨u1, u2⟩ := dk_rs_ok (nd := nd) (ot := ot) (it := it) (nm := nm) (sh := sh) (ex := ex) (t := fun p => th' (5 * 0 + p)) (stopped := dk_dif sm S.1) 5 0 S (by omega) t2 (fun q hq hb => by
      show 0 < th' (5 * 0 + q)
      rw [show 5 * 0 + q = q by omega, a1 q hq]
      have := (t3 q hq hb).2
      simpa using this)
    have nr := dk_NR_f (dk_rs nd ot it nm sh ex (fun p => th' (5 * 0 + p)) (dk_dif sm S.1) 5 0 S).2 n3
    refine a4 _ (b3 _ ⟨rfl, dk_ir _ _ _ _ _ _ _ _ _ _ _ _ _ _ _ _ _ _ _ _ _ _ _ _ _ _ _ _ _ _ _ _ _ _ _ _ _ _ _ _ _ _ _ _ _ _ _ _ ⟨⟨hnd, hot, hlg, hgr, hop, a2, hit, hnm, hsh, hex, hun⟩, ⟨hD.1, hD.2.1, hD.2.2.1, hD.2.2.2.1, hD.2.2.2.2.1, b2⟩, ⟨rfl, Or.inl rfl, e3⟩, ⟨_, u1, rfl, rfl, fun q hq hb => by have := u2 q hq hb; simpa using this⟩, ⟨_, _, rfl, rfl, nr⟩, hna, ⟨a3.1, fun y => absurd rfl y⟩, ⟨fun p hp => by rw [a1 p hp, b1 p hp]; exact f2 z p hp, fun y => absurd rfl y⟩, fun y => absurd rfl y, hyg⟩⟩)
end
section
section
variable {pr bl na sc fa st no : Int32} {kn nd ot le gr op it nm sh ex wl wg th : Nat → Nat} {re rd od on : Nat → Int32} {wh : Nat → Int64} {ss rf wi lv dm ch cg my sp fA fS nt : Nat → Int32}
theorem dk_xfnd {s p c : Nat} {pp : Prop} (hs : s = 0 ∨ (s = 1 ∧ pp)) (hp : p < 5) (hc : c < 12) (hC : dk_Cx nd ot le gr op it nm sh ex th) (hT : dk_TI nd ot it nm sh ex th pp wi re rd wh ss rf) :
    ∃ (re' rd' od' on' : Nat → Int32) (wh' : Nat → Int64) (ss' rf' wi' : Nat → Int32), dk_TI nd ot it nm sh ex th pp wi' re' rd' wh' ss' rf' ∧
    ∀ post : Int32 → SX → Prop, post (if 0 < th (5 * s + p) ∧ 0 < dk_place nd ot it nm ex (fun p => th (5 * s + p)) p c then nI (dk_place nd ot it nm ex (fun p => th (5 * s + p)) p c - 1) else -3) (pr, bl, na, sc, fa, st, no, (dk_N kn), (dk_N nd), (dk_N (dk_E ot le gr op)), (dk_N it), (dk_N nm), (dk_N sh), (dk_N ex), (dk_W wl), (dk_N wg), (dk_T th), re', rd', od', on', wh', ss', rf', wi', lv, dm, ch, cg, my, sp, fA, fS, nt) → wX_find_40 post (nI p) (nI c) (nI s) pr bl na sc fa st no (dk_N kn) (dk_N nd) (dk_N (dk_E ot le gr op)) (dk_N it) (dk_N nm) (dk_N sh) (dk_N ex) (dk_W wl) (dk_N wg) (dk_T th) re rd od on wh ss rf wi lv dm ch cg my sp fA fS nt := by
  obtain ⟨re1, rd1, od1, on1, wh1, ss1, rf1, wi1, a1, a2, a3⟩ := dk_xwT (pr := pr) (bl := bl) (na := na) (sc := sc) (fa := fa) (st := st) (no := no) (kn := kn) (nd := nd) (ot := ot) (le := le) (gr := gr) (op := op) (it := it) (nm := nm) (sh := sh) (ex := ex) (wl := wl) (wg := wg) (th := th) (re := re) (rd := rd) (od := od) (on := on) (wh := wh) (ss := ss) (rf := rf) (wi := wi) (lv := lv) (dm := dm) (ch := ch) (cg := cg) (my := my) (sp := sp) (fA := fA) (fS := fS) (nt := nt) hs hC hT
  have s1 : s ≤ 1 := by rcases hs with h | h <;> omega
  refine ⟨re1, rd1, od1, on1, wh1, ss1, rf1, wi1, a1, fun post h => a3 _ ?_⟩
  dsimp only
  rw [dk_m5, nI_add]
  obtain ⟨_, _, m, ⟨b1, _⟩, _⟩ := a2 p hp
  have p5 := dk_place5 (nd := nd) (ot := ot) (it := it) (nm := nm) (ex := ex) (t := fun p => th (5 * s + p)) (p := p) (n := c)
  by_cases z : 0 < th (5 * s + p)
  · have el : dk_lst nd ot (fun p => th (5 * s + p)) p = dk_bfs (dk_ad nd ot (fun p => th (5 * s + p))) p := if_neg (show ¬ th (5 * s + p) = 0 by omega)
    rw [el] at b1
    refine dk_xpc (D := fun n => dk_place nd ot it nm ex (fun p => th (5 * s + p)) p n) (by omega) hc b1 (by show dk_place nd ot it nm ex (fun p => th (5 * s + p)) p c < 16; omega) _ ?_
    rw [dk_tpos (by omega)]
    refine br_c (fun y => ?_) (fun y => ?_)
    · rw [if_pos ⟨z, y⟩, ← dk_tp y] at h; exact h
    · rw [if_neg (fun w => y w.2)] at h; exact h
  · have el : dk_lst nd ot (fun p => th (5 * s + p)) p = [] := if_pos (show th (5 * s + p) = 0 by omega)
    rw [el] at b1
    refine dk_xpc (D := fun n => dk_pl (dk_Ex it nm ex (fun p => th (5 * s + p)) n) []) (by omega) hc b1 (by show 0 < 16; omega) _ ?_
    rw [if_neg (fun w => z w.1)] at h
    exact br_f (fun y => absurd ((dk_tpos (t := 0) (by omega)).mp y) (by omega)) h
end
section
variable {yp yb ys yn : Int32} {kn nd ot le gr op it nm sh ex wl ya : Nat → Nat} {yg yr yl yq yo yt : Nat → Int32}
theorem dk_yfnd {s p c : Nat} (hs : s ≤ 5) (hp : p < 5) (hc : c < 12) (hnd : ∀ x, nd x ≤ 4) (hot : ∀ k, ot k < 5) (hya : ∀ i, ya i < 4) (hit : ∀ x, it x ≤ 6) (hnm : ∀ k, nm k < 12) (hex : ∀ k, ex k ≤ 1) :
    ∃ yq' : Nat → Int32, ∀ post : Int32 → SY → Prop, post (if 0 < ya (s + p) ∧ 0 < dk_place nd ot it nm ex (fun p => ya (s + p)) p c then nI (dk_place nd ot it nm ex (fun p => ya (s + p)) p c - 1) else -3) (yp, yb, ys, yn, (dk_N kn), (dk_N nd), (dk_N ot), (dk_N le), (dk_N gr), (dk_N op), (dk_N ex), (dk_N it), (dk_N nm), (dk_N sh), (dk_W wl), yg, (dk_T ya), yr, yl, yq', yo, yt) → wY_find_39 post (nI p) (nI c) (nI s) yp yb ys yn (dk_N kn) (dk_N nd) (dk_N ot) (dk_N le) (dk_N gr) (dk_N op) (dk_N ex) (dk_N it) (dk_N nm) (dk_N sh) (dk_W wl) yg (dk_T ya) yr yl yq yo yt := by
  have t4 := hya (s + p)
  have p5 := dk_place5 (nd := nd) (ot := ot) (it := it) (nm := nm) (ex := ex) (t := fun p => ya (s + p)) (p := p) (n := c)
  by_cases z : 0 < ya (s + p)
  · obtain ⟨yq', b⟩ := dk_ylk (yp := yp) (yb := yb) (ys := ys) (yn := yn) (kn := kn) (nd := nd) (ot := ot) (le := le) (gr := gr) (op := op) (it := it) (nm := nm) (sh := sh) (ex := ex) (wl := wl) (ya := ya) (yg := yg) (yr := yr) (yl := yl) (yq := yq) (yo := yo) (yt := yt) hs hp hc hnd hot hya hit hnm hex z
    refine ⟨yq', fun post h => ?_⟩
    unfold wY_find_39
    rw [nI_add, nI_clamp (by omega), dk_Ta, dk_tpos (by omega)]
    refine ⟨vp_in_nI (by omega) (by omega), br_t z (b _ ?_)⟩
    dsimp only
    rw [dk_tpos (by omega)]
    refine br_c (fun y => ?_) (fun y => ?_)
    · rw [if_pos ⟨z, y⟩, ← dk_tp y] at h; exact h
    · rw [if_neg (fun w => y w.2)] at h; exact h
  · refine ⟨yq, fun post h => ?_⟩
    unfold wY_find_39
    rw [nI_add, nI_clamp (by omega), dk_Ta, dk_tpos (by omega)]
    rw [if_neg (fun w => z w.1)] at h
    exact ⟨vp_in_nI (by omega) (by omega), br_f z h⟩
end
theorem i_vc_find {k : Nat} {u : SX} {v : SY} (I : i_Rel k u v) (hk : k + 7 ≤ 3584) (v1 : Int32) (v2 : Int32) (v3 : Int32) : wpX_find (fun r u' => wpY_find (fun r' v' => r' = r ∧ i_Rel (k + 7) u' v') v v1 v2 (lw_bz v3)) u v1 v2 (lw_bz v3) := by
  refine dk_rel (P := fun u v => wpX_find (fun r u' => wpY_find (fun r' v' => r' = r ∧ i_Rel (k + 7) u' v') v v1 v2 (lw_bz v3)) u v1 v2 (lw_bz v3)) ?_ I
  intro pr bl na sc fa st no kn nd ot le gr op it nm sh ex wl wg th re rd od on wh ss rf wi lv dm ch cg my sp fA fS nt yp yb ys yn ya yg yr yl yq yo yt R
  have E := dk_ir pr bl na sc fa st no kn nd ot le gr op it nm sh ex wl wg th re rd od on wh ss rf wi lv dm ch cg my sp fA fS nt yp yb ys yn ya yg yr yl yq yo yt (k := k + 7) R
  obtain ⟨hC, hD, ⟨e1, e2, e3⟩, hS, hN, hna, hT, ⟨f1, f2⟩, g, hyg⟩ := R
  have hya := hD.2.2.2.2.2
  generalize lw_bz v3 = fo
  have mkX : ∀ (re' rd' od' on' : Nat → Int32) (wh' : Nat → Int64) (ss' rf' wi' yq' : Nat → Int32), dk_TI nd ot it nm sh ex th (¬ pr = 0) wi' re' rd' wh' ss' rf' → i_Rel (k + 7) (pr, bl, na, sc, fa, st, no, (dk_N kn), (dk_N nd), (dk_N (dk_E ot le gr op)), (dk_N it), (dk_N nm), (dk_N sh), (dk_N ex), (dk_W wl), (dk_N wg), (dk_T th), re', rd', od', on', wh', ss', rf', wi', lv, dm, ch, cg, my, sp, fA, fS, nt) (yp, yb, ys, yn, (dk_N kn), (dk_N nd), (dk_N ot), (dk_N le), (dk_N gr), (dk_N op), (dk_N ex), (dk_N it), (dk_N nm), (dk_N sh), (dk_W wl), yg, (dk_T ya), yr, yl, yq', yo, yt) := fun re' rd' od' on' wh' ss' rf' wi' yq' t =>
    dk_ir _ _ _ _ _ _ _ _ _ _ _ _ _ _ _ _ _ _ _ _ _ _ _ _ _ _ _ _ _ _ _ _ _ _ _ _ _ _ _ _ _ _ _ _ _ _ _ _ ⟨hC, hD, ⟨e1, e2, e3⟩, hS, hN, hna, t, ⟨f1, f2⟩, g, hyg⟩
  -- Y where it is refused
  have noY : ((¬ ∃ j, j < 5 ∧ v1 = nI j) ∨ (¬ ∃ j, j < 12 ∧ v2 = nI j) ∨ (¬ fo = 0 ∧ pr = 0)) → wpY_find (fun r' v' => r' = -3 ∧ i_Rel (k + 7) (pr, bl, na, sc, fa, st, no, (dk_N kn), (dk_N nd), (dk_N (dk_E ot le gr op)), (dk_N it), (dk_N nm), (dk_N sh), (dk_N ex), (dk_W wl), (dk_N wg), (dk_T th), re, rd, od, on, wh, ss, rf, wi, lv, dm, ch, cg, my, sp, fA, fS, nt) v') (yp, yb, ys, yn, (dk_N kn), (dk_N nd), (dk_N ot), (dk_N le), (dk_N gr), (dk_N op), (dk_N ex), (dk_N it), (dk_N nm), (dk_N sh), (dk_W wl), yg, (dk_T ya), yr, yl, yq, yo, yt) v1 v2 fo := by
    intro h
    have key : ∀ z0 : Int32, wY_find_9 (fun r' v' => r' = -3 ∧ i_Rel (k + 7) (pr, bl, na, sc, fa, st, no, (dk_N kn), (dk_N nd), (dk_N (dk_E ot le gr op)), (dk_N it), (dk_N nm), (dk_N sh), (dk_N ex), (dk_W wl), (dk_N wg), (dk_T th), re, rd, od, on, wh, ss, rf, wi, lv, dm, ch, cg, my, sp, fA, fS, nt) v') v1 v2 fo z0 yp yb ys yn (dk_N kn) (dk_N nd) (dk_N ot) (dk_N le) (dk_N gr) (dk_N op) (dk_N ex) (dk_N it) (dk_N nm) (dk_N sh) (dk_W wl) yg (dk_T ya) yr yl yq yo yt := by
      intro z0
      unfold wY_find_9
      refine dk_yin (n := 5) (by omega) _ (fun _ => br_t rfl ⟨rfl, E⟩) (fun j hj e => br_f (by decide) (dk_yin (n := 12) (by omega) _ (fun _ => br_t rfl ⟨rfl, E⟩) (fun i hi e' => br_f (by decide) ?_)))
      rcases h with h | h | h
      · exact absurd ⟨j, hj, e⟩ h
      · exact absurd ⟨i, hi, e'⟩ h
      · exact br_f h.1 (br_t (e1.trans h.2) ⟨rfl, E⟩)
    exact br_c (fun _ => key 0) (fun _ => key 5)
  unfold wpX_find
  dsimp only
  refine dk_xout (n := 5) (by omega) _ (fun h => br_f (by decide) (noY (Or.inl h))) (fun p hp e => br_t rfl (dk_xout (n := 12) (by omega) _ (fun h => br_f (by decide) (noY (Or.inr (Or.inl h)))) (fun c hc e' => br_t rfl ?_)))
  subst e; subst e'
  have goY : ∀ (s : Nat) (r : Int32) (post : Int32 → SY → Prop), (fo = 0 ↔ s = 0) → (s = 0 ∨ s = 5) → (¬ fo = 0 → ¬ yp = 0) → wY_find_39 post (nI p) (nI c) (nI s) yp yb ys yn (dk_N kn) (dk_N nd) (dk_N ot) (dk_N le) (dk_N gr) (dk_N op) (dk_N ex) (dk_N it) (dk_N nm) (dk_N sh) (dk_W wl) yg (dk_T ya) yr yl yq yo yt → wpY_find post (yp, yb, ys, yn, (dk_N kn), (dk_N nd), (dk_N ot), (dk_N le), (dk_N gr), (dk_N op), (dk_N ex), (dk_N it), (dk_N nm), (dk_N sh), (dk_W wl), yg, (dk_T ya), yr, yl, yq, yo, yt) (nI p) (nI c) fo := by
    intro s r post h1 h2 h3 h
    have key : wY_find_9 post (nI p) (nI c) fo (nI s) yp yb ys yn (dk_N kn) (dk_N nd) (dk_N ot) (dk_N le) (dk_N gr) (dk_N op) (dk_N ex) (dk_N it) (dk_N nm) (dk_N sh) (dk_W wl) yg (dk_T ya) yr yl yq yo yt := by
      unfold wY_find_9
      refine dk_yin (n := 5) (by omega) _ (fun y => absurd ⟨p, hp, rfl⟩ y) (fun j hj e => br_f (by decide) (dk_yin (n := 12) (by omega) _ (fun y => absurd ⟨c, hc, rfl⟩ y) (fun i hi e' => br_f (by decide) ?_)))
      exact br_c (fun _ => h) (fun y => br_f (h3 y) h)
    refine br_c (fun y => ?_) (fun y => ?_)
    · have := h1.mp y; subst this; exact key
    · have : s = 5 := by rcases h2 with w | w; exact absurd (h1.mpr w) y; exact w
      subst this; exact key
  by_cases zf : fo = 0
  · obtain ⟨re1, rd1, od1, on1, wh1, ss1, rf1, wi1, a1, a2⟩ := dk_xfnd (pr := pr) (bl := bl) (na := na) (sc := sc) (fa := fa) (st := st) (no := no) (kn := kn) (nd := nd) (ot := ot) (le := le) (gr := gr) (op := op) (it := it) (nm := nm) (sh := sh) (ex := ex) (wl := wl) (wg := wg) (th := th) (re := re) (rd := rd) (od := od) (on := on) (wh := wh) (ss := ss) (rf := rf) (wi := wi) (lv := lv) (dm := dm) (ch := ch) (cg := cg) (my := my) (sp := sp) (fA := fA) (fS := fS) (nt := nt) (s := 0) (p := p) (c := c) (pp := ¬ pr = 0) (Or.inl rfl) hp hc hC hT
    obtain ⟨yq', b⟩ := dk_yfnd (yp := yp) (yb := yb) (ys := ys) (yn := yn) (kn := kn) (nd := nd) (ot := ot) (le := le) (gr := gr) (op := op) (it := it) (nm := nm) (sh := sh) (ex := ex) (wl := wl) (ya := ya) (yg := yg) (yr := yr) (yl := yl) (yq := yq) (yo := yo) (yt := yt) (s := 0) (p := p) (c := c) (by omega) hp hc hC.1 hC.2.1 hya hC.2.2.2.2.2.2.1 hC.2.2.2.2.2.2.2.1 hC.2.2.2.2.2.2.2.2.2.1
    refine br_t zf (br_t zf (a2 _ (goY 0 0 _ ⟨fun _ => rfl, fun _ => zf⟩ (Or.inl rfl) (fun y => absurd zf y) (b _ ⟨?_, mkX _ _ _ _ _ _ _ _ _ a1⟩))))
    have ft : ∀ p, p < 5 → (fun p => th (5 * 0 + p)) p = (fun p => ya (0 + p)) p := fun p hp => by simpa using f1 p hp
    rw [dk_pl_c (sh := sh) hC.2.1 (dk_VC_t ft), show th (5 * 0 + p) = ya (0 + p) from ft p hp]
  · by_cases z : pr = 0
    · exact br_f zf (br_t z (noY (Or.inr (Or.inr ⟨zf, z⟩))))
    · obtain ⟨re1, rd1, od1, on1, wh1, ss1, rf1, wi1, a1, a2⟩ := dk_xfnd (pr := pr) (bl := bl) (na := na) (sc := sc) (fa := fa) (st := st) (no := no) (kn := kn) (nd := nd) (ot := ot) (le := le) (gr := gr) (op := op) (it := it) (nm := nm) (sh := sh) (ex := ex) (wl := wl) (wg := wg) (th := th) (re := re) (rd := rd) (od := od) (on := on) (wh := wh) (ss := ss) (rf := rf) (wi := wi) (lv := lv) (dm := dm) (ch := ch) (cg := cg) (my := my) (sp := sp) (fA := fA) (fS := fS) (nt := nt) (s := 1) (p := p) (c := c) (pp := ¬ pr = 0) (Or.inr ⟨rfl, z⟩) hp hc hC hT
      obtain ⟨yq', b⟩ := dk_yfnd (yp := yp) (yb := yb) (ys := ys) (yn := yn) (kn := kn) (nd := nd) (ot := ot) (le := le) (gr := gr) (op := op) (it := it) (nm := nm) (sh := sh) (ex := ex) (wl := wl) (ya := ya) (yg := yg) (yr := yr) (yl := yl) (yq := yq) (yo := yo) (yt := yt) (s := 5) (p := p) (c := c) (by omega) hp hc hC.1 hC.2.1 hya hC.2.2.2.2.2.2.1 hC.2.2.2.2.2.2.2.1 hC.2.2.2.2.2.2.2.2.2.1
      refine br_f zf (br_f z (br_f zf (a2 _ (goY 5 0 _ ⟨fun y => absurd y zf, fun y => by omega⟩ (Or.inr rfl) (fun _ y => z (e1 ▸ y)) (b _ ⟨?_, mkX _ _ _ _ _ _ _ _ _ a1⟩)))))
      have ft : ∀ p, p < 5 → (fun p => th (5 * 1 + p)) p = (fun p => ya (5 + p)) p := fun p hp => by simpa using f2 z p hp
      rw [dk_pl_c (sh := sh) hC.2.1 (dk_VC_t ft), show th (5 * 1 + p) = ya (5 + p) from ft p hp]
theorem i_vc_start {k : Nat} {u : SX} {v : SY} (I : i_Rel k u v) (hk : k + 7 ≤ 3584) (v1 : Int32) : wpX_start (fun r u' => wpY_start (fun r' v' => r' = r ∧ i_Rel (k + 7) u' v') v v1) u v1 := by
  refine dk_rel (P := fun u v => wpX_start (fun r u' => wpY_start (fun r' v' => r' = r ∧ i_Rel (k + 7) u' v') v v1) u v1) ?_ I
  intro pr bl na sc fa st no kn nd ot le gr op it nm sh ex wl wg th re rd od on wh ss rf wi lv dm ch cg my sp fA fS nt yp yb ys yn ya yg yr yl yq yo yt R
  have E := dk_ir pr bl na sc fa st no kn nd ot le gr op it nm sh ex wl wg th re rd od on wh ss rf wi lv dm ch cg my sp fA fS nt yp yb ys yn ya yg yr yl yq yo yt (k := k + 7) R
  obtain ⟨hC, hD, ⟨e1, e2, e3⟩, ⟨sm, s1, s2, s3, s4⟩, ⟨c, m, n1, n2, n3⟩, hna, hT, ⟨f1, f2⟩, g, hyg⟩ := R
  have hya := hD.2.2.2.2.2
  obtain ⟨hnd, hot, hlg, hgr, hop, hth, hit, hnm, hsh, hex, hun⟩ := id hC
  have hN16 := dk_NR16 n3
  have f0 : ∀ p, p < 5 → (fun p => th (5 * 0 + p)) p = (fun p => ya (0 + p)) p := fun p hp => by simpa using f1 p hp
  unfold wpX_start wpY_start
  dsimp only
  refine dk_xout (n := 5) (by omega) _ (fun h => br_f (by decide) (dk_yin (n := 5) (by omega) _ (fun _ => br_t rfl ⟨rfl, E⟩) (fun j hj e => absurd ⟨j, hj, e⟩ h))) (fun p hp e => br_t rfl ?_)
  subst e
  have inY : ∀ (P : Int32 → Prop), P 1 → wpY_in P (nI p) (nI 5) := fun P h => dk_yin (n := 5) (by omega) _ (fun y => absurd ⟨p, hp, rfl⟩ y) (fun _ _ _ => h)
  have h4 := hth p
  have y4 := hya p
  rw [nI_clamp (by omega), dk_Ta, dk_Ta, dk_tpos (by omega), dk_tpos (by omega), ← f1 p hp]
  refine ⟨vp_in_nI (by omega) (by omega), br_c (fun z => ?_) (fun z => inY _ (br_f (by decide) ⟨vp_in_nI (by omega) (by omega), br_f z ⟨rfl, E⟩⟩))⟩
  subst s2; subst s3; subst n1; subst n2
  obtain ⟨fa', re', rd', od', on', wh', ss', rf', wi', fA', fS', a1, a2, a3⟩ := dk_xbg (pr := pr) (bl := bl) (na := na) (sc := sc) (fa := fa) (kn := kn) (nd := nd) (ot := ot) (le := le) (gr := gr) (op := op) (it := it) (nm := nm) (sh := sh) (ex := ex) (wl := wl) (wg := wg) (th := th) (re := re) (rd := rd) (od := od) (on := on) (wh := wh) (ss := ss) (rf := rf) (wi := wi) (lv := lv) (dm := dm) (ch := ch) (cg := cg) (my := my) (sp := sp) (fA := fA) (fS := fS) (p := p) (sm := sm) (pp := ¬ pr = 0) (N := (c, nt)) hp s1 n3.1 hC hT
  have nilI := dk_fs_nil nd ot it nm sh ex (fun p => th (5 * 0 + p)) (dk_bS (dk_ad nd ot (fun p => th (5 * 0 + p))) sm p) 5 0
  have sL := dk_bSL (ad := dk_ad nd ot (fun p => ya (0 + p))) (sm := sm) hp
  have ead := dk_ad_t (nd := nd) hot f0
  have FFe : (∃ q, 0 ≤ q ∧ q < 0 + 5 ∧ (dk_bS (dk_ad nd ot (fun p => th (5 * 0 + p))) sm p).testBit q = true ∧ dk_fy nd ot it nm sh ex (fun p => th (5 * 0 + p)) q) ↔ ∃ q, 0 ≤ q ∧ q < 5 ∧ (dk_bS (dk_ad nd ot (fun p => ya (0 + p))) sm p).testBit q = true ∧ dk_fy nd ot it nm sh ex (fun p => ya (0 + p)) q := by
    rw [ead]
    constructor
    · rintro ⟨q, a, b, c, d⟩
      exact ⟨q, a, by omega, c, by rw [← dk_fy_t hot f0 (by omega)]; exact d⟩
    · rintro ⟨q, a, b, c, d⟩
      exact ⟨q, a, by omega, c, by rw [dk_fy_t hot f0 b]; exact d⟩
  rw [FFe] at nilI
  by_cases y : ∃ q, 0 ≤ q ∧ q < 5 ∧ (dk_bS (dk_ad nd ot (fun p => ya (0 + p))) sm p).testBit q = true ∧ dk_fy nd ot it nm sh ex (fun p => ya (0 + p)) q
  · obtain ⟨yr', yq', b1⟩ := dk_yln_no (yp := yp) (yb := yb) (kn := kn) (nd := nd) (ot := ot) (le := le) (gr := gr) (op := op) (it := it) (nm := nm) (sh := sh) (ex := ex) (wl := wl) (ya := ya) (yg := yg) (yr := yr) (yl := yl) (yq := yq) (yt := yt) (N := (m, yo)) hp s1 hnd hot hya hit hnm hsh hex hun y
    refine a3 (fun e => nilI.mp e y) _ ?_
    dsimp only
    refine inY _ (br_f (by decide) ⟨vp_in_nI (by omega) (by omega), br_t z (b1 _ (br_f (by decide) ⟨rfl, ?_⟩))⟩)
    exact dk_ir _ _ _ _ _ _ _ _ _ _ _ _ _ _ _ _ _ _ _ _ _ _ _ _ _ _ _ _ _ _ _ _ _ _ _ _ _ _ _ _ _ _ _ _ _ _ _ _ ⟨hC, hD, ⟨e1, e2, e3⟩, ⟨sm, s1, rfl, rfl, s4⟩, ⟨c, m, rfl, rfl, n3⟩, hna, a1, ⟨f1, f2⟩, g, hyg⟩
  · obtain ⟨yr', yl', yq', b1⟩ := dk_yln_ok (yp := yp) (yb := yb) (kn := kn) (nd := nd) (ot := ot) (le := le) (gr := gr) (op := op) (it := it) (nm := nm) (sh := sh) (ex := ex) (wl := wl) (ya := ya) (yg := yg) (yr := yr) (yl := yl) (yq := yq) (yt := yt) (N := (m, yo)) hp s1 hN16 hnd hot hya hit hnm hsh hex hun y
    refine a2 (nilI.mpr y) _ ?_
    rw [ead]
    dsimp only
    refine inY _ (br_f (by decide) ⟨vp_in_nI (by omega) (by omega), br_t z (b1 _ (br_t (nI_pos' (by omega)) (dk_ybi sL _ ⟨rfl, ?_⟩)))⟩)
    refine dk_ir _ _ _ _ _ _ _ _ _ _ _ _ _ _ _ _ _ _ _ _ _ _ _ _ _ _ _ _ _ _ _ _ _ _ _ _ _ _ _ _ _ _ _ _ _ _ _ _ ⟨hC, hD, ⟨e1, e2, e3⟩, ⟨_, dk_orL s1 sL, rfl, rfl, fun q hq hb => ?_⟩, ⟨_, _, rfl, rfl, dk_NR_f (dk_bL (dk_ad nd ot (fun p => ya (0 + p))) sm p) n3⟩, hna, a1, ⟨f1, f2⟩, g, hyg⟩
    rw [Nat.testBit_or, Bool.or_eq_true, dk_bSB hp hq] at hb
    rcases hb with hb | ⟨hb | hb, _⟩
    · exact s4 q hq hb
    · rw [hb]; exact z
    · have := (dk_R0 hb).2.2
      rw [f1 q hq]; simpa using this
theorem i_vc_stop {k : Nat} {u : SX} {v : SY} (I : i_Rel k u v) (hk : k + 7 ≤ 3584) (v1 : Int32) : wpX_stop (fun r u' => wpY_stop (fun r' v' => r' = r ∧ i_Rel (k + 7) u' v') v v1) u v1 := by
  refine dk_rel (P := fun u v => wpX_stop (fun r u' => wpY_stop (fun r' v' => r' = r ∧ i_Rel (k + 7) u' v') v v1) u v1) ?_ I
  intro pr bl na sc fa st no kn nd ot le gr op it nm sh ex wl wg th re rd od on wh ss rf wi lv dm ch cg my sp fA fS nt yp yb ys yn ya yg yr yl yq yo yt R
  have E := dk_ir pr bl na sc fa st no kn nd ot le gr op it nm sh ex wl wg th re rd od on wh ss rf wi lv dm ch cg my sp fA fS nt yp yb ys yn ya yg yr yl yq yo yt (k := k + 7) R
  obtain ⟨hC, hD, ⟨e1, e2, e3⟩, ⟨sm, s1, s2, s3, s4⟩, ⟨c, m, n1, n2, n3⟩, hna, hT, ⟨f1, f2⟩, g, hyg⟩ := R
  have hya := hD.2.2.2.2.2
  obtain ⟨hnd, hot, hlg, hgr, hop, hth, hit, hnm, hsh, hex, hun⟩ := id hC
  have hN16 := dk_NR16 n3
  have f0 : ∀ p, p < 5 → (fun p => th (5 * 0 + p)) p = (fun p => ya (0 + p)) p := fun p hp => by simpa using f1 p hp
  unfold wpX_stop wpY_stop
  dsimp only
  refine dk_xout (n := 5) (by omega) _ (fun h => br_f (by decide) (dk_yin (n := 5) (by omega) _ (fun _ => br_t rfl ⟨rfl, E⟩) (fun j hj e => absurd ⟨j, hj, e⟩ h))) (fun p hp e => br_t rfl ?_)
  subst e
  have inY : ∀ (P : Int32 → Prop), P 1 → wpY_in P (nI p) (nI 5) := fun P h => dk_yin (n := 5) (by omega) _ (fun y => absurd ⟨p, hp, rfl⟩ y) (fun _ _ _ => h)
  have h4 := hth p
  have y4 := hya p
  rw [nI_clamp (by omega), dk_Ta, dk_Ta, dk_tpos (by omega), dk_tpos (by omega), ← f1 p hp]
  refine ⟨vp_in_nI (by omega) (by omega), br_c (fun z => ?_) (fun z => inY _ (br_f (by decide) ⟨vp_in_nI (by omega) (by omega), br_f z ⟨rfl, E⟩⟩))⟩
  subst s2; subst s3; subst n1; subst n2
  obtain ⟨re', rd', od', on', wh', ss', rf', wi', a1, a2⟩ := dk_xen (pr := pr) (bl := bl) (na := na) (sc := sc) (fa := fa) (kn := kn) (nd := nd) (ot := ot) (le := le) (gr := gr) (op := op) (it := it) (nm := nm) (sh := sh) (ex := ex) (wl := wl) (wg := wg) (th := th) (re := re) (rd := rd) (od := od) (on := on) (wh := wh) (ss := ss) (rf := rf) (wi := wi) (lv := lv) (dm := dm) (ch := ch) (cg := cg) (my := my) (sp := sp) (fA := fA) (fS := fS) (p := p) (sm := sm) (pp := ¬ pr = 0) (N := (c, nt)) hp s1 n3.1 hC hT
  obtain ⟨yr', yl', b1⟩ := dk_yha (yp := yp) (yb := yb) (kn := kn) (nd := nd) (ot := ot) (le := le) (gr := gr) (op := op) (it := it) (nm := nm) (sh := sh) (ex := ex) (wl := wl) (ya := ya) (yg := yg) (yr := yr) (yl := yl) (yq := yq) (yt := yt) (p := p) (sm := sm) (N := (m, yo)) hp s1 hN16 hnd hot hya
  have sL := dk_eSL (ad := dk_ad nd ot (fun p => ya (0 + p))) (p := p) s1
  have ead := dk_ad_t (nd := nd) hot f0
  refine a2 _ ?_
  rw [ead]
  dsimp only
  refine inY _ (br_f (by decide) ⟨vp_in_nI (by omega) (by omega), br_t z (b1 _ (dk_ybi sL _ ⟨rfl, ?_⟩))⟩)
  refine dk_ir _ _ _ _ _ _ _ _ _ _ _ _ _ _ _ _ _ _ _ _ _ _ _ _ _ _ _ _ _ _ _ _ _ _ _ _ _ _ _ _ _ _ _ _ _ _ _ _ ⟨hC, hD, ⟨e1, e2, e3⟩, ⟨_, dk_difL _ _ s1, rfl, rfl, fun q hq hb => ?_⟩, ⟨_, _, rfl, rfl, dk_NR_f (dk_eL (dk_ad nd ot (fun p => ya (0 + p))) sm p) n3⟩, hna, a1, ⟨f1, f2⟩, g, hyg⟩
  rw [dk_difB _ _ s1, Bool.and_eq_true] at hb
  exact s4 q hq hb.1
end
section
theorem dk_TI_x {nd ot it nm sh ex nd' ot' it' nm' sh' ex' th : Nat → Nat} {pp : Prop} {wi re rd : Nat → Int32} {wh : Nat → Int64} {ss rf : Nat → Int32} (hot : ∀ k, ot k < 5) {x : Nat} (hx : ∀ q, q < 5 → 0 < th q → 3 * q + (th q - 1) ≠ x)
    (h : ∀ y, y ≠ x → nd y = nd' y ∧ (∀ k, k < nd y → ot (4 * y + k) = ot' (4 * y + k)) ∧ it y = it' y ∧ ∀ k, k < it y → nm (6 * y + k) = nm' (6 * y + k) ∧ sh (6 * y + k) = sh' (6 * y + k) ∧ ex (6 * y + k) = ex' (6 * y + k)) (hT : dk_TI nd ot it nm sh ex th pp wi re rd wh ss rf) : dk_TI nd' ot' it' nm' sh' ex' th (¬ (0 : Int32) = 0) wi re rd wh ss rf := by
  refine ⟨fun hw => dk_Wi_c hot (fun p hp => ⟨rfl, fun ht => ?_⟩) (hT.1 hw), fun y => absurd rfl y⟩
  have e : dk_x (fun p => th (5 * 0 + p)) p = 3 * p + (th p - 1) := by unfold dk_x; dsimp only; rw [show 5 * 0 + p = p by omega]
  have ht' : 0 < th p := by rw [show 5 * 0 + p = p by omega] at ht; exact ht
  rw [e]
  exact h _ (hx p hp ht')
theorem dk_uE (ot le gr op : Nat → Nat) (k q l g o : Nat) : upd (dk_N (dk_E ot le gr op)) k (nI (q + 8 * l + 32 * g + 128 * o)) = dk_N (dk_E (dk_u ot k q) (dk_u le k l) (dk_u gr k g) (dk_u op k o)) := by
  funext j
  unfold upd dk_N dk_E dk_u
  by_cases h : j = k <;> simp [h]
def dk_OP (th : Nat → Nat) (x1 x2 : Int32) (p v : Nat) : Prop := p < 5 ∧ v < 3 ∧ x1 = nI p ∧ x2 = nI v ∧ th p ≠ v + 1
section
variable {pr bl na sc fa st no : Int32} {kn nd ot le gr op it nm sh ex wl wg th : Nat → Nat} {re rd od on : Nat → Int32} {wh : Nat → Int64} {ss rf wi lv dm ch cg my sp fA fS nt : Nat → Int32}
theorem dk_xop_y {x1 x2 : Int32} {p v : Nat} (hth : ∀ i, th i < 4) (h : dk_OP th x1 x2 p v) (post : Int32 → Prop) (h1 : post 1) : wpX_open post (pr, bl, na, sc, fa, st, no, (dk_N kn), (dk_N nd), (dk_N (dk_E ot le gr op)), (dk_N it), (dk_N nm), (dk_N sh), (dk_N ex), (dk_W wl), (dk_N wg), (dk_T th), re, rd, od, on, wh, ss, rf, wi, lv, dm, ch, cg, my, sp, fA, fS, nt) x1 x2 := by
  obtain ⟨a, b, rfl, rfl, c⟩ := h
  have t4 := hth p
  unfold wpX_open
  dsimp only
  refine dk_xout (n := 5) (by omega) _ (fun y => absurd ⟨p, a, rfl⟩ y) (fun _ _ _ => br_t rfl (dk_xout (n := 3) (by omega) _ (fun y => absurd ⟨v, b, rfl⟩ y) (fun _ _ _ => br_t rfl ?_)))
  rw [nI_clamp (by omega), dk_Ta, dk_teqn (by omega) (by omega)]
  exact ⟨vp_in_nI (by omega) (by omega), br_f c h1⟩
theorem dk_xop_n {x1 x2 : Int32} (hth : ∀ i, th i < 4) (post : Int32 → Prop) (h0 : post 0) (h1 : ∀ p v, dk_OP th x1 x2 p v → post 1) : wpX_open post (pr, bl, na, sc, fa, st, no, (dk_N kn), (dk_N nd), (dk_N (dk_E ot le gr op)), (dk_N it), (dk_N nm), (dk_N sh), (dk_N ex), (dk_W wl), (dk_N wg), (dk_T th), re, rd, od, on, wh, ss, rf, wi, lv, dm, ch, cg, my, sp, fA, fS, nt) x1 x2 := by
  unfold wpX_open
  dsimp only
  refine dk_xout (n := 5) (by omega) _ (fun _ => br_f (by decide) h0) (fun p hp e => br_t rfl (dk_xout (n := 3) (by omega) _ (fun _ => br_f (by decide) h0) (fun v hv e' => br_t rfl ?_)))
  have t4 := hth p
  rw [e, nI_clamp (by omega), dk_Ta, e', dk_teqn (by omega) (by omega)]
  exact ⟨vp_in_nI (by omega) (by omega), br_c (fun _ => h0) (fun z => h1 p v ⟨hp, hv, e, e', z⟩)⟩
end
section
variable {yp yb ys yn : Int32} {kn nd ot le gr op it nm sh ex wl ya : Nat → Nat} {yg yr yl yq yo yt : Nat → Int32}
theorem dk_yop_y {x1 x2 : Int32} {p v : Nat} (hya : ∀ i, ya i < 4) (h : dk_OP ya x1 x2 p v) (post : Int32 → Prop) (h1 : post 1) : wpY_free post (yp, yb, ys, yn, (dk_N kn), (dk_N nd), (dk_N ot), (dk_N le), (dk_N gr), (dk_N op), (dk_N ex), (dk_N it), (dk_N nm), (dk_N sh), (dk_W wl), yg, (dk_T ya), yr, yl, yq, yo, yt) x1 x2 := by
  obtain ⟨a, b, rfl, rfl, c⟩ := h
  have t4 := hya p
  unfold wpY_free
  dsimp only
  refine dk_yin (n := 5) (by omega) _ (fun y => absurd ⟨p, a, rfl⟩ y) (fun _ _ _ => br_f (by decide) (dk_yin (n := 3) (by omega) _ (fun y => absurd ⟨v, b, rfl⟩ y) (fun _ _ _ => br_f (by decide) ?_)))
  rw [nI_clamp (by omega), dk_Ta, dk_teqn (by omega) (by omega)]
  exact ⟨vp_in_nI (by omega) (by omega), br_f c h1⟩
theorem dk_yop_n {x1 x2 : Int32} (hya : ∀ i, ya i < 4) (post : Int32 → Prop) (h0 : post 0) (h1 : ∀ p v, dk_OP ya x1 x2 p v → post 1) : wpY_free post (yp, yb, ys, yn, (dk_N kn), (dk_N nd), (dk_N ot), (dk_N le), (dk_N gr), (dk_N op), (dk_N ex), (dk_N it), (dk_N nm), (dk_N sh), (dk_W wl), yg, (dk_T ya), yr, yl, yq, yo, yt) x1 x2 := by
  unfold wpY_free
  dsimp only
  refine dk_yin (n := 5) (by omega) _ (fun _ => br_t rfl h0) (fun p hp e => br_f (by decide) (dk_yin (n := 3) (by omega) _ (fun _ => br_t rfl h0) (fun v hv e' => br_f (by decide) ?_)))
  have t4 := hya p
  rw [e, nI_clamp (by omega), dk_Ta, e', dk_teqn (by omega) (by omega)]
  exact ⟨vp_in_nI (by omega) (by omega), br_c (fun _ => h0) (fun z => h1 p v ⟨hp, hv, e, e', z⟩)⟩
end
theorem dk_OPt {th ya : Nat → Nat} {x1 x2 : Int32} {p v : Nat} (h : ∀ p, p < 5 → th p = ya p) : dk_OP th x1 x2 p v ↔ dk_OP ya x1 x2 p v := by
  unfold dk_OP
  constructor
  · rintro ⟨a, b, c, d, e⟩; exact ⟨a, b, c, d, by rw [← h p a]; exact e⟩
  · rintro ⟨a, b, c, d, e⟩; exact ⟨a, b, c, d, by rw [h p a]; exact e⟩
theorem i_vc_version {k : Nat} {u : SX} {v : SY} (I : i_Rel k u v) (hk : k + 7 ≤ 3584) (v1 : Int32) (v2 : Int32) : wpX_version (fun r u' => wpY_version (fun r' v' => r' = r ∧ i_Rel (k + 7) u' v') v v1 v2) u v1 v2 := by
  refine dk_rel (P := fun u v => wpX_version (fun r u' => wpY_version (fun r' v' => r' = r ∧ i_Rel (k + 7) u' v') v v1 v2) u v1 v2) ?_ I
  intro pr bl na sc fa st no kn nd ot le gr op it nm sh ex wl wg th re rd od on wh ss rf wi lv dm ch cg my sp fA fS nt yp yb ys yn ya yg yr yl yq yo yt R
  have E := dk_ir pr bl na sc fa st no kn nd ot le gr op it nm sh ex wl wg th re rd od on wh ss rf wi lv dm ch cg my sp fA fS nt yp yb ys yn ya yg yr yl yq yo yt (k := k + 7) R
  obtain ⟨hC, ⟨hkn, hwl, hwg, hww, hown, hya⟩, ⟨e1, e2, e3⟩, hS, hN, hna, hT, ⟨f1, f2⟩, g, hyg⟩ := R
  obtain ⟨hnd, hot, hlg, hgr, hop, hth, hit, hnm, hsh, hex, hun⟩ := id hC
  by_cases z : ∃ p v, dk_OP th v1 v2 p v
  · obtain ⟨p, v, hop'⟩ := z
    have hopY := (dk_OPt f1).mp hop'
    obtain ⟨p5, v3, rfl, rfl, ne⟩ := id hop'
    have b0 : vp_nar .byte 0 = nI 0 := dk_vb (n := 0) (by omega)
    unfold wpX_version
    refine dk_xop_y hth hop' _ (br_f (by decide) ?_)
    rw [dk_m3, nI_add]
    refine nm_e ?_
    rw [nI_clamp (by omega), dk_vz1, b0, dk_uN, dk_uN, dk_uN]
    refine ⟨vp_in_nI (by omega) (by omega), nm_e ⟨vp_in_nI (by omega) (by omega), nm_e ⟨vp_in_nI (by omega) (by omega), nm_e ?_⟩⟩⟩
    unfold wpX_touched
    dsimp only
    unfold wpY_version
    refine dk_yop_y hya hopY _ (br_f (by decide) ?_)
    rw [dk_m3, nI_add, nI_clamp (by omega), dk_vz1, dk_uN]
    refine ⟨vp_in_nI (by omega) (by omega), nm_e ⟨vp_in_nI (by omega) (by omega), nm_r (dk_uN nd (3 * p + v) 0) ⟨vp_in_nI (by omega) (by omega), nm_r (dk_uN it (3 * p + v) 0) ⟨rfl, ?_⟩⟩⟩⟩
    refine dk_ir _ _ _ _ _ _ _ _ _ _ _ _ _ _ _ _ _ _ _ _ _ _ _ _ _ _ _ _ _ _ _ _ _ _ _ _ _ _ _ _ _ _ _ _ _ _ _ _ ⟨⟨fun x => ?_, hot, hlg, hgr, hop, hth, fun x => ?_, hnm, hsh, hex, fun x i j hx hij hj => ?_⟩, ⟨fun x => ?_, hwl, hwg, hww, fun x i hx hi => ?_, hya⟩, ⟨rfl, Or.inl rfl, e3⟩, hS, hN, fun y => absurd rfl y, dk_TI_x (x := 3 * p + v) hot (fun q hq hq0 => ?_) (fun y hy => ⟨(dk_un hy).symm, fun _ _ => rfl, (dk_un hy).symm, fun _ _ => ⟨rfl, rfl, rfl⟩⟩) hT, ⟨f1, fun y => absurd rfl y⟩, fun y => absurd rfl y, hyg⟩
    · by_cases e : x = 3 * p + v
      · subst e; rw [dk_us]; omega
      · rw [dk_un e]; exact hnd x
    · by_cases e : x = 3 * p + v
      · subst e; rw [dk_us]; omega
      · rw [dk_un e]; exact hit x
    · by_cases e : x = 3 * p + v
      · subst e; rw [dk_us] at hj; omega
      · rw [dk_un e] at hj; exact hun x i j hx hij hj
    · by_cases e : x = 3 * p + v
      · subst e; rw [dk_us]; omega
      · rw [dk_un e]; exact hkn x
    · by_cases e : x = 3 * p + v
      · subst e; rw [dk_us] at hi; omega
      · rw [dk_un e] at hi; exact hown x i hx hi
    · intro e
      have t4 := hth q
      have : q = p := by omega
      subst this
      omega
  · unfold wpX_version
    refine dk_xop_n hth _ (br_t rfl ?_) (fun p v h => absurd ⟨p, v, h⟩ z)
    unfold wpY_version
    exact dk_yop_n hya _ (br_t rfl ⟨rfl, E⟩) (fun p v h => absurd ⟨p, v, (dk_OPt f1).mpr h⟩ z)
end
section
theorem dk_2I : (2 : Int32).toInt = 2 := by decide
def dk_NA (kn : Nat → Nat) (p v : Nat) (x3 x4 x5 : Int32) (q l g : Nat) : Prop := kn (3 * p + v) = 1 ∧ q < 5 ∧ x3 = nI q ∧ q ≠ p ∧ l ≤ g ∧ g ≤ 2 ∧ x4 = nI l ∧ x5 = nI g
theorem dk_lg {x4 x5 : Int32} (h1 : ¬ x4 < 0) (h2 : ¬ x5 < x4) (h3 : x5 ≤ 2) : ∃ l g, l ≤ g ∧ g ≤ 2 ∧ x4 = nI l ∧ x5 = nI g := by
  have a : x4 ≤ x5 := Int32.not_lt.mp h2
  have h0 : ¬ x5 < 0 := fun y => h1 (Int32.lt_of_le_of_lt a y)
  obtain ⟨g, hg, rfl⟩ := nI_of2 (n := 2) dk_2I h0 h3
  obtain ⟨l, hl, rfl⟩ := nI_of2 (n := 2) dk_2I h1 (Int32.le_trans a h3)
  exact ⟨l, g, (nI_leI (by omega) (by omega)).mp a, hg, rfl, rfl⟩
section
variable {pr bl na sc fa st no : Int32} {kn nd ot le gr op it nm sh ex wl wg th : Nat → Nat} {re rd od on : Nat → Int32} {wh : Nat → Int64} {ss rf wi lv dm ch cg my sp fA fS nt : Nat → Int32}
theorem dk_xnd_n {x1 x2 x3 x4 x5 x6 : Int32} (hth : ∀ i, th i < 4) (hkn : ∀ x, kn x ≤ 1) (post : Int32 → SX → Prop) (h : post (-1) (pr, bl, na, sc, fa, st, no, (dk_N kn), (dk_N nd), (dk_N (dk_E ot le gr op)), (dk_N it), (dk_N nm), (dk_N sh), (dk_N ex), (dk_W wl), (dk_N wg), (dk_T th), re, rd, od, on, wh, ss, rf, wi, lv, dm, ch, cg, my, sp, fA, fS, nt)) (hn : ∀ p v q l g, dk_OP th x1 x2 p v → dk_NA kn p v x3 x4 x5 q l g → False) : wpX_need post (pr, bl, na, sc, fa, st, no, (dk_N kn), (dk_N nd), (dk_N (dk_E ot le gr op)), (dk_N it), (dk_N nm), (dk_N sh), (dk_N ex), (dk_W wl), (dk_N wg), (dk_T th), re, rd, od, on, wh, ss, rf, wi, lv, dm, ch, cg, my, sp, fA, fS, nt) x1 x2 x3 x4 x5 x6 := by
  unfold wpX_need
  refine dk_xop_n hth _ (br_t rfl h) (fun p v hO => br_f (by decide) ?_)
  obtain ⟨p5, v3, e1, e2, _⟩ := id hO
  have hk := hkn (3 * p + v)
  rw [e1, e2, dk_m3, nI_add, nI_clamp (by omega), dk_Na, dk_eq0 (by omega)]
  refine ⟨vp_in_nI (by omega) (by omega), br_c (fun _ => h) (fun zk => dk_xout (n := 5) (by omega) _ (fun _ => br_f (by decide) h) (fun q hq e => br_t rfl (br_c (fun _ => h) (fun zq => br_c (fun _ => h) (fun z3 => br_c (fun _ => h) (fun z4 => br_c (fun z5 => ?_) (fun _ => h)))))))⟩
  obtain ⟨l, g, a, b, c, d⟩ := dk_lg z3 z4 z5
  exact (hn p v q l g hO ⟨by omega, hq, e, fun y => zq (by rw [e, y]), a, b, c, d⟩).elim
theorem dk_xnd_f {x1 x2 x3 x4 x5 x6 : Int32} {p v q l g : Nat} (hth : ∀ i, th i < 4) (hO : dk_OP th x1 x2 p v) (hA : dk_NA kn p v x3 x4 x5 q l g) (hf : nd (3 * p + v) = 4) (post : Int32 → SX → Prop) (h : post (-2) (pr, bl, na, sc, fa, st, no, (dk_N kn), (dk_N nd), (dk_N (dk_E ot le gr op)), (dk_N it), (dk_N nm), (dk_N sh), (dk_N ex), (dk_W wl), (dk_N wg), (dk_T th), re, rd, od, on, wh, ss, rf, wi, lv, dm, ch, cg, my, sp, fA, fS, nt)) : wpX_need post (pr, bl, na, sc, fa, st, no, (dk_N kn), (dk_N nd), (dk_N (dk_E ot le gr op)), (dk_N it), (dk_N nm), (dk_N sh), (dk_N ex), (dk_W wl), (dk_N wg), (dk_T th), re, rd, od, on, wh, ss, rf, wi, lv, dm, ch, cg, my, sp, fA, fS, nt) x1 x2 x3 x4 x5 x6 := by
  obtain ⟨p5, v3, e1, e2, _⟩ := id hO
  obtain ⟨k1, q5, e3, qp, lg, g2, e4, e5⟩ := hA
  unfold wpX_need
  refine dk_xop_y hth hO _ (br_f (by decide) ?_)
  subst e1; subst e2; subst e3; subst e4; subst e5
  rw [dk_m3, nI_add, nI_clamp (by omega), dk_Na, k1]
  refine ⟨vp_in_nI (by omega) (by omega), br_f (by decide) (dk_xout (n := 5) (by omega) _ (fun y => absurd ⟨q, q5, rfl⟩ y) (fun _ _ _ => br_t rfl (br_f (by rw [nI_eq (by omega) (by omega)]; exact qp) (br_f (nI_pos (by omega)) (br_f (nI_nlt lg (by omega)) (br_t (nI_le (b := 2) g2 (by omega)) (nm_e ?_)))))))⟩
  rw [nI_clamp (by omega), dk_Na, hf]
  exact ⟨vp_in_nI (by omega) (by omega), br_t rfl h⟩
theorem dk_xnd_y {x1 x2 x3 x4 x5 x6 : Int32} {p v q l g o : Nat} (hth : ∀ i, th i < 4) (hO : dk_OP th x1 x2 p v) (hA : dk_NA kn p v x3 x4 x5 q l g) (hf : nd (3 * p + v) < 4) (ho : o < 2) (e6 : x6 = nI o) (post : Int32 → SX → Prop)
    (h : post (nI (nd (3 * p + v) + 1)) (0, bl, 0, sc, fa, st, no, (dk_N kn), (dk_N (dk_u nd (3 * p + v) (nd (3 * p + v) + 1))), (dk_N (dk_E (dk_u ot (4 * (3 * p + v) + nd (3 * p + v)) q) (dk_u le (4 * (3 * p + v) + nd (3 * p + v)) l) (dk_u gr (4 * (3 * p + v) + nd (3 * p + v)) g) (dk_u op (4 * (3 * p + v) + nd (3 * p + v)) o))), (dk_N it), (dk_N nm), (dk_N sh), (dk_N ex), (dk_W wl), (dk_N wg), (dk_T th), re, rd, od, on, wh, ss, rf, wi, lv, dm, ch, cg, my, sp, fA, fS, nt)) : wpX_need post (pr, bl, na, sc, fa, st, no, (dk_N kn), (dk_N nd), (dk_N (dk_E ot le gr op)), (dk_N it), (dk_N nm), (dk_N sh), (dk_N ex), (dk_W wl), (dk_N wg), (dk_T th), re, rd, od, on, wh, ss, rf, wi, lv, dm, ch, cg, my, sp, fA, fS, nt) x1 x2 x3 x4 x5 x6 := by
  obtain ⟨p5, v3, e1, e2, _⟩ := id hO
  obtain ⟨k1, q5, e3, qp, lg, g2, e4, e5⟩ := hA
  unfold wpX_need
  refine dk_xop_y hth hO _ (br_f (by decide) ?_)
  subst e1; subst e2; subst e3; subst e4; subst e5; subst e6
  rw [dk_m3, nI_add, nI_clamp (by omega), dk_Na, k1]
  refine ⟨vp_in_nI (by omega) (by omega), br_f (by decide) (dk_xout (n := 5) (by omega) _ (fun y => absurd ⟨q, q5, rfl⟩ y) (fun _ _ _ => br_t rfl (br_f (by rw [nI_eq (by omega) (by omega)]; exact qp) (br_f (nI_pos (by omega)) (br_f (nI_nlt lg (by omega)) (br_t (nI_le (b := 2) g2 (by omega)) (nm_e ?_)))))))⟩
  rw [nI_clamp (by omega), dk_Na, dk_eq4 (by omega), nI_1 (nd (3 * p + v)), dk_vbb (by omega), dk_uN, dk_m4, nI_add (4 * (3 * p + v))]
  refine ⟨vp_in_nI (by omega) (by omega), br_f (by omega) ⟨vp_in_nI (by omega) (by omega), vp_in_nI (by omega) (by omega), nm_e (nm_e ?_)⟩⟩
  have fin : ∀ z0 : Int32, z0 = nI (128 * o) → wX_need_125 post (nI (3 * p + v)) z0 ((nI q ||| (nI l <<< ((3 : Int32) &&& 31))) ||| (nI g <<< ((5 : Int32) &&& 31))) (nI (4 * (3 * p + v) + nd (3 * p + v))) pr bl na sc fa st no (dk_N kn) (dk_N (dk_u nd (3 * p + v) (nd (3 * p + v) + 1))) (dk_N (dk_E ot le gr op)) (dk_N it) (dk_N nm) (dk_N sh) (dk_N ex) (dk_W wl) (dk_N wg) (dk_T th) re rd od on wh ss rf wi lv dm ch cg my sp fA fS nt := by
    intro z0 e0
    subst e0
    unfold wX_need_125
    rw [dk_enc q q5 l (by omega) g (by omega) o ho, nI_clamp (by omega), dk_uE]
    refine ⟨vp_in_nI (by omega) (by omega), nm_e ?_⟩
    unfold wpX_touched
    dsimp only
    rw [nI_clamp (by omega), dk_Na, dk_us]
    exact ⟨vp_in_nI (by omega) (by omega), h⟩
  rw [dk_eq0 (by omega)]
  refine br_c (fun y => fin 0 (by rw [y]; rfl)) (fun y => fin 128 (by rw [show o = 1 by omega]; rfl))
end
section
variable {yp yb ys yn : Int32} {kn nd ot le gr op it nm sh ex wl ya : Nat → Nat} {yg yr yl yq yo yt : Nat → Int32}
theorem dk_ynd_n {x1 x2 x3 x4 x5 x6 : Int32} (hya : ∀ i, ya i < 4) (hkn : ∀ x, kn x ≤ 1) (post : Int32 → SY → Prop) (h : post (-1) (yp, yb, ys, yn, (dk_N kn), (dk_N nd), (dk_N ot), (dk_N le), (dk_N gr), (dk_N op), (dk_N ex), (dk_N it), (dk_N nm), (dk_N sh), (dk_W wl), yg, (dk_T ya), yr, yl, yq, yo, yt)) (hn : ∀ p v q l g, dk_OP ya x1 x2 p v → dk_NA kn p v x3 x4 x5 q l g → False) : wpY_need post (yp, yb, ys, yn, (dk_N kn), (dk_N nd), (dk_N ot), (dk_N le), (dk_N gr), (dk_N op), (dk_N ex), (dk_N it), (dk_N nm), (dk_N sh), (dk_W wl), yg, (dk_T ya), yr, yl, yq, yo, yt) x1 x2 x3 x4 x5 x6 := by
  unfold wpY_need
  refine dk_yop_n hya _ (br_t rfl h) (fun p v hO => br_f (by decide) ?_)
  obtain ⟨p5, v3, e1, e2, _⟩ := id hO
  have hk := hkn (3 * p + v)
  rw [e1, e2, dk_m3, nI_add, nI_clamp (by omega), dk_Na, dk_eq0 (by omega)]
  refine ⟨vp_in_nI (by omega) (by omega), br_c (fun _ => h) (fun zk => dk_yin (n := 5) (by omega) _ (fun _ => br_t rfl h) (fun q hq e => br_f (by decide) (br_c (fun _ => h) (fun zq => br_c (fun _ => h) (fun z3 => br_c (fun _ => h) (fun z4 => br_c (fun z5 => ?_) (fun _ => h)))))))⟩
  obtain ⟨l, g, a, b, c, d⟩ := dk_lg z3 z4 z5
  exact (hn p v q l g hO ⟨by omega, hq, e, fun y => zq (by rw [e, y]), a, b, c, d⟩).elim
theorem dk_ynd_f {x1 x2 x3 x4 x5 x6 : Int32} {p v q l g : Nat} (hya : ∀ i, ya i < 4) (hO : dk_OP ya x1 x2 p v) (hA : dk_NA kn p v x3 x4 x5 q l g) (hf : nd (3 * p + v) = 4) (post : Int32 → SY → Prop) (h : post (-2) (yp, yb, ys, yn, (dk_N kn), (dk_N nd), (dk_N ot), (dk_N le), (dk_N gr), (dk_N op), (dk_N ex), (dk_N it), (dk_N nm), (dk_N sh), (dk_W wl), yg, (dk_T ya), yr, yl, yq, yo, yt)) : wpY_need post (yp, yb, ys, yn, (dk_N kn), (dk_N nd), (dk_N ot), (dk_N le), (dk_N gr), (dk_N op), (dk_N ex), (dk_N it), (dk_N nm), (dk_N sh), (dk_W wl), yg, (dk_T ya), yr, yl, yq, yo, yt) x1 x2 x3 x4 x5 x6 := by
  obtain ⟨p5, v3, e1, e2, _⟩ := id hO
  obtain ⟨k1, q5, e3, qp, lg, g2, e4, e5⟩ := hA
  unfold wpY_need
  refine dk_yop_y hya hO _ (br_f (by decide) ?_)
  subst e1; subst e2; subst e3; subst e4; subst e5
  rw [dk_m3, nI_add, nI_clamp (by omega), dk_Na, k1]
  refine ⟨vp_in_nI (by omega) (by omega), br_f (by decide) (dk_yin (n := 5) (by omega) _ (fun y => absurd ⟨q, q5, rfl⟩ y) (fun _ _ _ => br_f (by decide) (br_f (by rw [nI_eq (by omega) (by omega)]; exact qp) (br_f (nI_pos (by omega)) (br_f (nI_nlt lg (by omega)) (br_t (nI_le (b := 2) g2 (by omega)) (nm_e ?_)))))))⟩
  rw [nI_clamp (by omega), dk_Na, hf]
  exact ⟨vp_in_nI (by omega) (by omega), nm_e ⟨vp_in_nI (by omega) (by omega), br_t rfl h⟩⟩
theorem dk_ynd_y {x1 x2 x3 x4 x5 x6 : Int32} {p v q l g o : Nat} (hya : ∀ i, ya i < 4) (hO : dk_OP ya x1 x2 p v) (hA : dk_NA kn p v x3 x4 x5 q l g) (hf : nd (3 * p + v) < 4) (ho : o < 2) (e6 : x6 = nI o) (post : Int32 → SY → Prop)
    (h : post (nI (nd (3 * p + v) + 1)) (0, yb, ys, yn, (dk_N kn), (dk_N (dk_u nd (3 * p + v) (nd (3 * p + v) + 1))), (dk_N (dk_u ot (4 * (3 * p + v) + nd (3 * p + v)) q)), (dk_N (dk_u le (4 * (3 * p + v) + nd (3 * p + v)) l)), (dk_N (dk_u gr (4 * (3 * p + v) + nd (3 * p + v)) g)), (dk_N (dk_u op (4 * (3 * p + v) + nd (3 * p + v)) o)), (dk_N ex), (dk_N it), (dk_N nm), (dk_N sh), (dk_W wl), yg, (dk_T ya), yr, yl, yq, yo, yt)) : wpY_need post (yp, yb, ys, yn, (dk_N kn), (dk_N nd), (dk_N ot), (dk_N le), (dk_N gr), (dk_N op), (dk_N ex), (dk_N it), (dk_N nm), (dk_N sh), (dk_W wl), yg, (dk_T ya), yr, yl, yq, yo, yt) x1 x2 x3 x4 x5 x6 := by
  obtain ⟨p5, v3, e1, e2, _⟩ := id hO
  obtain ⟨k1, q5, e3, qp, lg, g2, e4, e5⟩ := hA
  unfold wpY_need
  refine dk_yop_y hya hO _ (br_f (by decide) ?_)
  subst e1; subst e2; subst e3; subst e4; subst e5; subst e6
  rw [dk_m3, nI_add, nI_clamp (by omega), dk_Na, k1]
  refine ⟨vp_in_nI (by omega) (by omega), br_f (by decide) (dk_yin (n := 5) (by omega) _ (fun y => absurd ⟨q, q5, rfl⟩ y) (fun _ _ _ => br_f (by decide) (br_f (by rw [nI_eq (by omega) (by omega)]; exact qp) (br_f (nI_pos (by omega)) (br_f (nI_nlt lg (by omega)) (br_t (nI_le (b := 2) g2 (by omega)) (nm_e ?_)))))))⟩
  rw [nI_clamp (by omega), dk_Na, dk_eq4 (by omega), nI_1 (nd (3 * p + v)), dk_uN, dk_m4, nI_add (4 * (3 * p + v)), dk_vz (by omega)]
  refine ⟨vp_in_nI (by omega) (by omega), nm_e ?_⟩
  rw [nI_clamp (by omega), dk_uN, dk_uN, dk_uN, dk_uN]
  refine ⟨vp_in_nI (by omega) (by omega), br_f (by omega) ⟨vp_in_nI (by omega) (by omega), nm_e ⟨vp_in_nI (by omega) (by omega), nm_e ⟨vp_in_nI (by omega) (by omega), nm_e ⟨vp_in_nI (by omega) (by omega), nm_e ⟨vp_in_nI (by omega) (by omega), vp_in_nI (by omega) (by omega), nm_e ⟨vp_in_nI (by omega) (by omega), ?_⟩⟩⟩⟩⟩⟩⟩
  rw [dk_Na, dk_us]
  exact h
end
theorem dk_u_le {f : Nat → Nat} {k x b : Nat} (hf : ∀ i, f i ≤ b) (hx : x ≤ b) : ∀ i, dk_u f k x i ≤ b := fun i => by
  by_cases e : i = k
  · subst e; rw [dk_us]; exact hx
  · rw [dk_un e]; exact hf i
theorem dk_u_lt {f : Nat → Nat} {k x b : Nat} (hf : ∀ i, f i < b) (hx : x < b) : ∀ i, dk_u f k x i < b := fun i => by
  by_cases e : i = k
  · subst e; rw [dk_us]; exact hx
  · rw [dk_un e]; exact hf i
theorem i_vc_need {k : Nat} {u : SX} {v : SY} (I : i_Rel k u v) (hk : k + 7 ≤ 3584) (v1 : Int32) (v2 : Int32) (v3 : Int32) (v4 : Int32) (v5 : Int32) (v6 : Int32) : wpX_need (fun r u' => wpY_need (fun r' v' => r' = r ∧ i_Rel (k + 7) u' v') v v1 v2 v3 v4 v5 (lw_bz v6)) u v1 v2 v3 v4 v5 (lw_bz v6) := by
  refine dk_rel (P := fun u v => wpX_need (fun r u' => wpY_need (fun r' v' => r' = r ∧ i_Rel (k + 7) u' v') v v1 v2 v3 v4 v5 (lw_bz v6)) u v1 v2 v3 v4 v5 (lw_bz v6)) ?_ I
  intro pr bl na sc fa st no kn nd ot le gr op it nm sh ex wl wg th re rd od on wh ss rf wi lv dm ch cg my sp fA fS nt yp yb ys yn ya yg yr yl yq yo yt R
  have E := dk_ir pr bl na sc fa st no kn nd ot le gr op it nm sh ex wl wg th re rd od on wh ss rf wi lv dm ch cg my sp fA fS nt yp yb ys yn ya yg yr yl yq yo yt (k := k + 7) R
  obtain ⟨hC, ⟨hkn, hwl, hwg, hww, hown, hya⟩, ⟨e1, e2, e3⟩, hS, hN, hna, hT, ⟨f1, f2⟩, g, hyg⟩ := R
  obtain ⟨hnd, hot, hlg, hgr, hop, hth, hit, hnm, hsh, hex, hun⟩ := id hC
  have ob : ∃ o, o < 2 ∧ lw_bz v6 = nI o := by
    rcases lw_bz_01 v6 with h | h
    · exact ⟨0, by omega, h⟩
    · exact ⟨1, by omega, h⟩
  obtain ⟨o, ho, eo⟩ := ob
  by_cases z : ∃ p v q l g, dk_OP th v1 v2 p v ∧ dk_NA kn p v v3 v4 v5 q l g
  · obtain ⟨p, v, q, l, g', hO, hA⟩ := z
    have hOY := (dk_OPt f1).mp hO
    by_cases zf : nd (3 * p + v) = 4
    · exact dk_xnd_f hth hO hA zf _ (dk_ynd_f hya hOY hA zf _ ⟨rfl, E⟩)
    · have n4 := hnd (3 * p + v)
      have nlt : nd (3 * p + v) < 4 := by omega
      refine dk_xnd_y hth hO hA nlt ho eo _ (dk_ynd_y hya hOY hA nlt ho eo _ ⟨rfl, ?_⟩)
      obtain ⟨p5, w3, _, _, ne⟩ := hO
      obtain ⟨k1, q5, _, qp, lg, g2, _, _⟩ := hA
      refine dk_ir _ _ _ _ _ _ _ _ _ _ _ _ _ _ _ _ _ _ _ _ _ _ _ _ _ _ _ _ _ _ _ _ _ _ _ _ _ _ _ _ _ _ _ _ _ _ _ _ ⟨⟨dk_u_le hnd (by omega), dk_u_lt hot q5, fun i => ?_, dk_u_le hgr g2, dk_u_le hop (by omega), hth, hit, hnm, hsh, hex, hun⟩, ⟨hkn, hwl, hwg, hww, fun x i hx hi => ?_, hya⟩, ⟨rfl, Or.inl rfl, e3⟩, hS, hN, fun y => absurd rfl y, dk_TI_x (x := 3 * p + v) hot (fun a ha ha0 => ?_) (fun y hy => ⟨(dk_un hy).symm, fun i hi => ?_, rfl, fun _ _ => ⟨rfl, rfl, rfl⟩⟩) hT, ⟨f1, fun y => absurd rfl y⟩, fun y => absurd rfl y, hyg⟩
      · by_cases e : i = 4 * (3 * p + v) + nd (3 * p + v)
        · subst e; rw [dk_us, dk_us]; exact lg
        · rw [dk_un e, dk_un e]; exact hlg i
      · by_cases e : x = 3 * p + v
        · subst e
          rw [dk_us] at hi
          by_cases e' : i = nd (3 * p + v)
          · subst e'; rw [dk_us]; omega
          · rw [dk_un (by omega)]; exact hown _ i hx (by omega)
        · rw [dk_un e] at hi
          have := hnd x
          rw [dk_un (by omega)]; exact hown x i hx hi
      · intro e
        have t4 := hth a
        have : a = p := by omega
        subst this
        omega
      · have := hnd y
        exact (dk_un (by omega)).symm
  · refine dk_xnd_n hth hkn _ (dk_ynd_n hya hkn _ ⟨rfl, E⟩ (fun p v q l g h1 h2 => z ⟨p, v, q, l, g, (dk_OPt f1).mpr h1, h2⟩)) (fun p v q l g h1 h2 => z ⟨p, v, q, l, g, h1, h2⟩)
end
section
def dk_IA (kn : Nat → Nat) (p v : Nat) (x3 x4 : Int32) (c s : Nat) : Prop := kn (3 * p + v) = 1 ∧ c < 12 ∧ x3 = nI c ∧ s < 4 ∧ x4 = nI s
def dk_Du (it nm ex : Nat → Nat) (x c o : Nat) : Prop := o = 1 ∧ ∃ i, i < it x ∧ ex (6 * x + i) = 1 ∧ nm (6 * x + i) = c
section
variable {pr bl na sc fa st no : Int32} {kn nd ot le gr op it nm sh ex wl wg th : Nat → Nat} {re rd od on : Nat → Int32} {wh : Nat → Int64} {ss rf wi lv dm ch cg my sp fA fS nt : Nat → Int32}
theorem dk_xit_n {x1 x2 x3 x4 x5 : Int32} (hth : ∀ i, th i < 4) (hkn : ∀ x, kn x ≤ 1) (post : Int32 → SX → Prop) (h : post (-1) (pr, bl, na, sc, fa, st, no, (dk_N kn), (dk_N nd), (dk_N (dk_E ot le gr op)), (dk_N it), (dk_N nm), (dk_N sh), (dk_N ex), (dk_W wl), (dk_N wg), (dk_T th), re, rd, od, on, wh, ss, rf, wi, lv, dm, ch, cg, my, sp, fA, fS, nt)) (hn : ∀ p v c s, dk_OP th x1 x2 p v → dk_IA kn p v x3 x4 c s → False) : wpX_item post (pr, bl, na, sc, fa, st, no, (dk_N kn), (dk_N nd), (dk_N (dk_E ot le gr op)), (dk_N it), (dk_N nm), (dk_N sh), (dk_N ex), (dk_W wl), (dk_N wg), (dk_T th), re, rd, od, on, wh, ss, rf, wi, lv, dm, ch, cg, my, sp, fA, fS, nt) x1 x2 x3 x4 x5 := by
  unfold wpX_item
  refine dk_xop_n hth _ (br_t rfl h) (fun p v hO => br_f (by decide) ?_)
  obtain ⟨p5, v3, e1, e2, _⟩ := id hO
  have hk := hkn (3 * p + v)
  rw [e1, e2, dk_m3, nI_add, nI_clamp (by omega), dk_Na, dk_eq0 (by omega)]
  exact ⟨vp_in_nI (by omega) (by omega), br_c (fun _ => h) (fun zk => dk_xout (n := 12) (by omega) _ (fun _ => br_f (by decide) h) (fun c hc e => br_t rfl (dk_xout (n := 4) (by omega) _ (fun _ => br_f (by decide) h) (fun s hs e' => (hn p v c s hO ⟨by omega, hc, e, hs, e'⟩).elim))))⟩
theorem dk_xit56 {x c s o : Nat} (hx : x < 15) (hc : c < 12) (ho : o < 2) (hit : ∀ x, it x ≤ 6) (hnm : ∀ k, nm k < 12) (hex : ∀ k, ex k ≤ 1) (post : Int32 → SX → Prop) (h1 : (o = 1 ∧ ∃ i, i < it x ∧ ex (6 * x + i) = 1 ∧ nm (6 * x + i) = c) → post (-1) (pr, bl, na, sc, fa, st, no, (dk_N kn), (dk_N nd), (dk_N (dk_E ot le gr op)), (dk_N it), (dk_N nm), (dk_N sh), (dk_N ex), (dk_W wl), (dk_N wg), (dk_T th), re, rd, od, on, wh, ss, rf, wi, lv, dm, ch, cg, my, sp, fA, fS, nt)) (h0 : ¬ (o = 1 ∧ ∃ i, i < it x ∧ ex (6 * x + i) = 1 ∧ nm (6 * x + i) = c) → wX_item_108 post (nI c) (nI s) (nI o) (nI x) pr bl na sc fa st no (dk_N kn) (dk_N nd) (dk_N (dk_E ot le gr op)) (dk_N it) (dk_N nm) (dk_N sh) (dk_N ex) (dk_W wl) (dk_N wg) (dk_T th) re rd od on wh ss rf wi lv dm ch cg my sp fA fS nt) : ∀ d j, j + d = it x → (∀ i, i < j → ¬ (o = 1 ∧ ex (6 * x + i) = 1 ∧ nm (6 * x + i) = c)) →
    ∃ n, wX_item_56 post (nI c) (nI s) (nI o) (nI x) pr bl na sc fa st no (dk_N kn) (dk_N nd) (dk_N (dk_E ot le gr op)) (dk_N it) (dk_N nm) (dk_N sh) (dk_N ex) (dk_W wl) (dk_N wg) (dk_T th) re rd od on wh ss rf wi lv dm ch cg my sp fA fS nt n (nI (6 * x + j))
  | 0, j, hj, hi => by
    have h6 := hit x
    refine ⟨1, ?_⟩
    simp (disch := omega) only [wX_item_56, nI_clamp, dk_Na, dk_Ta, dk_Wa, dk_m2, dk_m3, dk_m4, dk_m5, dk_m6, dk_a5, dk_a10, nI_add, nI_1, nI_leI, nI_ltI, nI_eq, dk_le3, dk_le5, dk_le6, dk_le16, dk_le20, dk_le25, dk_le32, dk_le36, dk_le1024, dk_lt0, dk_ge0, dk_lez, dk_eq0, dk_eq1, dk_eq4, dk_eq6, dk_tneg, dk_tpos, dk_teq, dk_tle]
    exact ⟨vp_in_nI hx (by omega), br_t (by omega) (h0 fun ⟨a, i, b, c⟩ => hi i (by omega) ⟨a, c⟩)⟩
  | d + 1, j, hj, hi => by
    have h6 := hit x
    have he := hex (6 * x + j)
    have hn := hnm (6 * x + j)
    by_cases zo : o = 0
    · refine ⟨1, ?_⟩
      simp (disch := omega) only [wX_item_56, nI_clamp, dk_Na, dk_Ta, dk_Wa, dk_m2, dk_m3, dk_m4, dk_m5, dk_m6, dk_a5, dk_a10, nI_add, nI_1, nI_leI, nI_ltI, nI_eq, dk_le3, dk_le5, dk_le6, dk_le16, dk_le20, dk_le25, dk_le32, dk_le36, dk_le1024, dk_lt0, dk_ge0, dk_lez, dk_eq0, dk_eq1, dk_eq4, dk_eq6, dk_tneg, dk_tpos, dk_teq, dk_tle]
      exact ⟨vp_in_nI hx (by omega), br_f (by omega) (br_t zo (h0 fun y => by omega))⟩
    · by_cases z : ex (6 * x + j) = 1 ∧ nm (6 * x + j) = c
      · refine ⟨1, ?_⟩
        simp (disch := omega) only [wX_item_56, nI_clamp, dk_Na, dk_Ta, dk_Wa, dk_m2, dk_m3, dk_m4, dk_m5, dk_m6, dk_a5, dk_a10, nI_add, nI_1, nI_leI, nI_ltI, nI_eq, dk_le3, dk_le5, dk_le6, dk_le16, dk_le20, dk_le25, dk_le32, dk_le36, dk_le1024, dk_lt0, dk_ge0, dk_lez, dk_eq0, dk_eq1, dk_eq4, dk_eq6, dk_tneg, dk_tpos, dk_teq, dk_tle]
        exact ⟨vp_in_nI hx (by omega), br_f (by omega) (br_f zo ⟨vp_in_nI (by omega) (by omega), br_f (by omega) ⟨vp_in_nI (by omega) (by omega), br_t z.2 (h1 ⟨by omega, j, by omega, z⟩)⟩⟩)⟩
      · obtain ⟨n, hn'⟩ := dk_xit56 hx hc ho hit hnm hex post h1 h0 d (j + 1) (by omega) (fun i hi' => by
          by_cases e : i = j
          · subst e; exact fun y => z y.2
          · exact hi i (by omega))
        refine ⟨n + 1, ?_⟩
        simp (disch := omega) only [wX_item_56, nI_clamp, dk_Na, dk_Ta, dk_Wa, dk_m2, dk_m3, dk_m4, dk_m5, dk_m6, dk_a5, dk_a10, nI_add, nI_1, nI_leI, nI_ltI, nI_eq, dk_le3, dk_le5, dk_le6, dk_le16, dk_le20, dk_le25, dk_le32, dk_le36, dk_le1024, dk_lt0, dk_ge0, dk_lez, dk_eq0, dk_eq1, dk_eq4, dk_eq6, dk_tneg, dk_tpos, dk_teq, dk_tle]
        exact ⟨vp_in_nI hx (by omega), br_f (by omega) (br_f zo ⟨vp_in_nI (by omega) (by omega), br_c (fun _ => nm_e hn') (fun y => ⟨vp_in_nI (by omega) (by omega), br_f (by omega) (nm_e hn')⟩)⟩)⟩
theorem dk_xit_y {x1 x2 x3 x4 x5 : Int32} {p v c s o : Nat} (hth : ∀ i, th i < 4) (hit : ∀ x, it x ≤ 6) (hnm : ∀ k, nm k < 12) (hex : ∀ k, ex k ≤ 1) (hO : dk_OP th x1 x2 p v) (hA : dk_IA kn p v x3 x4 c s) (ho : o < 2) (e5 : x5 = nI o) (post : Int32 → SX → Prop)
    (h1 : dk_Du it nm ex (3 * p + v) c o → post (-1) (pr, bl, na, sc, fa, st, no, (dk_N kn), (dk_N nd), (dk_N (dk_E ot le gr op)), (dk_N it), (dk_N nm), (dk_N sh), (dk_N ex), (dk_W wl), (dk_N wg), (dk_T th), re, rd, od, on, wh, ss, rf, wi, lv, dm, ch, cg, my, sp, fA, fS, nt)) (h2 : ¬ dk_Du it nm ex (3 * p + v) c o → it (3 * p + v) = 6 → post (-2) (pr, bl, na, sc, fa, st, no, (dk_N kn), (dk_N nd), (dk_N (dk_E ot le gr op)), (dk_N it), (dk_N nm), (dk_N sh), (dk_N ex), (dk_W wl), (dk_N wg), (dk_T th), re, rd, od, on, wh, ss, rf, wi, lv, dm, ch, cg, my, sp, fA, fS, nt))
    (h3 : ¬ dk_Du it nm ex (3 * p + v) c o → it (3 * p + v) < 6 → post (nI (it (3 * p + v) + 1)) (0, bl, 0, sc, fa, st, no, (dk_N kn), (dk_N nd), (dk_N (dk_E ot le gr op)), (dk_N (dk_u it (3 * p + v) (it (3 * p + v) + 1))), (dk_N (dk_u nm (6 * (3 * p + v) + it (3 * p + v)) c)), (dk_N (dk_u sh (6 * (3 * p + v) + it (3 * p + v)) s)), (dk_N (dk_u ex (6 * (3 * p + v) + it (3 * p + v)) o)), (dk_W wl), (dk_N wg), (dk_T th), re, rd, od, on, wh, ss, rf, wi, lv, dm, ch, cg, my, sp, fA, fS, nt)) : wpX_item post (pr, bl, na, sc, fa, st, no, (dk_N kn), (dk_N nd), (dk_N (dk_E ot le gr op)), (dk_N it), (dk_N nm), (dk_N sh), (dk_N ex), (dk_W wl), (dk_N wg), (dk_T th), re, rd, od, on, wh, ss, rf, wi, lv, dm, ch, cg, my, sp, fA, fS, nt) x1 x2 x3 x4 x5 := by
  obtain ⟨p5, v3, e1, e2, _⟩ := id hO
  obtain ⟨k1, c12, e3, s4, e4⟩ := hA
  have h6 := hit (3 * p + v)
  unfold wpX_item
  refine dk_xop_y hth hO _ (br_f (by decide) ?_)
  subst e1; subst e2; subst e3; subst e4; subst e5
  rw [dk_m3, nI_add, nI_clamp (by omega), dk_Na, k1]
  refine ⟨vp_in_nI (by omega) (by omega), br_f (by decide) (dk_xout (n := 12) (by omega) _ (fun y => absurd ⟨c, c12, rfl⟩ y) (fun _ _ _ => br_t rfl (dk_xout (n := 4) (by omega) _ (fun y => absurd ⟨s, s4, rfl⟩ y) (fun _ _ _ => br_t rfl (nm_e (nm_r (dk_m6 _) ?_))))))⟩
  refine dk_xit56 (by omega) c12 ho hit hnm hex post h1 (fun nd => ?_) (it (3 * p + v)) 0 (by omega) (fun i hi => absurd hi (Nat.not_lt_zero _))
  unfold wX_item_108
  rw [nI_clamp (by omega), dk_Na, dk_eq6 (by omega), nI_1 (it (3 * p + v)), dk_vbb (by omega), dk_uN, dk_m6, nI_add (6 * (3 * p + v))]
  refine ⟨vp_in_nI (by omega) (by omega), br_c (fun y => h2 nd y) (fun y => ⟨vp_in_nI (by omega) (by omega), vp_in_nI (by omega) (by omega), nm_e (nm_e ?_)⟩)⟩
  rw [nI_clamp (by omega), dk_vbb (by omega), dk_vbb (by omega), dk_vz (by omega), dk_uN, dk_uN, dk_uN]
  refine ⟨vp_in_nI (by omega) (by omega), nm_e ⟨vp_in_nI (by omega) (by omega), nm_e ⟨vp_in_nI (by omega) (by omega), nm_e ?_⟩⟩⟩
  unfold wpX_touched
  dsimp only
  rw [dk_Na, dk_us]
  exact ⟨vp_in_nI (by omega) (by omega), h3 nd (by omega)⟩
end
section
variable {yp yb ys yn : Int32} {kn nd ot le gr op it nm sh ex wl ya : Nat → Nat} {yg yr yl yq yo yt : Nat → Int32}
theorem dk_yit_n {x1 x2 x3 x4 x5 : Int32} (hya : ∀ i, ya i < 4) (hkn : ∀ x, kn x ≤ 1) (post : Int32 → SY → Prop) (h : post (-1) (yp, yb, ys, yn, (dk_N kn), (dk_N nd), (dk_N ot), (dk_N le), (dk_N gr), (dk_N op), (dk_N ex), (dk_N it), (dk_N nm), (dk_N sh), (dk_W wl), yg, (dk_T ya), yr, yl, yq, yo, yt)) (hn : ∀ p v c s, dk_OP ya x1 x2 p v → dk_IA kn p v x3 x4 c s → False) : wpY_item post (yp, yb, ys, yn, (dk_N kn), (dk_N nd), (dk_N ot), (dk_N le), (dk_N gr), (dk_N op), (dk_N ex), (dk_N it), (dk_N nm), (dk_N sh), (dk_W wl), yg, (dk_T ya), yr, yl, yq, yo, yt) x1 x2 x3 x4 x5 := by
  unfold wpY_item
  refine dk_yop_n hya _ (br_t rfl h) (fun p v hO => br_f (by decide) ?_)
  obtain ⟨p5, v3, e1, e2, _⟩ := id hO
  have hk := hkn (3 * p + v)
  rw [e1, e2, dk_m3, nI_add, nI_clamp (by omega), dk_Na, dk_eq0 (by omega)]
  exact ⟨vp_in_nI (by omega) (by omega), br_c (fun _ => h) (fun zk => dk_yin (n := 12) (by omega) _ (fun _ => br_t rfl h) (fun c hc e => br_f (by decide) (dk_yin (n := 4) (by omega) _ (fun _ => br_t rfl h) (fun s hs e' => (hn p v c s hO ⟨by omega, hc, e, hs, e'⟩).elim))))⟩
theorem dk_yit_y {x1 x2 x3 x4 x5 : Int32} {p v c s o : Nat} (hya : ∀ i, ya i < 4) (hit : ∀ x, it x ≤ 6) (hnm : ∀ k, nm k < 12) (hex : ∀ k, ex k ≤ 1) (hO : dk_OP ya x1 x2 p v) (hA : dk_IA kn p v x3 x4 c s) (ho : o < 2) (e5 : x5 = nI o) (post : Int32 → SY → Prop)
    (h1 : dk_Du it nm ex (3 * p + v) c o → post (-1) (yp, yb, ys, yn, (dk_N kn), (dk_N nd), (dk_N ot), (dk_N le), (dk_N gr), (dk_N op), (dk_N ex), (dk_N it), (dk_N nm), (dk_N sh), (dk_W wl), yg, (dk_T ya), yr, yl, yq, yo, yt)) (h2 : ¬ dk_Du it nm ex (3 * p + v) c o → it (3 * p + v) = 6 → post (-2) (yp, yb, ys, yn, (dk_N kn), (dk_N nd), (dk_N ot), (dk_N le), (dk_N gr), (dk_N op), (dk_N ex), (dk_N it), (dk_N nm), (dk_N sh), (dk_W wl), yg, (dk_T ya), yr, yl, yq, yo, yt))
    (h3 : ¬ dk_Du it nm ex (3 * p + v) c o → it (3 * p + v) < 6 → post (nI (it (3 * p + v) + 1)) (0, yb, ys, yn, (dk_N kn), (dk_N nd), (dk_N ot), (dk_N le), (dk_N gr), (dk_N op), (dk_N (dk_u ex (6 * (3 * p + v) + it (3 * p + v)) o)), (dk_N (dk_u it (3 * p + v) (it (3 * p + v) + 1))), (dk_N (dk_u nm (6 * (3 * p + v) + it (3 * p + v)) c)), (dk_N (dk_u sh (6 * (3 * p + v) + it (3 * p + v)) s)), (dk_W wl), yg, (dk_T ya), yr, yl, yq, yo, yt)) : wpY_item post (yp, yb, ys, yn, (dk_N kn), (dk_N nd), (dk_N ot), (dk_N le), (dk_N gr), (dk_N op), (dk_N ex), (dk_N it), (dk_N nm), (dk_N sh), (dk_W wl), yg, (dk_T ya), yr, yl, yq, yo, yt) x1 x2 x3 x4 x5 := by
  obtain ⟨p5, v3, e1, e2, _⟩ := id hO
  obtain ⟨k1, c12, e3, s4, e4⟩ := hA
  have h6 := hit (3 * p + v)
  have k81 : ¬ dk_Du it nm ex (3 * p + v) c o → wY_item_81 post (nI c) (nI s) (nI o) (nI (3 * p + v)) (nI (6 * (3 * p + v) + it (3 * p + v))) yp yb ys yn (dk_N kn) (dk_N nd) (dk_N ot) (dk_N le) (dk_N gr) (dk_N op) (dk_N ex) (dk_N it) (dk_N nm) (dk_N sh) (dk_W wl) yg (dk_T ya) yr yl yq yo yt := by
    intro nd
    unfold wY_item_81
    rw [nI_clamp (by omega), dk_Na, dk_eq6 (by omega), nI_clamp (by omega), dk_uN, dk_uN, dk_vz (by omega), dk_uN, nI_1 (it (3 * p + v)), dk_uN]
    refine ⟨vp_in_nI (by omega) (by omega), br_c (fun y => h2 nd y) (fun y => ⟨?_, nm_e ⟨?_, nm_e ⟨?_, nm_e ⟨vp_in_nI (by omega) (by omega), vp_in_nI (by omega) (by omega), nm_e ⟨vp_in_nI (by omega) (by omega), ?_⟩⟩⟩⟩⟩)⟩
    · exact vp_in_nI (by omega) (by omega)
    · exact vp_in_nI (by omega) (by omega)
    · exact vp_in_nI (by omega) (by omega)
    · rw [dk_Na, dk_us]; exact h3 nd (by omega)
  unfold wpY_item
  refine dk_yop_y hya hO _ (br_f (by decide) ?_)
  subst e1; subst e2; subst e3; subst e4; subst e5
  rw [dk_m3, nI_add, nI_clamp (by omega), dk_Na, k1]
  refine ⟨vp_in_nI (by omega) (by omega), br_f (by decide) (dk_yin (n := 12) (by omega) _ (fun y => absurd ⟨c, c12, rfl⟩ y) (fun _ _ _ => br_f (by decide) (dk_yin (n := 4) (by omega) _ (fun y => absurd ⟨s, s4, rfl⟩ y) (fun _ _ _ => br_f (by decide) (nm_e ?_)))))⟩
  rw [nI_clamp (by omega), dk_Na, dk_m6, nI_add (6 * (3 * p + v)), dk_eq0 (by omega)]
  refine ⟨vp_in_nI (by omega) (by omega), nm_e (br_c (fun y => k81 (fun w => by have := w.1; omega)) (fun y => dk_ye (by omega) c12 hit hnm hex _ (fun i a b d => ?_) (fun w => ?_)))⟩
  · rw [dk_lt0 (by omega)]
    exact br_f (fun y => y) (h1 ⟨by omega, i, a, b, d⟩)
  · exact br_t (by decide) (k81 (fun y => w y.2))
end
theorem i_vc_item {k : Nat} {u : SX} {v : SY} (I : i_Rel k u v) (hk : k + 7 ≤ 3584) (v1 : Int32) (v2 : Int32) (v3 : Int32) (v4 : Int32) (v5 : Int32) : wpX_item (fun r u' => wpY_item (fun r' v' => r' = r ∧ i_Rel (k + 7) u' v') v v1 v2 v3 v4 (lw_bz v5)) u v1 v2 v3 v4 (lw_bz v5) := by
  refine dk_rel (P := fun u v => wpX_item (fun r u' => wpY_item (fun r' v' => r' = r ∧ i_Rel (k + 7) u' v') v v1 v2 v3 v4 (lw_bz v5)) u v1 v2 v3 v4 (lw_bz v5)) ?_ I
  intro pr bl na sc fa st no kn nd ot le gr op it nm sh ex wl wg th re rd od on wh ss rf wi lv dm ch cg my sp fA fS nt yp yb ys yn ya yg yr yl yq yo yt R
  have E := dk_ir pr bl na sc fa st no kn nd ot le gr op it nm sh ex wl wg th re rd od on wh ss rf wi lv dm ch cg my sp fA fS nt yp yb ys yn ya yg yr yl yq yo yt (k := k + 7) R
  obtain ⟨hC, ⟨hkn, hwl, hwg, hww, hown, hya⟩, ⟨e1, e2, e3⟩, hS, hN, hna, hT, ⟨f1, f2⟩, g, hyg⟩ := R
  obtain ⟨hnd, hot, hlg, hgr, hop, hth, hit, hnm, hsh, hex, hun⟩ := id hC
  have ob : ∃ o, o < 2 ∧ lw_bz v5 = nI o := by
    rcases lw_bz_01 v5 with h | h
    · exact ⟨0, by omega, h⟩
    · exact ⟨1, by omega, h⟩
  obtain ⟨o, ho, eo⟩ := ob
  by_cases z : ∃ p v c s, dk_OP th v1 v2 p v ∧ dk_IA kn p v v3 v4 c s
  · obtain ⟨p, v, c, s, hO, hA⟩ := z
    have hOY := (dk_OPt f1).mp hO
    have i6 := hit (3 * p + v)
    refine dk_xit_y hth hit hnm hex hO hA ho eo _ (fun d => dk_yit_y hya hit hnm hex hOY hA ho eo _ (fun _ => ⟨rfl, E⟩) (fun y => absurd d y) (fun y => absurd d y)) (fun d f => dk_yit_y hya hit hnm hex hOY hA ho eo _ (fun y => absurd y d) (fun _ _ => ⟨rfl, E⟩) (fun _ y => by omega)) (fun d f => dk_yit_y hya hit hnm hex hOY hA ho eo _ (fun y => absurd y d) (fun _ y => by omega) (fun _ _ => ⟨rfl, ?_⟩))
    obtain ⟨p5, w3, _, _, ne⟩ := hO
    obtain ⟨k1, c12, _, s4, _⟩ := hA
    refine dk_ir _ _ _ _ _ _ _ _ _ _ _ _ _ _ _ _ _ _ _ _ _ _ _ _ _ _ _ _ _ _ _ _ _ _ _ _ _ _ _ _ _ _ _ _ _ _ _ _ ⟨⟨hnd, hot, hlg, hgr, hop, hth, dk_u_le hit (by omega), dk_u_lt hnm c12, dk_u_lt hsh s4, dk_u_le hex (by omega), fun x i j hx hij hj => ?_⟩, ⟨hkn, hwl, hwg, hww, hown, hya⟩, ⟨rfl, Or.inl rfl, e3⟩, hS, hN, fun y => absurd rfl y, dk_TI_x (x := 3 * p + v) hot (fun a ha ha0 => ?_) (fun y hy => ⟨rfl, fun _ _ => rfl, (dk_un hy).symm, fun i hi => ?_⟩) hT, ⟨f1, fun y => absurd rfl y⟩, fun y => absurd rfl y, hyg⟩
    · by_cases e : x = 3 * p + v
      · subst e
        rw [dk_us] at hj
        by_cases e' : j = it (3 * p + v)
        · subst e'
          rw [dk_us, dk_us, dk_un (by omega), dk_un (by omega)]
          exact fun a b en => d ⟨b, i, hij, a, en⟩
        · rw [dk_un (by omega), dk_un (by omega), dk_un (by omega), dk_un (by omega)]
          exact hun _ i j hx hij (by omega)
      · rw [dk_un e] at hj
        have := hit x
        rw [dk_un (by omega), dk_un (by omega), dk_un (by omega), dk_un (by omega)]
        exact hun x i j hx hij hj
    · intro e
      have t4 := hth a
      have : a = p := by omega
      subst this
      omega
    · have := hit y
      exact ⟨(dk_un (by omega)).symm, (dk_un (by omega)).symm, (dk_un (by omega)).symm⟩
  · refine dk_xit_n hth hkn _ (dk_yit_n hya hkn _ ⟨rfl, E⟩ (fun p v c s h1 h2 => z ⟨p, v, c, s, (dk_OPt f1).mpr h1, h2⟩)) (fun p v c s h1 h2 => z ⟨p, v, c, s, h1, h2⟩)
end
section
theorem dk_w3 {w : Nat} (h : w < 2 ^ 30) : ¬ nI w - 2 < -2 := by
  rw [Int32.lt_iff_toInt_lt, dk_t2 h, show (-2 : Int32).toInt = -2 by decide]; omega
theorem dk_wn {w : Nat} (h : w < 2 ^ 30) : nI w - 2 < 0 ↔ w < 2 := by
  rw [Int32.lt_iff_toInt_lt, dk_t2 h, dk_i0]; omega
theorem dk_w4 {w : Nat} (h : w < 2 ^ 30) : (2 : Int32) < nI w - 2 ↔ 4 < w := by
  rw [Int32.lt_iff_toInt_lt, dk_t2 h, dk_2I]; omega
theorem dk_wex {x : Int32} (h1 : ¬ x < -2) (h2 : x < 0) : ∃ w, w < 2 ∧ x = nI w - 2 := by
  rw [Int32.lt_iff_toInt_lt, show (-2 : Int32).toInt = -2 by decide] at h1
  rw [Int32.lt_iff_toInt_lt, dk_i0] at h2
  refine ⟨(x.toInt + 2).toNat, by omega, ?_⟩
  apply Int32.toInt_inj.mp
  rw [dk_t2 (by omega)]; omega
theorem dk_lw (l : Nat) : nI l = nI (l + 2) - 2 := by
  have : nI (l + 2) = nI l + 2 := (nI_add l 2).symm
  rw [this, Int32.add_sub_cancel]
def dk_WA (x1 x2 x3 : Int32) (p w g : Nat) : Prop := p < 5 ∧ x1 = nI p ∧ w ≤ 4 ∧ x2 = nI w - 2 ∧ (2 ≤ w → x3 = nI g ∧ w - 2 ≤ g) ∧ g ≤ 2 ∧ (w < 2 → g = 0)
section
variable {pr bl na sc fa st no : Int32} {kn nd ot le gr op it nm sh ex wl wg th : Nat → Nat} {re rd od on : Nat → Int32} {wh : Nat → Int64} {ss rf wi lv dm ch cg my sp fA fS nt : Nat → Int32}
theorem dk_xwa_n {x1 x2 x3 : Int32} (post : Int32 → SX → Prop) (h : post 0 (pr, bl, na, sc, fa, st, no, (dk_N kn), (dk_N nd), (dk_N (dk_E ot le gr op)), (dk_N it), (dk_N nm), (dk_N sh), (dk_N ex), (dk_W wl), (dk_N wg), (dk_T th), re, rd, od, on, wh, ss, rf, wi, lv, dm, ch, cg, my, sp, fA, fS, nt)) (hn : ∀ p w g, dk_WA x1 x2 x3 p w g → False) : wpX_want post (pr, bl, na, sc, fa, st, no, (dk_N kn), (dk_N nd), (dk_N (dk_E ot le gr op)), (dk_N it), (dk_N nm), (dk_N sh), (dk_N ex), (dk_W wl), (dk_N wg), (dk_T th), re, rd, od, on, wh, ss, rf, wi, lv, dm, ch, cg, my, sp, fA, fS, nt) x1 x2 x3 := by
  unfold wpX_want
  dsimp only
  refine dk_xout (n := 5) (by omega) _ (fun _ => br_f (by decide) h) (fun p hp e => br_t rfl (br_c (fun _ => h) (fun z1 => br_c (fun z2 => ?_) (fun z2 => br_c (fun _ => h) (fun z3 => br_c (fun z4 => ?_) (fun _ => h))))))
  · obtain ⟨w, hw, ew⟩ := dk_wex z1 z2
    exact (hn p w 0 ⟨hp, e, by omega, ew, fun y => by omega, by omega, fun _ => rfl⟩).elim
  · obtain ⟨l, g, a, b, c, d⟩ := dk_lg z2 z3 z4
    exact (hn p (l + 2) g ⟨hp, e, by omega, c.trans (dk_lw l), fun _ => ⟨d, by omega⟩, b, fun y => by omega⟩).elim
theorem dk_xwa_y {x1 x2 x3 : Int32} {p w g : Nat} (hA : dk_WA x1 x2 x3 p w g) (post : Int32 → SX → Prop) (h : post 1 (0, bl, na, sc, fa, st, no, (dk_N kn), (dk_N nd), (dk_N (dk_E ot le gr op)), (dk_N it), (dk_N nm), (dk_N sh), (dk_N ex), (dk_W (dk_u wl p w)), (dk_N (dk_u wg p g)), (dk_T th), re, rd, od, on, wh, ss, rf, wi, lv, dm, ch, cg, my, sp, fA, fS, nt)) : wpX_want post (pr, bl, na, sc, fa, st, no, (dk_N kn), (dk_N nd), (dk_N (dk_E ot le gr op)), (dk_N it), (dk_N nm), (dk_N sh), (dk_N ex), (dk_W wl), (dk_N wg), (dk_T th), re, rd, od, on, wh, ss, rf, wi, lv, dm, ch, cg, my, sp, fA, fS, nt) x1 x2 x3 := by
  obtain ⟨p5, rfl, w4, rfl, h2, g2, h0⟩ := hA
  have b0 : vp_nar .byte ((0 : Int32).toInt8.toInt32) = nI 0 := dk_vbb (n := 0) (by omega)
  have k30 : wX_want_30 post (nI p) (nI w - 2) x3 pr bl na sc fa st no (dk_N kn) (dk_N nd) (dk_N (dk_E ot le gr op)) (dk_N it) (dk_N nm) (dk_N sh) (dk_N ex) (dk_W wl) (dk_N wg) (dk_T th) re rd od on wh ss rf wi lv dm ch cg my sp fA fS nt := by
    unfold wX_want_30
    rw [nI_clamp (by omega), dk_vbbW (by omega), dk_uW, dk_w0 (by omega), b0]
    refine ⟨vp_in_nI (by omega) (by omega), nm_e (br_c (fun y => ⟨vp_in_nI (by omega) (by omega), ?_⟩) (fun y => ⟨vp_in_nI (by omega) (by omega), ?_⟩))⟩
    · obtain ⟨e, _⟩ := h2 y
      rw [e, dk_vbb (by omega), dk_uN]
      exact nm_e h
    · rw [dk_uN, ← h0 (by omega)]
      exact nm_e h
  unfold wpX_want
  dsimp only
  refine dk_xout (n := 5) (by omega) _ (fun y => absurd ⟨p, p5, rfl⟩ y) (fun _ _ _ => br_t rfl (br_f (dk_w3 (by omega)) (br_c (fun _ => k30) (fun z => ?_))))
  rw [dk_wn (by omega)] at z
  obtain ⟨e, hg⟩ := h2 (by omega)
  rw [e] at k30 ⊢
  have : ¬ nI g < nI w - 2 := by
    rw [dk_wp (by omega)]; exact nI_nlt hg (by omega)
  exact br_f this (br_t (nI_le (b := 2) g2 (by omega)) k30)
end
section
variable {yp yb ys yn : Int32} {kn nd ot le gr op it nm sh ex wl ya : Nat → Nat} {yg yr yl yq yo yt : Nat → Int32}
theorem dk_ywa_n {x1 x2 x3 : Int32} (post : Int32 → SY → Prop) (h : post 0 (yp, yb, ys, yn, (dk_N kn), (dk_N nd), (dk_N ot), (dk_N le), (dk_N gr), (dk_N op), (dk_N ex), (dk_N it), (dk_N nm), (dk_N sh), (dk_W wl), yg, (dk_T ya), yr, yl, yq, yo, yt)) (hn : ∀ p w g, dk_WA x1 x2 x3 p w g → False) : wpY_want post (yp, yb, ys, yn, (dk_N kn), (dk_N nd), (dk_N ot), (dk_N le), (dk_N gr), (dk_N op), (dk_N ex), (dk_N it), (dk_N nm), (dk_N sh), (dk_W wl), yg, (dk_T ya), yr, yl, yq, yo, yt) x1 x2 x3 := by
  unfold wpY_want
  dsimp only
  refine dk_yin (n := 5) (by omega) _ (fun _ => br_t rfl h) (fun p hp e => br_f (by decide) (br_c (fun _ => h) (fun z1 => br_c (fun _ => h) (fun z0 => br_c (fun z2 => ?_) (fun z2 => br_c (fun _ => h) (fun z3 => br_c (fun z4 => ?_) (fun _ => h)))))))
  · obtain ⟨w, hw, ew⟩ := dk_wex z1 z2
    exact (hn p w 0 ⟨hp, e, by omega, ew, fun y => by omega, by omega, fun _ => rfl⟩).elim
  · obtain ⟨l, g, a, b, c, d⟩ := dk_lg z2 z3 z4
    exact (hn p (l + 2) g ⟨hp, e, by omega, c.trans (dk_lw l), fun _ => ⟨d, by omega⟩, b, fun y => by omega⟩).elim
theorem dk_ywa_y {x1 x2 x3 : Int32} {p w g : Nat} (hA : dk_WA x1 x2 x3 p w g) (post : Int32 → SY → Prop) (h : post 1 (0, yb, ys, yn, (dk_N kn), (dk_N nd), (dk_N ot), (dk_N le), (dk_N gr), (dk_N op), (dk_N ex), (dk_N it), (dk_N nm), (dk_N sh), (dk_W (dk_u wl p w)), (upd yg p x3), (dk_T ya), yr, yl, yq, yo, yt)) : wpY_want post (yp, yb, ys, yn, (dk_N kn), (dk_N nd), (dk_N ot), (dk_N le), (dk_N gr), (dk_N op), (dk_N ex), (dk_N it), (dk_N nm), (dk_N sh), (dk_W wl), yg, (dk_T ya), yr, yl, yq, yo, yt) x1 x2 x3 := by
  obtain ⟨p5, rfl, w4, rfl, h2, g2, h0⟩ := hA
  have k35 : wY_want_35 post (nI p) (nI w - 2) x3 yp yb ys yn (dk_N kn) (dk_N nd) (dk_N ot) (dk_N le) (dk_N gr) (dk_N op) (dk_N ex) (dk_N it) (dk_N nm) (dk_N sh) (dk_W wl) yg (dk_T ya) yr yl yq yo yt := by
    unfold wY_want_35
    rw [nI_clamp (by omega), dk_uW]
    exact ⟨vp_in_nI (by omega) (by omega), nm_e ⟨vp_in_nI (by omega) (by omega), nm_e h⟩⟩
  unfold wpY_want
  dsimp only
  refine dk_yin (n := 5) (by omega) _ (fun y => absurd ⟨p, p5, rfl⟩ y) (fun _ _ _ => br_f (by decide) (br_f (dk_w3 (by omega)) (br_f (by rw [dk_w4 (by omega)]; omega) (br_c (fun _ => k35) (fun z => ?_)))))
  rw [dk_wn (by omega)] at z
  obtain ⟨e, hg⟩ := h2 (by omega)
  rw [e] at k35 ⊢
  have : ¬ nI g < nI w - 2 := by
    rw [dk_wp (by omega)]; exact nI_nlt hg (by omega)
  exact br_f this (br_t (nI_le (b := 2) g2 (by omega)) k35)
end
theorem i_vc_want {k : Nat} {u : SX} {v : SY} (I : i_Rel k u v) (hk : k + 7 ≤ 3584) (v1 : Int32) (v2 : Int32) (v3 : Int32) : wpX_want (fun r u' => wpY_want (fun r' v' => r' = r ∧ i_Rel (k + 7) u' v') v v1 v2 v3) u v1 v2 v3 := by
  refine dk_rel (P := fun u v => wpX_want (fun r u' => wpY_want (fun r' v' => r' = r ∧ i_Rel (k + 7) u' v') v v1 v2 v3) u v1 v2 v3) ?_ I
  intro pr bl na sc fa st no kn nd ot le gr op it nm sh ex wl wg th re rd od on wh ss rf wi lv dm ch cg my sp fA fS nt yp yb ys yn ya yg yr yl yq yo yt R
  have E := dk_ir pr bl na sc fa st no kn nd ot le gr op it nm sh ex wl wg th re rd od on wh ss rf wi lv dm ch cg my sp fA fS nt yp yb ys yn ya yg yr yl yq yo yt (k := k + 7) R
  obtain ⟨hC, ⟨hkn, hwl, hwg, hww, hown, hya⟩, ⟨e1, e2, e3⟩, hS, hN, hna, hT, ⟨f1, f2⟩, g, hyg⟩ := R
  by_cases z : ∃ p w g, dk_WA v1 v2 v3 p w g
  · obtain ⟨p, w, g', hA⟩ := z
    refine dk_xwa_y hA _ (dk_ywa_y hA _ ⟨rfl, ?_⟩)
    obtain ⟨p5, _, w4, _, h2, g2, h0⟩ := hA
    refine dk_ir _ _ _ _ _ _ _ _ _ _ _ _ _ _ _ _ _ _ _ _ _ _ _ _ _ _ _ _ _ _ _ _ _ _ _ _ _ _ _ _ _ _ _ _ _ _ _ _ ⟨hC, ⟨hkn, dk_u_le hwl w4, dk_u_le hwg g2, fun q hq => ?_, hown, hya⟩, ⟨rfl, Or.inl rfl, e3⟩, hS, hN, hna, ⟨hT.1, fun y => absurd rfl y⟩, ⟨f1, fun y => absurd rfl y⟩, fun y => absurd rfl y, fun q hq h => ?_⟩
    · by_cases e : q = p
      · subst e
        rw [dk_us] at hq ⊢
        rw [dk_us]
        exact (h2 hq).2
      · rw [dk_un e] at hq ⊢
        rw [dk_un e]
        exact hww q hq
    · by_cases e : q = p
      · subst e
        rw [dk_us] at h
        rw [pk_us, dk_us]
        exact (h2 h).1
      · rw [dk_un e] at h
        rw [pk_un e, dk_un e]
        exact hyg q hq h
  · exact dk_xwa_n _ (dk_ywa_n _ ⟨rfl, E⟩ (fun p w g h => z ⟨p, w, g, h⟩)) (fun p w g h => z ⟨p, w, g, h⟩)
-- the constructors
section
variable {yp yb ys yn : Int32} {kn nd ot le gr op it nm sh ex wl ya : Nat → Nat} {yg yr yl yq yo yt : Nat → Int32}
theorem dk_yi {wl0 ya0 : Nat → Nat} : ∀ d j, j + d = 5 → ∀ post : SY → Prop, post (yp, yb, ys, yn, (dk_N kn), (dk_N nd), (dk_N ot), (dk_N le), (dk_N gr), (dk_N op), (dk_N ex), (dk_N it), (dk_N nm), (dk_N sh), (dk_W (fun i => if i < 5 then 0 else wl0 i)), yg, (dk_T (fun i => if i < 5 then 0 else ya0 i)), yr, yl, yq, yo, yt) → ∃ n, wY_init_145 post yp yb ys yn n (nI j) (dk_N kn) (dk_N nd) (dk_N ot) (dk_N le) (dk_N gr) (dk_N op) (dk_N ex) (dk_N it) (dk_N nm) (dk_N sh) (dk_W (fun i => if i < j then 0 else wl0 i)) yg (dk_T (fun i => if i < j then 0 else ya0 i)) yr yl yq yo yt
  | 0, j, hj, post, h => by
    have : j = 5 := by omega
    subst this
    exact ⟨1, br_t (by decide) h⟩
  | d + 1, j, hj, post, h => by
    obtain ⟨n, hn⟩ := dk_yi d (j + 1) (by omega) post h
    have m2 : (-2 : Int32) = nI 0 - 2 := by decide
    have m1 : (-1 : Int32) = nI 0 - 1 := by decide
    have eu : ∀ f : Nat → Nat, dk_u (fun i => if i < j then 0 else f i) j 0 = fun i => if i < j + 1 then 0 else f i := fun f => by
      funext i
      unfold dk_u
      by_cases a : i = j
      · subst a; rw [if_pos rfl, if_pos (by omega)]
      · rw [if_neg a]
        dsimp only
        by_cases b : i < j
        · rw [if_pos b, if_pos (by omega)]
        · rw [if_neg b, if_neg (by omega)]
    refine ⟨n + 1, br_f (by rw [dk_le5 (by omega)]; omega) ?_⟩
    rw [nI_clamp (by omega), m2, m1, dk_uW, dk_uT, eu, eu]
    exact ⟨vp_in_nI (by omega) (by omega), nm_e ⟨vp_in_nI (by omega) (by omega), nm_e (nm_r (nI_1 j) hn)⟩⟩
end
theorem dk_R0l (yr yl yq yt : Nat → Int32) : dk_Rl 0 0 0 0 0 0 0 (fun _ => 0) (fun _ => 0) (fun _ => 0) (fun _ => 0) (fun _ => 0) (fun _ => 0) (fun _ => 0) (fun _ => 0) (fun _ => 0) (fun _ => 0) (fun i => if i < 5 then 0 else 2) (fun _ => 0) (fun i => if i < 10 then 0 else 1) (fun _ => 0) (fun _ => 0) (fun _ => 0) (fun _ => 0) (fun _ => 0) (fun _ => 0) (fun _ => 0) (fun _ => 0) (fun _ => 0) (fun _ => 0) (fun _ => 0) (fun _ => 0) (fun _ => 0) (fun _ => 0) (fun _ => 0) (fun _ => 0) (fun _ => 0) 0 0 0 0 (fun i => if i < 5 then 0 else 1) (fun _ => 0) yr yl yq (fun _ => 0) yt := by
  refine ⟨⟨fun _ => Nat.zero_le _, fun _ => (by decide : (0 : Nat) < 5), fun _ => Nat.le_refl _, fun _ => Nat.zero_le _, fun _ => Nat.zero_le _, fun i => ?_, fun _ => Nat.zero_le _, fun _ => (by decide : (0 : Nat) < 12), fun _ => (by decide : (0 : Nat) < 4), fun _ => Nat.zero_le _, fun x i j hx hij hj => absurd hj (Nat.not_lt_zero _)⟩, ⟨fun _ => Nat.zero_le _, fun i => ?_, fun _ => Nat.zero_le _, fun i h => ?_, fun x k hx hk => absurd hk (Nat.not_lt_zero _), fun i => ?_⟩, ⟨rfl, Or.inl rfl, rfl⟩, ⟨0, by omega, rfl, rfl, fun q _ hb => absurd hb (by simp)⟩, ⟨0, 0, rfl, rfl, by show 0 < 32; omega, fun _ => rfl, fun h => absurd h (by show ¬ 16 ≤ 0; omega), fun k hk => absurd hk (Nat.not_lt_zero _)⟩, fun y => absurd rfl y, ⟨fun y => absurd rfl y, fun y => absurd rfl y⟩, ⟨fun p hp => ?_, fun y => absurd rfl y⟩, fun y => absurd rfl y, fun p hp h => ?_⟩
  · dsimp only; split <;> omega
  · dsimp only; split <;> omega
  · dsimp only at h ⊢
    by_cases c : i < 5
    · rw [if_pos c] at h; omega
    · rw [if_neg c]; omega
  · dsimp only; split <;> omega
  · dsimp only; rw [if_pos (by omega), if_pos hp]
  · dsimp only at h; rw [if_pos hp] at h; omega
theorem dk_i5 (i : Nat) : i = 0 ∨ i = 1 ∨ i = 2 ∨ i = 3 ∨ i = 4 ∨ 5 ≤ i := by omega
theorem dk_iX {a1 a2 a3 a4 a5 : Nat → Int32} (e1 : a1 = upd (fun _ => 0) 0 (vp_nar .byte (-2))) (e2 : a2 = upd a1 1 (vp_nar .byte (-2))) (e3 : a3 = upd a2 2 (vp_nar .byte (-2))) (e4 : a4 = upd a3 3 (vp_nar .byte (-2))) (e5 : a5 = upd a4 4 (vp_nar .byte (-2))) : a5 = dk_W (fun i => if i < 5 then 0 else 2) := by
  have m2 : vp_nar .byte (-2) = nI 0 - 2 := by
    have : (-2 : Int32) = nI 0 - 2 := by decide
    rw [this, dk_vbW (by omega)]
  have z2 : (0 : Int32) = nI 2 - 2 := by decide
  funext i
  rw [dk_Wa, e5, e4, e3, e2, e1, m2]
  unfold upd
  rcases dk_i5 i with r | r | r | r | r | r
  · subst r; rfl
  · subst r; rfl
  · subst r; rfl
  · subst r; rfl
  · subst r; rfl
  · rw [if_neg (by omega), if_neg (by omega), if_neg (by omega), if_neg (by omega), if_neg (by omega), if_neg (by omega)]; exact z2
theorem dk_iT {a1 a2 a3 a4 a5 a6 a7 a8 a9 a10 : Nat → Int32} (e1 : a1 = upd (fun _ => 0) 0 (vp_nar .byte (-1))) (e2 : a2 = upd a1 1 (vp_nar .byte (-1))) (e3 : a3 = upd a2 2 (vp_nar .byte (-1))) (e4 : a4 = upd a3 3 (vp_nar .byte (-1))) (e5 : a5 = upd a4 4 (vp_nar .byte (-1)))
    (e6 : a6 = upd a5 5 (vp_nar .byte (-1))) (e7 : a7 = upd a6 6 (vp_nar .byte (-1))) (e8 : a8 = upd a7 7 (vp_nar .byte (-1))) (e9 : a9 = upd a8 8 (vp_nar .byte (-1))) (e10 : a10 = upd a9 9 (vp_nar .byte (-1))) : a10 = dk_T (fun i => if i < 10 then 0 else 1) := by
  have m1 : vp_nar .byte (-1) = nI 0 - 1 := by
    have : (-1 : Int32) = nI 0 - 1 := by decide
    rw [this, dk_vbT (by omega)]
  have z1 : (0 : Int32) = nI 1 - 1 := by decide
  funext i
  rw [dk_Ta, e10, e9, e8, e7, e6, e5, e4, e3, e2, e1, m1]
  unfold upd
  by_cases h : i < 10
  · rw [if_pos h]
    rcases (by omega : i = 0 ∨ i = 1 ∨ i = 2 ∨ i = 3 ∨ i = 4 ∨ i = 5 ∨ i = 6 ∨ i = 7 ∨ i = 8 ∨ i = 9) with r | r | r | r | r | r | r | r | r | r <;> subst r <;> rfl
  · rw [if_neg (by omega), if_neg (by omega), if_neg (by omega), if_neg (by omega), if_neg (by omega), if_neg (by omega), if_neg (by omega), if_neg (by omega), if_neg (by omega), if_neg (by omega), if_neg h]; exact z1
theorem i_vc0 : wpX_init (fun u => wpY_init (fun v => i_Rel 0 u v)) := by
  intro a1 e1 a2 e2 a3 e3 a4 e4 a5 e5 b1 f1 b2 f2 b3 f3 b4 f4 b5 f5 b6 f6 b7 f7 b8 f8 b9 f9 b10 f10
  rw [dk_iX e1 e2 e3 e4 e5, dk_iT f1 f2 f3 f4 f5 f6 f7 f8 f9 f10]
  have z2 : (fun _ => (0 : Int32)) = dk_W (fun i => if i < 0 then 0 else 2) := by
    funext i; rw [dk_Wa, if_neg (by omega)]; decide
  have z1 : (fun _ => (0 : Int32)) = dk_T (fun i => if i < 0 then 0 else 1) := by
    funext i; rw [dk_Ta, if_neg (by omega)]; decide
  have key := dk_yi (yp := 0) (yb := 0) (ys := 0) (yn := 0) (kn := fun _ => 0) (nd := fun _ => 0) (ot := fun _ => 0) (le := fun _ => 0) (gr := fun _ => 0) (op := fun _ => 0) (it := fun _ => 0) (nm := fun _ => 0) (sh := fun _ => 0) (ex := fun _ => 0) (yg := fun _ => 0) (yr := fun _ => 0) (yl := fun _ => 0) (yq := fun _ => 0) (yo := fun _ => 0) (yt := fun _ => 0) (wl0 := fun _ => 2) (ya0 := fun _ => 1) 5 0 rfl _ (dk_ir _ _ _ _ _ _ _ _ _ _ _ _ _ _ _ _ _ _ _ _ _ _ _ _ _ _ _ _ _ _ _ _ _ _ _ _ _ _ _ _ _ _ _ _ _ _ _ _ (k := 0) (dk_R0l (fun _ => 0) (fun _ => 0) (fun _ => 0) (fun _ => 0)))
  rw [← z2, ← z1] at key
  exact key
end
