section
/-! pure rows to paste: stores, nI and lN arithmetic, masks, shifts, narrowing, branches by naturals (pk_le, pk_lt, pk_eq), loops (lp1 .. lp16: the measure of the state; rp1 ..: recursion), negatives. Take what you need -/
theorem pk_us {f : Nat → Int32} {k : Nat} {x : Int32} : upd f k x k = x := if_pos rfl
theorem pk_un {f : Nat → Int32} {k j : Nat} {x : Int32} (h : j ≠ k) : upd f k x j = f j := if_neg h
theorem pk_uLs {f : Nat → Int64} {k : Nat} {x : Int64} : vp_updL f k x k = x := if_pos rfl
theorem pk_uLn {f : Nat → Int64} {k j : Nat} {x : Int64} (h : j ≠ k) : vp_updL f k x j = f j := if_neg h
theorem pk_sub {a b : Nat} (h : b ≤ a) : nI a - nI b = nI (a - b) := by
  obtain ⟨c, rfl⟩ : ∃ c, a = c + b := ⟨a - b, by omega⟩
  rw [← nI_add, Int32.add_sub_cancel, Nat.add_sub_cancel]
theorem pk_m1 (n : Nat) : nI (n + 1) + (-1) = nI n := by
  rw [← nI_1, Int32.add_assoc, show (1 : Int32) + (-1) = 0 from rfl, Int32.add_zero]
theorem pk_mul (a b : Nat) : nI a * nI b = nI (a * b) := (Int32.ofNat_mul a b).symm
theorem pk_div {a d : Nat} (ha : a < 2 ^ 31) (h0 : 0 < d) (hd : d < 2 ^ 31) : nI a / nI d = nI (a / d) := by
  apply Int32.toInt_inj.mp
  rw [lg_idiv_nonneg (by rw [nI_toInt ha]; omega) (by rw [nI_toInt hd]; omega), nI_toInt ha, nI_toInt hd, nI_toInt (Nat.lt_of_le_of_lt (Nat.div_le_self a d) ha)]
  first | rfl | exact (Int.natCast_ediv _ _).symm
theorem pk_rem {a d : Nat} (ha : a < 2 ^ 31) (h0 : 0 < d) (hd : d < 2 ^ 31) : nI a - nI a / nI d * nI d = nI (a % d) := by
  rw [pk_div ha h0 hd, pk_mul, pk_sub (Nat.div_mul_le_self a d)]
  exact congrArg nI (by have := Nat.div_add_mod' a d; omega)
theorem pk_sub_toInt {a b : Nat} (ha : a < 2 ^ 30) (hb : b < 2 ^ 30) : (nI a - nI b).toInt = (a : Int) - b := by
  rw [Int32.toInt_sub, nI_toInt (by omega), nI_toInt (by omega)]
  exact Int.bmod_eq_of_le (by omega) (by omega)
theorem pk_sneg {a b : Nat} (hb : b < 2 ^ 30) (h : a < b) : nI a - nI b < 0 := by
  rw [Int32.lt_iff_toInt_lt, pk_sub_toInt (by omega) hb, show (0 : Int32).toInt = 0 from by decide]
  omega
theorem pk_ix (x : Int32) {n : Nat} (hn : n < 2 ^ 31) : x < 0 ∨ nI n ≤ x ∨ ∃ j : Nat, j < n ∧ x = nI j := by
  by_cases h : x < 0
  · exact Or.inl h
  · obtain ⟨j, hj, rfl⟩ := nI_of h
    by_cases h2 : j < n
    · exact Or.inr (Or.inr ⟨j, h2, rfl⟩)
    · exact Or.inr (Or.inl (nI_le (by omega) hj))
theorem pk_le {x y : Int32} {A B : Prop} (a b : Nat) (f : a ≤ b → A) (g : b < a → B) (hx : x = nI a := by rfl) (hy : y = nI b := by rfl) (ha : a < 2 ^ 31 := by omega) (hb : b < 2 ^ 31 := by omega) : (x ≤ y → A) ∧ (¬ x ≤ y → B) := by
  subst hx hy
  rw [nI_leI ha hb]
  exact ⟨f, fun z => g (by omega)⟩
theorem pk_lt {x y : Int32} {A B : Prop} (a b : Nat) (f : a < b → A) (g : b ≤ a → B) (hx : x = nI a := by rfl) (hy : y = nI b := by rfl) (ha : a < 2 ^ 31 := by omega) (hb : b < 2 ^ 31 := by omega) : (x < y → A) ∧ (¬ x < y → B) := by
  subst hx hy
  rw [nI_ltI ha hb]
  exact ⟨f, fun z => g (by omega)⟩
theorem pk_eq {x y : Int32} {A B : Prop} (a b : Nat) (f : a = b → A) (g : a ≠ b → B) (hx : x = nI a := by rfl) (hy : y = nI b := by rfl) (ha : a < 2 ^ 31 := by omega) (hb : b < 2 ^ 31 := by omega) : (x = y → A) ∧ (¬ x = y → B) := by
  subst hx hy
  rw [nI_eq ha hb]
  exact ⟨f, g⟩
theorem pk_in {x : Int32} (n N : Nat) (h : n < N) (hx : x = nI n := by rfl) (hN : N < 2 ^ 31 := by omega) : vp_in x N := by
  subst hx
  exact vp_in_nI h hN
theorem pk_cl {x : Int32} (n : Nat) (hx : x = nI n := by rfl) (h : n < 2 ^ 31 := by omega) : x.toNatClampNeg = n := by
  subst hx
  exact nI_clamp h
theorem pk_tn {n : Nat} (h : n < 2 ^ 32) : (nI n).toBitVec.toNat = n := Nat.mod_eq_of_lt h
theorem pk_and (x : Int32) {m : Int32} (k : Nat) (hm : m.toBitVec.toNat = 2 ^ k - 1) : x &&& m = nI (x.toBitVec.toNat % 2 ^ k) := by
  apply Int32.toBitVec_inj.mp
  apply BitVec.eq_of_toNat_eq
  rw [Int32.toBitVec_and, BitVec.toNat_and, hm, Nat.and_two_pow_sub_one_eq_mod]
  show _ = (BitVec.ofNat 32 _).toNat
  rw [BitVec.toNat_ofNat]
  exact (Nat.mod_eq_of_lt (Nat.lt_of_le_of_lt (Nat.mod_le _ _) x.toBitVec.isLt)).symm
theorem pk_andN {n : Nat} (h : n < 2 ^ 32) {m : Int32} (k : Nat) (hm : m.toBitVec.toNat = 2 ^ k - 1) : nI n &&& m = nI (n % 2 ^ k) := by
  rw [pk_and _ k hm, pk_tn h]
theorem pk_andE (x : Int32) {m : Int32} (k : Nat) (hm : m.toBitVec.toNat = 2 ^ k - 1) : ∃ j : Nat, j < 2 ^ k ∧ x &&& m = nI j := ⟨_, Nat.mod_lt _ (Nat.two_pow_pos k), pk_and x k hm⟩
theorem pk_andIn (x : Int32) {m : Int32} (k : Nat) (hm : m.toBitVec.toNat = 2 ^ k - 1) (hk : k ≤ 30) : vp_in (x &&& m) (2 ^ k) := by
  obtain ⟨j, hj, e⟩ := pk_andE x k hm
  rw [e]
  exact vp_in_nI hj (Nat.lt_of_le_of_lt (Nat.pow_le_pow_right (by decide) hk) (by decide))
theorem pk_shl (a s : Int32) (k : Nat) (hs : (s.toBitVec.smod 32).toNat = k) : (a <<< s).toBitVec.toNat = a.toBitVec.toNat * 2 ^ k % 2 ^ 32 := by
  show (a.toBitVec <<< (s.toBitVec.smod 32).toNat).toNat = _
  rw [hs, BitVec.toNat_shiftLeft, Nat.shiftLeft_eq]
theorem pk_shlN {n : Nat} (s : Int32) (k : Nat) (hs : (s.toBitVec.smod 32).toNat = k) (h : n * 2 ^ k < 2 ^ 32) : nI n <<< s = nI (n * 2 ^ k) := by
  apply Int32.toBitVec_inj.mp
  apply BitVec.eq_of_toNat_eq
  have hn : n < 2 ^ 32 := Nat.lt_of_le_of_lt (Nat.le_mul_of_pos_right n (Nat.two_pow_pos k)) h
  rw [pk_shl _ _ k hs, pk_tn hn, pk_tn h, Nat.mod_eq_of_lt h]
theorem pk_shr (a s : Int32) (k : Nat) (hs : (s.toBitVec.smod 32).toNat = k) : (a >>> s).toInt = a.toInt >>> k := by
  show (a.toBitVec.sshiftRight (s.toBitVec.smod 32).toNat).toInt = _
  rw [hs, BitVec.toInt_sshiftRight]
  rfl
theorem pk_shrN {n : Nat} (h : n < 2 ^ 31) (s : Int32) (k : Nat) (hs : (s.toBitVec.smod 32).toNat = k) : nI n >>> s = nI (n / 2 ^ k) := by
  apply Int32.toInt_inj.mp
  have h2 : n / 2 ^ k ≤ n := Nat.div_le_self _ _
  rw [pk_shr _ _ k hs, nI_toInt h, nI_toInt (by omega), Int.shiftRight_eq_div_pow]
  rfl
theorem pk_ushr (x s : Int32) (k : Nat) (hs : ((s.toUInt32 &&& Int32.toUInt32 31).toBitVec % 32).toNat = k) : (x.toUInt32 >>> (s.toUInt32 &&& Int32.toUInt32 31)).toInt32.toBitVec.toNat = x.toBitVec.toNat / 2 ^ k := by
  have e : (x.toUInt32 >>> (s.toUInt32 &&& Int32.toUInt32 31)).toInt32.toBitVec = x.toBitVec >>> k := by
    rw [← hs]
    exact UInt32.toBitVec_shiftRight _ _
  rw [e, BitVec.toNat_ushiftRight, Nat.shiftRight_eq_div_pow]
theorem pk_ushrN {n : Nat} (hn : n < 2 ^ 32) (s : Int32) (k : Nat) (hs : ((s.toUInt32 &&& Int32.toUInt32 31).toBitVec % 32).toNat = k) : ((nI n).toUInt32 >>> (s.toUInt32 &&& Int32.toUInt32 31)).toInt32 = nI (n / 2 ^ k) := by
  apply Int32.toBitVec_inj.mp
  apply BitVec.eq_of_toNat_eq
  rw [pk_ushr _ s k hs, pk_tn hn, pk_tn (Nat.lt_of_le_of_lt (Nat.div_le_self _ _) hn)]
theorem pk_nb (z : Int32) : narrow .byte (.int z.toInt8.toInt32) = .int z.toInt8.toInt32 := congrArg Value.int (by simp)
theorem pk_ns (z : Int32) : narrow .short (.int z.toInt16.toInt32) = .int z.toInt16.toInt32 := congrArg Value.int (by simp)
theorem pk_fb (r : Int32) : fits .byte (.int r.toInt8.toInt32) = true := by
  have ⟨a, b⟩ := lg_i2b_range r
  have h1 : (-128 : Int32).toInt = -128 := by decide
  have h2 : (127 : Int32).toInt = 127 := by decide
  simp only [fits, Bool.and_eq_true, decide_eq_true_eq, Int32.le_iff_toInt_le, h1, h2]
  omega
theorem pk_fs (r : Int32) : fits .short (.int r.toInt16.toInt32) = true := by
  have ⟨a, b⟩ := lg_i2s_range r
  have h1 : (-32768 : Int32).toInt = -32768 := by decide
  have h2 : (32767 : Int32).toInt = 32767 := by decide
  simp only [fits, Bool.and_eq_true, decide_eq_true_eq, Int32.le_iff_toInt_le, h1, h2]
  omega
theorem pk_charN {q : Nat} (hq : q < 65536) : narrow .char (.int (nI q)) = .int (nI q) ∧ fits .char (.int (nI q)) = true := by
  constructor
  · have e : (nI q).toUInt32.toUInt16.toUInt32.toInt32 = nI q := by
      apply Int32.toBitVec_inj.mp
      apply BitVec.eq_of_toNat_eq
      show (nI q).toUInt32.toUInt16.toUInt32.toNat = q % 2 ^ 32
      rw [UInt16.toNat_toUInt32, UInt32.toNat_toUInt16, show (nI q).toUInt32.toNat = q % 2 ^ 32 from rfl]
      omega
    exact congrArg Value.int e
  · have a : (0 : Int32) ≤ nI q := nI_pos' (by omega)
    have b : nI q ≤ 65535 := nI_le (b := 65535) (by omega) (by decide)
    show (decide ((0 : Int32) ≤ nI q) && decide (nI q ≤ 65535)) = true
    rw [decide_eq_true a, decide_eq_true b]
    rfl
theorem pk_char (x : Int32) : (x.toUInt32 % 65536).toInt32 = nI (x.toBitVec.toNat % 65536) := by
  apply Int32.toBitVec_inj.mp
  apply BitVec.eq_of_toNat_eq
  rw [pk_tn (by omega)]
  show (x.toUInt32 % 65536).toNat = _
  rw [UInt32.toNat_mod]
  rfl
theorem pk_nc (x : Int32) : narrow .char (.int (x.toUInt32 % 65536).toInt32) = .int (x.toUInt32 % 65536).toInt32 := by
  rw [pk_char]
  exact (pk_charN (Nat.mod_lt _ (by decide))).1
theorem pk_fc (x : Int32) : fits .char (.int (x.toUInt32 % 65536).toInt32) = true := by
  rw [pk_char]
  exact (pk_charN (Nat.mod_lt _ (by decide))).2
theorem pk_vb (z : Int32) : vp_nar .byte z.toInt8.toInt32 = z.toInt8.toInt32 := by rw [vp_nar_byte]; simp
theorem pk_vs (z : Int32) : vp_nar .short z.toInt16.toInt32 = z.toInt16.toInt32 := by rw [vp_nar_short]; simp
theorem pk_vc (z : Int32) : vp_nar .char (z.toUInt32 % 65536).toInt32 = (z.toUInt32 % 65536).toInt32 := Value.int.inj (pk_nc z)
theorem pk_lT {n : Nat} (h : n < 2 ^ 63) : (lN n).toInt = (n : Int) := lg_ofNat_toInt h
theorem pk_lLT {a b : Nat} (ha : a < 2 ^ 63) (hb : b < 2 ^ 63) : lN a < lN b ↔ a < b := by
  rw [Int64.lt_iff_toInt_lt, pk_lT ha, pk_lT hb]; omega
theorem pk_lLE {a b : Nat} (ha : a < 2 ^ 63) (hb : b < 2 ^ 63) : lN a ≤ lN b ↔ a ≤ b := by
  rw [Int64.le_iff_toInt_le, pk_lT ha, pk_lT hb]; omega
theorem pk_lEQ {a b : Nat} (ha : a < 2 ^ 63) (hb : b < 2 ^ 63) : lN a = lN b ↔ a = b := by
  rw [← Int64.toInt_inj, pk_lT ha, pk_lT hb]; omega
theorem pk_lOf {x : Int64} (h : ¬ x < 0) : ∃ k : Nat, k < 2 ^ 63 ∧ x = lN k := by
  rw [Int64.lt_iff_toInt_lt] at h
  have h0 : (0 : Int64).toInt = 0 := by decide
  have hx := Int64.toInt_lt x
  refine ⟨x.toInt.toNat, by omega, Int64.toInt_inj.mp ?_⟩
  rw [pk_lT (by omega)]
  omega
theorem pk_lDiv {a b : Nat} (ha : a < 2 ^ 63) (h0 : 0 < b) (hb : b < 2 ^ 63) : lN a / lN b = lN (a / b) := by
  apply Int64.toInt_inj.mp
  rw [lg_ldiv_nonneg (by rw [pk_lT ha]; omega) (by rw [pk_lT hb]; omega), pk_lT ha, pk_lT hb, pk_lT (Nat.lt_of_le_of_lt (Nat.div_le_self a b) ha)]
  rfl
theorem pk_lRem {a b : Nat} (ha : a < 2 ^ 63) (h0 : 0 < b) (hb : b < 2 ^ 63) : lN a - lN a / lN b * lN b = lN (a % b) := by
  rw [pk_lDiv ha h0 hb, lN_mul, lN_sub (Nat.div_mul_le_self a b)]
  exact congrArg lN (by have := Nat.div_add_mod' a b; omega)
theorem pk_loop {σ : Type} (W : Nat → Nat → σ → Prop) (I : Nat → σ → Prop) (e i0 : Nat) (s : σ) (hi : i0 ≤ e) (h0 : I i0 s) (hx : ∀ n s, I e s → W (n + 1) e s)
    (hs : ∀ n i s, i < e → I i s → (∀ s', I (i + 1) s' → W n (i + 1) s') → W (n + 1) i s) : ∃ n, W n i0 s :=
  ⟨e + 1, loop_i W I e hx hs (e + 1) i0 s hi (by omega) h0⟩
theorem pk_loopD {σ : Type} (W : Nat → Nat → σ → Prop) (I : Nat → σ → Prop) (hx : ∀ n s, I 0 s → W (n + 1) 0 s)
    (hs : ∀ n i s, I (i + 1) s → (∀ s', I i s' → W n i s') → W (n + 1) (i + 1) s) : ∀ (e : Nat) (s : σ), I e s → W (e + 1) e s := by
  intro e
  induction e with
  | zero => exact fun s h => hx 0 s h
  | succ e ih => exact fun s h => hs (e + 1) e s h (fun s' h' => ih s' h')
theorem lp1 {A1 : Type} (W : Nat → A1 → Prop) (I : A1 → Prop) (μ : A1 → Nat) (hs : ∀ (n : Nat) (a1 : A1), I a1 → (∀ (b1 : A1), I b1 → μ b1 < μ a1 → W n b1) → W (n + 1) a1) (a1 : A1) (h : I a1) : ∃ n, W n a1 :=
  loop_m (σ := A1) (fun n s => W n s) (fun s => I s) (fun s => μ s) (fun n s hI hk => hs n s hI (fun b1 h9 hm => hk b1 h9 hm)) a1 h
theorem lp2 {A1 A2 : Type} (W : Nat → A1 → A2 → Prop) (I : A1 → A2 → Prop) (μ : A1 → A2 → Nat) (hs : ∀ (n : Nat) (a1 : A1) (a2 : A2), I a1 a2 → (∀ (b1 : A1) (b2 : A2), I b1 b2 → μ b1 b2 < μ a1 a2 → W n b1 b2) → W (n + 1) a1 a2) (a1 : A1) (a2 : A2) (h : I a1 a2) : ∃ n, W n a1 a2 :=
  loop_m (σ := A1 × A2) (fun n s => W n s.1 s.2) (fun s => I s.1 s.2) (fun s => μ s.1 s.2) (fun n s hI hk => hs n s.1 s.2 hI (fun b1 b2 h9 hm => hk (b1, b2) h9 hm)) (a1, a2) h
theorem lp3 {A1 A2 A3 : Type} (W : Nat → A1 → A2 → A3 → Prop) (I : A1 → A2 → A3 → Prop) (μ : A1 → A2 → A3 → Nat) (hs : ∀ (n : Nat) (a1 : A1) (a2 : A2) (a3 : A3), I a1 a2 a3 → (∀ (b1 : A1) (b2 : A2) (b3 : A3), I b1 b2 b3 → μ b1 b2 b3 < μ a1 a2 a3 → W n b1 b2 b3) → W (n + 1) a1 a2 a3) (a1 : A1) (a2 : A2) (a3 : A3) (h : I a1 a2 a3) : ∃ n, W n a1 a2 a3 :=
  loop_m (σ := A1 × A2 × A3) (fun n s => W n s.1 s.2.1 s.2.2) (fun s => I s.1 s.2.1 s.2.2) (fun s => μ s.1 s.2.1 s.2.2) (fun n s hI hk => hs n s.1 s.2.1 s.2.2 hI (fun b1 b2 b3 h9 hm => hk (b1, b2, b3) h9 hm)) (a1, a2, a3) h
theorem lp4 {A1 A2 A3 A4 : Type} (W : Nat → A1 → A2 → A3 → A4 → Prop) (I : A1 → A2 → A3 → A4 → Prop) (μ : A1 → A2 → A3 → A4 → Nat) (hs : ∀ (n : Nat) (a1 : A1) (a2 : A2) (a3 : A3) (a4 : A4), I a1 a2 a3 a4 → (∀ (b1 : A1) (b2 : A2) (b3 : A3) (b4 : A4), I b1 b2 b3 b4 → μ b1 b2 b3 b4 < μ a1 a2 a3 a4 → W n b1 b2 b3 b4) → W (n + 1) a1 a2 a3 a4) (a1 : A1) (a2 : A2) (a3 : A3) (a4 : A4) (h : I a1 a2 a3 a4) : ∃ n, W n a1 a2 a3 a4 :=
  loop_m (σ := A1 × A2 × A3 × A4) (fun n s => W n s.1 s.2.1 s.2.2.1 s.2.2.2) (fun s => I s.1 s.2.1 s.2.2.1 s.2.2.2) (fun s => μ s.1 s.2.1 s.2.2.1 s.2.2.2) (fun n s hI hk => hs n s.1 s.2.1 s.2.2.1 s.2.2.2 hI (fun b1 b2 b3 b4 h9 hm => hk (b1, b2, b3, b4) h9 hm)) (a1, a2, a3, a4) h
theorem lp5 {A1 A2 A3 A4 A5 : Type} (W : Nat → A1 → A2 → A3 → A4 → A5 → Prop) (I : A1 → A2 → A3 → A4 → A5 → Prop) (μ : A1 → A2 → A3 → A4 → A5 → Nat) (hs : ∀ (n : Nat) (a1 : A1) (a2 : A2) (a3 : A3) (a4 : A4) (a5 : A5), I a1 a2 a3 a4 a5 → (∀ (b1 : A1) (b2 : A2) (b3 : A3) (b4 : A4) (b5 : A5), I b1 b2 b3 b4 b5 → μ b1 b2 b3 b4 b5 < μ a1 a2 a3 a4 a5 → W n b1 b2 b3 b4 b5) → W (n + 1) a1 a2 a3 a4 a5) (a1 : A1) (a2 : A2) (a3 : A3) (a4 : A4) (a5 : A5) (h : I a1 a2 a3 a4 a5) : ∃ n, W n a1 a2 a3 a4 a5 :=
  loop_m (σ := A1 × A2 × A3 × A4 × A5) (fun n s => W n s.1 s.2.1 s.2.2.1 s.2.2.2.1 s.2.2.2.2) (fun s => I s.1 s.2.1 s.2.2.1 s.2.2.2.1 s.2.2.2.2) (fun s => μ s.1 s.2.1 s.2.2.1 s.2.2.2.1 s.2.2.2.2) (fun n s hI hk => hs n s.1 s.2.1 s.2.2.1 s.2.2.2.1 s.2.2.2.2 hI (fun b1 b2 b3 b4 b5 h9 hm => hk (b1, b2, b3, b4, b5) h9 hm)) (a1, a2, a3, a4, a5) h
theorem lp6 {A1 A2 A3 A4 A5 A6 : Type} (W : Nat → A1 → A2 → A3 → A4 → A5 → A6 → Prop) (I : A1 → A2 → A3 → A4 → A5 → A6 → Prop) (μ : A1 → A2 → A3 → A4 → A5 → A6 → Nat) (hs : ∀ (n : Nat) (a1 : A1) (a2 : A2) (a3 : A3) (a4 : A4) (a5 : A5) (a6 : A6), I a1 a2 a3 a4 a5 a6 → (∀ (b1 : A1) (b2 : A2) (b3 : A3) (b4 : A4) (b5 : A5) (b6 : A6), I b1 b2 b3 b4 b5 b6 → μ b1 b2 b3 b4 b5 b6 < μ a1 a2 a3 a4 a5 a6 → W n b1 b2 b3 b4 b5 b6) → W (n + 1) a1 a2 a3 a4 a5 a6) (a1 : A1) (a2 : A2) (a3 : A3) (a4 : A4) (a5 : A5) (a6 : A6) (h : I a1 a2 a3 a4 a5 a6) : ∃ n, W n a1 a2 a3 a4 a5 a6 :=
  loop_m (σ := A1 × A2 × A3 × A4 × A5 × A6) (fun n s => W n s.1 s.2.1 s.2.2.1 s.2.2.2.1 s.2.2.2.2.1 s.2.2.2.2.2) (fun s => I s.1 s.2.1 s.2.2.1 s.2.2.2.1 s.2.2.2.2.1 s.2.2.2.2.2) (fun s => μ s.1 s.2.1 s.2.2.1 s.2.2.2.1 s.2.2.2.2.1 s.2.2.2.2.2) (fun n s hI hk => hs n s.1 s.2.1 s.2.2.1 s.2.2.2.1 s.2.2.2.2.1 s.2.2.2.2.2 hI (fun b1 b2 b3 b4 b5 b6 h9 hm => hk (b1, b2, b3, b4, b5, b6) h9 hm)) (a1, a2, a3, a4, a5, a6) h
theorem lp7 {A1 A2 A3 A4 A5 A6 A7 : Type} (W : Nat → A1 → A2 → A3 → A4 → A5 → A6 → A7 → Prop) (I : A1 → A2 → A3 → A4 → A5 → A6 → A7 → Prop) (μ : A1 → A2 → A3 → A4 → A5 → A6 → A7 → Nat) (hs : ∀ (n : Nat) (a1 : A1) (a2 : A2) (a3 : A3) (a4 : A4) (a5 : A5) (a6 : A6) (a7 : A7), I a1 a2 a3 a4 a5 a6 a7 → (∀ (b1 : A1) (b2 : A2) (b3 : A3) (b4 : A4) (b5 : A5) (b6 : A6) (b7 : A7), I b1 b2 b3 b4 b5 b6 b7 → μ b1 b2 b3 b4 b5 b6 b7 < μ a1 a2 a3 a4 a5 a6 a7 → W n b1 b2 b3 b4 b5 b6 b7) → W (n + 1) a1 a2 a3 a4 a5 a6 a7) (a1 : A1) (a2 : A2) (a3 : A3) (a4 : A4) (a5 : A5) (a6 : A6) (a7 : A7) (h : I a1 a2 a3 a4 a5 a6 a7) : ∃ n, W n a1 a2 a3 a4 a5 a6 a7 :=
  loop_m (σ := A1 × A2 × A3 × A4 × A5 × A6 × A7) (fun n s => W n s.1 s.2.1 s.2.2.1 s.2.2.2.1 s.2.2.2.2.1 s.2.2.2.2.2.1 s.2.2.2.2.2.2) (fun s => I s.1 s.2.1 s.2.2.1 s.2.2.2.1 s.2.2.2.2.1 s.2.2.2.2.2.1 s.2.2.2.2.2.2) (fun s => μ s.1 s.2.1 s.2.2.1 s.2.2.2.1 s.2.2.2.2.1 s.2.2.2.2.2.1 s.2.2.2.2.2.2) (fun n s hI hk => hs n s.1 s.2.1 s.2.2.1 s.2.2.2.1 s.2.2.2.2.1 s.2.2.2.2.2.1 s.2.2.2.2.2.2 hI (fun b1 b2 b3 b4 b5 b6 b7 h9 hm => hk (b1, b2, b3, b4, b5, b6, b7) h9 hm)) (a1, a2, a3, a4, a5, a6, a7) h
theorem lp8 {A1 A2 A3 A4 A5 A6 A7 A8 : Type} (W : Nat → A1 → A2 → A3 → A4 → A5 → A6 → A7 → A8 → Prop) (I : A1 → A2 → A3 → A4 → A5 → A6 → A7 → A8 → Prop) (μ : A1 → A2 → A3 → A4 → A5 → A6 → A7 → A8 → Nat) (hs : ∀ (n : Nat) (a1 : A1) (a2 : A2) (a3 : A3) (a4 : A4) (a5 : A5) (a6 : A6) (a7 : A7) (a8 : A8), I a1 a2 a3 a4 a5 a6 a7 a8 → (∀ (b1 : A1) (b2 : A2) (b3 : A3) (b4 : A4) (b5 : A5) (b6 : A6) (b7 : A7) (b8 : A8), I b1 b2 b3 b4 b5 b6 b7 b8 → μ b1 b2 b3 b4 b5 b6 b7 b8 < μ a1 a2 a3 a4 a5 a6 a7 a8 → W n b1 b2 b3 b4 b5 b6 b7 b8) → W (n + 1) a1 a2 a3 a4 a5 a6 a7 a8) (a1 : A1) (a2 : A2) (a3 : A3) (a4 : A4) (a5 : A5) (a6 : A6) (a7 : A7) (a8 : A8) (h : I a1 a2 a3 a4 a5 a6 a7 a8) : ∃ n, W n a1 a2 a3 a4 a5 a6 a7 a8 :=
  loop_m (σ := A1 × A2 × A3 × A4 × A5 × A6 × A7 × A8) (fun n s => W n s.1 s.2.1 s.2.2.1 s.2.2.2.1 s.2.2.2.2.1 s.2.2.2.2.2.1 s.2.2.2.2.2.2.1 s.2.2.2.2.2.2.2) (fun s => I s.1 s.2.1 s.2.2.1 s.2.2.2.1 s.2.2.2.2.1 s.2.2.2.2.2.1 s.2.2.2.2.2.2.1 s.2.2.2.2.2.2.2) (fun s => μ s.1 s.2.1 s.2.2.1 s.2.2.2.1 s.2.2.2.2.1 s.2.2.2.2.2.1 s.2.2.2.2.2.2.1 s.2.2.2.2.2.2.2) (fun n s hI hk => hs n s.1 s.2.1 s.2.2.1 s.2.2.2.1 s.2.2.2.2.1 s.2.2.2.2.2.1 s.2.2.2.2.2.2.1 s.2.2.2.2.2.2.2 hI (fun b1 b2 b3 b4 b5 b6 b7 b8 h9 hm => hk (b1, b2, b3, b4, b5, b6, b7, b8) h9 hm)) (a1, a2, a3, a4, a5, a6, a7, a8) h
theorem lp9 {A1 A2 A3 A4 A5 A6 A7 A8 A9 : Type} (W : Nat → A1 → A2 → A3 → A4 → A5 → A6 → A7 → A8 → A9 → Prop) (I : A1 → A2 → A3 → A4 → A5 → A6 → A7 → A8 → A9 → Prop) (μ : A1 → A2 → A3 → A4 → A5 → A6 → A7 → A8 → A9 → Nat) (hs : ∀ (n : Nat) (a1 : A1) (a2 : A2) (a3 : A3) (a4 : A4) (a5 : A5) (a6 : A6) (a7 : A7) (a8 : A8) (a9 : A9), I a1 a2 a3 a4 a5 a6 a7 a8 a9 → (∀ (b1 : A1) (b2 : A2) (b3 : A3) (b4 : A4) (b5 : A5) (b6 : A6) (b7 : A7) (b8 : A8) (b9 : A9), I b1 b2 b3 b4 b5 b6 b7 b8 b9 → μ b1 b2 b3 b4 b5 b6 b7 b8 b9 < μ a1 a2 a3 a4 a5 a6 a7 a8 a9 → W n b1 b2 b3 b4 b5 b6 b7 b8 b9) → W (n + 1) a1 a2 a3 a4 a5 a6 a7 a8 a9) (a1 : A1) (a2 : A2) (a3 : A3) (a4 : A4) (a5 : A5) (a6 : A6) (a7 : A7) (a8 : A8) (a9 : A9) (h : I a1 a2 a3 a4 a5 a6 a7 a8 a9) : ∃ n, W n a1 a2 a3 a4 a5 a6 a7 a8 a9 :=
  loop_m (σ := A1 × A2 × A3 × A4 × A5 × A6 × A7 × A8 × A9) (fun n s => W n s.1 s.2.1 s.2.2.1 s.2.2.2.1 s.2.2.2.2.1 s.2.2.2.2.2.1 s.2.2.2.2.2.2.1 s.2.2.2.2.2.2.2.1 s.2.2.2.2.2.2.2.2) (fun s => I s.1 s.2.1 s.2.2.1 s.2.2.2.1 s.2.2.2.2.1 s.2.2.2.2.2.1 s.2.2.2.2.2.2.1 s.2.2.2.2.2.2.2.1 s.2.2.2.2.2.2.2.2) (fun s => μ s.1 s.2.1 s.2.2.1 s.2.2.2.1 s.2.2.2.2.1 s.2.2.2.2.2.1 s.2.2.2.2.2.2.1 s.2.2.2.2.2.2.2.1 s.2.2.2.2.2.2.2.2) (fun n s hI hk => hs n s.1 s.2.1 s.2.2.1 s.2.2.2.1 s.2.2.2.2.1 s.2.2.2.2.2.1 s.2.2.2.2.2.2.1 s.2.2.2.2.2.2.2.1 s.2.2.2.2.2.2.2.2 hI (fun b1 b2 b3 b4 b5 b6 b7 b8 b9 h9 hm => hk (b1, b2, b3, b4, b5, b6, b7, b8, b9) h9 hm)) (a1, a2, a3, a4, a5, a6, a7, a8, a9) h
theorem lp10 {A1 A2 A3 A4 A5 A6 A7 A8 A9 A10 : Type} (W : Nat → A1 → A2 → A3 → A4 → A5 → A6 → A7 → A8 → A9 → A10 → Prop) (I : A1 → A2 → A3 → A4 → A5 → A6 → A7 → A8 → A9 → A10 → Prop) (μ : A1 → A2 → A3 → A4 → A5 → A6 → A7 → A8 → A9 → A10 → Nat) (hs : ∀ (n : Nat) (a1 : A1) (a2 : A2) (a3 : A3) (a4 : A4) (a5 : A5) (a6 : A6) (a7 : A7) (a8 : A8) (a9 : A9) (a10 : A10), I a1 a2 a3 a4 a5 a6 a7 a8 a9 a10 → (∀ (b1 : A1) (b2 : A2) (b3 : A3) (b4 : A4) (b5 : A5) (b6 : A6) (b7 : A7) (b8 : A8) (b9 : A9) (b10 : A10), I b1 b2 b3 b4 b5 b6 b7 b8 b9 b10 → μ b1 b2 b3 b4 b5 b6 b7 b8 b9 b10 < μ a1 a2 a3 a4 a5 a6 a7 a8 a9 a10 → W n b1 b2 b3 b4 b5 b6 b7 b8 b9 b10) → W (n + 1) a1 a2 a3 a4 a5 a6 a7 a8 a9 a10) (a1 : A1) (a2 : A2) (a3 : A3) (a4 : A4) (a5 : A5) (a6 : A6) (a7 : A7) (a8 : A8) (a9 : A9) (a10 : A10) (h : I a1 a2 a3 a4 a5 a6 a7 a8 a9 a10) : ∃ n, W n a1 a2 a3 a4 a5 a6 a7 a8 a9 a10 :=
  loop_m (σ := A1 × A2 × A3 × A4 × A5 × A6 × A7 × A8 × A9 × A10) (fun n s => W n s.1 s.2.1 s.2.2.1 s.2.2.2.1 s.2.2.2.2.1 s.2.2.2.2.2.1 s.2.2.2.2.2.2.1 s.2.2.2.2.2.2.2.1 s.2.2.2.2.2.2.2.2.1 s.2.2.2.2.2.2.2.2.2) (fun s => I s.1 s.2.1 s.2.2.1 s.2.2.2.1 s.2.2.2.2.1 s.2.2.2.2.2.1 s.2.2.2.2.2.2.1 s.2.2.2.2.2.2.2.1 s.2.2.2.2.2.2.2.2.1 s.2.2.2.2.2.2.2.2.2) (fun s => μ s.1 s.2.1 s.2.2.1 s.2.2.2.1 s.2.2.2.2.1 s.2.2.2.2.2.1 s.2.2.2.2.2.2.1 s.2.2.2.2.2.2.2.1 s.2.2.2.2.2.2.2.2.1 s.2.2.2.2.2.2.2.2.2) (fun n s hI hk => hs n s.1 s.2.1 s.2.2.1 s.2.2.2.1 s.2.2.2.2.1 s.2.2.2.2.2.1 s.2.2.2.2.2.2.1 s.2.2.2.2.2.2.2.1 s.2.2.2.2.2.2.2.2.1 s.2.2.2.2.2.2.2.2.2 hI (fun b1 b2 b3 b4 b5 b6 b7 b8 b9 b10 h9 hm => hk (b1, b2, b3, b4, b5, b6, b7, b8, b9, b10) h9 hm)) (a1, a2, a3, a4, a5, a6, a7, a8, a9, a10) h
theorem lp11 {A1 A2 A3 A4 A5 A6 A7 A8 A9 A10 A11 : Type} (W : Nat → A1 → A2 → A3 → A4 → A5 → A6 → A7 → A8 → A9 → A10 → A11 → Prop) (I : A1 → A2 → A3 → A4 → A5 → A6 → A7 → A8 → A9 → A10 → A11 → Prop) (μ : A1 → A2 → A3 → A4 → A5 → A6 → A7 → A8 → A9 → A10 → A11 → Nat) (hs : ∀ (n : Nat) (a1 : A1) (a2 : A2) (a3 : A3) (a4 : A4) (a5 : A5) (a6 : A6) (a7 : A7) (a8 : A8) (a9 : A9) (a10 : A10) (a11 : A11), I a1 a2 a3 a4 a5 a6 a7 a8 a9 a10 a11 → (∀ (b1 : A1) (b2 : A2) (b3 : A3) (b4 : A4) (b5 : A5) (b6 : A6) (b7 : A7) (b8 : A8) (b9 : A9) (b10 : A10) (b11 : A11), I b1 b2 b3 b4 b5 b6 b7 b8 b9 b10 b11 → μ b1 b2 b3 b4 b5 b6 b7 b8 b9 b10 b11 < μ a1 a2 a3 a4 a5 a6 a7 a8 a9 a10 a11 → W n b1 b2 b3 b4 b5 b6 b7 b8 b9 b10 b11) → W (n + 1) a1 a2 a3 a4 a5 a6 a7 a8 a9 a10 a11) (a1 : A1) (a2 : A2) (a3 : A3) (a4 : A4) (a5 : A5) (a6 : A6) (a7 : A7) (a8 : A8) (a9 : A9) (a10 : A10) (a11 : A11) (h : I a1 a2 a3 a4 a5 a6 a7 a8 a9 a10 a11) : ∃ n, W n a1 a2 a3 a4 a5 a6 a7 a8 a9 a10 a11 :=
  loop_m (σ := A1 × A2 × A3 × A4 × A5 × A6 × A7 × A8 × A9 × A10 × A11) (fun n s => W n s.1 s.2.1 s.2.2.1 s.2.2.2.1 s.2.2.2.2.1 s.2.2.2.2.2.1 s.2.2.2.2.2.2.1 s.2.2.2.2.2.2.2.1 s.2.2.2.2.2.2.2.2.1 s.2.2.2.2.2.2.2.2.2.1 s.2.2.2.2.2.2.2.2.2.2) (fun s => I s.1 s.2.1 s.2.2.1 s.2.2.2.1 s.2.2.2.2.1 s.2.2.2.2.2.1 s.2.2.2.2.2.2.1 s.2.2.2.2.2.2.2.1 s.2.2.2.2.2.2.2.2.1 s.2.2.2.2.2.2.2.2.2.1 s.2.2.2.2.2.2.2.2.2.2) (fun s => μ s.1 s.2.1 s.2.2.1 s.2.2.2.1 s.2.2.2.2.1 s.2.2.2.2.2.1 s.2.2.2.2.2.2.1 s.2.2.2.2.2.2.2.1 s.2.2.2.2.2.2.2.2.1 s.2.2.2.2.2.2.2.2.2.1 s.2.2.2.2.2.2.2.2.2.2) (fun n s hI hk => hs n s.1 s.2.1 s.2.2.1 s.2.2.2.1 s.2.2.2.2.1 s.2.2.2.2.2.1 s.2.2.2.2.2.2.1 s.2.2.2.2.2.2.2.1 s.2.2.2.2.2.2.2.2.1 s.2.2.2.2.2.2.2.2.2.1 s.2.2.2.2.2.2.2.2.2.2 hI (fun b1 b2 b3 b4 b5 b6 b7 b8 b9 b10 b11 h9 hm => hk (b1, b2, b3, b4, b5, b6, b7, b8, b9, b10, b11) h9 hm)) (a1, a2, a3, a4, a5, a6, a7, a8, a9, a10, a11) h
theorem lp12 {A1 A2 A3 A4 A5 A6 A7 A8 A9 A10 A11 A12 : Type} (W : Nat → A1 → A2 → A3 → A4 → A5 → A6 → A7 → A8 → A9 → A10 → A11 → A12 → Prop) (I : A1 → A2 → A3 → A4 → A5 → A6 → A7 → A8 → A9 → A10 → A11 → A12 → Prop) (μ : A1 → A2 → A3 → A4 → A5 → A6 → A7 → A8 → A9 → A10 → A11 → A12 → Nat) (hs : ∀ (n : Nat) (a1 : A1) (a2 : A2) (a3 : A3) (a4 : A4) (a5 : A5) (a6 : A6) (a7 : A7) (a8 : A8) (a9 : A9) (a10 : A10) (a11 : A11) (a12 : A12), I a1 a2 a3 a4 a5 a6 a7 a8 a9 a10 a11 a12 → (∀ (b1 : A1) (b2 : A2) (b3 : A3) (b4 : A4) (b5 : A5) (b6 : A6) (b7 : A7) (b8 : A8) (b9 : A9) (b10 : A10) (b11 : A11) (b12 : A12), I b1 b2 b3 b4 b5 b6 b7 b8 b9 b10 b11 b12 → μ b1 b2 b3 b4 b5 b6 b7 b8 b9 b10 b11 b12 < μ a1 a2 a3 a4 a5 a6 a7 a8 a9 a10 a11 a12 → W n b1 b2 b3 b4 b5 b6 b7 b8 b9 b10 b11 b12) → W (n + 1) a1 a2 a3 a4 a5 a6 a7 a8 a9 a10 a11 a12) (a1 : A1) (a2 : A2) (a3 : A3) (a4 : A4) (a5 : A5) (a6 : A6) (a7 : A7) (a8 : A8) (a9 : A9) (a10 : A10) (a11 : A11) (a12 : A12) (h : I a1 a2 a3 a4 a5 a6 a7 a8 a9 a10 a11 a12) : ∃ n, W n a1 a2 a3 a4 a5 a6 a7 a8 a9 a10 a11 a12 :=
  loop_m (σ := A1 × A2 × A3 × A4 × A5 × A6 × A7 × A8 × A9 × A10 × A11 × A12) (fun n s => W n s.1 s.2.1 s.2.2.1 s.2.2.2.1 s.2.2.2.2.1 s.2.2.2.2.2.1 s.2.2.2.2.2.2.1 s.2.2.2.2.2.2.2.1 s.2.2.2.2.2.2.2.2.1 s.2.2.2.2.2.2.2.2.2.1 s.2.2.2.2.2.2.2.2.2.2.1 s.2.2.2.2.2.2.2.2.2.2.2) (fun s => I s.1 s.2.1 s.2.2.1 s.2.2.2.1 s.2.2.2.2.1 s.2.2.2.2.2.1 s.2.2.2.2.2.2.1 s.2.2.2.2.2.2.2.1 s.2.2.2.2.2.2.2.2.1 s.2.2.2.2.2.2.2.2.2.1 s.2.2.2.2.2.2.2.2.2.2.1 s.2.2.2.2.2.2.2.2.2.2.2) (fun s => μ s.1 s.2.1 s.2.2.1 s.2.2.2.1 s.2.2.2.2.1 s.2.2.2.2.2.1 s.2.2.2.2.2.2.1 s.2.2.2.2.2.2.2.1 s.2.2.2.2.2.2.2.2.1 s.2.2.2.2.2.2.2.2.2.1 s.2.2.2.2.2.2.2.2.2.2.1 s.2.2.2.2.2.2.2.2.2.2.2) (fun n s hI hk => hs n s.1 s.2.1 s.2.2.1 s.2.2.2.1 s.2.2.2.2.1 s.2.2.2.2.2.1 s.2.2.2.2.2.2.1 s.2.2.2.2.2.2.2.1 s.2.2.2.2.2.2.2.2.1 s.2.2.2.2.2.2.2.2.2.1 s.2.2.2.2.2.2.2.2.2.2.1 s.2.2.2.2.2.2.2.2.2.2.2 hI (fun b1 b2 b3 b4 b5 b6 b7 b8 b9 b10 b11 b12 h9 hm => hk (b1, b2, b3, b4, b5, b6, b7, b8, b9, b10, b11, b12) h9 hm)) (a1, a2, a3, a4, a5, a6, a7, a8, a9, a10, a11, a12) h
theorem lp13 {A1 A2 A3 A4 A5 A6 A7 A8 A9 A10 A11 A12 A13 : Type} (W : Nat → A1 → A2 → A3 → A4 → A5 → A6 → A7 → A8 → A9 → A10 → A11 → A12 → A13 → Prop) (I : A1 → A2 → A3 → A4 → A5 → A6 → A7 → A8 → A9 → A10 → A11 → A12 → A13 → Prop) (μ : A1 → A2 → A3 → A4 → A5 → A6 → A7 → A8 → A9 → A10 → A11 → A12 → A13 → Nat) (hs : ∀ (n : Nat) (a1 : A1) (a2 : A2) (a3 : A3) (a4 : A4) (a5 : A5) (a6 : A6) (a7 : A7) (a8 : A8) (a9 : A9) (a10 : A10) (a11 : A11) (a12 : A12) (a13 : A13), I a1 a2 a3 a4 a5 a6 a7 a8 a9 a10 a11 a12 a13 → (∀ (b1 : A1) (b2 : A2) (b3 : A3) (b4 : A4) (b5 : A5) (b6 : A6) (b7 : A7) (b8 : A8) (b9 : A9) (b10 : A10) (b11 : A11) (b12 : A12) (b13 : A13), I b1 b2 b3 b4 b5 b6 b7 b8 b9 b10 b11 b12 b13 → μ b1 b2 b3 b4 b5 b6 b7 b8 b9 b10 b11 b12 b13 < μ a1 a2 a3 a4 a5 a6 a7 a8 a9 a10 a11 a12 a13 → W n b1 b2 b3 b4 b5 b6 b7 b8 b9 b10 b11 b12 b13) → W (n + 1) a1 a2 a3 a4 a5 a6 a7 a8 a9 a10 a11 a12 a13) (a1 : A1) (a2 : A2) (a3 : A3) (a4 : A4) (a5 : A5) (a6 : A6) (a7 : A7) (a8 : A8) (a9 : A9) (a10 : A10) (a11 : A11) (a12 : A12) (a13 : A13) (h : I a1 a2 a3 a4 a5 a6 a7 a8 a9 a10 a11 a12 a13) : ∃ n, W n a1 a2 a3 a4 a5 a6 a7 a8 a9 a10 a11 a12 a13 :=
  loop_m (σ := A1 × A2 × A3 × A4 × A5 × A6 × A7 × A8 × A9 × A10 × A11 × A12 × A13) (fun n s => W n s.1 s.2.1 s.2.2.1 s.2.2.2.1 s.2.2.2.2.1 s.2.2.2.2.2.1 s.2.2.2.2.2.2.1 s.2.2.2.2.2.2.2.1 s.2.2.2.2.2.2.2.2.1 s.2.2.2.2.2.2.2.2.2.1 s.2.2.2.2.2.2.2.2.2.2.1 s.2.2.2.2.2.2.2.2.2.2.2.1 s.2.2.2.2.2.2.2.2.2.2.2.2) (fun s => I s.1 s.2.1 s.2.2.1 s.2.2.2.1 s.2.2.2.2.1 s.2.2.2.2.2.1 s.2.2.2.2.2.2.1 s.2.2.2.2.2.2.2.1 s.2.2.2.2.2.2.2.2.1 s.2.2.2.2.2.2.2.2.2.1 s.2.2.2.2.2.2.2.2.2.2.1 s.2.2.2.2.2.2.2.2.2.2.2.1 s.2.2.2.2.2.2.2.2.2.2.2.2) (fun s => μ s.1 s.2.1 s.2.2.1 s.2.2.2.1 s.2.2.2.2.1 s.2.2.2.2.2.1 s.2.2.2.2.2.2.1 s.2.2.2.2.2.2.2.1 s.2.2.2.2.2.2.2.2.1 s.2.2.2.2.2.2.2.2.2.1 s.2.2.2.2.2.2.2.2.2.2.1 s.2.2.2.2.2.2.2.2.2.2.2.1 s.2.2.2.2.2.2.2.2.2.2.2.2) (fun n s hI hk => hs n s.1 s.2.1 s.2.2.1 s.2.2.2.1 s.2.2.2.2.1 s.2.2.2.2.2.1 s.2.2.2.2.2.2.1 s.2.2.2.2.2.2.2.1 s.2.2.2.2.2.2.2.2.1 s.2.2.2.2.2.2.2.2.2.1 s.2.2.2.2.2.2.2.2.2.2.1 s.2.2.2.2.2.2.2.2.2.2.2.1 s.2.2.2.2.2.2.2.2.2.2.2.2 hI (fun b1 b2 b3 b4 b5 b6 b7 b8 b9 b10 b11 b12 b13 h9 hm => hk (b1, b2, b3, b4, b5, b6, b7, b8, b9, b10, b11, b12, b13) h9 hm)) (a1, a2, a3, a4, a5, a6, a7, a8, a9, a10, a11, a12, a13) h
theorem lp14 {A1 A2 A3 A4 A5 A6 A7 A8 A9 A10 A11 A12 A13 A14 : Type} (W : Nat → A1 → A2 → A3 → A4 → A5 → A6 → A7 → A8 → A9 → A10 → A11 → A12 → A13 → A14 → Prop) (I : A1 → A2 → A3 → A4 → A5 → A6 → A7 → A8 → A9 → A10 → A11 → A12 → A13 → A14 → Prop) (μ : A1 → A2 → A3 → A4 → A5 → A6 → A7 → A8 → A9 → A10 → A11 → A12 → A13 → A14 → Nat) (hs : ∀ (n : Nat) (a1 : A1) (a2 : A2) (a3 : A3) (a4 : A4) (a5 : A5) (a6 : A6) (a7 : A7) (a8 : A8) (a9 : A9) (a10 : A10) (a11 : A11) (a12 : A12) (a13 : A13) (a14 : A14), I a1 a2 a3 a4 a5 a6 a7 a8 a9 a10 a11 a12 a13 a14 → (∀ (b1 : A1) (b2 : A2) (b3 : A3) (b4 : A4) (b5 : A5) (b6 : A6) (b7 : A7) (b8 : A8) (b9 : A9) (b10 : A10) (b11 : A11) (b12 : A12) (b13 : A13) (b14 : A14), I b1 b2 b3 b4 b5 b6 b7 b8 b9 b10 b11 b12 b13 b14 → μ b1 b2 b3 b4 b5 b6 b7 b8 b9 b10 b11 b12 b13 b14 < μ a1 a2 a3 a4 a5 a6 a7 a8 a9 a10 a11 a12 a13 a14 → W n b1 b2 b3 b4 b5 b6 b7 b8 b9 b10 b11 b12 b13 b14) → W (n + 1) a1 a2 a3 a4 a5 a6 a7 a8 a9 a10 a11 a12 a13 a14) (a1 : A1) (a2 : A2) (a3 : A3) (a4 : A4) (a5 : A5) (a6 : A6) (a7 : A7) (a8 : A8) (a9 : A9) (a10 : A10) (a11 : A11) (a12 : A12) (a13 : A13) (a14 : A14) (h : I a1 a2 a3 a4 a5 a6 a7 a8 a9 a10 a11 a12 a13 a14) : ∃ n, W n a1 a2 a3 a4 a5 a6 a7 a8 a9 a10 a11 a12 a13 a14 :=
  loop_m (σ := A1 × A2 × A3 × A4 × A5 × A6 × A7 × A8 × A9 × A10 × A11 × A12 × A13 × A14) (fun n s => W n s.1 s.2.1 s.2.2.1 s.2.2.2.1 s.2.2.2.2.1 s.2.2.2.2.2.1 s.2.2.2.2.2.2.1 s.2.2.2.2.2.2.2.1 s.2.2.2.2.2.2.2.2.1 s.2.2.2.2.2.2.2.2.2.1 s.2.2.2.2.2.2.2.2.2.2.1 s.2.2.2.2.2.2.2.2.2.2.2.1 s.2.2.2.2.2.2.2.2.2.2.2.2.1 s.2.2.2.2.2.2.2.2.2.2.2.2.2) (fun s => I s.1 s.2.1 s.2.2.1 s.2.2.2.1 s.2.2.2.2.1 s.2.2.2.2.2.1 s.2.2.2.2.2.2.1 s.2.2.2.2.2.2.2.1 s.2.2.2.2.2.2.2.2.1 s.2.2.2.2.2.2.2.2.2.1 s.2.2.2.2.2.2.2.2.2.2.1 s.2.2.2.2.2.2.2.2.2.2.2.1 s.2.2.2.2.2.2.2.2.2.2.2.2.1 s.2.2.2.2.2.2.2.2.2.2.2.2.2) (fun s => μ s.1 s.2.1 s.2.2.1 s.2.2.2.1 s.2.2.2.2.1 s.2.2.2.2.2.1 s.2.2.2.2.2.2.1 s.2.2.2.2.2.2.2.1 s.2.2.2.2.2.2.2.2.1 s.2.2.2.2.2.2.2.2.2.1 s.2.2.2.2.2.2.2.2.2.2.1 s.2.2.2.2.2.2.2.2.2.2.2.1 s.2.2.2.2.2.2.2.2.2.2.2.2.1 s.2.2.2.2.2.2.2.2.2.2.2.2.2) (fun n s hI hk => hs n s.1 s.2.1 s.2.2.1 s.2.2.2.1 s.2.2.2.2.1 s.2.2.2.2.2.1 s.2.2.2.2.2.2.1 s.2.2.2.2.2.2.2.1 s.2.2.2.2.2.2.2.2.1 s.2.2.2.2.2.2.2.2.2.1 s.2.2.2.2.2.2.2.2.2.2.1 s.2.2.2.2.2.2.2.2.2.2.2.1 s.2.2.2.2.2.2.2.2.2.2.2.2.1 s.2.2.2.2.2.2.2.2.2.2.2.2.2 hI (fun b1 b2 b3 b4 b5 b6 b7 b8 b9 b10 b11 b12 b13 b14 h9 hm => hk (b1, b2, b3, b4, b5, b6, b7, b8, b9, b10, b11, b12, b13, b14) h9 hm)) (a1, a2, a3, a4, a5, a6, a7, a8, a9, a10, a11, a12, a13, a14) h
theorem lp15 {A1 A2 A3 A4 A5 A6 A7 A8 A9 A10 A11 A12 A13 A14 A15 : Type} (W : Nat → A1 → A2 → A3 → A4 → A5 → A6 → A7 → A8 → A9 → A10 → A11 → A12 → A13 → A14 → A15 → Prop) (I : A1 → A2 → A3 → A4 → A5 → A6 → A7 → A8 → A9 → A10 → A11 → A12 → A13 → A14 → A15 → Prop) (μ : A1 → A2 → A3 → A4 → A5 → A6 → A7 → A8 → A9 → A10 → A11 → A12 → A13 → A14 → A15 → Nat) (hs : ∀ (n : Nat) (a1 : A1) (a2 : A2) (a3 : A3) (a4 : A4) (a5 : A5) (a6 : A6) (a7 : A7) (a8 : A8) (a9 : A9) (a10 : A10) (a11 : A11) (a12 : A12) (a13 : A13) (a14 : A14) (a15 : A15), I a1 a2 a3 a4 a5 a6 a7 a8 a9 a10 a11 a12 a13 a14 a15 → (∀ (b1 : A1) (b2 : A2) (b3 : A3) (b4 : A4) (b5 : A5) (b6 : A6) (b7 : A7) (b8 : A8) (b9 : A9) (b10 : A10) (b11 : A11) (b12 : A12) (b13 : A13) (b14 : A14) (b15 : A15), I b1 b2 b3 b4 b5 b6 b7 b8 b9 b10 b11 b12 b13 b14 b15 → μ b1 b2 b3 b4 b5 b6 b7 b8 b9 b10 b11 b12 b13 b14 b15 < μ a1 a2 a3 a4 a5 a6 a7 a8 a9 a10 a11 a12 a13 a14 a15 → W n b1 b2 b3 b4 b5 b6 b7 b8 b9 b10 b11 b12 b13 b14 b15) → W (n + 1) a1 a2 a3 a4 a5 a6 a7 a8 a9 a10 a11 a12 a13 a14 a15) (a1 : A1) (a2 : A2) (a3 : A3) (a4 : A4) (a5 : A5) (a6 : A6) (a7 : A7) (a8 : A8) (a9 : A9) (a10 : A10) (a11 : A11) (a12 : A12) (a13 : A13) (a14 : A14) (a15 : A15) (h : I a1 a2 a3 a4 a5 a6 a7 a8 a9 a10 a11 a12 a13 a14 a15) : ∃ n, W n a1 a2 a3 a4 a5 a6 a7 a8 a9 a10 a11 a12 a13 a14 a15 :=
  loop_m (σ := A1 × A2 × A3 × A4 × A5 × A6 × A7 × A8 × A9 × A10 × A11 × A12 × A13 × A14 × A15) (fun n s => W n s.1 s.2.1 s.2.2.1 s.2.2.2.1 s.2.2.2.2.1 s.2.2.2.2.2.1 s.2.2.2.2.2.2.1 s.2.2.2.2.2.2.2.1 s.2.2.2.2.2.2.2.2.1 s.2.2.2.2.2.2.2.2.2.1 s.2.2.2.2.2.2.2.2.2.2.1 s.2.2.2.2.2.2.2.2.2.2.2.1 s.2.2.2.2.2.2.2.2.2.2.2.2.1 s.2.2.2.2.2.2.2.2.2.2.2.2.2.1 s.2.2.2.2.2.2.2.2.2.2.2.2.2.2) (fun s => I s.1 s.2.1 s.2.2.1 s.2.2.2.1 s.2.2.2.2.1 s.2.2.2.2.2.1 s.2.2.2.2.2.2.1 s.2.2.2.2.2.2.2.1 s.2.2.2.2.2.2.2.2.1 s.2.2.2.2.2.2.2.2.2.1 s.2.2.2.2.2.2.2.2.2.2.1 s.2.2.2.2.2.2.2.2.2.2.2.1 s.2.2.2.2.2.2.2.2.2.2.2.2.1 s.2.2.2.2.2.2.2.2.2.2.2.2.2.1 s.2.2.2.2.2.2.2.2.2.2.2.2.2.2) (fun s => μ s.1 s.2.1 s.2.2.1 s.2.2.2.1 s.2.2.2.2.1 s.2.2.2.2.2.1 s.2.2.2.2.2.2.1 s.2.2.2.2.2.2.2.1 s.2.2.2.2.2.2.2.2.1 s.2.2.2.2.2.2.2.2.2.1 s.2.2.2.2.2.2.2.2.2.2.1 s.2.2.2.2.2.2.2.2.2.2.2.1 s.2.2.2.2.2.2.2.2.2.2.2.2.1 s.2.2.2.2.2.2.2.2.2.2.2.2.2.1 s.2.2.2.2.2.2.2.2.2.2.2.2.2.2) (fun n s hI hk => hs n s.1 s.2.1 s.2.2.1 s.2.2.2.1 s.2.2.2.2.1 s.2.2.2.2.2.1 s.2.2.2.2.2.2.1 s.2.2.2.2.2.2.2.1 s.2.2.2.2.2.2.2.2.1 s.2.2.2.2.2.2.2.2.2.1 s.2.2.2.2.2.2.2.2.2.2.1 s.2.2.2.2.2.2.2.2.2.2.2.1 s.2.2.2.2.2.2.2.2.2.2.2.2.1 s.2.2.2.2.2.2.2.2.2.2.2.2.2.1 s.2.2.2.2.2.2.2.2.2.2.2.2.2.2 hI (fun b1 b2 b3 b4 b5 b6 b7 b8 b9 b10 b11 b12 b13 b14 b15 h9 hm => hk (b1, b2, b3, b4, b5, b6, b7, b8, b9, b10, b11, b12, b13, b14, b15) h9 hm)) (a1, a2, a3, a4, a5, a6, a7, a8, a9, a10, a11, a12, a13, a14, a15) h
theorem lp16 {A1 A2 A3 A4 A5 A6 A7 A8 A9 A10 A11 A12 A13 A14 A15 A16 : Type} (W : Nat → A1 → A2 → A3 → A4 → A5 → A6 → A7 → A8 → A9 → A10 → A11 → A12 → A13 → A14 → A15 → A16 → Prop) (I : A1 → A2 → A3 → A4 → A5 → A6 → A7 → A8 → A9 → A10 → A11 → A12 → A13 → A14 → A15 → A16 → Prop) (μ : A1 → A2 → A3 → A4 → A5 → A6 → A7 → A8 → A9 → A10 → A11 → A12 → A13 → A14 → A15 → A16 → Nat) (hs : ∀ (n : Nat) (a1 : A1) (a2 : A2) (a3 : A3) (a4 : A4) (a5 : A5) (a6 : A6) (a7 : A7) (a8 : A8) (a9 : A9) (a10 : A10) (a11 : A11) (a12 : A12) (a13 : A13) (a14 : A14) (a15 : A15) (a16 : A16), I a1 a2 a3 a4 a5 a6 a7 a8 a9 a10 a11 a12 a13 a14 a15 a16 → (∀ (b1 : A1) (b2 : A2) (b3 : A3) (b4 : A4) (b5 : A5) (b6 : A6) (b7 : A7) (b8 : A8) (b9 : A9) (b10 : A10) (b11 : A11) (b12 : A12) (b13 : A13) (b14 : A14) (b15 : A15) (b16 : A16), I b1 b2 b3 b4 b5 b6 b7 b8 b9 b10 b11 b12 b13 b14 b15 b16 → μ b1 b2 b3 b4 b5 b6 b7 b8 b9 b10 b11 b12 b13 b14 b15 b16 < μ a1 a2 a3 a4 a5 a6 a7 a8 a9 a10 a11 a12 a13 a14 a15 a16 → W n b1 b2 b3 b4 b5 b6 b7 b8 b9 b10 b11 b12 b13 b14 b15 b16) → W (n + 1) a1 a2 a3 a4 a5 a6 a7 a8 a9 a10 a11 a12 a13 a14 a15 a16) (a1 : A1) (a2 : A2) (a3 : A3) (a4 : A4) (a5 : A5) (a6 : A6) (a7 : A7) (a8 : A8) (a9 : A9) (a10 : A10) (a11 : A11) (a12 : A12) (a13 : A13) (a14 : A14) (a15 : A15) (a16 : A16) (h : I a1 a2 a3 a4 a5 a6 a7 a8 a9 a10 a11 a12 a13 a14 a15 a16) : ∃ n, W n a1 a2 a3 a4 a5 a6 a7 a8 a9 a10 a11 a12 a13 a14 a15 a16 :=
  loop_m (σ := A1 × A2 × A3 × A4 × A5 × A6 × A7 × A8 × A9 × A10 × A11 × A12 × A13 × A14 × A15 × A16) (fun n s => W n s.1 s.2.1 s.2.2.1 s.2.2.2.1 s.2.2.2.2.1 s.2.2.2.2.2.1 s.2.2.2.2.2.2.1 s.2.2.2.2.2.2.2.1 s.2.2.2.2.2.2.2.2.1 s.2.2.2.2.2.2.2.2.2.1 s.2.2.2.2.2.2.2.2.2.2.1 s.2.2.2.2.2.2.2.2.2.2.2.1 s.2.2.2.2.2.2.2.2.2.2.2.2.1 s.2.2.2.2.2.2.2.2.2.2.2.2.2.1 s.2.2.2.2.2.2.2.2.2.2.2.2.2.2.1 s.2.2.2.2.2.2.2.2.2.2.2.2.2.2.2) (fun s => I s.1 s.2.1 s.2.2.1 s.2.2.2.1 s.2.2.2.2.1 s.2.2.2.2.2.1 s.2.2.2.2.2.2.1 s.2.2.2.2.2.2.2.1 s.2.2.2.2.2.2.2.2.1 s.2.2.2.2.2.2.2.2.2.1 s.2.2.2.2.2.2.2.2.2.2.1 s.2.2.2.2.2.2.2.2.2.2.2.1 s.2.2.2.2.2.2.2.2.2.2.2.2.1 s.2.2.2.2.2.2.2.2.2.2.2.2.2.1 s.2.2.2.2.2.2.2.2.2.2.2.2.2.2.1 s.2.2.2.2.2.2.2.2.2.2.2.2.2.2.2) (fun s => μ s.1 s.2.1 s.2.2.1 s.2.2.2.1 s.2.2.2.2.1 s.2.2.2.2.2.1 s.2.2.2.2.2.2.1 s.2.2.2.2.2.2.2.1 s.2.2.2.2.2.2.2.2.1 s.2.2.2.2.2.2.2.2.2.1 s.2.2.2.2.2.2.2.2.2.2.1 s.2.2.2.2.2.2.2.2.2.2.2.1 s.2.2.2.2.2.2.2.2.2.2.2.2.1 s.2.2.2.2.2.2.2.2.2.2.2.2.2.1 s.2.2.2.2.2.2.2.2.2.2.2.2.2.2.1 s.2.2.2.2.2.2.2.2.2.2.2.2.2.2.2) (fun n s hI hk => hs n s.1 s.2.1 s.2.2.1 s.2.2.2.1 s.2.2.2.2.1 s.2.2.2.2.2.1 s.2.2.2.2.2.2.1 s.2.2.2.2.2.2.2.1 s.2.2.2.2.2.2.2.2.1 s.2.2.2.2.2.2.2.2.2.1 s.2.2.2.2.2.2.2.2.2.2.1 s.2.2.2.2.2.2.2.2.2.2.2.1 s.2.2.2.2.2.2.2.2.2.2.2.2.1 s.2.2.2.2.2.2.2.2.2.2.2.2.2.1 s.2.2.2.2.2.2.2.2.2.2.2.2.2.2.1 s.2.2.2.2.2.2.2.2.2.2.2.2.2.2.2 hI (fun b1 b2 b3 b4 b5 b6 b7 b8 b9 b10 b11 b12 b13 b14 b15 b16 h9 hm => hk (b1, b2, b3, b4, b5, b6, b7, b8, b9, b10, b11, b12, b13, b14, b15, b16) h9 hm)) (a1, a2, a3, a4, a5, a6, a7, a8, a9, a10, a11, a12, a13, a14, a15, a16) h
theorem pk_least (P : Nat → Prop) (h : ∃ k, P k) : ∃ k, P k ∧ ∀ j, j < k → ¬ P j := by
  obtain ⟨k, hk⟩ := h
  induction k using Nat.strongRecOn with
  | ind k ih =>
    by_cases e : ∃ j, j < k ∧ P j
    · obtain ⟨j, hj, pj⟩ := e
      exact ih j hj pj
    · exact ⟨k, hk, fun j hj pj => e ⟨j, hj, pj⟩⟩
theorem rp1 {ρ A1 : Type} (W : Nat → (ρ → Prop) → A1 → Prop) (ok : A1 → Prop) (μ : A1 → Nat) (val : A1 → ρ)
    (hs : ∀ (d : Nat) (post : ρ → Prop) (a1 : A1), ok a1 → post (val a1) → (∀ (post' : ρ → Prop) (b1 : A1), ok b1 → μ b1 < μ a1 → post' (val b1) → W d post' b1) → W (d + 1) post a1) :
    ∀ (d : Nat) (post : ρ → Prop) (a1 : A1), ok a1 → μ a1 < d → post (val a1) → W d post a1 := by
  intro d
  induction d with
  | zero => intro post a1 _ h; omega
  | succ d ih =>
    intro post a1 ho hm hp
    exact hs d post a1 ho hp (fun post' b1 ho' hm' hp' => ih post' b1 ho' (by omega) hp')
theorem rp2 {ρ A1 A2 : Type} (W : Nat → (ρ → Prop) → A1 → A2 → Prop) (ok : A1 → A2 → Prop) (μ : A1 → A2 → Nat) (val : A1 → A2 → ρ)
    (hs : ∀ (d : Nat) (post : ρ → Prop) (a1 : A1) (a2 : A2), ok a1 a2 → post (val a1 a2) → (∀ (post' : ρ → Prop) (b1 : A1) (b2 : A2), ok b1 b2 → μ b1 b2 < μ a1 a2 → post' (val b1 b2) → W d post' b1 b2) → W (d + 1) post a1 a2) :
    ∀ (d : Nat) (post : ρ → Prop) (a1 : A1) (a2 : A2), ok a1 a2 → μ a1 a2 < d → post (val a1 a2) → W d post a1 a2 := by
  intro d
  induction d with
  | zero => intro post a1 a2 _ h; omega
  | succ d ih =>
    intro post a1 a2 ho hm hp
    exact hs d post a1 a2 ho hp (fun post' b1 b2 ho' hm' hp' => ih post' b1 b2 ho' (by omega) hp')
theorem rp3 {ρ A1 A2 A3 : Type} (W : Nat → (ρ → Prop) → A1 → A2 → A3 → Prop) (ok : A1 → A2 → A3 → Prop) (μ : A1 → A2 → A3 → Nat) (val : A1 → A2 → A3 → ρ)
    (hs : ∀ (d : Nat) (post : ρ → Prop) (a1 : A1) (a2 : A2) (a3 : A3), ok a1 a2 a3 → post (val a1 a2 a3) → (∀ (post' : ρ → Prop) (b1 : A1) (b2 : A2) (b3 : A3), ok b1 b2 b3 → μ b1 b2 b3 < μ a1 a2 a3 → post' (val b1 b2 b3) → W d post' b1 b2 b3) → W (d + 1) post a1 a2 a3) :
    ∀ (d : Nat) (post : ρ → Prop) (a1 : A1) (a2 : A2) (a3 : A3), ok a1 a2 a3 → μ a1 a2 a3 < d → post (val a1 a2 a3) → W d post a1 a2 a3 := by
  intro d
  induction d with
  | zero => intro post a1 a2 a3 _ h; omega
  | succ d ih =>
    intro post a1 a2 a3 ho hm hp
    exact hs d post a1 a2 a3 ho hp (fun post' b1 b2 b3 ho' hm' hp' => ih post' b1 b2 b3 ho' (by omega) hp')
theorem rp4 {ρ A1 A2 A3 A4 : Type} (W : Nat → (ρ → Prop) → A1 → A2 → A3 → A4 → Prop) (ok : A1 → A2 → A3 → A4 → Prop) (μ : A1 → A2 → A3 → A4 → Nat) (val : A1 → A2 → A3 → A4 → ρ)
    (hs : ∀ (d : Nat) (post : ρ → Prop) (a1 : A1) (a2 : A2) (a3 : A3) (a4 : A4), ok a1 a2 a3 a4 → post (val a1 a2 a3 a4) → (∀ (post' : ρ → Prop) (b1 : A1) (b2 : A2) (b3 : A3) (b4 : A4), ok b1 b2 b3 b4 → μ b1 b2 b3 b4 < μ a1 a2 a3 a4 → post' (val b1 b2 b3 b4) → W d post' b1 b2 b3 b4) → W (d + 1) post a1 a2 a3 a4) :
    ∀ (d : Nat) (post : ρ → Prop) (a1 : A1) (a2 : A2) (a3 : A3) (a4 : A4), ok a1 a2 a3 a4 → μ a1 a2 a3 a4 < d → post (val a1 a2 a3 a4) → W d post a1 a2 a3 a4 := by
  intro d
  induction d with
  | zero => intro post a1 a2 a3 a4 _ h; omega
  | succ d ih =>
    intro post a1 a2 a3 a4 ho hm hp
    exact hs d post a1 a2 a3 a4 ho hp (fun post' b1 b2 b3 b4 ho' hm' hp' => ih post' b1 b2 b3 b4 ho' (by omega) hp')
theorem rp5 {ρ A1 A2 A3 A4 A5 : Type} (W : Nat → (ρ → Prop) → A1 → A2 → A3 → A4 → A5 → Prop) (ok : A1 → A2 → A3 → A4 → A5 → Prop) (μ : A1 → A2 → A3 → A4 → A5 → Nat) (val : A1 → A2 → A3 → A4 → A5 → ρ)
    (hs : ∀ (d : Nat) (post : ρ → Prop) (a1 : A1) (a2 : A2) (a3 : A3) (a4 : A4) (a5 : A5), ok a1 a2 a3 a4 a5 → post (val a1 a2 a3 a4 a5) → (∀ (post' : ρ → Prop) (b1 : A1) (b2 : A2) (b3 : A3) (b4 : A4) (b5 : A5), ok b1 b2 b3 b4 b5 → μ b1 b2 b3 b4 b5 < μ a1 a2 a3 a4 a5 → post' (val b1 b2 b3 b4 b5) → W d post' b1 b2 b3 b4 b5) → W (d + 1) post a1 a2 a3 a4 a5) :
    ∀ (d : Nat) (post : ρ → Prop) (a1 : A1) (a2 : A2) (a3 : A3) (a4 : A4) (a5 : A5), ok a1 a2 a3 a4 a5 → μ a1 a2 a3 a4 a5 < d → post (val a1 a2 a3 a4 a5) → W d post a1 a2 a3 a4 a5 := by
  intro d
  induction d with
  | zero => intro post a1 a2 a3 a4 a5 _ h; omega
  | succ d ih =>
    intro post a1 a2 a3 a4 a5 ho hm hp
    exact hs d post a1 a2 a3 a4 a5 ho hp (fun post' b1 b2 b3 b4 b5 ho' hm' hp' => ih post' b1 b2 b3 b4 b5 ho' (by omega) hp')
theorem rp6 {ρ A1 A2 A3 A4 A5 A6 : Type} (W : Nat → (ρ → Prop) → A1 → A2 → A3 → A4 → A5 → A6 → Prop) (ok : A1 → A2 → A3 → A4 → A5 → A6 → Prop) (μ : A1 → A2 → A3 → A4 → A5 → A6 → Nat) (val : A1 → A2 → A3 → A4 → A5 → A6 → ρ)
    (hs : ∀ (d : Nat) (post : ρ → Prop) (a1 : A1) (a2 : A2) (a3 : A3) (a4 : A4) (a5 : A5) (a6 : A6), ok a1 a2 a3 a4 a5 a6 → post (val a1 a2 a3 a4 a5 a6) → (∀ (post' : ρ → Prop) (b1 : A1) (b2 : A2) (b3 : A3) (b4 : A4) (b5 : A5) (b6 : A6), ok b1 b2 b3 b4 b5 b6 → μ b1 b2 b3 b4 b5 b6 < μ a1 a2 a3 a4 a5 a6 → post' (val b1 b2 b3 b4 b5 b6) → W d post' b1 b2 b3 b4 b5 b6) → W (d + 1) post a1 a2 a3 a4 a5 a6) :
    ∀ (d : Nat) (post : ρ → Prop) (a1 : A1) (a2 : A2) (a3 : A3) (a4 : A4) (a5 : A5) (a6 : A6), ok a1 a2 a3 a4 a5 a6 → μ a1 a2 a3 a4 a5 a6 < d → post (val a1 a2 a3 a4 a5 a6) → W d post a1 a2 a3 a4 a5 a6 := by
  intro d
  induction d with
  | zero => intro post a1 a2 a3 a4 a5 a6 _ h; omega
  | succ d ih =>
    intro post a1 a2 a3 a4 a5 a6 ho hm hp
    exact hs d post a1 a2 a3 a4 a5 a6 ho hp (fun post' b1 b2 b3 b4 b5 b6 ho' hm' hp' => ih post' b1 b2 b3 b4 b5 b6 ho' (by omega) hp')
theorem rec_p {σ ρ : Type} (W : Nat → (ρ → Prop) → σ → Prop) (ok : σ → Prop) (μ : σ → Nat) (val : σ → ρ)
    (hs : ∀ d s post, ok s → post (val s) → (∀ s' post', ok s' → μ s' < μ s → post' (val s') → W d post' s') → W (d + 1) post s) :
    ∀ d s post, ok s → μ s < d → post (val s) → W d post s := by
  intro d
  induction d with
  | zero => intro s post _ h; omega
  | succ d ih =>
    intro s post ho hm hp
    exact hs d s post ho hp (fun s' post' ho' hm' hp' => ih s' post' ho' (by omega) hp')
theorem rec_q {σ ρ : Type} (W : Nat → (ρ → Prop) → σ → Prop) (ok : σ → Prop) (μ : σ → Nat) (Q : σ → ρ → Prop)
    (hs : ∀ d s post, ok s → (∀ r, Q s r → post r) → (∀ s' post', ok s' → μ s' < μ s → (∀ r, Q s' r → post' r) → W d post' s') → W (d + 1) post s) :
    ∀ d s post, ok s → μ s < d → (∀ r, Q s r → post r) → W d post s := by
  intro d
  induction d with
  | zero => intro s post _ h; omega
  | succ d ih =>
    intro s post ho hm hp
    exact hs d s post ho hp (fun s' post' ho' hm' hp' => ih s' post' ho' (by omega) hp')
def bx_sum (f : Nat → Int32) : Nat → Int32
  | 0 => 0
  | n + 1 => bx_sum f n + f n
theorem ek_u {A : Prop} {B : Nat → Prop} {k N : Nat} (hk : k < N) (h : B k) : (some k = none → A) ∧ (∀ y : Nat, some k = some y → (y < N ∧ B y)) :=
  ⟨fun z => absurd z (Option.some_ne_none k), fun _ e => (by cases e; exact ⟨hk, h⟩)⟩
theorem ek_nu {A : Prop} {B : Nat → Prop} (h : A) : ((none : Option Nat) = none → A) ∧ (∀ y : Nat, (none : Option Nat) = some y → B y) :=
  ⟨fun _ => h, fun _ e => (by cases e)⟩
theorem ek_if {c d A B : Prop} (e : c ↔ d) (f : d → A) (g : ¬ d → B) : (c → A) ∧ (¬ c → B) :=
  ⟨fun z => f (e.mp z), fun z => g (fun y => z (e.mpr y))⟩
theorem ek_v {α : Sort _} {P : α → Prop} {a b : α} (e : a = b) (h : P b) : P a := e ▸ h
theorem co_some {x : Option Nat} {A : Prop} {B : Nat → Prop} (i : Nat) (h : B i) (hx : x = some i := by rfl) : (x = none → A) ∧ (∀ y : Nat, x = some y → B y) := by
  subst hx
  exact ⟨fun e => (nomatch e), fun y e => Option.some.inj e ▸ h⟩
theorem co_none {x : Option Nat} {A : Prop} {B : Nat → Prop} (h : A) (hx : x = none := by rfl) : (x = none → A) ∧ (∀ y : Nat, x = some y → B y) := by
  subst hx
  exact ⟨fun _ => h, fun y e => (nomatch e)⟩
theorem co_any {x : Option Nat} {A : Prop} {B : Nat → Prop} (hn : x = none → A) (hs : ∀ i : Nat, x = some i → B i) : (x = none → A) ∧ (∀ y : Nat, x = some y → B y) := ⟨hn, hs⟩
theorem co_2 {P : Nat → Prop} (h0 : P 0) (h1 : P 1) {i : Nat} (hi : i < 2) : P i :=
  match i, hi with
  | 0, _ => h0
  | 1, _ => h1
theorem co_3 {P : Nat → Prop} (h0 : P 0) (h1 : P 1) (h2 : P 2) {i : Nat} (hi : i < 3) : P i :=
  match i, hi with
  | 0, _ => h0
  | 1, _ => h1
  | 2, _ => h2
theorem co_4 {P : Nat → Prop} (h0 : P 0) (h1 : P 1) (h2 : P 2) (h3 : P 3) {i : Nat} (hi : i < 4) : P i :=
  match i, hi with
  | 0, _ => h0
  | 1, _ => h1
  | 2, _ => h2
  | 3, _ => h3
theorem co_dec {N : Nat} {P : Nat → Prop} [DecidablePred P] (h : (List.range N).all (fun i => decide (P i)) = true) {i : Nat} (hi : i < N) : P i := by
  have := List.all_eq_true.mp h i (List.mem_range.mpr hi)
  exact of_decide_eq_true this
theorem co_tab {α : Type} {l : List α} {d : α} {P : α → Prop} (h : ∀ a, a ∈ l → P a) {i : Nat} (hi : i < l.length) : P (l.getD i d) := by
  rw [List.getD_eq_getElem?_getD, List.getElem?_eq_getElem hi]
  exact h _ (List.getElem_mem hi)
theorem pk_mu {x : Int32} {L : Nat} (h0 : ¬ x < 0) (h : ¬ nI L ≤ x) (hL : L < 2 ^ 31) : ∃ j : Nat, j < L ∧ x = nI j ∧ x + 1 = nI (j + 1) ∧ x.toNatClampNeg = j ∧ L - (x + 1).toNatClampNeg < L - x.toNatClampNeg := by
  obtain ⟨j, hj, rfl⟩ := nI_of h0
  have hl : j < L := Nat.not_le.mp fun q => h (nI_le q hj)
  refine ⟨j, hl, rfl, nI_1 j, nI_clamp hj, ?_⟩
  rw [nI_1, nI_clamp (by omega), nI_clamp hj]
  omega
theorem op_s {α : Type} {r : Option α} {A : Prop} {B : α → Prop} {y : α} (h : r = some y) (b : B y) : (r = none → A) ∧ ∀ z, r = some z → B z :=
  ⟨fun e => (by rw [h] at e; cases e), fun z e => (by rw [h] at e; cases e; exact b)⟩
def l_holds {α : Type} (a : Nat → Option Nat) (LP : List Nat) (p : Nat → α) (c : Nat) (b : Nat → α) : Prop :=
  ∀ j, j < c → ∃ y, a j = some y ∧ y ∈ LP ∧ p y = b j
theorem l_holds_0 {α : Type} {a : Nat → Option Nat} {LP : List Nat} {p b : Nat → α} : l_holds a LP p 0 b := fun j h => absurd h (Nat.not_lt_zero j)
theorem l_in_new (LP : List Nat) (q : Nat) : q ∈ LP ++ [q] := List.mem_append.mpr (Or.inr (List.mem_singleton.mpr rfl))
def l_sum (b : Nat → Int32) : Nat → Int32
  | 0 => 0
  | k + 1 => l_sum b k + b k
theorem sb_shr0 (x : Int32) : x >>> ((0 : Int32) &&& 31) = x := by
  rw [show ((0 : Int32) &&& 31) = 0 by decide]
  simp
theorem sb_shl0 (x : Int32) : x <<< ((0 : Int32) &&& 31) = x := by
  rw [show ((0 : Int32) &&& 31) = 0 by decide]
  simp
theorem sb_cl0 : (0 : Int32).toNatClampNeg = 0 := by decide
theorem sb_m1 {p : Nat} (h : 0 < p) : nI p + (-1) = nI (p - 1) := by
  obtain ⟨q, rfl⟩ : ∃ q, p = q + 1 := ⟨p - 1, by omega⟩
  exact pk_m1 q
def sb_b (c : Nat) : Int32 := (nI c).toInt8.toInt32
theorem sb_byte : ∀ c, c < 256 → sb_b c &&& 255 = nI c ∧ ((nI c).toUInt32 % 65536).toInt32 = nI c ∧ nI c ≤ 255 := by decide +kernel
def sb_Fit (a : Nat → Int32) : Prop := ∀ j, fits .byte (.int (a j)) = true
def sb_Lat (t : Nat → Nat) (n : Nat) (a : Nat → Int32) : Prop := ∀ j, j < n → t j < 256 ∧ a j = sb_b (t j)
theorem sb_fitB (c : Nat) : fits .byte (.int (sb_b c)) = true := pk_fb _
theorem sb_fit0 : sb_Fit (fun _ => 0) := fun _ => by
  show fits .byte (.int 0) = true
  decide
theorem sb_fitU {a : Nat → Int32} {k : Nat} {x : Int32} (h : sb_Fit a) (hx : fits .byte (.int x) = true) : sb_Fit (upd a k x) := by
  intro j
  by_cases e : j = k
  · subst e
    rw [pk_us]
    exact hx
  · rw [pk_un e]
    exact h j
def sb_cat (t : Nat → Nat) (n : Nat) (s : Nat → Nat) : Nat → Nat := fun j => if j < n then t j else s (j - n)
theorem sb_cat_lo {t s : Nat → Nat} {n j : Nat} (h : j < n) : sb_cat t n s j = t j := if_pos h
theorem sb_cat_hi {t s : Nat → Nat} {n j : Nat} : sb_cat t n s (n + j) = s j := by
  show (if n + j < n then t (n + j) else s (n + j - n)) = s j
  rw [if_neg (by omega), Nat.add_sub_cancel_left]
theorem sb_latPut {t s : Nat → Nat} {n w : Nat} {a a' : Nat → Int32} (h : sb_Lat t n a) (hk : ∀ j, j < n → a' j = a j) (hs : ∀ i, i < w → s i < 256 ∧ a' (n + i) = sb_b (s i)) : sb_Lat (sb_cat t n s) (n + w) a' := by
  intro j hj
  by_cases e : j < n
  · rw [sb_cat_lo e, hk j e]
    exact h j e
  · obtain ⟨i, rfl⟩ : ∃ i, j = n + i := ⟨j - n, by omega⟩
    rw [sb_cat_hi]
    exact hs i (by omega)
theorem sb_latKeep {t : Nat → Nat} {n : Nat} {a a' : Nat → Int32} (h : sb_Lat t n a) (hk : ∀ j, j < n → a' j = a j) : sb_Lat t n a' := fun j hj => by
  rw [hk j hj]
  exact h j hj
def sb_cap (q m : Nat) : Nat := if q ≤ m then m else if 2 * m + 2 < q then q else 2 * m + 2
def sb_Room (q m mc ms : Nat) : Prop := q ≤ m ∨ (1 ≤ mc ∧ sb_cap q m ≤ ms ∧ sb_cap q m ≤ 65536)
theorem sb_cap_ge (q m : Nat) : q ≤ sb_cap q m := by
  unfold sb_cap
  split
  · omega
  · split <;> omega
theorem sb_cap_gem (q m : Nat) : m ≤ sb_cap q m := by
  unfold sb_cap
  split
  · omega
  · split <;> omega
theorem sb_cap_le {q m mc ms : Nat} (hm : m ≤ 65536) (hr : sb_Room q m mc ms) : sb_cap q m ≤ 65536 := by
  rcases hr with h | h
  · rw [sb_cap, if_pos h]
    exact hm
  · exact h.2.2
theorem sb_at {P : Int32 → Prop} {x y : Int32} (e : x = y) (h : P y) : P x := e ▸ h
def sb_dg (w : Nat) : Nat := if w < 10 then 1 else if w < 100 then 2 else if w < 1000 then 3 else if w < 10000 then 4 else if w < 100000 then 5 else if w < 1000000 then 6 else if w < 10000000 then 7 else if w < 100000000 then 8 else if w < 1000000000 then 9 else 10
def sb_dec (v : Nat) : Nat → Nat := fun i => 48 + v / 10 ^ (sb_dg v - 1 - i) % 10
theorem sb_dg_in (w : Nat) : 1 ≤ sb_dg w ∧ sb_dg w ≤ 10 := by
  unfold sb_dg
  constructor <;> (repeat' split) <;> omega
theorem sb_dg100 {w : Nat} (h : 100 ≤ w) (hw : w < 2 ^ 31) : sb_dg w = sb_dg (w / 100) + 2 := by
  rw [sb_dg, sb_dg, if_neg (show ¬ w < 10 by omega), if_neg (show ¬ w < 100 by omega)]
  by_cases h3 : w < 1000
  · rw [if_pos h3, if_pos (show w / 100 < 10 by omega)]
  rw [if_neg h3, if_neg (show ¬ w / 100 < 10 by omega)]
  by_cases h4 : w < 10000
  · rw [if_pos h4, if_pos (show w / 100 < 100 by omega)]
  rw [if_neg h4, if_neg (show ¬ w / 100 < 100 by omega)]
  by_cases h5 : w < 100000
  · rw [if_pos h5, if_pos (show w / 100 < 1000 by omega)]
  rw [if_neg h5, if_neg (show ¬ w / 100 < 1000 by omega)]
  by_cases h6 : w < 1000000
  · rw [if_pos h6, if_pos (show w / 100 < 10000 by omega)]
  rw [if_neg h6, if_neg (show ¬ w / 100 < 10000 by omega)]
  by_cases h7 : w < 10000000
  · rw [if_pos h7, if_pos (show w / 100 < 100000 by omega)]
  rw [if_neg h7, if_neg (show ¬ w / 100 < 100000 by omega)]
  by_cases h8 : w < 100000000
  · rw [if_pos h8, if_pos (show w / 100 < 1000000 by omega)]
  rw [if_neg h8, if_neg (show ¬ w / 100 < 1000000 by omega)]
  by_cases h9 : w < 1000000000
  · rw [if_pos h9, if_pos (show w / 100 < 10000000 by omega)]
  rw [if_neg h9, if_neg (show ¬ w / 100 < 10000000 by omega)]
  rw [if_pos (show w / 100 < 100000000 by omega)]
theorem sb_negT {w : Nat} (h : w < 2 ^ 31) : (-nI w).toInt = -(w : Int) := by
  rw [Int32.toInt_neg, nI_toInt h]
  exact Int.bmod_eq_of_le (by omega) (by omega)
theorem sb_nle {a b : Nat} (ha : a < 2 ^ 31) (hb : b < 2 ^ 31) : -nI a ≤ -nI b ↔ b ≤ a := by
  rw [Int32.le_iff_toInt_le, sb_negT ha, sb_negT hb]
  omega
theorem sb_nlt {a b : Nat} (ha : a < 2 ^ 31) (hb : b < 2 ^ 31) : -nI a < -nI b ↔ b < a := by
  rw [Int32.lt_iff_toInt_lt, sb_negT ha, sb_negT hb]
  omega
theorem sb_cmp {A B : Prop} {x : Int32} (v c : Nat) (f : c ≤ v → A) (g : v < c → B) (hv : v < 2 ^ 31) (hx : x = -nI c := by rfl) (hc : c < 2 ^ 31 := by omega) : (-nI v ≤ x → A) ∧ (¬ -nI v ≤ x → B) := by
  subst hx
  rw [sb_nle hv hc]
  exact ⟨f, fun z => g (by omega)⟩
theorem sb_ndiv {w : Nat} (hw : w < 2 ^ 31) : (-nI w) / 100 = -nI (w / 100) := by
  apply Int32.toInt_inj.mp
  have h100 : (100 : Int32).toInt = 100 := by decide
  rw [Int32.toInt_div, sb_negT hw, h100, sb_negT (by omega), Int.neg_tdiv, Int.tdiv_eq_ediv_of_nonneg (by omega), Int.bmod_eq_of_le (by omega) (by omega)]
  omega
theorem sb_nrem {w : Nat} (hw : w < 2 ^ 31) : (-nI (w / 100)) * 100 - (-nI w) = nI (w % 100) := by
  have h := pk_rem (a := w) (d := 100) hw (by decide) (by decide)
  rw [pk_div hw (by decide) (by decide)] at h
  rw [← h]
  show (-nI (w / 100)) * nI 100 - (-nI w) = nI w - nI (w / 100) * nI 100
  rw [Int32.neg_mul, Int32.sub_neg, Int32.add_comm, ← Int32.sub_eq_add_neg]
/-! rows on bits, shifts and unsigned numbers, to paste: each family out of a closed proof of our own, whole with what it rests on; each by itself clean at Lean in its own claim (generation 39, form 5). Take a family whole -/
/-! ===== Int32 by its bits: bt x i ===== -/
def bt (x : Int32) (i : Nat) : Bool := x.toBitVec.getLsbD i
theorem b_ext {x y : Int32} (h : ∀ i, i < 32 → bt x i = bt y i) : x = y := Int32.toBitVec_inj.mp (BitVec.eq_of_getLsbD_eq (fun i hi => h i hi))
theorem b_or (x y : Int32) (i : Nat) : bt (x ||| y) i = (bt x i || bt y i) := by unfold bt; rw [Int32.toBitVec_or, BitVec.getLsbD_or]
theorem b_and (x y : Int32) (i : Nat) : bt (x &&& y) i = (bt x i && bt y i) := by unfold bt; rw [Int32.toBitVec_and, BitVec.getLsbD_and]
theorem b_xor (x y : Int32) (i : Nat) : bt (x ^^^ y) i = (bt x i ^^ bt y i) := by unfold bt; rw [Int32.toBitVec_xor, BitVec.getLsbD_xor]
theorem b_big {x : Int32} {i : Nat} (h : 32 ≤ i) : bt x i = false := BitVec.getLsbD_of_ge _ _ h
theorem b_255 (i : Nat) : bt 255 i = decide (i < 8) := by
  rcases Nat.lt_or_ge i 32 with h | h
  · exact (by decide +kernel : ∀ i, i < 32 → bt 255 i = decide (i < 8)) i h
  · rw [b_big h, decide_eq_false (by omega)]
theorem b_65535 (i : Nat) : bt 65535 i = decide (i < 16) := by
  rcases Nat.lt_or_ge i 32 with h | h
  · exact (by decide +kernel : ∀ i, i < 32 → bt 65535 i = decide (i < 16)) i h
  · rw [b_big h, decide_eq_false (by omega)]
theorem b_m1 : ∀ i, i < 32 → bt (-1) i = true := by decide +kernel
theorem b_0 (i : Nat) : bt 0 i = false := BitVec.getLsbD_zero
theorem s_l : ∀ n, n < 32 → ((nI n &&& 31).toBitVec.smod 32).toNat = n := by decide +kernel
theorem s_u : ∀ n, n < 32 → (((nI n).toUInt32 &&& Int32.toUInt32 31).toBitVec % 32).toNat = n := by decide +kernel
theorem b_shl (n : Nat) (hn : n < 32) (x : Int32) {i : Nat} (hi : i < 32) : bt (x <<< (nI n &&& 31)) i = (decide (n ≤ i) && bt x (i - n)) := by
  unfold bt
  rw [Int32.toBitVec_shiftLeft]
  show (x.toBitVec <<< ((nI n &&& 31).toBitVec.smod 32).toNat).getLsbD i = _
  rw [s_l n hn, BitVec.getLsbD_shiftLeft]
  rcases Nat.lt_or_ge i n with h | h
  · simp [h, Nat.not_le.mpr h]
  · simp [hi, h, Nat.not_lt.mpr h]
theorem b_ushr (n : Nat) (hn : n < 32) (x : Int32) (i : Nat) : bt ((x.toUInt32 >>> ((nI n).toUInt32 &&& Int32.toUInt32 31)).toInt32) i = bt x (n + i) := by
  show (x.toUInt32 >>> ((nI n).toUInt32 &&& Int32.toUInt32 31)).toBitVec.getLsbD i = x.toUInt32.toBitVec.getLsbD (n + i)
  rw [UInt32.toBitVec_shiftRight]
  show (x.toUInt32.toBitVec >>> (((nI n).toUInt32 &&& Int32.toUInt32 31).toBitVec % 32).toNat).getLsbD i = _
  rw [s_u n hn, BitVec.getLsbD_ushiftRight]
theorem b_sshr (n : Nat) (hn : n < 32) (x : Int32) {i : Nat} (hi : i < 32) : bt (x >>> (nI n &&& 31)) i = if n + i < 32 then bt x (n + i) else bt x 31 := by
  unfold bt
  rw [Int32.toBitVec_shiftRight]
  show (x.toBitVec.sshiftRight ((nI n &&& 31).toBitVec.smod 32).toNat).getLsbD i = _
  rw [s_l n hn, BitVec.getLsbD_sshiftRight, BitVec.msb_eq_getLsbD_last]
  simp [hi]
theorem b_shl8 (x : Int32) {i : Nat} (hi : i < 32) : bt (x <<< ((8 : Int32) &&& 31)) i = (decide (8 ≤ i) && bt x (i - 8)) := b_shl 8 (by omega) x hi
theorem b_shl16 (x : Int32) {i : Nat} (hi : i < 32) : bt (x <<< ((16 : Int32) &&& 31)) i = (decide (16 ≤ i) && bt x (i - 16)) := b_shl 16 (by omega) x hi
theorem b_shl24 (x : Int32) {i : Nat} (hi : i < 32) : bt (x <<< ((24 : Int32) &&& 31)) i = (decide (24 ≤ i) && bt x (i - 24)) := b_shl 24 (by omega) x hi
theorem b_sshr8 (x : Int32) {i : Nat} (hi : i < 32) : bt (x >>> ((8 : Int32) &&& 31)) i = if 8 + i < 32 then bt x (8 + i) else bt x 31 := b_sshr 8 (by omega) x hi
end
section
def xg_writesLeft (u : SX) : Int32 := u.1
def xg_half (u : SX) : Int32 := u.2.1
def xg_grouped (u : SX) : Int32 := u.2.2.1
def xg_upKey (u : SX) : Int32 := u.2.2.2.1
def xg_upNode (u : SX) : Int32 := u.2.2.2.2.1
def xg_waiting (u : SX) : Int32 := u.2.2.2.2.2.1
def xg_wrong (u : SX) : Int32 := u.2.2.2.2.2.2.1
def xg_seenNodes (u : SX) : Int32 := u.2.2.2.2.2.2.2.1
def xg_seenKeys (u : SX) : Int32 := u.2.2.2.2.2.2.2.2.1
def xg_disk (u : SX) : Nat → Int32 := u.2.2.2.2.2.2.2.2.2.1
def xg_images (u : SX) : Nat → Int32 := u.2.2.2.2.2.2.2.2.2.2.1
def xg_rows (u : SX) : Nat → Int32 := u.2.2.2.2.2.2.2.2.2.2.2.1
def xg_anchors (u : SX) : Nat → Int32 := u.2.2.2.2.2.2.2.2.2.2.2.2.1
def xg_copies (u : SX) : Nat → Int32 := u.2.2.2.2.2.2.2.2.2.2.2.2.2.1
def xg_loaded (u : SX) : Nat → Int32 := u.2.2.2.2.2.2.2.2.2.2.2.2.2.2.1
def xg_changed (u : SX) : Nat → Int32 := u.2.2.2.2.2.2.2.2.2.2.2.2.2.2.2.1
def xg_imageOf (u : SX) : Nat → Int32 := u.2.2.2.2.2.2.2.2.2.2.2.2.2.2.2.2.1
def xg_rowAt (u : SX) : Nat → Int32 := u.2.2.2.2.2.2.2.2.2.2.2.2.2.2.2.2.2.1
def xg_rowsUsed (u : SX) : Nat → Int32 := u.2.2.2.2.2.2.2.2.2.2.2.2.2.2.2.2.2.2.1
def xg_imageAt (u : SX) : Nat → Int32 := u.2.2.2.2.2.2.2.2.2.2.2.2.2.2.2.2.2.2.2.1
def xg_imagesUsed (u : SX) : Nat → Int32 := u.2.2.2.2.2.2.2.2.2.2.2.2.2.2.2.2.2.2.2.2.1
def xg_nextSaving (u : SX) : Nat → Int32 := u.2.2.2.2.2.2.2.2.2.2.2.2.2.2.2.2.2.2.2.2.2.1
def xg_anchorNumber (u : SX) : Nat → Int32 := u.2.2.2.2.2.2.2.2.2.2.2.2.2.2.2.2.2.2.2.2.2.2.1
def xg_selected (u : SX) : Nat → Int32 := u.2.2.2.2.2.2.2.2.2.2.2.2.2.2.2.2.2.2.2.2.2.2.2.1
def xg_viewLength (u : SX) : Nat → Int32 := u.2.2.2.2.2.2.2.2.2.2.2.2.2.2.2.2.2.2.2.2.2.2.2.2.1
def xg_view (u : SX) : Nat → Int32 := u.2.2.2.2.2.2.2.2.2.2.2.2.2.2.2.2.2.2.2.2.2.2.2.2.2.1
def xg_group (u : SX) : Nat → Int32 := u.2.2.2.2.2.2.2.2.2.2.2.2.2.2.2.2.2.2.2.2.2.2.2.2.2.2.1
def xg_wayNode (u : SX) : Nat → Int32 := u.2.2.2.2.2.2.2.2.2.2.2.2.2.2.2.2.2.2.2.2.2.2.2.2.2.2.2.1
def xg_waySlot (u : SX) : Nat → Int32 := u.2.2.2.2.2.2.2.2.2.2.2.2.2.2.2.2.2.2.2.2.2.2.2.2.2.2.2.2.1
def xg_wideKey (u : SX) : Nat → Int32 := u.2.2.2.2.2.2.2.2.2.2.2.2.2.2.2.2.2.2.2.2.2.2.2.2.2.2.2.2.2.1
def xg_wideItem (u : SX) : Nat → Int32 := u.2.2.2.2.2.2.2.2.2.2.2.2.2.2.2.2.2.2.2.2.2.2.2.2.2.2.2.2.2.2.1
def xg_walkNode (u : SX) : Nat → Int32 := u.2.2.2.2.2.2.2.2.2.2.2.2.2.2.2.2.2.2.2.2.2.2.2.2.2.2.2.2.2.2.2.1
def xg_walkLevel (u : SX) : Nat → Int32 := u.2.2.2.2.2.2.2.2.2.2.2.2.2.2.2.2.2.2.2.2.2.2.2.2.2.2.2.2.2.2.2.2.1
def xg_walkLow (u : SX) : Nat → Int32 := u.2.2.2.2.2.2.2.2.2.2.2.2.2.2.2.2.2.2.2.2.2.2.2.2.2.2.2.2.2.2.2.2.2.1
def xg_walkHigh (u : SX) : Nat → Int32 := u.2.2.2.2.2.2.2.2.2.2.2.2.2.2.2.2.2.2.2.2.2.2.2.2.2.2.2.2.2.2.2.2.2.2
def xs_writesLeft (u : SX) (v : Int32) : SX := (v, xg_half u, xg_grouped u, xg_upKey u, xg_upNode u, xg_waiting u, xg_wrong u, xg_seenNodes u, xg_seenKeys u, xg_disk u, xg_images u, xg_rows u, xg_anchors u, xg_copies u, xg_loaded u, xg_changed u, xg_imageOf u, xg_rowAt u, xg_rowsUsed u, xg_imageAt u, xg_imagesUsed u, xg_nextSaving u, xg_anchorNumber u, xg_selected u, xg_viewLength u, xg_view u, xg_group u, xg_wayNode u, xg_waySlot u, xg_wideKey u, xg_wideItem u, xg_walkNode u, xg_walkLevel u, xg_walkLow u, xg_walkHigh u)
def xs_half (u : SX) (v : Int32) : SX := (xg_writesLeft u, v, xg_grouped u, xg_upKey u, xg_upNode u, xg_waiting u, xg_wrong u, xg_seenNodes u, xg_seenKeys u, xg_disk u, xg_images u, xg_rows u, xg_anchors u, xg_copies u, xg_loaded u, xg_changed u, xg_imageOf u, xg_rowAt u, xg_rowsUsed u, xg_imageAt u, xg_imagesUsed u, xg_nextSaving u, xg_anchorNumber u, xg_selected u, xg_viewLength u, xg_view u, xg_group u, xg_wayNode u, xg_waySlot u, xg_wideKey u, xg_wideItem u, xg_walkNode u, xg_walkLevel u, xg_walkLow u, xg_walkHigh u)
def xs_grouped (u : SX) (v : Int32) : SX := (xg_writesLeft u, xg_half u, v, xg_upKey u, xg_upNode u, xg_waiting u, xg_wrong u, xg_seenNodes u, xg_seenKeys u, xg_disk u, xg_images u, xg_rows u, xg_anchors u, xg_copies u, xg_loaded u, xg_changed u, xg_imageOf u, xg_rowAt u, xg_rowsUsed u, xg_imageAt u, xg_imagesUsed u, xg_nextSaving u, xg_anchorNumber u, xg_selected u, xg_viewLength u, xg_view u, xg_group u, xg_wayNode u, xg_waySlot u, xg_wideKey u, xg_wideItem u, xg_walkNode u, xg_walkLevel u, xg_walkLow u, xg_walkHigh u)
def xs_upKey (u : SX) (v : Int32) : SX := (xg_writesLeft u, xg_half u, xg_grouped u, v, xg_upNode u, xg_waiting u, xg_wrong u, xg_seenNodes u, xg_seenKeys u, xg_disk u, xg_images u, xg_rows u, xg_anchors u, xg_copies u, xg_loaded u, xg_changed u, xg_imageOf u, xg_rowAt u, xg_rowsUsed u, xg_imageAt u, xg_imagesUsed u, xg_nextSaving u, xg_anchorNumber u, xg_selected u, xg_viewLength u, xg_view u, xg_group u, xg_wayNode u, xg_waySlot u, xg_wideKey u, xg_wideItem u, xg_walkNode u, xg_walkLevel u, xg_walkLow u, xg_walkHigh u)
def xs_upNode (u : SX) (v : Int32) : SX := (xg_writesLeft u, xg_half u, xg_grouped u, xg_upKey u, v, xg_waiting u, xg_wrong u, xg_seenNodes u, xg_seenKeys u, xg_disk u, xg_images u, xg_rows u, xg_anchors u, xg_copies u, xg_loaded u, xg_changed u, xg_imageOf u, xg_rowAt u, xg_rowsUsed u, xg_imageAt u, xg_imagesUsed u, xg_nextSaving u, xg_anchorNumber u, xg_selected u, xg_viewLength u, xg_view u, xg_group u, xg_wayNode u, xg_waySlot u, xg_wideKey u, xg_wideItem u, xg_walkNode u, xg_walkLevel u, xg_walkLow u, xg_walkHigh u)
def xs_waiting (u : SX) (v : Int32) : SX := (xg_writesLeft u, xg_half u, xg_grouped u, xg_upKey u, xg_upNode u, v, xg_wrong u, xg_seenNodes u, xg_seenKeys u, xg_disk u, xg_images u, xg_rows u, xg_anchors u, xg_copies u, xg_loaded u, xg_changed u, xg_imageOf u, xg_rowAt u, xg_rowsUsed u, xg_imageAt u, xg_imagesUsed u, xg_nextSaving u, xg_anchorNumber u, xg_selected u, xg_viewLength u, xg_view u, xg_group u, xg_wayNode u, xg_waySlot u, xg_wideKey u, xg_wideItem u, xg_walkNode u, xg_walkLevel u, xg_walkLow u, xg_walkHigh u)
def xs_wrong (u : SX) (v : Int32) : SX := (xg_writesLeft u, xg_half u, xg_grouped u, xg_upKey u, xg_upNode u, xg_waiting u, v, xg_seenNodes u, xg_seenKeys u, xg_disk u, xg_images u, xg_rows u, xg_anchors u, xg_copies u, xg_loaded u, xg_changed u, xg_imageOf u, xg_rowAt u, xg_rowsUsed u, xg_imageAt u, xg_imagesUsed u, xg_nextSaving u, xg_anchorNumber u, xg_selected u, xg_viewLength u, xg_view u, xg_group u, xg_wayNode u, xg_waySlot u, xg_wideKey u, xg_wideItem u, xg_walkNode u, xg_walkLevel u, xg_walkLow u, xg_walkHigh u)
def xs_seenNodes (u : SX) (v : Int32) : SX := (xg_writesLeft u, xg_half u, xg_grouped u, xg_upKey u, xg_upNode u, xg_waiting u, xg_wrong u, v, xg_seenKeys u, xg_disk u, xg_images u, xg_rows u, xg_anchors u, xg_copies u, xg_loaded u, xg_changed u, xg_imageOf u, xg_rowAt u, xg_rowsUsed u, xg_imageAt u, xg_imagesUsed u, xg_nextSaving u, xg_anchorNumber u, xg_selected u, xg_viewLength u, xg_view u, xg_group u, xg_wayNode u, xg_waySlot u, xg_wideKey u, xg_wideItem u, xg_walkNode u, xg_walkLevel u, xg_walkLow u, xg_walkHigh u)
def xs_seenKeys (u : SX) (v : Int32) : SX := (xg_writesLeft u, xg_half u, xg_grouped u, xg_upKey u, xg_upNode u, xg_waiting u, xg_wrong u, xg_seenNodes u, v, xg_disk u, xg_images u, xg_rows u, xg_anchors u, xg_copies u, xg_loaded u, xg_changed u, xg_imageOf u, xg_rowAt u, xg_rowsUsed u, xg_imageAt u, xg_imagesUsed u, xg_nextSaving u, xg_anchorNumber u, xg_selected u, xg_viewLength u, xg_view u, xg_group u, xg_wayNode u, xg_waySlot u, xg_wideKey u, xg_wideItem u, xg_walkNode u, xg_walkLevel u, xg_walkLow u, xg_walkHigh u)
def xs_disk (u : SX) (v : Nat → Int32) : SX := (xg_writesLeft u, xg_half u, xg_grouped u, xg_upKey u, xg_upNode u, xg_waiting u, xg_wrong u, xg_seenNodes u, xg_seenKeys u, v, xg_images u, xg_rows u, xg_anchors u, xg_copies u, xg_loaded u, xg_changed u, xg_imageOf u, xg_rowAt u, xg_rowsUsed u, xg_imageAt u, xg_imagesUsed u, xg_nextSaving u, xg_anchorNumber u, xg_selected u, xg_viewLength u, xg_view u, xg_group u, xg_wayNode u, xg_waySlot u, xg_wideKey u, xg_wideItem u, xg_walkNode u, xg_walkLevel u, xg_walkLow u, xg_walkHigh u)
def xs_images (u : SX) (v : Nat → Int32) : SX := (xg_writesLeft u, xg_half u, xg_grouped u, xg_upKey u, xg_upNode u, xg_waiting u, xg_wrong u, xg_seenNodes u, xg_seenKeys u, xg_disk u, v, xg_rows u, xg_anchors u, xg_copies u, xg_loaded u, xg_changed u, xg_imageOf u, xg_rowAt u, xg_rowsUsed u, xg_imageAt u, xg_imagesUsed u, xg_nextSaving u, xg_anchorNumber u, xg_selected u, xg_viewLength u, xg_view u, xg_group u, xg_wayNode u, xg_waySlot u, xg_wideKey u, xg_wideItem u, xg_walkNode u, xg_walkLevel u, xg_walkLow u, xg_walkHigh u)
def xs_rows (u : SX) (v : Nat → Int32) : SX := (xg_writesLeft u, xg_half u, xg_grouped u, xg_upKey u, xg_upNode u, xg_waiting u, xg_wrong u, xg_seenNodes u, xg_seenKeys u, xg_disk u, xg_images u, v, xg_anchors u, xg_copies u, xg_loaded u, xg_changed u, xg_imageOf u, xg_rowAt u, xg_rowsUsed u, xg_imageAt u, xg_imagesUsed u, xg_nextSaving u, xg_anchorNumber u, xg_selected u, xg_viewLength u, xg_view u, xg_group u, xg_wayNode u, xg_waySlot u, xg_wideKey u, xg_wideItem u, xg_walkNode u, xg_walkLevel u, xg_walkLow u, xg_walkHigh u)
def xs_anchors (u : SX) (v : Nat → Int32) : SX := (xg_writesLeft u, xg_half u, xg_grouped u, xg_upKey u, xg_upNode u, xg_waiting u, xg_wrong u, xg_seenNodes u, xg_seenKeys u, xg_disk u, xg_images u, xg_rows u, v, xg_copies u, xg_loaded u, xg_changed u, xg_imageOf u, xg_rowAt u, xg_rowsUsed u, xg_imageAt u, xg_imagesUsed u, xg_nextSaving u, xg_anchorNumber u, xg_selected u, xg_viewLength u, xg_view u, xg_group u, xg_wayNode u, xg_waySlot u, xg_wideKey u, xg_wideItem u, xg_walkNode u, xg_walkLevel u, xg_walkLow u, xg_walkHigh u)
def xs_copies (u : SX) (v : Nat → Int32) : SX := (xg_writesLeft u, xg_half u, xg_grouped u, xg_upKey u, xg_upNode u, xg_waiting u, xg_wrong u, xg_seenNodes u, xg_seenKeys u, xg_disk u, xg_images u, xg_rows u, xg_anchors u, v, xg_loaded u, xg_changed u, xg_imageOf u, xg_rowAt u, xg_rowsUsed u, xg_imageAt u, xg_imagesUsed u, xg_nextSaving u, xg_anchorNumber u, xg_selected u, xg_viewLength u, xg_view u, xg_group u, xg_wayNode u, xg_waySlot u, xg_wideKey u, xg_wideItem u, xg_walkNode u, xg_walkLevel u, xg_walkLow u, xg_walkHigh u)
def xs_loaded (u : SX) (v : Nat → Int32) : SX := (xg_writesLeft u, xg_half u, xg_grouped u, xg_upKey u, xg_upNode u, xg_waiting u, xg_wrong u, xg_seenNodes u, xg_seenKeys u, xg_disk u, xg_images u, xg_rows u, xg_anchors u, xg_copies u, v, xg_changed u, xg_imageOf u, xg_rowAt u, xg_rowsUsed u, xg_imageAt u, xg_imagesUsed u, xg_nextSaving u, xg_anchorNumber u, xg_selected u, xg_viewLength u, xg_view u, xg_group u, xg_wayNode u, xg_waySlot u, xg_wideKey u, xg_wideItem u, xg_walkNode u, xg_walkLevel u, xg_walkLow u, xg_walkHigh u)
def xs_changed (u : SX) (v : Nat → Int32) : SX := (xg_writesLeft u, xg_half u, xg_grouped u, xg_upKey u, xg_upNode u, xg_waiting u, xg_wrong u, xg_seenNodes u, xg_seenKeys u, xg_disk u, xg_images u, xg_rows u, xg_anchors u, xg_copies u, xg_loaded u, v, xg_imageOf u, xg_rowAt u, xg_rowsUsed u, xg_imageAt u, xg_imagesUsed u, xg_nextSaving u, xg_anchorNumber u, xg_selected u, xg_viewLength u, xg_view u, xg_group u, xg_wayNode u, xg_waySlot u, xg_wideKey u, xg_wideItem u, xg_walkNode u, xg_walkLevel u, xg_walkLow u, xg_walkHigh u)
def xs_imageOf (u : SX) (v : Nat → Int32) : SX := (xg_writesLeft u, xg_half u, xg_grouped u, xg_upKey u, xg_upNode u, xg_waiting u, xg_wrong u, xg_seenNodes u, xg_seenKeys u, xg_disk u, xg_images u, xg_rows u, xg_anchors u, xg_copies u, xg_loaded u, xg_changed u, v, xg_rowAt u, xg_rowsUsed u, xg_imageAt u, xg_imagesUsed u, xg_nextSaving u, xg_anchorNumber u, xg_selected u, xg_viewLength u, xg_view u, xg_group u, xg_wayNode u, xg_waySlot u, xg_wideKey u, xg_wideItem u, xg_walkNode u, xg_walkLevel u, xg_walkLow u, xg_walkHigh u)
def xs_rowAt (u : SX) (v : Nat → Int32) : SX := (xg_writesLeft u, xg_half u, xg_grouped u, xg_upKey u, xg_upNode u, xg_waiting u, xg_wrong u, xg_seenNodes u, xg_seenKeys u, xg_disk u, xg_images u, xg_rows u, xg_anchors u, xg_copies u, xg_loaded u, xg_changed u, xg_imageOf u, v, xg_rowsUsed u, xg_imageAt u, xg_imagesUsed u, xg_nextSaving u, xg_anchorNumber u, xg_selected u, xg_viewLength u, xg_view u, xg_group u, xg_wayNode u, xg_waySlot u, xg_wideKey u, xg_wideItem u, xg_walkNode u, xg_walkLevel u, xg_walkLow u, xg_walkHigh u)
def xs_rowsUsed (u : SX) (v : Nat → Int32) : SX := (xg_writesLeft u, xg_half u, xg_grouped u, xg_upKey u, xg_upNode u, xg_waiting u, xg_wrong u, xg_seenNodes u, xg_seenKeys u, xg_disk u, xg_images u, xg_rows u, xg_anchors u, xg_copies u, xg_loaded u, xg_changed u, xg_imageOf u, xg_rowAt u, v, xg_imageAt u, xg_imagesUsed u, xg_nextSaving u, xg_anchorNumber u, xg_selected u, xg_viewLength u, xg_view u, xg_group u, xg_wayNode u, xg_waySlot u, xg_wideKey u, xg_wideItem u, xg_walkNode u, xg_walkLevel u, xg_walkLow u, xg_walkHigh u)
def xs_imageAt (u : SX) (v : Nat → Int32) : SX := (xg_writesLeft u, xg_half u, xg_grouped u, xg_upKey u, xg_upNode u, xg_waiting u, xg_wrong u, xg_seenNodes u, xg_seenKeys u, xg_disk u, xg_images u, xg_rows u, xg_anchors u, xg_copies u, xg_loaded u, xg_changed u, xg_imageOf u, xg_rowAt u, xg_rowsUsed u, v, xg_imagesUsed u, xg_nextSaving u, xg_anchorNumber u, xg_selected u, xg_viewLength u, xg_view u, xg_group u, xg_wayNode u, xg_waySlot u, xg_wideKey u, xg_wideItem u, xg_walkNode u, xg_walkLevel u, xg_walkLow u, xg_walkHigh u)
def xs_imagesUsed (u : SX) (v : Nat → Int32) : SX := (xg_writesLeft u, xg_half u, xg_grouped u, xg_upKey u, xg_upNode u, xg_waiting u, xg_wrong u, xg_seenNodes u, xg_seenKeys u, xg_disk u, xg_images u, xg_rows u, xg_anchors u, xg_copies u, xg_loaded u, xg_changed u, xg_imageOf u, xg_rowAt u, xg_rowsUsed u, xg_imageAt u, v, xg_nextSaving u, xg_anchorNumber u, xg_selected u, xg_viewLength u, xg_view u, xg_group u, xg_wayNode u, xg_waySlot u, xg_wideKey u, xg_wideItem u, xg_walkNode u, xg_walkLevel u, xg_walkLow u, xg_walkHigh u)
def xs_nextSaving (u : SX) (v : Nat → Int32) : SX := (xg_writesLeft u, xg_half u, xg_grouped u, xg_upKey u, xg_upNode u, xg_waiting u, xg_wrong u, xg_seenNodes u, xg_seenKeys u, xg_disk u, xg_images u, xg_rows u, xg_anchors u, xg_copies u, xg_loaded u, xg_changed u, xg_imageOf u, xg_rowAt u, xg_rowsUsed u, xg_imageAt u, xg_imagesUsed u, v, xg_anchorNumber u, xg_selected u, xg_viewLength u, xg_view u, xg_group u, xg_wayNode u, xg_waySlot u, xg_wideKey u, xg_wideItem u, xg_walkNode u, xg_walkLevel u, xg_walkLow u, xg_walkHigh u)
def xs_anchorNumber (u : SX) (v : Nat → Int32) : SX := (xg_writesLeft u, xg_half u, xg_grouped u, xg_upKey u, xg_upNode u, xg_waiting u, xg_wrong u, xg_seenNodes u, xg_seenKeys u, xg_disk u, xg_images u, xg_rows u, xg_anchors u, xg_copies u, xg_loaded u, xg_changed u, xg_imageOf u, xg_rowAt u, xg_rowsUsed u, xg_imageAt u, xg_imagesUsed u, xg_nextSaving u, v, xg_selected u, xg_viewLength u, xg_view u, xg_group u, xg_wayNode u, xg_waySlot u, xg_wideKey u, xg_wideItem u, xg_walkNode u, xg_walkLevel u, xg_walkLow u, xg_walkHigh u)
def xs_selected (u : SX) (v : Nat → Int32) : SX := (xg_writesLeft u, xg_half u, xg_grouped u, xg_upKey u, xg_upNode u, xg_waiting u, xg_wrong u, xg_seenNodes u, xg_seenKeys u, xg_disk u, xg_images u, xg_rows u, xg_anchors u, xg_copies u, xg_loaded u, xg_changed u, xg_imageOf u, xg_rowAt u, xg_rowsUsed u, xg_imageAt u, xg_imagesUsed u, xg_nextSaving u, xg_anchorNumber u, v, xg_viewLength u, xg_view u, xg_group u, xg_wayNode u, xg_waySlot u, xg_wideKey u, xg_wideItem u, xg_walkNode u, xg_walkLevel u, xg_walkLow u, xg_walkHigh u)
def xs_viewLength (u : SX) (v : Nat → Int32) : SX := (xg_writesLeft u, xg_half u, xg_grouped u, xg_upKey u, xg_upNode u, xg_waiting u, xg_wrong u, xg_seenNodes u, xg_seenKeys u, xg_disk u, xg_images u, xg_rows u, xg_anchors u, xg_copies u, xg_loaded u, xg_changed u, xg_imageOf u, xg_rowAt u, xg_rowsUsed u, xg_imageAt u, xg_imagesUsed u, xg_nextSaving u, xg_anchorNumber u, xg_selected u, v, xg_view u, xg_group u, xg_wayNode u, xg_waySlot u, xg_wideKey u, xg_wideItem u, xg_walkNode u, xg_walkLevel u, xg_walkLow u, xg_walkHigh u)
def xs_view (u : SX) (v : Nat → Int32) : SX := (xg_writesLeft u, xg_half u, xg_grouped u, xg_upKey u, xg_upNode u, xg_waiting u, xg_wrong u, xg_seenNodes u, xg_seenKeys u, xg_disk u, xg_images u, xg_rows u, xg_anchors u, xg_copies u, xg_loaded u, xg_changed u, xg_imageOf u, xg_rowAt u, xg_rowsUsed u, xg_imageAt u, xg_imagesUsed u, xg_nextSaving u, xg_anchorNumber u, xg_selected u, xg_viewLength u, v, xg_group u, xg_wayNode u, xg_waySlot u, xg_wideKey u, xg_wideItem u, xg_walkNode u, xg_walkLevel u, xg_walkLow u, xg_walkHigh u)
def xs_group (u : SX) (v : Nat → Int32) : SX := (xg_writesLeft u, xg_half u, xg_grouped u, xg_upKey u, xg_upNode u, xg_waiting u, xg_wrong u, xg_seenNodes u, xg_seenKeys u, xg_disk u, xg_images u, xg_rows u, xg_anchors u, xg_copies u, xg_loaded u, xg_changed u, xg_imageOf u, xg_rowAt u, xg_rowsUsed u, xg_imageAt u, xg_imagesUsed u, xg_nextSaving u, xg_anchorNumber u, xg_selected u, xg_viewLength u, xg_view u, v, xg_wayNode u, xg_waySlot u, xg_wideKey u, xg_wideItem u, xg_walkNode u, xg_walkLevel u, xg_walkLow u, xg_walkHigh u)
def xs_wayNode (u : SX) (v : Nat → Int32) : SX := (xg_writesLeft u, xg_half u, xg_grouped u, xg_upKey u, xg_upNode u, xg_waiting u, xg_wrong u, xg_seenNodes u, xg_seenKeys u, xg_disk u, xg_images u, xg_rows u, xg_anchors u, xg_copies u, xg_loaded u, xg_changed u, xg_imageOf u, xg_rowAt u, xg_rowsUsed u, xg_imageAt u, xg_imagesUsed u, xg_nextSaving u, xg_anchorNumber u, xg_selected u, xg_viewLength u, xg_view u, xg_group u, v, xg_waySlot u, xg_wideKey u, xg_wideItem u, xg_walkNode u, xg_walkLevel u, xg_walkLow u, xg_walkHigh u)
def xs_waySlot (u : SX) (v : Nat → Int32) : SX := (xg_writesLeft u, xg_half u, xg_grouped u, xg_upKey u, xg_upNode u, xg_waiting u, xg_wrong u, xg_seenNodes u, xg_seenKeys u, xg_disk u, xg_images u, xg_rows u, xg_anchors u, xg_copies u, xg_loaded u, xg_changed u, xg_imageOf u, xg_rowAt u, xg_rowsUsed u, xg_imageAt u, xg_imagesUsed u, xg_nextSaving u, xg_anchorNumber u, xg_selected u, xg_viewLength u, xg_view u, xg_group u, xg_wayNode u, v, xg_wideKey u, xg_wideItem u, xg_walkNode u, xg_walkLevel u, xg_walkLow u, xg_walkHigh u)
def xs_wideKey (u : SX) (v : Nat → Int32) : SX := (xg_writesLeft u, xg_half u, xg_grouped u, xg_upKey u, xg_upNode u, xg_waiting u, xg_wrong u, xg_seenNodes u, xg_seenKeys u, xg_disk u, xg_images u, xg_rows u, xg_anchors u, xg_copies u, xg_loaded u, xg_changed u, xg_imageOf u, xg_rowAt u, xg_rowsUsed u, xg_imageAt u, xg_imagesUsed u, xg_nextSaving u, xg_anchorNumber u, xg_selected u, xg_viewLength u, xg_view u, xg_group u, xg_wayNode u, xg_waySlot u, v, xg_wideItem u, xg_walkNode u, xg_walkLevel u, xg_walkLow u, xg_walkHigh u)
def xs_wideItem (u : SX) (v : Nat → Int32) : SX := (xg_writesLeft u, xg_half u, xg_grouped u, xg_upKey u, xg_upNode u, xg_waiting u, xg_wrong u, xg_seenNodes u, xg_seenKeys u, xg_disk u, xg_images u, xg_rows u, xg_anchors u, xg_copies u, xg_loaded u, xg_changed u, xg_imageOf u, xg_rowAt u, xg_rowsUsed u, xg_imageAt u, xg_imagesUsed u, xg_nextSaving u, xg_anchorNumber u, xg_selected u, xg_viewLength u, xg_view u, xg_group u, xg_wayNode u, xg_waySlot u, xg_wideKey u, v, xg_walkNode u, xg_walkLevel u, xg_walkLow u, xg_walkHigh u)
def xs_walkNode (u : SX) (v : Nat → Int32) : SX := (xg_writesLeft u, xg_half u, xg_grouped u, xg_upKey u, xg_upNode u, xg_waiting u, xg_wrong u, xg_seenNodes u, xg_seenKeys u, xg_disk u, xg_images u, xg_rows u, xg_anchors u, xg_copies u, xg_loaded u, xg_changed u, xg_imageOf u, xg_rowAt u, xg_rowsUsed u, xg_imageAt u, xg_imagesUsed u, xg_nextSaving u, xg_anchorNumber u, xg_selected u, xg_viewLength u, xg_view u, xg_group u, xg_wayNode u, xg_waySlot u, xg_wideKey u, xg_wideItem u, v, xg_walkLevel u, xg_walkLow u, xg_walkHigh u)
def xs_walkLevel (u : SX) (v : Nat → Int32) : SX := (xg_writesLeft u, xg_half u, xg_grouped u, xg_upKey u, xg_upNode u, xg_waiting u, xg_wrong u, xg_seenNodes u, xg_seenKeys u, xg_disk u, xg_images u, xg_rows u, xg_anchors u, xg_copies u, xg_loaded u, xg_changed u, xg_imageOf u, xg_rowAt u, xg_rowsUsed u, xg_imageAt u, xg_imagesUsed u, xg_nextSaving u, xg_anchorNumber u, xg_selected u, xg_viewLength u, xg_view u, xg_group u, xg_wayNode u, xg_waySlot u, xg_wideKey u, xg_wideItem u, xg_walkNode u, v, xg_walkLow u, xg_walkHigh u)
def xs_walkLow (u : SX) (v : Nat → Int32) : SX := (xg_writesLeft u, xg_half u, xg_grouped u, xg_upKey u, xg_upNode u, xg_waiting u, xg_wrong u, xg_seenNodes u, xg_seenKeys u, xg_disk u, xg_images u, xg_rows u, xg_anchors u, xg_copies u, xg_loaded u, xg_changed u, xg_imageOf u, xg_rowAt u, xg_rowsUsed u, xg_imageAt u, xg_imagesUsed u, xg_nextSaving u, xg_anchorNumber u, xg_selected u, xg_viewLength u, xg_view u, xg_group u, xg_wayNode u, xg_waySlot u, xg_wideKey u, xg_wideItem u, xg_walkNode u, xg_walkLevel u, v, xg_walkHigh u)
def xs_walkHigh (u : SX) (v : Nat → Int32) : SX := (xg_writesLeft u, xg_half u, xg_grouped u, xg_upKey u, xg_upNode u, xg_waiting u, xg_wrong u, xg_seenNodes u, xg_seenKeys u, xg_disk u, xg_images u, xg_rows u, xg_anchors u, xg_copies u, xg_loaded u, xg_changed u, xg_imageOf u, xg_rowAt u, xg_rowsUsed u, xg_imageAt u, xg_imagesUsed u, xg_nextSaving u, xg_anchorNumber u, xg_selected u, xg_viewLength u, xg_view u, xg_group u, xg_wayNode u, xg_waySlot u, xg_wideKey u, xg_wideItem u, xg_walkNode u, xg_walkLevel u, xg_walkLow u, v)
def xu_0 : SX := (0, 0, 0, 0, 0, 0, 0, 0, 0, fun _ => 0, fun _ => 0, fun _ => 0, fun _ => 0, fun _ => 0, fun _ => 0, fun _ => 0, fun _ => 0, fun _ => 0, fun _ => 0, fun _ => 0, fun _ => 0, fun _ => 0, fun _ => 0, fun _ => 0, fun _ => 0, fun _ => 0, fun _ => 0, fun _ => 0, fun _ => 0, fun _ => 0, fun _ => 0, fun _ => 0, fun _ => 0, fun _ => 0, fun _ => 0)
def xc_forget_5 (post : SX → Prop) (x1 : Int32) (n : Nat) (x2 : Int32) (u : SX) : Prop := wX_forget_5 post x1 (xg_writesLeft u) (xg_half u) (xg_grouped u) (xg_upKey u) (xg_upNode u) (xg_waiting u) (xg_wrong u) (xg_seenNodes u) (xg_seenKeys u) n x2 (xg_disk u) (xg_images u) (xg_rows u) (xg_anchors u) (xg_copies u) (xg_loaded u) (xg_changed u) (xg_imageOf u) (xg_rowAt u) (xg_rowsUsed u) (xg_imageAt u) (xg_imagesUsed u) (xg_nextSaving u) (xg_anchorNumber u) (xg_selected u) (xg_viewLength u) (xg_view u) (xg_group u) (xg_wayNode u) (xg_waySlot u) (xg_wideKey u) (xg_wideItem u) (xg_walkNode u) (xg_walkLevel u) (xg_walkLow u) (xg_walkHigh u)
theorem xe_forget_5 (post : SX → Prop) (x1 : Int32) (n : Nat) (x2 : Int32) (u : SX) : xc_forget_5 post x1 (n + 1) x2 u = (((((41 * x1) + 41) ≤ x2 → (post u)) ∧ (¬ ((41 * x1) + 41) ≤ x2 → (vp_in x2 164 ∧ ∀ a_loaded_4, a_loaded_4 = upd (xg_loaded u) x2.toNatClampNeg (vp_nar .boolean 0) → (vp_in x2 164 ∧ ∀ a_changed_6, a_changed_6 = upd (xg_changed u) x2.toNatClampNeg (vp_nar .boolean 0) → (vp_in x2 164 ∧ ∀ a_imageOf_8, a_imageOf_8 = upd (xg_imageOf u) x2.toNatClampNeg (-1) → (∀ x2_9, x2_9 = x2 + 1 → (xc_forget_5 post x1 n x2_9 (xg_writesLeft u, xg_half u, xg_grouped u, xg_upKey u, xg_upNode u, xg_waiting u, xg_wrong u, xg_seenNodes u, xg_seenKeys u, xg_disk u, xg_images u, xg_rows u, xg_anchors u, xg_copies u, a_loaded_4, a_changed_6, a_imageOf_8, xg_rowAt u, xg_rowsUsed u, xg_imageAt u, xg_imagesUsed u, xg_nextSaving u, xg_anchorNumber u, xg_selected u, xg_viewLength u, xg_view u, xg_group u, xg_wayNode u, xg_waySlot u, xg_wideKey u, xg_wideItem u, xg_walkNode u, xg_walkLevel u, xg_walkLow u, xg_walkHigh u))))))))) := rfl
theorem xe_forget (post : SX → Prop) (u : SX) (p0 : Int32) : wpX_forget post u p0 = (∀ x2_1, x2_1 = 41 * p0 → (∃ n5 : Nat, xc_forget_5 post p0 n5 x2_1 u)) := rfl
def xc_findAnchor_65 (post : SX → Prop) (x1 : Int32) (x2 : Int32) (u : SX) : Prop := wX_findAnchor_65 post x1 x2 (xg_writesLeft u) (xg_half u) (xg_grouped u) (xg_upKey u) (xg_upNode u) (xg_waiting u) (xg_wrong u) (xg_seenNodes u) (xg_seenKeys u) (xg_disk u) (xg_images u) (xg_rows u) (xg_anchors u) (xg_copies u) (xg_loaded u) (xg_changed u) (xg_imageOf u) (xg_rowAt u) (xg_rowsUsed u) (xg_imageAt u) (xg_imagesUsed u) (xg_nextSaving u) (xg_anchorNumber u) (xg_selected u) (xg_viewLength u) (xg_view u) (xg_group u) (xg_wayNode u) (xg_waySlot u) (xg_wideKey u) (xg_wideItem u) (xg_walkNode u) (xg_walkLevel u) (xg_walkLow u) (xg_walkHigh u)
theorem xe_findAnchor_65 (post : SX → Prop) (x1 : Int32) (x2 : Int32) (u : SX) : xc_findAnchor_65 post x1 x2 u = (vp_in x2 40 ∧ (vp_in x1 4 ∧ ∀ a_anchorNumber_44, a_anchorNumber_44 = upd (xg_anchorNumber u) x1.toNatClampNeg ((xg_anchors u) x2.toNatClampNeg) → (vp_in (x2 + 1) 40 ∧ (vp_in x1 4 ∧ ∀ a_rowAt_47, a_rowAt_47 = upd (xg_rowAt u) x1.toNatClampNeg ((xg_anchors u) (x2 + 1).toNatClampNeg) → (vp_in (x2 + 2) 40 ∧ (vp_in x1 4 ∧ ∀ a_imageAt_50, a_imageAt_50 = upd (xg_imageAt u) x1.toNatClampNeg ((xg_anchors u) (x2 + 2).toNatClampNeg) → (vp_in (x2 + 3) 40 ∧ (vp_in x1 4 ∧ ∀ a_nextSaving_53, a_nextSaving_53 = upd (xg_nextSaving u) x1.toNatClampNeg ((xg_anchors u) (x2 + 3).toNatClampNeg) → (vp_in x1 4 ∧ ∀ a_rowsUsed_55, a_rowsUsed_55 = upd (xg_rowsUsed u) x1.toNatClampNeg 0 → (vp_in x1 4 ∧ ∀ a_imagesUsed_57, a_imagesUsed_57 = upd (xg_imagesUsed u) x1.toNatClampNeg 0 → (post (xg_writesLeft u, xg_half u, xg_grouped u, xg_upKey u, xg_upNode u, xg_waiting u, xg_wrong u, xg_seenNodes u, xg_seenKeys u, xg_disk u, xg_images u, xg_rows u, xg_anchors u, xg_copies u, xg_loaded u, xg_changed u, xg_imageOf u, a_rowAt_47, a_rowsUsed_55, a_imageAt_50, a_imagesUsed_57, a_nextSaving_53, a_anchorNumber_44, xg_selected u, xg_viewLength u, xg_view u, xg_group u, xg_wayNode u, xg_waySlot u, xg_wideKey u, xg_wideItem u, xg_walkNode u, xg_walkLevel u, xg_walkLow u, xg_walkHigh u)))))))))))) := rfl
def xc_findAnchor_63 (post : SX → Prop) (x1 : Int32) (x3 : Int32) (u : SX) : Prop := wX_findAnchor_63 post x1 x3 (xg_writesLeft u) (xg_half u) (xg_grouped u) (xg_upKey u) (xg_upNode u) (xg_waiting u) (xg_wrong u) (xg_seenNodes u) (xg_seenKeys u) (xg_disk u) (xg_images u) (xg_rows u) (xg_anchors u) (xg_copies u) (xg_loaded u) (xg_changed u) (xg_imageOf u) (xg_rowAt u) (xg_rowsUsed u) (xg_imageAt u) (xg_imagesUsed u) (xg_nextSaving u) (xg_anchorNumber u) (xg_selected u) (xg_viewLength u) (xg_view u) (xg_group u) (xg_wayNode u) (xg_waySlot u) (xg_wideKey u) (xg_wideItem u) (xg_walkNode u) (xg_walkLevel u) (xg_walkLow u) (xg_walkHigh u)
theorem xe_findAnchor_63 (post : SX → Prop) (x1 : Int32) (x3 : Int32) (u : SX) : xc_findAnchor_63 post x1 x3 u = (xc_findAnchor_65 post x1 x3 u) := rfl
theorem xe_findAnchor (post : SX → Prop) (u : SX) (p0 : Int32) : wpX_findAnchor post u p0 = (wpX_forget (fun u2 => (∀ x2_37, x2_37 = 10 * p0 → (∀ x3_38, x3_38 = x2_37 + 5 → (vp_in x2_37 40 ∧ (vp_in (x2_37 + 4) 40 ∧ (((((xg_anchors u2) x2_37.toNatClampNeg) = ((xg_anchors u2) (x2_37 + 4).toNatClampNeg) → (vp_in x3_38 40 ∧ (vp_in (x3_38 + 4) 40 ∧ (((((xg_anchors u2) x3_38.toNatClampNeg) = ((xg_anchors u2) (x3_38 + 4).toNatClampNeg) → (vp_in x3_38 40 ∧ (vp_in x2_37 40 ∧ (((((xg_anchors u2) x3_38.toNatClampNeg) ≤ ((xg_anchors u2) x2_37.toNatClampNeg) → (xc_findAnchor_65 post p0 x2_37 u2)) ∧ (¬ ((xg_anchors u2) x3_38.toNatClampNeg) ≤ ((xg_anchors u2) x2_37.toNatClampNeg) → (xc_findAnchor_63 post p0 x3_38 u2))))))) ∧ (¬ ((xg_anchors u2) x3_38.toNatClampNeg) = ((xg_anchors u2) (x3_38 + 4).toNatClampNeg) → (xc_findAnchor_65 post p0 x2_37 u2))))))) ∧ (¬ ((xg_anchors u2) x2_37.toNatClampNeg) = ((xg_anchors u2) (x2_37 + 4).toNatClampNeg) → (xc_findAnchor_63 post p0 x3_38 u2))))))))) u p0) := rfl
def xc_init_210 (post : SX → Prop) (n : Nat) (x1 : Int32) (u : SX) : Prop := wX_init_210 post n x1 (xg_writesLeft u) (xg_half u) (xg_grouped u) (xg_upKey u) (xg_upNode u) (xg_waiting u) (xg_wrong u) (xg_seenNodes u) (xg_seenKeys u) (xg_disk u) (xg_images u) (xg_rows u) (xg_anchors u) (xg_copies u) (xg_loaded u) (xg_changed u) (xg_imageOf u) (xg_rowAt u) (xg_rowsUsed u) (xg_imageAt u) (xg_imagesUsed u) (xg_nextSaving u) (xg_anchorNumber u) (xg_selected u) (xg_viewLength u) (xg_view u) (xg_group u) (xg_wayNode u) (xg_waySlot u) (xg_wideKey u) (xg_wideItem u) (xg_walkNode u) (xg_walkLevel u) (xg_walkLow u) (xg_walkHigh u)
theorem xe_init_210 (post : SX → Prop) (n : Nat) (x1 : Int32) (u : SX) : xc_init_210 post (n + 1) x1 u = (((4 ≤ x1 → (post u)) ∧ (¬ 4 ≤ x1 → (vp_in (10 * x1) 40 ∧ ∀ a_anchors_3, a_anchors_3 = upd (xg_anchors u) (10 * x1).toNatClampNeg 1 → (vp_in ((10 * x1) + 3) 40 ∧ ∀ a_anchors_5, a_anchors_5 = upd a_anchors_3 ((10 * x1) + 3).toNatClampNeg 1 → (vp_in ((10 * x1) + 4) 40 ∧ ∀ a_anchors_7, a_anchors_7 = upd a_anchors_5 ((10 * x1) + 4).toNatClampNeg 1 → (wpX_findAnchor (fun u9 => (∀ x1_44, x1_44 = x1 + 1 → (xc_init_210 post n x1_44 u9))) (xs_anchors u a_anchors_7) x1))))))) := rfl
theorem xe_init (post : SX → Prop) : wpX_init post = (∃ n210 : Nat, xc_init_210 post n210 0 xu_0) := rfl
def xc_load_27 (post : SX → Prop) (x1 : Int32) (x3 : Int32) (n : Nat) (x4 : Int32) (u : SX) : Prop := wX_load_27 post x1 x3 (xg_writesLeft u) (xg_half u) (xg_grouped u) (xg_upKey u) (xg_upNode u) (xg_waiting u) (xg_wrong u) (xg_seenNodes u) (xg_seenKeys u) n x4 (xg_disk u) (xg_images u) (xg_rows u) (xg_anchors u) (xg_copies u) (xg_loaded u) (xg_changed u) (xg_imageOf u) (xg_rowAt u) (xg_rowsUsed u) (xg_imageAt u) (xg_imagesUsed u) (xg_nextSaving u) (xg_anchorNumber u) (xg_selected u) (xg_viewLength u) (xg_view u) (xg_group u) (xg_wayNode u) (xg_waySlot u) (xg_wideKey u) (xg_wideItem u) (xg_walkNode u) (xg_walkLevel u) (xg_walkLow u) (xg_walkHigh u)
theorem xe_load_27 (post : SX → Prop) (x1 : Int32) (x3 : Int32) (n : Nat) (x4 : Int32) (u : SX) : xc_load_27 post x1 x3 (n + 1) x4 u = (((8 ≤ x4 → (post u)) ∧ (¬ 8 ≤ x4 → (vp_in x3 164 ∧ (((((xg_imageOf u) x3.toNatClampNeg) < 0 → (vp_in ((8 * x3) + x4) 1312 ∧ (vp_in ((8 * x3) + x4) 1312 ∧ ∀ a_copies_11, a_copies_11 = upd (xg_copies u) ((8 * x3) + x4).toNatClampNeg ((xg_disk u) ((8 * x3) + x4).toNatClampNeg) → (∀ x4_12, x4_12 = x4 + 1 → (xc_load_27 post x1 x3 n x4_12 (xs_copies u a_copies_11)))))) ∧ (¬ ((xg_imageOf u) x3.toNatClampNeg) < 0 → (vp_in x3 164 ∧ (vp_in ((8 * ((48 * x1) + ((xg_imageOf u) x3.toNatClampNeg))) + x4) 1536 ∧ (vp_in ((8 * x3) + x4) 1312 ∧ ∀ a_copies_16, a_copies_16 = upd (xg_copies u) ((8 * x3) + x4).toNatClampNeg ((xg_images u) ((8 * ((48 * x1) + ((xg_imageOf u) x3.toNatClampNeg))) + x4).toNatClampNeg) → (∀ x4_17, x4_17 = x4 + 1 → (xc_load_27 post x1 x3 n x4_17 (xs_copies u a_copies_16))))))))))))) := rfl
theorem xe_load (post : SX → Prop) (u : SX) (p0 : Int32) (p1 : Int32) : wpX_load post u p0 p1 = (∀ x3_1, x3_1 = (41 * p0) + p1 → (vp_in x3_1 164 ∧ (((((xg_loaded u) x3_1.toNatClampNeg) = 0 → (vp_in x3_1 164 ∧ ∀ a_loaded_5, a_loaded_5 = upd (xg_loaded u) x3_1.toNatClampNeg (vp_nar .boolean 1) → (∃ n27 : Nat, xc_load_27 post p0 x3_1 n27 0 (xs_loaded u a_loaded_5)))) ∧ (¬ ((xg_loaded u) x3_1.toNatClampNeg) = 0 → (post u)))))) := rfl
theorem xe_cell (post : Int32 → SX → Prop) (u : SX) (p0 : Int32) (p1 : Int32) (p2 : Int32) : wpX_cell post u p0 p1 p2 = (wpX_load (fun u2 => (vp_in ((8 * ((41 * p0) + p1)) + p2) 1312 ∧ (post ((xg_copies u2) ((8 * ((41 * p0) + p1)) + p2).toNatClampNeg) u2))) u p0 p1) := rfl
theorem xe_setCell (post : SX → Prop) (u : SX) (p0 : Int32) (p1 : Int32) (p2 : Int32) (p3 : Int32) : wpX_setCell post u p0 p1 p2 p3 = (wpX_load (fun u2 => (∀ x5_37, x5_37 = (41 * p0) + p1 → (vp_in ((8 * x5_37) + p2) 1312 ∧ (((((xg_copies u2) ((8 * x5_37) + p2).toNatClampNeg) = p3 → (post u2)) ∧ (¬ ((xg_copies u2) ((8 * x5_37) + p2).toNatClampNeg) = p3 → (vp_in ((8 * x5_37) + p2) 1312 ∧ ∀ a_copies_41, a_copies_41 = upd (xg_copies u2) ((8 * x5_37) + p2).toNatClampNeg p3 → (vp_in x5_37 164 ∧ ∀ a_changed_43, a_changed_43 = upd (xg_changed u2) x5_37.toNatClampNeg (vp_nar .boolean 1) → (post (xs_changed (xs_copies u2 a_copies_41) a_changed_43)))))))))) u p0 p1) := rfl
def xc_clear_2 (post : SX → Prop) (x1 : Int32) (x2 : Int32) (n : Nat) (x3 : Int32) (u : SX) : Prop := wX_clear_2 post x1 x2 n x3 (xg_writesLeft u) (xg_half u) (xg_grouped u) (xg_upKey u) (xg_upNode u) (xg_waiting u) (xg_wrong u) (xg_seenNodes u) (xg_seenKeys u) (xg_disk u) (xg_images u) (xg_rows u) (xg_anchors u) (xg_copies u) (xg_loaded u) (xg_changed u) (xg_imageOf u) (xg_rowAt u) (xg_rowsUsed u) (xg_imageAt u) (xg_imagesUsed u) (xg_nextSaving u) (xg_anchorNumber u) (xg_selected u) (xg_viewLength u) (xg_view u) (xg_group u) (xg_wayNode u) (xg_waySlot u) (xg_wideKey u) (xg_wideItem u) (xg_walkNode u) (xg_walkLevel u) (xg_walkLow u) (xg_walkHigh u)
theorem xe_clear_2 (post : SX → Prop) (x1 : Int32) (x2 : Int32) (n : Nat) (x3 : Int32) (u : SX) : xc_clear_2 post x1 x2 (n + 1) x3 u = (((8 ≤ x3 → (post u)) ∧ (¬ 8 ≤ x3 → (wpX_setCell (fun u3 => (∀ x3_38, x3_38 = x3 + 1 → (xc_clear_2 post x1 x2 n x3_38 u3))) u x1 x2 x3 0)))) := rfl
theorem xe_clear (post : SX → Prop) (u : SX) (p0 : Int32) (p1 : Int32) : wpX_clear post u p0 p1 = (∃ n2 : Nat, xc_clear_2 post p0 p1 n2 0 u) := rfl
def xc_takeNode_32 (post : Int32 → SX → Prop) (x1 : Int32) (x2 : Int32) (x3 : Int32) (u : SX) : Prop := wX_takeNode_32 post x1 x2 x3 (xg_writesLeft u) (xg_half u) (xg_grouped u) (xg_upKey u) (xg_upNode u) (xg_waiting u) (xg_wrong u) (xg_seenNodes u) (xg_seenKeys u) (xg_disk u) (xg_images u) (xg_rows u) (xg_anchors u) (xg_copies u) (xg_loaded u) (xg_changed u) (xg_imageOf u) (xg_rowAt u) (xg_rowsUsed u) (xg_imageAt u) (xg_imagesUsed u) (xg_nextSaving u) (xg_anchorNumber u) (xg_selected u) (xg_viewLength u) (xg_view u) (xg_group u) (xg_wayNode u) (xg_waySlot u) (xg_wideKey u) (xg_wideItem u) (xg_walkNode u) (xg_walkLevel u) (xg_walkLow u) (xg_walkHigh u)
theorem xe_takeNode_32 (post : Int32 → SX → Prop) (x1 : Int32) (x2 : Int32) (x3 : Int32) (u : SX) : xc_takeNode_32 post x1 x2 x3 u = (wpX_setCell (fun u39 => (wpX_clear (fun u75 => (post (9 + x3) u75)) u39 x1 (9 + x3))) u x1 0 6 (x2 ||| ((1 : Int32) <<< (x3 &&& 31)))) := rfl
def xc_takeNode_11 (post : Int32 → SX → Prop) (x1 : Int32) (x2 : Int32) (u : SX) (n : Nat) (x3 : Int32) : Prop := wX_takeNode_11 post x1 x2 (xg_writesLeft u) (xg_half u) (xg_grouped u) (xg_upKey u) (xg_upNode u) (xg_waiting u) (xg_wrong u) (xg_seenNodes u) (xg_seenKeys u) (xg_disk u) (xg_images u) (xg_rows u) (xg_anchors u) (xg_copies u) (xg_loaded u) (xg_changed u) (xg_imageOf u) (xg_rowAt u) (xg_rowsUsed u) (xg_imageAt u) (xg_imagesUsed u) (xg_nextSaving u) (xg_anchorNumber u) (xg_selected u) (xg_viewLength u) (xg_view u) (xg_group u) (xg_wayNode u) (xg_waySlot u) (xg_wideKey u) (xg_wideItem u) (xg_walkNode u) (xg_walkLevel u) (xg_walkLow u) (xg_walkHigh u) n x3
theorem xe_takeNode_11 (post : Int32 → SX → Prop) (x1 : Int32) (x2 : Int32) (u : SX) (n : Nat) (x3 : Int32) : xc_takeNode_11 post x1 x2 u (n + 1) x3 = (((31 ≤ x3 → (xc_takeNode_32 post x1 x2 x3 u)) ∧ (¬ 31 ≤ x3 → (((((x2 >>> (x3 &&& 31)) &&& 1) = 1 → (∀ x3_111, x3_111 = x3 + 1 → (xc_takeNode_11 post x1 x2 u n x3_111))) ∧ (¬ ((x2 >>> (x3 &&& 31)) &&& 1) = 1 → (xc_takeNode_32 post x1 x2 x3 u))))))) := rfl
theorem xe_takeNode (post : Int32 → SX → Prop) (u : SX) (p0 : Int32) : wpX_takeNode post u p0 = (wpX_cell (fun r_1 u2 => (∃ n11 : Nat, xc_takeNode_11 post p0 r_1 u2 n11 0)) u p0 0 6) := rfl
theorem xe_giveNode (post : SX → Prop) (u : SX) (p0 : Int32) (p1 : Int32) : wpX_giveNode post u p0 p1 = (wpX_cell (fun r_1 u2 => (wpX_setCell (fun u38 => (vp_in ((41 * p0) + p1) 164 ∧ ∀ a_loaded_74, a_loaded_74 = upd (xg_loaded u38) ((41 * p0) + p1).toNatClampNeg (vp_nar .boolean 0) → (vp_in ((41 * p0) + p1) 164 ∧ ∀ a_changed_76, a_changed_76 = upd (xg_changed u38) ((41 * p0) + p1).toNatClampNeg (vp_nar .boolean 0) → (post (xs_changed (xs_loaded u38 a_loaded_74) a_changed_76))))) u2 p0 0 6 (r_1 &&& (((1 : Int32) <<< ((p1 - 9) &&& 31)) ^^^ (-1))))) u p0 0 6) := rfl
def xc_changedBlocks_7 (post : Int32 → Prop) (x1 : Int32) (u : SX) (n : Nat) (x2 : Int32) (x3 : Int32) : Prop := wX_changedBlocks_7 post x1 (xg_writesLeft u) (xg_half u) (xg_grouped u) (xg_upKey u) (xg_upNode u) (xg_waiting u) (xg_wrong u) (xg_seenNodes u) (xg_seenKeys u) (xg_disk u) (xg_images u) (xg_rows u) (xg_anchors u) (xg_copies u) (xg_loaded u) (xg_changed u) (xg_imageOf u) (xg_rowAt u) (xg_rowsUsed u) (xg_imageAt u) (xg_imagesUsed u) (xg_nextSaving u) (xg_anchorNumber u) (xg_selected u) (xg_viewLength u) (xg_view u) (xg_group u) (xg_wayNode u) (xg_waySlot u) (xg_wideKey u) (xg_wideItem u) (xg_walkNode u) (xg_walkLevel u) (xg_walkLow u) (xg_walkHigh u) n x2 x3
theorem xe_changedBlocks_7 (post : Int32 → Prop) (x1 : Int32) (u : SX) (n : Nat) (x2 : Int32) (x3 : Int32) : xc_changedBlocks_7 post x1 u (n + 1) x2 x3 = (((((41 * x1) + 41) ≤ x3 → (post x2)) ∧ (¬ ((41 * x1) + 41) ≤ x3 → (vp_in x3 164 ∧ (((((xg_changed u) x3.toNatClampNeg) = 0 → (∀ x2_5, x2_5 = x2 + 0 → (∀ x3_6, x3_6 = x3 + 1 → (xc_changedBlocks_7 post x1 u n x2_5 x3_6)))) ∧ (¬ ((xg_changed u) x3.toNatClampNeg) = 0 → (∀ x2_7, x2_7 = x2 + 1 → (∀ x3_8, x3_8 = x3 + 1 → (xc_changedBlocks_7 post x1 u n x2_7 x3_8)))))))))) := rfl
end
section
theorem xe_changedBlocks (post : Int32 → Prop) (u : SX) (p0 : Int32) : wpX_changedBlocks post u p0 = (∀ x3_1, x3_1 = 41 * p0 → (∃ n7 : Nat, xc_changedBlocks_7 post p0 u n7 0 x3_1)) := rfl
theorem xe_mayWrite (post : Int32 → SX → Prop) (u : SX) : wpX_mayWrite post u = (((0 < (xg_writesLeft u) → (∀ f_writesLeft_2, f_writesLeft_2 = (xg_writesLeft u) - 1 → (post 1 (xs_writesLeft u f_writesLeft_2)))) ∧ (¬ 0 < (xg_writesLeft u) → (post 0 u)))) := rfl
theorem xe_reach (post : Int32 → Prop) (u : SX) : wpX_reach post u = ((((xg_half u) = 0 → (post 8)) ∧ (¬ (xg_half u) = 0 → ((((xg_writesLeft u) = 0 → (post 4)) ∧ (¬ (xg_writesLeft u) = 0 → (post 8))))))) := rfl
def xc_copyHome_3 (post : SX → Prop) (x1 : Int32) (x2 : Int32) (x3 : Int32) (x4 : Int32) (n : Nat) (x5 : Int32) (u : SX) : Prop := wX_copyHome_3 post x1 x2 x3 x4 (xg_writesLeft u) (xg_half u) (xg_grouped u) (xg_upKey u) (xg_upNode u) (xg_waiting u) (xg_wrong u) (xg_seenNodes u) (xg_seenKeys u) n x5 (xg_disk u) (xg_images u) (xg_rows u) (xg_anchors u) (xg_copies u) (xg_loaded u) (xg_changed u) (xg_imageOf u) (xg_rowAt u) (xg_rowsUsed u) (xg_imageAt u) (xg_imagesUsed u) (xg_nextSaving u) (xg_anchorNumber u) (xg_selected u) (xg_viewLength u) (xg_view u) (xg_group u) (xg_wayNode u) (xg_waySlot u) (xg_wideKey u) (xg_wideItem u) (xg_walkNode u) (xg_walkLevel u) (xg_walkLow u) (xg_walkHigh u)
theorem xe_copyHome_3 (post : SX → Prop) (x1 : Int32) (x2 : Int32) (x3 : Int32) (x4 : Int32) (n : Nat) (x5 : Int32) (u : SX) : xc_copyHome_3 post x1 x2 x3 x4 (n + 1) x5 u = (((x4 ≤ x5 → (post u)) ∧ (¬ x4 ≤ x5 → (vp_in ((8 * ((48 * x1) + x3)) + x5) 1536 ∧ (vp_in ((8 * ((41 * x1) + x2)) + x5) 1312 ∧ ∀ a_disk_4, a_disk_4 = upd (xg_disk u) ((8 * ((41 * x1) + x2)) + x5).toNatClampNeg ((xg_images u) ((8 * ((48 * x1) + x3)) + x5).toNatClampNeg) → (∀ x5_5, x5_5 = x5 + 1 → (xc_copyHome_3 post x1 x2 x3 x4 n x5_5 (xs_disk u a_disk_4)))))))) := rfl
theorem xe_copyHome (post : SX → Prop) (u : SX) (p0 : Int32) (p1 : Int32) (p2 : Int32) (p3 : Int32) : wpX_copyHome post u p0 p1 p2 p3 = (∃ n3 : Nat, xc_copyHome_3 post p0 p1 p2 p3 n3 0 u) := rfl
theorem xe_writeAnchor (post : SX → Prop) (u : SX) (p0 : Int32) (p1 : Int32) (p2 : Int32) : wpX_writeAnchor post u p0 p1 p2 = (wpX_mayWrite (fun r_1 u2 => (((r_1 = 0 → (post u2)) ∧ (¬ r_1 = 0 → (vp_in p0 4 ∧ (∀ x4_39, x4_39 = 5 * ((2 * p0) + (((xg_anchorNumber u2) p0.toNatClampNeg) &&& 1)) → (vp_in p0 4 ∧ (vp_in p0 4 ∧ ∀ a_anchorNumber_42, a_anchorNumber_42 = upd (xg_anchorNumber u2) p0.toNatClampNeg (((xg_anchorNumber u2) p0.toNatClampNeg) + 1) → (vp_in p0 4 ∧ (vp_in x4_39 40 ∧ ∀ a_anchors_45, a_anchors_45 = upd (xg_anchors u2) x4_39.toNatClampNeg (a_anchorNumber_42 p0.toNatClampNeg) → (vp_in (x4_39 + 1) 40 ∧ ∀ a_anchors_47, a_anchors_47 = upd a_anchors_45 (x4_39 + 1).toNatClampNeg p1 → (wpX_reach (fun r_48 => (((8 ≤ r_48 → (vp_in (x4_39 + 2) 40 ∧ ∀ a_anchors_86, a_anchors_86 = upd a_anchors_47 (x4_39 + 2).toNatClampNeg p2 → (vp_in p0 4 ∧ (vp_in (x4_39 + 3) 40 ∧ ∀ a_anchors_89, a_anchors_89 = upd a_anchors_86 (x4_39 + 3).toNatClampNeg ((xg_nextSaving u2) p0.toNatClampNeg) → (vp_in p0 4 ∧ (vp_in (x4_39 + 4) 40 ∧ ∀ a_anchors_92, a_anchors_92 = upd a_anchors_89 (x4_39 + 4).toNatClampNeg (a_anchorNumber_42 p0.toNatClampNeg) → (vp_in p0 4 ∧ ∀ a_rowAt_94, a_rowAt_94 = upd (xg_rowAt u2) p0.toNatClampNeg p1 → (vp_in p0 4 ∧ ∀ a_imageAt_96, a_imageAt_96 = upd (xg_imageAt u2) p0.toNatClampNeg p2 → (vp_in p0 4 ∧ ∀ a_rowsUsed_98, a_rowsUsed_98 = upd (xg_rowsUsed u2) p0.toNatClampNeg 0 → (vp_in p0 4 ∧ ∀ a_imagesUsed_100, a_imagesUsed_100 = upd (xg_imagesUsed u2) p0.toNatClampNeg 0 → (post (xg_writesLeft u2, xg_half u2, xg_grouped u2, xg_upKey u2, xg_upNode u2, xg_waiting u2, xg_wrong u2, xg_seenNodes u2, xg_seenKeys u2, xg_disk u2, xg_images u2, xg_rows u2, a_anchors_92, xg_copies u2, xg_loaded u2, xg_changed u2, xg_imageOf u2, a_rowAt_94, a_rowsUsed_98, a_imageAt_96, a_imagesUsed_100, xg_nextSaving u2, a_anchorNumber_42, xg_selected u2, xg_viewLength u2, xg_view u2, xg_group u2, xg_wayNode u2, xg_waySlot u2, xg_wideKey u2, xg_wideItem u2, xg_walkNode u2, xg_walkLevel u2, xg_walkLow u2, xg_walkHigh u2)))))))))))) ∧ (¬ 8 ≤ r_48 → (post (xs_anchorNumber (xs_anchors u2 a_anchors_47) a_anchorNumber_42)))))) (xs_anchorNumber (xs_anchors u2 a_anchors_47) a_anchorNumber_42))))))))))))) u) := rfl
def xc_writeHomes_81 (post : SX → Prop) (J4 : Int32 → Int32 → SX → Prop) (x1 : Int32) (x2 : Int32) (x3 : Int32) (x4 : Int32) (u : SX) : Prop := wX_writeHomes_81 post (fun j0 j1 c0 c1 c2 c3 c4 c5 c6 c7 c8 c9 c10 c11 c12 c13 c14 c15 c16 c17 c18 c19 c20 c21 c22 c23 c24 c25 c26 c27 c28 c29 c30 c31 c32 c33 c34 => J4 j0 j1 (c0, c1, c2, c3, c4, c5, c6, c7, c8, c9, c10, c11, c12, c13, c14, c15, c16, c17, c18, c19, c20, c21, c22, c23, c24, c25, c26, c27, c28, c29, c30, c31, c32, c33, c34)) x1 x2 x3 x4 (xg_writesLeft u) (xg_half u) (xg_grouped u) (xg_upKey u) (xg_upNode u) (xg_waiting u) (xg_wrong u) (xg_seenNodes u) (xg_seenKeys u) (xg_disk u) (xg_images u) (xg_rows u) (xg_anchors u) (xg_copies u) (xg_loaded u) (xg_changed u) (xg_imageOf u) (xg_rowAt u) (xg_rowsUsed u) (xg_imageAt u) (xg_imagesUsed u) (xg_nextSaving u) (xg_anchorNumber u) (xg_selected u) (xg_viewLength u) (xg_view u) (xg_group u) (xg_wayNode u) (xg_waySlot u) (xg_wideKey u) (xg_wideItem u) (xg_walkNode u) (xg_walkLevel u) (xg_walkLow u) (xg_walkHigh u)
theorem xe_writeHomes_81 (post : SX → Prop) (J4 : Int32 → Int32 → SX → Prop) (x1 : Int32) (x2 : Int32) (x3 : Int32) (x4 : Int32) (u : SX) : xc_writeHomes_81 post J4 x1 x2 x3 x4 u = (((x2 = 0 → (∀ x3_53, x3_53 = x3 + 1 → (J4 0 x3_53 u))) ∧ (¬ x2 = 0 → (vp_in x4 164 ∧ (((0 ≤ ((xg_imageOf u) x4.toNatClampNeg) → (∀ x3_56, x3_56 = x3 + 1 → (J4 0 x3_56 u))) ∧ (¬ 0 ≤ ((xg_imageOf u) x4.toNatClampNeg) → (∀ x3_57, x3_57 = x3 + 1 → (J4 1 x3_57 u))))))))) := rfl
def xc_writeHomes_80 (post : SX → Prop) (J4 : Int32 → Int32 → SX → Prop) (x1 : Int32) (x2 : Int32) (x3 : Int32) (x4 : Int32) (z0 : Int32) (z1 : Int32) (u : SX) : Prop := wX_writeHomes_80 post (fun j0 j1 c0 c1 c2 c3 c4 c5 c6 c7 c8 c9 c10 c11 c12 c13 c14 c15 c16 c17 c18 c19 c20 c21 c22 c23 c24 c25 c26 c27 c28 c29 c30 c31 c32 c33 c34 => J4 j0 j1 (c0, c1, c2, c3, c4, c5, c6, c7, c8, c9, c10, c11, c12, c13, c14, c15, c16, c17, c18, c19, c20, c21, c22, c23, c24, c25, c26, c27, c28, c29, c30, c31, c32, c33, c34)) x1 x2 x3 x4 z0 z1 (xg_writesLeft u) (xg_half u) (xg_grouped u) (xg_upKey u) (xg_upNode u) (xg_waiting u) (xg_wrong u) (xg_seenNodes u) (xg_seenKeys u) (xg_disk u) (xg_images u) (xg_rows u) (xg_anchors u) (xg_copies u) (xg_loaded u) (xg_changed u) (xg_imageOf u) (xg_rowAt u) (xg_rowsUsed u) (xg_imageAt u) (xg_imagesUsed u) (xg_nextSaving u) (xg_anchorNumber u) (xg_selected u) (xg_viewLength u) (xg_view u) (xg_group u) (xg_wayNode u) (xg_waySlot u) (xg_wideKey u) (xg_wideItem u) (xg_walkNode u) (xg_walkLevel u) (xg_walkLow u) (xg_walkHigh u)
theorem xe_writeHomes_80 (post : SX → Prop) (J4 : Int32 → Int32 → SX → Prop) (x1 : Int32) (x2 : Int32) (x3 : Int32) (x4 : Int32) (z0 : Int32) (z1 : Int32) (u : SX) : xc_writeHomes_80 post J4 x1 x2 x3 x4 z0 z1 u = (vp_in z1 164 ∧ ∀ a_imageOf_171, a_imageOf_171 = upd (xg_imageOf u) z1.toNatClampNeg z0 → (xc_writeHomes_81 post J4 x1 x2 x3 x4 (xs_imageOf u a_imageOf_171))) := rfl
def xc_writeHomes_4 (post : SX → Prop) (x1 : Int32) (n : Nat) (x2 : Int32) (x3 : Int32) (u : SX) : Prop := wX_writeHomes_4 post x1 n x2 x3 (xg_writesLeft u) (xg_half u) (xg_grouped u) (xg_upKey u) (xg_upNode u) (xg_waiting u) (xg_wrong u) (xg_seenNodes u) (xg_seenKeys u) (xg_disk u) (xg_images u) (xg_rows u) (xg_anchors u) (xg_copies u) (xg_loaded u) (xg_changed u) (xg_imageOf u) (xg_rowAt u) (xg_rowsUsed u) (xg_imageAt u) (xg_imagesUsed u) (xg_nextSaving u) (xg_anchorNumber u) (xg_selected u) (xg_viewLength u) (xg_view u) (xg_group u) (xg_wayNode u) (xg_waySlot u) (xg_wideKey u) (xg_wideItem u) (xg_walkNode u) (xg_walkLevel u) (xg_walkLow u) (xg_walkHigh u)
theorem xe_writeHomes_4 (post : SX → Prop) (x1 : Int32) (n : Nat) (x2 : Int32) (x3 : Int32) (u : SX) : xc_writeHomes_4 post x1 (n + 1) x2 x3 u = (((41 ≤ x3 → (((x2 = 0 → (post u)) ∧ (¬ x2 = 0 → (vp_in x1 4 ∧ (((((xg_rowsUsed u) x1.toNatClampNeg) ≤ 0 → (post u)) ∧ (¬ ((xg_rowsUsed u) x1.toNatClampNeg) ≤ 0 → (vp_in x1 4 ∧ (vp_in x1 4 ∧ (¬ (14 : Int32) = 0 ∧ (∀ x3_8, x3_8 = (((xg_rowAt u) x1.toNatClampNeg) + ((xg_rowsUsed u) x1.toNatClampNeg)) - (((xg_rowAt u) x1.toNatClampNeg) + ((xg_rowsUsed u) x1.toNatClampNeg)) / 14 * 14 → (vp_in x1 4 ∧ (vp_in x1 4 ∧ (¬ (48 : Int32) = 0 ∧ (∀ x4_12, x4_12 = (((xg_imageAt u) x1.toNatClampNeg) + ((xg_imagesUsed u) x1.toNatClampNeg)) - (((xg_imageAt u) x1.toNatClampNeg) + ((xg_imagesUsed u) x1.toNatClampNeg)) / 48 * 48 → (wpX_writeAnchor (fun u14 => (post u14)) u x1 x3_8 x4_12))))))))))))))))) ∧ (¬ 41 ≤ x3 → (∀ x4_49, x4_49 = (41 * x1) + x3 → (vp_in x4_49 164 ∧ (((((xg_imageOf u) x4_49.toNatClampNeg) < 0 → (xc_writeHomes_81 post (xc_writeHomes_4 post x1 n) x1 x2 x3 x4_49 u)) ∧ (¬ ((xg_imageOf u) x4_49.toNatClampNeg) < 0 → (wpX_mayWrite (fun r_58 u59 => (((r_58 = 0 → (xc_writeHomes_81 post (xc_writeHomes_4 post x1 n) x1 x2 x3 x4_49 u59)) ∧ (¬ r_58 = 0 → (wpX_reach (fun r_95 => (vp_in x4_49 164 ∧ (wpX_copyHome (fun u133 => (((r_95 = 8 → (xc_writeHomes_80 post (xc_writeHomes_4 post x1 n) x1 x2 x3 x4_49 (-1) x4_49 u133)) ∧ (¬ r_95 = 8 → (vp_in x4_49 164 ∧ (xc_writeHomes_80 post (xc_writeHomes_4 post x1 n) x1 x2 x3 x4_49 ((xg_imageOf u133) x4_49.toNatClampNeg) x4_49 u133)))))) u59 x1 x3 ((xg_imageOf u59) x4_49.toNatClampNeg) r_95))) u59))))) u))))))))) := rfl
theorem xe_writeHomes (post : SX → Prop) (u : SX) (p0 : Int32) : wpX_writeHomes post u p0 = (∃ n4 : Nat, xc_writeHomes_4 post p0 n4 1 0 u) := rfl
def xc_makeRoom_31 (post : SX → Prop) (x1 : Int32) (u : SX) : Prop := wX_makeRoom_31 post x1 (xg_writesLeft u) (xg_half u) (xg_grouped u) (xg_upKey u) (xg_upNode u) (xg_waiting u) (xg_wrong u) (xg_seenNodes u) (xg_seenKeys u) (xg_disk u) (xg_images u) (xg_rows u) (xg_anchors u) (xg_copies u) (xg_loaded u) (xg_changed u) (xg_imageOf u) (xg_rowAt u) (xg_rowsUsed u) (xg_imageAt u) (xg_imagesUsed u) (xg_nextSaving u) (xg_anchorNumber u) (xg_selected u) (xg_viewLength u) (xg_view u) (xg_group u) (xg_wayNode u) (xg_waySlot u) (xg_wideKey u) (xg_wideItem u) (xg_walkNode u) (xg_walkLevel u) (xg_walkLow u) (xg_walkHigh u)
theorem xe_makeRoom_31 (post : SX → Prop) (x1 : Int32) (u : SX) : xc_makeRoom_31 post x1 u = (wpX_writeHomes (fun u5 => (post u5)) (xs_half (xs_writesLeft u 1000) 0) x1) := rfl
theorem xe_makeRoom (post : SX → Prop) (u : SX) (p0 : Int32) (p1 : Int32) : wpX_makeRoom post u p0 p1 = (wpX_rowsFor (fun r_1 => (vp_in p0 4 ∧ (((14 < (((xg_rowsUsed u) p0.toNatClampNeg) + r_1) → (xc_makeRoom_31 post p0 u)) ∧ (¬ 14 < (((xg_rowsUsed u) p0.toNatClampNeg) + r_1) → (vp_in p0 4 ∧ ((((((xg_imagesUsed u) p0.toNatClampNeg) + p1) ≤ 48 → (post u)) ∧ (¬ (((xg_imagesUsed u) p0.toNatClampNeg) + p1) ≤ 48 → (xc_makeRoom_31 post p0 u)))))))))) p1) := rfl
def xc_writeImage_42 (post : SX → Prop) (x1 : Int32) (x3 : Int32) (x4 : Int32) (x5 : Int32) (n : Nat) (x6 : Int32) (u : SX) : Prop := wX_writeImage_42 post x1 x3 x4 x5 (xg_writesLeft u) (xg_half u) (xg_grouped u) (xg_upKey u) (xg_upNode u) (xg_waiting u) (xg_wrong u) (xg_seenNodes u) (xg_seenKeys u) n x6 (xg_disk u) (xg_images u) (xg_rows u) (xg_anchors u) (xg_copies u) (xg_loaded u) (xg_changed u) (xg_imageOf u) (xg_rowAt u) (xg_rowsUsed u) (xg_imageAt u) (xg_imagesUsed u) (xg_nextSaving u) (xg_anchorNumber u) (xg_selected u) (xg_viewLength u) (xg_view u) (xg_group u) (xg_wayNode u) (xg_waySlot u) (xg_wideKey u) (xg_wideItem u) (xg_walkNode u) (xg_walkLevel u) (xg_walkLow u) (xg_walkHigh u)
theorem xe_writeImage_42 (post : SX → Prop) (x1 : Int32) (x3 : Int32) (x4 : Int32) (x5 : Int32) (n : Nat) (x6 : Int32) (u : SX) : xc_writeImage_42 post x1 x3 x4 x5 (n + 1) x6 u = (((x5 ≤ x6 → (post u)) ∧ (¬ x5 ≤ x6 → (vp_in ((8 * ((41 * x1) + x3)) + x6) 1312 ∧ (vp_in ((8 * x4) + x6) 1536 ∧ ∀ a_images_81, a_images_81 = upd (xg_images u) ((8 * x4) + x6).toNatClampNeg ((xg_copies u) ((8 * ((41 * x1) + x3)) + x6).toNatClampNeg) → (∀ x6_82, x6_82 = x6 + 1 → (xc_writeImage_42 post x1 x3 x4 x5 n x6_82 (xs_images u a_images_81)))))))) := rfl
theorem xe_writeImage (post : SX → Prop) (u : SX) (p0 : Int32) (p1 : Int32) (p2 : Int32) : wpX_writeImage post u p0 p1 p2 = (wpX_mayWrite (fun r_1 u2 => (((r_1 = 0 → (post u2)) ∧ (¬ r_1 = 0 → (vp_in p0 4 ∧ (vp_in p0 4 ∧ (¬ (48 : Int32) = 0 ∧ (∀ x4_41, x4_41 = (48 * p0) + (((((xg_imageAt u2) p0.toNatClampNeg) + ((xg_imagesUsed u2) p0.toNatClampNeg)) + p1) - ((((xg_imageAt u2) p0.toNatClampNeg) + ((xg_imagesUsed u2) p0.toNatClampNeg)) + p1) / 48 * 48) → (wpX_reach (fun r_42 => (∃ n42 : Nat, xc_writeImage_42 post p0 p2 x4_41 r_42 n42 0 u2)) u2))))))))) u) := rfl
theorem xe_rowCell (post : Int32 → Prop) (u : SX) (p0 : Int32) (p1 : Int32) : wpX_rowCell post u p0 p1 = (vp_in p0 4 ∧ (¬ (14 : Int32) = 0 ∧ (post (8 * ((14 * p0) + ((((xg_rowAt u) p0.toNatClampNeg) + p1) - (((xg_rowAt u) p0.toNatClampNeg) + p1) / 14 * 14)))))) := rfl
def xc_writeList_86 (post : SX → Prop) (x1 : Int32) (x3 : Int32) (n : Nat) (x5 : Int32) (u : SX) : Prop := wX_writeList_86 post x1 x3 (xg_writesLeft u) (xg_half u) (xg_grouped u) (xg_upKey u) (xg_upNode u) (xg_waiting u) (xg_wrong u) (xg_seenNodes u) (xg_seenKeys u) n x5 (xg_disk u) (xg_images u) (xg_rows u) (xg_anchors u) (xg_copies u) (xg_loaded u) (xg_changed u) (xg_imageOf u) (xg_rowAt u) (xg_rowsUsed u) (xg_imageAt u) (xg_imagesUsed u) (xg_nextSaving u) (xg_anchorNumber u) (xg_selected u) (xg_viewLength u) (xg_view u) (xg_group u) (xg_wayNode u) (xg_waySlot u) (xg_wideKey u) (xg_wideItem u) (xg_walkNode u) (xg_walkLevel u) (xg_walkLow u) (xg_walkHigh u)
theorem xe_writeList_86 (post : SX → Prop) (x1 : Int32) (x3 : Int32) (n : Nat) (x5 : Int32) (u : SX) : xc_writeList_86 post x1 x3 (n + 1) x5 u = (((4 ≤ x5 → (vp_in x1 4 ∧ (vp_in (x3 + 7) 448 ∧ ∀ a_rows_124, a_rows_124 = upd (xg_rows u) (x3 + 7).toNatClampNeg ((xg_nextSaving u) x1.toNatClampNeg) → (post (xs_rows u a_rows_124))))) ∧ (¬ 4 ≤ x5 → (vp_in x5 4 ∧ (vp_in ((x3 + 3) + x5) 448 ∧ ∀ a_rows_127, a_rows_127 = upd (xg_rows u) ((x3 + 3) + x5).toNatClampNeg ((xg_group u) x5.toNatClampNeg) → (∀ x5_128, x5_128 = x5 + 1 → (xc_writeList_86 post x1 x3 n x5_128 (xs_rows u a_rows_127)))))))) := rfl
theorem xe_writeList (post : SX → Prop) (u : SX) (p0 : Int32) (p1 : Int32) : wpX_writeList post u p0 p1 = (wpX_mayWrite (fun r_1 u2 => (((r_1 = 0 → (post u2)) ∧ (¬ r_1 = 0 → (vp_in p0 4 ∧ (wpX_rowCell (fun r_39 => (wpX_reach (fun r_75 => (vp_in r_39 448 ∧ ∀ a_rows_112, a_rows_112 = upd (xg_rows u2) r_39.toNatClampNeg 1 → (vp_in p0 4 ∧ (vp_in (r_39 + 1) 448 ∧ ∀ a_rows_115, a_rows_115 = upd a_rows_112 (r_39 + 1).toNatClampNeg ((xg_nextSaving u2) p0.toNatClampNeg) → (vp_in (r_39 + 2) 448 ∧ ∀ a_rows_117, a_rows_117 = upd a_rows_115 (r_39 + 2).toNatClampNeg (xg_grouped u2) → (vp_in (r_39 + 3) 448 ∧ ∀ a_rows_119, a_rows_119 = upd a_rows_117 (r_39 + 3).toNatClampNeg ((xg_group u2) 0) → (((8 ≤ r_75 → (∃ n86 : Nat, xc_writeList_86 post p0 r_39 n86 1 (xs_rows u2 a_rows_119))) ∧ (¬ 8 ≤ r_75 → (post (xs_rows u2 a_rows_119))))))))))) u2)) u2 p0 (((xg_rowsUsed u2) p0.toNatClampNeg) + p1))))))) u) := rfl
theorem xe_writeCounts (post : SX → Prop) (u : SX) (p0 : Int32) (p1 : Int32) (p2 : Int32) : wpX_writeCounts post u p0 p1 p2 = (wpX_mayWrite (fun r_1 u2 => (((r_1 = 0 → (post u2)) ∧ (¬ r_1 = 0 → (vp_in p0 4 ∧ (wpX_rowCell (fun r_39 => (wpX_reach (fun r_75 => (vp_in r_39 448 ∧ ∀ a_rows_112, a_rows_112 = upd (xg_rows u2) r_39.toNatClampNeg 2 → (vp_in p0 4 ∧ (vp_in (r_39 + 1) 448 ∧ ∀ a_rows_115, a_rows_115 = upd a_rows_112 (r_39 + 1).toNatClampNeg ((xg_nextSaving u2) p0.toNatClampNeg) → (vp_in (r_39 + 2) 448 ∧ ∀ a_rows_117, a_rows_117 = upd a_rows_115 (r_39 + 2).toNatClampNeg p2 → (((r_75 = 8 → (vp_in p0 4 ∧ (vp_in (r_39 + 7) 448 ∧ ∀ a_rows_121, a_rows_121 = upd a_rows_117 (r_39 + 7).toNatClampNeg ((xg_nextSaving u2) p0.toNatClampNeg) → (post (xs_rows u2 a_rows_121))))) ∧ (¬ r_75 = 8 → (post (xs_rows u2 a_rows_117)))))))))) u2)) u2 p0 (((xg_rowsUsed u2) p0.toNatClampNeg) + p1))))))) u) := rfl
def xc_writeSaving_95 (post : SX → Prop) (J13 : Int32 → Int32 → Int32 → SX → Prop) (x1 : Int32) (x2 : Int32) (x3 : Int32) (x4 : Int32) (x5 : Int32) (u : SX) : Prop := wX_writeSaving_95 post (fun j0 j1 j2 c0 c1 c2 c3 c4 c5 c6 c7 c8 c9 c10 c11 c12 c13 c14 c15 c16 c17 c18 c19 c20 c21 c22 c23 c24 c25 c26 c27 c28 c29 c30 c31 c32 c33 c34 => J13 j0 j1 j2 (c0, c1, c2, c3, c4, c5, c6, c7, c8, c9, c10, c11, c12, c13, c14, c15, c16, c17, c18, c19, c20, c21, c22, c23, c24, c25, c26, c27, c28, c29, c30, c31, c32, c33, c34)) x1 x2 x3 x4 x5 (xg_writesLeft u) (xg_half u) (xg_grouped u) (xg_upKey u) (xg_upNode u) (xg_waiting u) (xg_wrong u) (xg_seenNodes u) (xg_seenKeys u) (xg_disk u) (xg_images u) (xg_rows u) (xg_anchors u) (xg_copies u) (xg_loaded u) (xg_changed u) (xg_imageOf u) (xg_rowAt u) (xg_rowsUsed u) (xg_imageAt u) (xg_imagesUsed u) (xg_nextSaving u) (xg_anchorNumber u) (xg_selected u) (xg_viewLength u) (xg_view u) (xg_group u) (xg_wayNode u) (xg_waySlot u) (xg_wideKey u) (xg_wideItem u) (xg_walkNode u) (xg_walkLevel u) (xg_walkLow u) (xg_walkHigh u)
theorem xe_writeSaving_95 (post : SX → Prop) (J13 : Int32 → Int32 → Int32 → SX → Prop) (x1 : Int32) (x2 : Int32) (x3 : Int32) (x4 : Int32) (x5 : Int32) (u : SX) : xc_writeSaving_95 post J13 x1 x2 x3 x4 x5 u = (wpX_writeList (fun u45 => (∀ x4_80, x4_80 = x4 + 1 → (∀ x5_81, x5_81 = x5 + 1 → (J13 x3 x4_80 x5_81 (xs_grouped u45 0))))) u x1 x4) := rfl
def xc_writeSaving_67 (post : SX → Prop) (J13 : Int32 → Int32 → Int32 → SX → Prop) (x1 : Int32) (x2 : Int32) (x3 : Int32) (x4 : Int32) (x5 : Int32) (u : SX) : Prop := wX_writeSaving_67 post (fun j0 j1 j2 c0 c1 c2 c3 c4 c5 c6 c7 c8 c9 c10 c11 c12 c13 c14 c15 c16 c17 c18 c19 c20 c21 c22 c23 c24 c25 c26 c27 c28 c29 c30 c31 c32 c33 c34 => J13 j0 j1 j2 (c0, c1, c2, c3, c4, c5, c6, c7, c8, c9, c10, c11, c12, c13, c14, c15, c16, c17, c18, c19, c20, c21, c22, c23, c24, c25, c26, c27, c28, c29, c30, c31, c32, c33, c34)) x1 x2 x3 x4 x5 (xg_writesLeft u) (xg_half u) (xg_grouped u) (xg_upKey u) (xg_upNode u) (xg_waiting u) (xg_wrong u) (xg_seenNodes u) (xg_seenKeys u) (xg_disk u) (xg_images u) (xg_rows u) (xg_anchors u) (xg_copies u) (xg_loaded u) (xg_changed u) (xg_imageOf u) (xg_rowAt u) (xg_rowsUsed u) (xg_imageAt u) (xg_imagesUsed u) (xg_nextSaving u) (xg_anchorNumber u) (xg_selected u) (xg_viewLength u) (xg_view u) (xg_group u) (xg_wayNode u) (xg_waySlot u) (xg_wideKey u) (xg_wideItem u) (xg_walkNode u) (xg_walkLevel u) (xg_walkLow u) (xg_walkHigh u)
theorem xe_writeSaving_67 (post : SX → Prop) (J13 : Int32 → Int32 → Int32 → SX → Prop) (x1 : Int32) (x2 : Int32) (x3 : Int32) (x4 : Int32) (x5 : Int32) (u : SX) : xc_writeSaving_67 post J13 x1 x2 x3 x4 x5 u = (vp_in ((41 * x1) + x5) 164 ∧ (((((xg_changed u) ((41 * x1) + x5).toNatClampNeg) = 0 → (∀ x5_42, x5_42 = x5 + 1 → (J13 x3 x4 x5_42 u))) ∧ (¬ ((xg_changed u) ((41 * x1) + x5).toNatClampNeg) = 0 → ((((xg_grouped u) = 4 → (xc_writeSaving_95 post J13 x1 x2 x3 x4 x5 u)) ∧ (¬ (xg_grouped u) = 4 → (((x3 = x2 → (xc_writeSaving_95 post J13 x1 x2 x3 x4 x5 u)) ∧ (¬ x3 = x2 → (∀ x5_83, x5_83 = x5 + 1 → (J13 x3 x4 x5_83 u)))))))))))) := rfl
def xc_writeSaving_13 (post : SX → Prop) (x1 : Int32) (x2 : Int32) (n : Nat) (x3 : Int32) (x4 : Int32) (x5 : Int32) (u : SX) : Prop := wX_writeSaving_13 post x1 x2 n x3 x4 x5 (xg_writesLeft u) (xg_half u) (xg_grouped u) (xg_upKey u) (xg_upNode u) (xg_waiting u) (xg_wrong u) (xg_seenNodes u) (xg_seenKeys u) (xg_disk u) (xg_images u) (xg_rows u) (xg_anchors u) (xg_copies u) (xg_loaded u) (xg_changed u) (xg_imageOf u) (xg_rowAt u) (xg_rowsUsed u) (xg_imageAt u) (xg_imagesUsed u) (xg_nextSaving u) (xg_anchorNumber u) (xg_selected u) (xg_viewLength u) (xg_view u) (xg_group u) (xg_wayNode u) (xg_waySlot u) (xg_wideKey u) (xg_wideItem u) (xg_walkNode u) (xg_walkLevel u) (xg_walkLow u) (xg_walkHigh u)
theorem xe_writeSaving_13 (post : SX → Prop) (x1 : Int32) (x2 : Int32) (n : Nat) (x3 : Int32) (x4 : Int32) (x5 : Int32) (u : SX) : xc_writeSaving_13 post x1 x2 (n + 1) x3 x4 x5 u = (((41 ≤ x5 → (wpX_writeCounts (fun u3 => (post u3)) u x1 x4 x2)) ∧ (¬ 41 ≤ x5 → (vp_in ((41 * x1) + x5) 164 ∧ (((((xg_changed u) ((41 * x1) + x5).toNatClampNeg) = 0 → (xc_writeSaving_67 post (xc_writeSaving_13 post x1 x2 n) x1 x2 x3 x4 x5 u)) ∧ (¬ ((xg_changed u) ((41 * x1) + x5).toNatClampNeg) = 0 → (wpX_writeImage (fun u85 => (vp_in (xg_grouped u85) 4 ∧ ∀ a_group_121, a_group_121 = upd (xg_group u85) (xg_grouped u85).toNatClampNeg x5 → (∀ f_grouped_122, f_grouped_122 = (xg_grouped u85) + 1 → (∀ x3_123, x3_123 = x3 + 1 → (xc_writeSaving_67 post (xc_writeSaving_13 post x1 x2 n) x1 x2 x3_123 x4 x5 (xs_group (xs_grouped u85 f_grouped_122) a_group_121)))))) u x1 x3 x5)))))))) := rfl
theorem xe_writeSaving (post : SX → Prop) (u : SX) (p0 : Int32) (p1 : Int32) : wpX_writeSaving post u p0 p1 = (∃ n13 : Nat, xc_writeSaving_13 post p0 p1 n13 0 0 0 (xs_grouped u 0)) := rfl
def xc_save_43 (post : SX → Prop) (x1 : Int32) (x2 : Int32) (n : Nat) (x3 : Int32) (x4 : Int32) (u : SX) : Prop := wX_save_43 post x1 x2 (xg_writesLeft u) (xg_half u) (xg_grouped u) (xg_upKey u) (xg_upNode u) (xg_waiting u) (xg_wrong u) (xg_seenNodes u) (xg_seenKeys u) n x3 x4 (xg_disk u) (xg_images u) (xg_rows u) (xg_anchors u) (xg_copies u) (xg_loaded u) (xg_changed u) (xg_imageOf u) (xg_rowAt u) (xg_rowsUsed u) (xg_imageAt u) (xg_imagesUsed u) (xg_nextSaving u) (xg_anchorNumber u) (xg_selected u) (xg_viewLength u) (xg_view u) (xg_group u) (xg_wayNode u) (xg_waySlot u) (xg_wideKey u) (xg_wideItem u) (xg_walkNode u) (xg_walkLevel u) (xg_walkLow u) (xg_walkHigh u)
theorem xe_save_43 (post : SX → Prop) (x1 : Int32) (x2 : Int32) (n : Nat) (x3 : Int32) (x4 : Int32) (u : SX) : xc_save_43 post x1 x2 (n + 1) x3 x4 u = (((((41 * x1) + 41) ≤ x4 → (vp_in x1 4 ∧ (vp_in x1 4 ∧ ∀ a_imagesUsed_114, a_imagesUsed_114 = upd (xg_imagesUsed u) x1.toNatClampNeg (((xg_imagesUsed u) x1.toNatClampNeg) + x2) → (vp_in x1 4 ∧ (wpX_rowsFor (fun r_116 => (vp_in x1 4 ∧ ∀ a_rowsUsed_118, a_rowsUsed_118 = upd (xg_rowsUsed u) x1.toNatClampNeg (((xg_rowsUsed u) x1.toNatClampNeg) + r_116) → (vp_in x1 4 ∧ (vp_in x1 4 ∧ ∀ a_nextSaving_121, a_nextSaving_121 = upd (xg_nextSaving u) x1.toNatClampNeg (((xg_nextSaving u) x1.toNatClampNeg) + 1) → (post (xg_writesLeft u, xg_half u, xg_grouped u, xg_upKey u, xg_upNode u, xg_waiting u, xg_wrong u, xg_seenNodes u, xg_seenKeys u, xg_disk u, xg_images u, xg_rows u, xg_anchors u, xg_copies u, xg_loaded u, xg_changed u, xg_imageOf u, xg_rowAt u, a_rowsUsed_118, xg_imageAt u, a_imagesUsed_114, a_nextSaving_121, xg_anchorNumber u, xg_selected u, xg_viewLength u, xg_view u, xg_group u, xg_wayNode u, xg_waySlot u, xg_wideKey u, xg_wideItem u, xg_walkNode u, xg_walkLevel u, xg_walkLow u, xg_walkHigh u)))))) x2))))) ∧ (¬ ((41 * x1) + 41) ≤ x4 → (vp_in x4 164 ∧ (((((xg_changed u) x4.toNatClampNeg) = 0 → (∀ x4_124, x4_124 = x4 + 1 → (xc_save_43 post x1 x2 n x3 x4_124 u))) ∧ (¬ ((xg_changed u) x4.toNatClampNeg) = 0 → (vp_in x4 164 ∧ ∀ a_changed_126, a_changed_126 = upd (xg_changed u) x4.toNatClampNeg (vp_nar .boolean 0) → (vp_in x1 4 ∧ (vp_in x1 4 ∧ (¬ (48 : Int32) = 0 ∧ (vp_in x4 164 ∧ ∀ a_imageOf_131, a_imageOf_131 = upd (xg_imageOf u) x4.toNatClampNeg (((((xg_imageAt u) x1.toNatClampNeg) + ((xg_imagesUsed u) x1.toNatClampNeg)) + x3) - ((((xg_imageAt u) x1.toNatClampNeg) + ((xg_imagesUsed u) x1.toNatClampNeg)) + x3) / 48 * 48) → (∀ x3_132, x3_132 = x3 + 1 → (∀ x4_133, x4_133 = x4 + 1 → (xc_save_43 post x1 x2 n x3_132 x4_133 (xs_imageOf (xs_changed u a_changed_126) a_imageOf_131)))))))))))))))) := rfl
theorem xe_save (post : SX → Prop) (u : SX) (p0 : Int32) : wpX_save post u p0 = (wpX_changedBlocks (fun r_1 => (((r_1 = 0 → (post u)) ∧ (¬ r_1 = 0 → (wpX_makeRoom (fun u39 => (wpX_writeSaving (fun u75 => (∀ x4_110, x4_110 = 41 * p0 → (∃ n43 : Nat, xc_save_43 post p0 r_1 n43 0 x4_110 u75))) (xs_half (xs_writesLeft u39 1000) 0) p0 r_1)) u p0 r_1))))) u p0) := rfl
def xc_saveSome_64 (post : SX → Prop) (x1 : Int32) (x3 : Int32) (z0 : Int32) (u : SX) : Prop := wX_saveSome_64 post x1 x3 z0 (xg_writesLeft u) (xg_half u) (xg_grouped u) (xg_upKey u) (xg_upNode u) (xg_waiting u) (xg_wrong u) (xg_seenNodes u) (xg_seenKeys u) (xg_disk u) (xg_images u) (xg_rows u) (xg_anchors u) (xg_copies u) (xg_loaded u) (xg_changed u) (xg_imageOf u) (xg_rowAt u) (xg_rowsUsed u) (xg_imageAt u) (xg_imagesUsed u) (xg_nextSaving u) (xg_anchorNumber u) (xg_selected u) (xg_viewLength u) (xg_view u) (xg_group u) (xg_wayNode u) (xg_waySlot u) (xg_wideKey u) (xg_wideItem u) (xg_walkNode u) (xg_walkLevel u) (xg_walkLow u) (xg_walkHigh u)
theorem xe_saveSome_64 (post : SX → Prop) (x1 : Int32) (x3 : Int32) (z0 : Int32) (u : SX) : xc_saveSome_64 post x1 x3 z0 u = (narrow .boolean (.int z0) = .int z0 ∧ fits .boolean (.int z0) = true ∧ (wpX_writeSaving (fun u82 => (post u82)) (xs_half u z0) x1 x3)) := rfl
def xc_saveSome_48 (post : SX → Prop) (x1 : Int32) (x2 : Int32) (x3 : Int32) (z0 : Int32) (u : SX) : Prop := wX_saveSome_48 post x1 x2 x3 z0 (xg_writesLeft u) (xg_half u) (xg_grouped u) (xg_upKey u) (xg_upNode u) (xg_waiting u) (xg_wrong u) (xg_seenNodes u) (xg_seenKeys u) (xg_disk u) (xg_images u) (xg_rows u) (xg_anchors u) (xg_copies u) (xg_loaded u) (xg_changed u) (xg_imageOf u) (xg_rowAt u) (xg_rowsUsed u) (xg_imageAt u) (xg_imagesUsed u) (xg_nextSaving u) (xg_anchorNumber u) (xg_selected u) (xg_viewLength u) (xg_view u) (xg_group u) (xg_wayNode u) (xg_waySlot u) (xg_wideKey u) (xg_wideItem u) (xg_walkNode u) (xg_walkLevel u) (xg_walkLow u) (xg_walkHigh u)
theorem xe_saveSome_48 (post : SX → Prop) (x1 : Int32) (x2 : Int32) (x3 : Int32) (z0 : Int32) (u : SX) : xc_saveSome_48 post x1 x2 x3 z0 u = ((((x2 &&& 1) = 1 → (xc_saveSome_64 post x1 x3 1 (xs_writesLeft u z0))) ∧ (¬ (x2 &&& 1) = 1 → (xc_saveSome_64 post x1 x3 0 (xs_writesLeft u z0))))) := rfl
theorem xe_saveSome (post : SX → Prop) (u : SX) (p0 : Int32) (p1 : Int32) : wpX_saveSome post u p0 p1 = (wpX_changedBlocks (fun r_1 => (((r_1 = 0 → (post u)) ∧ (¬ r_1 = 0 → (wpX_makeRoom (fun u39 => (wpX_rowsFor (fun r_74 => (∀ x4_75, x4_75 = (r_1 + r_74) - 1 → (((0 ≤ p1 → (((p1 ≤ x4_75 → (xc_saveSome_48 post p0 p1 r_1 p1 u39)) ∧ (¬ p1 ≤ x4_75 → (xc_saveSome_48 post p0 p1 r_1 x4_75 u39))))) ∧ (¬ 0 ≤ p1 → (xc_saveSome_48 post p0 p1 r_1 0 u39)))))) r_1)) u p0 r_1))))) u p0) := rfl
theorem xe_isRow (post : Int32 → Prop) (u : SX) (p0 : Int32) (p1 : Int32) (p2 : Int32) : wpX_isRow post u p0 p1 p2 = (wpX_rowCell (fun r_1 => (vp_in r_1 448 ∧ (((((xg_rows u) r_1.toNatClampNeg) = p2 → (vp_in (r_1 + 1) 448 ∧ (vp_in p0 4 ∧ (((((xg_rows u) (r_1 + 1).toNatClampNeg) = ((xg_nextSaving u) p0.toNatClampNeg) → (vp_in (r_1 + 7) 448 ∧ (vp_in p0 4 ∧ (((((xg_rows u) (r_1 + 7).toNatClampNeg) = ((xg_nextSaving u) p0.toNatClampNeg) → (post 1)) ∧ (¬ ((xg_rows u) (r_1 + 7).toNatClampNeg) = ((xg_nextSaving u) p0.toNatClampNeg) → (post 0))))))) ∧ (¬ ((xg_rows u) (r_1 + 1).toNatClampNeg) = ((xg_nextSaving u) p0.toNatClampNeg) → (post 0))))))) ∧ (¬ ((xg_rows u) r_1.toNatClampNeg) = p2 → (post 0)))))) u p0 p1) := rfl
def xc_replayList_20 (post : SX → Prop) (x1 : Int32) (x3 : Int32) (x4 : Int32) (n : Nat) (x5 : Int32) (u : SX) : Prop := wX_replayList_20 post x1 x3 x4 n x5 (xg_writesLeft u) (xg_half u) (xg_grouped u) (xg_upKey u) (xg_upNode u) (xg_waiting u) (xg_wrong u) (xg_seenNodes u) (xg_seenKeys u) (xg_disk u) (xg_images u) (xg_rows u) (xg_anchors u) (xg_copies u) (xg_loaded u) (xg_changed u) (xg_imageOf u) (xg_rowAt u) (xg_rowsUsed u) (xg_imageAt u) (xg_imagesUsed u) (xg_nextSaving u) (xg_anchorNumber u) (xg_selected u) (xg_viewLength u) (xg_view u) (xg_group u) (xg_wayNode u) (xg_waySlot u) (xg_wideKey u) (xg_wideItem u) (xg_walkNode u) (xg_walkLevel u) (xg_walkLow u) (xg_walkHigh u)
theorem xe_replayList_20 (post : SX → Prop) (x1 : Int32) (x3 : Int32) (x4 : Int32) (n : Nat) (x5 : Int32) (u : SX) : xc_replayList_20 post x1 x3 x4 (n + 1) x5 u = (((x4 ≤ x5 → (post u)) ∧ (¬ x4 ≤ x5 → (((4 ≤ x5 → (post u)) ∧ (¬ 4 ≤ x5 → (vp_in ((x3 + 3) + x5) 448 ∧ (vp_in x1 4 ∧ (wpX_copyHome (fun u44 => (vp_in x1 4 ∧ (¬ (48 : Int32) = 0 ∧ (vp_in x1 4 ∧ ∀ a_imageAt_82, a_imageAt_82 = upd (xg_imageAt u44) x1.toNatClampNeg ((((xg_imageAt u44) x1.toNatClampNeg) + 1) - (((xg_imageAt u44) x1.toNatClampNeg) + 1) / 48 * 48) → (∀ x5_83, x5_83 = x5 + 1 → (xc_replayList_20 post x1 x3 x4 n x5_83 (xs_imageAt u44 a_imageAt_82))))))) u x1 ((xg_rows u) ((x3 + 3) + x5).toNatClampNeg) ((xg_imageAt u) x1.toNatClampNeg) 8))))))))) := rfl
theorem xe_replayList (post : SX → Prop) (u : SX) (p0 : Int32) (p1 : Int32) : wpX_replayList post u p0 p1 = (wpX_rowCell (fun r_1 => (vp_in (r_1 + 2) 448 ∧ (∀ x4_38, x4_38 = (xg_rows u) (r_1 + 2).toNatClampNeg → (∃ n20 : Nat, xc_replayList_20 post p0 r_1 x4_38 n20 0 u)))) u p0 p1) := rfl
def xc_replay_38 (post : Int32 → SX → Prop) (x1 : Int32) (x2 : Int32) (n : Nat) (x3 : Int32) (u : SX) : Prop := wX_replay_38 post x1 x2 n x3 (xg_writesLeft u) (xg_half u) (xg_grouped u) (xg_upKey u) (xg_upNode u) (xg_waiting u) (xg_wrong u) (xg_seenNodes u) (xg_seenKeys u) (xg_disk u) (xg_images u) (xg_rows u) (xg_anchors u) (xg_copies u) (xg_loaded u) (xg_changed u) (xg_imageOf u) (xg_rowAt u) (xg_rowsUsed u) (xg_imageAt u) (xg_imagesUsed u) (xg_nextSaving u) (xg_anchorNumber u) (xg_selected u) (xg_viewLength u) (xg_view u) (xg_group u) (xg_wayNode u) (xg_waySlot u) (xg_wideKey u) (xg_wideItem u) (xg_walkNode u) (xg_walkLevel u) (xg_walkLow u) (xg_walkHigh u)
theorem xe_replay_38 (post : Int32 → SX → Prop) (x1 : Int32) (x2 : Int32) (n : Nat) (x3 : Int32) (u : SX) : xc_replay_38 post x1 x2 (n + 1) x3 u = (((x2 ≤ x3 → (vp_in x1 4 ∧ (¬ (14 : Int32) = 0 ∧ (vp_in x1 4 ∧ ∀ a_rowAt_43, a_rowAt_43 = upd (xg_rowAt u) x1.toNatClampNeg (((((xg_rowAt u) x1.toNatClampNeg) + x2) + 1) - ((((xg_rowAt u) x1.toNatClampNeg) + x2) + 1) / 14 * 14) → (vp_in x1 4 ∧ (vp_in x1 4 ∧ ∀ a_nextSaving_46, a_nextSaving_46 = upd (xg_nextSaving u) x1.toNatClampNeg (((xg_nextSaving u) x1.toNatClampNeg) + 1) → (post 1 (xs_nextSaving (xs_rowAt u a_rowAt_43) a_nextSaving_46)))))))) ∧ (¬ x2 ≤ x3 → (wpX_replayList (fun u48 => (∀ x3_83, x3_83 = x3 + 1 → (xc_replay_38 post x1 x2 n x3_83 u48))) u x1 x3)))) := rfl
def xc_replay_24 (post : Int32 → SX → Prop) (x1 : Int32) (x2 : Int32) (u : SX) : Prop := wX_replay_24 post x1 x2 (xg_writesLeft u) (xg_half u) (xg_grouped u) (xg_upKey u) (xg_upNode u) (xg_waiting u) (xg_wrong u) (xg_seenNodes u) (xg_seenKeys u) (xg_disk u) (xg_images u) (xg_rows u) (xg_anchors u) (xg_copies u) (xg_loaded u) (xg_changed u) (xg_imageOf u) (xg_rowAt u) (xg_rowsUsed u) (xg_imageAt u) (xg_imagesUsed u) (xg_nextSaving u) (xg_anchorNumber u) (xg_selected u) (xg_viewLength u) (xg_view u) (xg_group u) (xg_wayNode u) (xg_waySlot u) (xg_wideKey u) (xg_wideItem u) (xg_walkNode u) (xg_walkLevel u) (xg_walkLow u) (xg_walkHigh u)
theorem xe_replay_24 (post : Int32 → SX → Prop) (x1 : Int32) (x2 : Int32) (u : SX) : xc_replay_24 post x1 x2 u = (wpX_isRow (fun r_2 => (((r_2 = 0 → (post 0 u)) ∧ (¬ r_2 = 0 → (∃ n38 : Nat, xc_replay_38 post x1 x2 n38 0 u))))) u x1 x2 2) := rfl
def xc_replay_2 (post : Int32 → SX → Prop) (x1 : Int32) (u : SX) (n : Nat) (x2 : Int32) : Prop := wX_replay_2 post x1 (xg_writesLeft u) (xg_half u) (xg_grouped u) (xg_upKey u) (xg_upNode u) (xg_waiting u) (xg_wrong u) (xg_seenNodes u) (xg_seenKeys u) (xg_disk u) (xg_images u) (xg_rows u) (xg_anchors u) (xg_copies u) (xg_loaded u) (xg_changed u) (xg_imageOf u) (xg_rowAt u) (xg_rowsUsed u) (xg_imageAt u) (xg_imagesUsed u) (xg_nextSaving u) (xg_anchorNumber u) (xg_selected u) (xg_viewLength u) (xg_view u) (xg_group u) (xg_wayNode u) (xg_waySlot u) (xg_wideKey u) (xg_wideItem u) (xg_walkNode u) (xg_walkLevel u) (xg_walkLow u) (xg_walkHigh u) n x2
theorem xe_replay_2 (post : Int32 → SX → Prop) (x1 : Int32) (u : SX) (n : Nat) (x2 : Int32) : xc_replay_2 post x1 u (n + 1) x2 = (((14 ≤ x2 → (xc_replay_24 post x1 x2 u)) ∧ (¬ 14 ≤ x2 → (wpX_isRow (fun r_84 => (((r_84 = 0 → (xc_replay_24 post x1 x2 u)) ∧ (¬ r_84 = 0 → (∀ x2_121, x2_121 = x2 + 1 → (xc_replay_2 post x1 u n x2_121)))))) u x1 x2 1)))) := rfl
theorem xe_replay (post : Int32 → SX → Prop) (u : SX) (p0 : Int32) : wpX_replay post u p0 = (∃ n2 : Nat, xc_replay_2 post p0 u n2 0) := rfl
def xc_comeUp_31 (post : SX → Prop) (x1 : Int32) (u : SX) : Prop := wX_comeUp_31 post x1 (xg_writesLeft u) (xg_half u) (xg_grouped u) (xg_upKey u) (xg_upNode u) (xg_waiting u) (xg_wrong u) (xg_seenNodes u) (xg_seenKeys u) (xg_disk u) (xg_images u) (xg_rows u) (xg_anchors u) (xg_copies u) (xg_loaded u) (xg_changed u) (xg_imageOf u) (xg_rowAt u) (xg_rowsUsed u) (xg_imageAt u) (xg_imagesUsed u) (xg_nextSaving u) (xg_anchorNumber u) (xg_selected u) (xg_viewLength u) (xg_view u) (xg_group u) (xg_wayNode u) (xg_waySlot u) (xg_wideKey u) (xg_wideItem u) (xg_walkNode u) (xg_walkLevel u) (xg_walkLow u) (xg_walkHigh u)
theorem xe_comeUp_31 (post : SX → Prop) (x1 : Int32) (u : SX) : xc_comeUp_31 post x1 u = (vp_in x1 4 ∧ (vp_in x1 4 ∧ ∀ a_nextSaving_40, a_nextSaving_40 = upd (xg_nextSaving u) x1.toNatClampNeg (((xg_nextSaving u) x1.toNatClampNeg) + 1) → (vp_in x1 4 ∧ (vp_in x1 4 ∧ (wpX_writeAnchor (fun u44 => (post u44)) (1, 0, xg_grouped u, xg_upKey u, xg_upNode u, xg_waiting u, xg_wrong u, xg_seenNodes u, xg_seenKeys u, xg_disk u, xg_images u, xg_rows u, xg_anchors u, xg_copies u, xg_loaded u, xg_changed u, xg_imageOf u, xg_rowAt u, xg_rowsUsed u, xg_imageAt u, xg_imagesUsed u, a_nextSaving_40, xg_anchorNumber u, xg_selected u, xg_viewLength u, xg_view u, xg_group u, xg_wayNode u, xg_waySlot u, xg_wideKey u, xg_wideItem u, xg_walkNode u, xg_walkLevel u, xg_walkLow u, xg_walkHigh u) x1 ((xg_rowAt u) x1.toNatClampNeg) ((xg_imageAt u) x1.toNatClampNeg)))))) := rfl
def xc_comeUp_9 (post : SX → Prop) (x1 : Int32) (n : Nat) (x2 : Int32) (x3 : Int32) (u : SX) : Prop := wX_comeUp_9 post x1 n x2 x3 (xg_writesLeft u) (xg_half u) (xg_grouped u) (xg_upKey u) (xg_upNode u) (xg_waiting u) (xg_wrong u) (xg_seenNodes u) (xg_seenKeys u) (xg_disk u) (xg_images u) (xg_rows u) (xg_anchors u) (xg_copies u) (xg_loaded u) (xg_changed u) (xg_imageOf u) (xg_rowAt u) (xg_rowsUsed u) (xg_imageAt u) (xg_imagesUsed u) (xg_nextSaving u) (xg_anchorNumber u) (xg_selected u) (xg_viewLength u) (xg_view u) (xg_group u) (xg_wayNode u) (xg_waySlot u) (xg_wideKey u) (xg_wideItem u) (xg_walkNode u) (xg_walkLevel u) (xg_walkLow u) (xg_walkHigh u)
theorem xe_comeUp_9 (post : SX → Prop) (x1 : Int32) (n : Nat) (x2 : Int32) (x3 : Int32) (u : SX) : xc_comeUp_9 post x1 (n + 1) x2 x3 u = (((14 ≤ x3 → (xc_comeUp_31 post x1 u)) ∧ (¬ 14 ≤ x3 → (((x2 = 0 → (xc_comeUp_31 post x1 u)) ∧ (¬ x2 = 0 → (wpX_replay (fun r_80 u81 => (∀ x3_116, x3_116 = x3 + 1 → (xc_comeUp_9 post x1 n r_80 x3_116 u81))) u x1))))))) := rfl
theorem xe_comeUp (post : SX → Prop) (u : SX) (p0 : Int32) : wpX_comeUp post u p0 = (wpX_findAnchor (fun u2 => (∃ n9 : Nat, xc_comeUp_9 post p0 n9 1 0 u2)) u p0) := rfl
theorem xe_keyOf (post : Int32 → SX → Prop) (u : SX) (p0 : Int32) (p1 : Int32) (p2 : Int32) : wpX_keyOf post u p0 p1 p2 = (wpX_cell (fun r_1 u2 => (post r_1 u2)) u p0 p1 (1 + p2)) := rfl
theorem xe_itemOf (post : Int32 → SX → Prop) (u : SX) (p0 : Int32) (p1 : Int32) (p2 : Int32) : wpX_itemOf post u p0 p1 p2 = (wpX_cell (fun r_1 u2 => (post r_1 u2)) u p0 p1 (4 + p2)) := rfl
def xc_slotFor_12 (post : Int32 → SX → Prop) (x1 : Int32) (x2 : Int32) (x3 : Int32) (x4 : Int32) (n : Nat) (x5 : Int32) (u : SX) : Prop := wX_slotFor_12 post x1 x2 x3 x4 n x5 (xg_writesLeft u) (xg_half u) (xg_grouped u) (xg_upKey u) (xg_upNode u) (xg_waiting u) (xg_wrong u) (xg_seenNodes u) (xg_seenKeys u) (xg_disk u) (xg_images u) (xg_rows u) (xg_anchors u) (xg_copies u) (xg_loaded u) (xg_changed u) (xg_imageOf u) (xg_rowAt u) (xg_rowsUsed u) (xg_imageAt u) (xg_imagesUsed u) (xg_nextSaving u) (xg_anchorNumber u) (xg_selected u) (xg_viewLength u) (xg_view u) (xg_group u) (xg_wayNode u) (xg_waySlot u) (xg_wideKey u) (xg_wideItem u) (xg_walkNode u) (xg_walkLevel u) (xg_walkLow u) (xg_walkHigh u)
theorem xe_slotFor_12 (post : Int32 → SX → Prop) (x1 : Int32) (x2 : Int32) (x3 : Int32) (x4 : Int32) (n : Nat) (x5 : Int32) (u : SX) : xc_slotFor_12 post x1 x2 x3 x4 (n + 1) x5 u = ((((x4 - 1) ≤ x5 → (post x5 u)) ∧ (¬ (x4 - 1) ≤ x5 → (wpX_keyOf (fun r_38 u39 => (((x3 < r_38 → (post x5 u39)) ∧ (¬ x3 < r_38 → (∀ x5_75, x5_75 = x5 + 1 → (xc_slotFor_12 post x1 x2 x3 x4 n x5_75 u39)))))) u x1 x2 x5)))) := rfl
end
section
theorem xe_slotFor (post : Int32 → SX → Prop) (u : SX) (p0 : Int32) (p1 : Int32) (p2 : Int32) : wpX_slotFor post u p0 p1 p2 = (wpX_cell (fun r_1 u2 => (∃ n12 : Nat, xc_slotFor_12 post p0 p1 p2 r_1 n12 0 u2)) u p0 p1 0) := rfl
def xc_descend_30 (post : Int32 → SX → Prop) (x1 : Int32) (x3 : Int32) (n : Nat) (x4 : Int32) (x6 : Int32) (u : SX) : Prop := wX_descend_30 post x1 x3 n x4 x6 (xg_writesLeft u) (xg_half u) (xg_grouped u) (xg_upKey u) (xg_upNode u) (xg_waiting u) (xg_wrong u) (xg_seenNodes u) (xg_seenKeys u) (xg_disk u) (xg_images u) (xg_rows u) (xg_anchors u) (xg_copies u) (xg_loaded u) (xg_changed u) (xg_imageOf u) (xg_rowAt u) (xg_rowsUsed u) (xg_imageAt u) (xg_imagesUsed u) (xg_nextSaving u) (xg_anchorNumber u) (xg_selected u) (xg_viewLength u) (xg_view u) (xg_group u) (xg_wayNode u) (xg_waySlot u) (xg_wideKey u) (xg_wideItem u) (xg_walkNode u) (xg_walkLevel u) (xg_walkLow u) (xg_walkHigh u)
theorem xe_descend_30 (post : Int32 → SX → Prop) (x1 : Int32) (x3 : Int32) (n : Nat) (x4 : Int32) (x6 : Int32) (u : SX) : xc_descend_30 post x1 x3 (n + 1) x4 x6 u = (((x6 ≤ 0 → (post x4 u)) ∧ (¬ x6 ≤ 0 → (wpX_slotFor (fun r_75 u76 => (vp_in x6 8 ∧ ∀ a_wayNode_112, a_wayNode_112 = upd (xg_wayNode u76) x6.toNatClampNeg x4 → (vp_in x6 8 ∧ ∀ a_waySlot_114, a_waySlot_114 = upd (xg_waySlot u76) x6.toNatClampNeg r_75 → (wpX_itemOf (fun r_115 u116 => (∀ x6_151, x6_151 = x6 + (-1) → (xc_descend_30 post x1 x3 n r_115 x6_151 u116))) (xs_waySlot (xs_wayNode u76 a_wayNode_112) a_waySlot_114) x1 x4 r_75)))) u x1 x4 x3)))) := rfl
theorem xe_descend (post : Int32 → SX → Prop) (u : SX) (p0 : Int32) (p1 : Int32) (p2 : Int32) : wpX_descend post u p0 p1 p2 = (wpX_cell (fun r_1 u2 => (wpX_cell (fun r_37 u38 => (∀ x6_73, x6_73 = r_37 - 1 → (∃ n30 : Nat, xc_descend_30 post p0 p2 n30 r_1 x6_73 u38))) u2 p0 0 ((3 * p1) + 1))) u p0 0 (3 * p1)) := rfl
def xc_placeIn_12 (post : Int32 → SX → Prop) (x1 : Int32) (x2 : Int32) (x3 : Int32) (x4 : Int32) (n : Nat) (x5 : Int32) (u : SX) : Prop := wX_placeIn_12 post x1 x2 x3 x4 n x5 (xg_writesLeft u) (xg_half u) (xg_grouped u) (xg_upKey u) (xg_upNode u) (xg_waiting u) (xg_wrong u) (xg_seenNodes u) (xg_seenKeys u) (xg_disk u) (xg_images u) (xg_rows u) (xg_anchors u) (xg_copies u) (xg_loaded u) (xg_changed u) (xg_imageOf u) (xg_rowAt u) (xg_rowsUsed u) (xg_imageAt u) (xg_imagesUsed u) (xg_nextSaving u) (xg_anchorNumber u) (xg_selected u) (xg_viewLength u) (xg_view u) (xg_group u) (xg_wayNode u) (xg_waySlot u) (xg_wideKey u) (xg_wideItem u) (xg_walkNode u) (xg_walkLevel u) (xg_walkLow u) (xg_walkHigh u)
theorem xe_placeIn_12 (post : Int32 → SX → Prop) (x1 : Int32) (x2 : Int32) (x3 : Int32) (x4 : Int32) (n : Nat) (x5 : Int32) (u : SX) : xc_placeIn_12 post x1 x2 x3 x4 (n + 1) x5 u = (((x4 ≤ x5 → (post (-1) u)) ∧ (¬ x4 ≤ x5 → (wpX_keyOf (fun r_38 u39 => (((r_38 = x3 → (post x5 u39)) ∧ (¬ r_38 = x3 → (∀ x5_75, x5_75 = x5 + 1 → (xc_placeIn_12 post x1 x2 x3 x4 n x5_75 u39)))))) u x1 x2 x5)))) := rfl
theorem xe_placeIn (post : Int32 → SX → Prop) (u : SX) (p0 : Int32) (p1 : Int32) (p2 : Int32) : wpX_placeIn post u p0 p1 p2 = (wpX_cell (fun r_1 u2 => (∃ n12 : Nat, xc_placeIn_12 post p0 p1 p2 r_1 n12 0 u2)) u p0 p1 0) := rfl
def xc_valueOf_26 (post : Int32 → SX → Prop) (x1 : Int32) (x4 : Int32) (z0 : Int32) (u : SX) : Prop := wX_valueOf_26 post x1 x4 z0 (xg_writesLeft u) (xg_half u) (xg_grouped u) (xg_upKey u) (xg_upNode u) (xg_waiting u) (xg_wrong u) (xg_seenNodes u) (xg_seenKeys u) (xg_disk u) (xg_images u) (xg_rows u) (xg_anchors u) (xg_copies u) (xg_loaded u) (xg_changed u) (xg_imageOf u) (xg_rowAt u) (xg_rowsUsed u) (xg_imageAt u) (xg_imagesUsed u) (xg_nextSaving u) (xg_anchorNumber u) (xg_selected u) (xg_viewLength u) (xg_view u) (xg_group u) (xg_wayNode u) (xg_waySlot u) (xg_wideKey u) (xg_wideItem u) (xg_walkNode u) (xg_walkLevel u) (xg_walkLow u) (xg_walkHigh u)
theorem xe_valueOf_26 (post : Int32 → SX → Prop) (x1 : Int32) (x4 : Int32) (z0 : Int32) (u : SX) : xc_valueOf_26 post x1 x4 z0 u = (((0 ≤ z0 → (wpX_itemOf (fun r_75 u76 => (post r_75 u76)) u x1 x4 z0)) ∧ (¬ 0 ≤ z0 → (post (-2) u)))) := rfl
theorem xe_valueOf (post : Int32 → SX → Prop) (u : SX) (p0 : Int32) (p1 : Int32) (p2 : Int32) : wpX_valueOf post u p0 p1 p2 = (wpX_descend (fun r_1 u2 => (((r_1 = 0 → (xc_valueOf_26 post p0 r_1 (-1) u2)) ∧ (¬ r_1 = 0 → (wpX_placeIn (fun r_38 u39 => (xc_valueOf_26 post p0 r_1 r_38 u39)) u2 p0 r_1 p2))))) u p0 p1 p2) := rfl
def xc_firstKey_6 (post : Int32 → SX → Prop) (x1 : Int32) (n : Nat) (x4 : Int32) (x5 : Int32) (u : SX) : Prop := wX_firstKey_6 post x1 n x4 x5 (xg_writesLeft u) (xg_half u) (xg_grouped u) (xg_upKey u) (xg_upNode u) (xg_waiting u) (xg_wrong u) (xg_seenNodes u) (xg_seenKeys u) (xg_disk u) (xg_images u) (xg_rows u) (xg_anchors u) (xg_copies u) (xg_loaded u) (xg_changed u) (xg_imageOf u) (xg_rowAt u) (xg_rowsUsed u) (xg_imageAt u) (xg_imagesUsed u) (xg_nextSaving u) (xg_anchorNumber u) (xg_selected u) (xg_viewLength u) (xg_view u) (xg_group u) (xg_wayNode u) (xg_waySlot u) (xg_wideKey u) (xg_wideItem u) (xg_walkNode u) (xg_walkLevel u) (xg_walkLow u) (xg_walkHigh u)
theorem xe_firstKey_6 (post : Int32 → SX → Prop) (x1 : Int32) (n : Nat) (x4 : Int32) (x5 : Int32) (u : SX) : xc_firstKey_6 post x1 (n + 1) x4 x5 u = (((x5 ≤ 0 → (wpX_keyOf (fun r_2 u3 => (post r_2 u3)) u x1 x4 0)) ∧ (¬ x5 ≤ 0 → (wpX_itemOf (fun r_38 u39 => (∀ x5_74, x5_74 = x5 + (-1) → (xc_firstKey_6 post x1 n r_38 x5_74 u39))) u x1 x4 0)))) := rfl
theorem xe_firstKey (post : Int32 → SX → Prop) (u : SX) (p0 : Int32) (p1 : Int32) (p2 : Int32) : wpX_firstKey post u p0 p1 p2 = (∃ n6 : Nat, xc_firstKey_6 post p0 n6 p1 p2 u) := rfl
def xc_keyAfter_80 (post : Int32 → SX → Prop) (x1 : Int32) (x6 : Int32) (n : Nat) (x7 : Int32) (u : SX) : Prop := wX_keyAfter_80 post x1 x6 n x7 (xg_writesLeft u) (xg_half u) (xg_grouped u) (xg_upKey u) (xg_upNode u) (xg_waiting u) (xg_wrong u) (xg_seenNodes u) (xg_seenKeys u) (xg_disk u) (xg_images u) (xg_rows u) (xg_anchors u) (xg_copies u) (xg_loaded u) (xg_changed u) (xg_imageOf u) (xg_rowAt u) (xg_rowsUsed u) (xg_imageAt u) (xg_imagesUsed u) (xg_nextSaving u) (xg_anchorNumber u) (xg_selected u) (xg_viewLength u) (xg_view u) (xg_group u) (xg_wayNode u) (xg_waySlot u) (xg_wideKey u) (xg_wideItem u) (xg_walkNode u) (xg_walkLevel u) (xg_walkLow u) (xg_walkHigh u)
theorem xe_keyAfter_80 (post : Int32 → SX → Prop) (x1 : Int32) (x6 : Int32) (n : Nat) (x7 : Int32) (u : SX) : xc_keyAfter_80 post x1 x6 (n + 1) x7 u = (((x6 ≤ x7 → (post (-2) u)) ∧ (¬ x6 ≤ x7 → (vp_in x7 8 ∧ (∀ x8_113, x8_113 = (xg_wayNode u) x7.toNatClampNeg → (vp_in x7 8 ∧ (∀ x9_115, x9_115 = ((xg_waySlot u) x7.toNatClampNeg) + 1 → (wpX_cell (fun r_116 u117 => (((r_116 ≤ x9_115 → (∀ x7_153, x7_153 = x7 + 1 → (xc_keyAfter_80 post x1 x6 n x7_153 u117))) ∧ (¬ r_116 ≤ x9_115 → (wpX_itemOf (fun r_154 u155 => (wpX_firstKey (fun r_190 u191 => (post r_190 u191)) u155 x1 r_154 (x7 - 1))) u117 x1 x8_113 x9_115))))) u x1 x8_113 0)))))))) := rfl
def xc_keyAfter_31 (post : Int32 → SX → Prop) (x1 : Int32) (x2 : Int32) (x3 : Int32) (x4 : Int32) (x5 : Int32) (n : Nat) (x6 : Int32) (u : SX) : Prop := wX_keyAfter_31 post x1 x2 x3 x4 x5 n x6 (xg_writesLeft u) (xg_half u) (xg_grouped u) (xg_upKey u) (xg_upNode u) (xg_waiting u) (xg_wrong u) (xg_seenNodes u) (xg_seenKeys u) (xg_disk u) (xg_images u) (xg_rows u) (xg_anchors u) (xg_copies u) (xg_loaded u) (xg_changed u) (xg_imageOf u) (xg_rowAt u) (xg_rowsUsed u) (xg_imageAt u) (xg_imagesUsed u) (xg_nextSaving u) (xg_anchorNumber u) (xg_selected u) (xg_viewLength u) (xg_view u) (xg_group u) (xg_wayNode u) (xg_waySlot u) (xg_wideKey u) (xg_wideItem u) (xg_walkNode u) (xg_walkLevel u) (xg_walkLow u) (xg_walkHigh u)
theorem xe_keyAfter_31 (post : Int32 → SX → Prop) (x1 : Int32) (x2 : Int32) (x3 : Int32) (x4 : Int32) (x5 : Int32) (n : Nat) (x6 : Int32) (u : SX) : xc_keyAfter_31 post x1 x2 x3 x4 x5 (n + 1) x6 u = (((x5 ≤ x6 → (wpX_cell (fun r_75 u76 => (∃ n80 : Nat, xc_keyAfter_80 post x1 r_75 n80 1 u76)) u x1 0 ((3 * x2) + 1))) ∧ (¬ x5 ≤ x6 → (wpX_keyOf (fun r_226 u227 => (((r_226 ≤ x3 → (∀ x6_263, x6_263 = x6 + 1 → (xc_keyAfter_31 post x1 x2 x3 x4 x5 n x6_263 u227))) ∧ (¬ r_226 ≤ x3 → (post r_226 u227))))) u x1 x4 x6)))) := rfl
theorem xe_keyAfter (post : Int32 → SX → Prop) (u : SX) (p0 : Int32) (p1 : Int32) (p2 : Int32) : wpX_keyAfter post u p0 p1 p2 = (wpX_descend (fun r_1 u2 => (((r_1 = 0 → (∃ n31 : Nat, xc_keyAfter_31 post p0 p1 p2 r_1 0 n31 0 u2)) ∧ (¬ r_1 = 0 → (wpX_cell (fun r_38 u39 => (∃ n31 : Nat, xc_keyAfter_31 post p0 p1 p2 r_1 r_38 n31 0 u39)) u2 p0 r_1 0))))) u p0 p1 p2) := rfl
def xc_insertAt_86 (post : SX → Prop) (x1 : Int32) (x2 : Int32) (x3 : Int32) (x4 : Int32) (x5 : Int32) (x6 : Int32) (u : SX) : Prop := wX_insertAt_86 post x1 x2 x3 x4 x5 x6 (xg_writesLeft u) (xg_half u) (xg_grouped u) (xg_upKey u) (xg_upNode u) (xg_waiting u) (xg_wrong u) (xg_seenNodes u) (xg_seenKeys u) (xg_disk u) (xg_images u) (xg_rows u) (xg_anchors u) (xg_copies u) (xg_loaded u) (xg_changed u) (xg_imageOf u) (xg_rowAt u) (xg_rowsUsed u) (xg_imageAt u) (xg_imagesUsed u) (xg_nextSaving u) (xg_anchorNumber u) (xg_selected u) (xg_viewLength u) (xg_view u) (xg_group u) (xg_wayNode u) (xg_waySlot u) (xg_wideKey u) (xg_wideItem u) (xg_walkNode u) (xg_walkLevel u) (xg_walkLow u) (xg_walkHigh u)
theorem xe_insertAt_86 (post : SX → Prop) (x1 : Int32) (x2 : Int32) (x3 : Int32) (x4 : Int32) (x5 : Int32) (x6 : Int32) (u : SX) : xc_insertAt_86 post x1 x2 x3 x4 x5 x6 u = (wpX_setCell (fun u39 => (wpX_setCell (fun u75 => (wpX_setCell (fun u111 => (post u111)) u75 x1 x2 0 (x5 + 1))) u39 x1 x2 (4 + x6) x4)) u x1 x2 (1 + x6) x3) := rfl
def xc_insertAt_13 (post : SX → Prop) (x1 : Int32) (x2 : Int32) (x3 : Int32) (x4 : Int32) (x5 : Int32) (n : Nat) (x6 : Int32) (u : SX) : Prop := wX_insertAt_13 post x1 x2 x3 x4 x5 n x6 (xg_writesLeft u) (xg_half u) (xg_grouped u) (xg_upKey u) (xg_upNode u) (xg_waiting u) (xg_wrong u) (xg_seenNodes u) (xg_seenKeys u) (xg_disk u) (xg_images u) (xg_rows u) (xg_anchors u) (xg_copies u) (xg_loaded u) (xg_changed u) (xg_imageOf u) (xg_rowAt u) (xg_rowsUsed u) (xg_imageAt u) (xg_imagesUsed u) (xg_nextSaving u) (xg_anchorNumber u) (xg_selected u) (xg_viewLength u) (xg_view u) (xg_group u) (xg_wayNode u) (xg_waySlot u) (xg_wideKey u) (xg_wideItem u) (xg_walkNode u) (xg_walkLevel u) (xg_walkLow u) (xg_walkHigh u)
theorem xe_insertAt_13 (post : SX → Prop) (x1 : Int32) (x2 : Int32) (x3 : Int32) (x4 : Int32) (x5 : Int32) (n : Nat) (x6 : Int32) (u : SX) : xc_insertAt_13 post x1 x2 x3 x4 x5 (n + 1) x6 u = (((x6 ≤ 0 → (xc_insertAt_86 post x1 x2 x3 x4 x5 x6 u)) ∧ (¬ x6 ≤ 0 → (wpX_keyOf (fun r_146 u147 => (((r_146 ≤ x3 → (xc_insertAt_86 post x1 x2 x3 x4 x5 x6 u147)) ∧ (¬ r_146 ≤ x3 → (wpX_keyOf (fun r_183 u184 => (wpX_itemOf (fun r_219 u220 => (wpX_setCell (fun u256 => (wpX_setCell (fun u292 => (∀ x6_327, x6_327 = x6 + (-1) → (xc_insertAt_13 post x1 x2 x3 x4 x5 n x6_327 u292))) u256 x1 x2 (4 + x6) r_219)) u220 x1 x2 (1 + x6) r_183)) u184 x1 x2 (x6 - 1))) u147 x1 x2 (x6 - 1)))))) u x1 x2 (x6 - 1))))) := rfl
theorem xe_insertAt (post : SX → Prop) (u : SX) (p0 : Int32) (p1 : Int32) (p2 : Int32) (p3 : Int32) : wpX_insertAt post u p0 p1 p2 p3 = (wpX_cell (fun r_1 u2 => (∃ n13 : Nat, xc_insertAt_13 post p0 p1 p2 p3 r_1 n13 r_1 u2)) u p0 p1 0) := rfl
def xc_fillLeaf_17 (post : SX → Prop) (x1 : Int32) (x2 : Int32) (x3 : Int32) (n : Nat) (x4 : Int32) (u : SX) : Prop := wX_fillLeaf_17 post x1 x2 x3 n x4 (xg_writesLeft u) (xg_half u) (xg_grouped u) (xg_upKey u) (xg_upNode u) (xg_waiting u) (xg_wrong u) (xg_seenNodes u) (xg_seenKeys u) (xg_disk u) (xg_images u) (xg_rows u) (xg_anchors u) (xg_copies u) (xg_loaded u) (xg_changed u) (xg_imageOf u) (xg_rowAt u) (xg_rowsUsed u) (xg_imageAt u) (xg_imagesUsed u) (xg_nextSaving u) (xg_anchorNumber u) (xg_selected u) (xg_viewLength u) (xg_view u) (xg_group u) (xg_wayNode u) (xg_waySlot u) (xg_wideKey u) (xg_wideItem u) (xg_walkNode u) (xg_walkLevel u) (xg_walkLow u) (xg_walkHigh u)
theorem xe_fillLeaf_17 (post : SX → Prop) (x1 : Int32) (x2 : Int32) (x3 : Int32) (n : Nat) (x4 : Int32) (u : SX) : xc_fillLeaf_17 post x1 x2 x3 (n + 1) x4 u = (((2 ≤ x4 → (post u)) ∧ (¬ 2 ≤ x4 → (vp_in (x3 + x4) 5 ∧ (wpX_setCell (fun u76 => (vp_in (x3 + x4) 5 ∧ (wpX_setCell (fun u113 => (∀ x4_148, x4_148 = x4 + 1 → (xc_fillLeaf_17 post x1 x2 x3 n x4_148 u113))) u76 x1 x2 (4 + x4) ((xg_wideItem u76) (x3 + x4).toNatClampNeg)))) u x1 x2 (1 + x4) ((xg_wideKey u) (x3 + x4).toNatClampNeg)))))) := rfl
theorem xe_fillLeaf (post : SX → Prop) (u : SX) (p0 : Int32) (p1 : Int32) (p2 : Int32) : wpX_fillLeaf post u p0 p1 p2 = (wpX_clear (fun u2 => (wpX_setCell (fun u38 => (∃ n17 : Nat, xc_fillLeaf_17 post p0 p1 p2 n17 0 u38)) u2 p0 p1 0 2)) u p0 p1) := rfl
def xc_splitLeaf_112 (post : SX → Prop) (x1 : Int32) (x2 : Int32) (u : SX) : Prop := wX_splitLeaf_112 post x1 x2 (xg_writesLeft u) (xg_half u) (xg_grouped u) (xg_upKey u) (xg_upNode u) (xg_waiting u) (xg_wrong u) (xg_seenNodes u) (xg_seenKeys u) (xg_disk u) (xg_images u) (xg_rows u) (xg_anchors u) (xg_copies u) (xg_loaded u) (xg_changed u) (xg_imageOf u) (xg_rowAt u) (xg_rowsUsed u) (xg_imageAt u) (xg_imagesUsed u) (xg_nextSaving u) (xg_anchorNumber u) (xg_selected u) (xg_viewLength u) (xg_view u) (xg_group u) (xg_wayNode u) (xg_waySlot u) (xg_wideKey u) (xg_wideItem u) (xg_walkNode u) (xg_walkLevel u) (xg_walkLow u) (xg_walkHigh u)
theorem xe_splitLeaf_112 (post : SX → Prop) (x1 : Int32) (x2 : Int32) (u : SX) : xc_splitLeaf_112 post x1 x2 u = (wpX_takeNode (fun r_3 u4 => (wpX_fillLeaf (fun u40 => (wpX_fillLeaf (fun u76 => (∀ f_upKey_111, f_upKey_111 = (xg_wideKey u76) 2 → (post (xs_upNode (xs_upKey u76 f_upKey_111) r_3)))) u40 x1 r_3 2)) u4 x1 x2 0)) u x1) := rfl
def xc_splitLeaf_59 (post : SX → Prop) (J9 : Int32 → Int32 → Int32 → SX → Prop) (x1 : Int32) (x2 : Int32) (x3 : Int32) (x4 : Int32) (x5 : Int32) (x6 : Int32) (x7 : Int32) (x8 : Int32) (u : SX) : Prop := wX_splitLeaf_59 post (fun j0 j1 j2 c0 c1 c2 c3 c4 c5 c6 c7 c8 c9 c10 c11 c12 c13 c14 c15 c16 c17 c18 c19 c20 c21 c22 c23 c24 c25 c26 c27 c28 c29 c30 c31 c32 c33 c34 => J9 j0 j1 j2 (c0, c1, c2, c3, c4, c5, c6, c7, c8, c9, c10, c11, c12, c13, c14, c15, c16, c17, c18, c19, c20, c21, c22, c23, c24, c25, c26, c27, c28, c29, c30, c31, c32, c33, c34)) x1 x2 x3 x4 x5 x6 x7 x8 (xg_writesLeft u) (xg_half u) (xg_grouped u) (xg_upKey u) (xg_upNode u) (xg_waiting u) (xg_wrong u) (xg_seenNodes u) (xg_seenKeys u) (xg_disk u) (xg_images u) (xg_rows u) (xg_anchors u) (xg_copies u) (xg_loaded u) (xg_changed u) (xg_imageOf u) (xg_rowAt u) (xg_rowsUsed u) (xg_imageAt u) (xg_imagesUsed u) (xg_nextSaving u) (xg_anchorNumber u) (xg_selected u) (xg_viewLength u) (xg_view u) (xg_group u) (xg_wayNode u) (xg_waySlot u) (xg_wideKey u) (xg_wideItem u) (xg_walkNode u) (xg_walkLevel u) (xg_walkLow u) (xg_walkHigh u)
theorem xe_splitLeaf_59 (post : SX → Prop) (J9 : Int32 → Int32 → Int32 → SX → Prop) (x1 : Int32) (x2 : Int32) (x3 : Int32) (x4 : Int32) (x5 : Int32) (x6 : Int32) (x7 : Int32) (x8 : Int32) (u : SX) : xc_splitLeaf_59 post J9 x1 x2 x3 x4 x5 x6 x7 x8 u = (vp_in x5 5 ∧ ∀ a_wideKey_154, a_wideKey_154 = upd (xg_wideKey u) x5.toNatClampNeg x8 → (wpX_itemOf (fun r_155 u156 => (vp_in x5 5 ∧ ∀ a_wideItem_192, a_wideItem_192 = upd (xg_wideItem u156) x5.toNatClampNeg r_155 → (∀ x5_193, x5_193 = x5 + 1 → (∀ x7_194, x7_194 = x7 + 1 → (J9 x5_193 x6 x7_194 (xs_wideItem u156 a_wideItem_192)))))) (xs_wideKey u a_wideKey_154) x1 x2 x7)) := rfl
def xc_splitLeaf_9 (post : SX → Prop) (x1 : Int32) (x2 : Int32) (x3 : Int32) (x4 : Int32) (n : Nat) (x5 : Int32) (x6 : Int32) (x7 : Int32) (u : SX) : Prop := wX_splitLeaf_9 post x1 x2 x3 x4 n x5 x6 x7 (xg_writesLeft u) (xg_half u) (xg_grouped u) (xg_upKey u) (xg_upNode u) (xg_waiting u) (xg_wrong u) (xg_seenNodes u) (xg_seenKeys u) (xg_disk u) (xg_images u) (xg_rows u) (xg_anchors u) (xg_copies u) (xg_loaded u) (xg_changed u) (xg_imageOf u) (xg_rowAt u) (xg_rowsUsed u) (xg_imageAt u) (xg_imagesUsed u) (xg_nextSaving u) (xg_anchorNumber u) (xg_selected u) (xg_viewLength u) (xg_view u) (xg_group u) (xg_wayNode u) (xg_waySlot u) (xg_wideKey u) (xg_wideItem u) (xg_walkNode u) (xg_walkLevel u) (xg_walkLow u) (xg_walkHigh u)
theorem xe_splitLeaf_9 (post : SX → Prop) (x1 : Int32) (x2 : Int32) (x3 : Int32) (x4 : Int32) (n : Nat) (x5 : Int32) (x6 : Int32) (x7 : Int32) (u : SX) : xc_splitLeaf_9 post x1 x2 x3 x4 (n + 1) x5 x6 x7 u = (((3 ≤ x7 → (((x6 = 0 → (∀ a_wideKey_113, a_wideKey_113 = upd (xg_wideKey u) 3 x3 → (∀ a_wideItem_115, a_wideItem_115 = upd (xg_wideItem u) 3 x4 → (xc_splitLeaf_112 post x1 x2 (xg_writesLeft u, xg_half u, xg_grouped u, xg_upKey u, xg_upNode u, xg_waiting u, xg_wrong u, xg_seenNodes u, xg_seenKeys u, xg_disk u, xg_images u, xg_rows u, xg_anchors u, xg_copies u, xg_loaded u, xg_changed u, xg_imageOf u, xg_rowAt u, xg_rowsUsed u, xg_imageAt u, xg_imagesUsed u, xg_nextSaving u, xg_anchorNumber u, xg_selected u, xg_viewLength u, xg_view u, xg_group u, xg_wayNode u, xg_waySlot u, a_wideKey_113, a_wideItem_115, xg_walkNode u, xg_walkLevel u, xg_walkLow u, xg_walkHigh u))))) ∧ (¬ x6 = 0 → (xc_splitLeaf_112 post x1 x2 u))))) ∧ (¬ 3 ≤ x7 → (wpX_keyOf (fun r_116 u117 => (((x6 = 0 → (((r_116 ≤ x3 → (xc_splitLeaf_59 post (xc_splitLeaf_9 post x1 x2 x3 x4 n) x1 x2 x3 x4 x5 x6 x7 r_116 u117)) ∧ (¬ r_116 ≤ x3 → (vp_in x5 5 ∧ ∀ a_wideKey_197, a_wideKey_197 = upd (xg_wideKey u117) x5.toNatClampNeg x3 → (vp_in x5 5 ∧ ∀ a_wideItem_199, a_wideItem_199 = upd (xg_wideItem u117) x5.toNatClampNeg x4 → (∀ x5_200, x5_200 = x5 + 1 → (xc_splitLeaf_59 post (xc_splitLeaf_9 post x1 x2 x3 x4 n) x1 x2 x3 x4 x5_200 1 x7 r_116 (xg_writesLeft u117, xg_half u117, xg_grouped u117, xg_upKey u117, xg_upNode u117, xg_waiting u117, xg_wrong u117, xg_seenNodes u117, xg_seenKeys u117, xg_disk u117, xg_images u117, xg_rows u117, xg_anchors u117, xg_copies u117, xg_loaded u117, xg_changed u117, xg_imageOf u117, xg_rowAt u117, xg_rowsUsed u117, xg_imageAt u117, xg_imagesUsed u117, xg_nextSaving u117, xg_anchorNumber u117, xg_selected u117, xg_viewLength u117, xg_view u117, xg_group u117, xg_wayNode u117, xg_waySlot u117, a_wideKey_197, a_wideItem_199, xg_walkNode u117, xg_walkLevel u117, xg_walkLow u117, xg_walkHigh u117))))))))) ∧ (¬ x6 = 0 → (xc_splitLeaf_59 post (xc_splitLeaf_9 post x1 x2 x3 x4 n) x1 x2 x3 x4 x5 x6 x7 r_116 u117))))) u x1 x2 x7)))) := rfl
theorem xe_splitLeaf (post : SX → Prop) (u : SX) (p0 : Int32) (p1 : Int32) (p2 : Int32) (p3 : Int32) : wpX_splitLeaf post u p0 p1 p2 p3 = (∃ n9 : Nat, xc_splitLeaf_9 post p0 p1 p2 p3 n9 0 0 0 u) := rfl
def xc_insertItem_15 (post : SX → Prop) (x1 : Int32) (x2 : Int32) (x3 : Int32) (x4 : Int32) (n : Nat) (x5 : Int32) (u : SX) : Prop := wX_insertItem_15 post x1 x2 x3 x4 n x5 (xg_writesLeft u) (xg_half u) (xg_grouped u) (xg_upKey u) (xg_upNode u) (xg_waiting u) (xg_wrong u) (xg_seenNodes u) (xg_seenKeys u) (xg_disk u) (xg_images u) (xg_rows u) (xg_anchors u) (xg_copies u) (xg_loaded u) (xg_changed u) (xg_imageOf u) (xg_rowAt u) (xg_rowsUsed u) (xg_imageAt u) (xg_imagesUsed u) (xg_nextSaving u) (xg_anchorNumber u) (xg_selected u) (xg_viewLength u) (xg_view u) (xg_group u) (xg_wayNode u) (xg_waySlot u) (xg_wideKey u) (xg_wideItem u) (xg_walkNode u) (xg_walkLevel u) (xg_walkLow u) (xg_walkHigh u)
theorem xe_insertItem_15 (post : SX → Prop) (x1 : Int32) (x2 : Int32) (x3 : Int32) (x4 : Int32) (n : Nat) (x5 : Int32) (u : SX) : xc_insertItem_15 post x1 x2 x3 x4 (n + 1) x5 u = (((x5 ≤ x3 → (wpX_setCell (fun u40 => (wpX_setCell (fun u76 => (wpX_setCell (fun u112 => (post u112)) u76 x1 x2 0 (x4 + 1))) u40 x1 x2 (5 + x3) (xg_upNode u40))) u x1 x2 (1 + x3) (xg_upKey u))) ∧ (¬ x5 ≤ x3 → (wpX_keyOf (fun r_147 u148 => (wpX_itemOf (fun r_183 u184 => (wpX_setCell (fun u220 => (wpX_setCell (fun u256 => (∀ x5_291, x5_291 = x5 + (-1) → (xc_insertItem_15 post x1 x2 x3 x4 n x5_291 u256))) u220 x1 x2 (5 + x5) r_183)) u184 x1 x2 (1 + x5) r_147)) u148 x1 x2 x5)) u x1 x2 (x5 - 1))))) := rfl
theorem xe_insertItem (post : SX → Prop) (u : SX) (p0 : Int32) (p1 : Int32) (p2 : Int32) : wpX_insertItem post u p0 p1 p2 = (wpX_cell (fun r_1 u2 => (∀ x5_37, x5_37 = r_1 - 1 → (∃ n15 : Nat, xc_insertItem_15 post p0 p1 p2 r_1 n15 x5_37 u2))) u p0 p1 0) := rfl
def xc_splitInner_143 (post : SX → Prop) (x1 : Int32) (x2 : Int32) (x5 : Int32) (n : Nat) (x6 : Int32) (u : SX) : Prop := wX_splitInner_143 post x1 x2 x5 n x6 (xg_writesLeft u) (xg_half u) (xg_grouped u) (xg_upKey u) (xg_upNode u) (xg_waiting u) (xg_wrong u) (xg_seenNodes u) (xg_seenKeys u) (xg_disk u) (xg_images u) (xg_rows u) (xg_anchors u) (xg_copies u) (xg_loaded u) (xg_changed u) (xg_imageOf u) (xg_rowAt u) (xg_rowsUsed u) (xg_imageAt u) (xg_imagesUsed u) (xg_nextSaving u) (xg_anchorNumber u) (xg_selected u) (xg_viewLength u) (xg_view u) (xg_group u) (xg_wayNode u) (xg_waySlot u) (xg_wideKey u) (xg_wideItem u) (xg_walkNode u) (xg_walkLevel u) (xg_walkLow u) (xg_walkHigh u)
theorem xe_splitInner_143 (post : SX → Prop) (x1 : Int32) (x2 : Int32) (x5 : Int32) (n : Nat) (x6 : Int32) (u : SX) : xc_splitInner_143 post x1 x2 x5 (n + 1) x6 u = (((3 ≤ x6 → (wpX_setCell (fun u148 => (wpX_setCell (fun u184 => (wpX_setCell (fun u220 => (wpX_setCell (fun u256 => (wpX_setCell (fun u292 => (∀ f_upKey_327, f_upKey_327 = (xg_wideKey u292) 2 → (post (xs_upNode (xs_upKey u292 f_upKey_327) x5)))) u256 x1 x5 5 ((xg_wideItem u256) 4))) u220 x1 x5 4 ((xg_wideItem u220) 3))) u184 x1 x5 1 ((xg_wideKey u184) 3))) u148 x1 x2 2 ((xg_wideKey u148) 1))) u x1 x2 1 ((xg_wideKey u) 0))) ∧ (¬ 3 ≤ x6 → (vp_in x6 5 ∧ (wpX_setCell (fun u330 => (∀ x6_365, x6_365 = x6 + 1 → (xc_splitInner_143 post x1 x2 x5 n x6_365 u330))) u x1 x2 (4 + x6) ((xg_wideItem u) x6.toNatClampNeg)))))) := rfl
def xc_splitInner_51 (post : SX → Prop) (J6 : Int32 → Int32 → SX → Prop) (x1 : Int32) (x2 : Int32) (x3 : Int32) (x4 : Int32) (x5 : Int32) (z0 : Int32) (z1 : Int32) (u : SX) : Prop := wX_splitInner_51 post (fun j0 j1 c0 c1 c2 c3 c4 c5 c6 c7 c8 c9 c10 c11 c12 c13 c14 c15 c16 c17 c18 c19 c20 c21 c22 c23 c24 c25 c26 c27 c28 c29 c30 c31 c32 c33 c34 => J6 j0 j1 (c0, c1, c2, c3, c4, c5, c6, c7, c8, c9, c10, c11, c12, c13, c14, c15, c16, c17, c18, c19, c20, c21, c22, c23, c24, c25, c26, c27, c28, c29, c30, c31, c32, c33, c34)) x1 x2 x3 x4 x5 z0 z1 (xg_writesLeft u) (xg_half u) (xg_grouped u) (xg_upKey u) (xg_upNode u) (xg_waiting u) (xg_wrong u) (xg_seenNodes u) (xg_seenKeys u) (xg_disk u) (xg_images u) (xg_rows u) (xg_anchors u) (xg_copies u) (xg_loaded u) (xg_changed u) (xg_imageOf u) (xg_rowAt u) (xg_rowsUsed u) (xg_imageAt u) (xg_imagesUsed u) (xg_nextSaving u) (xg_anchorNumber u) (xg_selected u) (xg_viewLength u) (xg_view u) (xg_group u) (xg_wayNode u) (xg_waySlot u) (xg_wideKey u) (xg_wideItem u) (xg_walkNode u) (xg_walkLevel u) (xg_walkLow u) (xg_walkHigh u)
theorem xe_splitInner_51 (post : SX → Prop) (J6 : Int32 → Int32 → SX → Prop) (x1 : Int32) (x2 : Int32) (x3 : Int32) (x4 : Int32) (x5 : Int32) (z0 : Int32) (z1 : Int32) (u : SX) : xc_splitInner_51 post J6 x1 x2 x3 x4 x5 z0 z1 u = (vp_in z1 5 ∧ ∀ a_wideKey_406, a_wideKey_406 = upd (xg_wideKey u) z1.toNatClampNeg z0 → (∀ x4_407, x4_407 = x4 + 1 → (((x5 = x3 → (vp_in x4_407 5 ∧ ∀ a_wideItem_411, a_wideItem_411 = upd (xg_wideItem u) x4_407.toNatClampNeg (xg_upNode u) → (vp_in (x4_407 - 1) 5 ∧ (vp_in x4_407 5 ∧ ∀ a_wideKey_414, a_wideKey_414 = upd a_wideKey_406 x4_407.toNatClampNeg (a_wideKey_406 (x4_407 - 1).toNatClampNeg) → (vp_in (x4_407 - 1) 5 ∧ ∀ a_wideKey_416, a_wideKey_416 = upd a_wideKey_414 (x4_407 - 1).toNatClampNeg (xg_upKey u) → (∀ x4_417, x4_417 = x4_407 + 1 → (∀ x5_418, x5_418 = x5 + 1 → (J6 x4_417 x5_418 (xs_wideItem (xs_wideKey u a_wideKey_416) a_wideItem_411))))))))) ∧ (¬ x5 = x3 → (∀ x5_409, x5_409 = x5 + 1 → (J6 x4_407 x5_409 (xs_wideKey u a_wideKey_406)))))))) := rfl
def xc_splitInner_6 (post : SX → Prop) (x1 : Int32) (x2 : Int32) (x3 : Int32) (n : Nat) (x4 : Int32) (x5 : Int32) (u : SX) : Prop := wX_splitInner_6 post x1 x2 x3 n x4 x5 (xg_writesLeft u) (xg_half u) (xg_grouped u) (xg_upKey u) (xg_upNode u) (xg_waiting u) (xg_wrong u) (xg_seenNodes u) (xg_seenKeys u) (xg_disk u) (xg_images u) (xg_rows u) (xg_anchors u) (xg_copies u) (xg_loaded u) (xg_changed u) (xg_imageOf u) (xg_rowAt u) (xg_rowsUsed u) (xg_imageAt u) (xg_imagesUsed u) (xg_nextSaving u) (xg_anchorNumber u) (xg_selected u) (xg_viewLength u) (xg_view u) (xg_group u) (xg_wayNode u) (xg_waySlot u) (xg_wideKey u) (xg_wideItem u) (xg_walkNode u) (xg_walkLevel u) (xg_walkLow u) (xg_walkHigh u)
theorem xe_splitInner_6 (post : SX → Prop) (x1 : Int32) (x2 : Int32) (x3 : Int32) (n : Nat) (x4 : Int32) (x5 : Int32) (u : SX) : xc_splitInner_6 post x1 x2 x3 (n + 1) x4 x5 u = (((4 ≤ x5 → (wpX_takeNode (fun r_2 u3 => (wpX_clear (fun u39 => (wpX_setCell (fun u75 => (wpX_setCell (fun u111 => (∃ n143 : Nat, xc_splitInner_143 post x1 x2 r_2 n143 0 u111)) u75 x1 r_2 0 2)) u39 x1 x2 0 3)) u3 x1 x2)) u x1)) ∧ (¬ 4 ≤ x5 → (wpX_itemOf (fun r_366 u367 => (vp_in x4 5 ∧ ∀ a_wideItem_403, a_wideItem_403 = upd (xg_wideItem u367) x4.toNatClampNeg r_366 → (((3 ≤ x5 → (xc_splitInner_51 post (xc_splitInner_6 post x1 x2 x3 n) x1 x2 x3 x4 x5 0 x4 (xs_wideItem u367 a_wideItem_403))) ∧ (¬ 3 ≤ x5 → (wpX_keyOf (fun r_419 u420 => (xc_splitInner_51 post (xc_splitInner_6 post x1 x2 x3 n) x1 x2 x3 x4 x5 r_419 x4 u420)) (xs_wideItem u367 a_wideItem_403) x1 x2 x5)))))) u x1 x2 x5)))) := rfl
theorem xe_splitInner (post : SX → Prop) (u : SX) (p0 : Int32) (p1 : Int32) (p2 : Int32) : wpX_splitInner post u p0 p1 p2 = (∃ n6 : Nat, xc_splitInner_6 post p0 p1 p2 n6 0 0 u) := rfl
def xc_growUp_15 (post : SX → Prop) (x1 : Int32) (x2 : Int32) (x3 : Int32) (n : Nat) (x4 : Int32) (u : SX) : Prop := wX_growUp_15 post x1 x2 x3 n x4 (xg_writesLeft u) (xg_half u) (xg_grouped u) (xg_upKey u) (xg_upNode u) (xg_waiting u) (xg_wrong u) (xg_seenNodes u) (xg_seenKeys u) (xg_disk u) (xg_images u) (xg_rows u) (xg_anchors u) (xg_copies u) (xg_loaded u) (xg_changed u) (xg_imageOf u) (xg_rowAt u) (xg_rowsUsed u) (xg_imageAt u) (xg_imagesUsed u) (xg_nextSaving u) (xg_anchorNumber u) (xg_selected u) (xg_viewLength u) (xg_view u) (xg_group u) (xg_wayNode u) (xg_waySlot u) (xg_wideKey u) (xg_wideItem u) (xg_walkNode u) (xg_walkLevel u) (xg_walkLow u) (xg_walkHigh u)
theorem xe_growUp_15 (post : SX → Prop) (x1 : Int32) (x2 : Int32) (x3 : Int32) (n : Nat) (x4 : Int32) (u : SX) : xc_growUp_15 post x1 x2 x3 (n + 1) x4 u = (((x3 ≤ x4 → (wpX_cell (fun r_38 u39 => (wpX_takeNode (fun r_74 u75 => (wpX_setCell (fun u111 => (wpX_setCell (fun u147 => (wpX_setCell (fun u183 => (wpX_setCell (fun u219 => (wpX_setCell (fun u255 => (wpX_setCell (fun u291 => (post u291)) u255 x1 0 ((3 * x2) + 1) (x3 + 1))) u219 x1 0 (3 * x2) r_74)) u183 x1 r_74 5 (xg_upNode u183))) u147 x1 r_74 4 r_38)) u111 x1 r_74 1 (xg_upKey u111))) u75 x1 r_74 0 2)) u39 x1)) u x1 0 (3 * x2))) ∧ (¬ x3 ≤ x4 → (vp_in x4 8 ∧ (∀ x5_327, x5_327 = (xg_wayNode u) x4.toNatClampNeg → (vp_in x4 8 ∧ (∀ x6_329, x6_329 = (xg_waySlot u) x4.toNatClampNeg → (wpX_cell (fun r_330 u331 => (((4 ≤ r_330 → (wpX_splitInner (fun u368 => (∀ x4_403, x4_403 = x4 + 1 → (xc_growUp_15 post x1 x2 x3 n x4_403 u368))) u331 x1 x5_327 x6_329)) ∧ (¬ 4 ≤ r_330 → (wpX_insertItem (fun u405 => (post u405)) u331 x1 x5_327 x6_329))))) u x1 x5_327 0)))))))) := rfl
theorem xe_growUp (post : SX → Prop) (u : SX) (p0 : Int32) (p1 : Int32) : wpX_growUp post u p0 p1 = (wpX_cell (fun r_1 u2 => (∃ n15 : Nat, xc_growUp_15 post p0 p1 r_1 n15 1 u2)) u p0 0 ((3 * p1) + 1)) := rfl
def xc_setKey_44 (post : SX → Prop) (x1 : Int32) (x2 : Int32) (x3 : Int32) (x4 : Int32) (x5 : Int32) (u : SX) : Prop := wX_setKey_44 post x1 x2 x3 x4 x5 (xg_writesLeft u) (xg_half u) (xg_grouped u) (xg_upKey u) (xg_upNode u) (xg_waiting u) (xg_wrong u) (xg_seenNodes u) (xg_seenKeys u) (xg_disk u) (xg_images u) (xg_rows u) (xg_anchors u) (xg_copies u) (xg_loaded u) (xg_changed u) (xg_imageOf u) (xg_rowAt u) (xg_rowsUsed u) (xg_imageAt u) (xg_imagesUsed u) (xg_nextSaving u) (xg_anchorNumber u) (xg_selected u) (xg_viewLength u) (xg_view u) (xg_group u) (xg_wayNode u) (xg_waySlot u) (xg_wideKey u) (xg_wideItem u) (xg_walkNode u) (xg_walkLevel u) (xg_walkLow u) (xg_walkHigh u)
theorem xe_setKey_44 (post : SX → Prop) (x1 : Int32) (x2 : Int32) (x3 : Int32) (x4 : Int32) (x5 : Int32) (u : SX) : xc_setKey_44 post x1 x2 x3 x4 x5 u = (wpX_placeIn (fun r_38 u39 => (((r_38 < 0 → (wpX_cell (fun r_75 u76 => (wpX_setCell (fun u112 => (wpX_cell (fun r_147 u148 => (((3 ≤ r_147 → (wpX_splitLeaf (fun u185 => (wpX_growUp (fun u221 => (post u221)) u185 x1 x2)) u148 x1 x5 x3 x4)) ∧ (¬ 3 ≤ r_147 → (wpX_insertAt (fun u257 => (post u257)) u148 x1 x5 x3 x4))))) u112 x1 x5 0)) u76 x1 0 ((3 * x2) + 2) (r_75 + 1))) u39 x1 0 ((3 * x2) + 2))) ∧ (¬ r_38 < 0 → (wpX_setCell (fun u293 => (post u293)) u39 x1 x5 (4 + r_38) x4))))) u x1 x5 x3) := rfl
theorem xe_setKey (post : SX → Prop) (u : SX) (p0 : Int32) (p1 : Int32) (p2 : Int32) (p3 : Int32) : wpX_setKey post u p0 p1 p2 p3 = (wpX_descend (fun r_1 u2 => (((r_1 = 0 → (wpX_takeNode (fun r_328 u329 => (wpX_setCell (fun u365 => (wpX_setCell (fun u401 => (xc_setKey_44 post p0 p1 p2 p3 r_328 u401)) u365 p0 0 ((3 * p1) + 1) 1)) u329 p0 0 (3 * p1) r_328)) u2 p0)) ∧ (¬ r_1 = 0 → (xc_setKey_44 post p0 p1 p2 p3 r_1 u2))))) u p0 p1 p2) := rfl
def xc_removeAt_12 (post : SX → Prop) (x1 : Int32) (x2 : Int32) (x4 : Int32) (n : Nat) (x5 : Int32) (u : SX) : Prop := wX_removeAt_12 post x1 x2 x4 n x5 (xg_writesLeft u) (xg_half u) (xg_grouped u) (xg_upKey u) (xg_upNode u) (xg_waiting u) (xg_wrong u) (xg_seenNodes u) (xg_seenKeys u) (xg_disk u) (xg_images u) (xg_rows u) (xg_anchors u) (xg_copies u) (xg_loaded u) (xg_changed u) (xg_imageOf u) (xg_rowAt u) (xg_rowsUsed u) (xg_imageAt u) (xg_imagesUsed u) (xg_nextSaving u) (xg_anchorNumber u) (xg_selected u) (xg_viewLength u) (xg_view u) (xg_group u) (xg_wayNode u) (xg_waySlot u) (xg_wideKey u) (xg_wideItem u) (xg_walkNode u) (xg_walkLevel u) (xg_walkLow u) (xg_walkHigh u)
theorem xe_removeAt_12 (post : SX → Prop) (x1 : Int32) (x2 : Int32) (x4 : Int32) (n : Nat) (x5 : Int32) (u : SX) : xc_removeAt_12 post x1 x2 x4 (n + 1) x5 u = (((x4 ≤ (x5 + 1) → (wpX_setCell (fun u39 => (wpX_setCell (fun u75 => (wpX_setCell (fun u111 => (post u111)) u75 x1 x2 0 (x4 - 1))) u39 x1 x2 (3 + x4) 0)) u x1 x2 x4 0)) ∧ (¬ x4 ≤ (x5 + 1) → (wpX_keyOf (fun r_146 u147 => (wpX_itemOf (fun r_182 u183 => (wpX_setCell (fun u219 => (wpX_setCell (fun u255 => (∀ x5_290, x5_290 = x5 + 1 → (xc_removeAt_12 post x1 x2 x4 n x5_290 u255))) u219 x1 x2 (4 + x5) r_182)) u183 x1 x2 (1 + x5) r_146)) u147 x1 x2 (x5 + 1))) u x1 x2 (x5 + 1))))) := rfl
theorem xe_removeAt (post : SX → Prop) (u : SX) (p0 : Int32) (p1 : Int32) (p2 : Int32) : wpX_removeAt post u p0 p1 p2 = (wpX_cell (fun r_1 u2 => (∃ n12 : Nat, xc_removeAt_12 post p0 p1 r_1 n12 p2 u2)) u p0 p1 0) := rfl
def xc_joinLeaves_12 (post : SX → Prop) (x1 : Int32) (x2 : Int32) (x3 : Int32) (x4 : Int32) (n : Nat) (x5 : Int32) (u : SX) : Prop := wX_joinLeaves_12 post x1 x2 x3 x4 n x5 (xg_writesLeft u) (xg_half u) (xg_grouped u) (xg_upKey u) (xg_upNode u) (xg_waiting u) (xg_wrong u) (xg_seenNodes u) (xg_seenKeys u) (xg_disk u) (xg_images u) (xg_rows u) (xg_anchors u) (xg_copies u) (xg_loaded u) (xg_changed u) (xg_imageOf u) (xg_rowAt u) (xg_rowsUsed u) (xg_imageAt u) (xg_imagesUsed u) (xg_nextSaving u) (xg_anchorNumber u) (xg_selected u) (xg_viewLength u) (xg_view u) (xg_group u) (xg_wayNode u) (xg_waySlot u) (xg_wideKey u) (xg_wideItem u) (xg_walkNode u) (xg_walkLevel u) (xg_walkLow u) (xg_walkHigh u)
theorem xe_joinLeaves_12 (post : SX → Prop) (x1 : Int32) (x2 : Int32) (x3 : Int32) (x4 : Int32) (n : Nat) (x5 : Int32) (u : SX) : xc_joinLeaves_12 post x1 x2 x3 x4 (n + 1) x5 u = (((x4 ≤ x5 → (wpX_giveNode (fun u39 => (post u39)) u x1 x3)) ∧ (¬ x4 ≤ x5 → (wpX_keyOf (fun r_74 u75 => (wpX_itemOf (fun r_110 u111 => (wpX_insertAt (fun u147 => (∀ x5_182, x5_182 = x5 + 1 → (xc_joinLeaves_12 post x1 x2 x3 x4 n x5_182 u147))) u111 x1 x2 r_74 r_110)) u75 x1 x3 x5)) u x1 x3 x5)))) := rfl
theorem xe_joinLeaves (post : SX → Prop) (u : SX) (p0 : Int32) (p1 : Int32) (p2 : Int32) : wpX_joinLeaves post u p0 p1 p2 = (wpX_cell (fun r_1 u2 => (∃ n12 : Nat, xc_joinLeaves_12 post p0 p1 p2 r_1 n12 0 u2)) u p0 p2 0) := rfl
def xc_removeItem_12 (post : SX → Prop) (x1 : Int32) (x2 : Int32) (x4 : Int32) (n : Nat) (x5 : Int32) (u : SX) : Prop := wX_removeItem_12 post x1 x2 x4 n x5 (xg_writesLeft u) (xg_half u) (xg_grouped u) (xg_upKey u) (xg_upNode u) (xg_waiting u) (xg_wrong u) (xg_seenNodes u) (xg_seenKeys u) (xg_disk u) (xg_images u) (xg_rows u) (xg_anchors u) (xg_copies u) (xg_loaded u) (xg_changed u) (xg_imageOf u) (xg_rowAt u) (xg_rowsUsed u) (xg_imageAt u) (xg_imagesUsed u) (xg_nextSaving u) (xg_anchorNumber u) (xg_selected u) (xg_viewLength u) (xg_view u) (xg_group u) (xg_wayNode u) (xg_waySlot u) (xg_wideKey u) (xg_wideItem u) (xg_walkNode u) (xg_walkLevel u) (xg_walkLow u) (xg_walkHigh u)
theorem xe_removeItem_12 (post : SX → Prop) (x1 : Int32) (x2 : Int32) (x4 : Int32) (n : Nat) (x5 : Int32) (u : SX) : xc_removeItem_12 post x1 x2 x4 (n + 1) x5 u = (((x4 ≤ (x5 + 2) → (wpX_setCell (fun u39 => (wpX_setCell (fun u75 => (wpX_setCell (fun u111 => (post u111)) u75 x1 x2 0 (x4 - 1))) u39 x1 x2 (3 + x4) 0)) u x1 x2 (x4 - 1) 0)) ∧ (¬ x4 ≤ (x5 + 2) → (wpX_keyOf (fun r_146 u147 => (wpX_itemOf (fun r_182 u183 => (wpX_setCell (fun u219 => (wpX_setCell (fun u255 => (∀ x5_290, x5_290 = x5 + 1 → (xc_removeItem_12 post x1 x2 x4 n x5_290 u255))) u219 x1 x2 (5 + x5) r_182)) u183 x1 x2 (1 + x5) r_146)) u147 x1 x2 (x5 + 2))) u x1 x2 (x5 + 1))))) := rfl
theorem xe_removeItem (post : SX → Prop) (u : SX) (p0 : Int32) (p1 : Int32) (p2 : Int32) : wpX_removeItem post u p0 p1 p2 = (wpX_cell (fun r_1 u2 => (∃ n12 : Nat, xc_removeItem_12 post p0 p1 r_1 n12 p2 u2)) u p0 p1 0) := rfl
def xc_evenLeaves_153 (post : SX → Prop) (x1 : Int32) (x2 : Int32) (x3 : Int32) (x6 : Int32) (u : SX) : Prop := wX_evenLeaves_153 post x1 x2 x3 x6 (xg_writesLeft u) (xg_half u) (xg_grouped u) (xg_upKey u) (xg_upNode u) (xg_waiting u) (xg_wrong u) (xg_seenNodes u) (xg_seenKeys u) (xg_disk u) (xg_images u) (xg_rows u) (xg_anchors u) (xg_copies u) (xg_loaded u) (xg_changed u) (xg_imageOf u) (xg_rowAt u) (xg_rowsUsed u) (xg_imageAt u) (xg_imagesUsed u) (xg_nextSaving u) (xg_anchorNumber u) (xg_selected u) (xg_viewLength u) (xg_view u) (xg_group u) (xg_wayNode u) (xg_waySlot u) (xg_wideKey u) (xg_wideItem u) (xg_walkNode u) (xg_walkLevel u) (xg_walkLow u) (xg_walkHigh u)
theorem xe_evenLeaves_153 (post : SX → Prop) (x1 : Int32) (x2 : Int32) (x3 : Int32) (x6 : Int32) (u : SX) : xc_evenLeaves_153 post x1 x2 x3 x6 u = (wpX_keyOf (fun r_256 u257 => (wpX_setCell (fun u293 => (post u293)) u257 x1 x2 (1 + x3) r_256)) u x1 x6 0) := rfl
def xc_evenLeaves_32 (post : SX → Prop) (x1 : Int32) (x2 : Int32) (x3 : Int32) (x4 : Int32) (x5 : Int32) (x6 : Int32) (z0 : Int32) (u : SX) : Prop := wX_evenLeaves_32 post x1 x2 x3 x4 x5 x6 z0 (xg_writesLeft u) (xg_half u) (xg_grouped u) (xg_upKey u) (xg_upNode u) (xg_waiting u) (xg_wrong u) (xg_seenNodes u) (xg_seenKeys u) (xg_disk u) (xg_images u) (xg_rows u) (xg_anchors u) (xg_copies u) (xg_loaded u) (xg_changed u) (xg_imageOf u) (xg_rowAt u) (xg_rowsUsed u) (xg_imageAt u) (xg_imagesUsed u) (xg_nextSaving u) (xg_anchorNumber u) (xg_selected u) (xg_viewLength u) (xg_view u) (xg_group u) (xg_wayNode u) (xg_waySlot u) (xg_wideKey u) (xg_wideItem u) (xg_walkNode u) (xg_walkLevel u) (xg_walkLow u) (xg_walkHigh u)
theorem xe_evenLeaves_32 (post : SX → Prop) (x1 : Int32) (x2 : Int32) (x3 : Int32) (x4 : Int32) (x5 : Int32) (x6 : Int32) (z0 : Int32) (u : SX) : xc_evenLeaves_32 post x1 x2 x3 x4 x5 x6 z0 u = (wpX_cell (fun r_74 u75 => (((3 ≤ r_74 → (((x4 = 0 → (wpX_keyOf (fun r_112 u113 => (wpX_itemOf (fun r_148 u149 => (wpX_removeAt (fun u185 => (wpX_insertAt (fun u221 => (xc_evenLeaves_153 post x1 x2 x3 x6 u221)) u185 x1 x5 r_112 r_148)) u149 x1 x6 0)) u113 x1 x6 0)) u75 x1 x6 0)) ∧ (¬ x4 = 0 → (wpX_keyOf (fun r_328 u329 => (wpX_itemOf (fun r_364 u365 => (wpX_removeAt (fun u401 => (wpX_insertAt (fun u437 => (xc_evenLeaves_153 post x1 x2 x3 x6 u437)) u401 x1 x6 r_328 r_364)) u365 x1 x5 2)) u329 x1 x5 2)) u75 x1 x5 2))))) ∧ (¬ 3 ≤ r_74 → (wpX_joinLeaves (fun u473 => (wpX_removeItem (fun u509 => (post u509)) u473 x1 x2 x3)) u75 x1 x5 x6))))) u x1 z0 0) := rfl
end
section
theorem xe_evenLeaves (post : SX → Prop) (u : SX) (p0 : Int32) (p1 : Int32) (p2 : Int32) (p3 : Int32) : wpX_evenLeaves post u p0 p1 p2 p3 = (wpX_itemOf (fun r_1 u2 => (wpX_itemOf (fun r_37 u38 => (((p3 = 0 → (xc_evenLeaves_32 post p0 p1 p2 p3 r_1 r_37 r_37 u38)) ∧ (¬ p3 = 0 → (xc_evenLeaves_32 post p0 p1 p2 p3 r_1 r_37 r_1 u38))))) u2 p0 p1 (p2 + 1))) u p0 p1 p2) := rfl
def xc_joinInner_96 (post : SX → Prop) (x1 : Int32) (x2 : Int32) (x3 : Int32) (x5 : Int32) (x6 : Int32) (u : SX) : Prop := wX_joinInner_96 post x1 x2 x3 x5 x6 (xg_writesLeft u) (xg_half u) (xg_grouped u) (xg_upKey u) (xg_upNode u) (xg_waiting u) (xg_wrong u) (xg_seenNodes u) (xg_seenKeys u) (xg_disk u) (xg_images u) (xg_rows u) (xg_anchors u) (xg_copies u) (xg_loaded u) (xg_changed u) (xg_imageOf u) (xg_rowAt u) (xg_rowsUsed u) (xg_imageAt u) (xg_imagesUsed u) (xg_nextSaving u) (xg_anchorNumber u) (xg_selected u) (xg_viewLength u) (xg_view u) (xg_group u) (xg_wayNode u) (xg_waySlot u) (xg_wideKey u) (xg_wideItem u) (xg_walkNode u) (xg_walkLevel u) (xg_walkLow u) (xg_walkHigh u)
theorem xe_joinInner_96 (post : SX → Prop) (x1 : Int32) (x2 : Int32) (x3 : Int32) (x5 : Int32) (x6 : Int32) (u : SX) : xc_joinInner_96 post x1 x2 x3 x5 x6 u = (wpX_setCell (fun u112 => (wpX_giveNode (fun u148 => (post u148)) u112 x1 x3)) u x1 x2 0 (x5 + x6)) := rfl
def xc_joinInner_31 (post : SX → Prop) (x1 : Int32) (x2 : Int32) (x3 : Int32) (x5 : Int32) (x6 : Int32) (n : Nat) (x7 : Int32) (u : SX) : Prop := wX_joinInner_31 post x1 x2 x3 x5 x6 n x7 (xg_writesLeft u) (xg_half u) (xg_grouped u) (xg_upKey u) (xg_upNode u) (xg_waiting u) (xg_wrong u) (xg_seenNodes u) (xg_seenKeys u) (xg_disk u) (xg_images u) (xg_rows u) (xg_anchors u) (xg_copies u) (xg_loaded u) (xg_changed u) (xg_imageOf u) (xg_rowAt u) (xg_rowsUsed u) (xg_imageAt u) (xg_imagesUsed u) (xg_nextSaving u) (xg_anchorNumber u) (xg_selected u) (xg_viewLength u) (xg_view u) (xg_group u) (xg_wayNode u) (xg_waySlot u) (xg_wideKey u) (xg_wideItem u) (xg_walkNode u) (xg_walkLevel u) (xg_walkLow u) (xg_walkHigh u)
theorem xe_joinInner_31 (post : SX → Prop) (x1 : Int32) (x2 : Int32) (x3 : Int32) (x5 : Int32) (x6 : Int32) (n : Nat) (x7 : Int32) (u : SX) : xc_joinInner_31 post x1 x2 x3 x5 x6 (n + 1) x7 u = (((x6 ≤ x7 → (((x6 = 2 → (wpX_keyOf (fun r_183 u184 => (wpX_setCell (fun u220 => (xc_joinInner_96 post x1 x2 x3 x5 x6 u220)) u184 x1 x2 (x5 + 1) r_183)) u x1 x3 0)) ∧ (¬ x6 = 2 → (xc_joinInner_96 post x1 x2 x3 x5 x6 u))))) ∧ (¬ x6 ≤ x7 → (wpX_itemOf (fun r_255 u256 => (wpX_setCell (fun u292 => (∀ x7_327, x7_327 = x7 + 1 → (xc_joinInner_31 post x1 x2 x3 x5 x6 n x7_327 u292))) u256 x1 x2 ((4 + x5) + x7) r_255)) u x1 x3 x7)))) := rfl
theorem xe_joinInner (post : SX → Prop) (u : SX) (p0 : Int32) (p1 : Int32) (p2 : Int32) (p3 : Int32) : wpX_joinInner post u p0 p1 p2 p3 = (wpX_cell (fun r_1 u2 => (wpX_cell (fun r_37 u38 => (wpX_setCell (fun u74 => (∃ n31 : Nat, xc_joinInner_31 post p0 p1 p2 r_1 r_37 n31 0 u74)) u38 p0 p1 r_1 p3)) u2 p0 p2 0)) u p0 p1 0) := rfl
def xc_evenInner_32 (post : SX → Prop) (x1 : Int32) (x2 : Int32) (x3 : Int32) (x4 : Int32) (x5 : Int32) (x6 : Int32) (z0 : Int32) (u : SX) : Prop := wX_evenInner_32 post x1 x2 x3 x4 x5 x6 z0 (xg_writesLeft u) (xg_half u) (xg_grouped u) (xg_upKey u) (xg_upNode u) (xg_waiting u) (xg_wrong u) (xg_seenNodes u) (xg_seenKeys u) (xg_disk u) (xg_images u) (xg_rows u) (xg_anchors u) (xg_copies u) (xg_loaded u) (xg_changed u) (xg_imageOf u) (xg_rowAt u) (xg_rowsUsed u) (xg_imageAt u) (xg_imagesUsed u) (xg_nextSaving u) (xg_anchorNumber u) (xg_selected u) (xg_viewLength u) (xg_view u) (xg_group u) (xg_wayNode u) (xg_waySlot u) (xg_wideKey u) (xg_wideItem u) (xg_walkNode u) (xg_walkLevel u) (xg_walkLow u) (xg_walkHigh u)
theorem xe_evenInner_32 (post : SX → Prop) (x1 : Int32) (x2 : Int32) (x3 : Int32) (x4 : Int32) (x5 : Int32) (x6 : Int32) (z0 : Int32) (u : SX) : xc_evenInner_32 post x1 x2 x3 x4 x5 x6 z0 u = (wpX_keyOf (fun r_74 u75 => (wpX_cell (fun r_110 u111 => (((3 ≤ r_110 → (((x4 = 0 → (wpX_keyOf (fun r_148 u149 => (wpX_itemOf (fun r_184 u185 => (wpX_itemOf (fun r_220 u221 => (wpX_setCell (fun u257 => (wpX_removeItem (fun u293 => (wpX_setCell (fun u329 => (wpX_setCell (fun u365 => (wpX_setCell (fun u401 => (wpX_setCell (fun u437 => (post u437)) u401 x1 x2 (1 + x3) r_148)) u365 x1 x5 5 r_184)) u329 x1 x5 1 r_74)) u293 x1 x5 0 2)) u257 x1 x6 0)) u221 x1 x6 4 r_220)) u185 x1 x6 1)) u149 x1 x6 0)) u111 x1 x6 0)) ∧ (¬ x4 = 0 → (wpX_keyOf (fun r_472 u473 => (wpX_itemOf (fun r_508 u509 => (wpX_setCell (fun u545 => (wpX_setCell (fun u581 => (wpX_setCell (fun u617 => (wpX_itemOf (fun r_652 u653 => (wpX_setCell (fun u689 => (wpX_setCell (fun u725 => (wpX_setCell (fun u761 => (wpX_setCell (fun u797 => (wpX_setCell (fun u833 => (post u833)) u797 x1 x2 (1 + x3) r_472)) u761 x1 x6 5 r_652)) u725 x1 x6 4 r_508)) u689 x1 x6 1 r_74)) u653 x1 x6 0 2)) u617 x1 x6 0)) u581 x1 x5 0 (r_110 - 1))) u545 x1 x5 (3 + r_110) 0)) u509 x1 x5 (r_110 - 1) 0)) u473 x1 x5 (r_110 - 1))) u111 x1 x5 (r_110 - 2)))))) ∧ (¬ 3 ≤ r_110 → (wpX_joinInner (fun u869 => (wpX_removeItem (fun u905 => (post u905)) u869 x1 x2 x3)) u111 x1 x5 x6 r_74))))) u75 x1 z0 0)) u x1 x2 x3) := rfl
theorem xe_evenInner (post : SX → Prop) (u : SX) (p0 : Int32) (p1 : Int32) (p2 : Int32) (p3 : Int32) : wpX_evenInner post u p0 p1 p2 p3 = (wpX_itemOf (fun r_1 u2 => (wpX_itemOf (fun r_37 u38 => (((p3 = 0 → (xc_evenInner_32 post p0 p1 p2 p3 r_1 r_37 r_37 u38)) ∧ (¬ p3 = 0 → (xc_evenInner_32 post p0 p1 p2 p3 r_1 r_37 r_1 u38))))) u2 p0 p1 (p2 + 1))) u p0 p1 p2) := rfl
def xc_mend_128 (post : SX → Prop) (x1 : Int32) (x2 : Int32) (x4 : Int32) (u : SX) : Prop := wX_mend_128 post x1 x2 x4 (xg_writesLeft u) (xg_half u) (xg_grouped u) (xg_upKey u) (xg_upNode u) (xg_waiting u) (xg_wrong u) (xg_seenNodes u) (xg_seenKeys u) (xg_disk u) (xg_images u) (xg_rows u) (xg_anchors u) (xg_copies u) (xg_loaded u) (xg_changed u) (xg_imageOf u) (xg_rowAt u) (xg_rowsUsed u) (xg_imageAt u) (xg_imagesUsed u) (xg_nextSaving u) (xg_anchorNumber u) (xg_selected u) (xg_viewLength u) (xg_view u) (xg_group u) (xg_wayNode u) (xg_waySlot u) (xg_wideKey u) (xg_wideItem u) (xg_walkNode u) (xg_walkLevel u) (xg_walkLow u) (xg_walkHigh u)
theorem xe_mend_128 (post : SX → Prop) (x1 : Int32) (x2 : Int32) (x4 : Int32) (u : SX) : xc_mend_128 post x1 x2 x4 u = (wpX_cell (fun r_38 u39 => (((x4 ≤ 1 → (post u39)) ∧ (¬ x4 ≤ 1 → (wpX_cell (fun r_75 u76 => (((r_75 = 1 → (wpX_itemOf (fun r_112 u113 => (wpX_giveNode (fun u149 => (wpX_setCell (fun u185 => (wpX_setCell (fun u221 => (post u221)) u185 x1 0 ((3 * x2) + 1) (x4 - 1))) u149 x1 0 (3 * x2) r_112)) u113 x1 r_38)) u76 x1 r_38 0)) ∧ (¬ r_75 = 1 → (post u76))))) u39 x1 r_38 0))))) u x1 0 (3 * x2)) := rfl
def xc_mend_115 (post : SX → Prop) (J19 : Int32 → Int32 → SX → Prop) (x1 : Int32) (x2 : Int32) (x4 : Int32) (x6 : Int32) (x7 : Int32) (z0 : Int32) (z1 : Int32) (z2 : Int32) (z3 : Int32) (u : SX) : Prop := wX_mend_115 post (fun j0 j1 c0 c1 c2 c3 c4 c5 c6 c7 c8 c9 c10 c11 c12 c13 c14 c15 c16 c17 c18 c19 c20 c21 c22 c23 c24 c25 c26 c27 c28 c29 c30 c31 c32 c33 c34 => J19 j0 j1 (c0, c1, c2, c3, c4, c5, c6, c7, c8, c9, c10, c11, c12, c13, c14, c15, c16, c17, c18, c19, c20, c21, c22, c23, c24, c25, c26, c27, c28, c29, c30, c31, c32, c33, c34)) x1 x2 x4 x6 x7 z0 z1 z2 z3 (xg_writesLeft u) (xg_half u) (xg_grouped u) (xg_upKey u) (xg_upNode u) (xg_waiting u) (xg_wrong u) (xg_seenNodes u) (xg_seenKeys u) (xg_disk u) (xg_images u) (xg_rows u) (xg_anchors u) (xg_copies u) (xg_loaded u) (xg_changed u) (xg_imageOf u) (xg_rowAt u) (xg_rowsUsed u) (xg_imageAt u) (xg_imagesUsed u) (xg_nextSaving u) (xg_anchorNumber u) (xg_selected u) (xg_viewLength u) (xg_view u) (xg_group u) (xg_wayNode u) (xg_waySlot u) (xg_wideKey u) (xg_wideItem u) (xg_walkNode u) (xg_walkLevel u) (xg_walkLow u) (xg_walkHigh u)
theorem xe_mend_115 (post : SX → Prop) (J19 : Int32 → Int32 → SX → Prop) (x1 : Int32) (x2 : Int32) (x4 : Int32) (x6 : Int32) (x7 : Int32) (z0 : Int32) (z1 : Int32) (z2 : Int32) (z3 : Int32) (u : SX) : xc_mend_115 post J19 x1 x2 x4 x6 x7 z0 z1 z2 z3 u = (wpX_evenInner (fun u301 => (∀ x6_336, x6_336 = x6 + 1 → (J19 x7 x6_336 u301))) u z3 z2 z1 z0) := rfl
def xc_mend_93 (post : SX → Prop) (J19 : Int32 → Int32 → SX → Prop) (x1 : Int32) (x2 : Int32) (x4 : Int32) (x6 : Int32) (x7 : Int32) (z0 : Int32) (z1 : Int32) (z2 : Int32) (z3 : Int32) (u : SX) : Prop := wX_mend_93 post (fun j0 j1 c0 c1 c2 c3 c4 c5 c6 c7 c8 c9 c10 c11 c12 c13 c14 c15 c16 c17 c18 c19 c20 c21 c22 c23 c24 c25 c26 c27 c28 c29 c30 c31 c32 c33 c34 => J19 j0 j1 (c0, c1, c2, c3, c4, c5, c6, c7, c8, c9, c10, c11, c12, c13, c14, c15, c16, c17, c18, c19, c20, c21, c22, c23, c24, c25, c26, c27, c28, c29, c30, c31, c32, c33, c34)) x1 x2 x4 x6 x7 z0 z1 z2 z3 (xg_writesLeft u) (xg_half u) (xg_grouped u) (xg_upKey u) (xg_upNode u) (xg_waiting u) (xg_wrong u) (xg_seenNodes u) (xg_seenKeys u) (xg_disk u) (xg_images u) (xg_rows u) (xg_anchors u) (xg_copies u) (xg_loaded u) (xg_changed u) (xg_imageOf u) (xg_rowAt u) (xg_rowsUsed u) (xg_imageAt u) (xg_imagesUsed u) (xg_nextSaving u) (xg_anchorNumber u) (xg_selected u) (xg_viewLength u) (xg_view u) (xg_group u) (xg_wayNode u) (xg_waySlot u) (xg_wideKey u) (xg_wideItem u) (xg_walkNode u) (xg_walkLevel u) (xg_walkLow u) (xg_walkHigh u)
theorem xe_mend_93 (post : SX → Prop) (J19 : Int32 → Int32 → SX → Prop) (x1 : Int32) (x2 : Int32) (x4 : Int32) (x6 : Int32) (x7 : Int32) (z0 : Int32) (z1 : Int32) (z2 : Int32) (z3 : Int32) (u : SX) : xc_mend_93 post J19 x1 x2 x4 x6 x7 z0 z1 z2 z3 u = (wpX_evenLeaves (fun u339 => (∀ x6_374, x6_374 = x6 + 1 → (J19 x7 x6_374 u339))) u z3 z2 z1 z0) := rfl
def xc_mend_69 (post : SX → Prop) (J19 : Int32 → Int32 → SX → Prop) (x1 : Int32) (x2 : Int32) (x4 : Int32) (x6 : Int32) (x7 : Int32) (x8 : Int32) (z0 : Int32) (u : SX) : Prop := wX_mend_69 post (fun j0 j1 c0 c1 c2 c3 c4 c5 c6 c7 c8 c9 c10 c11 c12 c13 c14 c15 c16 c17 c18 c19 c20 c21 c22 c23 c24 c25 c26 c27 c28 c29 c30 c31 c32 c33 c34 => J19 j0 j1 (c0, c1, c2, c3, c4, c5, c6, c7, c8, c9, c10, c11, c12, c13, c14, c15, c16, c17, c18, c19, c20, c21, c22, c23, c24, c25, c26, c27, c28, c29, c30, c31, c32, c33, c34)) x1 x2 x4 x6 x7 x8 z0 (xg_writesLeft u) (xg_half u) (xg_grouped u) (xg_upKey u) (xg_upNode u) (xg_waiting u) (xg_wrong u) (xg_seenNodes u) (xg_seenKeys u) (xg_disk u) (xg_images u) (xg_rows u) (xg_anchors u) (xg_copies u) (xg_loaded u) (xg_changed u) (xg_imageOf u) (xg_rowAt u) (xg_rowsUsed u) (xg_imageAt u) (xg_imagesUsed u) (xg_nextSaving u) (xg_anchorNumber u) (xg_selected u) (xg_viewLength u) (xg_view u) (xg_group u) (xg_wayNode u) (xg_waySlot u) (xg_wideKey u) (xg_wideItem u) (xg_walkNode u) (xg_walkLevel u) (xg_walkLow u) (xg_walkHigh u)
theorem xe_mend_69 (post : SX → Prop) (J19 : Int32 → Int32 → SX → Prop) (x1 : Int32) (x2 : Int32) (x4 : Int32) (x6 : Int32) (x7 : Int32) (x8 : Int32) (z0 : Int32) (u : SX) : xc_mend_69 post J19 x1 x2 x4 x6 x7 x8 z0 u = (((x6 = 1 → (((x8 ≤ 0 → (xc_mend_93 post J19 x1 x2 x4 x6 x7 0 z0 x7 x1 u)) ∧ (¬ x8 ≤ 0 → (xc_mend_93 post J19 x1 x2 x4 x6 x7 1 z0 x7 x1 u))))) ∧ (¬ x6 = 1 → (((x8 ≤ 0 → (xc_mend_115 post J19 x1 x2 x4 x6 x7 0 z0 x7 x1 u)) ∧ (¬ x8 ≤ 0 → (xc_mend_115 post J19 x1 x2 x4 x6 x7 1 z0 x7 x1 u))))))) := rfl
def xc_mend_19 (post : SX → Prop) (x1 : Int32) (x2 : Int32) (x4 : Int32) (n : Nat) (x5 : Int32) (x6 : Int32) (u : SX) : Prop := wX_mend_19 post x1 x2 x4 n x5 x6 (xg_writesLeft u) (xg_half u) (xg_grouped u) (xg_upKey u) (xg_upNode u) (xg_waiting u) (xg_wrong u) (xg_seenNodes u) (xg_seenKeys u) (xg_disk u) (xg_images u) (xg_rows u) (xg_anchors u) (xg_copies u) (xg_loaded u) (xg_changed u) (xg_imageOf u) (xg_rowAt u) (xg_rowsUsed u) (xg_imageAt u) (xg_imagesUsed u) (xg_nextSaving u) (xg_anchorNumber u) (xg_selected u) (xg_viewLength u) (xg_view u) (xg_group u) (xg_wayNode u) (xg_waySlot u) (xg_wideKey u) (xg_wideItem u) (xg_walkNode u) (xg_walkLevel u) (xg_walkLow u) (xg_walkHigh u)
theorem xe_mend_19 (post : SX → Prop) (x1 : Int32) (x2 : Int32) (x4 : Int32) (n : Nat) (x5 : Int32) (x6 : Int32) (u : SX) : xc_mend_19 post x1 x2 x4 (n + 1) x5 x6 u = (((x4 ≤ x6 → (xc_mend_128 post x1 x2 x4 u)) ∧ (¬ x4 ≤ x6 → (wpX_cell (fun r_256 u257 => (((2 ≤ r_256 → (xc_mend_128 post x1 x2 x4 u257)) ∧ (¬ 2 ≤ r_256 → (vp_in x6 8 ∧ (∀ x7_294, x7_294 = (xg_wayNode u257) x6.toNatClampNeg → (vp_in x6 8 ∧ (∀ x8_296, x8_296 = (xg_waySlot u257) x6.toNatClampNeg → (((x8_296 ≤ 0 → (xc_mend_69 post (xc_mend_19 post x1 x2 x4 n) x1 x2 x4 x6 x7_294 x8_296 0 u257)) ∧ (¬ x8_296 ≤ 0 → (xc_mend_69 post (xc_mend_19 post x1 x2 x4 n) x1 x2 x4 x6 x7_294 x8_296 (x8_296 - 1) u257)))))))))))) u x1 x5 0)))) := rfl
theorem xe_mend (post : SX → Prop) (u : SX) (p0 : Int32) (p1 : Int32) (p2 : Int32) : wpX_mend post u p0 p1 p2 = (wpX_cell (fun r_1 u2 => (∃ n19 : Nat, xc_mend_19 post p0 p1 r_1 n19 p2 1 u2)) u p0 0 ((3 * p1) + 1)) := rfl
def xc_dropKey_26 (post : SX → Prop) (x1 : Int32) (x2 : Int32) (x4 : Int32) (z0 : Int32) (u : SX) : Prop := wX_dropKey_26 post x1 x2 x4 z0 (xg_writesLeft u) (xg_half u) (xg_grouped u) (xg_upKey u) (xg_upNode u) (xg_waiting u) (xg_wrong u) (xg_seenNodes u) (xg_seenKeys u) (xg_disk u) (xg_images u) (xg_rows u) (xg_anchors u) (xg_copies u) (xg_loaded u) (xg_changed u) (xg_imageOf u) (xg_rowAt u) (xg_rowsUsed u) (xg_imageAt u) (xg_imagesUsed u) (xg_nextSaving u) (xg_anchorNumber u) (xg_selected u) (xg_viewLength u) (xg_view u) (xg_group u) (xg_wayNode u) (xg_waySlot u) (xg_wideKey u) (xg_wideItem u) (xg_walkNode u) (xg_walkLevel u) (xg_walkLow u) (xg_walkHigh u)
theorem xe_dropKey_26 (post : SX → Prop) (x1 : Int32) (x2 : Int32) (x4 : Int32) (z0 : Int32) (u : SX) : xc_dropKey_26 post x1 x2 x4 z0 u = (((0 ≤ z0 → (wpX_removeAt (fun u76 => (wpX_cell (fun r_111 u112 => (wpX_setCell (fun u148 => (wpX_cell (fun r_183 u184 => (((r_183 = 0 → (wpX_giveNode (fun u295 => (wpX_setCell (fun u331 => (wpX_setCell (fun u367 => (post u367)) u331 x1 0 ((3 * x2) + 1) 0)) u295 x1 0 (3 * x2) 0)) u184 x1 x4)) ∧ (¬ r_183 = 0 → (((2 ≤ r_183 → (post u184)) ∧ (¬ 2 ≤ r_183 → (wpX_cell (fun r_221 u222 => (((r_221 ≤ 1 → (post u222)) ∧ (¬ r_221 ≤ 1 → (wpX_mend (fun u259 => (post u259)) u222 x1 x2 x4))))) u184 x1 0 ((3 * x2) + 1))))))))) u148 x1 x4 0)) u112 x1 0 ((3 * x2) + 2) (r_111 - 1))) u76 x1 0 ((3 * x2) + 2))) u x1 x4 z0)) ∧ (¬ 0 ≤ z0 → (post u)))) := rfl
theorem xe_dropKey (post : SX → Prop) (u : SX) (p0 : Int32) (p1 : Int32) (p2 : Int32) : wpX_dropKey post u p0 p1 p2 = (wpX_descend (fun r_1 u2 => (((r_1 = 0 → (xc_dropKey_26 post p0 p1 r_1 (-1) u2)) ∧ (¬ r_1 = 0 → (wpX_placeIn (fun r_38 u39 => (xc_dropKey_26 post p0 p1 r_1 r_38 u39)) u2 p0 r_1 p2))))) u p0 p1 p2) := rfl
theorem xe_about (post : Int32 → SX → Prop) (u : SX) (p0 : Int32) (p1 : Int32) : wpX_about post u p0 p1 = (wpX_cell (fun r_1 u2 => (post r_1 u2)) u p0 1 p1) := rfl
theorem xe_isThere (post : Int32 → SX → Prop) (u : SX) (p0 : Int32) : wpX_isThere post u p0 = (wpX_about (fun r_1 u2 => (((r_1 = 1 → (post 1 u2)) ∧ (¬ r_1 = 1 → (post 0 u2))))) u p0 0) := rfl
theorem xe_entry (post : Int32 → SX → Prop) (u : SX) (p0 : Int32) (p1 : Int32) (p2 : Int32) : wpX_entry post u p0 p1 p2 = (wpX_cell (fun r_1 u2 => (post r_1 u2)) u p0 (2 + (p1 >>> ((1 : Int32) &&& 31))) ((4 * (p1 &&& 1)) + p2)) := rfl
theorem xe_setRecord (post : SX → Prop) (u : SX) (p0 : Int32) (p1 : Int32) (p2 : Int32) (p3 : Int32) : wpX_setRecord post u p0 p1 p2 p3 = (wpX_setCell (fun u2 => (post u2)) u p0 (2 + (p1 >>> ((1 : Int32) &&& 31))) ((4 * (p1 &&& 1)) + p2) p3) := rfl
theorem xe_recordOf (post : Int32 → SX → Prop) (u : SX) (p0 : Int32) (p1 : Int32) : wpX_recordOf post u p0 p1 = (wpX_valueOf (fun r_1 u2 => (post r_1 u2)) u p0 0 p1) := rfl
theorem xe_messages (post : Int32 → SX → Prop) (u : SX) (p0 : Int32) : wpX_messages post u p0 = (wpX_cell (fun r_1 u2 => (post r_1 u2)) u p0 0 2) := rfl
theorem xe_newChange (post : Int32 → SX → Prop) (u : SX) (p0 : Int32) : wpX_newChange post u p0 = (wpX_about (fun r_1 u2 => (∀ x2_37, x2_37 = r_1 + 1 → (wpX_setCell (fun u39 => (post x2_37 u39)) u2 p0 1 3 x2_37))) u p0 3) := rfl
def xc_freeRecord_9 (post : Int32 → SX → Prop) (x2 : Int32) (u : SX) (n : Nat) (x3 : Int32) : Prop := wX_freeRecord_9 post x2 (xg_writesLeft u) (xg_half u) (xg_grouped u) (xg_upKey u) (xg_upNode u) (xg_waiting u) (xg_wrong u) (xg_seenNodes u) (xg_seenKeys u) (xg_disk u) (xg_images u) (xg_rows u) (xg_anchors u) (xg_copies u) (xg_loaded u) (xg_changed u) (xg_imageOf u) (xg_rowAt u) (xg_rowsUsed u) (xg_imageAt u) (xg_imagesUsed u) (xg_nextSaving u) (xg_anchorNumber u) (xg_selected u) (xg_viewLength u) (xg_view u) (xg_group u) (xg_wayNode u) (xg_waySlot u) (xg_wideKey u) (xg_wideItem u) (xg_walkNode u) (xg_walkLevel u) (xg_walkLow u) (xg_walkHigh u) n x3
theorem xe_freeRecord_9 (post : Int32 → SX → Prop) (x2 : Int32) (u : SX) (n : Nat) (x3 : Int32) : xc_freeRecord_9 post x2 u (n + 1) x3 = (((13 ≤ x3 → (post x3 u)) ∧ (¬ 13 ≤ x3 → (((((x2 >>> (x3 &&& 31)) &&& 1) = 1 → (∀ x3_39, x3_39 = x3 + 1 → (xc_freeRecord_9 post x2 u n x3_39))) ∧ (¬ ((x2 >>> (x3 &&& 31)) &&& 1) = 1 → (post x3 u))))))) := rfl
theorem xe_freeRecord (post : Int32 → SX → Prop) (u : SX) (p0 : Int32) : wpX_freeRecord post u p0 = (wpX_about (fun r_1 u2 => (∃ n9 : Nat, xc_freeRecord_9 post r_1 u2 n9 0)) u p0 5) := rfl
theorem xe_putMessage (post : Int32 → SX → Prop) (u : SX) (p0 : Int32) (p1 : Int32) (p2 : Int32) : wpX_putMessage post u p0 p1 p2 = (wpX_about (fun r_1 u2 => (wpX_freeRecord (fun r_37 u38 => (wpX_newChange (fun r_73 u74 => (wpX_about (fun r_109 u110 => (wpX_setCell (fun u146 => (wpX_setCell (fun u182 => (wpX_setRecord (fun u218 => (wpX_setRecord (fun u254 => (wpX_setRecord (fun u290 => (wpX_setRecord (fun u326 => (wpX_setKey (fun u362 => (wpX_setKey (fun u398 => (post r_1 u398)) u362 p0 1 r_73 r_37)) u326 p0 0 r_1 r_37)) u290 p0 r_37 3 r_73)) u254 p0 r_37 2 p2)) u218 p0 r_37 1 p1)) u182 p0 r_37 0 r_1)) u146 p0 1 2 (r_1 + 1))) u110 p0 1 5 (r_109 ||| ((1 : Int32) <<< (r_37 &&& 31))))) u74 p0 5)) u38 p0)) u2 p0)) u p0 2) := rfl
theorem xe_changeFlags (post : SX → Prop) (u : SX) (p0 : Int32) (p1 : Int32) (p2 : Int32) : wpX_changeFlags post u p0 p1 p2 = (wpX_entry (fun r_1 u2 => (wpX_newChange (fun r_37 u38 => (wpX_dropKey (fun u74 => (wpX_setKey (fun u110 => (wpX_setRecord (fun u146 => (wpX_setRecord (fun u182 => (post u182)) u146 p0 p1 3 r_37)) u110 p0 p1 2 p2)) u74 p0 1 r_37 p1)) u38 p0 1 r_1)) u2 p0)) u p0 p1 3) := rfl
theorem xe_takeOut (post : SX → Prop) (u : SX) (p0 : Int32) (p1 : Int32) : wpX_takeOut post u p0 p1 = (wpX_recordOf (fun r_1 u2 => (wpX_entry (fun r_37 u38 => (wpX_about (fun r_73 u74 => (wpX_dropKey (fun u110 => (wpX_dropKey (fun u146 => (wpX_setCell (fun u182 => (wpX_newChange (fun r_217 u218 => (post u218)) u182 p0)) u146 p0 1 5 (r_73 &&& (((1 : Int32) <<< (r_1 &&& 31)) ^^^ (-1))))) u110 p0 1 r_37)) u74 p0 0 p1)) u38 p0 5)) u2 p0 r_1 3)) u p0 p1) := rfl
def xc_create_24 (post : Int32 → SX → Prop) (x1 : Int32) (n : Nat) (x2 : Int32) (x3 : Int32) (u : SX) : Prop := wX_create_24 post x1 n x2 x3 (xg_writesLeft u) (xg_half u) (xg_grouped u) (xg_upKey u) (xg_upNode u) (xg_waiting u) (xg_wrong u) (xg_seenNodes u) (xg_seenKeys u) (xg_disk u) (xg_images u) (xg_rows u) (xg_anchors u) (xg_copies u) (xg_loaded u) (xg_changed u) (xg_imageOf u) (xg_rowAt u) (xg_rowsUsed u) (xg_imageAt u) (xg_imagesUsed u) (xg_nextSaving u) (xg_anchorNumber u) (xg_selected u) (xg_viewLength u) (xg_view u) (xg_group u) (xg_wayNode u) (xg_waySlot u) (xg_wideKey u) (xg_wideItem u) (xg_walkNode u) (xg_walkLevel u) (xg_walkLow u) (xg_walkHigh u)
theorem xe_create_24 (post : Int32 → SX → Prop) (x1 : Int32) (n : Nat) (x2 : Int32) (x3 : Int32) (u : SX) : xc_create_24 post x1 (n + 1) x2 x3 u = (((4 ≤ x3 → (∀ x2_41, x2_41 = x2 + 1 → (wpX_clear (fun u43 => (wpX_clear (fun u79 => (wpX_setCell (fun u115 => (wpX_setCell (fun u151 => (wpX_setCell (fun u187 => (wpX_setCell (fun u223 => (wpX_setCell (fun u259 => (wpX_save (fun u295 => (post x2_41 u295)) u259 x1)) u223 x1 1 3 1)) u187 x1 1 2 1)) u151 x1 1 4 x2_41)) u115 x1 1 1 x2_41)) u79 x1 1 0 1)) u43 x1 1)) u x1 0))) ∧ (¬ 4 ≤ x3 → (wpX_about (fun r_330 u331 => (((r_330 ≤ x2 → (∀ x3_367, x3_367 = x3 + 1 → (xc_create_24 post x1 n x2 x3_367 u331))) ∧ (¬ r_330 ≤ x2 → (∀ x3_368, x3_368 = x3 + 1 → (xc_create_24 post x1 n r_330 x3_368 u331)))))) u x3 4)))) := rfl
theorem xe_create (post : Int32 → SX → Prop) (u : SX) (p0 : Int32) : wpX_create post u p0 = (wpX_isBox (fun r_1 => (((r_1 = 0 → (post (-1) u)) ∧ (¬ r_1 = 0 → (wpX_isThere (fun r_3 u4 => (((r_3 = 0 → (∃ n24 : Nat, xc_create_24 post p0 n24 0 0 u4)) ∧ (¬ r_3 = 0 → (post (-5) u4))))) u p0))))) p0) := rfl
theorem xe_trouble (post : Int32 → SX → Prop) (u : SX) (p0 : Int32) : wpX_trouble post u p0 = (wpX_isBox (fun r_1 => (((r_1 = 0 → (post (-1) u)) ∧ (¬ r_1 = 0 → (wpX_isThere (fun r_3 u4 => (((r_3 = 0 → (post (-2) u4)) ∧ (¬ r_3 = 0 → (post 0 u4))))) u p0))))) p0) := rfl
def xc_remove_48 (post : Int32 → SX → Prop) (x1 : Int32) (x3 : Int32) (n : Nat) (x4 : Int32) (u : SX) : Prop := wX_remove_48 post x1 x3 (xg_writesLeft u) (xg_half u) (xg_grouped u) (xg_upKey u) (xg_upNode u) (xg_waiting u) (xg_wrong u) (xg_seenNodes u) (xg_seenKeys u) n x4 (xg_disk u) (xg_images u) (xg_rows u) (xg_anchors u) (xg_copies u) (xg_loaded u) (xg_changed u) (xg_imageOf u) (xg_rowAt u) (xg_rowsUsed u) (xg_imageAt u) (xg_imagesUsed u) (xg_nextSaving u) (xg_anchorNumber u) (xg_selected u) (xg_viewLength u) (xg_view u) (xg_group u) (xg_wayNode u) (xg_waySlot u) (xg_wideKey u) (xg_wideItem u) (xg_walkNode u) (xg_walkLevel u) (xg_walkLow u) (xg_walkHigh u)
theorem xe_remove_48 (post : Int32 → SX → Prop) (x1 : Int32) (x3 : Int32) (n : Nat) (x4 : Int32) (u : SX) : xc_remove_48 post x1 x3 (n + 1) x4 u = (((3 ≤ x4 → (post x3 u)) ∧ (¬ 3 ≤ x4 → (vp_in x4 3 ∧ (((((xg_selected u) x4.toNatClampNeg) = (x1 + 1) → (vp_in x4 3 ∧ ∀ a_selected_226, a_selected_226 = upd (xg_selected u) x4.toNatClampNeg 0 → (∀ x4_227, x4_227 = x4 + 1 → (xc_remove_48 post x1 x3 n x4_227 (xs_selected u a_selected_226))))) ∧ (¬ ((xg_selected u) x4.toNatClampNeg) = (x1 + 1) → (vp_in x4 3 ∧ (vp_in x4 3 ∧ ∀ a_selected_223, a_selected_223 = upd (xg_selected u) x4.toNatClampNeg ((xg_selected u) x4.toNatClampNeg) → (∀ x4_224, x4_224 = x4 + 1 → (xc_remove_48 post x1 x3 n x4_224 (xs_selected u a_selected_223)))))))))))) := rfl
theorem xe_remove (post : Int32 → SX → Prop) (u : SX) (p0 : Int32) : wpX_remove post u p0 = (wpX_trouble (fun r_1 u2 => (((0 ≤ r_1 → (wpX_messages (fun r_38 u39 => (wpX_clear (fun u75 => (wpX_setCell (fun u111 => (wpX_setCell (fun u147 => (wpX_save (fun u183 => (∃ n48 : Nat, xc_remove_48 post p0 r_38 n48 0 u183)) u147 p0)) u111 p0 1 5 0)) u75 p0 1 0 0)) u39 p0 0)) u2 p0)) ∧ (¬ 0 ≤ r_1 → (post r_1 u2))))) u p0) := rfl
theorem xe_append (post : Int32 → SX → Prop) (u : SX) (p0 : Int32) (p1 : Int32) (p2 : Int32) : wpX_append post u p0 p1 p2 = (wpX_isBox (fun r_1 => (((r_1 = 0 → (post (-1) u)) ∧ (¬ r_1 = 0 → (wpX_isMessage (fun r_3 => (((r_3 = 0 → (post (-1) u)) ∧ (¬ r_3 = 0 → (wpX_isThere (fun r_5 u6 => (((r_5 = 0 → (post (-2) u6)) ∧ (¬ r_5 = 0 → (wpX_messages (fun r_42 u43 => (((r_42 < 14 → (wpX_putMessage (fun r_79 u80 => (wpX_save (fun u116 => (post r_79 u116)) u80 p0)) u43 p0 p1 p2)) ∧ (¬ r_42 < 14 → (post (-3) u43))))) u6 p0))))) u p0))))) p1 p2))))) p0) := rfl
theorem xe_status (post : Int32 → SX → Prop) (u : SX) (p0 : Int32) (p1 : Int32) : wpX_status post u p0 p1 = (wpX_isBox (fun r_1 => (((r_1 = 0 → (post (-1) u)) ∧ (¬ r_1 = 0 → (((p1 < 0 → (post (-1) u)) ∧ (¬ p1 < 0 → (((p1 ≤ 3 → (wpX_isThere (fun r_5 u6 => (((r_5 = 0 → (post (-2) u6)) ∧ (¬ r_5 = 0 → (((p1 = 3 → (wpX_messages (fun r_79 u80 => (post r_79 u80)) u6 p0)) ∧ (¬ p1 = 3 → (wpX_about (fun r_43 u44 => (post r_43 u44)) u6 p0 (1 + p1))))))))) u p0)) ∧ (¬ p1 ≤ 3 → (post (-1) u))))))))))) p0) := rfl
def xc_counting_87 (post : Int32 → SX → Prop) (J41 : Int32 → Int32 → Int32 → SX → Prop) (x1 : Int32) (x2 : Int32) (x4 : Int32) (x5 : Int32) (z0 : Int32) (z1 : Int32) (u : SX) : Prop := wX_counting_87 post (fun j0 j1 j2 c0 c1 c2 c3 c4 c5 c6 c7 c8 c9 c10 c11 c12 c13 c14 c15 c16 c17 c18 c19 c20 c21 c22 c23 c24 c25 c26 c27 c28 c29 c30 c31 c32 c33 c34 => J41 j0 j1 j2 (c0, c1, c2, c3, c4, c5, c6, c7, c8, c9, c10, c11, c12, c13, c14, c15, c16, c17, c18, c19, c20, c21, c22, c23, c24, c25, c26, c27, c28, c29, c30, c31, c32, c33, c34)) x1 x2 x4 x5 z0 z1 (xg_writesLeft u) (xg_half u) (xg_grouped u) (xg_upKey u) (xg_upNode u) (xg_waiting u) (xg_wrong u) (xg_seenNodes u) (xg_seenKeys u) (xg_disk u) (xg_images u) (xg_rows u) (xg_anchors u) (xg_copies u) (xg_loaded u) (xg_changed u) (xg_imageOf u) (xg_rowAt u) (xg_rowsUsed u) (xg_imageAt u) (xg_imagesUsed u) (xg_nextSaving u) (xg_anchorNumber u) (xg_selected u) (xg_viewLength u) (xg_view u) (xg_group u) (xg_wayNode u) (xg_waySlot u) (xg_wideKey u) (xg_wideItem u) (xg_walkNode u) (xg_walkLevel u) (xg_walkLow u) (xg_walkHigh u)
theorem xe_counting_87 (post : Int32 → SX → Prop) (J41 : Int32 → Int32 → Int32 → SX → Prop) (x1 : Int32) (x2 : Int32) (x4 : Int32) (x5 : Int32) (z0 : Int32) (z1 : Int32) (u : SX) : xc_counting_87 post J41 x1 x2 x4 x5 z0 z1 u = (∀ x3_154, x3_154 = z1 + z0 → (wpX_keyAfter (fun r_155 u156 => (∀ x5_191, x5_191 = x5 + 1 → (J41 x3_154 r_155 x5_191 u156))) u x1 0 x4)) := rfl
def xc_counting_41 (post : Int32 → SX → Prop) (x1 : Int32) (x2 : Int32) (n : Nat) (x3 : Int32) (x4 : Int32) (x5 : Int32) (u : SX) : Prop := wX_counting_41 post x1 x2 n x3 x4 x5 (xg_writesLeft u) (xg_half u) (xg_grouped u) (xg_upKey u) (xg_upNode u) (xg_waiting u) (xg_wrong u) (xg_seenNodes u) (xg_seenKeys u) (xg_disk u) (xg_images u) (xg_rows u) (xg_anchors u) (xg_copies u) (xg_loaded u) (xg_changed u) (xg_imageOf u) (xg_rowAt u) (xg_rowsUsed u) (xg_imageAt u) (xg_imagesUsed u) (xg_nextSaving u) (xg_anchorNumber u) (xg_selected u) (xg_viewLength u) (xg_view u) (xg_group u) (xg_wayNode u) (xg_waySlot u) (xg_wideKey u) (xg_wideItem u) (xg_walkNode u) (xg_walkLevel u) (xg_walkLow u) (xg_walkHigh u)
theorem xe_counting_41 (post : Int32 → SX → Prop) (x1 : Int32) (x2 : Int32) (n : Nat) (x3 : Int32) (x4 : Int32) (x5 : Int32) (u : SX) : xc_counting_41 post x1 x2 (n + 1) x3 x4 x5 u = (((14 ≤ x5 → (post x3 u)) ∧ (¬ 14 ≤ x5 → (((x4 ≤ 0 → (post x3 u)) ∧ (¬ x4 ≤ 0 → (wpX_recordOf (fun r_80 u81 => (wpX_entry (fun r_116 u117 => (wpX_fits (fun r_152 => (((r_152 = 0 → (xc_counting_87 post (xc_counting_41 post x1 x2 n) x1 x2 x4 x5 0 x3 u117)) ∧ (¬ r_152 = 0 → (xc_counting_87 post (xc_counting_41 post x1 x2 n) x1 x2 x4 x5 1 x3 u117))))) r_116 x2)) u81 x1 r_80 2)) u x1 x4))))))) := rfl
theorem xe_counting (post : Int32 → SX → Prop) (u : SX) (p0 : Int32) (p1 : Int32) : wpX_counting post u p0 p1 = (wpX_isBox (fun r_1 => (((r_1 = 0 → (post (-1) u)) ∧ (¬ r_1 = 0 → (wpX_isCode (fun r_3 => (((r_3 = 0 → (post (-1) u)) ∧ (¬ r_3 = 0 → (wpX_isThere (fun r_5 u6 => (((r_5 = 0 → (post (-2) u6)) ∧ (¬ r_5 = 0 → (wpX_keyAfter (fun r_42 u43 => (∃ n41 : Nat, xc_counting_41 post p0 p1 n41 0 r_42 0 u43)) u6 p0 0 0))))) u p0))))) p1))))) p0) := rfl
def xc_changedSince_88 (post : Int32 → SX → Prop) (J31 : Int32 → Int32 → Int32 → SX → Prop) (x1 : Int32) (x3 : Int32) (x6 : Int32) (x7 : Int32) (z0 : Int32) (u : SX) : Prop := wX_changedSince_88 post (fun j0 j1 j2 c0 c1 c2 c3 c4 c5 c6 c7 c8 c9 c10 c11 c12 c13 c14 c15 c16 c17 c18 c19 c20 c21 c22 c23 c24 c25 c26 c27 c28 c29 c30 c31 c32 c33 c34 => J31 j0 j1 j2 (c0, c1, c2, c3, c4, c5, c6, c7, c8, c9, c10, c11, c12, c13, c14, c15, c16, c17, c18, c19, c20, c21, c22, c23, c24, c25, c26, c27, c28, c29, c30, c31, c32, c33, c34)) x1 x3 x6 x7 z0 (xg_writesLeft u) (xg_half u) (xg_grouped u) (xg_upKey u) (xg_upNode u) (xg_waiting u) (xg_wrong u) (xg_seenNodes u) (xg_seenKeys u) (xg_disk u) (xg_images u) (xg_rows u) (xg_anchors u) (xg_copies u) (xg_loaded u) (xg_changed u) (xg_imageOf u) (xg_rowAt u) (xg_rowsUsed u) (xg_imageAt u) (xg_imagesUsed u) (xg_nextSaving u) (xg_anchorNumber u) (xg_selected u) (xg_viewLength u) (xg_view u) (xg_group u) (xg_wayNode u) (xg_waySlot u) (xg_wideKey u) (xg_wideItem u) (xg_walkNode u) (xg_walkLevel u) (xg_walkLow u) (xg_walkHigh u)
theorem xe_changedSince_88 (post : Int32 → SX → Prop) (J31 : Int32 → Int32 → Int32 → SX → Prop) (x1 : Int32) (x3 : Int32) (x6 : Int32) (x7 : Int32) (z0 : Int32) (u : SX) : xc_changedSince_88 post J31 x1 x3 x6 x7 z0 u = (wpX_keyAfter (fun r_149 u150 => (∀ x7_185, x7_185 = x7 + 1 → (J31 z0 r_149 x7_185 u150))) u x1 1 x6) := rfl
def xc_changedSince_86 (post : Int32 → SX → Prop) (J31 : Int32 → Int32 → Int32 → SX → Prop) (x1 : Int32) (x3 : Int32) (x5 : Int32) (x6 : Int32) (x7 : Int32) (u : SX) : Prop := wX_changedSince_86 post (fun j0 j1 j2 c0 c1 c2 c3 c4 c5 c6 c7 c8 c9 c10 c11 c12 c13 c14 c15 c16 c17 c18 c19 c20 c21 c22 c23 c24 c25 c26 c27 c28 c29 c30 c31 c32 c33 c34 => J31 j0 j1 j2 (c0, c1, c2, c3, c4, c5, c6, c7, c8, c9, c10, c11, c12, c13, c14, c15, c16, c17, c18, c19, c20, c21, c22, c23, c24, c25, c26, c27, c28, c29, c30, c31, c32, c33, c34)) x1 x3 x5 x6 x7 (xg_writesLeft u) (xg_half u) (xg_grouped u) (xg_upKey u) (xg_upNode u) (xg_waiting u) (xg_wrong u) (xg_seenNodes u) (xg_seenKeys u) (xg_disk u) (xg_images u) (xg_rows u) (xg_anchors u) (xg_copies u) (xg_loaded u) (xg_changed u) (xg_imageOf u) (xg_rowAt u) (xg_rowsUsed u) (xg_imageAt u) (xg_imagesUsed u) (xg_nextSaving u) (xg_anchorNumber u) (xg_selected u) (xg_viewLength u) (xg_view u) (xg_group u) (xg_wayNode u) (xg_waySlot u) (xg_wideKey u) (xg_wideItem u) (xg_walkNode u) (xg_walkLevel u) (xg_walkLow u) (xg_walkHigh u)
theorem xe_changedSince_86 (post : Int32 → SX → Prop) (J31 : Int32 → Int32 → Int32 → SX → Prop) (x1 : Int32) (x3 : Int32) (x5 : Int32) (x6 : Int32) (x7 : Int32) (u : SX) : xc_changedSince_86 post J31 x1 x3 x5 x6 x7 u = (xc_changedSince_88 post J31 x1 x3 x6 x7 x5 u) := rfl
def xc_changedSince_81 (post : Int32 → SX → Prop) (J31 : Int32 → Int32 → Int32 → SX → Prop) (x1 : Int32) (x3 : Int32) (x6 : Int32) (x7 : Int32) (x9 : Int32) (u : SX) : Prop := wX_changedSince_81 post (fun j0 j1 j2 c0 c1 c2 c3 c4 c5 c6 c7 c8 c9 c10 c11 c12 c13 c14 c15 c16 c17 c18 c19 c20 c21 c22 c23 c24 c25 c26 c27 c28 c29 c30 c31 c32 c33 c34 => J31 j0 j1 j2 (c0, c1, c2, c3, c4, c5, c6, c7, c8, c9, c10, c11, c12, c13, c14, c15, c16, c17, c18, c19, c20, c21, c22, c23, c24, c25, c26, c27, c28, c29, c30, c31, c32, c33, c34)) x1 x3 x6 x7 x9 (xg_writesLeft u) (xg_half u) (xg_grouped u) (xg_upKey u) (xg_upNode u) (xg_waiting u) (xg_wrong u) (xg_seenNodes u) (xg_seenKeys u) (xg_disk u) (xg_images u) (xg_rows u) (xg_anchors u) (xg_copies u) (xg_loaded u) (xg_changed u) (xg_imageOf u) (xg_rowAt u) (xg_rowsUsed u) (xg_imageAt u) (xg_imagesUsed u) (xg_nextSaving u) (xg_anchorNumber u) (xg_selected u) (xg_viewLength u) (xg_view u) (xg_group u) (xg_wayNode u) (xg_waySlot u) (xg_wideKey u) (xg_wideItem u) (xg_walkNode u) (xg_walkLevel u) (xg_walkLow u) (xg_walkHigh u)
theorem xe_changedSince_81 (post : Int32 → SX → Prop) (J31 : Int32 → Int32 → Int32 → SX → Prop) (x1 : Int32) (x3 : Int32) (x6 : Int32) (x7 : Int32) (x9 : Int32) (u : SX) : xc_changedSince_81 post J31 x1 x3 x6 x7 x9 u = (xc_changedSince_88 post J31 x1 x3 x6 x7 x9 u) := rfl
def xc_changedSince_31 (post : Int32 → SX → Prop) (x1 : Int32) (x3 : Int32) (n : Nat) (x5 : Int32) (x6 : Int32) (x7 : Int32) (u : SX) : Prop := wX_changedSince_31 post x1 x3 n x5 x6 x7 (xg_writesLeft u) (xg_half u) (xg_grouped u) (xg_upKey u) (xg_upNode u) (xg_waiting u) (xg_wrong u) (xg_seenNodes u) (xg_seenKeys u) (xg_disk u) (xg_images u) (xg_rows u) (xg_anchors u) (xg_copies u) (xg_loaded u) (xg_changed u) (xg_imageOf u) (xg_rowAt u) (xg_rowsUsed u) (xg_imageAt u) (xg_imagesUsed u) (xg_nextSaving u) (xg_anchorNumber u) (xg_selected u) (xg_viewLength u) (xg_view u) (xg_group u) (xg_wayNode u) (xg_waySlot u) (xg_wideKey u) (xg_wideItem u) (xg_walkNode u) (xg_walkLevel u) (xg_walkLow u) (xg_walkHigh u)
theorem xe_changedSince_31 (post : Int32 → SX → Prop) (x1 : Int32) (x3 : Int32) (n : Nat) (x5 : Int32) (x6 : Int32) (x7 : Int32) (u : SX) : xc_changedSince_31 post x1 x3 (n + 1) x5 x6 x7 u = (((14 ≤ x7 → (post x5 u)) ∧ (¬ 14 ≤ x7 → (((x6 ≤ 0 → (post x5 u)) ∧ (¬ x6 ≤ 0 → (wpX_valueOf (fun r_76 u77 => (wpX_entry (fun r_112 u113 => (((r_112 ≤ x3 → (xc_changedSince_86 post (xc_changedSince_31 post x1 x3 n) x1 x3 x5 x6 x7 u113)) ∧ (¬ r_112 ≤ x3 → (((x5 < 0 → (xc_changedSince_81 post (xc_changedSince_31 post x1 x3 n) x1 x3 x6 x7 r_112 u113)) ∧ (¬ x5 < 0 → (((x5 ≤ r_112 → (xc_changedSince_86 post (xc_changedSince_31 post x1 x3 n) x1 x3 x5 x6 x7 u113)) ∧ (¬ x5 ≤ r_112 → (xc_changedSince_81 post (xc_changedSince_31 post x1 x3 n) x1 x3 x6 x7 r_112 u113))))))))))) u77 x1 r_76 0)) u x1 1 x6))))))) := rfl
theorem xe_changedSince (post : Int32 → SX → Prop) (u : SX) (p0 : Int32) (p1 : Int32) (p2 : Int32) : wpX_changedSince post u p0 p1 p2 = (wpX_trouble (fun r_1 u2 => (((0 ≤ r_1 → (wpX_keyAfter (fun r_38 u39 => (∃ n31 : Nat, xc_changedSince_31 post p0 p2 n31 (-2) r_38 0 u39)) u2 p0 1 p1)) ∧ (¬ 0 ≤ r_1 → (post r_1 u2))))) u p0) := rfl
theorem xe_vanished (post : Int32 → SX → Prop) (u : SX) (p0 : Int32) (p1 : Int32) : wpX_vanished post u p0 p1 = (wpX_trouble (fun r_1 u2 => (((0 ≤ r_1 → (((p1 < 1 → (post 0 u2)) ∧ (¬ p1 < 1 → (wpX_about (fun r_39 u40 => (((r_39 ≤ p1 → (post 0 u40)) ∧ (¬ r_39 ≤ p1 → (wpX_recordOf (fun r_76 u77 => (((0 ≤ r_76 → (post 0 u77)) ∧ (¬ 0 ≤ r_76 → (post 1 u77))))) u40 p0 p1))))) u2 p0 2))))) ∧ (¬ 0 ≤ r_1 → (post r_1 u2))))) u p0) := rfl
def xc_tell_15 (post : Int32 → SX → Prop) (x1 : Int32) (x2 : Int32) (n : Nat) (x4 : Int32) (x5 : Int32) (x6 : Int32) (u : SX) : Prop := wX_tell_15 post x1 x2 n x4 x5 x6 (xg_writesLeft u) (xg_half u) (xg_grouped u) (xg_upKey u) (xg_upNode u) (xg_waiting u) (xg_wrong u) (xg_seenNodes u) (xg_seenKeys u) (xg_disk u) (xg_images u) (xg_rows u) (xg_anchors u) (xg_copies u) (xg_loaded u) (xg_changed u) (xg_imageOf u) (xg_rowAt u) (xg_rowsUsed u) (xg_imageAt u) (xg_imagesUsed u) (xg_nextSaving u) (xg_anchorNumber u) (xg_selected u) (xg_viewLength u) (xg_view u) (xg_group u) (xg_wayNode u) (xg_waySlot u) (xg_wideKey u) (xg_wideItem u) (xg_walkNode u) (xg_walkLevel u) (xg_walkLow u) (xg_walkHigh u)
theorem xe_tell_15 (post : Int32 → SX → Prop) (x1 : Int32) (x2 : Int32) (n : Nat) (x4 : Int32) (x5 : Int32) (x6 : Int32) (u : SX) : xc_tell_15 post x1 x2 (n + 1) x4 x5 x6 u = (((14 ≤ x6 → (post x4 u)) ∧ (¬ 14 ≤ x6 → (((x5 ≤ 0 → (post x4 u)) ∧ (¬ x5 ≤ 0 → (vp_in x1 3 ∧ (vp_in ((16 * x1) + ((xg_viewLength u) x1.toNatClampNeg)) 48 ∧ ∀ a_view_41, a_view_41 = upd (xg_view u) ((16 * x1) + ((xg_viewLength u) x1.toNatClampNeg)).toNatClampNeg x5 → (vp_in x1 3 ∧ (vp_in x1 3 ∧ ∀ a_viewLength_44, a_viewLength_44 = upd (xg_viewLength u) x1.toNatClampNeg (((xg_viewLength u) x1.toNatClampNeg) + 1) → (∀ x4_45, x4_45 = x4 + 1 → (wpX_keyAfter (fun r_46 u47 => (∀ x6_82, x6_82 = x6 + 1 → (xc_tell_15 post x1 x2 n x4_45 r_46 x6_82 u47))) (xs_view (xs_viewLength u a_viewLength_44) a_view_41) x2 0 x5)))))))))))) := rfl
theorem xe_tell (post : Int32 → SX → Prop) (u : SX) (p0 : Int32) (p1 : Int32) (p2 : Int32) : wpX_tell post u p0 p1 p2 = (wpX_keyAfter (fun r_1 u2 => (∃ n15 : Nat, xc_tell_15 post p0 p1 n15 0 r_1 0 u2)) u p1 0 p2) := rfl
def xc_forgetGone_5 (post : Int32 → SX → Prop) (x1 : Int32) (x2 : Int32) (n : Nat) (x3 : Int32) (x4 : Int32) (u : SX) : Prop := wX_forgetGone_5 post x1 x2 n x3 x4 (xg_writesLeft u) (xg_half u) (xg_grouped u) (xg_upKey u) (xg_upNode u) (xg_waiting u) (xg_wrong u) (xg_seenNodes u) (xg_seenKeys u) (xg_disk u) (xg_images u) (xg_rows u) (xg_anchors u) (xg_copies u) (xg_loaded u) (xg_changed u) (xg_imageOf u) (xg_rowAt u) (xg_rowsUsed u) (xg_imageAt u) (xg_imagesUsed u) (xg_nextSaving u) (xg_anchorNumber u) (xg_selected u) (xg_viewLength u) (xg_view u) (xg_group u) (xg_wayNode u) (xg_waySlot u) (xg_wideKey u) (xg_wideItem u) (xg_walkNode u) (xg_walkLevel u) (xg_walkLow u) (xg_walkHigh u)
theorem xe_forgetGone_5 (post : Int32 → SX → Prop) (x1 : Int32) (x2 : Int32) (n : Nat) (x3 : Int32) (x4 : Int32) (u : SX) : xc_forgetGone_5 post x1 x2 (n + 1) x3 x4 u = (vp_in x1 3 ∧ (((((xg_viewLength u) x1.toNatClampNeg) ≤ x4 → (vp_in x1 3 ∧ (∀ x4_4, x4_4 = ((xg_viewLength u) x1.toNatClampNeg) - x3 → (vp_in x1 3 ∧ ∀ a_viewLength_6, a_viewLength_6 = upd (xg_viewLength u) x1.toNatClampNeg x3 → (post x4_4 (xs_viewLength u a_viewLength_6)))))) ∧ (¬ ((xg_viewLength u) x1.toNatClampNeg) ≤ x4 → (vp_in ((16 * x1) + x4) 48 ∧ (∀ x5_8, x5_8 = (xg_view u) ((16 * x1) + x4).toNatClampNeg → (wpX_recordOf (fun r_9 u10 => (((r_9 < 0 → (∀ x4_46, x4_46 = x4 + 1 → (xc_forgetGone_5 post x1 x2 n x3 x4_46 u10))) ∧ (¬ r_9 < 0 → (vp_in ((16 * x1) + x3) 48 ∧ ∀ a_view_48, a_view_48 = upd (xg_view u10) ((16 * x1) + x3).toNatClampNeg x5_8 → (∀ x3_49, x3_49 = x3 + 1 → (∀ x4_50, x4_50 = x4 + 1 → (xc_forgetGone_5 post x1 x2 n x3_49 x4_50 (xs_view u10 a_view_48))))))))) u x2 x5_8))))))) := rfl
end
section
theorem xe_forgetGone (post : Int32 → SX → Prop) (u : SX) (p0 : Int32) (p1 : Int32) : wpX_forgetGone post u p0 p1 = (∃ n5 : Nat, xc_forgetGone_5 post p0 p1 n5 0 0 u) := rfl
theorem xe_select (post : Int32 → SX → Prop) (u : SX) (p0 : Int32) (p1 : Int32) : wpX_select post u p0 p1 = (wpX_isSession (fun r_1 => (((r_1 = 0 → (post (-1) u)) ∧ (¬ r_1 = 0 → (wpX_isBox (fun r_3 => (((r_3 = 0 → (post (-1) u)) ∧ (¬ r_3 = 0 → (wpX_isThere (fun r_5 u6 => (((r_5 = 0 → (post (-2) u6)) ∧ (¬ r_5 = 0 → (vp_in p0 3 ∧ ∀ a_selected_43, a_selected_43 = upd (xg_selected u6) p0.toNatClampNeg (p1 + 1) → (vp_in p0 3 ∧ ∀ a_viewLength_45, a_viewLength_45 = upd (xg_viewLength u6) p0.toNatClampNeg 0 → (wpX_tell (fun r_46 u47 => (post r_46 u47)) (xs_viewLength (xs_selected u6 a_selected_43) a_viewLength_45) p0 p1 0))))))) u p1))))) p1))))) p0) := rfl
theorem xe_idleness (post : Int32 → Prop) (u : SX) (p0 : Int32) : wpX_idleness post u p0 = (wpX_isSession (fun r_1 => (((r_1 = 0 → (post (-1))) ∧ (¬ r_1 = 0 → (vp_in p0 3 ∧ (((((xg_selected u) p0.toNatClampNeg) = 0 → (post (-2))) ∧ (¬ ((xg_selected u) p0.toNatClampNeg) = 0 → (post 0))))))))) p0) := rfl
theorem xe_leave (post : Int32 → SX → Prop) (u : SX) (p0 : Int32) : wpX_leave post u p0 = (wpX_idleness (fun r_1 => (((0 ≤ r_1 → (vp_in p0 3 ∧ (∀ x3_39, x3_39 = ((xg_selected u) p0.toNatClampNeg) - 1 → (vp_in p0 3 ∧ ∀ a_selected_41, a_selected_41 = upd (xg_selected u) p0.toNatClampNeg 0 → (post x3_39 (xs_selected u a_selected_41)))))) ∧ (¬ 0 ≤ r_1 → (post r_1 u))))) u p0) := rfl
theorem xe_length (post : Int32 → Prop) (u : SX) (p0 : Int32) : wpX_length post u p0 = (wpX_idleness (fun r_1 => (((0 ≤ r_1 → (vp_in p0 3 ∧ (post ((xg_viewLength u) p0.toNatClampNeg)))) ∧ (¬ 0 ≤ r_1 → (post r_1))))) u p0) := rfl
theorem xe_told (post : Int32 → Prop) (u : SX) (p0 : Int32) (p1 : Int32) : wpX_told post u p0 p1 = (vp_in p0 3 ∧ (((((xg_selected u) p0.toNatClampNeg) = 0 → (post (-2))) ∧ (¬ ((xg_selected u) p0.toNatClampNeg) = 0 → (((p1 < 1 → (post (-2))) ∧ (¬ p1 < 1 → (vp_in p0 3 ∧ (((p1 ≤ ((xg_viewLength u) p0.toNatClampNeg) → (vp_in (((16 * p0) + p1) - 1) 48 ∧ (post ((xg_view u) (((16 * p0) + p1) - 1).toNatClampNeg)))) ∧ (¬ p1 ≤ ((xg_viewLength u) p0.toNatClampNeg) → (post (-2))))))))))))) := rfl
theorem xe_numberAt (post : Int32 → Prop) (u : SX) (p0 : Int32) (p1 : Int32) : wpX_numberAt post u p0 p1 = (wpX_isSession (fun r_1 => (((r_1 = 0 → (post (-1))) ∧ (¬ r_1 = 0 → (wpX_told (fun r_3 => (post r_3)) u p0 p1))))) p0) := rfl
def xc_placeOf_23 (post : Int32 → Prop) (x1 : Int32) (x2 : Int32) (u : SX) (n : Nat) (x4 : Int32) (x5 : Int32) : Prop := wX_placeOf_23 post x1 x2 (xg_writesLeft u) (xg_half u) (xg_grouped u) (xg_upKey u) (xg_upNode u) (xg_waiting u) (xg_wrong u) (xg_seenNodes u) (xg_seenKeys u) (xg_disk u) (xg_images u) (xg_rows u) (xg_anchors u) (xg_copies u) (xg_loaded u) (xg_changed u) (xg_imageOf u) (xg_rowAt u) (xg_rowsUsed u) (xg_imageAt u) (xg_imagesUsed u) (xg_nextSaving u) (xg_anchorNumber u) (xg_selected u) (xg_viewLength u) (xg_view u) (xg_group u) (xg_wayNode u) (xg_waySlot u) (xg_wideKey u) (xg_wideItem u) (xg_walkNode u) (xg_walkLevel u) (xg_walkLow u) (xg_walkHigh u) n x4 x5
theorem xe_placeOf_23 (post : Int32 → Prop) (x1 : Int32) (x2 : Int32) (u : SX) (n : Nat) (x4 : Int32) (x5 : Int32) : xc_placeOf_23 post x1 x2 u (n + 1) x4 x5 = (((x5 ≤ x4 → (vp_in x1 3 ∧ (((((xg_viewLength u) x1.toNatClampNeg) ≤ x4 → (post (-2))) ∧ (¬ ((xg_viewLength u) x1.toNatClampNeg) ≤ x4 → (vp_in ((16 * x1) + x4) 48 ∧ (((((xg_view u) ((16 * x1) + x4).toNatClampNeg) = x2 → (post (x4 + 1))) ∧ (¬ ((xg_view u) ((16 * x1) + x4).toNatClampNeg) = x2 → (post (-2))))))))))) ∧ (¬ x5 ≤ x4 → (∀ x6_45, x6_45 = (x4 + x5) >>> ((1 : Int32) &&& 31) → (vp_in ((16 * x1) + x6_45) 48 ∧ (((x2 ≤ ((xg_view u) ((16 * x1) + x6_45).toNatClampNeg) → (xc_placeOf_23 post x1 x2 u n x4 x6_45)) ∧ (¬ x2 ≤ ((xg_view u) ((16 * x1) + x6_45).toNatClampNeg) → (∀ x4_48, x4_48 = x6_45 + 1 → (xc_placeOf_23 post x1 x2 u n x4_48 x5)))))))))) := rfl
theorem xe_placeOf (post : Int32 → Prop) (u : SX) (p0 : Int32) (p1 : Int32) : wpX_placeOf post u p0 p1 = (wpX_idleness (fun r_1 => (((0 ≤ r_1 → (vp_in p0 3 ∧ (∀ x5_39, x5_39 = (xg_viewLength u) p0.toNatClampNeg → (∃ n23 : Nat, xc_placeOf_23 post p0 p1 u n23 0 x5_39)))) ∧ (¬ 0 ≤ r_1 → (post r_1))))) u p0) := rfl
theorem xe_recordAt (post : Int32 → SX → Prop) (u : SX) (p0 : Int32) (p1 : Int32) : wpX_recordAt post u p0 p1 = (wpX_told (fun r_1 => (((0 ≤ r_1 → (vp_in p0 3 ∧ (wpX_recordOf (fun r_39 u40 => (((0 ≤ r_39 → (post r_39 u40)) ∧ (¬ 0 ≤ r_39 → (post (-4) u40))))) u (((xg_selected u) p0.toNatClampNeg) - 1) r_1))) ∧ (¬ 0 ≤ r_1 → (post (-2) u))))) u p0 p1) := rfl
def xc_fetch_63 (post : Int32 → SX → Prop) (z0 : Int32) (z1 : Int32) (z2 : Int32) (u : SX) : Prop := wX_fetch_63 post z0 z1 z2 (xg_writesLeft u) (xg_half u) (xg_grouped u) (xg_upKey u) (xg_upNode u) (xg_waiting u) (xg_wrong u) (xg_seenNodes u) (xg_seenKeys u) (xg_disk u) (xg_images u) (xg_rows u) (xg_anchors u) (xg_copies u) (xg_loaded u) (xg_changed u) (xg_imageOf u) (xg_rowAt u) (xg_rowsUsed u) (xg_imageAt u) (xg_imagesUsed u) (xg_nextSaving u) (xg_anchorNumber u) (xg_selected u) (xg_viewLength u) (xg_view u) (xg_group u) (xg_wayNode u) (xg_waySlot u) (xg_wideKey u) (xg_wideItem u) (xg_walkNode u) (xg_walkLevel u) (xg_walkLow u) (xg_walkHigh u)
theorem xe_fetch_63 (post : Int32 → SX → Prop) (z0 : Int32) (z1 : Int32) (z2 : Int32) (u : SX) : xc_fetch_63 post z0 z1 z2 u = (wpX_entry (fun r_45 u46 => (post r_45 u46)) u z2 z1 z0) := rfl
theorem xe_fetch (post : Int32 → SX → Prop) (u : SX) (p0 : Int32) (p1 : Int32) (p2 : Int32) : wpX_fetch post u p0 p1 p2 = (wpX_isSession (fun r_1 => (((r_1 = 0 → (post (-1) u)) ∧ (¬ r_1 = 0 → (((p2 < 0 → (post (-1) u)) ∧ (¬ p2 < 0 → (((p2 ≤ 2 → (wpX_recordAt (fun r_5 u6 => (((0 ≤ r_5 → (vp_in p0 3 ∧ (((p2 = 0 → (xc_fetch_63 post 2 r_5 (((xg_selected u6) p0.toNatClampNeg) - 1) u6)) ∧ (¬ p2 = 0 → (((p2 = 1 → (xc_fetch_63 post 1 r_5 (((xg_selected u6) p0.toNatClampNeg) - 1) u6)) ∧ (¬ p2 = 1 → (xc_fetch_63 post 3 r_5 (((xg_selected u6) p0.toNatClampNeg) - 1) u6))))))))) ∧ (¬ 0 ≤ r_5 → (post r_5 u6))))) u p0 p1)) ∧ (¬ p2 ≤ 2 → (post (-1) u))))))))))) p0) := rfl
def xc_store_98 (post : Int32 → SX → Prop) (x4 : Int32) (x5 : Int32) (x6 : Int32) (z0 : Int32) (u : SX) : Prop := wX_store_98 post x4 x5 x6 z0 (xg_writesLeft u) (xg_half u) (xg_grouped u) (xg_upKey u) (xg_upNode u) (xg_waiting u) (xg_wrong u) (xg_seenNodes u) (xg_seenKeys u) (xg_disk u) (xg_images u) (xg_rows u) (xg_anchors u) (xg_copies u) (xg_loaded u) (xg_changed u) (xg_imageOf u) (xg_rowAt u) (xg_rowsUsed u) (xg_imageAt u) (xg_imagesUsed u) (xg_nextSaving u) (xg_anchorNumber u) (xg_selected u) (xg_viewLength u) (xg_view u) (xg_group u) (xg_wayNode u) (xg_waySlot u) (xg_wideKey u) (xg_wideItem u) (xg_walkNode u) (xg_walkLevel u) (xg_walkLow u) (xg_walkHigh u)
theorem xe_store_98 (post : Int32 → SX → Prop) (x4 : Int32) (x5 : Int32) (x6 : Int32) (z0 : Int32) (u : SX) : xc_store_98 post x4 x5 x6 z0 u = (((z0 = x6 → (post z0 u)) ∧ (¬ z0 = x6 → (wpX_changeFlags (fun u85 => (wpX_save (fun u121 => (post z0 u121)) u85 x5)) u x5 x4 z0)))) := rfl
theorem xe_store (post : Int32 → SX → Prop) (u : SX) (p0 : Int32) (p1 : Int32) (p2 : Int32) : wpX_store post u p0 p1 p2 = (wpX_isSession (fun r_1 => (((r_1 = 0 → (post (-1) u)) ∧ (¬ r_1 = 0 → (((p2 < 0 → (post (-1) u)) ∧ (¬ p2 < 0 → (((p2 ≤ 95 → (wpX_recordAt (fun r_5 u6 => (((0 ≤ r_5 → (vp_in p0 3 ∧ (∀ x5_43, x5_43 = ((xg_selected u6) p0.toNatClampNeg) - 1 → (wpX_entry (fun r_44 u45 => (∀ x7_80, x7_80 = p2 >>> ((5 : Int32) &&& 31) → (((x7_80 = 0 → (xc_store_98 post r_5 x5_43 r_44 (p2 &&& 31) u45)) ∧ (¬ x7_80 = 0 → (((x7_80 = 1 → (xc_store_98 post r_5 x5_43 r_44 (r_44 ||| (p2 &&& 31)) u45)) ∧ (¬ x7_80 = 1 → (xc_store_98 post r_5 x5_43 r_44 (r_44 &&& ((p2 &&& 31) ^^^ (-1))) u45))))))))) u6 x5_43 r_5 2)))) ∧ (¬ 0 ≤ r_5 → (post r_5 u6))))) u p0 p1)) ∧ (¬ p2 ≤ 95 → (post (-1) u))))))))))) p0) := rfl
def xc_expunge_97 (post : Int32 → SX → Prop) (x1 : Int32) (x3 : Int32) (x4 : Int32) (u : SX) : Prop := wX_expunge_97 post x1 x3 x4 (xg_writesLeft u) (xg_half u) (xg_grouped u) (xg_upKey u) (xg_upNode u) (xg_waiting u) (xg_wrong u) (xg_seenNodes u) (xg_seenKeys u) (xg_disk u) (xg_images u) (xg_rows u) (xg_anchors u) (xg_copies u) (xg_loaded u) (xg_changed u) (xg_imageOf u) (xg_rowAt u) (xg_rowsUsed u) (xg_imageAt u) (xg_imagesUsed u) (xg_nextSaving u) (xg_anchorNumber u) (xg_selected u) (xg_viewLength u) (xg_view u) (xg_group u) (xg_wayNode u) (xg_waySlot u) (xg_wideKey u) (xg_wideItem u) (xg_walkNode u) (xg_walkLevel u) (xg_walkLow u) (xg_walkHigh u)
theorem xe_expunge_97 (post : Int32 → SX → Prop) (x1 : Int32) (x3 : Int32) (x4 : Int32) (u : SX) : xc_expunge_97 post x1 x3 x4 u = (wpX_save (fun u78 => (wpX_forgetGone (fun r_113 u114 => (post x4 u114)) u78 x1 x3)) u x3) := rfl
def xc_expunge_81 (post : Int32 → SX → Prop) (J36 : Int32 → Int32 → Int32 → SX → Prop) (x1 : Int32) (x3 : Int32) (x4 : Int32) (x5 : Int32) (x6 : Int32) (u : SX) : Prop := wX_expunge_81 post (fun j0 j1 j2 c0 c1 c2 c3 c4 c5 c6 c7 c8 c9 c10 c11 c12 c13 c14 c15 c16 c17 c18 c19 c20 c21 c22 c23 c24 c25 c26 c27 c28 c29 c30 c31 c32 c33 c34 => J36 j0 j1 j2 (c0, c1, c2, c3, c4, c5, c6, c7, c8, c9, c10, c11, c12, c13, c14, c15, c16, c17, c18, c19, c20, c21, c22, c23, c24, c25, c26, c27, c28, c29, c30, c31, c32, c33, c34)) x1 x3 x4 x5 x6 (xg_writesLeft u) (xg_half u) (xg_grouped u) (xg_upKey u) (xg_upNode u) (xg_waiting u) (xg_wrong u) (xg_seenNodes u) (xg_seenKeys u) (xg_disk u) (xg_images u) (xg_rows u) (xg_anchors u) (xg_copies u) (xg_loaded u) (xg_changed u) (xg_imageOf u) (xg_rowAt u) (xg_rowsUsed u) (xg_imageAt u) (xg_imagesUsed u) (xg_nextSaving u) (xg_anchorNumber u) (xg_selected u) (xg_viewLength u) (xg_view u) (xg_group u) (xg_wayNode u) (xg_waySlot u) (xg_wideKey u) (xg_wideItem u) (xg_walkNode u) (xg_walkLevel u) (xg_walkLow u) (xg_walkHigh u)
theorem xe_expunge_81 (post : Int32 → SX → Prop) (J36 : Int32 → Int32 → Int32 → SX → Prop) (x1 : Int32) (x3 : Int32) (x4 : Int32) (x5 : Int32) (x6 : Int32) (u : SX) : xc_expunge_81 post J36 x1 x3 x4 x5 x6 u = (wpX_keyAfter (fun r_223 u224 => (∀ x6_259, x6_259 = x6 + 1 → (J36 x4 r_223 x6_259 u224))) u x3 0 x5) := rfl
def xc_expunge_36 (post : Int32 → SX → Prop) (x1 : Int32) (x3 : Int32) (n : Nat) (x4 : Int32) (x5 : Int32) (x6 : Int32) (u : SX) : Prop := wX_expunge_36 post x1 x3 n x4 x5 x6 (xg_writesLeft u) (xg_half u) (xg_grouped u) (xg_upKey u) (xg_upNode u) (xg_waiting u) (xg_wrong u) (xg_seenNodes u) (xg_seenKeys u) (xg_disk u) (xg_images u) (xg_rows u) (xg_anchors u) (xg_copies u) (xg_loaded u) (xg_changed u) (xg_imageOf u) (xg_rowAt u) (xg_rowsUsed u) (xg_imageAt u) (xg_imagesUsed u) (xg_nextSaving u) (xg_anchorNumber u) (xg_selected u) (xg_viewLength u) (xg_view u) (xg_group u) (xg_wayNode u) (xg_waySlot u) (xg_wideKey u) (xg_wideItem u) (xg_walkNode u) (xg_walkLevel u) (xg_walkLow u) (xg_walkHigh u)
theorem xe_expunge_36 (post : Int32 → SX → Prop) (x1 : Int32) (x3 : Int32) (n : Nat) (x4 : Int32) (x5 : Int32) (x6 : Int32) (u : SX) : xc_expunge_36 post x1 x3 (n + 1) x4 x5 x6 u = (((14 ≤ x6 → (xc_expunge_97 post x1 x3 x4 u)) ∧ (¬ 14 ≤ x6 → (((x5 ≤ 0 → (xc_expunge_97 post x1 x3 x4 u)) ∧ (¬ x5 ≤ 0 → (wpX_recordOf (fun r_150 u151 => (wpX_entry (fun r_186 u187 => ((((r_186 &&& 1) = 1 → (wpX_takeOut (fun u261 => (∀ x4_296, x4_296 = x4 + 1 → (xc_expunge_81 post (xc_expunge_36 post x1 x3 n) x1 x3 x4_296 x5 x6 u261))) u187 x3 x5)) ∧ (¬ (r_186 &&& 1) = 1 → (xc_expunge_81 post (xc_expunge_36 post x1 x3 n) x1 x3 x4 x5 x6 u187))))) u151 x3 r_150 2)) u x3 x5))))))) := rfl
theorem xe_expunge (post : Int32 → SX → Prop) (u : SX) (p0 : Int32) : wpX_expunge post u p0 = (wpX_idleness (fun r_1 => (((0 ≤ r_1 → (vp_in p0 3 ∧ (∀ x3_39, x3_39 = ((xg_selected u) p0.toNatClampNeg) - 1 → (wpX_keyAfter (fun r_40 u41 => (∃ n36 : Nat, xc_expunge_36 post p0 x3_39 n36 0 r_40 0 u41)) u x3_39 0 0)))) ∧ (¬ 0 ≤ r_1 → (post r_1 u))))) u p0) := rfl
def xc_poll_52 (post : Int32 → SX → Prop) (x1 : Int32) (x3 : Int32) (z0 : Int32) (u : SX) : Prop := wX_poll_52 post x1 x3 z0 (xg_writesLeft u) (xg_half u) (xg_grouped u) (xg_upKey u) (xg_upNode u) (xg_waiting u) (xg_wrong u) (xg_seenNodes u) (xg_seenKeys u) (xg_disk u) (xg_images u) (xg_rows u) (xg_anchors u) (xg_copies u) (xg_loaded u) (xg_changed u) (xg_imageOf u) (xg_rowAt u) (xg_rowsUsed u) (xg_imageAt u) (xg_imagesUsed u) (xg_nextSaving u) (xg_anchorNumber u) (xg_selected u) (xg_viewLength u) (xg_view u) (xg_group u) (xg_wayNode u) (xg_waySlot u) (xg_wideKey u) (xg_wideItem u) (xg_walkNode u) (xg_walkLevel u) (xg_walkLow u) (xg_walkHigh u)
theorem xe_poll_52 (post : Int32 → SX → Prop) (x1 : Int32) (x3 : Int32) (z0 : Int32) (u : SX) : xc_poll_52 post x1 x3 z0 u = (wpX_forgetGone (fun r_44 u45 => (wpX_tell (fun r_80 u81 => (post (r_44 + r_80) u81)) u45 x1 x3 z0)) u x1 x3) := rfl
theorem xe_poll (post : Int32 → SX → Prop) (u : SX) (p0 : Int32) : wpX_poll post u p0 = (wpX_idleness (fun r_1 => (((0 ≤ r_1 → (vp_in p0 3 ∧ (∀ x3_39, x3_39 = ((xg_selected u) p0.toNatClampNeg) - 1 → (vp_in p0 3 ∧ (((((xg_viewLength u) p0.toNatClampNeg) = 0 → (xc_poll_52 post p0 x3_39 0 u)) ∧ (¬ ((xg_viewLength u) p0.toNatClampNeg) = 0 → (vp_in p0 3 ∧ (vp_in (((16 * p0) + ((xg_viewLength u) p0.toNatClampNeg)) - 1) 48 ∧ (xc_poll_52 post p0 x3_39 ((xg_view u) (((16 * p0) + ((xg_viewLength u) p0.toNatClampNeg)) - 1).toNatClampNeg) u)))))))))) ∧ (¬ 0 ≤ r_1 → (post r_1 u))))) u p0) := rfl
theorem xe_copy (post : Int32 → SX → Prop) (u : SX) (p0 : Int32) (p1 : Int32) (p2 : Int32) : wpX_copy post u p0 p1 p2 = (wpX_isSession (fun r_1 => (((r_1 = 0 → (post (-1) u)) ∧ (¬ r_1 = 0 → (wpX_isBox (fun r_3 => (((r_3 = 0 → (post (-1) u)) ∧ (¬ r_3 = 0 → (wpX_recordAt (fun r_5 u6 => (((0 ≤ r_5 → (wpX_isThere (fun r_42 u43 => (((r_42 = 0 → (post (-2) u43)) ∧ (¬ r_42 = 0 → (wpX_messages (fun r_79 u80 => (((r_79 < 14 → (vp_in p0 3 ∧ (wpX_entry (fun r_117 u118 => (vp_in p0 3 ∧ (wpX_entry (fun r_154 u155 => (wpX_putMessage (fun r_190 u191 => (wpX_save (fun u227 => (post r_190 u227)) u191 p2)) u155 p2 r_117 r_154)) u118 (((xg_selected u118) p0.toNatClampNeg) - 1) r_5 2))) u80 (((xg_selected u80) p0.toNatClampNeg) - 1) r_5 1))) ∧ (¬ r_79 < 14 → (post (-3) u80))))) u43 p2))))) u6 p2)) ∧ (¬ 0 ≤ r_5 → (post r_5 u6))))) u p0 p1))))) p2))))) p0) := rfl
def xc_search_69 (post : Int32 → SX → Prop) (x1 : Int32) (x2 : Int32) (x3 : Int32) (x5 : Int32) (n : Nat) (x7 : Int32) (u : SX) : Prop := wX_search_69 post x1 x2 x3 x5 n x7 (xg_writesLeft u) (xg_half u) (xg_grouped u) (xg_upKey u) (xg_upNode u) (xg_waiting u) (xg_wrong u) (xg_seenNodes u) (xg_seenKeys u) (xg_disk u) (xg_images u) (xg_rows u) (xg_anchors u) (xg_copies u) (xg_loaded u) (xg_changed u) (xg_imageOf u) (xg_rowAt u) (xg_rowsUsed u) (xg_imageAt u) (xg_imagesUsed u) (xg_nextSaving u) (xg_anchorNumber u) (xg_selected u) (xg_viewLength u) (xg_view u) (xg_group u) (xg_wayNode u) (xg_waySlot u) (xg_wideKey u) (xg_wideItem u) (xg_walkNode u) (xg_walkLevel u) (xg_walkLow u) (xg_walkHigh u)
theorem xe_search_69 (post : Int32 → SX → Prop) (x1 : Int32) (x2 : Int32) (x3 : Int32) (x5 : Int32) (n : Nat) (x7 : Int32) (u : SX) : xc_search_69 post x1 x2 x3 x5 (n + 1) x7 u = (vp_in x1 3 ∧ (((((xg_viewLength u) x1.toNatClampNeg) < x7 → (post (-2) u)) ∧ (¬ ((xg_viewLength u) x1.toNatClampNeg) < x7 → (wpX_recordAt (fun r_14 u15 => (((r_14 < 0 → (∀ x7_51, x7_51 = x7 + 1 → (xc_search_69 post x1 x2 x3 x5 n x7_51 u15))) ∧ (¬ r_14 < 0 → (wpX_entry (fun r_52 u53 => (((r_52 < x3 → (∀ x7_89, x7_89 = x7 + 1 → (xc_search_69 post x1 x2 x3 x5 n x7_89 u53))) ∧ (¬ r_52 < x3 → (wpX_entry (fun r_90 u91 => (wpX_fits (fun r_126 => (((r_126 = 0 → (∀ x7_128, x7_128 = x7 + 1 → (xc_search_69 post x1 x2 x3 x5 n x7_128 u91))) ∧ (¬ r_126 = 0 → (post x7 u91))))) r_90 x2)) u53 x5 r_14 2))))) u15 x5 r_14 1))))) u x1 x7))))) := rfl
theorem xe_search (post : Int32 → SX → Prop) (u : SX) (p0 : Int32) (p1 : Int32) (p2 : Int32) (p3 : Int32) : wpX_search post u p0 p1 p2 p3 = (wpX_isSession (fun r_1 => (((r_1 = 0 → (post (-1) u)) ∧ (¬ r_1 = 0 → (wpX_isCode (fun r_3 => (((r_3 = 0 → (post (-1) u)) ∧ (¬ r_3 = 0 → (vp_in p0 3 ∧ (((((xg_selected u) p0.toNatClampNeg) = 0 → (post (-2) u)) ∧ (¬ ((xg_selected u) p0.toNatClampNeg) = 0 → (vp_in p0 3 ∧ (∀ x5_8, x5_8 = ((xg_selected u) p0.toNatClampNeg) - 1 → (((0 ≤ p3 → (((p3 < 16 → (∀ x6_11, x6_11 = p3 + 1 → (∃ n69 : Nat, xc_search_69 post p0 p1 p2 x5_8 n69 x6_11 u))) ∧ (¬ p3 < 16 → (∃ n69 : Nat, xc_search_69 post p0 p1 p2 x5_8 n69 16 u))))) ∧ (¬ 0 ≤ p3 → (∃ n69 : Nat, xc_search_69 post p0 p1 p2 x5_8 n69 1 u)))))))))))))) p1))))) p0) := rfl
def xc_crash_41 (post : Int32 → SX → Prop) (x1 : Int32) (n : Nat) (x2 : Int32) (u : SX) : Prop := wX_crash_41 post x1 n x2 (xg_writesLeft u) (xg_half u) (xg_grouped u) (xg_upKey u) (xg_upNode u) (xg_waiting u) (xg_wrong u) (xg_seenNodes u) (xg_seenKeys u) (xg_disk u) (xg_images u) (xg_rows u) (xg_anchors u) (xg_copies u) (xg_loaded u) (xg_changed u) (xg_imageOf u) (xg_rowAt u) (xg_rowsUsed u) (xg_imageAt u) (xg_imagesUsed u) (xg_nextSaving u) (xg_anchorNumber u) (xg_selected u) (xg_viewLength u) (xg_view u) (xg_group u) (xg_wayNode u) (xg_waySlot u) (xg_wideKey u) (xg_wideItem u) (xg_walkNode u) (xg_walkLevel u) (xg_walkLow u) (xg_walkHigh u)
theorem xe_crash_41 (post : Int32 → SX → Prop) (x1 : Int32) (n : Nat) (x2 : Int32) (u : SX) : xc_crash_41 post x1 (n + 1) x2 u = (((4 ≤ x2 → (post x1 u)) ∧ (¬ 4 ≤ x2 → (wpX_forget (fun u4 => (wpX_comeUp (fun u40 => (∀ x2_75, x2_75 = x2 + 1 → (xc_crash_41 post x1 n x2_75 u40))) u4 x2)) u x2)))) := rfl
def xc_crash_24 (post : Int32 → SX → Prop) (J4 : Int32 → Int32 → SX → Prop) (x2 : Int32) (z0 : Int32) (z1 : Int32) (u : SX) : Prop := wX_crash_24 post (fun j0 j1 c0 c1 c2 c3 c4 c5 c6 c7 c8 c9 c10 c11 c12 c13 c14 c15 c16 c17 c18 c19 c20 c21 c22 c23 c24 c25 => J4 j0 j1 (xg_writesLeft u, xg_half u, xg_grouped u, xg_upKey u, xg_upNode u, xg_waiting u, xg_wrong u, xg_seenNodes u, xg_seenKeys u, c0, c1, c2, c3, c4, c5, c6, c7, c8, c9, c10, c11, c12, c13, c14, c15, c16, c17, c18, c19, c20, c21, c22, c23, c24, c25)) x2 z0 z1 (xg_writesLeft u) (xg_half u) (xg_grouped u) (xg_upKey u) (xg_upNode u) (xg_waiting u) (xg_wrong u) (xg_seenNodes u) (xg_seenKeys u) (xg_disk u) (xg_images u) (xg_rows u) (xg_anchors u) (xg_copies u) (xg_loaded u) (xg_changed u) (xg_imageOf u) (xg_rowAt u) (xg_rowsUsed u) (xg_imageAt u) (xg_imagesUsed u) (xg_nextSaving u) (xg_anchorNumber u) (xg_selected u) (xg_viewLength u) (xg_view u) (xg_group u) (xg_wayNode u) (xg_waySlot u) (xg_wideKey u) (xg_wideItem u) (xg_walkNode u) (xg_walkLevel u) (xg_walkLow u) (xg_walkHigh u)
theorem xe_crash_24 (post : Int32 → SX → Prop) (J4 : Int32 → Int32 → SX → Prop) (x2 : Int32) (z0 : Int32) (z1 : Int32) (u : SX) : xc_crash_24 post J4 x2 z0 z1 u = (∀ x1_78, x1_78 = z1 + z0 → (vp_in x2 3 ∧ ∀ a_selected_80, a_selected_80 = upd (xg_selected u) x2.toNatClampNeg 0 → (∀ x2_81, x2_81 = x2 + 1 → (J4 x1_78 x2_81 (xs_selected u a_selected_80))))) := rfl
def xc_crash_4 (post : Int32 → SX → Prop) (n : Nat) (x1 : Int32) (x2 : Int32) (u : SX) : Prop := wX_crash_4 post (xg_writesLeft u) (xg_half u) (xg_grouped u) (xg_upKey u) (xg_upNode u) (xg_waiting u) (xg_wrong u) (xg_seenNodes u) (xg_seenKeys u) n x1 x2 (xg_disk u) (xg_images u) (xg_rows u) (xg_anchors u) (xg_copies u) (xg_loaded u) (xg_changed u) (xg_imageOf u) (xg_rowAt u) (xg_rowsUsed u) (xg_imageAt u) (xg_imagesUsed u) (xg_nextSaving u) (xg_anchorNumber u) (xg_selected u) (xg_viewLength u) (xg_view u) (xg_group u) (xg_wayNode u) (xg_waySlot u) (xg_wideKey u) (xg_wideItem u) (xg_walkNode u) (xg_walkLevel u) (xg_walkLow u) (xg_walkHigh u)
theorem xe_crash_4 (post : Int32 → SX → Prop) (n : Nat) (x1 : Int32) (x2 : Int32) (u : SX) : xc_crash_4 post (n + 1) x1 x2 u = (((3 ≤ x2 → (∃ n41 : Nat, xc_crash_41 post x1 n41 0 u)) ∧ (¬ 3 ≤ x2 → (vp_in x2 3 ∧ (((((xg_selected u) x2.toNatClampNeg) ≤ 0 → (xc_crash_24 post (xc_crash_4 post n) x2 0 x1 u)) ∧ (¬ ((xg_selected u) x2.toNatClampNeg) ≤ 0 → (xc_crash_24 post (xc_crash_4 post n) x2 1 x1 u)))))))) := rfl
theorem xe_crash (post : Int32 → SX → Prop) (u : SX) : wpX_crash post u = (∃ n4 : Nat, xc_crash_4 post n4 0 0 u) := rfl
theorem xe_appendAndCrash (post : Int32 → SX → Prop) (u : SX) (p0 : Int32) (p1 : Int32) (p2 : Int32) : wpX_appendAndCrash post u p0 p1 p2 = (wpX_isBox (fun r_1 => (((r_1 = 0 → (post (-1) u)) ∧ (¬ r_1 = 0 → (((p1 < 0 → (post (-1) u)) ∧ (¬ p1 < 0 → (wpX_isMessage (fun r_4 => (((r_4 = 0 → (post (-1) u)) ∧ (¬ r_4 = 0 → (wpX_isThere (fun r_6 u7 => (((r_6 = 0 → (post (-2) u7)) ∧ (¬ r_6 = 0 → (wpX_messages (fun r_43 u44 => (((r_43 < 14 → (wpX_putMessage (fun r_80 u81 => (wpX_saveSome (fun u117 => (wpX_crash (fun r_152 u153 => (post 0 u153)) u117)) u81 p0 p2)) u44 p0 (p1 >>> ((5 : Int32) &&& 31)) (p1 &&& 31))) ∧ (¬ r_43 < 14 → (post (-3) u44))))) u7 p0))))) u p0))))) (p1 >>> ((5 : Int32) &&& 31)) (p1 &&& 31))))))))) p0) := rfl
def xc_idle_49 (post : SX → Prop) (x1 : Int32) (n : Nat) (x3 : Int32) (u : SX) : Prop := wX_idle_49 post x1 (xg_writesLeft u) (xg_half u) (xg_grouped u) (xg_upKey u) (xg_upNode u) (xg_waiting u) (xg_wrong u) (xg_seenNodes u) (xg_seenKeys u) n x3 (xg_disk u) (xg_images u) (xg_rows u) (xg_anchors u) (xg_copies u) (xg_loaded u) (xg_changed u) (xg_imageOf u) (xg_rowAt u) (xg_rowsUsed u) (xg_imageAt u) (xg_imagesUsed u) (xg_nextSaving u) (xg_anchorNumber u) (xg_selected u) (xg_viewLength u) (xg_view u) (xg_group u) (xg_wayNode u) (xg_waySlot u) (xg_wideKey u) (xg_wideItem u) (xg_walkNode u) (xg_walkLevel u) (xg_walkLow u) (xg_walkHigh u)
theorem xe_idle_49 (post : SX → Prop) (x1 : Int32) (n : Nat) (x3 : Int32) (u : SX) : xc_idle_49 post x1 (n + 1) x3 u = (((((41 * x1) + 41) ≤ x3 → (post u)) ∧ (¬ ((41 * x1) + 41) ≤ x3 → (vp_in x3 164 ∧ (((((xg_loaded u) x3.toNatClampNeg) = 0 → (vp_in x3 164 ∧ ∀ a_loaded_46, a_loaded_46 = upd (xg_loaded u) x3.toNatClampNeg (vp_nar .boolean 0) → (∀ x3_47, x3_47 = x3 + 1 → (xc_idle_49 post x1 n x3_47 (xs_loaded u a_loaded_46))))) ∧ (¬ ((xg_loaded u) x3.toNatClampNeg) = 0 → (vp_in x3 164 ∧ (((((xg_changed u) x3.toNatClampNeg) = 0 → (vp_in x3 164 ∧ ∀ a_loaded_51, a_loaded_51 = upd (xg_loaded u) x3.toNatClampNeg (vp_nar .boolean 0) → (∀ x3_52, x3_52 = x3 + 1 → (xc_idle_49 post x1 n x3_52 (xs_loaded u a_loaded_51))))) ∧ (¬ ((xg_changed u) x3.toNatClampNeg) = 0 → (vp_in x3 164 ∧ ∀ a_loaded_54, a_loaded_54 = upd (xg_loaded u) x3.toNatClampNeg (vp_nar .boolean 1) → (∀ x3_55, x3_55 = x3 + 1 → (xc_idle_49 post x1 n x3_55 (xs_loaded u a_loaded_54))))))))))))))) := rfl
def xc_idle_31 (post : SX → Prop) (x1 : Int32) (z0 : Int32) (u : SX) : Prop := wX_idle_31 post x1 z0 (xg_writesLeft u) (xg_half u) (xg_grouped u) (xg_upKey u) (xg_upNode u) (xg_waiting u) (xg_wrong u) (xg_seenNodes u) (xg_seenKeys u) (xg_disk u) (xg_images u) (xg_rows u) (xg_anchors u) (xg_copies u) (xg_loaded u) (xg_changed u) (xg_imageOf u) (xg_rowAt u) (xg_rowsUsed u) (xg_imageAt u) (xg_imagesUsed u) (xg_nextSaving u) (xg_anchorNumber u) (xg_selected u) (xg_viewLength u) (xg_view u) (xg_group u) (xg_wayNode u) (xg_waySlot u) (xg_wideKey u) (xg_wideItem u) (xg_walkNode u) (xg_walkLevel u) (xg_walkLow u) (xg_walkHigh u)
theorem xe_idle_31 (post : SX → Prop) (x1 : Int32) (z0 : Int32) (u : SX) : xc_idle_31 post x1 z0 u = (wpX_writeHomes (fun u6 => (∀ x3_41, x3_41 = 41 * x1 → (∃ n49 : Nat, xc_idle_49 post x1 n49 x3_41 u6))) (xs_half (xs_writesLeft u z0) 0) x1) := rfl
theorem xe_idle (post : SX → Prop) (u : SX) (p0 : Int32) (p1 : Int32) : wpX_idle post u p0 p1 = (wpX_isBox (fun r_1 => (((r_1 = 0 → (post u)) ∧ (¬ r_1 = 0 → (((0 ≤ p1 → (((p1 ≤ 1000 → (xc_idle_31 post p0 p1 u)) ∧ (¬ p1 ≤ 1000 → (xc_idle_31 post p0 1000 u))))) ∧ (¬ 0 ≤ p1 → (xc_idle_31 post p0 0 u)))))))) p0) := rfl
theorem xe_expect (post : SX → Prop) (u : SX) (p0 : Int32) : wpX_expect post u p0 = (((p0 = 0 → (∀ f_wrong_2, f_wrong_2 = (xg_wrong u) + 1 → (post (xs_wrong u f_wrong_2)))) ∧ (¬ p0 = 0 → (∀ f_wrong_3, f_wrong_3 = (xg_wrong u) + 0 → (post (xs_wrong u f_wrong_3)))))) := rfl
theorem xe_push (post : SX → Prop) (u : SX) (p0 : Int32) (p1 : Int32) (p2 : Int32) (p3 : Int32) : wpX_push post u p0 p1 p2 p3 = (((40 ≤ (xg_waiting u) → (post u)) ∧ (¬ 40 ≤ (xg_waiting u) → (vp_in (xg_waiting u) 40 ∧ ∀ a_walkNode_3, a_walkNode_3 = upd (xg_walkNode u) (xg_waiting u).toNatClampNeg p0 → (vp_in (xg_waiting u) 40 ∧ ∀ a_walkLevel_5, a_walkLevel_5 = upd (xg_walkLevel u) (xg_waiting u).toNatClampNeg p1 → (vp_in (xg_waiting u) 40 ∧ ∀ a_walkLow_7, a_walkLow_7 = upd (xg_walkLow u) (xg_waiting u).toNatClampNeg p2 → (vp_in (xg_waiting u) 40 ∧ ∀ a_walkHigh_9, a_walkHigh_9 = upd (xg_walkHigh u) (xg_waiting u).toNatClampNeg p3 → (∀ f_waiting_10, f_waiting_10 = (xg_waiting u) + 1 → (post (xg_writesLeft u, xg_half u, xg_grouped u, xg_upKey u, xg_upNode u, f_waiting_10, xg_wrong u, xg_seenNodes u, xg_seenKeys u, xg_disk u, xg_images u, xg_rows u, xg_anchors u, xg_copies u, xg_loaded u, xg_changed u, xg_imageOf u, xg_rowAt u, xg_rowsUsed u, xg_imageAt u, xg_imagesUsed u, xg_nextSaving u, xg_anchorNumber u, xg_selected u, xg_viewLength u, xg_view u, xg_group u, xg_wayNode u, xg_waySlot u, xg_wideKey u, xg_wideItem u, a_walkNode_3, a_walkLevel_5, a_walkLow_7, a_walkHigh_9)))))))))) := rfl
def xc_checkLeaf_73 (post : SX → Prop) (J9 : Int32 → Int32 → SX → Prop) (x1 : Int32) (x2 : Int32) (x3 : Int32) (x5 : Int32) (x7 : Int32) (x8 : Int32) (z0 : Int32) (u : SX) : Prop := wX_checkLeaf_73 post (fun j0 j1 c0 c1 c2 c3 c4 c5 c6 c7 c8 c9 c10 c11 c12 c13 c14 c15 c16 c17 c18 c19 c20 c21 c22 c23 c24 c25 c26 c27 c28 c29 c30 c31 c32 c33 c34 => J9 j0 j1 (c0, c1, c2, c3, c4, c5, c6, c7, c8, c9, c10, c11, c12, c13, c14, c15, c16, c17, c18, c19, c20, c21, c22, c23, c24, c25, c26, c27, c28, c29, c30, c31, c32, c33, c34)) x1 x2 x3 x5 x7 x8 z0 (xg_writesLeft u) (xg_half u) (xg_grouped u) (xg_upKey u) (xg_upNode u) (xg_waiting u) (xg_wrong u) (xg_seenNodes u) (xg_seenKeys u) (xg_disk u) (xg_images u) (xg_rows u) (xg_anchors u) (xg_copies u) (xg_loaded u) (xg_changed u) (xg_imageOf u) (xg_rowAt u) (xg_rowsUsed u) (xg_imageAt u) (xg_imagesUsed u) (xg_nextSaving u) (xg_anchorNumber u) (xg_selected u) (xg_viewLength u) (xg_view u) (xg_group u) (xg_wayNode u) (xg_waySlot u) (xg_wideKey u) (xg_wideItem u) (xg_walkNode u) (xg_walkLevel u) (xg_walkLow u) (xg_walkHigh u)
theorem xe_checkLeaf_73 (post : SX → Prop) (J9 : Int32 → Int32 → SX → Prop) (x1 : Int32) (x2 : Int32) (x3 : Int32) (x5 : Int32) (x7 : Int32) (x8 : Int32) (z0 : Int32) (u : SX) : xc_checkLeaf_73 post J9 x1 x2 x3 x5 x7 x8 z0 u = (wpX_expect (fun u78 => (∀ f_seenKeys_113, f_seenKeys_113 = (xg_seenKeys u78) + 1 → (∀ x7_114, x7_114 = x7 + 1 → (J9 x8 x7_114 (xs_seenKeys u78 f_seenKeys_113))))) u z0) := rfl
def xc_checkLeaf_72 (post : SX → Prop) (J9 : Int32 → Int32 → SX → Prop) (x1 : Int32) (x2 : Int32) (x3 : Int32) (x5 : Int32) (x7 : Int32) (x8 : Int32) (u : SX) : Prop := wX_checkLeaf_72 post (fun j0 j1 c0 c1 c2 c3 c4 c5 c6 c7 c8 c9 c10 c11 c12 c13 c14 c15 c16 c17 c18 c19 c20 c21 c22 c23 c24 c25 c26 c27 c28 c29 c30 c31 c32 c33 c34 => J9 j0 j1 (c0, c1, c2, c3, c4, c5, c6, c7, c8, c9, c10, c11, c12, c13, c14, c15, c16, c17, c18, c19, c20, c21, c22, c23, c24, c25, c26, c27, c28, c29, c30, c31, c32, c33, c34)) x1 x2 x3 x5 x7 x8 (xg_writesLeft u) (xg_half u) (xg_grouped u) (xg_upKey u) (xg_upNode u) (xg_waiting u) (xg_wrong u) (xg_seenNodes u) (xg_seenKeys u) (xg_disk u) (xg_images u) (xg_rows u) (xg_anchors u) (xg_copies u) (xg_loaded u) (xg_changed u) (xg_imageOf u) (xg_rowAt u) (xg_rowsUsed u) (xg_imageAt u) (xg_imagesUsed u) (xg_nextSaving u) (xg_anchorNumber u) (xg_selected u) (xg_viewLength u) (xg_view u) (xg_group u) (xg_wayNode u) (xg_waySlot u) (xg_wideKey u) (xg_wideItem u) (xg_walkNode u) (xg_walkLevel u) (xg_walkLow u) (xg_walkHigh u)
theorem xe_checkLeaf_72 (post : SX → Prop) (J9 : Int32 → Int32 → SX → Prop) (x1 : Int32) (x2 : Int32) (x3 : Int32) (x5 : Int32) (x7 : Int32) (x8 : Int32) (u : SX) : xc_checkLeaf_72 post J9 x1 x2 x3 x5 x7 x8 u = (xc_checkLeaf_73 post J9 x1 x2 x3 x5 x7 x8 0 u) := rfl
def xc_checkLeaf_9 (post : SX → Prop) (x1 : Int32) (x2 : Int32) (x3 : Int32) (x5 : Int32) (n : Nat) (x6 : Int32) (x7 : Int32) (u : SX) : Prop := wX_checkLeaf_9 post x1 x2 x3 x5 n x6 x7 (xg_writesLeft u) (xg_half u) (xg_grouped u) (xg_upKey u) (xg_upNode u) (xg_waiting u) (xg_wrong u) (xg_seenNodes u) (xg_seenKeys u) (xg_disk u) (xg_images u) (xg_rows u) (xg_anchors u) (xg_copies u) (xg_loaded u) (xg_changed u) (xg_imageOf u) (xg_rowAt u) (xg_rowsUsed u) (xg_imageAt u) (xg_imagesUsed u) (xg_nextSaving u) (xg_anchorNumber u) (xg_selected u) (xg_viewLength u) (xg_view u) (xg_group u) (xg_wayNode u) (xg_waySlot u) (xg_wideKey u) (xg_wideItem u) (xg_walkNode u) (xg_walkLevel u) (xg_walkLow u) (xg_walkHigh u)
theorem xe_checkLeaf_9 (post : SX → Prop) (x1 : Int32) (x2 : Int32) (x3 : Int32) (x5 : Int32) (n : Nat) (x6 : Int32) (x7 : Int32) (u : SX) : xc_checkLeaf_9 post x1 x2 x3 x5 (n + 1) x6 x7 u = (((x3 ≤ x7 → (post u)) ∧ (¬ x3 ≤ x7 → (((3 ≤ x7 → (post u)) ∧ (¬ 3 ≤ x7 → (wpX_keyOf (fun r_4 u5 => (wpX_itemOf (fun r_40 u41 => (((r_4 ≤ x6 → (xc_checkLeaf_72 post (xc_checkLeaf_9 post x1 x2 x3 x5 n) x1 x2 x3 x5 x7 r_4 u41)) ∧ (¬ r_4 ≤ x6 → (((x5 ≤ r_4 → (xc_checkLeaf_72 post (xc_checkLeaf_9 post x1 x2 x3 x5 n) x1 x2 x3 x5 x7 r_4 u41)) ∧ (¬ x5 ≤ r_4 → (((r_40 < 0 → (xc_checkLeaf_72 post (xc_checkLeaf_9 post x1 x2 x3 x5 n) x1 x2 x3 x5 x7 r_4 u41)) ∧ (¬ r_40 < 0 → (((14 ≤ r_40 → (xc_checkLeaf_72 post (xc_checkLeaf_9 post x1 x2 x3 x5 n) x1 x2 x3 x5 x7 r_4 u41)) ∧ (¬ 14 ≤ r_40 → (xc_checkLeaf_73 post (xc_checkLeaf_9 post x1 x2 x3 x5 n) x1 x2 x3 x5 x7 r_4 1 u41)))))))))))))) u5 x1 x2 x7)) u x1 x2 x7))))))) := rfl
theorem xe_checkLeaf (post : SX → Prop) (u : SX) (p0 : Int32) (p1 : Int32) (p2 : Int32) (p3 : Int32) (p4 : Int32) : wpX_checkLeaf post u p0 p1 p2 p3 p4 = (∀ x6_1, x6_1 = p3 - 1 → (∃ n9 : Nat, xc_checkLeaf_9 post p0 p1 p2 p4 n9 x6_1 0 u)) := rfl
def xc_checkInner_54 (post : SX → Prop) (J7 : Int32 → Int32 → SX → Prop) (x1 : Int32) (x2 : Int32) (x3 : Int32) (x4 : Int32) (x6 : Int32) (x7 : Int32) (x8 : Int32) (x9 : Int32) (z0 : Int32) (u : SX) : Prop := wX_checkInner_54 post (fun j0 j1 c0 c1 c2 c3 c4 c5 c6 c7 c8 c9 c10 c11 c12 c13 c14 c15 c16 c17 c18 c19 c20 c21 c22 c23 c24 c25 c26 c27 c28 c29 c30 c31 c32 c33 c34 => J7 j0 j1 (c0, c1, c2, c3, c4, c5, c6, c7, c8, c9, c10, c11, c12, c13, c14, c15, c16, c17, c18, c19, c20, c21, c22, c23, c24, c25, c26, c27, c28, c29, c30, c31, c32, c33, c34)) x1 x2 x3 x4 x6 x7 x8 x9 z0 (xg_writesLeft u) (xg_half u) (xg_grouped u) (xg_upKey u) (xg_upNode u) (xg_waiting u) (xg_wrong u) (xg_seenNodes u) (xg_seenKeys u) (xg_disk u) (xg_images u) (xg_rows u) (xg_anchors u) (xg_copies u) (xg_loaded u) (xg_changed u) (xg_imageOf u) (xg_rowAt u) (xg_rowsUsed u) (xg_imageAt u) (xg_imagesUsed u) (xg_nextSaving u) (xg_anchorNumber u) (xg_selected u) (xg_viewLength u) (xg_view u) (xg_group u) (xg_wayNode u) (xg_waySlot u) (xg_wideKey u) (xg_wideItem u) (xg_walkNode u) (xg_walkLevel u) (xg_walkLow u) (xg_walkHigh u)
theorem xe_checkInner_54 (post : SX → Prop) (J7 : Int32 → Int32 → SX → Prop) (x1 : Int32) (x2 : Int32) (x3 : Int32) (x4 : Int32) (x6 : Int32) (x7 : Int32) (x8 : Int32) (x9 : Int32) (z0 : Int32) (u : SX) : xc_checkInner_54 post J7 x1 x2 x3 x4 x6 x7 x8 x9 z0 u = (wpX_expect (fun u6 => (wpX_itemOf (fun r_41 u42 => (wpX_push (fun u78 => (∀ x8_113, x8_113 = x8 + 1 → (J7 x9 x8_113 u78))) u42 r_41 (x4 - 1) x7 x9)) u6 x1 x2 x8)) u z0) := rfl
def xc_checkInner_41 (post : SX → Prop) (J7 : Int32 → Int32 → SX → Prop) (x1 : Int32) (x2 : Int32) (x3 : Int32) (x4 : Int32) (x6 : Int32) (x7 : Int32) (x8 : Int32) (x9 : Int32) (u : SX) : Prop := wX_checkInner_41 post (fun j0 j1 c0 c1 c2 c3 c4 c5 c6 c7 c8 c9 c10 c11 c12 c13 c14 c15 c16 c17 c18 c19 c20 c21 c22 c23 c24 c25 c26 c27 c28 c29 c30 c31 c32 c33 c34 => J7 j0 j1 (c0, c1, c2, c3, c4, c5, c6, c7, c8, c9, c10, c11, c12, c13, c14, c15, c16, c17, c18, c19, c20, c21, c22, c23, c24, c25, c26, c27, c28, c29, c30, c31, c32, c33, c34)) x1 x2 x3 x4 x6 x7 x8 x9 (xg_writesLeft u) (xg_half u) (xg_grouped u) (xg_upKey u) (xg_upNode u) (xg_waiting u) (xg_wrong u) (xg_seenNodes u) (xg_seenKeys u) (xg_disk u) (xg_images u) (xg_rows u) (xg_anchors u) (xg_copies u) (xg_loaded u) (xg_changed u) (xg_imageOf u) (xg_rowAt u) (xg_rowsUsed u) (xg_imageAt u) (xg_imagesUsed u) (xg_nextSaving u) (xg_anchorNumber u) (xg_selected u) (xg_viewLength u) (xg_view u) (xg_group u) (xg_wayNode u) (xg_waySlot u) (xg_wideKey u) (xg_wideItem u) (xg_walkNode u) (xg_walkLevel u) (xg_walkLow u) (xg_walkHigh u)
theorem xe_checkInner_41 (post : SX → Prop) (J7 : Int32 → Int32 → SX → Prop) (x1 : Int32) (x2 : Int32) (x3 : Int32) (x4 : Int32) (x6 : Int32) (x7 : Int32) (x8 : Int32) (x9 : Int32) (u : SX) : xc_checkInner_41 post J7 x1 x2 x3 x4 x6 x7 x8 x9 u = (((x9 ≤ x7 → (xc_checkInner_54 post J7 x1 x2 x3 x4 x6 x7 x8 x9 0 u)) ∧ (¬ x9 ≤ x7 → (xc_checkInner_54 post J7 x1 x2 x3 x4 x6 x7 x8 x9 1 u)))) := rfl
def xc_checkInner_7 (post : SX → Prop) (x1 : Int32) (x2 : Int32) (x3 : Int32) (x4 : Int32) (x6 : Int32) (n : Nat) (x7 : Int32) (x8 : Int32) (u : SX) : Prop := wX_checkInner_7 post x1 x2 x3 x4 x6 n x7 x8 (xg_writesLeft u) (xg_half u) (xg_grouped u) (xg_upKey u) (xg_upNode u) (xg_waiting u) (xg_wrong u) (xg_seenNodes u) (xg_seenKeys u) (xg_disk u) (xg_images u) (xg_rows u) (xg_anchors u) (xg_copies u) (xg_loaded u) (xg_changed u) (xg_imageOf u) (xg_rowAt u) (xg_rowsUsed u) (xg_imageAt u) (xg_imagesUsed u) (xg_nextSaving u) (xg_anchorNumber u) (xg_selected u) (xg_viewLength u) (xg_view u) (xg_group u) (xg_wayNode u) (xg_waySlot u) (xg_wideKey u) (xg_wideItem u) (xg_walkNode u) (xg_walkLevel u) (xg_walkLow u) (xg_walkHigh u)
theorem xe_checkInner_7 (post : SX → Prop) (x1 : Int32) (x2 : Int32) (x3 : Int32) (x4 : Int32) (x6 : Int32) (n : Nat) (x7 : Int32) (x8 : Int32) (u : SX) : xc_checkInner_7 post x1 x2 x3 x4 x6 (n + 1) x7 x8 u = (((x3 ≤ x8 → (post u)) ∧ (¬ x3 ≤ x8 → (((4 ≤ x8 → (post u)) ∧ (¬ 4 ≤ x8 → ((((x3 - 1) ≤ x8 → (xc_checkInner_41 post (xc_checkInner_7 post x1 x2 x3 x4 x6 n) x1 x2 x3 x4 x6 x7 x8 x6 u)) ∧ (¬ (x3 - 1) ≤ x8 → (wpX_keyOf (fun r_114 u115 => (xc_checkInner_41 post (xc_checkInner_7 post x1 x2 x3 x4 x6 n) x1 x2 x3 x4 x6 x7 x8 r_114 u115)) u x1 x2 x8)))))))))) := rfl
theorem xe_checkInner (post : SX → Prop) (u : SX) (p0 : Int32) (p1 : Int32) (p2 : Int32) (p3 : Int32) (p4 : Int32) (p5 : Int32) : wpX_checkInner post u p0 p1 p2 p3 p4 p5 = (∃ n7 : Nat, xc_checkInner_7 post p0 p1 p2 p3 p5 n7 p4 0 u) := rfl
def xc_checkNode_118 (post : SX → Prop) (x1 : Int32) (x2 : Int32) (x3 : Int32) (x4 : Int32) (x5 : Int32) (x8 : Int32) (z0 : Int32) (u : SX) : Prop := wX_checkNode_118 post x1 x2 x3 x4 x5 x8 z0 (xg_writesLeft u) (xg_half u) (xg_grouped u) (xg_upKey u) (xg_upNode u) (xg_waiting u) (xg_wrong u) (xg_seenNodes u) (xg_seenKeys u) (xg_disk u) (xg_images u) (xg_rows u) (xg_anchors u) (xg_copies u) (xg_loaded u) (xg_changed u) (xg_imageOf u) (xg_rowAt u) (xg_rowsUsed u) (xg_imageAt u) (xg_imagesUsed u) (xg_nextSaving u) (xg_anchorNumber u) (xg_selected u) (xg_viewLength u) (xg_view u) (xg_group u) (xg_wayNode u) (xg_waySlot u) (xg_wideKey u) (xg_wideItem u) (xg_walkNode u) (xg_walkLevel u) (xg_walkLow u) (xg_walkHigh u)
theorem xe_checkNode_118 (post : SX → Prop) (x1 : Int32) (x2 : Int32) (x3 : Int32) (x4 : Int32) (x5 : Int32) (x8 : Int32) (z0 : Int32) (u : SX) : xc_checkNode_118 post x1 x2 x3 x4 x5 x8 z0 u = (wpX_expect (fun u84 => (((x3 = 0 → (wpX_checkLeaf (fun u157 => (post u157)) u84 x1 x2 x8 x4 x5)) ∧ (¬ x3 = 0 → (wpX_checkInner (fun u121 => (post u121)) u84 x1 x2 x8 x3 x4 x5))))) u z0) := rfl
def xc_checkNode_117 (post : SX → Prop) (x1 : Int32) (x2 : Int32) (x3 : Int32) (x4 : Int32) (x5 : Int32) (x8 : Int32) (u : SX) : Prop := wX_checkNode_117 post x1 x2 x3 x4 x5 x8 (xg_writesLeft u) (xg_half u) (xg_grouped u) (xg_upKey u) (xg_upNode u) (xg_waiting u) (xg_wrong u) (xg_seenNodes u) (xg_seenKeys u) (xg_disk u) (xg_images u) (xg_rows u) (xg_anchors u) (xg_copies u) (xg_loaded u) (xg_changed u) (xg_imageOf u) (xg_rowAt u) (xg_rowsUsed u) (xg_imageAt u) (xg_imagesUsed u) (xg_nextSaving u) (xg_anchorNumber u) (xg_selected u) (xg_viewLength u) (xg_view u) (xg_group u) (xg_wayNode u) (xg_waySlot u) (xg_wideKey u) (xg_wideItem u) (xg_walkNode u) (xg_walkLevel u) (xg_walkLow u) (xg_walkHigh u)
theorem xe_checkNode_117 (post : SX → Prop) (x1 : Int32) (x2 : Int32) (x3 : Int32) (x4 : Int32) (x5 : Int32) (x8 : Int32) (u : SX) : xc_checkNode_117 post x1 x2 x3 x4 x5 x8 u = (xc_checkNode_118 post x1 x2 x3 x4 x5 x8 0 u) := rfl
end
section
def xc_checkNode_110 (post : SX → Prop) (x1 : Int32) (x2 : Int32) (x3 : Int32) (x4 : Int32) (x5 : Int32) (x8 : Int32) (z0 : Int32) (z1 : Int32) (u : SX) : Prop := wX_checkNode_110 post x1 x2 x3 x4 x5 x8 z0 z1 (xg_writesLeft u) (xg_half u) (xg_grouped u) (xg_upKey u) (xg_upNode u) (xg_waiting u) (xg_wrong u) (xg_seenNodes u) (xg_seenKeys u) (xg_disk u) (xg_images u) (xg_rows u) (xg_anchors u) (xg_copies u) (xg_loaded u) (xg_changed u) (xg_imageOf u) (xg_rowAt u) (xg_rowsUsed u) (xg_imageAt u) (xg_imagesUsed u) (xg_nextSaving u) (xg_anchorNumber u) (xg_selected u) (xg_viewLength u) (xg_view u) (xg_group u) (xg_wayNode u) (xg_waySlot u) (xg_wideKey u) (xg_wideItem u) (xg_walkNode u) (xg_walkLevel u) (xg_walkLow u) (xg_walkHigh u)
theorem xe_checkNode_110 (post : SX → Prop) (x1 : Int32) (x2 : Int32) (x3 : Int32) (x4 : Int32) (x5 : Int32) (x8 : Int32) (z0 : Int32) (z1 : Int32) (u : SX) : xc_checkNode_110 post x1 x2 x3 x4 x5 x8 z0 z1 u = (((z0 < z1 → (xc_checkNode_117 post x1 x2 x3 x4 x5 x8 u)) ∧ (¬ z0 < z1 → (xc_checkNode_118 post x1 x2 x3 x4 x5 x8 1 u)))) := rfl
def xc_checkNode_89 (post : SX → Prop) (x1 : Int32) (x2 : Int32) (x3 : Int32) (x4 : Int32) (x5 : Int32) (x8 : Int32) (z0 : Int32) (u : SX) : Prop := wX_checkNode_89 post x1 x2 x3 x4 x5 x8 z0 (xg_writesLeft u) (xg_half u) (xg_grouped u) (xg_upKey u) (xg_upNode u) (xg_waiting u) (xg_wrong u) (xg_seenNodes u) (xg_seenKeys u) (xg_disk u) (xg_images u) (xg_rows u) (xg_anchors u) (xg_copies u) (xg_loaded u) (xg_changed u) (xg_imageOf u) (xg_rowAt u) (xg_rowsUsed u) (xg_imageAt u) (xg_imagesUsed u) (xg_nextSaving u) (xg_anchorNumber u) (xg_selected u) (xg_viewLength u) (xg_view u) (xg_group u) (xg_wayNode u) (xg_waySlot u) (xg_wideKey u) (xg_wideItem u) (xg_walkNode u) (xg_walkLevel u) (xg_walkLow u) (xg_walkHigh u)
theorem xe_checkNode_89 (post : SX → Prop) (x1 : Int32) (x2 : Int32) (x3 : Int32) (x4 : Int32) (x5 : Int32) (x8 : Int32) (z0 : Int32) (u : SX) : xc_checkNode_89 post x1 x2 x3 x4 x5 x8 z0 u = (((x8 < z0 → (xc_checkNode_117 post x1 x2 x3 x4 x5 x8 u)) ∧ (¬ x8 < z0 → (((x3 = 0 → (xc_checkNode_110 post x1 x2 x3 x4 x5 x8 3 x8 u)) ∧ (¬ x3 = 0 → (xc_checkNode_110 post x1 x2 x3 x4 x5 x8 4 x8 u))))))) := rfl
def xc_checkNode_88 (post : SX → Prop) (x1 : Int32) (x2 : Int32) (x3 : Int32) (x4 : Int32) (x5 : Int32) (x8 : Int32) (u : SX) : Prop := wX_checkNode_88 post x1 x2 x3 x4 x5 x8 (xg_writesLeft u) (xg_half u) (xg_grouped u) (xg_upKey u) (xg_upNode u) (xg_waiting u) (xg_wrong u) (xg_seenNodes u) (xg_seenKeys u) (xg_disk u) (xg_images u) (xg_rows u) (xg_anchors u) (xg_copies u) (xg_loaded u) (xg_changed u) (xg_imageOf u) (xg_rowAt u) (xg_rowsUsed u) (xg_imageAt u) (xg_imagesUsed u) (xg_nextSaving u) (xg_anchorNumber u) (xg_selected u) (xg_viewLength u) (xg_view u) (xg_group u) (xg_wayNode u) (xg_waySlot u) (xg_wideKey u) (xg_wideItem u) (xg_walkNode u) (xg_walkLevel u) (xg_walkLow u) (xg_walkHigh u)
theorem xe_checkNode_88 (post : SX → Prop) (x1 : Int32) (x2 : Int32) (x3 : Int32) (x4 : Int32) (x5 : Int32) (x8 : Int32) (u : SX) : xc_checkNode_88 post x1 x2 x3 x4 x5 x8 u = (xc_checkNode_89 post x1 x2 x3 x4 x5 x8 2 u) := rfl
def xc_checkNode_51 (post : SX → Prop) (x1 : Int32) (x2 : Int32) (x3 : Int32) (x4 : Int32) (x5 : Int32) (x6 : Int32) (x7 : Int32) (z0 : Int32) (u : SX) : Prop := wX_checkNode_51 post x1 x2 x3 x4 x5 x6 x7 z0 (xg_writesLeft u) (xg_half u) (xg_grouped u) (xg_upKey u) (xg_upNode u) (xg_waiting u) (xg_wrong u) (xg_seenNodes u) (xg_seenKeys u) (xg_disk u) (xg_images u) (xg_rows u) (xg_anchors u) (xg_copies u) (xg_loaded u) (xg_changed u) (xg_imageOf u) (xg_rowAt u) (xg_rowsUsed u) (xg_imageAt u) (xg_imagesUsed u) (xg_nextSaving u) (xg_anchorNumber u) (xg_selected u) (xg_viewLength u) (xg_view u) (xg_group u) (xg_wayNode u) (xg_waySlot u) (xg_wideKey u) (xg_wideItem u) (xg_walkNode u) (xg_walkLevel u) (xg_walkLow u) (xg_walkHigh u)
theorem xe_checkNode_51 (post : SX → Prop) (x1 : Int32) (x2 : Int32) (x3 : Int32) (x4 : Int32) (x5 : Int32) (x6 : Int32) (x7 : Int32) (z0 : Int32) (u : SX) : xc_checkNode_51 post x1 x2 x3 x4 x5 x6 x7 z0 u = (wpX_expect (fun u9 => (∀ f_seenNodes_44, f_seenNodes_44 = (xg_seenNodes u9) ||| x7 → (wpX_cell (fun r_45 u46 => (((x2 = x6 → (((x3 = 0 → (xc_checkNode_89 post x1 x2 x3 x4 x5 r_45 1 u46)) ∧ (¬ x3 = 0 → (xc_checkNode_88 post x1 x2 x3 x4 x5 r_45 u46))))) ∧ (¬ x2 = x6 → (xc_checkNode_88 post x1 x2 x3 x4 x5 r_45 u46))))) (xs_seenNodes u9 f_seenNodes_44) x1 x2 0))) u z0) := rfl
theorem xe_checkNode (post : SX → Prop) (u : SX) (p0 : Int32) (p1 : Int32) (p2 : Int32) (p3 : Int32) (p4 : Int32) (p5 : Int32) : wpX_checkNode post u p0 p1 p2 p3 p4 p5 = (((p1 < 9 → (∀ f_wrong_2, f_wrong_2 = (xg_wrong u) + 1 → (post (xs_wrong u f_wrong_2)))) ∧ (¬ p1 < 9 → (((41 ≤ p1 → (∀ f_wrong_4, f_wrong_4 = (xg_wrong u) + 1 → (post (xs_wrong u f_wrong_4)))) ∧ (¬ 41 ≤ p1 → (((0 ≤ p2 → (∀ x7_6, x7_6 = (1 : Int32) <<< ((p1 - 9) &&& 31) → (((((xg_seenNodes u) &&& x7_6) = 0 → (xc_checkNode_51 post p0 p1 p2 p3 p4 p5 x7_6 1 u)) ∧ (¬ ((xg_seenNodes u) &&& x7_6) = 0 → (xc_checkNode_51 post p0 p1 p2 p3 p4 p5 x7_6 0 u)))))) ∧ (¬ 0 ≤ p2 → (∀ f_wrong_195, f_wrong_195 = (xg_wrong u) + 1 → (post (xs_wrong u f_wrong_195)))))))))))) := rfl
def xc_checkTree_198 (post : SX → Prop) (z0 : Int32) (u : SX) : Prop := wX_checkTree_198 post z0 (xg_writesLeft u) (xg_half u) (xg_grouped u) (xg_upKey u) (xg_upNode u) (xg_waiting u) (xg_wrong u) (xg_seenNodes u) (xg_seenKeys u) (xg_disk u) (xg_images u) (xg_rows u) (xg_anchors u) (xg_copies u) (xg_loaded u) (xg_changed u) (xg_imageOf u) (xg_rowAt u) (xg_rowsUsed u) (xg_imageAt u) (xg_imagesUsed u) (xg_nextSaving u) (xg_anchorNumber u) (xg_selected u) (xg_viewLength u) (xg_view u) (xg_group u) (xg_wayNode u) (xg_waySlot u) (xg_wideKey u) (xg_wideItem u) (xg_walkNode u) (xg_walkLevel u) (xg_walkLow u) (xg_walkHigh u)
theorem xe_checkTree_198 (post : SX → Prop) (z0 : Int32) (u : SX) : xc_checkTree_198 post z0 u = (wpX_expect (fun u152 => (post u152)) u z0) := rfl
def xc_checkTree_197 (post : SX → Prop) (u : SX) : Prop := wX_checkTree_197 post (xg_writesLeft u) (xg_half u) (xg_grouped u) (xg_upKey u) (xg_upNode u) (xg_waiting u) (xg_wrong u) (xg_seenNodes u) (xg_seenKeys u) (xg_disk u) (xg_images u) (xg_rows u) (xg_anchors u) (xg_copies u) (xg_loaded u) (xg_changed u) (xg_imageOf u) (xg_rowAt u) (xg_rowsUsed u) (xg_imageAt u) (xg_imagesUsed u) (xg_nextSaving u) (xg_anchorNumber u) (xg_selected u) (xg_viewLength u) (xg_view u) (xg_group u) (xg_wayNode u) (xg_waySlot u) (xg_wideKey u) (xg_wideItem u) (xg_walkNode u) (xg_walkLevel u) (xg_walkLow u) (xg_walkHigh u)
theorem xe_checkTree_197 (post : SX → Prop) (u : SX) : xc_checkTree_197 post u = (xc_checkTree_198 post 0 u) := rfl
def xc_checkTree_156 (post : SX → Prop) (x1 : Int32) (x2 : Int32) (u : SX) : Prop := wX_checkTree_156 post x1 x2 (xg_writesLeft u) (xg_half u) (xg_grouped u) (xg_upKey u) (xg_upNode u) (xg_waiting u) (xg_wrong u) (xg_seenNodes u) (xg_seenKeys u) (xg_disk u) (xg_images u) (xg_rows u) (xg_anchors u) (xg_copies u) (xg_loaded u) (xg_changed u) (xg_imageOf u) (xg_rowAt u) (xg_rowsUsed u) (xg_imageAt u) (xg_imagesUsed u) (xg_nextSaving u) (xg_anchorNumber u) (xg_selected u) (xg_viewLength u) (xg_view u) (xg_group u) (xg_wayNode u) (xg_waySlot u) (xg_wideKey u) (xg_wideItem u) (xg_walkNode u) (xg_walkLevel u) (xg_walkLow u) (xg_walkHigh u)
theorem xe_checkTree_156 (post : SX → Prop) (x1 : Int32) (x2 : Int32) (u : SX) : xc_checkTree_156 post x1 x2 u = (wpX_cell (fun r_114 u115 => ((((xg_waiting u115) = 0 → (((r_114 = (xg_seenKeys u115) → (((14 < r_114 → (xc_checkTree_197 post u115)) ∧ (¬ 14 < r_114 → (xc_checkTree_198 post 1 u115))))) ∧ (¬ r_114 = (xg_seenKeys u115) → (xc_checkTree_197 post u115))))) ∧ (¬ (xg_waiting u115) = 0 → (xc_checkTree_197 post u115))))) u x1 0 ((3 * x2) + 2)) := rfl
def xc_checkTree_84 (post : SX → Prop) (x1 : Int32) (x2 : Int32) (x3 : Int32) (n : Nat) (x5 : Int32) (u : SX) : Prop := wX_checkTree_84 post x1 x2 x3 n x5 (xg_writesLeft u) (xg_half u) (xg_grouped u) (xg_upKey u) (xg_upNode u) (xg_waiting u) (xg_wrong u) (xg_seenNodes u) (xg_seenKeys u) (xg_disk u) (xg_images u) (xg_rows u) (xg_anchors u) (xg_copies u) (xg_loaded u) (xg_changed u) (xg_imageOf u) (xg_rowAt u) (xg_rowsUsed u) (xg_imageAt u) (xg_imagesUsed u) (xg_nextSaving u) (xg_anchorNumber u) (xg_selected u) (xg_viewLength u) (xg_view u) (xg_group u) (xg_wayNode u) (xg_waySlot u) (xg_wideKey u) (xg_wideItem u) (xg_walkNode u) (xg_walkLevel u) (xg_walkLow u) (xg_walkHigh u)
theorem xe_checkTree_84 (post : SX → Prop) (x1 : Int32) (x2 : Int32) (x3 : Int32) (n : Nat) (x5 : Int32) (u : SX) : xc_checkTree_84 post x1 x2 x3 (n + 1) x5 u = (((64 ≤ x5 → (xc_checkTree_156 post x1 x2 u)) ∧ (¬ 64 ≤ x5 → ((((xg_waiting u) ≤ 0 → (xc_checkTree_156 post x1 x2 u)) ∧ (¬ (xg_waiting u) ≤ 0 → (∀ f_waiting_190, f_waiting_190 = (xg_waiting u) - 1 → (vp_in f_waiting_190 40 ∧ (vp_in f_waiting_190 40 ∧ (vp_in f_waiting_190 40 ∧ (vp_in f_waiting_190 40 ∧ (wpX_checkNode (fun u196 => (∀ x5_231, x5_231 = x5 + 1 → (xc_checkTree_84 post x1 x2 x3 n x5_231 u196))) (xs_waiting u f_waiting_190) x1 ((xg_walkNode u) f_waiting_190.toNatClampNeg) ((xg_walkLevel u) f_waiting_190.toNatClampNeg) ((xg_walkLow u) f_waiting_190.toNatClampNeg) ((xg_walkHigh u) f_waiting_190.toNatClampNeg) x3)))))))))))) := rfl
def xc_checkTree_51 (post : SX → Prop) (x1 : Int32) (x2 : Int32) (x3 : Int32) (x4 : Int32) (z0 : Int32) (u : SX) : Prop := wX_checkTree_51 post x1 x2 x3 x4 z0 (xg_writesLeft u) (xg_half u) (xg_grouped u) (xg_upKey u) (xg_upNode u) (xg_waiting u) (xg_wrong u) (xg_seenNodes u) (xg_seenKeys u) (xg_disk u) (xg_images u) (xg_rows u) (xg_anchors u) (xg_copies u) (xg_loaded u) (xg_changed u) (xg_imageOf u) (xg_rowAt u) (xg_rowsUsed u) (xg_imageAt u) (xg_imagesUsed u) (xg_nextSaving u) (xg_anchorNumber u) (xg_selected u) (xg_viewLength u) (xg_view u) (xg_group u) (xg_wayNode u) (xg_waySlot u) (xg_wideKey u) (xg_wideItem u) (xg_walkNode u) (xg_walkLevel u) (xg_walkLow u) (xg_walkHigh u)
theorem xe_checkTree_51 (post : SX → Prop) (x1 : Int32) (x2 : Int32) (x3 : Int32) (x4 : Int32) (z0 : Int32) (u : SX) : xc_checkTree_51 post x1 x2 x3 x4 z0 u = (wpX_expect (fun u77 => (((x3 = 0 → (∃ n84 : Nat, xc_checkTree_84 post x1 x2 x3 n84 0 (xs_seenKeys (xs_waiting u77 0) 0))) ∧ (¬ x3 = 0 → (wpX_push (fun u233 => (∃ n84 : Nat, xc_checkTree_84 post x1 x2 x3 n84 0 u233)) (xs_seenKeys (xs_waiting u77 0) 0) x3 (x4 - 1) 0 1000000))))) u z0) := rfl
def xc_checkTree_43 (post : SX → Prop) (x1 : Int32) (x2 : Int32) (x3 : Int32) (x4 : Int32) (z0 : Int32) (z1 : Int32) (u : SX) : Prop := wX_checkTree_43 post x1 x2 x3 x4 z0 z1 (xg_writesLeft u) (xg_half u) (xg_grouped u) (xg_upKey u) (xg_upNode u) (xg_waiting u) (xg_wrong u) (xg_seenNodes u) (xg_seenKeys u) (xg_disk u) (xg_images u) (xg_rows u) (xg_anchors u) (xg_copies u) (xg_loaded u) (xg_changed u) (xg_imageOf u) (xg_rowAt u) (xg_rowsUsed u) (xg_imageAt u) (xg_imagesUsed u) (xg_nextSaving u) (xg_anchorNumber u) (xg_selected u) (xg_viewLength u) (xg_view u) (xg_group u) (xg_wayNode u) (xg_waySlot u) (xg_wideKey u) (xg_wideItem u) (xg_walkNode u) (xg_walkLevel u) (xg_walkLow u) (xg_walkHigh u)
theorem xe_checkTree_43 (post : SX → Prop) (x1 : Int32) (x2 : Int32) (x3 : Int32) (x4 : Int32) (z0 : Int32) (z1 : Int32) (u : SX) : xc_checkTree_43 post x1 x2 x3 x4 z0 z1 u = (((z1 = z0 → (xc_checkTree_51 post x1 x2 x3 x4 1 u)) ∧ (¬ z1 = z0 → (xc_checkTree_51 post x1 x2 x3 x4 0 u)))) := rfl
def xc_checkTree_33 (post : SX → Prop) (x1 : Int32) (x2 : Int32) (x3 : Int32) (x4 : Int32) (z0 : Int32) (u : SX) : Prop := wX_checkTree_33 post x1 x2 x3 x4 z0 (xg_writesLeft u) (xg_half u) (xg_grouped u) (xg_upKey u) (xg_upNode u) (xg_waiting u) (xg_wrong u) (xg_seenNodes u) (xg_seenKeys u) (xg_disk u) (xg_images u) (xg_rows u) (xg_anchors u) (xg_copies u) (xg_loaded u) (xg_changed u) (xg_imageOf u) (xg_rowAt u) (xg_rowsUsed u) (xg_imageAt u) (xg_imagesUsed u) (xg_nextSaving u) (xg_anchorNumber u) (xg_selected u) (xg_viewLength u) (xg_view u) (xg_group u) (xg_wayNode u) (xg_waySlot u) (xg_wideKey u) (xg_wideItem u) (xg_walkNode u) (xg_walkLevel u) (xg_walkLow u) (xg_walkHigh u)
theorem xe_checkTree_33 (post : SX → Prop) (x1 : Int32) (x2 : Int32) (x3 : Int32) (x4 : Int32) (z0 : Int32) (u : SX) : xc_checkTree_33 post x1 x2 x3 x4 z0 u = (((x4 = 0 → (xc_checkTree_43 post x1 x2 x3 x4 1 z0 u)) ∧ (¬ x4 = 0 → (xc_checkTree_43 post x1 x2 x3 x4 0 z0 u)))) := rfl
theorem xe_checkTree (post : SX → Prop) (u : SX) (p0 : Int32) (p1 : Int32) : wpX_checkTree post u p0 p1 = (wpX_cell (fun r_1 u2 => (wpX_cell (fun r_37 u38 => (((r_1 = 0 → (xc_checkTree_33 post p0 p1 r_1 r_37 1 u38)) ∧ (¬ r_1 = 0 → (xc_checkTree_33 post p0 p1 r_1 r_37 0 u38))))) u2 p0 0 ((3 * p1) + 1))) u p0 0 (3 * p1)) := rfl
def xc_checkRecords_173 (post : SX → Prop) (z0 : Int32) (u : SX) : Prop := wX_checkRecords_173 post z0 (xg_writesLeft u) (xg_half u) (xg_grouped u) (xg_upKey u) (xg_upNode u) (xg_waiting u) (xg_wrong u) (xg_seenNodes u) (xg_seenKeys u) (xg_disk u) (xg_images u) (xg_rows u) (xg_anchors u) (xg_copies u) (xg_loaded u) (xg_changed u) (xg_imageOf u) (xg_rowAt u) (xg_rowsUsed u) (xg_imageAt u) (xg_imagesUsed u) (xg_nextSaving u) (xg_anchorNumber u) (xg_selected u) (xg_viewLength u) (xg_view u) (xg_group u) (xg_wayNode u) (xg_waySlot u) (xg_wideKey u) (xg_wideItem u) (xg_walkNode u) (xg_walkLevel u) (xg_walkLow u) (xg_walkHigh u)
theorem xe_checkRecords_173 (post : SX → Prop) (z0 : Int32) (u : SX) : xc_checkRecords_173 post z0 u = (wpX_expect (fun u185 => (post u185)) u z0) := rfl
def xc_checkRecords_147 (post : SX → Prop) (x1 : Int32) (z0 : Int32) (u : SX) : Prop := wX_checkRecords_147 post x1 z0 (xg_writesLeft u) (xg_half u) (xg_grouped u) (xg_upKey u) (xg_upNode u) (xg_waiting u) (xg_wrong u) (xg_seenNodes u) (xg_seenKeys u) (xg_disk u) (xg_images u) (xg_rows u) (xg_anchors u) (xg_copies u) (xg_loaded u) (xg_changed u) (xg_imageOf u) (xg_rowAt u) (xg_rowsUsed u) (xg_imageAt u) (xg_imagesUsed u) (xg_nextSaving u) (xg_anchorNumber u) (xg_selected u) (xg_viewLength u) (xg_view u) (xg_group u) (xg_wayNode u) (xg_waySlot u) (xg_wideKey u) (xg_wideItem u) (xg_walkNode u) (xg_walkLevel u) (xg_walkLow u) (xg_walkHigh u)
theorem xe_checkRecords_147 (post : SX → Prop) (x1 : Int32) (z0 : Int32) (u : SX) : xc_checkRecords_147 post x1 z0 u = (wpX_expect (fun u76 => (wpX_cell (fun r_111 u112 => (wpX_cell (fun r_147 u148 => (((r_111 = r_147 → (xc_checkRecords_173 post 1 u148)) ∧ (¬ r_111 = r_147 → (xc_checkRecords_173 post 0 u148))))) u112 x1 0 5)) u76 x1 0 2)) u z0) := rfl
def xc_checkRecords_131 (post : SX → Prop) (x1 : Int32) (x2 : Int32) (u : SX) : Prop := wX_checkRecords_131 post x1 x2 (xg_writesLeft u) (xg_half u) (xg_grouped u) (xg_upKey u) (xg_upNode u) (xg_waiting u) (xg_wrong u) (xg_seenNodes u) (xg_seenKeys u) (xg_disk u) (xg_images u) (xg_rows u) (xg_anchors u) (xg_copies u) (xg_loaded u) (xg_changed u) (xg_imageOf u) (xg_rowAt u) (xg_rowsUsed u) (xg_imageAt u) (xg_imagesUsed u) (xg_nextSaving u) (xg_anchorNumber u) (xg_selected u) (xg_viewLength u) (xg_view u) (xg_group u) (xg_wayNode u) (xg_waySlot u) (xg_wideKey u) (xg_wideItem u) (xg_walkNode u) (xg_walkLevel u) (xg_walkLow u) (xg_walkHigh u)
theorem xe_checkRecords_131 (post : SX → Prop) (x1 : Int32) (x2 : Int32) (u : SX) : xc_checkRecords_131 post x1 x2 u = (wpX_about (fun r_38 u39 => (((x2 = r_38 → (xc_checkRecords_147 post x1 1 u39)) ∧ (¬ x2 = r_38 → (xc_checkRecords_147 post x1 0 u39))))) u x1 5) := rfl
def xc_checkRecords_107 (post : SX → Prop) (J13 : Int32 → Int32 → Int32 → SX → Prop) (x1 : Int32) (x2 : Int32) (x3 : Int32) (x4 : Int32) (x5 : Int32) (z0 : Int32) (u : SX) : Prop := wX_checkRecords_107 post (fun j0 j1 j2 c0 c1 c2 c3 c4 c5 c6 c7 c8 c9 c10 c11 c12 c13 c14 c15 c16 c17 c18 c19 c20 c21 c22 c23 c24 c25 c26 c27 c28 c29 c30 c31 c32 c33 c34 => J13 j0 j1 j2 (c0, c1, c2, c3, c4, c5, c6, c7, c8, c9, c10, c11, c12, c13, c14, c15, c16, c17, c18, c19, c20, c21, c22, c23, c24, c25, c26, c27, c28, c29, c30, c31, c32, c33, c34)) x1 x2 x3 x4 x5 z0 (xg_writesLeft u) (xg_half u) (xg_grouped u) (xg_upKey u) (xg_upNode u) (xg_waiting u) (xg_wrong u) (xg_seenNodes u) (xg_seenKeys u) (xg_disk u) (xg_images u) (xg_rows u) (xg_anchors u) (xg_copies u) (xg_loaded u) (xg_changed u) (xg_imageOf u) (xg_rowAt u) (xg_rowsUsed u) (xg_imageAt u) (xg_imagesUsed u) (xg_nextSaving u) (xg_anchorNumber u) (xg_selected u) (xg_viewLength u) (xg_view u) (xg_group u) (xg_wayNode u) (xg_waySlot u) (xg_wideKey u) (xg_wideItem u) (xg_walkNode u) (xg_walkLevel u) (xg_walkLow u) (xg_walkHigh u)
theorem xe_checkRecords_107 (post : SX → Prop) (J13 : Int32 → Int32 → Int32 → SX → Prop) (x1 : Int32) (x2 : Int32) (x3 : Int32) (x4 : Int32) (x5 : Int32) (z0 : Int32) (u : SX) : xc_checkRecords_107 post J13 x1 x2 x3 x4 x5 z0 u = (wpX_expect (fun u440 => (∀ x2_475, x2_475 = x2 ||| ((1 : Int32) <<< (x5 &&& 31)) → (wpX_keyAfter (fun r_476 u477 => (∀ x4_512, x4_512 = x4 + 1 → (J13 x2_475 r_476 x4_512 u477))) u440 x1 0 x3))) u z0) := rfl
def xc_checkRecords_106 (post : SX → Prop) (J13 : Int32 → Int32 → Int32 → SX → Prop) (x1 : Int32) (x2 : Int32) (x3 : Int32) (x4 : Int32) (x5 : Int32) (u : SX) : Prop := wX_checkRecords_106 post (fun j0 j1 j2 c0 c1 c2 c3 c4 c5 c6 c7 c8 c9 c10 c11 c12 c13 c14 c15 c16 c17 c18 c19 c20 c21 c22 c23 c24 c25 c26 c27 c28 c29 c30 c31 c32 c33 c34 => J13 j0 j1 j2 (c0, c1, c2, c3, c4, c5, c6, c7, c8, c9, c10, c11, c12, c13, c14, c15, c16, c17, c18, c19, c20, c21, c22, c23, c24, c25, c26, c27, c28, c29, c30, c31, c32, c33, c34)) x1 x2 x3 x4 x5 (xg_writesLeft u) (xg_half u) (xg_grouped u) (xg_upKey u) (xg_upNode u) (xg_waiting u) (xg_wrong u) (xg_seenNodes u) (xg_seenKeys u) (xg_disk u) (xg_images u) (xg_rows u) (xg_anchors u) (xg_copies u) (xg_loaded u) (xg_changed u) (xg_imageOf u) (xg_rowAt u) (xg_rowsUsed u) (xg_imageAt u) (xg_imagesUsed u) (xg_nextSaving u) (xg_anchorNumber u) (xg_selected u) (xg_viewLength u) (xg_view u) (xg_group u) (xg_wayNode u) (xg_waySlot u) (xg_wideKey u) (xg_wideItem u) (xg_walkNode u) (xg_walkLevel u) (xg_walkLow u) (xg_walkHigh u)
theorem xe_checkRecords_106 (post : SX → Prop) (J13 : Int32 → Int32 → Int32 → SX → Prop) (x1 : Int32) (x2 : Int32) (x3 : Int32) (x4 : Int32) (x5 : Int32) (u : SX) : xc_checkRecords_106 post J13 x1 x2 x3 x4 x5 u = (xc_checkRecords_107 post J13 x1 x2 x3 x4 x5 0 u) := rfl
def xc_checkRecords_77 (post : SX → Prop) (J13 : Int32 → Int32 → Int32 → SX → Prop) (x1 : Int32) (x2 : Int32) (x3 : Int32) (x4 : Int32) (x5 : Int32) (x6 : Int32) (z0 : Int32) (u : SX) : Prop := wX_checkRecords_77 post (fun j0 j1 j2 c0 c1 c2 c3 c4 c5 c6 c7 c8 c9 c10 c11 c12 c13 c14 c15 c16 c17 c18 c19 c20 c21 c22 c23 c24 c25 c26 c27 c28 c29 c30 c31 c32 c33 c34 => J13 j0 j1 j2 (c0, c1, c2, c3, c4, c5, c6, c7, c8, c9, c10, c11, c12, c13, c14, c15, c16, c17, c18, c19, c20, c21, c22, c23, c24, c25, c26, c27, c28, c29, c30, c31, c32, c33, c34)) x1 x2 x3 x4 x5 x6 z0 (xg_writesLeft u) (xg_half u) (xg_grouped u) (xg_upKey u) (xg_upNode u) (xg_waiting u) (xg_wrong u) (xg_seenNodes u) (xg_seenKeys u) (xg_disk u) (xg_images u) (xg_rows u) (xg_anchors u) (xg_copies u) (xg_loaded u) (xg_changed u) (xg_imageOf u) (xg_rowAt u) (xg_rowsUsed u) (xg_imageAt u) (xg_imagesUsed u) (xg_nextSaving u) (xg_anchorNumber u) (xg_selected u) (xg_viewLength u) (xg_view u) (xg_group u) (xg_wayNode u) (xg_waySlot u) (xg_wideKey u) (xg_wideItem u) (xg_walkNode u) (xg_walkLevel u) (xg_walkLow u) (xg_walkHigh u)
theorem xe_checkRecords_77 (post : SX → Prop) (J13 : Int32 → Int32 → Int32 → SX → Prop) (x1 : Int32) (x2 : Int32) (x3 : Int32) (x4 : Int32) (x5 : Int32) (x6 : Int32) (z0 : Int32) (u : SX) : xc_checkRecords_77 post J13 x1 x2 x3 x4 x5 x6 z0 u = (wpX_expect (fun u367 => (wpX_about (fun r_402 u403 => (((r_402 ≤ x3 → (xc_checkRecords_106 post J13 x1 x2 x3 x4 x5 u403)) ∧ (¬ r_402 ≤ x3 → (wpX_about (fun r_513 u514 => (((r_513 < x6 → (xc_checkRecords_106 post J13 x1 x2 x3 x4 x5 u514)) ∧ (¬ r_513 < x6 → (xc_checkRecords_107 post J13 x1 x2 x3 x4 x5 1 u514))))) u403 x1 3))))) u367 x1 2)) u z0) := rfl
def xc_checkRecords_76 (post : SX → Prop) (J13 : Int32 → Int32 → Int32 → SX → Prop) (x1 : Int32) (x2 : Int32) (x3 : Int32) (x4 : Int32) (x5 : Int32) (x6 : Int32) (u : SX) : Prop := wX_checkRecords_76 post (fun j0 j1 j2 c0 c1 c2 c3 c4 c5 c6 c7 c8 c9 c10 c11 c12 c13 c14 c15 c16 c17 c18 c19 c20 c21 c22 c23 c24 c25 c26 c27 c28 c29 c30 c31 c32 c33 c34 => J13 j0 j1 j2 (c0, c1, c2, c3, c4, c5, c6, c7, c8, c9, c10, c11, c12, c13, c14, c15, c16, c17, c18, c19, c20, c21, c22, c23, c24, c25, c26, c27, c28, c29, c30, c31, c32, c33, c34)) x1 x2 x3 x4 x5 x6 (xg_writesLeft u) (xg_half u) (xg_grouped u) (xg_upKey u) (xg_upNode u) (xg_waiting u) (xg_wrong u) (xg_seenNodes u) (xg_seenKeys u) (xg_disk u) (xg_images u) (xg_rows u) (xg_anchors u) (xg_copies u) (xg_loaded u) (xg_changed u) (xg_imageOf u) (xg_rowAt u) (xg_rowsUsed u) (xg_imageAt u) (xg_imagesUsed u) (xg_nextSaving u) (xg_anchorNumber u) (xg_selected u) (xg_viewLength u) (xg_view u) (xg_group u) (xg_wayNode u) (xg_waySlot u) (xg_wideKey u) (xg_wideItem u) (xg_walkNode u) (xg_walkLevel u) (xg_walkLow u) (xg_walkHigh u)
theorem xe_checkRecords_76 (post : SX → Prop) (J13 : Int32 → Int32 → Int32 → SX → Prop) (x1 : Int32) (x2 : Int32) (x3 : Int32) (x4 : Int32) (x5 : Int32) (x6 : Int32) (u : SX) : xc_checkRecords_76 post J13 x1 x2 x3 x4 x5 x6 u = (xc_checkRecords_77 post J13 x1 x2 x3 x4 x5 x6 0 u) := rfl
def xc_checkRecords_13 (post : SX → Prop) (x1 : Int32) (n : Nat) (x2 : Int32) (x3 : Int32) (x4 : Int32) (u : SX) : Prop := wX_checkRecords_13 post x1 n x2 x3 x4 (xg_writesLeft u) (xg_half u) (xg_grouped u) (xg_upKey u) (xg_upNode u) (xg_waiting u) (xg_wrong u) (xg_seenNodes u) (xg_seenKeys u) (xg_disk u) (xg_images u) (xg_rows u) (xg_anchors u) (xg_copies u) (xg_loaded u) (xg_changed u) (xg_imageOf u) (xg_rowAt u) (xg_rowsUsed u) (xg_imageAt u) (xg_imagesUsed u) (xg_nextSaving u) (xg_anchorNumber u) (xg_selected u) (xg_viewLength u) (xg_view u) (xg_group u) (xg_wayNode u) (xg_waySlot u) (xg_wideKey u) (xg_wideItem u) (xg_walkNode u) (xg_walkLevel u) (xg_walkLow u) (xg_walkHigh u)
theorem xe_checkRecords_13 (post : SX → Prop) (x1 : Int32) (n : Nat) (x2 : Int32) (x3 : Int32) (x4 : Int32) (u : SX) : xc_checkRecords_13 post x1 (n + 1) x2 x3 x4 u = (((14 ≤ x4 → (xc_checkRecords_131 post x1 x2 u)) ∧ (¬ 14 ≤ x4 → (((x3 ≤ 0 → (xc_checkRecords_131 post x1 x2 u)) ∧ (¬ x3 ≤ 0 → (wpX_recordOf (fun r_221 u222 => (wpX_entry (fun r_257 u258 => (wpX_valueOf (fun r_293 u294 => (wpX_entry (fun r_329 u330 => (((r_329 = x3 → (((r_293 = r_221 → (xc_checkRecords_77 post (xc_checkRecords_13 post x1 n) x1 x2 x3 x4 r_221 r_257 1 u330)) ∧ (¬ r_293 = r_221 → (xc_checkRecords_76 post (xc_checkRecords_13 post x1 n) x1 x2 x3 x4 r_221 r_257 u330))))) ∧ (¬ r_329 = x3 → (xc_checkRecords_76 post (xc_checkRecords_13 post x1 n) x1 x2 x3 x4 r_221 r_257 u330))))) u294 x1 r_221 0)) u258 x1 1 r_257)) u222 x1 r_221 3)) u x1 x3))))))) := rfl
theorem xe_checkRecords (post : SX → Prop) (u : SX) (p0 : Int32) : wpX_checkRecords post u p0 = (wpX_keyAfter (fun r_1 u2 => (∃ n13 : Nat, xc_checkRecords_13 post p0 n13 0 r_1 0 u2)) u p0 0 0) := rfl
def xc_checkView_105 (post : SX → Prop) (z0 : Int32) (u : SX) : Prop := wX_checkView_105 post z0 (xg_writesLeft u) (xg_half u) (xg_grouped u) (xg_upKey u) (xg_upNode u) (xg_waiting u) (xg_wrong u) (xg_seenNodes u) (xg_seenKeys u) (xg_disk u) (xg_images u) (xg_rows u) (xg_anchors u) (xg_copies u) (xg_loaded u) (xg_changed u) (xg_imageOf u) (xg_rowAt u) (xg_rowsUsed u) (xg_imageAt u) (xg_imagesUsed u) (xg_nextSaving u) (xg_anchorNumber u) (xg_selected u) (xg_viewLength u) (xg_view u) (xg_group u) (xg_wayNode u) (xg_waySlot u) (xg_wideKey u) (xg_wideItem u) (xg_walkNode u) (xg_walkLevel u) (xg_walkLow u) (xg_walkHigh u)
theorem xe_checkView_105 (post : SX → Prop) (z0 : Int32) (u : SX) : xc_checkView_105 post z0 u = (wpX_expect (fun u117 => (post u117)) u z0) := rfl
def xc_checkView_61 (post : SX → Prop) (J30 : Int32 → Int32 → SX → Prop) (x1 : Int32) (x3 : Int32) (z0 : Int32) (u : SX) : Prop := wX_checkView_61 post (fun j0 j1 c0 c1 c2 c3 c4 c5 c6 c7 c8 c9 c10 c11 c12 c13 c14 c15 c16 c17 c18 c19 c20 c21 c22 c23 c24 c25 c26 c27 c28 c29 c30 c31 c32 c33 c34 => J30 j0 j1 (c0, c1, c2, c3, c4, c5, c6, c7, c8, c9, c10, c11, c12, c13, c14, c15, c16, c17, c18, c19, c20, c21, c22, c23, c24, c25, c26, c27, c28, c29, c30, c31, c32, c33, c34)) x1 x3 z0 (xg_writesLeft u) (xg_half u) (xg_grouped u) (xg_upKey u) (xg_upNode u) (xg_waiting u) (xg_wrong u) (xg_seenNodes u) (xg_seenKeys u) (xg_disk u) (xg_images u) (xg_rows u) (xg_anchors u) (xg_copies u) (xg_loaded u) (xg_changed u) (xg_imageOf u) (xg_rowAt u) (xg_rowsUsed u) (xg_imageAt u) (xg_imagesUsed u) (xg_nextSaving u) (xg_anchorNumber u) (xg_selected u) (xg_viewLength u) (xg_view u) (xg_group u) (xg_wayNode u) (xg_waySlot u) (xg_wideKey u) (xg_wideItem u) (xg_walkNode u) (xg_walkLevel u) (xg_walkLow u) (xg_walkHigh u)
theorem xe_checkView_61 (post : SX → Prop) (J30 : Int32 → Int32 → SX → Prop) (x1 : Int32) (x3 : Int32) (z0 : Int32) (u : SX) : xc_checkView_61 post J30 x1 x3 z0 u = (wpX_expect (fun u155 => (vp_in ((16 * x1) + x3) 48 ∧ (∀ x2_191, x2_191 = (xg_view u155) ((16 * x1) + x3).toNatClampNeg → (∀ x3_192, x3_192 = x3 + 1 → (J30 x2_191 x3_192 u155))))) u z0) := rfl
def xc_checkView_30 (post : SX → Prop) (x1 : Int32) (n : Nat) (x2 : Int32) (x3 : Int32) (u : SX) : Prop := wX_checkView_30 post x1 n x2 x3 (xg_writesLeft u) (xg_half u) (xg_grouped u) (xg_upKey u) (xg_upNode u) (xg_waiting u) (xg_wrong u) (xg_seenNodes u) (xg_seenKeys u) (xg_disk u) (xg_images u) (xg_rows u) (xg_anchors u) (xg_copies u) (xg_loaded u) (xg_changed u) (xg_imageOf u) (xg_rowAt u) (xg_rowsUsed u) (xg_imageAt u) (xg_imagesUsed u) (xg_nextSaving u) (xg_anchorNumber u) (xg_selected u) (xg_viewLength u) (xg_view u) (xg_group u) (xg_wayNode u) (xg_waySlot u) (xg_wideKey u) (xg_wideItem u) (xg_walkNode u) (xg_walkLevel u) (xg_walkLow u) (xg_walkHigh u)
theorem xe_checkView_30 (post : SX → Prop) (x1 : Int32) (n : Nat) (x2 : Int32) (x3 : Int32) (u : SX) : xc_checkView_30 post x1 (n + 1) x2 x3 u = (vp_in x1 3 ∧ (((((xg_viewLength u) x1.toNatClampNeg) ≤ x3 → (vp_in x1 3 ∧ (wpX_about (fun r_79 u80 => (((r_79 ≤ x2 → (xc_checkView_105 post 0 u80)) ∧ (¬ r_79 ≤ x2 → (xc_checkView_105 post 1 u80))))) u (((xg_selected u) x1.toNatClampNeg) - 1) 2))) ∧ (¬ ((xg_viewLength u) x1.toNatClampNeg) ≤ x3 → (vp_in ((16 * x1) + x3) 48 ∧ (((((xg_view u) ((16 * x1) + x3).toNatClampNeg) ≤ x2 → (xc_checkView_61 post (xc_checkView_30 post x1 n) x1 x3 0 u)) ∧ (¬ ((xg_view u) ((16 * x1) + x3).toNatClampNeg) ≤ x2 → (xc_checkView_61 post (xc_checkView_30 post x1 n) x1 x3 1 u))))))))) := rfl
theorem xe_checkView (post : SX → Prop) (u : SX) (p0 : Int32) : wpX_checkView post u p0 = (vp_in p0 3 ∧ (((((xg_selected u) p0.toNatClampNeg) = 0 → (post u)) ∧ (¬ ((xg_selected u) p0.toNatClampNeg) = 0 → (vp_in p0 3 ∧ (wpX_isThere (fun r_4 u5 => (wpX_expect (fun u41 => (∃ n30 : Nat, xc_checkView_30 post p0 n30 0 0 u41)) u5 r_4)) u (((xg_selected u) p0.toNatClampNeg) - 1))))))) := rfl
def xc_faults_87 (post : Int32 → SX → Prop) (n : Nat) (x1 : Int32) (u : SX) : Prop := wX_faults_87 post n x1 (xg_writesLeft u) (xg_half u) (xg_grouped u) (xg_upKey u) (xg_upNode u) (xg_waiting u) (xg_wrong u) (xg_seenNodes u) (xg_seenKeys u) (xg_disk u) (xg_images u) (xg_rows u) (xg_anchors u) (xg_copies u) (xg_loaded u) (xg_changed u) (xg_imageOf u) (xg_rowAt u) (xg_rowsUsed u) (xg_imageAt u) (xg_imagesUsed u) (xg_nextSaving u) (xg_anchorNumber u) (xg_selected u) (xg_viewLength u) (xg_view u) (xg_group u) (xg_wayNode u) (xg_waySlot u) (xg_wideKey u) (xg_wideItem u) (xg_walkNode u) (xg_walkLevel u) (xg_walkLow u) (xg_walkHigh u)
theorem xe_faults_87 (post : Int32 → SX → Prop) (n : Nat) (x1 : Int32) (u : SX) : xc_faults_87 post (n + 1) x1 u = (((3 ≤ x1 → (post (xg_wrong u) u)) ∧ (¬ 3 ≤ x1 → (wpX_checkView (fun u4 => (∀ x1_39, x1_39 = x1 + 1 → (xc_faults_87 post n x1_39 u4))) u x1)))) := rfl
def xc_faults_76 (post : Int32 → SX → Prop) (J7 : Int32 → SX → Prop) (x1 : Int32) (z0 : Int32) (u : SX) : Prop := wX_faults_76 post (fun j0 c0 c1 c2 c3 c4 c5 c6 c7 c8 c9 c10 c11 c12 c13 c14 c15 c16 c17 c18 c19 c20 c21 c22 c23 c24 c25 c26 c27 c28 c29 c30 c31 c32 c33 c34 => J7 j0 (c0, c1, c2, c3, c4, c5, c6, c7, c8, c9, c10, c11, c12, c13, c14, c15, c16, c17, c18, c19, c20, c21, c22, c23, c24, c25, c26, c27, c28, c29, c30, c31, c32, c33, c34)) x1 z0 (xg_writesLeft u) (xg_half u) (xg_grouped u) (xg_upKey u) (xg_upNode u) (xg_waiting u) (xg_wrong u) (xg_seenNodes u) (xg_seenKeys u) (xg_disk u) (xg_images u) (xg_rows u) (xg_anchors u) (xg_copies u) (xg_loaded u) (xg_changed u) (xg_imageOf u) (xg_rowAt u) (xg_rowsUsed u) (xg_imageAt u) (xg_imagesUsed u) (xg_nextSaving u) (xg_anchorNumber u) (xg_selected u) (xg_viewLength u) (xg_view u) (xg_group u) (xg_wayNode u) (xg_waySlot u) (xg_wideKey u) (xg_wideItem u) (xg_walkNode u) (xg_walkLevel u) (xg_walkLow u) (xg_walkHigh u)
theorem xe_faults_76 (post : Int32 → SX → Prop) (J7 : Int32 → SX → Prop) (x1 : Int32) (z0 : Int32) (u : SX) : xc_faults_76 post J7 x1 z0 u = (wpX_expect (fun u259 => (∀ x1_294, x1_294 = x1 + 1 → (J7 x1_294 u259))) u z0) := rfl
def xc_faults_52 (post : Int32 → SX → Prop) (J7 : Int32 → SX → Prop) (x1 : Int32) (z0 : Int32) (u : SX) : Prop := wX_faults_52 post (fun j0 c0 c1 c2 c3 c4 c5 c6 c7 c8 c9 c10 c11 c12 c13 c14 c15 c16 c17 c18 c19 c20 c21 c22 c23 c24 c25 c26 c27 c28 c29 c30 c31 c32 c33 c34 => J7 j0 (c0, c1, c2, c3, c4, c5, c6, c7, c8, c9, c10, c11, c12, c13, c14, c15, c16, c17, c18, c19, c20, c21, c22, c23, c24, c25, c26, c27, c28, c29, c30, c31, c32, c33, c34)) x1 z0 (xg_writesLeft u) (xg_half u) (xg_grouped u) (xg_upKey u) (xg_upNode u) (xg_waiting u) (xg_wrong u) (xg_seenNodes u) (xg_seenKeys u) (xg_disk u) (xg_images u) (xg_rows u) (xg_anchors u) (xg_copies u) (xg_loaded u) (xg_changed u) (xg_imageOf u) (xg_rowAt u) (xg_rowsUsed u) (xg_imageAt u) (xg_imagesUsed u) (xg_nextSaving u) (xg_anchorNumber u) (xg_selected u) (xg_viewLength u) (xg_view u) (xg_group u) (xg_wayNode u) (xg_waySlot u) (xg_wideKey u) (xg_wideItem u) (xg_walkNode u) (xg_walkLevel u) (xg_walkLow u) (xg_walkHigh u)
theorem xe_faults_52 (post : Int32 → SX → Prop) (J7 : Int32 → SX → Prop) (x1 : Int32) (z0 : Int32) (u : SX) : xc_faults_52 post J7 x1 z0 u = (wpX_expect (fun u150 => (wpX_checkRecords (fun u186 => (wpX_changedBlocks (fun r_221 => (((r_221 = 0 → (xc_faults_76 post J7 x1 1 u186)) ∧ (¬ r_221 = 0 → (xc_faults_76 post J7 x1 0 u186))))) u186 x1)) u150 x1)) u z0) := rfl
def xc_faults_7 (post : Int32 → SX → Prop) (n : Nat) (x1 : Int32) (u : SX) : Prop := wX_faults_7 post n x1 (xg_writesLeft u) (xg_half u) (xg_grouped u) (xg_upKey u) (xg_upNode u) (xg_waiting u) (xg_wrong u) (xg_seenNodes u) (xg_seenKeys u) (xg_disk u) (xg_images u) (xg_rows u) (xg_anchors u) (xg_copies u) (xg_loaded u) (xg_changed u) (xg_imageOf u) (xg_rowAt u) (xg_rowsUsed u) (xg_imageAt u) (xg_imagesUsed u) (xg_nextSaving u) (xg_anchorNumber u) (xg_selected u) (xg_viewLength u) (xg_view u) (xg_group u) (xg_wayNode u) (xg_waySlot u) (xg_wideKey u) (xg_wideItem u) (xg_walkNode u) (xg_walkLevel u) (xg_walkLow u) (xg_walkHigh u)
theorem xe_faults_7 (post : Int32 → SX → Prop) (n : Nat) (x1 : Int32) (u : SX) : xc_faults_7 post (n + 1) x1 u = (((4 ≤ x1 → (∃ n87 : Nat, xc_faults_87 post n87 0 u)) ∧ (¬ 4 ≤ x1 → (wpX_checkTree (fun u41 => (wpX_checkTree (fun u77 => (wpX_cell (fun r_112 u113 => (((r_112 = (xg_seenNodes u113) → (xc_faults_52 post (xc_faults_7 post n) x1 1 u113)) ∧ (¬ r_112 = (xg_seenNodes u113) → (xc_faults_52 post (xc_faults_7 post n) x1 0 u113))))) u77 x1 0 6)) u41 x1 1)) (xs_seenNodes u 0) x1 0)))) := rfl
theorem xe_faults (post : Int32 → SX → Prop) (u : SX) : wpX_faults post u = (∃ n7 : Nat, xc_faults_7 post n7 0 (xs_wrong u 0)) := rfl
end
section
def yg_validities (u : SY) : Int32 := u.1
def yg_there (u : SY) : Nat → Int32 := u.2.1
def yg_validity (u : SY) : Nat → Int32 := u.2.2.1
def yg_next (u : SY) : Nat → Int32 := u.2.2.2.1
def yg_highest (u : SY) : Nat → Int32 := u.2.2.2.2.1
def yg_counts (u : SY) : Nat → Int32 := u.2.2.2.2.2.1
def yg_numbers (u : SY) : Nat → Int32 := u.2.2.2.2.2.2.1
def yg_sizes (u : SY) : Nat → Int32 := u.2.2.2.2.2.2.2.1
def yg_flags (u : SY) : Nat → Int32 := u.2.2.2.2.2.2.2.2.1
def yg_changes (u : SY) : Nat → Int32 := u.2.2.2.2.2.2.2.2.2.1
def yg_selected (u : SY) : Nat → Int32 := u.2.2.2.2.2.2.2.2.2.2.1
def yg_lengths (u : SY) : Nat → Int32 := u.2.2.2.2.2.2.2.2.2.2.2.1
def yg_views (u : SY) : Nat → Int32 := u.2.2.2.2.2.2.2.2.2.2.2.2
def ys_validities (u : SY) (v : Int32) : SY := (v, yg_there u, yg_validity u, yg_next u, yg_highest u, yg_counts u, yg_numbers u, yg_sizes u, yg_flags u, yg_changes u, yg_selected u, yg_lengths u, yg_views u)
def ys_there (u : SY) (v : Nat → Int32) : SY := (yg_validities u, v, yg_validity u, yg_next u, yg_highest u, yg_counts u, yg_numbers u, yg_sizes u, yg_flags u, yg_changes u, yg_selected u, yg_lengths u, yg_views u)
def ys_validity (u : SY) (v : Nat → Int32) : SY := (yg_validities u, yg_there u, v, yg_next u, yg_highest u, yg_counts u, yg_numbers u, yg_sizes u, yg_flags u, yg_changes u, yg_selected u, yg_lengths u, yg_views u)
def ys_next (u : SY) (v : Nat → Int32) : SY := (yg_validities u, yg_there u, yg_validity u, v, yg_highest u, yg_counts u, yg_numbers u, yg_sizes u, yg_flags u, yg_changes u, yg_selected u, yg_lengths u, yg_views u)
def ys_highest (u : SY) (v : Nat → Int32) : SY := (yg_validities u, yg_there u, yg_validity u, yg_next u, v, yg_counts u, yg_numbers u, yg_sizes u, yg_flags u, yg_changes u, yg_selected u, yg_lengths u, yg_views u)
def ys_counts (u : SY) (v : Nat → Int32) : SY := (yg_validities u, yg_there u, yg_validity u, yg_next u, yg_highest u, v, yg_numbers u, yg_sizes u, yg_flags u, yg_changes u, yg_selected u, yg_lengths u, yg_views u)
def ys_numbers (u : SY) (v : Nat → Int32) : SY := (yg_validities u, yg_there u, yg_validity u, yg_next u, yg_highest u, yg_counts u, v, yg_sizes u, yg_flags u, yg_changes u, yg_selected u, yg_lengths u, yg_views u)
def ys_sizes (u : SY) (v : Nat → Int32) : SY := (yg_validities u, yg_there u, yg_validity u, yg_next u, yg_highest u, yg_counts u, yg_numbers u, v, yg_flags u, yg_changes u, yg_selected u, yg_lengths u, yg_views u)
def ys_flags (u : SY) (v : Nat → Int32) : SY := (yg_validities u, yg_there u, yg_validity u, yg_next u, yg_highest u, yg_counts u, yg_numbers u, yg_sizes u, v, yg_changes u, yg_selected u, yg_lengths u, yg_views u)
def ys_changes (u : SY) (v : Nat → Int32) : SY := (yg_validities u, yg_there u, yg_validity u, yg_next u, yg_highest u, yg_counts u, yg_numbers u, yg_sizes u, yg_flags u, v, yg_selected u, yg_lengths u, yg_views u)
def ys_selected (u : SY) (v : Nat → Int32) : SY := (yg_validities u, yg_there u, yg_validity u, yg_next u, yg_highest u, yg_counts u, yg_numbers u, yg_sizes u, yg_flags u, yg_changes u, v, yg_lengths u, yg_views u)
def ys_lengths (u : SY) (v : Nat → Int32) : SY := (yg_validities u, yg_there u, yg_validity u, yg_next u, yg_highest u, yg_counts u, yg_numbers u, yg_sizes u, yg_flags u, yg_changes u, yg_selected u, v, yg_views u)
def ys_views (u : SY) (v : Nat → Int32) : SY := (yg_validities u, yg_there u, yg_validity u, yg_next u, yg_highest u, yg_counts u, yg_numbers u, yg_sizes u, yg_flags u, yg_changes u, yg_selected u, yg_lengths u, v)
def yu_0 : SY := (0, fun _ => 0, fun _ => 0, fun _ => 0, fun _ => 0, fun _ => 0, fun _ => 0, fun _ => 0, fun _ => 0, fun _ => 0, fun _ => 0, fun _ => 0, fun _ => 0)
def yc_init_95 (post : SY → Prop) (n : Nat) (x1 : Int32) (u : SY) : Prop := wY_init_95 post (yg_validities u) n x1 (yg_there u) (yg_validity u) (yg_next u) (yg_highest u) (yg_counts u) (yg_numbers u) (yg_sizes u) (yg_flags u) (yg_changes u) (yg_selected u) (yg_lengths u) (yg_views u)
theorem ye_init_95 (post : SY → Prop) (n : Nat) (x1 : Int32) (u : SY) : yc_init_95 post (n + 1) x1 u = (((3 ≤ x1 → (post u)) ∧ (¬ 3 ≤ x1 → (vp_in x1 3 ∧ ∀ a_selected_3, a_selected_3 = upd (yg_selected u) x1.toNatClampNeg (-1) → (∀ x1_4, x1_4 = x1 + 1 → (yc_init_95 post n x1_4 (ys_selected u a_selected_3))))))) := rfl
theorem ye_init (post : SY → Prop) : wpY_init post = (∃ n95 : Nat, yc_init_95 post n95 0 yu_0) := rfl
theorem ye_badBox (post : Int32 → Prop) (u : SY) (p0 : Int32) : wpY_badBox post u p0 = (((p0 < 0 → (post 1)) ∧ (¬ p0 < 0 → (((p0 ≤ 3 → (post 0)) ∧ (¬ p0 ≤ 3 → (post 1))))))) := rfl
theorem ye_badSession (post : Int32 → Prop) (u : SY) (p0 : Int32) : wpY_badSession post u p0 = (((p0 < 0 → (post 1)) ∧ (¬ p0 < 0 → (((p0 ≤ 2 → (post 0)) ∧ (¬ p0 ≤ 2 → (post 1))))))) := rfl
theorem ye_noBox (post : Int32 → Prop) (u : SY) (p0 : Int32) : wpY_noBox post u p0 = (wpY_badBox (fun r_1 => (((r_1 = 0 → (vp_in p0 4 ∧ (((((yg_there u) p0.toNatClampNeg) = 0 → (post (-2))) ∧ (¬ ((yg_there u) p0.toNatClampNeg) = 0 → (post 0)))))) ∧ (¬ r_1 = 0 → (post (-1)))))) u p0) := rfl
def yc_find_5 (post : Int32 → Prop) (x1 : Int32) (x2 : Int32) (u : SY) (n : Nat) (x3 : Int32) : Prop := wY_find_5 post x1 x2 (yg_validities u) (yg_there u) (yg_validity u) (yg_next u) (yg_highest u) (yg_counts u) (yg_numbers u) (yg_sizes u) (yg_flags u) (yg_changes u) (yg_selected u) (yg_lengths u) (yg_views u) n x3
theorem ye_find_5 (post : Int32 → Prop) (x1 : Int32) (x2 : Int32) (u : SY) (n : Nat) (x3 : Int32) : yc_find_5 post x1 x2 u (n + 1) x3 = (vp_in x1 4 ∧ (((((14 * x1) + ((yg_counts u) x1.toNatClampNeg)) ≤ x3 → (post (-1))) ∧ (¬ ((14 * x1) + ((yg_counts u) x1.toNatClampNeg)) ≤ x3 → (vp_in x3 56 ∧ (((((yg_numbers u) x3.toNatClampNeg) = x2 → (post x3)) ∧ (¬ ((yg_numbers u) x3.toNatClampNeg) = x2 → (∀ x3_6, x3_6 = x3 + 1 → (yc_find_5 post x1 x2 u n x3_6)))))))))) := rfl
theorem ye_find (post : Int32 → Prop) (u : SY) (p0 : Int32) (p1 : Int32) : wpY_find post u p0 p1 = (∀ x3_1, x3_1 = 14 * p0 → (∃ n5 : Nat, yc_find_5 post p0 p1 u n5 x3_1)) := rfl
theorem ye_has (post : Int32 → Prop) (u : SY) (p0 : Int32) (p1 : Int32) (p2 : Int32) : wpY_has post u p0 p1 p2 = ((((p0 &&& p1) = (p2 &&& p1) → (post 1)) ∧ (¬ (p0 &&& p1) = (p2 &&& p1) → (post 0)))) := rfl
theorem ye_create (post : Int32 → SY → Prop) (u : SY) (p0 : Int32) : wpY_create post u p0 = (wpY_badBox (fun r_1 => (((r_1 = 0 → (vp_in p0 4 ∧ (((((yg_there u) p0.toNatClampNeg) = 0 → (vp_in p0 4 ∧ ∀ a_there_19, a_there_19 = upd (yg_there u) p0.toNatClampNeg (vp_nar .boolean 1) → (∀ f_validities_20, f_validities_20 = (yg_validities u) + 1 → (vp_in p0 4 ∧ ∀ a_validity_22, a_validity_22 = upd (yg_validity u) p0.toNatClampNeg f_validities_20 → (vp_in p0 4 ∧ ∀ a_next_24, a_next_24 = upd (yg_next u) p0.toNatClampNeg 1 → (vp_in p0 4 ∧ ∀ a_highest_26, a_highest_26 = upd (yg_highest u) p0.toNatClampNeg 1 → (vp_in p0 4 ∧ ∀ a_counts_28, a_counts_28 = upd (yg_counts u) p0.toNatClampNeg 0 → (post f_validities_20 (f_validities_20, a_there_19, a_validity_22, a_next_24, a_highest_26, a_counts_28, yg_numbers u, yg_sizes u, yg_flags u, yg_changes u, yg_selected u, yg_lengths u, yg_views u))))))))) ∧ (¬ ((yg_there u) p0.toNatClampNeg) = 0 → (post (-5) u)))))) ∧ (¬ r_1 = 0 → (post (-1) u))))) u p0) := rfl
def yc_remove_23 (post : Int32 → SY → Prop) (x1 : Int32) (n : Nat) (x2 : Int32) (u : SY) : Prop := wY_remove_23 post x1 (yg_validities u) n x2 (yg_there u) (yg_validity u) (yg_next u) (yg_highest u) (yg_counts u) (yg_numbers u) (yg_sizes u) (yg_flags u) (yg_changes u) (yg_selected u) (yg_lengths u) (yg_views u)
theorem ye_remove_23 (post : Int32 → SY → Prop) (x1 : Int32) (n : Nat) (x2 : Int32) (u : SY) : yc_remove_23 post x1 (n + 1) x2 u = (((3 ≤ x2 → (vp_in x1 4 ∧ (post ((yg_counts u) x1.toNatClampNeg) u))) ∧ (¬ 3 ≤ x2 → (vp_in x2 3 ∧ (((((yg_selected u) x2.toNatClampNeg) = x1 → (vp_in x2 3 ∧ ∀ a_selected_24, a_selected_24 = upd (yg_selected u) x2.toNatClampNeg (-1) → (∀ x2_25, x2_25 = x2 + 1 → (yc_remove_23 post x1 n x2_25 (ys_selected u a_selected_24))))) ∧ (¬ ((yg_selected u) x2.toNatClampNeg) = x1 → (∀ x2_22, x2_22 = x2 + 1 → (yc_remove_23 post x1 n x2_22 u))))))))) := rfl
theorem ye_remove (post : Int32 → SY → Prop) (u : SY) (p0 : Int32) : wpY_remove post u p0 = (wpY_noBox (fun r_1 => (((0 ≤ r_1 → (vp_in p0 4 ∧ ∀ a_there_17, a_there_17 = upd (yg_there u) p0.toNatClampNeg (vp_nar .boolean 0) → (∃ n23 : Nat, yc_remove_23 post p0 n23 0 (ys_there u a_there_17)))) ∧ (¬ 0 ≤ r_1 → (wpY_noBox (fun r_26 => (post r_26 u)) u p0))))) u p0) := rfl
theorem ye_refused (post : Int32 → Prop) (u : SY) (p0 : Int32) (p1 : Int32) (p2 : Int32) : wpY_refused post u p0 p1 p2 = (wpY_badBox (fun r_1 => (((r_1 = 0 → (((p1 < 1 → (post (-1))) ∧ (¬ p1 < 1 → (((1000 < p1 → (post (-1))) ∧ (¬ 1000 < p1 → (((p2 < 0 → (post (-1))) ∧ (¬ p2 < 0 → (((p2 ≤ 31 → (vp_in p0 4 ∧ (((((yg_there u) p0.toNatClampNeg) = 0 → (post (-2))) ∧ (¬ ((yg_there u) p0.toNatClampNeg) = 0 → (vp_in p0 4 ∧ (((((yg_counts u) p0.toNatClampNeg) = 14 → (post (-3))) ∧ (¬ ((yg_counts u) p0.toNatClampNeg) = 14 → (post 0)))))))))) ∧ (¬ p2 ≤ 31 → (post (-1))))))))))))))) ∧ (¬ r_1 = 0 → (post (-1)))))) u p0) := rfl
theorem ye_add (post : Int32 → SY → Prop) (u : SY) (p0 : Int32) (p1 : Int32) (p2 : Int32) : wpY_add post u p0 p1 p2 = (vp_in p0 4 ∧ (∀ x4_2, x4_2 = (14 * p0) + ((yg_counts u) p0.toNatClampNeg) → (vp_in p0 4 ∧ (vp_in p0 4 ∧ ∀ a_highest_5, a_highest_5 = upd (yg_highest u) p0.toNatClampNeg (((yg_highest u) p0.toNatClampNeg) + 1) → (vp_in p0 4 ∧ (vp_in x4_2 56 ∧ ∀ a_numbers_8, a_numbers_8 = upd (yg_numbers u) x4_2.toNatClampNeg ((yg_next u) p0.toNatClampNeg) → (vp_in x4_2 56 ∧ ∀ a_sizes_10, a_sizes_10 = upd (yg_sizes u) x4_2.toNatClampNeg p1 → (vp_in x4_2 56 ∧ ∀ a_flags_12, a_flags_12 = upd (yg_flags u) x4_2.toNatClampNeg p2 → (vp_in p0 4 ∧ (vp_in x4_2 56 ∧ ∀ a_changes_15, a_changes_15 = upd (yg_changes u) x4_2.toNatClampNeg (a_highest_5 p0.toNatClampNeg) → (vp_in p0 4 ∧ (vp_in p0 4 ∧ ∀ a_counts_18, a_counts_18 = upd (yg_counts u) p0.toNatClampNeg (((yg_counts u) p0.toNatClampNeg) + 1) → (vp_in p0 4 ∧ (vp_in p0 4 ∧ ∀ a_next_21, a_next_21 = upd (yg_next u) p0.toNatClampNeg (((yg_next u) p0.toNatClampNeg) + 1) → (vp_in x4_2 56 ∧ (post (a_numbers_8 x4_2.toNatClampNeg) (yg_validities u, yg_there u, yg_validity u, a_next_21, a_highest_5, a_counts_18, a_numbers_8, a_sizes_10, a_flags_12, a_changes_15, yg_selected u, yg_lengths u, yg_views u))))))))))))))))) := rfl
theorem ye_append (post : Int32 → SY → Prop) (u : SY) (p0 : Int32) (p1 : Int32) (p2 : Int32) : wpY_append post u p0 p1 p2 = (wpY_refused (fun r_1 => (((0 ≤ r_1 → (wpY_add (fun r_16 u17 => (post r_16 u17)) u p0 p1 p2)) ∧ (¬ 0 ≤ r_1 → (post r_1 u))))) u p0 p1 p2) := rfl
theorem ye_status (post : Int32 → Prop) (u : SY) (p0 : Int32) (p1 : Int32) : wpY_status post u p0 p1 = (wpY_badBox (fun r_1 => (((r_1 = 0 → (((p1 < 0 → (post (-1))) ∧ (¬ p1 < 0 → (((p1 ≤ 3 → (vp_in p0 4 ∧ (((((yg_there u) p0.toNatClampNeg) = 0 → (post (-2))) ∧ (¬ ((yg_there u) p0.toNatClampNeg) = 0 → (((p1 = 0 → (vp_in p0 4 ∧ (post ((yg_validity u) p0.toNatClampNeg)))) ∧ (¬ p1 = 0 → (((p1 = 1 → (vp_in p0 4 ∧ (post ((yg_next u) p0.toNatClampNeg)))) ∧ (¬ p1 = 1 → (((p1 = 2 → (vp_in p0 4 ∧ (post ((yg_highest u) p0.toNatClampNeg)))) ∧ (¬ p1 = 2 → (vp_in p0 4 ∧ (post ((yg_counts u) p0.toNatClampNeg))))))))))))))))) ∧ (¬ p1 ≤ 3 → (post (-1))))))))) ∧ (¬ r_1 = 0 → (post (-1)))))) u p0) := rfl
def yc_counting_41 (post : Int32 → Prop) (x1 : Int32) (x2 : Int32) (u : SY) (n : Nat) (x3 : Int32) (x4 : Int32) : Prop := wY_counting_41 post x1 x2 (yg_validities u) (yg_there u) (yg_validity u) (yg_next u) (yg_highest u) (yg_counts u) (yg_numbers u) (yg_sizes u) (yg_flags u) (yg_changes u) (yg_selected u) (yg_lengths u) (yg_views u) n x3 x4
theorem ye_counting_41 (post : Int32 → Prop) (x1 : Int32) (x2 : Int32) (u : SY) (n : Nat) (x3 : Int32) (x4 : Int32) : yc_counting_41 post x1 x2 u (n + 1) x3 x4 = (vp_in x1 4 ∧ (((((14 * x1) + ((yg_counts u) x1.toNatClampNeg)) ≤ x4 → (post x3)) ∧ (¬ ((14 * x1) + ((yg_counts u) x1.toNatClampNeg)) ≤ x4 → (vp_in x4 56 ∧ (¬ (32 : Int32) = 0 ∧ (¬ (32 : Int32) = 0 ∧ (wpY_has (fun r_26 => (((r_26 = 0 → (∀ x4_41, x4_41 = x4 + 1 → (yc_counting_41 post x1 x2 u n x3 x4_41))) ∧ (¬ r_26 = 0 → (∀ x3_42, x3_42 = x3 + 1 → (∀ x4_43, x4_43 = x4 + 1 → (yc_counting_41 post x1 x2 u n x3_42 x4_43))))))) u ((yg_flags u) x4.toNatClampNeg) (x2 / 32) (x2 - x2 / 32 * 32))))))))) := rfl
theorem ye_counting (post : Int32 → Prop) (u : SY) (p0 : Int32) (p1 : Int32) : wpY_counting post u p0 p1 = (wpY_badBox (fun r_1 => (((r_1 = 0 → (((p1 < 0 → (post (-1))) ∧ (¬ p1 < 0 → (((p1 ≤ 1023 → (vp_in p0 4 ∧ (((((yg_there u) p0.toNatClampNeg) = 0 → (post (-2))) ∧ (¬ ((yg_there u) p0.toNatClampNeg) = 0 → (∀ x4_20, x4_20 = 14 * p0 → (∃ n41 : Nat, yc_counting_41 post p0 p1 u n41 0 x4_20))))))) ∧ (¬ p1 ≤ 1023 → (post (-1))))))))) ∧ (¬ r_1 = 0 → (post (-1)))))) u p0) := rfl
def yc_changedSince_20 (post : Int32 → Prop) (x1 : Int32) (x2 : Int32) (x3 : Int32) (u : SY) (n : Nat) (x4 : Int32) : Prop := wY_changedSince_20 post x1 x2 x3 (yg_validities u) (yg_there u) (yg_validity u) (yg_next u) (yg_highest u) (yg_counts u) (yg_numbers u) (yg_sizes u) (yg_flags u) (yg_changes u) (yg_selected u) (yg_lengths u) (yg_views u) n x4
theorem ye_changedSince_20 (post : Int32 → Prop) (x1 : Int32) (x2 : Int32) (x3 : Int32) (u : SY) (n : Nat) (x4 : Int32) : yc_changedSince_20 post x1 x2 x3 u (n + 1) x4 = (vp_in x1 4 ∧ (((((14 * x1) + ((yg_counts u) x1.toNatClampNeg)) ≤ x4 → (post (-2))) ∧ (¬ ((14 * x1) + ((yg_counts u) x1.toNatClampNeg)) ≤ x4 → (vp_in x4 56 ∧ (((((yg_changes u) x4.toNatClampNeg) ≤ x2 → (∀ x4_21, x4_21 = x4 + 1 → (yc_changedSince_20 post x1 x2 x3 u n x4_21))) ∧ (¬ ((yg_changes u) x4.toNatClampNeg) ≤ x2 → (vp_in x4 56 ∧ (((((yg_numbers u) x4.toNatClampNeg) ≤ x3 → (∀ x4_24, x4_24 = x4 + 1 → (yc_changedSince_20 post x1 x2 x3 u n x4_24))) ∧ (¬ ((yg_numbers u) x4.toNatClampNeg) ≤ x3 → (vp_in x4 56 ∧ (post ((yg_numbers u) x4.toNatClampNeg))))))))))))))) := rfl
theorem ye_changedSince (post : Int32 → Prop) (u : SY) (p0 : Int32) (p1 : Int32) (p2 : Int32) : wpY_changedSince post u p0 p1 p2 = (wpY_noBox (fun r_1 => (((0 ≤ r_1 → (∀ x4_16, x4_16 = 14 * p0 → (∃ n20 : Nat, yc_changedSince_20 post p0 p1 p2 u n20 x4_16))) ∧ (¬ 0 ≤ r_1 → (wpY_noBox (fun r_26 => (post r_26)) u p0))))) u p0) := rfl
theorem ye_vanished (post : Int32 → Prop) (u : SY) (p0 : Int32) (p1 : Int32) : wpY_vanished post u p0 p1 = (wpY_noBox (fun r_1 => (((0 ≤ r_1 → (((p1 ≤ 0 → (post 0)) ∧ (¬ p1 ≤ 0 → (vp_in p0 4 ∧ (((((yg_next u) p0.toNatClampNeg) ≤ p1 → (post 0)) ∧ (¬ ((yg_next u) p0.toNatClampNeg) ≤ p1 → (wpY_find (fun r_19 => (((0 ≤ r_19 → (post 0)) ∧ (¬ 0 ≤ r_19 → (post 1))))) u p0 p1))))))))) ∧ (¬ 0 ≤ r_1 → (wpY_noBox (fun r_34 => (post r_34)) u p0))))) u p0) := rfl
def yc_fill_42 (post : Int32 → SY → Prop) (J20 : Int32 → SY → Prop) (x1 : Int32) (x2 : Int32) (x3 : Int32) (x4 : Int32) (u : SY) (n : Nat) (x5 : Int32) (x6 : Int32) : Prop := wY_fill_42 post (fun j0 c0 c1 c2 c3 c4 c5 c6 c7 c8 c9 c10 c11 => J20 j0 (yg_validities u, c0, c1, c2, c3, c4, c5, c6, c7, c8, c9, c10, c11)) x1 x2 x3 x4 (yg_validities u) (yg_there u) (yg_validity u) (yg_next u) (yg_highest u) (yg_counts u) (yg_numbers u) (yg_sizes u) (yg_flags u) (yg_changes u) (yg_selected u) (yg_lengths u) (yg_views u) n x5 x6
theorem ye_fill_42 (post : Int32 → SY → Prop) (J20 : Int32 → SY → Prop) (x1 : Int32) (x2 : Int32) (x3 : Int32) (x4 : Int32) (u : SY) (n : Nat) (x5 : Int32) (x6 : Int32) : yc_fill_42 post J20 x1 x2 x3 x4 u (n + 1) x5 x6 = (vp_in x1 3 ∧ (((((yg_lengths u) x1.toNatClampNeg) ≤ x6 → (((x5 = 0 → (vp_in x1 3 ∧ (vp_in x4 56 ∧ (vp_in ((14 * x1) + ((yg_lengths u) x1.toNatClampNeg)) 42 ∧ ∀ a_views_16, a_views_16 = upd (yg_views u) ((14 * x1) + ((yg_lengths u) x1.toNatClampNeg)).toNatClampNeg ((yg_numbers u) x4.toNatClampNeg) → (vp_in x1 3 ∧ (vp_in x1 3 ∧ ∀ a_lengths_19, a_lengths_19 = upd (yg_lengths u) x1.toNatClampNeg (((yg_lengths u) x1.toNatClampNeg) + 1) → (∀ x4_20, x4_20 = x4 + 1 → (J20 x4_20 (ys_views (ys_lengths u a_lengths_19) a_views_16))))))))) ∧ (¬ x5 = 0 → (∀ x4_12, x4_12 = x4 + 1 → (J20 x4_12 u)))))) ∧ (¬ ((yg_lengths u) x1.toNatClampNeg) ≤ x6 → (((x5 = 0 → (vp_in ((14 * x1) + x6) 42 ∧ (vp_in x4 56 ∧ (((((yg_views u) ((14 * x1) + x6).toNatClampNeg) = ((yg_numbers u) x4.toNatClampNeg) → (∀ x6_27, x6_27 = x6 + 1 → (yc_fill_42 post J20 x1 x2 x3 x4 u n 1 x6_27))) ∧ (¬ ((yg_views u) ((14 * x1) + x6).toNatClampNeg) = ((yg_numbers u) x4.toNatClampNeg) → (∀ x6_26, x6_26 = x6 + 1 → (yc_fill_42 post J20 x1 x2 x3 x4 u n 0 x6_26)))))))) ∧ (¬ x5 = 0 → (∀ x6_22, x6_22 = x6 + 1 → (yc_fill_42 post J20 x1 x2 x3 x4 u n 1 x6_22))))))))) := rfl
def yc_fill_20 (post : Int32 → SY → Prop) (x1 : Int32) (x2 : Int32) (x3 : Int32) (n : Nat) (x4 : Int32) (u : SY) : Prop := wY_fill_20 post x1 x2 x3 (yg_validities u) n x4 (yg_there u) (yg_validity u) (yg_next u) (yg_highest u) (yg_counts u) (yg_numbers u) (yg_sizes u) (yg_flags u) (yg_changes u) (yg_selected u) (yg_lengths u) (yg_views u)
theorem ye_fill_20 (post : Int32 → SY → Prop) (x1 : Int32) (x2 : Int32) (x3 : Int32) (n : Nat) (x4 : Int32) (u : SY) : yc_fill_20 post x1 x2 x3 (n + 1) x4 u = (vp_in x2 4 ∧ (((((14 * x2) + ((yg_counts u) x2.toNatClampNeg)) ≤ x4 → (vp_in x1 3 ∧ (post (((yg_lengths u) x1.toNatClampNeg) - x3) u))) ∧ (¬ ((14 * x2) + ((yg_counts u) x2.toNatClampNeg)) ≤ x4 → (∃ n42 : Nat, yc_fill_42 post (yc_fill_20 post x1 x2 x3 n) x1 x2 x3 x4 u n42 0 0))))) := rfl
theorem ye_fill (post : Int32 → SY → Prop) (u : SY) (p0 : Int32) : wpY_fill post u p0 = (vp_in p0 3 ∧ (∀ x2_2, x2_2 = (yg_selected u) p0.toNatClampNeg → (vp_in p0 3 ∧ (∀ x3_4, x3_4 = (yg_lengths u) p0.toNatClampNeg → (∀ x4_5, x4_5 = 14 * x2_2 → (∃ n20 : Nat, yc_fill_20 post p0 x2_2 x3_4 n20 x4_5 u)))))) := rfl
def yc_dropGone_4 (post : Int32 → SY → Prop) (x1 : Int32) (n : Nat) (x2 : Int32) (x3 : Int32) (u : SY) : Prop := wY_dropGone_4 post x1 (yg_validities u) n x2 x3 (yg_there u) (yg_validity u) (yg_next u) (yg_highest u) (yg_counts u) (yg_numbers u) (yg_sizes u) (yg_flags u) (yg_changes u) (yg_selected u) (yg_lengths u) (yg_views u)
theorem ye_dropGone_4 (post : Int32 → SY → Prop) (x1 : Int32) (n : Nat) (x2 : Int32) (x3 : Int32) (u : SY) : yc_dropGone_4 post x1 (n + 1) x2 x3 u = (vp_in x1 3 ∧ (((((yg_lengths u) x1.toNatClampNeg) ≤ x3 → (vp_in x1 3 ∧ (∀ x3_4, x3_4 = ((yg_lengths u) x1.toNatClampNeg) - x2 → (vp_in x1 3 ∧ ∀ a_lengths_6, a_lengths_6 = upd (yg_lengths u) x1.toNatClampNeg x2 → (post x3_4 (ys_lengths u a_lengths_6)))))) ∧ (¬ ((yg_lengths u) x1.toNatClampNeg) ≤ x3 → (vp_in ((14 * x1) + x3) 42 ∧ (∀ x4_8, x4_8 = (yg_views u) ((14 * x1) + x3).toNatClampNeg → (vp_in x1 3 ∧ (wpY_find (fun r_10 => (((r_10 < 0 → (∀ x3_25, x3_25 = x3 + 1 → (yc_dropGone_4 post x1 n x2 x3_25 u))) ∧ (¬ r_10 < 0 → (vp_in ((14 * x1) + x2) 42 ∧ ∀ a_views_27, a_views_27 = upd (yg_views u) ((14 * x1) + x2).toNatClampNeg x4_8 → (∀ x2_28, x2_28 = x2 + 1 → (∀ x3_29, x3_29 = x3 + 1 → (yc_dropGone_4 post x1 n x2_28 x3_29 (ys_views u a_views_27))))))))) u ((yg_selected u) x1.toNatClampNeg) x4_8)))))))) := rfl
theorem ye_dropGone (post : Int32 → SY → Prop) (u : SY) (p0 : Int32) : wpY_dropGone post u p0 = (∃ n4 : Nat, yc_dropGone_4 post p0 n4 0 0 u) := rfl
theorem ye_select (post : Int32 → SY → Prop) (u : SY) (p0 : Int32) (p1 : Int32) : wpY_select post u p0 p1 = (wpY_badSession (fun r_1 => (((r_1 = 0 → (wpY_badBox (fun r_16 => (((r_16 = 0 → (vp_in p1 4 ∧ (((((yg_there u) p1.toNatClampNeg) = 0 → (post (-2) u)) ∧ (¬ ((yg_there u) p1.toNatClampNeg) = 0 → (vp_in p0 3 ∧ ∀ a_selected_34, a_selected_34 = upd (yg_selected u) p0.toNatClampNeg p1 → (vp_in p0 3 ∧ ∀ a_lengths_36, a_lengths_36 = upd (yg_lengths u) p0.toNatClampNeg 0 → (wpY_fill (fun r_37 u38 => (post r_37 u38)) (ys_lengths (ys_selected u a_selected_34) a_lengths_36) p0)))))))) ∧ (¬ r_16 = 0 → (post (-1) u))))) u p1)) ∧ (¬ r_1 = 0 → (post (-1) u))))) u p0) := rfl
theorem ye_noView (post : Int32 → Prop) (u : SY) (p0 : Int32) : wpY_noView post u p0 = (wpY_badSession (fun r_1 => (((r_1 = 0 → (vp_in p0 3 ∧ (((0 ≤ ((yg_selected u) p0.toNatClampNeg) → (post 0)) ∧ (¬ 0 ≤ ((yg_selected u) p0.toNatClampNeg) → (post (-2))))))) ∧ (¬ r_1 = 0 → (post (-1)))))) u p0) := rfl
theorem ye_leave (post : Int32 → SY → Prop) (u : SY) (p0 : Int32) : wpY_leave post u p0 = (wpY_noView (fun r_1 => (((0 ≤ r_1 → (vp_in p0 3 ∧ (∀ x2_17, x2_17 = (yg_selected u) p0.toNatClampNeg → (vp_in p0 3 ∧ ∀ a_selected_19, a_selected_19 = upd (yg_selected u) p0.toNatClampNeg (-1) → (post x2_17 (ys_selected u a_selected_19)))))) ∧ (¬ 0 ≤ r_1 → (wpY_noView (fun r_20 => (post r_20 u)) u p0))))) u p0) := rfl
theorem ye_length (post : Int32 → Prop) (u : SY) (p0 : Int32) : wpY_length post u p0 = (wpY_noView (fun r_1 => (((0 ≤ r_1 → (vp_in p0 3 ∧ (post ((yg_lengths u) p0.toNatClampNeg)))) ∧ (¬ 0 ≤ r_1 → (wpY_noView (fun r_17 => (post r_17)) u p0))))) u p0) := rfl
theorem ye_numberAt (post : Int32 → Prop) (u : SY) (p0 : Int32) (p1 : Int32) : wpY_numberAt post u p0 p1 = (wpY_noView (fun r_1 => (((0 ≤ r_1 → (((p1 < 1 → (post (-2))) ∧ (¬ p1 < 1 → (vp_in p0 3 ∧ (((p1 ≤ ((yg_lengths u) p0.toNatClampNeg) → (vp_in (((14 * p0) + p1) - 1) 42 ∧ (post ((yg_views u) (((14 * p0) + p1) - 1).toNatClampNeg)))) ∧ (¬ p1 ≤ ((yg_lengths u) p0.toNatClampNeg) → (post (-2)))))))))) ∧ (¬ 0 ≤ r_1 → (wpY_noView (fun r_20 => (post r_20)) u p0))))) u p0) := rfl
def yc_placeOf_16 (post : Int32 → Prop) (x1 : Int32) (x2 : Int32) (u : SY) (n : Nat) (x3 : Int32) : Prop := wY_placeOf_16 post x1 x2 (yg_validities u) (yg_there u) (yg_validity u) (yg_next u) (yg_highest u) (yg_counts u) (yg_numbers u) (yg_sizes u) (yg_flags u) (yg_changes u) (yg_selected u) (yg_lengths u) (yg_views u) n x3
theorem ye_placeOf_16 (post : Int32 → Prop) (x1 : Int32) (x2 : Int32) (u : SY) (n : Nat) (x3 : Int32) : yc_placeOf_16 post x1 x2 u (n + 1) x3 = (vp_in x1 3 ∧ (((((yg_lengths u) x1.toNatClampNeg) ≤ x3 → (post (-2))) ∧ (¬ ((yg_lengths u) x1.toNatClampNeg) ≤ x3 → (vp_in ((14 * x1) + x3) 42 ∧ (((((yg_views u) ((14 * x1) + x3).toNatClampNeg) = x2 → (post (x3 + 1))) ∧ (¬ ((yg_views u) ((14 * x1) + x3).toNatClampNeg) = x2 → (∀ x3_20, x3_20 = x3 + 1 → (yc_placeOf_16 post x1 x2 u n x3_20)))))))))) := rfl
theorem ye_placeOf (post : Int32 → Prop) (u : SY) (p0 : Int32) (p1 : Int32) : wpY_placeOf post u p0 p1 = (wpY_noView (fun r_1 => (((0 ≤ r_1 → (∃ n16 : Nat, yc_placeOf_16 post p0 p1 u n16 0)) ∧ (¬ 0 ≤ r_1 → (wpY_noView (fun r_21 => (post r_21)) u p0))))) u p0) := rfl
theorem ye_messageAt (post : Int32 → Prop) (u : SY) (p0 : Int32) (p1 : Int32) : wpY_messageAt post u p0 p1 = (wpY_numberAt (fun r_1 => (((0 ≤ r_1 → (vp_in p0 3 ∧ (wpY_find (fun r_17 => (((0 ≤ r_17 → (post r_17)) ∧ (¬ 0 ≤ r_17 → (post (-4)))))) u ((yg_selected u) p0.toNatClampNeg) r_1))) ∧ (¬ 0 ≤ r_1 → (post r_1))))) u p0 p1) := rfl
theorem ye_fetch (post : Int32 → Prop) (u : SY) (p0 : Int32) (p1 : Int32) (p2 : Int32) : wpY_fetch post u p0 p1 p2 = (wpY_badSession (fun r_1 => (((r_1 = 0 → (((p2 < 0 → (post (-1))) ∧ (¬ p2 < 0 → (((p2 ≤ 2 → (wpY_messageAt (fun r_18 => (((0 ≤ r_18 → (((p2 = 0 → (vp_in r_18 56 ∧ (post ((yg_flags u) r_18.toNatClampNeg)))) ∧ (¬ p2 = 0 → (((p2 = 1 → (vp_in r_18 56 ∧ (post ((yg_sizes u) r_18.toNatClampNeg)))) ∧ (¬ p2 = 1 → (vp_in r_18 56 ∧ (post ((yg_changes u) r_18.toNatClampNeg)))))))))) ∧ (¬ 0 ≤ r_18 → (post r_18))))) u p0 p1)) ∧ (¬ p2 ≤ 2 → (post (-1))))))))) ∧ (¬ r_1 = 0 → (post (-1)))))) u p0) := rfl
def yc_store_84 (post : Int32 → SY → Prop) (x1 : Int32) (x4 : Int32) (z0 : Int32) (u : SY) : Prop := wY_store_84 post x1 x4 z0 (yg_validities u) (yg_there u) (yg_validity u) (yg_next u) (yg_highest u) (yg_counts u) (yg_numbers u) (yg_sizes u) (yg_flags u) (yg_changes u) (yg_selected u) (yg_lengths u) (yg_views u)
theorem ye_store_84 (post : Int32 → SY → Prop) (x1 : Int32) (x4 : Int32) (z0 : Int32) (u : SY) : yc_store_84 post x1 x4 z0 u = (vp_in x4 56 ∧ (((z0 = ((yg_flags u) x4.toNatClampNeg) → (vp_in x4 56 ∧ ∀ a_flags_41, a_flags_41 = upd (yg_flags u) x4.toNatClampNeg z0 → (post z0 (ys_flags u a_flags_41)))) ∧ (¬ z0 = ((yg_flags u) x4.toNatClampNeg) → (vp_in x1 3 ∧ (vp_in ((yg_selected u) x1.toNatClampNeg) 4 ∧ (vp_in ((yg_selected u) x1.toNatClampNeg) 4 ∧ ∀ a_highest_45, a_highest_45 = upd (yg_highest u) ((yg_selected u) x1.toNatClampNeg).toNatClampNeg (((yg_highest u) ((yg_selected u) x1.toNatClampNeg).toNatClampNeg) + 1) → (vp_in x1 3 ∧ (vp_in ((yg_selected u) x1.toNatClampNeg) 4 ∧ (vp_in x4 56 ∧ ∀ a_changes_49, a_changes_49 = upd (yg_changes u) x4.toNatClampNeg (a_highest_45 ((yg_selected u) x1.toNatClampNeg).toNatClampNeg) → (vp_in x4 56 ∧ ∀ a_flags_51, a_flags_51 = upd (yg_flags u) x4.toNatClampNeg z0 → (post z0 (yg_validities u, yg_there u, yg_validity u, yg_next u, a_highest_45, yg_counts u, yg_numbers u, yg_sizes u, a_flags_51, a_changes_49, yg_selected u, yg_lengths u, yg_views u))))))))))))) := rfl
theorem ye_store (post : Int32 → SY → Prop) (u : SY) (p0 : Int32) (p1 : Int32) (p2 : Int32) : wpY_store post u p0 p1 p2 = (wpY_badSession (fun r_1 => (((r_1 = 0 → (((p2 < 0 → (post (-1) u)) ∧ (¬ p2 < 0 → (((p2 ≤ 95 → (wpY_messageAt (fun r_18 => (((0 ≤ r_18 → (¬ (32 : Int32) = 0 ∧ (∀ x5_34, x5_34 = p2 - p2 / 32 * 32 → (((32 ≤ p2 → (((64 ≤ p2 → (vp_in r_18 56 ∧ (yc_store_84 post p0 r_18 (((yg_flags u) r_18.toNatClampNeg) &&& (x5_34 ^^^ (-1))) u))) ∧ (¬ 64 ≤ p2 → (vp_in r_18 56 ∧ (yc_store_84 post p0 r_18 (((yg_flags u) r_18.toNatClampNeg) ||| x5_34) u)))))) ∧ (¬ 32 ≤ p2 → (yc_store_84 post p0 r_18 x5_34 u))))))) ∧ (¬ 0 ≤ r_18 → (post r_18 u))))) u p0 p1)) ∧ (¬ p2 ≤ 95 → (post (-1) u)))))))) ∧ (¬ r_1 = 0 → (post (-1) u))))) u p0) := rfl
def yc_expunge_29 (post : Int32 → SY → Prop) (x1 : Int32) (x2 : Int32) (n : Nat) (x3 : Int32) (x4 : Int32) (u : SY) : Prop := wY_expunge_29 post x1 x2 (yg_validities u) n x3 x4 (yg_there u) (yg_validity u) (yg_next u) (yg_highest u) (yg_counts u) (yg_numbers u) (yg_sizes u) (yg_flags u) (yg_changes u) (yg_selected u) (yg_lengths u) (yg_views u)
theorem ye_expunge_29 (post : Int32 → SY → Prop) (x1 : Int32) (x2 : Int32) (n : Nat) (x3 : Int32) (x4 : Int32) (u : SY) : yc_expunge_29 post x1 x2 (n + 1) x3 x4 u = (vp_in x2 4 ∧ (((((14 * x2) + ((yg_counts u) x2.toNatClampNeg)) ≤ x4 → (vp_in x2 4 ∧ (∀ x4_22, x4_22 = ((yg_counts u) x2.toNatClampNeg) - x3 → (vp_in x2 4 ∧ ∀ a_counts_24, a_counts_24 = upd (yg_counts u) x2.toNatClampNeg x3 → (vp_in x2 4 ∧ (vp_in x2 4 ∧ ∀ a_highest_27, a_highest_27 = upd (yg_highest u) x2.toNatClampNeg (((yg_highest u) x2.toNatClampNeg) + x4_22) → (wpY_dropGone (fun r_28 u29 => (post x4_22 u29)) (ys_counts (ys_highest u a_highest_27) a_counts_24) x1))))))) ∧ (¬ ((14 * x2) + ((yg_counts u) x2.toNatClampNeg)) ≤ x4 → (vp_in x4 56 ∧ (¬ (2 : Int32) = 0 ∧ ((((((yg_flags u) x4.toNatClampNeg) - ((yg_flags u) x4.toNatClampNeg) / 2 * 2) = 0 → (∀ x5_46, x5_46 = (14 * x2) + x3 → (vp_in x4 56 ∧ (vp_in x5_46 56 ∧ ∀ a_numbers_49, a_numbers_49 = upd (yg_numbers u) x5_46.toNatClampNeg ((yg_numbers u) x4.toNatClampNeg) → (vp_in x4 56 ∧ (vp_in x5_46 56 ∧ ∀ a_sizes_52, a_sizes_52 = upd (yg_sizes u) x5_46.toNatClampNeg ((yg_sizes u) x4.toNatClampNeg) → (vp_in x4 56 ∧ (vp_in x5_46 56 ∧ ∀ a_flags_55, a_flags_55 = upd (yg_flags u) x5_46.toNatClampNeg ((yg_flags u) x4.toNatClampNeg) → (vp_in x4 56 ∧ (vp_in x5_46 56 ∧ ∀ a_changes_58, a_changes_58 = upd (yg_changes u) x5_46.toNatClampNeg ((yg_changes u) x4.toNatClampNeg) → (∀ x3_59, x3_59 = x3 + 1 → (∀ x4_60, x4_60 = x4 + 1 → (yc_expunge_29 post x1 x2 n x3_59 x4_60 (yg_validities u, yg_there u, yg_validity u, yg_next u, yg_highest u, yg_counts u, a_numbers_49, a_sizes_52, a_flags_55, a_changes_58, yg_selected u, yg_lengths u, yg_views u)))))))))))))) ∧ (¬ (((yg_flags u) x4.toNatClampNeg) - ((yg_flags u) x4.toNatClampNeg) / 2 * 2) = 0 → (∀ x4_45, x4_45 = x4 + 1 → (yc_expunge_29 post x1 x2 n x3 x4_45 u))))))))))) := rfl
theorem ye_expunge (post : Int32 → SY → Prop) (u : SY) (p0 : Int32) : wpY_expunge post u p0 = (wpY_noView (fun r_1 => (((0 ≤ r_1 → (vp_in p0 3 ∧ (∀ x2_17, x2_17 = (yg_selected u) p0.toNatClampNeg → (∀ x4_18, x4_18 = 14 * x2_17 → (∃ n29 : Nat, yc_expunge_29 post p0 x2_17 n29 0 x4_18 u))))) ∧ (¬ 0 ≤ r_1 → (wpY_noView (fun r_61 => (post r_61 u)) u p0))))) u p0) := rfl
theorem ye_poll (post : Int32 → SY → Prop) (u : SY) (p0 : Int32) : wpY_poll post u p0 = (wpY_noView (fun r_1 => (((0 ≤ r_1 → (wpY_dropGone (fun r_16 u17 => (wpY_fill (fun r_30 u31 => (post (r_16 + r_30) u31)) u17 p0)) u p0)) ∧ (¬ 0 ≤ r_1 → (wpY_noView (fun r_44 => (post r_44 u)) u p0))))) u p0) := rfl
theorem ye_copy (post : Int32 → SY → Prop) (u : SY) (p0 : Int32) (p1 : Int32) (p2 : Int32) : wpY_copy post u p0 p1 p2 = (wpY_badSession (fun r_1 => (((r_1 = 0 → (wpY_badBox (fun r_16 => (((r_16 = 0 → (wpY_messageAt (fun r_31 => (((0 ≤ r_31 → (vp_in p2 4 ∧ (((((yg_there u) p2.toNatClampNeg) = 0 → (post (-2) u)) ∧ (¬ ((yg_there u) p2.toNatClampNeg) = 0 → (vp_in p2 4 ∧ (((((yg_counts u) p2.toNatClampNeg) = 14 → (post (-3) u)) ∧ (¬ ((yg_counts u) p2.toNatClampNeg) = 14 → (vp_in r_31 56 ∧ (vp_in r_31 56 ∧ (wpY_add (fun r_52 u53 => (post r_52 u53)) u p2 ((yg_sizes u) r_31.toNatClampNeg) ((yg_flags u) r_31.toNatClampNeg))))))))))))) ∧ (¬ 0 ≤ r_31 → (post r_31 u))))) u p0 p1)) ∧ (¬ r_16 = 0 → (post (-1) u))))) u p2)) ∧ (¬ r_1 = 0 → (post (-1) u))))) u p0) := rfl
def yc_search_36 (post : Int32 → Prop) (x1 : Int32) (x2 : Int32) (x3 : Int32) (x4 : Int32) (u : SY) (n : Nat) (x5 : Int32) : Prop := wY_search_36 post x1 x2 x3 x4 (yg_validities u) (yg_there u) (yg_validity u) (yg_next u) (yg_highest u) (yg_counts u) (yg_numbers u) (yg_sizes u) (yg_flags u) (yg_changes u) (yg_selected u) (yg_lengths u) (yg_views u) n x5
theorem ye_search_36 (post : Int32 → Prop) (x1 : Int32) (x2 : Int32) (x3 : Int32) (x4 : Int32) (u : SY) (n : Nat) (x5 : Int32) : yc_search_36 post x1 x2 x3 x4 u (n + 1) x5 = (vp_in x1 3 ∧ (((((yg_lengths u) x1.toNatClampNeg) < x5 → (post (-2))) ∧ (¬ ((yg_lengths u) x1.toNatClampNeg) < x5 → (wpY_messageAt (fun r_22 => (((x5 ≤ x4 → (∀ x5_37, x5_37 = x5 + 1 → (yc_search_36 post x1 x2 x3 x4 u n x5_37))) ∧ (¬ x5 ≤ x4 → (((r_22 < 0 → (∀ x5_39, x5_39 = x5 + 1 → (yc_search_36 post x1 x2 x3 x4 u n x5_39))) ∧ (¬ r_22 < 0 → (vp_in r_22 56 ∧ (¬ (32 : Int32) = 0 ∧ (¬ (32 : Int32) = 0 ∧ (wpY_has (fun r_43 => (((r_43 = 0 → (∀ x5_58, x5_58 = x5 + 1 → (yc_search_36 post x1 x2 x3 x4 u n x5_58))) ∧ (¬ r_43 = 0 → (vp_in r_22 56 ∧ (((((yg_sizes u) r_22.toNatClampNeg) < x3 → (∀ x5_61, x5_61 = x5 + 1 → (yc_search_36 post x1 x2 x3 x4 u n x5_61))) ∧ (¬ ((yg_sizes u) r_22.toNatClampNeg) < x3 → (post x5))))))))) u ((yg_flags u) r_22.toNatClampNeg) (x2 / 32) (x2 - x2 / 32 * 32)))))))))))) u x1 x5))))) := rfl
theorem ye_search (post : Int32 → Prop) (u : SY) (p0 : Int32) (p1 : Int32) (p2 : Int32) (p3 : Int32) : wpY_search post u p0 p1 p2 p3 = (wpY_badSession (fun r_1 => (((r_1 = 0 → (((p1 < 0 → (post (-1))) ∧ (¬ p1 < 0 → (((p1 ≤ 1023 → (vp_in p0 3 ∧ (((0 ≤ ((yg_selected u) p0.toNatClampNeg) → (∃ n36 : Nat, yc_search_36 post p0 p1 p2 p3 u n36 1)) ∧ (¬ 0 ≤ ((yg_selected u) p0.toNatClampNeg) → (post (-2))))))) ∧ (¬ p1 ≤ 1023 → (post (-1))))))))) ∧ (¬ r_1 = 0 → (post (-1)))))) u p0) := rfl
def yc_crash_4 (post : Int32 → SY → Prop) (n : Nat) (x1 : Int32) (x2 : Int32) (u : SY) : Prop := wY_crash_4 post (yg_validities u) n x1 x2 (yg_there u) (yg_validity u) (yg_next u) (yg_highest u) (yg_counts u) (yg_numbers u) (yg_sizes u) (yg_flags u) (yg_changes u) (yg_selected u) (yg_lengths u) (yg_views u)
theorem ye_crash_4 (post : Int32 → SY → Prop) (n : Nat) (x1 : Int32) (x2 : Int32) (u : SY) : yc_crash_4 post (n + 1) x1 x2 u = (((3 ≤ x2 → (post x1 u)) ∧ (¬ 3 ≤ x2 → (vp_in x2 3 ∧ (((((yg_selected u) x2.toNatClampNeg) < 0 → (vp_in x2 3 ∧ ∀ a_selected_5, a_selected_5 = upd (yg_selected u) x2.toNatClampNeg (-1) → (∀ x2_6, x2_6 = x2 + 1 → (yc_crash_4 post n x1 x2_6 (ys_selected u a_selected_5))))) ∧ (¬ ((yg_selected u) x2.toNatClampNeg) < 0 → (∀ x1_7, x1_7 = x1 + 1 → (vp_in x2 3 ∧ ∀ a_selected_9, a_selected_9 = upd (yg_selected u) x2.toNatClampNeg (-1) → (∀ x2_10, x2_10 = x2 + 1 → (yc_crash_4 post n x1_7 x2_10 (ys_selected u a_selected_9)))))))))))) := rfl
theorem ye_crash (post : Int32 → SY → Prop) (u : SY) : wpY_crash post u = (∃ n4 : Nat, yc_crash_4 post n4 0 0 u) := rfl
theorem ye_appendAndCrash (post : Int32 → SY → Prop) (u : SY) (p0 : Int32) (p1 : Int32) (p2 : Int32) : wpY_appendAndCrash post u p0 p1 p2 = (((0 ≤ p1 → (¬ (32 : Int32) = 0 ∧ (¬ (32 : Int32) = 0 ∧ (wpY_refused (fun r_4 => (((0 ≤ r_4 → (wpY_crash (fun r_19 u20 => (post 0 u20)) u)) ∧ (¬ 0 ≤ r_4 → (post r_4 u))))) u p0 (p1 / 32) (p1 - p1 / 32 * 32))))) ∧ (¬ 0 ≤ p1 → (post (-1) u)))) := rfl
theorem ye_idle (post : SY → Prop) (u : SY) (p0 : Int32) (p1 : Int32) : wpY_idle post u p0 p1 = (post u) := rfl
theorem ye_faults (post : Int32 → Prop) (u : SY) : wpY_faults post u = (post 0) := rfl
end
section
theorem na_m2 (s : Nat) : (2 : Int32) * nI s = nI (2 * s) := pk_mul 2 s
theorem na_m3 (s : Nat) : (3 : Int32) * nI s = nI (3 * s) := pk_mul 3 s
theorem na_m4 (s : Nat) : (4 : Int32) * nI s = nI (4 * s) := pk_mul 4 s
theorem na_m5 (s : Nat) : (5 : Int32) * nI s = nI (5 * s) := pk_mul 5 s
theorem na_m8 (s : Nat) : (8 : Int32) * nI s = nI (8 * s) := pk_mul 8 s
theorem na_m10 (s : Nat) : (10 : Int32) * nI s = nI (10 * s) := pk_mul 10 s
theorem na_m14 (s : Nat) : (14 : Int32) * nI s = nI (14 * s) := pk_mul 14 s
theorem na_m16 (s : Nat) : (16 : Int32) * nI s = nI (16 * s) := pk_mul 16 s
theorem na_m32 (s : Nat) : (32 : Int32) * nI s = nI (32 * s) := pk_mul 32 s
theorem na_m41 (s : Nat) : (41 : Int32) * nI s = nI (41 * s) := pk_mul 41 s
theorem na_m48 (s : Nat) : (48 : Int32) * nI s = nI (48 * s) := pk_mul 48 s
theorem na_p1 (s : Nat) : (1 : Int32) + nI s = nI (1 + s) := nI_add 1 s
theorem na_p2 (s : Nat) : (2 : Int32) + nI s = nI (2 + s) := nI_add 2 s
theorem na_p3 (s : Nat) : (3 : Int32) + nI s = nI (3 + s) := nI_add 3 s
theorem na_p4 (s : Nat) : (4 : Int32) + nI s = nI (4 + s) := nI_add 4 s
theorem na_p5 (s : Nat) : (5 : Int32) + nI s = nI (5 + s) := nI_add 5 s
theorem na_p9 (s : Nat) : (9 : Int32) + nI s = nI (9 + s) := nI_add 9 s
theorem na_q1 (s : Nat) : nI s + (1 : Int32) = nI (s + 1) := nI_add s 1
theorem na_q2 (s : Nat) : nI s + (2 : Int32) = nI (s + 2) := nI_add s 2
theorem na_q3 (s : Nat) : nI s + (3 : Int32) = nI (s + 3) := nI_add s 3
theorem na_q4 (s : Nat) : nI s + (4 : Int32) = nI (s + 4) := nI_add s 4
theorem na_q5 (s : Nat) : nI s + (5 : Int32) = nI (s + 5) := nI_add s 5
theorem na_q7 (s : Nat) : nI s + (7 : Int32) = nI (s + 7) := nI_add s 7
theorem na_q9 (s : Nat) : nI s + (9 : Int32) = nI (s + 9) := nI_add s 9
theorem na_q41 (s : Nat) : nI s + (41 : Int32) = nI (s + 41) := nI_add s 41
theorem na_s1 {s : Nat} (h : 1 ≤ s) : nI s - (1 : Int32) = nI (s - 1) := pk_sub (a := s) (b := 1) h
theorem na_s2 {s : Nat} (h : 2 ≤ s) : nI s - (2 : Int32) = nI (s - 2) := pk_sub (a := s) (b := 2) h
theorem na_s3 {s : Nat} (h : 3 ≤ s) : nI s - (3 : Int32) = nI (s - 3) := pk_sub (a := s) (b := 3) h
theorem na_s9 {s : Nat} (h : 9 ≤ s) : nI s - (9 : Int32) = nI (s - 9) := pk_sub (a := s) (b := 9) h
theorem na_t1 {s : Nat} (h : 1 ≤ s) : nI s + (-1 : Int32) = nI (s - 1) := sb_m1 h
theorem na_z (s : Nat) : nI s + (0 : Int32) = nI s := Int32.add_zero _
theorem na_l0 : (0 : Int32) = nI 0 := rfl
theorem na_l1 : (1 : Int32) = nI 1 := rfl
theorem na_l2 : (2 : Int32) = nI 2 := rfl
theorem na_l3 : (3 : Int32) = nI 3 := rfl
theorem na_l4 : (4 : Int32) = nI 4 := rfl
theorem na_l5 : (5 : Int32) = nI 5 := rfl
theorem na_l6 : (6 : Int32) = nI 6 := rfl
theorem na_l7 : (7 : Int32) = nI 7 := rfl
theorem na_l8 : (8 : Int32) = nI 8 := rfl
theorem na_l9 : (9 : Int32) = nI 9 := rfl
theorem na_l10 : (10 : Int32) = nI 10 := rfl
theorem na_l11 : (11 : Int32) = nI 11 := rfl
theorem na_l12 : (12 : Int32) = nI 12 := rfl
theorem na_l13 : (13 : Int32) = nI 13 := rfl
theorem na_l14 : (14 : Int32) = nI 14 := rfl
theorem na_l15 : (15 : Int32) = nI 15 := rfl
theorem na_l16 : (16 : Int32) = nI 16 := rfl
theorem na_le {a b : Nat} {x y : Int32} (hx : x = nI a) (hy : y = nI b) (h : a ≤ b) (hb : b < 2147483648) : x ≤ y := by subst hx hy; exact nI_le h hb
theorem na_nle {a b : Nat} {x y : Int32} (hx : x = nI a) (hy : y = nI b) (h : b < a) (hb : a < 2147483648) : ¬ x ≤ y := by subst hx hy; exact nI_ge h hb
theorem na_lt {a b : Nat} {x y : Int32} (hx : x = nI a) (hy : y = nI b) (h : a < b) (hb : b < 2147483648) : x < y := by subst hx hy; exact nI_lt h hb
theorem na_nlt {a b : Nat} {x y : Int32} (hx : x = nI a) (hy : y = nI b) (h : b ≤ a) (hb : a < 2147483648) : ¬ x < y := by subst hx hy; exact nI_nlt h hb
theorem na_ne {a b : Nat} (ha : a < 2147483648) (hb : b < 2147483648) (h : a ≠ b) : nI a ≠ nI b := fun e => h ((nI_eq ha hb).mp e)
theorem na_inj {a b : Nat} (ha : a < 2147483648) (hb : b < 2147483648) (h : nI a = nI b) : a = b := (nI_eq ha hb).mp h
theorem na_nm1 {a : Nat} (ha : a < 2147483648) : nI a ≠ -1 := by
  intro e
  have h := congrArg Int32.toInt e
  rw [nI_toInt ha, show (-1 : Int32).toInt = -1 from by decide] at h
  omega
theorem na_b0 : vp_nar .boolean 0 = 0 := rfl
theorem na_b1 : vp_nar .boolean 1 = 1 := rfl
theorem na_ti {a : Nat} (ha : a < 2147483648) : (nI a).toInt = (a : Int) := nI_toInt ha
end
section
/-! memories, views of a box, the storage's relation -/
abbrev ms_B : Type := Nat → Nat → Int32
abbrev ms_M : Type := Nat → Nat → Nat → Int32
def ms_mB (M : ms_M) (s : Nat) (B : ms_B) : ms_M := fun s' => if s' = s then B else M s'
def ms_mK (B : ms_B) (b : Nat) (f : Nat → Int32) : ms_B := fun b' => if b' = b then f else B b'
def ms_mC (B : ms_B) (b c : Nat) (v : Int32) : ms_B := ms_mK B b (upd (B b) c v)
theorem ms_mB_s (M : ms_M) (s : Nat) (B : ms_B) : ms_mB M s B s = B := if_pos rfl
theorem ms_mB_o (M : ms_M) {s s' : Nat} (B : ms_B) (h : s' ≠ s) : ms_mB M s B s' = M s' := if_neg h
theorem ms_mB_b (M : ms_M) (s : Nat) (A B : ms_B) : ms_mB (ms_mB M s A) s B = ms_mB M s B := by
  funext s'
  unfold ms_mB
  by_cases h : s' = s <;> simp [h]
theorem ms_mB_i (M : ms_M) (s : Nat) : ms_mB M s (M s) = M := by
  funext s'
  unfold ms_mB
  by_cases h : s' = s
  · subst h; simp
  · simp [h]
theorem ms_mK_s (B : ms_B) (b : Nat) (f : Nat → Int32) : ms_mK B b f b = f := if_pos rfl
theorem ms_mK_o (B : ms_B) {b b' : Nat} (f : Nat → Int32) (h : b' ≠ b) : ms_mK B b f b' = B b' := if_neg h
theorem ms_mC_s (B : ms_B) (b c : Nat) (v : Int32) : ms_mC B b c v b c = v := by
  unfold ms_mC; rw [ms_mK_s]; exact pk_us
theorem ms_mC_c (B : ms_B) {b c c' : Nat} (v : Int32) (h : c' ≠ c) : ms_mC B b c v b c' = B b c' := by
  unfold ms_mC; rw [ms_mK_s]; exact pk_un h
theorem ms_mC_o (B : ms_B) {b b' c : Nat} (v : Int32) (h : b' ≠ b) : ms_mC B b c v b' = B b' := if_neg h
theorem ms_mC_i (B : ms_B) {b c : Nat} {v : Int32} (h : B b c = v) : ms_mC B b c v = B := by
  funext b' c'
  by_cases hb : b' = b
  · subst hb
    by_cases hc : c' = c
    · subst hc; rw [ms_mC_s, h]
    · rw [ms_mC_c _ _ hc]
  · rw [ms_mC_o _ _ hb]
theorem ms_mC_g (B : ms_B) (b c b' c' : Nat) (v : Int32) : ms_mC B b c v b' c' = if b' = b ∧ c' = c then v else B b' c' := by
  by_cases hb : b' = b
  · subst hb
    by_cases hc : c' = c
    · subst hc; rw [ms_mC_s, if_pos ⟨rfl, rfl⟩]
    · rw [ms_mC_c _ _ hc, if_neg (fun z => hc z.2)]
  · rw [ms_mC_o _ _ hb, if_neg (fun z => hb z.1)]
theorem ms_inj {n x y c d : Nat} (hc : c < n) (hd : d < n) (h : n * x + c = n * y + d) : x = y ∧ c = d := by
  have hn : 0 < n := by omega
  have h1 : (n * x + c) / n = x := by rw [Nat.mul_add_div hn, Nat.div_eq_of_lt hc, Nat.add_zero]
  have h2 : (n * y + d) / n = y := by rw [Nat.mul_add_div hn, Nat.div_eq_of_lt hd, Nat.add_zero]
  have h3 : x = y := by rw [← h1, ← h2, h]
  subst h3
  exact ⟨rfl, by omega⟩
def ms_v2 (m n : Nat) (a : Nat → Int32) (s : Nat) : ms_B := fun b c => if b < m ∧ c < n then a (n * (m * s + b) + c) else 0
def ms_v1 (m : Nat) (a : Nat → Int32) (s : Nat) : Nat → Int32 := fun b => if b < m then a (m * s + b) else 0
theorem ms_v2_g {m n : Nat} (a : Nat → Int32) (s : Nat) {b c : Nat} (hb : b < m) (hc : c < n) : ms_v2 m n a s b c = a (n * (m * s + b) + c) := if_pos ⟨hb, hc⟩
theorem ms_v1_g {m : Nat} (a : Nat → Int32) (s : Nat) {b : Nat} (hb : b < m) : ms_v1 m a s b = a (m * s + b) := if_pos hb
theorem ms_v2_u {m n : Nat} (a : Nat → Int32) (s : Nat) {b c : Nat} (v : Int32) (hb : b < m) (hc : c < n) : ms_v2 m n (upd a (n * (m * s + b) + c) v) s = ms_mC (ms_v2 m n a s) b c v := by
  funext b' c'
  rw [ms_mC_g]
  unfold ms_v2 upd
  by_cases h : b' < m ∧ c' < n
  · rw [if_pos h, if_pos h]
    by_cases e : b' = b ∧ c' = c
    · rw [if_pos e, e.1, e.2, if_pos rfl]
    · rw [if_neg e]
      refine if_neg fun z => e ?_
      have h1 := ms_inj h.2 hc z
      exact ⟨by omega, h1.2⟩
  · rw [if_neg h, if_neg h, if_neg]
    intro e
    exact h ⟨e.1 ▸ hb, e.2 ▸ hc⟩
theorem ms_v2_o {m n : Nat} (a : Nat → Int32) {s s' : Nat} {b c : Nat} (v : Int32) (hb : b < m) (hc : c < n) (hs : s' ≠ s) : ms_v2 m n (upd a (n * (m * s + b) + c) v) s' = ms_v2 m n a s' := by
  funext b' c'
  unfold ms_v2 upd
  by_cases h : b' < m ∧ c' < n
  · rw [if_pos h, if_pos h]
    refine if_neg fun z => hs ?_
    exact (ms_inj h.1 hb (ms_inj h.2 hc z).1).1
  · rw [if_neg h, if_neg h]
theorem ms_v1_u {m : Nat} (a : Nat → Int32) (s : Nat) {b : Nat} (v : Int32) (hb : b < m) : ms_v1 m (upd a (m * s + b) v) s = upd (ms_v1 m a s) b v := by
  funext b'
  show (if b' < m then (if m * s + b' = m * s + b then v else a (m * s + b')) else 0) = (if b' = b then v else (if b' < m then a (m * s + b') else 0))
  by_cases h : b' < m
  · rw [if_pos h, if_pos h]
    by_cases e : b' = b
    · rw [if_pos e, e, if_pos rfl]
    · rw [if_neg e, if_neg]
      omega
  · rw [if_neg h, if_neg h, if_neg]
    omega
theorem ms_v1_o {m : Nat} (a : Nat → Int32) {s s' : Nat} {b : Nat} (v : Int32) (hb : b < m) (hs : s' ≠ s) : ms_v1 m (upd a (m * s + b) v) s' = ms_v1 m a s' := by
  funext b'
  unfold ms_v1 upd
  by_cases h : b' < m
  · rw [if_pos h, if_pos h]
    refine if_neg fun z => hs ?_
    exact (ms_inj h hb z).1
  · rw [if_neg h, if_neg h]
/-! parts of a state that are not the storage -/
abbrev ms_TT : Type := Int32 × Int32 × (Nat → Int32) × (Nat → Int32) × (Nat → Int32) × (Nat → Int32)
abbrev ms_YT : Type := Int32 × Int32 × Int32 × Int32 × (Nat → Int32) × (Nat → Int32) × (Nat → Int32) × (Nat → Int32)
abbrev ms_XT : Type := (Nat → Int32) × (Nat → Int32) × (Nat → Int32)
def ms_T (u : SX) : ms_TT := (xg_upKey u, xg_upNode u, xg_wayNode u, xg_waySlot u, xg_wideKey u, xg_wideItem u)
def ms_Y (u : SX) : ms_YT := (xg_waiting u, xg_wrong u, xg_seenNodes u, xg_seenKeys u, xg_walkNode u, xg_walkLevel u, xg_walkLow u, xg_walkHigh u)
def ms_X (u : SX) : ms_XT := (xg_selected u, xg_viewLength u, xg_view u)
/-! views of a state -/
def xv_dk (u : SX) (s : Nat) : ms_B := ms_v2 41 8 (xg_disk u) s
def xv_im (u : SX) (s : Nat) : ms_B := ms_v2 48 8 (xg_images u) s
def xv_rw (u : SX) (s : Nat) : ms_B := ms_v2 14 8 (xg_rows u) s
def xv_an (u : SX) (s : Nat) : ms_B := ms_v2 2 5 (xg_anchors u) s
def xv_cp (u : SX) (s : Nat) : ms_B := ms_v2 41 8 (xg_copies u) s
def xv_ld (u : SX) (s : Nat) : Nat → Int32 := ms_v1 41 (xg_loaded u) s
def xv_ch (u : SX) (s : Nat) : Nat → Int32 := ms_v1 41 (xg_changed u) s
def xv_io (u : SX) (s : Nat) : Nat → Int32 := ms_v1 41 (xg_imageOf u) s
/-! the storage of one box -/
def st_Cache (d : Prop) (V M cp : ms_B) (ld ch : Nat → Int32) : Prop := ∀ b, b < 41 →
  (ld b ≠ 0 → ∀ c, c < 8 → M b c = cp b c) ∧ (ld b = 0 → ch b = 0) ∧ (ch b = 0 → ∀ c, c < 8 → M b c = V b c) ∧ (¬ d → ch b = 0)
def st_nl (S : List Nat) : Nat := (S.length + 3) / 4
def st_rowL (rw : ms_B) (r q : Nat) (S : List Nat) (k : Nat) : Prop :=
  rw ((r + k) % 14) 0 = 1 ∧ rw ((r + k) % 14) 1 = nI q ∧ rw ((r + k) % 14) 2 = nI (min 4 (S.length - 4 * k)) ∧ rw ((r + k) % 14) 7 = nI q ∧ ∀ j, j < 4 → 4 * k + j < S.length → rw ((r + k) % 14) (3 + j) = nI (S.getD (4 * k + j) 0)
def st_rowC (rw : ms_B) (r q : Nat) : Prop := rw (r % 14) 0 = 2 ∧ rw (r % 14) 1 = nI q ∧ rw (r % 14) 7 = nI q
def st_Rows (rw : ms_B) : Nat → Nat → List (List Nat) → Prop
  | _, _, [] => True
  | r, q, S :: LS => (S ≠ [] ∧ S.length ≤ 41 ∧ (∀ b, b ∈ S → b < 41) ∧ (∀ k, k < st_nl S → st_rowL rw r q S k) ∧ st_rowC rw (r + st_nl S) q) ∧ st_Rows rw (r + st_nl S + 1) (q + 1) LS
def st_rn : List (List Nat) → Nat
  | [] => 0
  | S :: LS => st_nl S + 1 + st_rn LS
def st_rD (im : ms_B) : Nat → ms_B → List Nat → ms_B
  | _, D, [] => D
  | i, D, b :: bs => st_rD im (i + 1) (ms_mK D b (im (i % 48))) bs
def st_eq (A B : ms_B) : Prop := ∀ b c, b < 41 → c < 8 → A b c = B b c
def st_Pers (K : Nat) (V dk im rw an : ms_B) (N r0 i0 q0 : Nat) (LS : List (List Nat)) : Prop :=
  (1 ≤ N ∧ N ≤ K ∧ an ((N + 1) % 2) 0 = nI N ∧ an ((N + 1) % 2) 1 = nI r0 ∧ an ((N + 1) % 2) 2 = nI i0 ∧ an ((N + 1) % 2) 3 = nI q0 ∧ an ((N + 1) % 2) 4 = nI N ∧ ∃ N', N' < N ∧ an (N % 2) 0 = nI N' ∧ an (N % 2) 4 = nI N')
  ∧ (r0 < 14 ∧ i0 < 48 ∧ st_rn LS ≤ 14 ∧ LS.flatten.length ≤ 48 ∧ 1 ≤ q0 ∧ q0 + LS.length ≤ K)
  ∧ st_Rows rw r0 q0 LS
  ∧ (∀ j, j < 14 → ∃ m, rw j 7 = nI m ∧ m ≤ q0 + LS.length ∧ (rw j 0 = 2 → m < q0 + LS.length))
  ∧ st_eq (st_rD im i0 dk LS.flatten) V
def st_Vol (V dk im : ms_B) (io : Nat → Int32) (ra ru ia iu ns ac : Int32) (N r0 i0 q0 : Nat) (LS : List (List Nat)) : Prop :=
  (ac = nI N ∧ ra = nI r0 ∧ ia = nI i0 ∧ ru = nI (st_rn LS) ∧ iu = nI LS.flatten.length ∧ ns = nI (q0 + LS.length))
  ∧ ∀ b, b < 41 → (io b = -1 ∧ ∀ c, c < 8 → dk b c = V b c) ∨ (∃ i, i < LS.flatten.length ∧ io b = nI ((i0 + i) % 48) ∧ ∀ c, c < 8 → im ((i0 + i) % 48) c = V b c)
def st_Bx (K : Nat) (d : Prop) (V M : ms_B) (u : SX) (s : Nat) : Prop := ∃ (N r0 i0 q0 : Nat) (LS : List (List Nat)),
  st_Pers K V (xv_dk u s) (xv_im u s) (xv_rw u s) (xv_an u s) N r0 i0 q0 LS
  ∧ st_Vol V (xv_dk u s) (xv_im u s) (xv_io u s) (xg_rowAt u s) (xg_rowsUsed u s) (xg_imageAt u s) (xg_imagesUsed u s) (xg_nextSaving u s) (xg_anchorNumber u s) N r0 i0 q0 LS
  ∧ st_Cache d V M (xv_cp u s) (xv_ld u s) (xv_ch u s)
/-- persistent parts of two states agree at a box -/
def st_Sp (u u' : SX) (s : Nat) : Prop := xv_dk u' s = xv_dk u s ∧ xv_im u' s = xv_im u s ∧ xv_rw u' s = xv_rw u s ∧ xv_an u' s = xv_an u s
def st_Sw (u u' : SX) (s : Nat) : Prop := xv_io u' s = xv_io u s ∧ xg_rowAt u' s = xg_rowAt u s ∧ xg_rowsUsed u' s = xg_rowsUsed u s ∧ xg_imageAt u' s = xg_imageAt u s ∧ xg_imagesUsed u' s = xg_imagesUsed u s ∧ xg_nextSaving u' s = xg_nextSaving u s ∧ xg_anchorNumber u' s = xg_anchorNumber u s
def st_Sc (u u' : SX) (s : Nat) : Prop := xv_cp u' s = xv_cp u s ∧ xv_ld u' s = xv_ld u s ∧ xv_ch u' s = xv_ch u s
def st_S (u u' : SX) (s : Nat) : Prop := st_Sp u u' s ∧ st_Sw u u' s ∧ st_Sc u u' s
theorem st_frame {K : Nat} {d : Prop} {V M : ms_B} {u u' : SX} {s : Nat} (h : st_Bx K d V M u s) (e : st_S u u' s) : st_Bx K d V M u' s := by
  obtain ⟨⟨e1, e2, e3, e4⟩, ⟨f1, f2, f3, f4, f5, f6, f7⟩, g1, g2, g3⟩ := e
  unfold st_Bx
  rw [e1, e2, e3, e4, f1, f2, f3, f4, f5, f6, f7, g1, g2, g3]
  exact h
def ms_R (K w : Nat) (V M : ms_M) (t : ms_TT) (y : ms_YT) (x : ms_XT) (u : SX) : Prop :=
  K ≤ 100000 ∧ (∀ s, s < 4 → st_Bx K (s = w) (V s) (M s) u s) ∧ ms_T u = t ∧ ms_Y u = y ∧ ms_X u = x
end
section
/-! load, cell, setCell, clear -/
theorem na_g (s b : Nat) : (41 : Int32) * nI s + nI b = nI (41 * s + b) := by rw [na_m41, nI_add]
theorem na_8 (g c : Nat) : (8 : Int32) * nI g + nI c = nI (8 * g + c) := by rw [na_m8, nI_add]
theorem na_48 (s c : Nat) : (48 : Int32) * nI s + nI c = nI (48 * s + c) := by rw [na_m48, nI_add]
theorem na_14 (s c : Nat) : (14 : Int32) * nI s + nI c = nI (14 * s + c) := by rw [na_m14, nI_add]
theorem na_16 (s c : Nat) : (16 : Int32) * nI s + nI c = nI (16 * s + c) := by rw [na_m16, nI_add]
theorem na_m1l : (-1 : Int32) < 0 := by decide
theorem ld_loop {post : SX → Prop} {s g : Nat} (hs : s < 4) (hg : g < 164) (src : Nat → Int32) :
    ∀ (d c : Nat) (u : SX), c + d = 8 →
    ((xg_imageOf u g < 0 ∧ ∀ c, c < 8 → xg_disk u (8 * g + c) = src c) ∨ (∃ j, j < 48 ∧ xg_imageOf u g = nI j ∧ ∀ c, c < 8 → xg_images u (8 * (48 * s + j) + c) = src c)) →
    (∀ cp' : Nat → Int32, (∀ j, (j < 8 * g + c ∨ 8 * g + 8 ≤ j) → cp' j = xg_copies u j) → (∀ c', c ≤ c' → c' < 8 → cp' (8 * g + c') = src c') → post (xs_copies u cp')) →
    xc_load_27 post (nI s) (nI g) (d + 1) (nI c) u := by
  intro d
  induction d with
  | zero =>
    intro c u hc _ k
    rw [xe_load_27]
    refine br_t (na_le (a := 8) (b := c) rfl rfl (by omega) (by omega)) ?_
    exact k (xg_copies u) (fun _ _ => rfl) (fun c' _ _ => by omega)
  | succ d ih =>
    intro c u hc hsrc k
    rw [xe_load_27]
    refine br_f (na_nle (a := 8) (b := c) rfl rfl (by omega) (by omega)) ⟨vp_in_nI hg (by omega), ?_⟩
    rw [nI_clamp (n := g) (by omega), na_8, nI_clamp (n := 8 * g + c) (by omega)]
    rcases hsrc with ⟨h1, h2⟩ | ⟨j, hj, h1, h2⟩
    · refine br_t h1 ⟨vp_in_nI (by omega) (by omega), vp_in_nI (by omega) (by omega), ?_⟩
      refine nm_e (nm_r (nI_1 c) ?_)
      refine ih (c + 1) _ (by omega) (Or.inl ⟨h1, h2⟩) (fun cp' k1 k2 => k cp' (fun j hj => ?_) (fun c' h3 h4 => ?_))
      · refine (k1 j (by omega)).trans ?_
        exact pk_un (by omega)
      · by_cases e : c' = c
        · subst e
          refine (k1 _ (by omega)).trans ?_
          refine Eq.trans ?_ (h2 c' h4)
          exact pk_us
        · exact k2 c' (by omega) h4
    · refine br_f (by rw [h1]; exact nI_pos (by omega)) ⟨vp_in_nI hg (by omega), ?_⟩
      rw [h1, na_48, na_8, nI_clamp (n := 8 * (48 * s + j) + c) (by omega)]
      refine ⟨vp_in_nI (by omega) (by omega), vp_in_nI (by omega) (by omega), ?_⟩
      refine nm_e (nm_r (nI_1 c) ?_)
      refine ih (c + 1) _ (by omega) (Or.inr ⟨j, hj, h1, h2⟩) (fun cp' k1 k2 => k cp' (fun j hj => ?_) (fun c' h3 h4 => ?_))
      · refine (k1 j (by omega)).trans ?_
        exact pk_un (by omega)
      · by_cases e : c' = c
        · subst e
          refine (k1 _ (by omega)).trans ?_
          refine Eq.trans ?_ (h2 c' h4)
          exact pk_us
        · exact k2 c' (by omega) h4
theorem ms_v2_x {m n : Nat} {a a' : Nat → Int32} {s : Nat} (h : ∀ b c, b < m → c < n → a' (n * (m * s + b) + c) = a (n * (m * s + b) + c)) : ms_v2 m n a' s = ms_v2 m n a s := by
  funext b c
  unfold ms_v2
  by_cases e : b < m ∧ c < n
  · rw [if_pos e, if_pos e, h b c e.1 e.2]
  · rw [if_neg e, if_neg e]
section
variable {K w : Nat} {V M : ms_M} {t : ms_TT} {y : ms_YT} {x : ms_XT} {u : SX} {s b c : Nat}
theorem ld_load {post : SX → Prop} (hR : ms_R K w V M t y x u) (hs : s < 4) (hb : b < 41) (k : ∀ u', ms_R K w V M t y x u' → xv_ld u' s b ≠ 0 → post u') : wpX_load post u (nI s) (nI b) := by
  rw [xe_load]
  refine nm_r (na_g s b) ⟨vp_in_nI (by omega) (by omega), ?_⟩
  rw [nI_clamp (n := 41 * s + b) (by omega)]
  refine br_c (fun h0 => ?_) (fun h1 => ?_)
  · refine ⟨vp_in_nI (by omega) (by omega), nm_e ⟨9, ?_⟩⟩
    obtain ⟨hK, hB, hT, hY, hX⟩ := hR
    obtain ⟨N, r0, i0, q0, LS, hP, hV, hC⟩ := hB s hs
    have hld : xv_ld u s b = 0 := (ms_v1_g _ _ hb).trans h0
    have hch : xv_ch u s b = 0 := (hC b hb).2.1 hld
    refine ld_loop (post := post) (s := s) (g := 41 * s + b) hs (by omega) (V s b) 8 0 _ (by omega) ?_ ?_
    · rcases hV.2 b hb with ⟨h1, h2⟩ | ⟨i, hi, h1, h2⟩
      · left
        have h3 : xg_imageOf u (41 * s + b) = -1 := (ms_v1_g _ _ hb).symm.trans h1
        refine ⟨?_, fun c hc => ?_⟩
        · show xg_imageOf u (41 * s + b) < 0
          rw [h3]; exact na_m1l
        · exact (ms_v2_g _ _ hb hc).symm.trans (h2 c hc)
      · right
        have h3 : xg_imageOf u (41 * s + b) = nI ((i0 + i) % 48) := (ms_v1_g _ _ hb).symm.trans h1
        have h4 : (i0 + i) % 48 < 48 := Nat.mod_lt _ (by omega)
        exact ⟨_, h4, h3, fun c hc => (ms_v2_g _ _ h4 hc).symm.trans (h2 c hc)⟩
    · intro cp' k1 k2
      have e1 : ∀ s', s' ≠ s → ms_v2 41 8 cp' s' = ms_v2 41 8 (xg_copies u) s' := fun s' h' => ms_v2_x (fun b' c' hb' hc' => k1 _ (by omega))
      refine k _ ⟨hK, fun s' hs' => ?_, hT, hY, hX⟩ ?_
      · by_cases e : s' = s
        · subst e
          refine ⟨N, r0, i0, q0, LS, hP, hV, fun b' hb' => ?_⟩
          have hC' := hC b' hb'
          have f1 : xv_ld (xs_copies (xs_loaded u (upd (xg_loaded u) (41 * s' + b) (vp_nar .boolean 1))) cp') s' = upd (xv_ld u s') b 1 := ms_v1_u _ _ _ hb
          by_cases eb : b' = b
          · subst eb
            refine ⟨fun _ c hc => ?_, fun h => ?_, hC'.2.2.1, hC'.2.2.2⟩
            · rw [hC'.2.2.1 hch c hc]
              exact ((ms_v2_g _ _ hb hc).trans (k2 c (by omega) hc)).symm
            · rw [f1, pk_us] at h
              exact absurd h (by decide)
          · have f2 : xv_ld (xs_copies (xs_loaded u (upd (xg_loaded u) (41 * s' + b) (vp_nar .boolean 1))) cp') s' b' = xv_ld u s' b' := by rw [f1, pk_un eb]
            refine ⟨fun h c hc => ?_, fun h => ?_, hC'.2.2.1, hC'.2.2.2⟩
            · rw [f2] at h
              rw [hC'.1 h c hc]
              refine (ms_v2_g _ _ hb' hc).trans (Eq.trans ?_ (ms_v2_g _ _ hb' hc).symm)
              exact (k1 _ (by omega)).symm
            · rw [f2] at h
              exact hC'.2.1 h
        · exact st_frame (hB s' hs') ⟨⟨rfl, rfl, rfl, rfl⟩, ⟨rfl, rfl, rfl, rfl, rfl, rfl, rfl⟩, e1 s' e, ms_v1_o _ _ hb e, rfl⟩
      · intro h
        have f1 : xv_ld (xs_copies (xs_loaded u (upd (xg_loaded u) (41 * s + b) (vp_nar .boolean 1))) cp') s = upd (xv_ld u s) b 1 := ms_v1_u _ _ _ hb
        rw [f1, pk_us] at h
        exact absurd h (by decide)
  · refine k u hR ?_
    rw [show xv_ld u s b = xg_loaded u (41 * s + b) from ms_v1_g _ _ hb]
    exact h1
theorem ld_cell {post : Int32 → SX → Prop} {ps pb pc : Int32} (hR : ms_R K w V M t y x u) (hs : s < 4) (hb : b < 41) (hc : c < 8) (es : ps = nI s) (eb : pb = nI b) (ec : pc = nI c) (k : ∀ u', ms_R K w V M t y x u' → post (M s b c) u') : wpX_cell post u ps pb pc := by
  subst es eb ec
  rw [xe_cell]
  refine ld_load hR hs hb (fun u2 h2 hl => ?_)
  rw [na_g, na_8, nI_clamp (n := 8 * (41 * s + b) + c) (by omega)]
  refine ⟨vp_in_nI (by omega) (by omega), ?_⟩
  have h3 := h2
  obtain ⟨hK, hB, hT, hY, hX⟩ := h3
  obtain ⟨N, r0, i0, q0, LS, hP, hV, hC⟩ := hB s hs
  have e : xg_copies u2 (8 * (41 * s + b) + c) = M s b c := ((hC b hb).1 hl c hc |>.trans (ms_v2_g _ _ hb hc)).symm
  rw [e]
  exact k u2 h2
theorem ld_set {post : SX → Prop} {ps pb pc v : Int32} (hR : ms_R K w V M t y x u) (hw : w = s) (hs : s < 4) (hb : b < 41) (hc : c < 8) (es : ps = nI s) (eb : pb = nI b) (ec : pc = nI c) (k : ∀ u', ms_R K w V (ms_mB M s (ms_mC (M s) b c v)) t y x u' → post u') : wpX_setCell post u ps pb pc v := by
  subst es eb ec hw
  rw [xe_setCell]
  refine ld_load hR hs hb (fun u2 h2 hl => nm_r (na_g w b) ?_)
  rw [na_8, nI_clamp (n := 8 * (41 * w + b) + c) (by omega), nI_clamp (n := 41 * w + b) (by omega)]
  refine ⟨vp_in_nI (by omega) (by omega), ?_⟩
  have h3 := h2
  obtain ⟨hK, hB, hT, hY, hX⟩ := h3
  obtain ⟨N, r0, i0, q0, LS, hP, hV, hC⟩ := hB w hs
  have e : M w b c = xg_copies u2 (8 * (41 * w + b) + c) := (hC b hb).1 hl c hc |>.trans (ms_v2_g _ _ hb hc)
  refine br_c (fun h0 => ?_) (fun h1 => ?_)
  · refine k u2 ?_
    rw [ms_mC_i _ (e.trans h0), ms_mB_i]
    exact h2
  · refine ⟨vp_in_nI (by omega) (by omega), nm_e ⟨vp_in_nI (by omega) (by omega), nm_e (k _ ⟨hK, fun s' hs' => ?_, hT, hY, hX⟩)⟩⟩
    by_cases es : s' = w
    · subst es
      refine ⟨N, r0, i0, q0, LS, hP, hV, fun b' hb' => ?_⟩
      rw [ms_mB_s]
      have hC' := hC b' hb'
      have f1 : xv_cp (xs_changed (xs_copies u2 (upd (xg_copies u2) (8 * (41 * s' + b) + c) v)) (upd (xg_changed u2) (41 * s' + b) (vp_nar .boolean 1))) s' = ms_mC (xv_cp u2 s') b c v := ms_v2_u _ _ _ hb hc
      have f2 : xv_ch (xs_changed (xs_copies u2 (upd (xg_copies u2) (8 * (41 * s' + b) + c) v)) (upd (xg_changed u2) (41 * s' + b) (vp_nar .boolean 1))) s' = upd (xv_ch u2 s') b 1 := ms_v1_u _ _ _ hb
      rw [f1, f2]
      by_cases eb : b' = b
      · subst eb
        refine ⟨fun _ c' hc' => ?_, fun h => absurd h hl, fun h => ?_, fun h => absurd rfl h⟩
        · by_cases ec : c' = c
          · subst ec; rw [ms_mC_s, ms_mC_s]
          · rw [ms_mC_c _ _ ec, ms_mC_c _ _ ec]
            exact hC'.1 hl c' hc'
        · rw [pk_us] at h
          exact absurd h (by decide)
      · rw [pk_un eb, ms_mC_o _ _ eb, ms_mC_o _ _ eb]
        exact hC'
    · rw [ms_mB_o _ _ es]
      exact st_frame (hB s' hs') ⟨⟨rfl, rfl, rfl, rfl⟩, ⟨rfl, rfl, rfl, rfl, rfl, rfl, rfl⟩, ms_v2_o _ _ hb hc es, rfl, ms_v1_o _ _ hb es⟩
end
end
section
/-! one box's contents: cell, setCell, clear, takeNode, giveNode -/
def ms_RB (K w : Nat) (V : ms_M) (s : Nat) (y : ms_YT) (x : ms_XT) (B : ms_B) (t : ms_TT) (u : SX) : Prop := ms_R K w V (ms_mB V s B) t y x u
theorem nt_and1 (z : Int32) : (z &&& 1) = 1 ↔ bt z 0 = true := by
  rw [pk_and z (m := 1) 1 (by decide)]
  unfold bt
  rw [← BitVec.testBit_toNat, Nat.testBit_zero]
  generalize z.toBitVec.toNat = a
  have h : a % 2 ^ 1 < 2 := Nat.mod_lt _ (by decide)
  rw [show (1 : Int32) = nI 1 from rfl, nI_eq (by omega) (by omega)]
  simp
theorem nt_bit (m : Int32) (k : Nat) (hk : k < 32) : ((m >>> (nI k &&& 31)) &&& 1) = 1 ↔ bt m k = true := by
  rw [nt_and1, b_sshr k hk m (by omega), if_pos (by omega), Nat.add_zero]
theorem nt_one : ∀ k, k < 32 → ∀ i, i < 32 → bt ((1 : Int32) <<< (nI k &&& 31)) i = decide (i = k) := by decide +kernel
theorem nt_or (m : Int32) {k i : Nat} (hk : k < 32) (hi : i < 32) : bt (m ||| ((1 : Int32) <<< (nI k &&& 31))) i = (bt m i || decide (i = k)) := by
  rw [b_or, nt_one k hk i hi]
theorem nt_clr (m : Int32) {k i : Nat} (hk : k < 32) (hi : i < 32) : bt (m &&& (((1 : Int32) <<< (nI k &&& 31)) ^^^ (-1))) i = (bt m i && !decide (i = k)) := by
  rw [b_and, b_xor, nt_one k hk i hi, b_m1 i hi]
  simp
section
variable {K w : Nat} {V : ms_M} {s b c : Nat} {y : ms_YT} {x : ms_XT} {B : ms_B} {t : ms_TT} {u : SX}
theorem rb_cell {post : Int32 → SX → Prop} {ps pb pc : Int32} (hR : ms_RB K w V s y x B t u) (hs : s < 4) (hb : b < 41) (hc : c < 8) (es : ps = nI s) (eb : pb = nI b) (ec : pc = nI c) (k : ∀ u', ms_RB K w V s y x B t u' → post (B b c) u') : wpX_cell post u ps pb pc :=
  ld_cell hR hs hb hc es eb ec (fun u' h' => by rw [ms_mB_s]; exact k u' h')
theorem rb_set {post : SX → Prop} {ps pb pc v : Int32} (hR : ms_RB K w V s y x B t u) (hw : w = s) (hs : s < 4) (hb : b < 41) (hc : c < 8) (es : ps = nI s) (eb : pb = nI b) (ec : pc = nI c) (k : ∀ u', ms_RB K w V s y x (ms_mC B b c v) t u' → post u') : wpX_setCell post u ps pb pc v :=
  ld_set hR hw hs hb hc es eb ec (fun u' h' => k u' (by rw [ms_mB_s, ms_mB_b] at h'; exact h'))
theorem rb_clear0 {post : SX → Prop} (hw : w = s) (hs : s < 4) (hb : b < 41) : ∀ (d c : Nat) (B : ms_B) (u : SX), c + d = 8 → ms_RB K w V s y x B t u →
    (∀ (B' : ms_B) (u' : SX), ms_RB K w V s y x B' t u' → (∀ b', b' ≠ b → B' b' = B b') → (∀ c', c' < c → B' b c' = B b c') → (∀ c', c ≤ c' → c' < 8 → B' b c' = 0) → post u') →
    xc_clear_2 post (nI s) (nI b) (d + 1) (nI c) u := by
  intro d
  induction d with
  | zero =>
    intro c B u hc hR k
    rw [xe_clear_2]
    refine br_t (na_le (a := 8) (b := c) rfl rfl (by omega) (by omega)) ?_
    exact k B u hR (fun _ _ => rfl) (fun _ _ => rfl) (fun c' _ _ => by omega)
  | succ d ih =>
    intro c B u hc hR k
    rw [xe_clear_2]
    refine br_f (na_nle (a := 8) (b := c) rfl rfl (by omega) (by omega)) ?_
    refine rb_set hR hw hs hb (c := c) (by omega) rfl rfl rfl (fun u1 h1 => nm_r (nI_1 c) ?_)
    refine ih (c + 1) _ u1 (by omega) h1 (fun B' u' h' k1 k2 k3 => k B' u' h' (fun b' hb' => ?_) (fun c' hc' => ?_) (fun c' h3 h4 => ?_))
    · rw [k1 b' hb', ms_mC_o _ _ hb']
    · rw [k2 c' (by omega), ms_mC_c _ _ (by omega)]
    · by_cases e : c' = c
      · subst e; rw [k2 c' (by omega), ms_mC_s]
      · exact k3 c' (by omega) h4
theorem rb_clear {post : SX → Prop} {ps pb : Int32} (hR : ms_RB K w V s y x B t u) (hw : w = s) (hs : s < 4) (hb : b < 41) (es : ps = nI s) (eb : pb = nI b)
    (k : ∀ (B' : ms_B) (u' : SX), ms_RB K w V s y x B' t u' → (∀ b', b' ≠ b → B' b' = B b') → (∀ c', c' < 8 → B' b c' = 0) → post u') : wpX_clear post u ps pb := by
  subst es eb
  rw [xe_clear]
  exact ⟨9, rb_clear0 hw hs hb 8 0 B u rfl hR (fun B' u' h' k1 _ k3 => k B' u' h' k1 (fun c' h => k3 c' (by omega) h))⟩
theorem rb_take0 {post : Int32 → SX → Prop} (hw : w = s) (hs : s < 4) (hR : ms_RB K w V s y x B t u)
    (k : ∀ (q : Nat) (B' : ms_B) (u' : SX), q < 31 → bt (B 0 6) q = false → ms_RB K w V s y x B' t u' → (∀ c, c ≠ 6 → B' 0 c = B 0 c) → B' 0 6 = (B 0 6 ||| ((1 : Int32) <<< (nI q &&& 31))) → (∀ b', b' ≠ 0 → b' ≠ 9 + q → B' b' = B b') → (∀ c, c < 8 → B' (9 + q) c = 0) → post (nI (9 + q)) u') :
    ∀ (d q : Nat), q + d = 31 → (∃ i, q ≤ i ∧ i < 31 ∧ bt (B 0 6) i = false) → xc_takeNode_11 post (nI s) (B 0 6) u (d + 1) (nI q) := by
  intro d
  induction d with
  | zero =>
    intro q hq ⟨i, h1, h2, _⟩
    omega
  | succ d ih =>
    intro q hq ⟨i, h1, h2, h3⟩
    rw [xe_takeNode_11]
    refine br_f (na_nle (a := 31) (b := q) rfl rfl (by omega) (by omega)) ?_
    rw [nt_bit _ q (by omega)]
    refine br_c (fun hb => nm_r (nI_1 q) (ih (q + 1) (by omega) ⟨i, ?_, h2, h3⟩)) (fun hb => ?_)
    · rcases Nat.lt_or_ge q i with h | h
      · exact h
      · have : q = i := by omega
        subst this
        rw [h3] at hb
        exact absurd hb (by decide)
    · have hb' : bt (B 0 6) q = false := by
        cases hz : bt (B 0 6) q
        · rfl
        · exact absurd hz hb
      rw [xe_takeNode_32]
      refine rb_set hR hw hs (b := 0) (c := 6) (by omega) (by omega) rfl rfl rfl (fun u1 r1 => ?_)
      refine rb_clear r1 hw hs (b := 9 + q) (by omega) rfl (na_p9 q) (fun B' u' h' k1 k2 => ?_)
      rw [na_p9]
      refine k q B' u' (by omega) hb' h' (fun c hc => ?_) ?_ (fun b' h0 h9 => ?_) k2
      · rw [k1 0 (by omega), ms_mC_c _ _ hc]
      · rw [k1 0 (by omega), ms_mC_s]
      · rw [k1 b' h9, ms_mC_o _ _ h0]
theorem rb_take {post : Int32 → SX → Prop} {ps : Int32} (hR : ms_RB K w V s y x B t u) (hw : w = s) (hs : s < 4) (es : ps = nI s) (hf : ∃ i, i < 31 ∧ bt (B 0 6) i = false)
    (k : ∀ (q : Nat) (B' : ms_B) (u' : SX), q < 31 → bt (B 0 6) q = false → ms_RB K w V s y x B' t u' → (∀ c, c ≠ 6 → B' 0 c = B 0 c) → B' 0 6 = (B 0 6 ||| ((1 : Int32) <<< (nI q &&& 31))) → (∀ b', b' ≠ 0 → b' ≠ 9 + q → B' b' = B b') → (∀ c, c < 8 → B' (9 + q) c = 0) → post (nI (9 + q)) u') : wpX_takeNode post u ps := by
  subst es
  rw [xe_takeNode]
  obtain ⟨i, h1, h2⟩ := hf
  exact rb_cell hR hs (b := 0) (c := 6) (by omega) (by omega) rfl rfl rfl (fun u1 r1 => ⟨32, rb_take0 hw hs r1 k 31 0 rfl ⟨i, by omega, h1, h2⟩⟩)
theorem rb_drop (hR : ms_RB K w V s y x B t u) (hw : w = s) (hs : s < 4) (hb : b < 41) : ms_RB K w V s y x (ms_mK B b (V s b)) t (xs_changed (xs_loaded u (upd (xg_loaded u) (41 * s + b) 0)) (upd (xg_changed u) (41 * s + b) 0)) := by
  subst hw
  obtain ⟨hK, hB, hT, hY, hX⟩ := hR
  refine ⟨hK, fun s' hs' => ?_, hT, hY, hX⟩
  have h := hB s' hs'
  by_cases e : s' = w
  · subst e
    rw [ms_mB_s] at h ⊢
    obtain ⟨N, r0, i0, q0, LS, hP, hV, hC⟩ := h
    refine ⟨N, r0, i0, q0, LS, hP, hV, fun b' hb' => ?_⟩
    have f1 : xv_ld (xs_changed (xs_loaded u (upd (xg_loaded u) (41 * s' + b) 0)) (upd (xg_changed u) (41 * s' + b) 0)) s' = upd (xv_ld u s') b 0 := ms_v1_u _ _ _ hb
    have f2 : xv_ch (xs_changed (xs_loaded u (upd (xg_loaded u) (41 * s' + b) 0)) (upd (xg_changed u) (41 * s' + b) 0)) s' = upd (xv_ch u s') b 0 := ms_v1_u _ _ _ hb
    have f3 : xv_cp (xs_changed (xs_loaded u (upd (xg_loaded u) (41 * s' + b) 0)) (upd (xg_changed u) (41 * s' + b) 0)) s' = xv_cp u s' := rfl
    rw [f1, f2, f3]
    by_cases eb : b' = b
    · subst eb
      rw [pk_us, pk_us, ms_mK_s]
      exact ⟨fun h => absurd rfl h, fun _ => rfl, fun _ _ _ => rfl, fun _ => rfl⟩
    · rw [pk_un eb, pk_un eb, ms_mK_o _ _ eb]
      exact hC b' hb'
  · rw [ms_mB_o _ _ e] at h ⊢
    exact st_frame h ⟨⟨rfl, rfl, rfl, rfl⟩, ⟨rfl, rfl, rfl, rfl, rfl, rfl, rfl⟩, rfl, ms_v1_o _ _ hb e, ms_v1_o _ _ hb e⟩
theorem rb_give {post : SX → Prop} {ps pb : Int32} (hR : ms_RB K w V s y x B t u) (hw : w = s) (hs : s < 4) (hb : b < 41) (h9 : 9 ≤ b) (es : ps = nI s) (eb : pb = nI b)
    (k : ∀ (B' : ms_B) (u' : SX), ms_RB K w V s y x B' t u' → (∀ c, c ≠ 6 → B' 0 c = B 0 c) → B' 0 6 = (B 0 6 &&& (((1 : Int32) <<< (nI (b - 9) &&& 31)) ^^^ (-1))) → (∀ b', b' ≠ 0 → b' ≠ b → B' b' = B b') → post u') : wpX_giveNode post u ps pb := by
  subst es eb
  rw [xe_giveNode]
  refine rb_cell hR hs (b := 0) (c := 6) (by omega) (by omega) rfl rfl rfl (fun u1 r1 => ?_)
  rw [na_s9 h9]
  refine rb_set r1 hw hs (b := 0) (c := 6) (by omega) (by omega) rfl rfl rfl (fun u2 r2 => ?_)
  rw [na_g, nI_clamp (n := 41 * s + b) (by omega)]
  refine ⟨vp_in_nI (by omega) (by omega), nm_e ⟨vp_in_nI (by omega) (by omega), nm_e (k _ _ (rb_drop r2 hw hs hb) (fun c hc => ?_) ?_ (fun b' h0 hb' => ?_))⟩⟩
  · rw [ms_mK_o _ _ (by omega), ms_mC_c _ _ hc]
  · rw [ms_mK_o _ _ (by omega), ms_mC_s]
  · rw [ms_mK_o _ _ hb', ms_mC_o _ _ h0]
end
end
section
/-! trees over a box's contents, by level; pure -/
abbrev tr_KV : Type := List (Int × Nat)
abbrev tr_PS : Type := List (Nat × Int)
def tr_lf (B : ms_B) (x : Nat) (kv : tr_KV) : Prop := B x 0 = nI kv.length ∧ ∀ i p, kv[i]? = some p → (B x (1 + i)).toInt = p.1 ∧ B x (4 + i) = nI p.2
def tr_nd (B : ms_B) (x : Nat) (ps : tr_PS) : Prop := B x 0 = nI ps.length ∧ ∀ i p, ps[i]? = some p → B x (4 + i) = nI p.1 ∧ (i + 1 < ps.length → (B x (1 + i)).toInt = p.2)
def tr_rg (lo hi : Int) (kv : tr_KV) : Prop := (∀ p, p ∈ kv → lo ≤ p.1 ∧ p.1 < hi ∧ p.2 < 14) ∧ kv.Pairwise (fun p q => p.1 < q.1)
def tr_F (P : Nat → Int → Int → tr_KV → List Nat → Prop) : Int → tr_PS → tr_KV → List Nat → Prop
  | _, [], kv, ns => kv = [] ∧ ns = []
  | lo, (c, h) :: ps, kv, ns => ∃ kv1 kv2 ns1 ns2, P c lo h kv1 ns1 ∧ tr_F P h ps kv2 ns2 ∧ kv = kv1 ++ kv2 ∧ ns = ns1 ++ ns2
def tr_hi : Int → tr_PS → Int
  | lo, [] => lo
  | _, (_, h) :: ps => tr_hi h ps
def tr_T (B : ms_B) : Nat → Nat → Nat → Int → Int → tr_KV → List Nat → Prop
  | 0, m, x, lo, hi, kv, ns => tr_lf B x kv ∧ m ≤ kv.length ∧ kv.length ≤ 3 ∧ tr_rg lo hi kv ∧ ns = [x] ∧ 9 ≤ x ∧ x < 41
  | l + 1, m, x, lo, hi, kv, ns => ∃ ps ns', tr_nd B x ps ∧ m ≤ ps.length ∧ ps.length ≤ 4 ∧ tr_hi lo ps = hi ∧ tr_F (tr_T B l 2) lo ps kv ns' ∧ ns = x :: ns' ∧ 9 ≤ x ∧ x < 41
theorem tr_hi_app (A C : tr_PS) : ∀ lo, tr_hi lo (A ++ C) = tr_hi (tr_hi lo A) C := by
  induction A with
  | nil => intro lo; rfl
  | cons p A ih => intro lo; exact ih p.2
theorem tr_F_app {P : Nat → Int → Int → tr_KV → List Nat → Prop} (C : tr_PS) : ∀ (A : tr_PS) (lo : Int) (kv : tr_KV) (ns : List Nat), tr_F P lo (A ++ C) kv ns ↔ ∃ kv1 kv2 ns1 ns2, tr_F P lo A kv1 ns1 ∧ tr_F P (tr_hi lo A) C kv2 ns2 ∧ kv = kv1 ++ kv2 ∧ ns = ns1 ++ ns2 := by
  intro A
  induction A with
  | nil =>
    intro lo kv ns
    constructor
    · intro h
      exact ⟨[], kv, [], ns, ⟨rfl, rfl⟩, h, rfl, rfl⟩
    · rintro ⟨kv1, kv2, ns1, ns2, ⟨rfl, rfl⟩, h, rfl, rfl⟩
      exact h
  | cons p A ih =>
    intro lo kv ns
    obtain ⟨c, h⟩ := p
    constructor
    · rintro ⟨kv1, kv2, ns1, ns2, h1, h2, rfl, rfl⟩
      obtain ⟨kv3, kv4, ns3, ns4, h3, h4, rfl, rfl⟩ := (ih h kv2 ns2).mp h2
      exact ⟨kv1 ++ kv3, kv4, ns1 ++ ns3, ns4, ⟨kv1, kv3, ns1, ns3, h1, h3, rfl, rfl⟩, h4, (List.append_assoc _ _ _).symm, (List.append_assoc _ _ _).symm⟩
    · rintro ⟨kv1, kv2, ns1, ns2, ⟨kv3, kv4, ns3, ns4, h1, h2, rfl, rfl⟩, h3, rfl, rfl⟩
      exact ⟨kv3, kv4 ++ kv2, ns3, ns4 ++ ns2, h1, (ih h _ _).mpr ⟨kv4, kv2, ns4, ns2, h2, h3, rfl, rfl⟩, List.append_assoc _ _ _, List.append_assoc _ _ _⟩
theorem tr_F_1 {P : Nat → Int → Int → tr_KV → List Nat → Prop} {c : Nat} {h lo : Int} {kv : tr_KV} {ns : List Nat} : tr_F P lo [(c, h)] kv ns ↔ P c lo h kv ns := by
  constructor
  · rintro ⟨kv1, kv2, ns1, ns2, h1, ⟨rfl, rfl⟩, rfl, rfl⟩
    rw [List.append_nil, List.append_nil]
    exact h1
  · intro h1
    exact ⟨kv, [], ns, [], h1, ⟨rfl, rfl⟩, (List.append_nil _).symm, (List.append_nil _).symm⟩
theorem tr_F_c {P : Nat → Int → Int → tr_KV → List Nat → Prop} {c : Nat} {h lo : Int} {ps : tr_PS} {kv : tr_KV} {ns : List Nat} : tr_F P lo ((c, h) :: ps) kv ns ↔ ∃ kv1 kv2 ns1 ns2, P c lo h kv1 ns1 ∧ tr_F P h ps kv2 ns2 ∧ kv = kv1 ++ kv2 ∧ ns = ns1 ++ ns2 := Iff.rfl
theorem tr_rg_app {lo m hi : Int} {a b : tr_KV} (ha : tr_rg lo m a) (hb : tr_rg m hi b) (h1 : lo ≤ m) (h2 : m ≤ hi) : tr_rg lo hi (a ++ b) := by
  refine ⟨fun p hp => ?_, List.pairwise_append.mpr ⟨ha.2, hb.2, fun p hp q hq => ?_⟩⟩
  · rcases List.mem_append.mp hp with h | h
    · have := ha.1 p h; exact ⟨this.1, by omega, this.2.2⟩
    · have := hb.1 p h; exact ⟨by omega, this.2.1, this.2.2⟩
  · have h3 := ha.1 p hp
    have h4 := hb.1 q hq
    omega
theorem tr_rg_l {lo hi : Int} {a b : tr_KV} (h : tr_rg lo hi (a ++ b)) : tr_rg lo hi a := ⟨fun p hp => h.1 p (List.mem_append.mpr (Or.inl hp)), (List.pairwise_append.mp h.2).1⟩
theorem tr_rg_r {lo hi : Int} {a b : tr_KV} (h : tr_rg lo hi (a ++ b)) : tr_rg lo hi b := ⟨fun p hp => h.1 p (List.mem_append.mpr (Or.inr hp)), (List.pairwise_append.mp h.2).2.1⟩
theorem tr_F_sz {P : Nat → Int → Int → tr_KV → List Nat → Prop} {e : Nat} (he : 1 ≤ e) (hP : ∀ c lo h kv ns, P c lo h kv ns → tr_rg lo h kv ∧ e ≤ kv.length ∧ ns.length + 1 ≤ kv.length) : ∀ (ps : tr_PS) (lo : Int) (kv : tr_KV) (ns : List Nat), tr_F P lo ps kv ns → tr_rg lo (tr_hi lo ps) kv ∧ lo ≤ tr_hi lo ps ∧ ps.length * e ≤ kv.length ∧ ns.length + ps.length ≤ kv.length := by
  intro ps
  induction ps with
  | nil =>
    rintro lo kv ns ⟨rfl, rfl⟩
    exact ⟨⟨fun p hp => absurd hp (by simp), List.Pairwise.nil⟩, Int.le_refl _, by simp, by simp⟩
  | cons p ps ih =>
    obtain ⟨c, h⟩ := p
    rintro lo kv ns ⟨kv1, kv2, ns1, ns2, h1, h2, rfl, rfl⟩
    obtain ⟨a1, a2, a3⟩ := hP _ _ _ _ _ h1
    obtain ⟨b1, b2, b3, b4⟩ := ih _ _ _ h2
    have hlh : lo ≤ h := by
      cases kv1 with
      | nil => simp at a2; omega
      | cons q _ =>
        have := a1.1 q (by simp)
        omega
    refine ⟨tr_rg_app a1 b1 hlh b2, Int.le_trans hlh b2, ?_, ?_⟩
    · rw [List.length_cons, List.length_append, Nat.add_mul]
      omega
    · rw [List.length_cons, List.length_append, List.length_append]
      omega
theorem tr_T_sz {B : ms_B} : ∀ (l m x : Nat) (lo hi : Int) (kv : tr_KV) (ns : List Nat), 1 ≤ m → tr_T B l m x lo hi kv ns → tr_rg lo hi kv ∧ m * 2 ^ l ≤ kv.length ∧ ns.length + m ≤ kv.length + 1 ∧ 9 ≤ x ∧ x < 41 ∧ x ∈ ns ∧ lo < hi := by
  intro l
  induction l with
  | zero =>
    rintro m x lo hi kv ns hm ⟨h1, h2, h3, h4, rfl, h5, h6⟩
    refine ⟨h4, by simpa using h2, by simp; omega, h5, h6, by simp, ?_⟩
    cases kv with
    | nil => simp at h2; omega
    | cons q _ =>
      have := h4.1 q (by simp)
      omega
  | succ l ih =>
    rintro m x lo hi kv ns hm ⟨ps, ns', h1, h2, h3, h4, h5, rfl, h6, h7⟩
    have hp : 1 ≤ 2 ^ l := Nat.one_le_two_pow
    obtain ⟨a1, a2, a3, a4⟩ := tr_F_sz (e := 2 * 2 ^ l) (by omega) (fun c lo h kv ns hT => by
      obtain ⟨b1, b2, b3, _⟩ := ih 2 c lo h kv ns (by omega) hT
      exact ⟨b1, b2, by omega⟩) _ _ _ _ h5
    rw [h4] at a1 a2
    have hmul : m * 2 ^ (l + 1) ≤ ps.length * (2 * 2 ^ l) := by
      rw [Nat.pow_succ, Nat.mul_comm (2 ^ l) 2]
      exact Nat.mul_le_mul_right _ h2
    refine ⟨a1, Nat.le_trans hmul a3, ?_, h6, h7, by simp, ?_⟩
    · rw [List.length_cons]; omega
    · have hk : 1 ≤ kv.length := by omega
      cases kv with
      | nil => simp at hk
      | cons q _ =>
        have := a1.1 q (by simp)
        omega
theorem tr_lf_fr {B B' : ms_B} {x : Nat} {kv : tr_KV} (h : tr_lf B x kv) (e : B' x = B x) : tr_lf B' x kv := by
  unfold tr_lf; rw [e]; exact h
theorem tr_nd_fr {B B' : ms_B} {x : Nat} {ps : tr_PS} (h : tr_nd B x ps) (e : B' x = B x) : tr_nd B' x ps := by
  unfold tr_nd; rw [e]; exact h
theorem tr_F_mo {P Q : Nat → Int → Int → tr_KV → List Nat → Prop} : ∀ (ps : tr_PS) (lo : Int) (kv : tr_KV) (ns : List Nat), (∀ c lo h kv1 ns1, (∀ z, z ∈ ns1 → z ∈ ns) → P c lo h kv1 ns1 → Q c lo h kv1 ns1) → tr_F P lo ps kv ns → tr_F Q lo ps kv ns := by
  intro ps
  induction ps with
  | nil => intro lo kv ns _ h; exact h
  | cons p ps ih =>
    obtain ⟨c, h⟩ := p
    rintro lo kv ns hm ⟨kv1, kv2, ns1, ns2, h1, h2, rfl, rfl⟩
    exact ⟨kv1, kv2, ns1, ns2, hm _ _ _ _ _ (fun z hz => List.mem_append.mpr (Or.inl hz)) h1, ih _ _ _ (fun c lo h k1 n1 hz hp => hm c lo h k1 n1 (fun z hz' => List.mem_append.mpr (Or.inr (hz z hz'))) hp) h2, rfl, rfl⟩
theorem tr_T_fr {B B' : ms_B} : ∀ (l m x : Nat) (lo hi : Int) (kv : tr_KV) (ns : List Nat), tr_T B l m x lo hi kv ns → (∀ z, z ∈ ns → B' z = B z) → tr_T B' l m x lo hi kv ns := by
  intro l
  induction l with
  | zero =>
    rintro m x lo hi kv ns ⟨h1, h2, h3, h4, rfl, h5, h6⟩ e
    exact ⟨tr_lf_fr h1 (e x (by simp)), h2, h3, h4, rfl, h5, h6⟩
  | succ l ih =>
    rintro m x lo hi kv ns ⟨ps, ns', h1, h2, h3, h4, h5, rfl, h6, h7⟩ e
    refine ⟨ps, ns', tr_nd_fr h1 (e x (by simp)), h2, h3, h4, ?_, rfl, h6, h7⟩
    exact tr_F_mo _ _ _ _ (fun c lo h kv1 ns1 hz hT => ih _ _ _ _ _ _ hT (fun z hz' => e z (List.mem_cons_of_mem _ (hz z hz')))) h5
theorem tr_F_fr {B B' : ms_B} {l : Nat} {ps : tr_PS} {lo : Int} {kv : tr_KV} {ns : List Nat} (h : tr_F (tr_T B l 2) lo ps kv ns) (e : ∀ z, z ∈ ns → B' z = B z) : tr_F (tr_T B' l 2) lo ps kv ns :=
  tr_F_mo _ _ _ _ (fun _ _ _ _ _ hz hT => tr_T_fr _ _ _ _ _ _ _ hT (fun z hz' => e z (hz z hz'))) h
theorem tr_T_wk {B : ms_B} {l m m' x : Nat} {lo hi : Int} {kv : tr_KV} {ns : List Nat} (h : tr_T B l m x lo hi kv ns) (hm : m' ≤ m) : tr_T B l m' x lo hi kv ns := by
  cases l with
  | zero =>
    obtain ⟨h1, h2, h⟩ := h
    exact ⟨h1, by omega, h⟩
  | succ l =>
    obtain ⟨ps, ns', h1, h2, h⟩ := h
    exact ⟨ps, ns', h1, by omega, h⟩
theorem tr_F_fz {B : ms_B} {l : Nat} {ps : tr_PS} {lo : Int} {kv : tr_KV} {ns : List Nat} (h : tr_F (tr_T B l 2) lo ps kv ns) : tr_rg lo (tr_hi lo ps) kv ∧ lo ≤ tr_hi lo ps ∧ ps.length * (2 * 2 ^ l) ≤ kv.length ∧ ns.length + ps.length ≤ kv.length := by
  have hp : 1 ≤ 2 ^ l := Nat.one_le_two_pow
  refine tr_F_sz (e := 2 * 2 ^ l) (by omega) (fun c lo h kv ns hT => ?_) _ _ _ _ h
  obtain ⟨b1, b2, b3, _⟩ := tr_T_sz l 2 c lo h kv ns (by omega) hT
  exact ⟨b1, b2, by omega⟩
theorem tr_F_in {B : ms_B} {l : Nat} : ∀ {ps : tr_PS} {lo : Int} {kv : tr_KV} {ns : List Nat}, tr_F (tr_T B l 2) lo ps kv ns → ∀ p, p ∈ ps → 9 ≤ p.1 ∧ p.1 < 41 ∧ p.1 ∈ ns := by
  intro ps
  induction ps with
  | nil => intro lo kv ns _ p hp; exact absurd hp (by simp)
  | cons q ps ih =>
    obtain ⟨c, h⟩ := q
    rintro lo kv ns ⟨kv1, kv2, ns1, ns2, h1, h2, rfl, rfl⟩ p hp
    rcases List.mem_cons.mp hp with e | e
    · subst e
      obtain ⟨_, _, _, b1, b2, b3, _⟩ := tr_T_sz l 2 c lo h kv1 ns1 (by omega) h1
      exact ⟨b1, b2, List.mem_append.mpr (Or.inl b3)⟩
    · obtain ⟨b1, b2, b3⟩ := ih h2 p e
      exact ⟨b1, b2, List.mem_append.mpr (Or.inr b3)⟩
theorem tr_T_in {B : ms_B} : ∀ (l m x : Nat) (lo hi : Int) (kv : tr_KV) (ns : List Nat), tr_T B l m x lo hi kv ns → ∀ z, z ∈ ns → 9 ≤ z ∧ z < 41 := by
  intro l
  induction l with
  | zero =>
    rintro m x lo hi kv ns ⟨_, _, _, _, rfl, h5, h6⟩ z hz
    rw [List.mem_singleton] at hz
    subst hz
    exact ⟨h5, h6⟩
  | succ l ih =>
    rintro m x lo hi kv ns ⟨ps, ns', h1, h2, h3, h4, h5, rfl, h6, h7⟩ z hz
    rcases List.mem_cons.mp hz with e | e
    · subst e; exact ⟨h6, h7⟩
    · clear h1 h2 h3 h4 hz
      revert e
      induction ps generalizing lo kv ns' with
      | nil => obtain ⟨rfl, rfl⟩ := h5; intro e; exact absurd e (by simp)
      | cons q ps ih2 =>
        obtain ⟨c, h⟩ := q
        obtain ⟨kv1, kv2, ns1, ns2, a1, a2, rfl, rfl⟩ := h5
        intro e
        rcases List.mem_append.mp e with e | e
        · exact ih _ _ _ _ _ _ a1 z e
        · exact ih2 _ _ _ a2 e
theorem tr_snoc {α : Type} : ∀ (l : List α), l = [] ∨ ∃ A a, l = A ++ [a] := by
  intro l
  induction l with
  | nil => exact Or.inl rfl
  | cons b l ih =>
    right
    rcases ih with rfl | ⟨A, a, rfl⟩
    · exact ⟨[], b, rfl⟩
    · exact ⟨b :: A, a, rfl⟩
end
section
/-! the rest of a tree around a node on the way -/
def tr_H (B : ms_B) (wn ws : Nat → Int32) (L root : Nat) (LO HI : Int) : Nat → Nat → Nat → Int → Int → tr_KV → tr_KV → List Nat → Prop
  | 0, l, x, lo, hi, kL, kR, ns => l = L ∧ x = root ∧ lo = LO ∧ hi = HI ∧ kL = [] ∧ kR = [] ∧ ns = []
  | d + 1, l, x, lo, hi, kL, kR, ns => ∃ (p : Nat) (A C : tr_PS) (lo' hi' : Int) (kA kC : tr_KV) (nA nC : List Nat) (kL' kR' : tr_KV) (ns' : List Nat),
      (tr_nd B p (A ++ (x, hi) :: C) ∧ 1 ≤ A.length + C.length ∧ A.length + C.length ≤ 3 ∧ 9 ≤ p ∧ p < 41)
      ∧ (tr_F (tr_T B l 2) lo' A kA nA ∧ lo = tr_hi lo' A ∧ tr_F (tr_T B l 2) hi C kC nC ∧ hi' = tr_hi hi C)
      ∧ (wn (l + 1) = nI p ∧ ws (l + 1) = nI A.length)
      ∧ tr_H B wn ws L root LO HI d (l + 1) p lo' hi' kL' kR' ns'
      ∧ kL = kL' ++ kA ∧ kR = kC ++ kR' ∧ ns = p :: (nA ++ nC ++ ns')
theorem tr_plug {B : ms_B} {wn ws : Nat → Int32} {L root : Nat} {LO HI : Int} : ∀ (d l x : Nat) (lo hi : Int) (kL kR : tr_KV) (nC : List Nat) (kv : tr_KV) (ns : List Nat), tr_H B wn ws L root LO HI d l x lo hi kL kR nC → tr_T B l 2 x lo hi kv ns → ∃ ns', tr_T B L 2 root LO HI (kL ++ kv ++ kR) ns' ∧ ns'.Perm (ns ++ nC) := by
  intro d
  induction d with
  | zero =>
    rintro l x lo hi kL kR nC kv ns ⟨rfl, rfl, rfl, rfl, rfl, rfl, rfl⟩ hT
    exact ⟨ns, by simpa using hT, by simp⟩
  | succ d ih =>
    rintro l x lo hi kL kR nC0 kv ns ⟨p, A, C, lo', hi', kA, kC, nA, nC, kL', kR', ns', ⟨h1, h2, h3, h4, h5⟩, ⟨f1, rfl, f3, rfl⟩, hw, hH, rfl, rfl, rfl⟩ hT
    have hT' : tr_T B (l + 1) 2 p lo' (tr_hi hi C) (kA ++ (kv ++ kC)) (p :: (nA ++ (ns ++ nC))) := by
      refine ⟨A ++ (x, hi) :: C, nA ++ (ns ++ nC), h1, by simp; omega, by simp; omega, ?_, ?_, rfl, h4, h5⟩
      · rw [tr_hi_app]; rfl
      · exact (tr_F_app _ _ _ _ _).mpr ⟨kA, kv ++ kC, nA, ns ++ nC, f1, ⟨kv, kC, ns, nC, hT, f3, rfl, rfl⟩, rfl, rfl⟩
    obtain ⟨ns2, g1, g2⟩ := ih _ _ _ _ _ _ _ _ _ hH hT'
    refine ⟨ns2, ?_, ?_⟩
    · have e : kL' ++ kA ++ kv ++ (kC ++ kR') = kL' ++ (kA ++ (kv ++ kC)) ++ kR' := by simp [List.append_assoc]
      rw [e]; exact g1
    · rw [List.perm_iff_count]
      intro a
      rw [g2.count_eq a]
      simp only [List.count_append, List.count_cons]
      omega
theorem tr_H_fr {B B' : ms_B} {wn ws wn' ws' : Nat → Int32} {L root : Nat} {LO HI : Int} : ∀ (d l x : Nat) (lo hi : Int) (kL kR : tr_KV) (ns : List Nat), tr_H B wn ws L root LO HI d l x lo hi kL kR ns → (∀ z, z ∈ ns → B' z = B z) → (∀ j, l < j → wn' j = wn j ∧ ws' j = ws j) → tr_H B' wn' ws' L root LO HI d l x lo hi kL kR ns := by
  intro d
  induction d with
  | zero => intro l x lo hi kL kR ns h _ _; exact h
  | succ d ih =>
    rintro l x lo hi kL kR nC0 ⟨p, A, C, lo', hi', kA, kC, nA, nC, kL', kR', ns', ⟨h1, h2, h3, h4, h5⟩, ⟨f1, f2, f3, f4⟩, ⟨w1, w2⟩, hH, rfl, rfl, rfl⟩ e ew
    refine ⟨p, A, C, lo', hi', kA, kC, nA, nC, kL', kR', ns', ⟨tr_nd_fr h1 (e p (by simp)), h2, h3, h4, h5⟩, ⟨tr_F_fr f1 (fun z hz => e z ?_), f2, tr_F_fr f3 (fun z hz => e z ?_), f4⟩, ⟨(ew (l + 1) (by omega)).1.trans w1, (ew (l + 1) (by omega)).2.trans w2⟩, ih _ _ _ _ _ _ _ hH (fun z hz => e z ?_) (fun j hj => ew j (by omega)), rfl, rfl, rfl⟩
    · simp [hz]
    · simp [hz]
    · simp [hz]
theorem tr_H_d {B : ms_B} {wn ws : Nat → Int32} {L root : Nat} {LO HI : Int} : ∀ (d l x : Nat) (lo hi : Int) (kL kR : tr_KV) (ns : List Nat), tr_H B wn ws L root LO HI d l x lo hi kL kR ns → d + l = L ∧ ns.length ≤ kL.length + kR.length ∧ ∀ z, z ∈ ns → 9 ≤ z ∧ z < 41 := by
  intro d
  induction d with
  | zero =>
    rintro l x lo hi kL kR ns ⟨rfl, rfl, rfl, rfl, rfl, rfl, rfl⟩
    exact ⟨by omega, by simp, fun z hz => absurd hz (by simp)⟩
  | succ d ih =>
    rintro l x lo hi kL kR nC0 ⟨p, A, C, lo', hi', kA, kC, nA, nC, kL', kR', ns', ⟨h1, h2, h3, h4, h5⟩, ⟨f1, f2, f3, f4⟩, ⟨w1, w2⟩, hH, rfl, rfl, rfl⟩
    obtain ⟨a1, a2, a3⟩ := ih _ _ _ _ _ _ _ hH
    have b1 := (tr_F_fz f1).2.2.2
    have b2 := (tr_F_fz f3).2.2.2
    refine ⟨by omega, ?_, fun z hz => ?_⟩
    · simp only [List.length_cons, List.length_append]
      omega
    · simp only [List.mem_cons, List.mem_append] at hz
      have hin : ∀ {ps : tr_PS} {lo : Int} {kv : tr_KV} {ns : List Nat}, tr_F (tr_T B l 2) lo ps kv ns → ∀ z, z ∈ ns → 9 ≤ z ∧ z < 41 := by
        intro ps
        induction ps with
        | nil => rintro lo kv ns ⟨rfl, rfl⟩ z hz; exact absurd hz (by simp)
        | cons q ps ih2 =>
          obtain ⟨c, h⟩ := q
          rintro lo kv ns ⟨kv1, kv2, ns1, ns2, a1, a2, rfl, rfl⟩ z hz
          rcases List.mem_append.mp hz with e | e
          · exact tr_T_in _ _ _ _ _ _ _ a1 z e
          · exact ih2 a2 z e
      rcases hz with rfl | (hz | hz) | hz
      · exact ⟨h4, h5⟩
      · exact hin f1 z hz
      · exact hin f3 z hz
      · exact a3 z hz
def tr_ok (B : ms_B) (i : Nat) (kv : tr_KV) (ns : List Nat) : Prop := B 0 (3 * i + 2) = nI kv.length ∧ kv.length ≤ 14 ∧
  ((kv = [] ∧ ns = [] ∧ B 0 (3 * i) = 0 ∧ B 0 (3 * i + 1) = 0) ∨ ∃ root L, B 0 (3 * i) = nI root ∧ B 0 (3 * i + 1) = nI (L + 1) ∧ tr_T B L (if L = 0 then 1 else 2) root 0 1000000 kv ns)
theorem tr_lev {B : ms_B} {L root : Nat} {lo hi : Int} {kv : tr_KV} {ns : List Nat} (h : tr_T B L (if L = 0 then 1 else 2) root lo hi kv ns) (hk : kv.length ≤ 14) : L ≤ 2 := by
  by_cases e : L = 0
  · omega
  · rw [if_neg e] at h
    have h2 := (tr_T_sz _ _ _ _ _ _ _ (by omega) h).2.1
    rcases Nat.lt_or_ge 2 L with h3 | h3
    · have h4 : 2 ^ 3 ≤ 2 ^ L := Nat.pow_le_pow_right (by omega) h3
      omega
    · exact h3
end
section
/-! walks that look into a tree -/
section
variable {K w : Nat} {V : ms_M} {s : Nat} {y : ms_YT} {x : ms_XT} {B : ms_B} {t : ms_TT}
theorem rb_key {post : Int32 → SX → Prop} {ps pb pc : Int32} {b i : Nat} {u : SX} (hR : ms_RB K w V s y x B t u) (hs : s < 4) (hb : b < 41) (hi : i < 7) (es : ps = nI s) (eb : pb = nI b) (ec : pc = nI i) (k : ∀ u', ms_RB K w V s y x B t u' → post (B b (1 + i)) u') : wpX_keyOf post u ps pb pc := by
  rw [xe_keyOf]
  exact rb_cell hR hs hb (c := 1 + i) (by omega) es eb (by rw [ec]; exact na_p1 i) k
theorem rb_item {post : Int32 → SX → Prop} {ps pb pc : Int32} {b i : Nat} {u : SX} (hR : ms_RB K w V s y x B t u) (hs : s < 4) (hb : b < 41) (hi : i < 4) (es : ps = nI s) (eb : pb = nI b) (ec : pc = nI i) (k : ∀ u', ms_RB K w V s y x B t u' → post (B b (4 + i)) u') : wpX_itemOf post u ps pb pc := by
  rw [xe_itemOf]
  exact rb_cell hR hs hb (c := 4 + i) (by omega) es eb (by rw [ec]; exact na_p4 i) k
theorem tw_mid {α : Type} (A : List α) (a : α) (C : List α) : (A ++ a :: C)[A.length]? = some a := by simp
theorem tw_mid1 {α : Type} (A : List α) (a b : α) (C : List α) : (A ++ a :: b :: C)[A.length + 1]? = some b := by
  rw [List.getElem?_append_right (by omega)]
  simp
theorem tw_slot {post : Int32 → SX → Prop} (hs : s < 4) {z : Nat} (hz : z < 41) (key : Int32) : ∀ (C A : tr_PS) (c : Nat) (h : Int) (u : SX), ms_RB K w V s y x B t u → tr_nd B z (A ++ (c, h) :: C) → A.length + C.length ≤ 3 → (∀ p, p ∈ A → p.2 ≤ key.toInt) →
    (∀ (A' : tr_PS) (c' : Nat) (h' : Int) (C' : tr_PS) (u' : SX), A' ++ (c', h') :: C' = A ++ (c, h) :: C → (∀ p, p ∈ A' → p.2 ≤ key.toInt) → (C' ≠ [] → key.toInt < h') → ms_RB K w V s y x B t u' → post (nI A'.length) u') →
    xc_slotFor_12 post (nI s) (nI z) key (nI (A ++ (c, h) :: C).length) (C.length + 1) (nI A.length) u := by
  intro C
  induction C with
  | nil =>
    intro A c h u hR hn hl hA k
    rw [xe_slotFor_12]
    refine br_t ?_ (k A c h [] u rfl hA (fun h => absurd rfl h) hR)
    rw [List.length_append, List.length_cons, List.length_nil, na_s1 (by omega)]
    exact nI_le (by omega) (by omega)
  | cons q C ih =>
    obtain ⟨c2, h2⟩ := q
    intro A c h u hR hn hl hA k
    rw [List.length_cons] at hl
    have hlen : (A ++ (c, h) :: (c2, h2) :: C).length = A.length + C.length + 2 := by simp; omega
    rw [xe_slotFor_12]
    refine br_f ?_ ?_
    · rw [hlen, na_s1 (by omega)]
      exact nI_ge (by omega) (by omega)
    · refine rb_key hR hs hz (i := A.length) (by omega) rfl rfl rfl (fun u1 r1 => ?_)
      have hk : (B z (1 + A.length)).toInt = h := (hn.2 A.length _ (tw_mid A (c, h) _)).2 (by rw [hlen]; omega)
      refine br_c (fun hlt => ?_) (fun hge => nm_r (nI_1 A.length) ?_)
      · refine k A c h ((c2, h2) :: C) u1 rfl hA (fun _ => ?_) r1
        rw [Int32.lt_iff_toInt_lt, hk] at hlt
        exact hlt
      · have e : A ++ (c, h) :: (c2, h2) :: C = (A ++ [(c, h)]) ++ (c2, h2) :: C := by simp
        have e2 : A.length + 1 = (A ++ [(c, h)]).length := by simp
        rw [e, e2]
        rw [e] at hn k
        refine ih (A ++ [(c, h)]) c2 h2 u1 r1 hn (by simp; omega) (fun p hp => ?_) k
        rcases List.mem_append.mp hp with hp | hp
        · exact hA p hp
        · rw [List.mem_singleton] at hp
          subst hp
          rw [Int32.lt_iff_toInt_lt, hk] at hge
          show h ≤ _
          omega
theorem tw_slotFor {post : Int32 → SX → Prop} {ps pz : Int32} {u : SX} {z : Nat} {P : tr_PS} (hR : ms_RB K w V s y x B t u) (hs : s < 4) (hz : z < 41) (key : Int32) (es : ps = nI s) (ez : pz = nI z) (hn : tr_nd B z P) (h1 : 1 ≤ P.length) (h4 : P.length ≤ 4)
    (k : ∀ (A' : tr_PS) (c' : Nat) (h' : Int) (C' : tr_PS) (u' : SX), A' ++ (c', h') :: C' = P → (∀ p, p ∈ A' → p.2 ≤ key.toInt) → (C' ≠ [] → key.toInt < h') → ms_RB K w V s y x B t u' → post (nI A'.length) u') : wpX_slotFor post u ps pz key := by
  subst es ez
  rw [xe_slotFor]
  refine rb_cell hR hs hz (c := 0) (by omega) rfl rfl rfl (fun u1 r1 => ?_)
  rw [hn.1]
  cases P with
  | nil => simp at h1
  | cons q C =>
    obtain ⟨c, h⟩ := q
    rw [List.length_cons] at h4
    exact ⟨C.length + 1, tw_slot hs hz key C [] c h u1 r1 hn (by simp; omega) (fun p hp => absurd hp (by simp)) k⟩
def tw_way (t : ms_TT) (l : Nat) (a b : Int32) : ms_TT := (t.1, t.2.1, upd t.2.2.1 l a, upd t.2.2.2.1 l b, t.2.2.2.2)
theorem rb_way {u : SX} (hR : ms_RB K w V s y x B t u) (l : Nat) (a b : Int32) : ms_RB K w V s y x B (tw_way t l a b) (xs_waySlot (xs_wayNode u (upd (xg_wayNode u) l a)) (upd (xg_waySlot u) l b)) := by
  obtain ⟨hK, hB, rfl, hY, hX⟩ := hR
  exact ⟨hK, hB, rfl, hY, hX⟩
theorem tw_desc {post : Int32 → SX → Prop} (hs : s < 4) (key : Int32) {L root : Nat} {LO HI : Int} (hL : L ≤ 7) : ∀ (l d z : Nat) (lo hi : Int) (kL kv kR : tr_KV) (nC nx : List Nat) (t : ms_TT) (u : SX), ms_RB K w V s y x B t u →
    tr_H B t.2.2.1 t.2.2.2.1 L root LO HI d l z lo hi kL kR nC → tr_T B l (if L = 0 then 1 else 2) z lo hi kv nx → (∀ p, p ∈ kL → p.1 < key.toInt) → (∀ p, p ∈ kR → key.toInt < p.1) →
    (∀ (t' : ms_TT) (u' : SX) (z' : Nat) (lo' hi' : Int) (kL' kv' kR' : tr_KV) (nC' : List Nat), ms_RB K w V s y x B t' u' → tr_H B t'.2.2.1 t'.2.2.2.1 L root LO HI L 0 z' lo' hi' kL' kR' nC' → tr_T B 0 (if L = 0 then 1 else 2) z' lo' hi' kv' [z'] → kL' ++ kv' ++ kR' = kL ++ kv ++ kR → (z' :: nC').Perm (nx ++ nC) → (∀ p, p ∈ kL' → p.1 < key.toInt) → (∀ p, p ∈ kR' → key.toInt < p.1) → post (nI z') u') →
    xc_descend_30 post (nI s) key (l + 1) (nI z) (nI l) u := by
  intro l
  induction l with
  | zero =>
    intro d z lo hi kL kv kR nC nx t u hR hH hT hkL hkR k
    rw [xe_descend_30]
    have hd := (tr_H_d _ _ _ _ _ _ _ _ hH).1
    have hd' : d = L := by omega
    subst hd'
    obtain ⟨t1, t2, t3, t4, rfl, t5, t6⟩ := hT
    refine br_t (by decide) (k t u z lo hi kL kv kR nC hR hH ⟨t1, t2, t3, t4, rfl, t5, t6⟩ rfl (List.Perm.refl _) hkL hkR)
  | succ l ih =>
    intro d z lo hi kL kv kR nC nx t u hR hH hT hkL hkR k
    rw [xe_descend_30]
    have hd := (tr_H_d _ _ _ _ _ _ _ _ hH).1
    obtain ⟨P, ns', n1, n2, n3, n4, n5, rfl, n6, n7⟩ := hT
    have hL0 : L ≠ 0 := by omega
    rw [if_neg hL0] at n2
    refine br_f (nI_nle (by omega) (by omega)) ?_
    refine tw_slotFor hR hs n7 key rfl rfl n1 (by omega) n3 (fun A c h C u1 eP hA hC r1 => ?_)
    subst eP
    have hc := n1.2 A.length _ (tw_mid A (c, h) C)
    have hlen : (A ++ (c, h) :: C).length = A.length + C.length + 1 := by simp; omega
    rw [nI_clamp (n := l + 1) (by omega)]
    refine ⟨vp_in_nI (by omega) (by omega), nm_e ⟨vp_in_nI (by omega) (by omega), nm_e ?_⟩⟩
    refine rb_item (rb_way r1 (l + 1) (nI z) (nI A.length)) hs n7 (i := A.length) (by omega) rfl rfl rfl (fun u2 r2 => nm_r (pk_m1 l) ?_)
    rw [hc.1]
    obtain ⟨kA, kB, nA, nB, g1, ⟨k1, kC, m1, nD, g2, g3, rfl, rfl⟩, rfl, rfl⟩ := (tr_F_app _ _ _ _ _).mp n5
    have sA := tr_F_fz g1
    have sC := tr_F_fz g3
    have hH2 : tr_H B (upd t.2.2.1 (l + 1) (nI z)) (upd t.2.2.2.1 (l + 1) (nI A.length)) L root LO HI d (l + 1) z lo hi kL kR nC := tr_H_fr _ _ _ _ _ _ _ _ hH (fun _ _ => rfl) (fun j hj => ⟨pk_un (by omega), pk_un (by omega)⟩)
    have hhi : hi = tr_hi h C := by rw [← n4, tr_hi_app]; rfl
    refine ih (d + 1) c (tr_hi lo A) h (kL ++ kA) k1 (kC ++ kR) (z :: (nA ++ nD ++ nC)) m1 _ u2 r2 ?_ ?_ ?_ ?_ ?_
    · exact ⟨z, A, C, lo, hi, kA, kC, nA, nD, kL, kR, nC, ⟨n1, by omega, by omega, n6, n7⟩, ⟨g1, rfl, g3, hhi⟩, ⟨pk_us, pk_us⟩, hH2, rfl, rfl, rfl⟩
    · rw [if_neg hL0]; exact g2
    · intro p hp
      rcases List.mem_append.mp hp with hp | hp
      · exact hkL p hp
      · have h1 := sA.1.1 p hp
        -- the last bound of A is not above the key
        have h2 : tr_hi lo A ≤ key.toInt := by
          rcases tr_snoc A with e | ⟨A', q, e⟩
          · subst e
            obtain ⟨rfl, rfl⟩ := g1
            exact absurd hp (by simp)
          · subst e
            have := hA q (by simp)
            rw [tr_hi_app]
            exact this
        omega
    · intro p hp
      rcases List.mem_append.mp hp with hp | hp
      · have h1 := sC.1.1 p hp
        have h2 : C ≠ [] := by
          rintro rfl
          obtain ⟨rfl, rfl⟩ := g3
          exact absurd hp (by simp)
        have h3 := hC h2
        omega
      · exact hkR p hp
    · intro t' u' z' lo' hi' kL' kv' kR' nC' q1 q2 q3 q4 q5 q6 q7
      refine k t' u' z' lo' hi' kL' kv' kR' nC' q1 q2 q3 ?_ ?_ q6 q7
      · rw [q4]; simp [List.append_assoc]
      · refine q5.trans ?_
        rw [List.perm_iff_count]
        intro a
        simp only [List.count_append, List.count_cons]
        omega
theorem tw_descend {post : Int32 → SX → Prop} {ps pi : Int32} {i : Nat} {u : SX} {kv : tr_KV} {ns : List Nat} (hR : ms_RB K w V s y x B t u) (hs : s < 4) (hi : i < 2) (es : ps = nI s) (ei : pi = nI i) (key : Int32) (ok : tr_ok B i kv ns)
    (k0 : kv = [] → ns = [] → ∀ u', ms_RB K w V s y x B t u' → post 0 u')
    (k : ∀ (root L : Nat), B 0 (3 * i) = nI root → B 0 (3 * i + 1) = nI (L + 1) → L ≤ 2 → ∀ (t' : ms_TT) (u' : SX) (z' : Nat) (lo' hi' : Int) (kL' kv' kR' : tr_KV) (nC' : List Nat), ms_RB K w V s y x B t' u' → tr_H B t'.2.2.1 t'.2.2.2.1 L root 0 1000000 L 0 z' lo' hi' kL' kR' nC' → tr_T B 0 (if L = 0 then 1 else 2) z' lo' hi' kv' [z'] → kL' ++ kv' ++ kR' = kv → (z' :: nC').Perm ns → (∀ p, p ∈ kL' → p.1 < key.toInt) → (∀ p, p ∈ kR' → key.toInt < p.1) → post (nI z') u') :
    wpX_descend post u ps pi key := by
  subst es ei
  rw [xe_descend, na_m3]
  refine rb_cell hR hs (b := 0) (c := 3 * i) (by omega) (by omega) rfl rfl rfl (fun u1 r1 => ?_)
  rw [na_q1]
  refine rb_cell r1 hs (b := 0) (c := 3 * i + 1) (by omega) (by omega) rfl rfl rfl (fun u2 r2 => ?_)
  obtain ⟨_, hlen, ⟨rfl, rfl, e1, e2⟩ | ⟨root, L, e1, e2, hT⟩⟩ := ok
  · rw [e1, e2]
    refine nm_e ⟨1, ?_⟩
    rw [xe_descend_30]
    exact br_t (by decide) (k0 rfl rfl u2 r2)
  · have hL := tr_lev hT hlen
    rw [e1, e2]
    refine nm_r (nI_pred L) ⟨L + 1, ?_⟩
    refine tw_desc hs key (by omega) L 0 root 0 1000000 [] kv [] [] ns t u2 r2 ⟨rfl, rfl, rfl, rfl, rfl, rfl, rfl⟩ hT (fun p hp => absurd hp (by simp)) (fun p hp => absurd hp (by simp)) ?_
    intro t' u' z' lo' hi' kL' kv' kR' nC' q1 q2 q3 q4 q5 q6 q7
    exact k root L e1 e2 hL t' u' z' lo' hi' kL' kv' kR' nC' q1 q2 q3 (by simpa using q4) (by simpa using q5) q6 q7
end
end
section
/-! placeIn, valueOf, firstKey, keyAfter -/
section
variable {K w : Nat} {V : ms_M} {s : Nat} {y : ms_YT} {x : ms_XT} {B : ms_B} {t : ms_TT}
theorem tw_pl0 {post : Int32 → SX → Prop} (hs : s < 4) {z : Nat} (hz : z < 41) (key : Int32) : ∀ (C A : tr_KV) (u : SX), ms_RB K w V s y x B t u → tr_lf B z (A ++ C) → (A ++ C).length ≤ 3 → (∀ p, p ∈ A → p.1 ≠ key.toInt) →
    (∀ (A' : tr_KV) (v : Nat) (C' : tr_KV) (u' : SX), A' ++ (key.toInt, v) :: C' = A ++ C → ms_RB K w V s y x B t u' → post (nI A'.length) u') → ((∀ p, p ∈ A ++ C → p.1 ≠ key.toInt) → ∀ u', ms_RB K w V s y x B t u' → post (-1) u') →
    xc_placeIn_12 post (nI s) (nI z) key (nI (A ++ C).length) (C.length + 1) (nI A.length) u := by
  intro C
  induction C with
  | nil =>
    intro A u hR hl h3 hA k1 k2
    rw [xe_placeIn_12]
    refine br_t ?_ (k2 (by simpa using hA) u hR)
    rw [List.append_nil] at h3 ⊢
    exact nI_le (by omega) (by omega)
  | cons q C ih =>
    obtain ⟨c, v⟩ := q
    intro A u hR hl h3 hA k1 k2
    have hlen : (A ++ (c, v) :: C).length = A.length + C.length + 1 := by simp; omega
    rw [xe_placeIn_12]
    rw [hlen] at h3 ⊢
    refine br_f (nI_ge (by omega) (by omega)) ?_
    refine rb_key hR hs hz (i := A.length) (by omega) rfl rfl rfl (fun u1 r1 => ?_)
    have hk : (B z (1 + A.length)).toInt = c := (hl.2 A.length _ (tw_mid A (c, v) _)).1
    refine br_c (fun he => ?_) (fun hne => nm_r (nI_1 A.length) ?_)
    · rw [he] at hk
      subst hk
      exact k1 A v C u1 rfl r1
    · have e : A ++ (c, v) :: C = (A ++ [(c, v)]) ++ C := by simp
      have e2 : A.length + 1 = (A ++ [(c, v)]).length := by simp
      rw [← hlen, e, e2]
      rw [e] at hl k1 k2
      refine ih (A ++ [(c, v)]) u1 r1 hl (by simp; omega) (fun p hp => ?_) k1 k2
      rcases List.mem_append.mp hp with hp | hp
      · exact hA p hp
      · rw [List.mem_singleton] at hp
        subst hp
        intro h
        have h : c = key.toInt := h
        exact hne (Int32.toInt_inj.mp (hk.trans h))
theorem tw_place {post : Int32 → SX → Prop} {ps pz : Int32} {u : SX} {z : Nat} {kv : tr_KV} (hR : ms_RB K w V s y x B t u) (hs : s < 4) (hz : z < 41) (key : Int32) (es : ps = nI s) (ez : pz = nI z) (hl : tr_lf B z kv) (h3 : kv.length ≤ 3)
    (k1 : ∀ (A : tr_KV) (v : Nat) (C : tr_KV) (u' : SX), A ++ (key.toInt, v) :: C = kv → ms_RB K w V s y x B t u' → post (nI A.length) u') (k2 : (∀ p, p ∈ kv → p.1 ≠ key.toInt) → ∀ u', ms_RB K w V s y x B t u' → post (-1) u') : wpX_placeIn post u ps pz key := by
  subst es ez
  rw [xe_placeIn]
  refine rb_cell hR hs hz (c := 0) (by omega) rfl rfl rfl (fun u1 r1 => ?_)
  rw [hl.1]
  exact ⟨kv.length + 1, tw_pl0 hs hz key kv [] u1 r1 hl h3 (fun p hp => absurd hp (by simp)) k1 k2⟩
theorem tw_ne0 {z : Nat} (h : 9 ≤ z) (h2 : z < 41) : ¬ nI z = 0 := nI_ne0 (by omega) (by omega)
/-- what stands for a key in a tree -/
theorem tw_value {post : Int32 → SX → Prop} {ps pi : Int32} {i : Nat} {u : SX} {kv : tr_KV} {ns : List Nat} (hR : ms_RB K w V s y x B t u) (hs : s < 4) (hi : i < 2) (es : ps = nI s) (ei : pi = nI i) (key : Int32) (ok : tr_ok B i kv ns)
    (k1 : ∀ (v : Nat) (t' : ms_TT) (u' : SX), (key.toInt, v) ∈ kv → ms_RB K w V s y x B t' u' → post (nI v) u')
    (k2 : (∀ p, p ∈ kv → p.1 ≠ key.toInt) → ∀ (t' : ms_TT) (u' : SX), ms_RB K w V s y x B t' u' → post (-2) u') : wpX_valueOf post u ps pi key := by
  subst es
  rw [xe_valueOf]
  refine tw_descend hR hs hi rfl ei key ok (fun e1 e2 u' r' => ?_) (fun root L _ _ _ t' u' z lo hi kL kw kR nC r' hH hT ek _ hkL hkR => ?_)
  · refine br_t rfl ?_
    rw [xe_valueOf_26]
    refine br_f (by decide) (k2 ?_ t u' r')
    subst e1
    exact fun p hp => absurd hp (by simp)
  · obtain ⟨l1, l2, l3, l4, _, l5, l6⟩ := hT
    refine br_f (tw_ne0 l5 l6) ?_
    refine tw_place r' hs l6 key rfl rfl l1 l3 (fun A v C u1 eA r1 => ?_) (fun hno u1 r1 => ?_)
    · subst eA
      have hlen : (A ++ (key.toInt, v) :: C).length = A.length + C.length + 1 := by simp; omega
      rw [xe_valueOf_26]
      refine br_t (nI_pos' (by omega)) ?_
      refine rb_item r1 hs l6 (i := A.length) (by omega) rfl rfl rfl (fun u2 r2 => ?_)
      rw [(l1.2 A.length _ (tw_mid A (key.toInt, v) C)).2]
      refine k1 v t' u2 ?_ r2
      rw [← ek]
      simp
    · rw [xe_valueOf_26]
      refine br_f (by decide) (k2 (fun p hp => ?_) t' u1 r1)
      rw [← ek] at hp
      rcases List.mem_append.mp hp with hp | hp
      · rcases List.mem_append.mp hp with hp | hp
        · have := hkL p hp
          omega
        · exact hno p hp
      · have := hkR p hp
        omega
theorem tw_first {post : Int32 → SX → Prop} (hs : s < 4) : ∀ (l m z : Nat) (lo hi : Int) (kv : tr_KV) (ns : List Nat) (u : SX), 1 ≤ m → l ≤ 7 → ms_RB K w V s y x B t u → tr_T B l m z lo hi kv ns →
    (∀ (p : Int × Nat) (r : Int32) (u' : SX), kv.head? = some p → r.toInt = p.1 → ms_RB K w V s y x B t u' → post r u') → xc_firstKey_6 post (nI s) (l + 1) (nI z) (nI l) u := by
  intro l
  induction l with
  | zero =>
    rintro m z lo hi kv ns u hm _ hR ⟨l1, l2, l3, l4, _, l5, l6⟩ k
    rw [xe_firstKey_6]
    refine br_t (by decide) ?_
    refine rb_key hR hs l6 (i := 0) (by omega) rfl rfl rfl (fun u1 r1 => ?_)
    cases kv with
    | nil => simp at l2; omega
    | cons p kv => exact k p _ u1 rfl (l1.2 0 p rfl).1 r1
  | succ l ih =>
    rintro m z lo hi kv ns u hm h7 hR ⟨P, ns', n1, n2, n3, n4, n5, _, n6, n7⟩ k
    rw [xe_firstKey_6]
    refine br_f (nI_nle (by omega) (by omega)) ?_
    refine rb_item hR hs n7 (i := 0) (by omega) rfl rfl rfl (fun u1 r1 => nm_r (pk_m1 l) ?_)
    cases P with
    | nil => simp at n2; omega
    | cons q P =>
      obtain ⟨c, h⟩ := q
      obtain ⟨kv1, kv2, ns1, ns2, h1, h2, rfl, _⟩ := n5
      rw [(n1.2 0 (c, h) rfl).1]
      refine ih 2 c lo h kv1 ns1 u1 (by omega) (by omega) r1 h1 (fun p r u' e1 e2 r' => k p r u' ?_ e2 r')
      cases kv1 with
      | nil => simp at e1
      | cons a kv1 => simpa using e1
/-- the loop over the way: the least key behind -/
theorem tw_up {post : Int32 → SX → Prop} (hs : s < 4) {L root : Nat} {LO HI : Int} (hL : L ≤ 7) : ∀ (d l z : Nat) (lo hi : Int) (kL kR : tr_KV) (nC : List Nat) (u : SX), ms_RB K w V s y x B t u →
    tr_H B t.2.2.1 t.2.2.2.1 L root LO HI d l z lo hi kL kR nC →
    (∀ (p : Int × Nat) (r : Int32) (u' : SX), kR.head? = some p → r.toInt = p.1 → ms_RB K w V s y x B t u' → post r u') → (kR = [] → ∀ u', ms_RB K w V s y x B t u' → post (-2) u') →
    xc_keyAfter_80 post (nI s) (nI (L + 1)) (d + 1) (nI (l + 1)) u := by
  intro d
  induction d with
  | zero =>
    rintro l z lo hi kL kR nC u hR ⟨rfl, _, _, _, _, rfl, _⟩ k1 k2
    rw [xe_keyAfter_80]
    exact br_t (Int32.le_refl _) (k2 rfl u hR)
  | succ d ih =>
    intro l z lo hi kL kR nC0 u hR hH k1 k2
    have hd := (tr_H_d _ _ _ _ _ _ _ _ hH).1
    obtain ⟨p, A, C, lo', hi', kA, kC, nA, nC, kL', kR', ns', ⟨h1, h2, h3, h4, h5⟩, ⟨f1, f2, f3, f4⟩, ⟨w1, w2⟩, hH', rfl, rfl, rfl⟩ := hH
    have hlen : (A ++ (z, hi) :: C).length = A.length + C.length + 1 := by simp; omega
    have hwn : xg_wayNode u = t.2.2.1 := congrArg (fun a : ms_TT => a.2.2.1) hR.2.2.1
    have hws : xg_waySlot u = t.2.2.2.1 := congrArg (fun a : ms_TT => a.2.2.2.1) hR.2.2.1
    rw [xe_keyAfter_80]
    refine br_f (nI_ge (by omega) (by omega)) ⟨vp_in_nI (by omega) (by omega), ?_⟩
    rw [nI_clamp (n := l + 1) (by omega), hwn, hws, w1, w2]
    refine nm_e ⟨vp_in_nI (by omega) (by omega), nm_r (nI_1 A.length) ?_⟩
    refine rb_cell hR hs h5 (c := 0) (by omega) rfl rfl rfl (fun u1 r1 => ?_)
    rw [h1.1, hlen]
    cases C with
    | nil =>
      obtain ⟨rfl, rfl⟩ := f3
      refine br_t (nI_le (by simp) (by omega)) (nm_r (nI_1 (l + 1)) ?_)
      exact ih (l + 1) p lo' hi' kL' kR' ns' u1 r1 hH' (fun p r u' e1 => k1 p r u' (by simpa using e1)) (fun e => k2 (by simpa using e))
    | cons q C =>
      obtain ⟨c, h⟩ := q
      obtain ⟨kv1, kv2, ns1, ns2, g1, g2, rfl, rfl⟩ := f3
      rw [List.length_cons] at h3 ⊢
      refine br_f (nI_ge (by omega) (by omega)) ?_
      refine rb_item r1 hs h5 (i := A.length + 1) (by omega) rfl rfl rfl (fun u2 r2 => ?_)
      rw [(h1.2 (A.length + 1) _ (tw_mid1 A (z, hi) (c, h) C)).1, xe_firstKey]
      refine ⟨l + 1, ?_⟩
      rw [nI_pred]
      refine tw_first hs l 2 c hi h kv1 ns1 u2 (by omega) (by omega) r2 g1 (fun p r u' e1 e2 r' => k1 p r u' ?_ e2 r')
      cases kv1 with
      | nil => simp at e1
      | cons a kv1 => simpa using e1
theorem tw_ka0 {post : Int32 → SX → Prop} (hs : s < 4) {i z : Nat} (hz : z < 41) (bound : Int32) : ∀ (C A : tr_KV) (u : SX), ms_RB K w V s y x B t u → tr_lf B z (A ++ C) → (A ++ C).length ≤ 3 → (∀ p, p ∈ A → p.1 ≤ bound.toInt) →
    (∀ (A' : tr_KV) (p : Int × Nat) (C' : tr_KV) (r : Int32) (u' : SX), A' ++ p :: C' = A ++ C → (∀ q, q ∈ A' → q.1 ≤ bound.toInt) → bound.toInt < p.1 → r.toInt = p.1 → ms_RB K w V s y x B t u' → post r u') → ((∀ p, p ∈ A ++ C → p.1 ≤ bound.toInt) → ∀ u', ms_RB K w V s y x B t u' → wpX_cell (fun r_75 u76 => ∃ n80 : Nat, xc_keyAfter_80 post (nI s) r_75 n80 1 u76) u' (nI s) 0 ((3 * nI i) + 1)) →
    xc_keyAfter_31 post (nI s) (nI i) bound (nI z) (nI (A ++ C).length) (C.length + 1) (nI A.length) u := by
  intro C
  induction C with
  | nil =>
    intro A u hR hl h3 hA k1 k2
    rw [xe_keyAfter_31]
    refine br_t ?_ (k2 (by simpa using hA) u hR)
    rw [List.append_nil] at h3 ⊢
    exact nI_le (by omega) (by omega)
  | cons q C ih =>
    obtain ⟨c, v⟩ := q
    intro A u hR hl h3 hA k1 k2
    have hlen : (A ++ (c, v) :: C).length = A.length + C.length + 1 := by simp; omega
    rw [xe_keyAfter_31]
    rw [hlen] at h3 ⊢
    refine br_f (nI_ge (by omega) (by omega)) ?_
    refine rb_key hR hs hz (i := A.length) (by omega) rfl rfl rfl (fun u1 r1 => ?_)
    have hk : (B z (1 + A.length)).toInt = c := (hl.2 A.length _ (tw_mid A (c, v) _)).1
    refine br_c (fun he => nm_r (nI_1 A.length) ?_) (fun hne => ?_)
    · have e : A ++ (c, v) :: C = (A ++ [(c, v)]) ++ C := by simp
      have e2 : A.length + 1 = (A ++ [(c, v)]).length := by simp
      rw [← hlen, e, e2]
      rw [e] at hl k1 k2
      refine ih (A ++ [(c, v)]) u1 r1 hl (by simp; omega) (fun p hp => ?_) k1 k2
      rcases List.mem_append.mp hp with hp | hp
      · exact hA p hp
      · rw [List.mem_singleton] at hp
        subst hp
        rw [Int32.le_iff_toInt_le, hk] at he
        exact he
    · refine k1 A (c, v) C _ u1 rfl hA ?_ hk r1
      rw [Int32.le_iff_toInt_le, hk] at hne
      show bound.toInt < c
      omega
/-- the least key greater than a bound -/
theorem tw_after {post : Int32 → SX → Prop} {ps pi : Int32} {i : Nat} {u : SX} {kv : tr_KV} {ns : List Nat} (hR : ms_RB K w V s y x B t u) (hs : s < 4) (hi : i < 2) (es : ps = nI s) (ei : pi = nI i) (bound : Int32) (ok : tr_ok B i kv ns)
    (k1 : ∀ (A : tr_KV) (p : Int × Nat) (C : tr_KV) (r : Int32) (t' : ms_TT) (u' : SX), A ++ p :: C = kv → (∀ q, q ∈ A → q.1 ≤ bound.toInt) → bound.toInt < p.1 → r.toInt = p.1 → ms_RB K w V s y x B t' u' → post r u')
    (k2 : (∀ p, p ∈ kv → p.1 ≤ bound.toInt) → ∀ (t' : ms_TT) (u' : SX), ms_RB K w V s y x B t' u' → post (-2) u') : wpX_keyAfter post u ps pi bound := by
  subst es ei
  rw [xe_keyAfter]
  refine tw_descend hR hs hi rfl rfl bound ok (fun e1 e2 u' r' => ?_) (fun root L eR eL hL t' u' z lo hi kL kw kR nC r' hH hT ek _ hkL hkR => ?_)
  · refine br_t rfl ⟨1, ?_⟩
    subst e1
    rw [xe_keyAfter_31]
    refine br_t (by decide) ?_
    rw [na_m3, na_q1]
    refine rb_cell r' hs (b := 0) (c := 3 * i + 1) (by omega) (by omega) rfl rfl rfl (fun u1 r1 => ?_)
    obtain ⟨_, _, ⟨_, _, _, e4⟩ | ⟨root, L, e3, e4, hT⟩⟩ := ok
    · rw [e4]
      refine ⟨1, ?_⟩
      rw [xe_keyAfter_80]
      exact br_t (by decide) (k2 (fun p hp => absurd hp (by simp)) t u1 r1)
    · have h := (tr_T_sz _ _ _ _ _ _ _ (by split <;> omega) hT).2.1
      have h2 : 1 ≤ 2 ^ L := Nat.one_le_two_pow
      simp at h
      split at h <;> omega
  · obtain ⟨l1, l2, l3, l4, _, l5, l6⟩ := hT
    refine br_f (tw_ne0 l5 l6) ?_
    refine rb_cell r' hs l6 (c := 0) (by omega) rfl rfl rfl (fun u1 r1 => ⟨kw.length + 1, ?_⟩)
    rw [l1.1]
    refine tw_ka0 hs l6 bound kw [] u1 r1 l1 l3 (fun p hp => absurd hp (by simp)) (fun A p C r u2 eA hA hp er r2 => ?_) (fun hno u2 r2 => ?_)
    · rw [List.nil_append] at eA
      refine k1 (kL ++ A) p (C ++ kR) r t' u2 ?_ (fun q hq => ?_) hp er r2
      · rw [← ek, ← eA]; simp [List.append_assoc]
      · rcases List.mem_append.mp hq with hq | hq
        · have := hkL q hq; omega
        · exact hA q hq
    · rw [na_m3, na_q1]
      refine rb_cell r2 hs (b := 0) (c := 3 * i + 1) (by omega) (by omega) rfl rfl rfl (fun u3 r3 => ⟨L + 1, ?_⟩)
      rw [eL]
      refine tw_up hs (by omega) L 0 z lo hi kL kR nC u3 r3 hH (fun p r u4 e1 e2 r4 => ?_) (fun e u4 r4 => ?_)
      · cases kR with
        | nil => simp at e1
        | cons a kR =>
          rw [List.head?_cons, Option.some.injEq] at e1
          subst e1
          refine k1 (kL ++ kw) a kR r t' u4 ek (fun q hq => ?_) (hkR a (by simp)) e2 r4
          rcases List.mem_append.mp hq with hq | hq
          · have := hkL q hq; omega
          · exact hno q (by simpa using hq)
      · subst e
        refine k2 (fun q hq => ?_) t' u4 r4
        rw [← ek, List.append_nil] at hq
        rcases List.mem_append.mp hq with hq | hq
        · have := hkL q hq; omega
        · exact hno q (by simpa using hq)
end
end
section
/-! writes in leaves: insertAt, removeAt, fillLeaf, splitLeaf, joinLeaves -/
section
variable {K w : Nat} {V : ms_M} {s : Nat} {y : ms_YT} {x : ms_XT} {B : ms_B} {t : ms_TT}
/-- insertAt behind all keys -/
theorem lx_app {post : SX → Prop} {ps pz pv : Int32} {u : SX} {z v : Nat} {kv : tr_KV} (hR : ms_RB K w V s y x B t u) (hw : w = s) (hs : s < 4) (hz : z < 41) (key : Int32) (es : ps = nI s) (ez : pz = nI z) (ev : pv = nI v) (hl : tr_lf B z kv) (h2 : kv.length ≤ 2) (hk : ∀ p, p ∈ kv → p.1 ≤ key.toInt)
    (k : ∀ (B' : ms_B) (u' : SX), ms_RB K w V s y x B' t u' → (∀ b, b ≠ z → B' b = B b) → tr_lf B' z (kv ++ [(key.toInt, v)]) → post u') : wpX_insertAt post u ps pz key pv := by
  subst es ez ev
  have hfin : ∀ u1, ms_RB K w V s y x B t u1 → xc_insertAt_86 post (nI s) (nI z) key (nI v) (nI kv.length) (nI kv.length) u1 := by
    intro u1 r1
    rw [xe_insertAt_86]
    refine rb_set r1 hw hs hz (c := 1 + kv.length) (by omega) rfl rfl (na_p1 _) (fun u2 r2 => ?_)
    refine rb_set r2 hw hs hz (c := 4 + kv.length) (by omega) rfl rfl (na_p4 _) (fun u3 r3 => ?_)
    refine rb_set r3 hw hs hz (c := 0) (by omega) rfl rfl rfl (fun u4 r4 => ?_)
    refine k _ u4 r4 (fun b hb => by rw [ms_mC_o _ _ hb, ms_mC_o _ _ hb, ms_mC_o _ _ hb]) ⟨?_, fun i p hp => ?_⟩
    · rw [ms_mC_s, nI_1]; simp
    · simp only [ms_mC_g]
      by_cases hi : i < kv.length
      · rw [List.getElem?_append_left hi] at hp
        have h := hl.2 i p hp
        rw [if_neg (by omega), if_neg (by omega), if_neg (by omega), if_neg (by omega), if_neg (by omega), if_neg (by omega)]
        exact h
      · rw [List.getElem?_append_right (by omega)] at hp
        have hi0 : i - kv.length = 0 := by
          rcases Nat.eq_zero_or_pos (i - kv.length) with h | h
          · exact h
          · rw [List.getElem?_eq_none (by simp; omega)] at hp
            exact absurd hp (by simp)
        have hi1 : i = kv.length := by omega
        subst hi1
        rw [Nat.sub_self, List.getElem?_cons_zero, Option.some.injEq] at hp
        subst hp
        rw [if_neg (by omega), if_neg (by omega), if_pos (by simp), if_neg (by omega), if_pos (by simp)]
        exact ⟨rfl, rfl⟩
  rw [xe_insertAt]
  refine rb_cell hR hs hz (c := 0) (by omega) rfl rfl rfl (fun u1 r1 => ⟨1, ?_⟩)
  rw [hl.1, xe_insertAt_13]
  by_cases h0 : kv.length = 0
  · refine br_t ?_ (hfin u1 r1)
    rw [h0]; decide
  · refine br_f (nI_nle (by omega) (by omega)) ?_
    rw [na_s1 (by omega)]
    refine rb_key r1 hs hz (i := kv.length - 1) (by omega) rfl rfl rfl (fun u2 r2 => br_t ?_ (hfin u2 r2))
    have hlt : kv.length - 1 < kv.length := by omega
    have h := hl.2 (kv.length - 1) _ (List.getElem?_eq_getElem hlt)
    rw [Int32.le_iff_toInt_le, h.1]
    exact hk _ (List.getElem_mem hlt)
/-- insertAt ahead of the only key -/
theorem lx_front {post : SX → Prop} {ps pz pv : Int32} {u : SX} {z v : Nat} {p : Int × Nat} (hR : ms_RB K w V s y x B t u) (hw : w = s) (hs : s < 4) (hz : z < 41) (key : Int32) (es : ps = nI s) (ez : pz = nI z) (ev : pv = nI v) (hl : tr_lf B z [p]) (hk : key.toInt < p.1)
    (k : ∀ (B' : ms_B) (u' : SX), ms_RB K w V s y x B' t u' → (∀ b, b ≠ z → B' b = B b) → tr_lf B' z [(key.toInt, v), p] → post u') : wpX_insertAt post u ps pz key pv := by
  subst es ez ev
  have h0 := hl.2 0 p rfl
  have hnle : ¬ B z (1 + 0) ≤ key := by
    rw [Int32.le_iff_toInt_le, h0.1]
    omega
  rw [xe_insertAt]
  refine rb_cell hR hs hz (c := 0) (by omega) rfl rfl rfl (fun u1 r1 => ⟨2, ?_⟩)
  rw [hl.1, show nI [p].length = 1 from rfl, xe_insertAt_13]
  refine br_f (by decide) ?_
  refine rb_key r1 hs hz (i := 0) (by omega) rfl rfl rfl (fun u2 r2 => br_f hnle ?_)
  refine rb_key r2 hs hz (i := 0) (by omega) rfl rfl rfl (fun u3 r3 => ?_)
  refine rb_item r3 hs hz (i := 0) (by omega) rfl rfl rfl (fun u4 r4 => ?_)
  refine rb_set r4 hw hs hz (c := 2) (by omega) rfl rfl rfl (fun u5 r5 => ?_)
  refine rb_set r5 hw hs hz (c := 5) (by omega) rfl rfl rfl (fun u6 r6 => nm_r (e' := nI 0) (by decide) ?_)
  rw [xe_insertAt_13]
  refine br_t (by decide) ?_
  rw [xe_insertAt_86]
  refine rb_set r6 hw hs hz (c := 1) (by omega) rfl rfl rfl (fun u7 r7 => ?_)
  refine rb_set r7 hw hs hz (c := 4) (by omega) rfl rfl rfl (fun u8 r8 => ?_)
  refine rb_set r8 hw hs hz (c := 0) (by omega) rfl rfl rfl (fun u9 r9 => ?_)
  refine k _ u9 r9 (fun b hb => by simp only [ms_mC_o _ _ hb]) ⟨?_, fun i q hq => ?_⟩
  · rw [ms_mC_s]; rfl
  · simp only [ms_mC_g]
    rcases i with _ | _ | i
    · rw [List.getElem?_cons_zero, Option.some.injEq] at hq
      subst hq
      simp
    · rw [List.getElem?_cons_succ, List.getElem?_cons_zero, Option.some.injEq] at hq
      subst hq
      simpa using h0
    · simp at hq
theorem lx_rem0 {post : SX → Prop} (hw : w = s) (hs : s < 4) {z n : Nat} (hz : z < 41) (hn : n ≤ 3) : ∀ (d i : Nat) (B : ms_B) (u : SX), i + 1 + d = n → ms_RB K w V s y x B t u →
    (∀ (B' : ms_B) (u' : SX), ms_RB K w V s y x B' t u' → (∀ b, b ≠ z → B' b = B b) → (∀ j, j < i → B' z (1 + j) = B z (1 + j) ∧ B' z (4 + j) = B z (4 + j)) → (∀ j, i ≤ j → j + 1 < n → B' z (1 + j) = B z (2 + j) ∧ B' z (4 + j) = B z (5 + j)) → B' z 0 = nI (n - 1) → post u') →
    xc_removeAt_12 post (nI s) (nI z) (nI n) (d + 1) (nI i) u := by
  intro d
  induction d with
  | zero =>
    intro i B u hi hR k
    rw [xe_removeAt_12, nI_1 i]
    refine br_t (nI_le (by omega) (by omega)) ?_
    refine rb_set hR hw hs hz (c := n) (by omega) rfl rfl rfl (fun u1 r1 => ?_)
    refine rb_set r1 hw hs hz (c := 3 + n) (by omega) rfl rfl (na_p3 n) (fun u2 r2 => ?_)
    rw [na_s1 (by omega)]
    refine rb_set r2 hw hs hz (c := 0) (by omega) rfl rfl rfl (fun u3 r3 => ?_)
    refine k _ u3 r3 (fun b hb => by simp only [ms_mC_o _ _ hb]) (fun j hj => ?_) (fun j h1 h2 => by omega) (ms_mC_s _ _ _ _)
    simp only [ms_mC_g]
    rw [if_neg (by omega), if_neg (by omega), if_neg (by omega), if_neg (by omega), if_neg (by omega), if_neg (by omega)]
    exact ⟨rfl, rfl⟩
  | succ d ih =>
    intro i B u hi hR k
    rw [xe_removeAt_12, nI_1 i]
    refine br_f (nI_ge (by omega) (by omega)) ?_
    refine rb_key hR hs hz (i := i + 1) (by omega) rfl rfl rfl (fun u1 r1 => ?_)
    refine rb_item r1 hs hz (i := i + 1) (by omega) rfl rfl rfl (fun u2 r2 => ?_)
    refine rb_set r2 hw hs hz (c := 1 + i) (by omega) rfl rfl (na_p1 i) (fun u3 r3 => ?_)
    refine rb_set r3 hw hs hz (c := 4 + i) (by omega) rfl rfl (na_p4 i) (fun u4 r4 => nm_e ?_)
    refine ih (i + 1) _ u4 (by omega) r4 (fun B' u' r' k1 k2 k3 k4 => k B' u' r' (fun b hb => ?_) (fun j hj => ?_) (fun j h1 h2 => ?_) k4)
    · rw [k1 b hb, ms_mC_o _ _ hb, ms_mC_o _ _ hb]
    · obtain ⟨a1, a2⟩ := k2 j (by omega)
      rw [a1, a2]
      simp only [ms_mC_g]
      rw [if_neg (by omega), if_neg (by omega), if_neg (by omega), if_neg (by omega)]
      exact ⟨rfl, rfl⟩
    · by_cases e : j = i
      · subst e
        obtain ⟨a1, a2⟩ := k2 j (by omega)
        rw [a1, a2]
        simp only [ms_mC_g]
        rw [if_neg (by omega), if_pos (by first | omega | exact ⟨trivial, by omega⟩ | (simp; done)), if_pos (by first | omega | exact ⟨trivial, by omega⟩ | (simp; done))]
        exact ⟨by rw [show 1 + (j + 1) = 2 + j from by omega], by rw [show 4 + (j + 1) = 5 + j from by omega]⟩
      · obtain ⟨a1, a2⟩ := k3 j (by omega) h2
        rw [a1, a2]
        simp only [ms_mC_g]
        rw [if_neg (by omega), if_neg (by omega), if_neg (by omega), if_neg (by omega)]
        exact ⟨rfl, rfl⟩
/-- removeAt takes one entry out -/
theorem lx_rem {post : SX → Prop} {ps pz pa : Int32} {u : SX} {z : Nat} {A C : tr_KV} {p : Int × Nat} (hR : ms_RB K w V s y x B t u) (hw : w = s) (hs : s < 4) (hz : z < 41) (es : ps = nI s) (ez : pz = nI z) (ea : pa = nI A.length) (hl : tr_lf B z (A ++ p :: C)) (h3 : (A ++ p :: C).length ≤ 3)
    (k : ∀ (B' : ms_B) (u' : SX), ms_RB K w V s y x B' t u' → (∀ b, b ≠ z → B' b = B b) → tr_lf B' z (A ++ C) → post u') : wpX_removeAt post u ps pz pa := by
  subst es ez ea
  have hlen : (A ++ p :: C).length = A.length + C.length + 1 := by simp; omega
  rw [xe_removeAt]
  refine rb_cell hR hs hz (c := 0) (by omega) rfl rfl rfl (fun u1 r1 => ⟨C.length + 1, ?_⟩)
  rw [hl.1]
  refine lx_rem0 hw hs hz h3 C.length A.length B u1 (by omega) r1 (fun B' u' r' k1 k2 k3 k4 => k B' u' r' k1 ⟨?_, fun i q hq => ?_⟩)
  · rw [k4, hlen]; simp
  · by_cases hi : i < A.length
    · rw [List.getElem?_append_left hi] at hq
      obtain ⟨a1, a2⟩ := k2 i hi
      rw [a1, a2]
      exact hl.2 i q (by rw [List.getElem?_append_left hi]; exact hq)
    · rw [List.getElem?_append_right (by omega)] at hq
      have hi2 : i - A.length < C.length := by
        rcases Nat.lt_or_ge (i - A.length) C.length with h | h
        · exact h
        · rw [List.getElem?_eq_none h] at hq
          exact absurd hq (by simp)
      obtain ⟨a1, a2⟩ := k3 i (by omega) (by omega)
      rw [a1, a2]
      have h := hl.2 (i + 1) q (by
        rw [List.getElem?_append_right (by omega), show i + 1 - A.length = (i - A.length) + 1 from by omega, List.getElem?_cons_succ]
        exact hq)
      rw [show 1 + (i + 1) = 2 + i from by omega, show 4 + (i + 1) = 5 + i from by omega] at h
      exact h
/-- joinLeaves: the right one's entries go behind the left one's -/
theorem lx_join0 {post : SX → Prop} (hw : w = s) (hs : s < 4) {z r : Nat} (hz : z < 41) (hr : r < 41) (h9 : 9 ≤ r) (hz9 : 9 ≤ z) (hzr : z ≠ r) : ∀ (C A kv : tr_KV) (B : ms_B) (u : SX), ms_RB K w V s y x B t u → tr_lf B z kv → tr_lf B r (A ++ C) → kv.length + C.length ≤ 3 → (A ++ C).length ≤ 3 → (kv ++ C).Pairwise (fun p q => p.1 < q.1) →
    (∀ (B' : ms_B) (u' : SX), ms_RB K w V s y x B' t u' → (∀ c, c ≠ 6 → B' 0 c = B 0 c) → B' 0 6 = (B 0 6 &&& (((1 : Int32) <<< (nI (r - 9) &&& 31)) ^^^ (-1))) → (∀ b, b ≠ 0 → b ≠ z → b ≠ r → B' b = B b) → tr_lf B' z (kv ++ C) → post u') →
    xc_joinLeaves_12 post (nI s) (nI z) (nI r) (nI (A ++ C).length) (C.length + 1) (nI A.length) u := by
  intro C
  induction C with
  | nil =>
    intro A kv B u hR hl hr' h3 h33 hs' k
    rw [xe_joinLeaves_12, List.append_nil]
    refine br_t (Int32.le_refl _) ?_
    refine rb_give hR hw hs hr h9 rfl rfl (fun B' u' r' k1 k2 k3 => k B' u' r' k1 k2 (fun b hb0 _ hbr => k3 b hb0 hbr) ?_)
    rw [List.append_nil]
    exact tr_lf_fr hl (k3 z (by omega) hzr)
  | cons q C ih =>
    intro A kv B u hR hl hr' h3 h33 hs' k
    obtain ⟨c, v⟩ := q
    have hlen : (A ++ (c, v) :: C).length = A.length + C.length + 1 := by simp; omega
    rw [List.length_cons] at h3
    rw [xe_joinLeaves_12]
    refine br_f (by rw [hlen]; exact nI_ge (by omega) (by omega)) ?_
    refine rb_key hR hs hr (i := A.length) (by omega) rfl rfl rfl (fun u1 r1 => ?_)
    refine rb_item r1 hs hr (i := A.length) (by omega) rfl rfl rfl (fun u2 r2 => ?_)
    have h := hr'.2 A.length _ (tw_mid A (c, v) C)
    rw [h.2]
    refine lx_app (v := v) r2 hw hs hz (B r (1 + A.length)) rfl rfl rfl hl (by omega) (fun p hp => ?_) (fun B1 u3 r3 k1 k2 => nm_r (nI_1 A.length) ?_)
    · rw [h.1]
      have := (List.pairwise_append.mp hs').2.2 p hp (c, v) (by simp)
      exact Int.le_of_lt this
    · rw [h.1] at k2
      have e : A ++ (c, v) :: C = (A ++ [(c, v)]) ++ C := by simp
      have e2 : A.length + 1 = (A ++ [(c, v)]).length := by simp
      have e3 : kv ++ (c, v) :: C = (kv ++ [(c, v)]) ++ C := by simp
      rw [e, e2]
      rw [e] at hr'
      rw [e3] at hs' k
      refine ih (A ++ [(c, v)]) (kv ++ [(c, v)]) B1 u3 r3 k2 (tr_lf_fr hr' (k1 r (Ne.symm hzr))) (by simp; omega) (by rw [← e]; exact h33) hs' (fun B' u' r' j1 j2 j3 j4 => k B' u' r' (fun c hc => ?_) ?_ (fun b b0 bz br => ?_) j4)
      · rw [j1 c hc, k1 0 (by omega)]
      · rw [j2, k1 0 (by omega)]
      · rw [j3 b b0 bz br, k1 b bz]
theorem lx_join {post : SX → Prop} {ps pz pr : Int32} {u : SX} {z r : Nat} {kv1 kv2 : tr_KV} (hR : ms_RB K w V s y x B t u) (hw : w = s) (hs : s < 4) (hz : z < 41) (hr : r < 41) (h9 : 9 ≤ r) (hz9 : 9 ≤ z) (hzr : z ≠ r) (es : ps = nI s) (ez : pz = nI z) (er : pr = nI r) (hl : tr_lf B z kv1) (hr' : tr_lf B r kv2) (h3 : kv1.length + kv2.length ≤ 3) (hs' : (kv1 ++ kv2).Pairwise (fun p q => p.1 < q.1))
    (k : ∀ (B' : ms_B) (u' : SX), ms_RB K w V s y x B' t u' → (∀ c, c ≠ 6 → B' 0 c = B 0 c) → B' 0 6 = (B 0 6 &&& (((1 : Int32) <<< (nI (r - 9) &&& 31)) ^^^ (-1))) → (∀ b, b ≠ 0 → b ≠ z → b ≠ r → B' b = B b) → tr_lf B' z (kv1 ++ kv2) → post u') : wpX_joinLeaves post u ps pz pr := by
  subst es ez er
  rw [xe_joinLeaves]
  refine rb_cell hR hs hr (c := 0) (by omega) rfl rfl rfl (fun u1 r1 => ⟨kv2.length + 1, ?_⟩)
  rw [hr'.1]
  exact lx_join0 hw hs hz hr h9 hz9 hzr kv2 [] kv1 B u1 r1 hl hr' h3 (by simp; omega) hs' k
end
end
section
/-! writes in inner nodes: removeItem, insertItem behind the last, joinInner; one key of a node -/
theorem tr_nd_1 {B : ms_B} {z : Nat} {a : Nat × Int} : tr_nd B z [a] ↔ B z 0 = 1 ∧ B z 4 = nI a.1 := by
  constructor
  · intro h
    exact ⟨h.1, (h.2 0 a rfl).1⟩
  · rintro ⟨h0, h1⟩
    refine ⟨h0, fun i p hp => ?_⟩
    rcases i with _ | i
    · rw [List.getElem?_cons_zero, Option.some.injEq] at hp; subst hp; exact ⟨h1, fun h => by simp at h⟩
    · simp at hp
theorem tr_nd_2 {B : ms_B} {z : Nat} {a b : Nat × Int} : tr_nd B z [a, b] ↔ B z 0 = 2 ∧ B z 4 = nI a.1 ∧ B z 5 = nI b.1 ∧ (B z 1).toInt = a.2 := by
  constructor
  · intro h
    exact ⟨h.1, (h.2 0 a rfl).1, (h.2 1 b rfl).1, (h.2 0 a rfl).2 (by simp)⟩
  · rintro ⟨h0, h1, h2, h3⟩
    refine ⟨h0, fun i p hp => ?_⟩
    rcases i with _ | _ | i
    · rw [List.getElem?_cons_zero, Option.some.injEq] at hp; subst hp; exact ⟨h1, fun _ => h3⟩
    · rw [List.getElem?_cons_succ, List.getElem?_cons_zero, Option.some.injEq] at hp; subst hp; exact ⟨h2, fun h => by simp at h⟩
    · simp at hp
theorem tr_nd_3 {B : ms_B} {z : Nat} {a b c : Nat × Int} : tr_nd B z [a, b, c] ↔ B z 0 = 3 ∧ B z 4 = nI a.1 ∧ B z 5 = nI b.1 ∧ B z 6 = nI c.1 ∧ (B z 1).toInt = a.2 ∧ (B z 2).toInt = b.2 := by
  constructor
  · intro h
    exact ⟨h.1, (h.2 0 a rfl).1, (h.2 1 b rfl).1, (h.2 2 c rfl).1, (h.2 0 a rfl).2 (by simp), (h.2 1 b rfl).2 (by simp)⟩
  · rintro ⟨h0, h1, h2, h3, h4, h5⟩
    refine ⟨h0, fun i p hp => ?_⟩
    rcases i with _ | _ | _ | i
    · rw [List.getElem?_cons_zero, Option.some.injEq] at hp; subst hp; exact ⟨h1, fun _ => h4⟩
    · rw [List.getElem?_cons_succ, List.getElem?_cons_zero, Option.some.injEq] at hp; subst hp; exact ⟨h2, fun _ => h5⟩
    · rw [List.getElem?_cons_succ, List.getElem?_cons_succ, List.getElem?_cons_zero, Option.some.injEq] at hp; subst hp; exact ⟨h3, fun h => by simp at h⟩
    · simp at hp
theorem tr_nd_4 {B : ms_B} {z : Nat} {a b c d : Nat × Int} : tr_nd B z [a, b, c, d] ↔ B z 0 = 4 ∧ B z 4 = nI a.1 ∧ B z 5 = nI b.1 ∧ B z 6 = nI c.1 ∧ B z 7 = nI d.1 ∧ (B z 1).toInt = a.2 ∧ (B z 2).toInt = b.2 ∧ (B z 3).toInt = c.2 := by
  constructor
  · intro h
    exact ⟨h.1, (h.2 0 a rfl).1, (h.2 1 b rfl).1, (h.2 2 c rfl).1, (h.2 3 d rfl).1, (h.2 0 a rfl).2 (by simp), (h.2 1 b rfl).2 (by simp), (h.2 2 c rfl).2 (by simp)⟩
  · rintro ⟨h0, h1, h2, h3, h4, h5, h6, h7⟩
    refine ⟨h0, fun i p hp => ?_⟩
    rcases i with _ | _ | _ | _ | i
    · rw [List.getElem?_cons_zero, Option.some.injEq] at hp; subst hp; exact ⟨h1, fun _ => h5⟩
    · rw [List.getElem?_cons_succ, List.getElem?_cons_zero, Option.some.injEq] at hp; subst hp; exact ⟨h2, fun _ => h6⟩
    · rw [List.getElem?_cons_succ, List.getElem?_cons_succ, List.getElem?_cons_zero, Option.some.injEq] at hp; subst hp; exact ⟨h3, fun _ => h7⟩
    · rw [List.getElem?_cons_succ, List.getElem?_cons_succ, List.getElem?_cons_succ, List.getElem?_cons_zero, Option.some.injEq] at hp; subst hp; exact ⟨h4, fun h => by simp at h⟩
    · simp at hp
section
variable {K w : Nat} {V : ms_M} {s : Nat} {y : ms_YT} {x : ms_XT} {B : ms_B} {t : ms_TT}
theorem ix_rem0 {post : SX → Prop} (hw : w = s) (hs : s < 4) {z n : Nat} (hz : z < 41) (hn : n ≤ 4) : ∀ (d i : Nat) (B : ms_B) (u : SX), i + 2 + d = n → ms_RB K w V s y x B t u →
    (∀ (B' : ms_B) (u' : SX), ms_RB K w V s y x B' t u' → (∀ b, b ≠ z → B' b = B b) → (∀ j, j < i → B' z (1 + j) = B z (1 + j)) → (∀ j, j ≤ i → B' z (4 + j) = B z (4 + j)) → (∀ j, i ≤ j → j + 2 < n → B' z (1 + j) = B z (2 + j)) → (∀ j, i < j → j + 1 < n → B' z (4 + j) = B z (5 + j)) → B' z 0 = nI (n - 1) → post u') →
    xc_removeItem_12 post (nI s) (nI z) (nI n) (d + 1) (nI i) u := by
  intro d
  induction d with
  | zero =>
    intro i B u hi hR k
    rw [xe_removeItem_12, na_q2 i]
    refine br_t (nI_le (by omega) (by omega)) ?_
    rw [na_s1 (by omega)]
    refine rb_set hR hw hs hz (c := n - 1) (by omega) rfl rfl rfl (fun u1 r1 => ?_)
    refine rb_set r1 hw hs hz (c := 3 + n) (by omega) rfl rfl (na_p3 n) (fun u2 r2 => ?_)
    refine rb_set r2 hw hs hz (c := 0) (by omega) rfl rfl rfl (fun u3 r3 => ?_)
    refine k _ u3 r3 (fun b hb => by simp only [ms_mC_o _ _ hb]) (fun j hj => ?_) (fun j hj => ?_) (fun j h1 h2 => by omega) (fun j h1 h2 => by omega) (ms_mC_s _ _ _ _)
    · simp only [ms_mC_g]
      rw [if_neg (by omega), if_neg (by omega), if_neg (by omega)]
    · simp only [ms_mC_g]
      rw [if_neg (by omega), if_neg (by omega), if_neg (by omega)]
  | succ d ih =>
    intro i B u hi hR k
    rw [xe_removeItem_12, na_q2 i, nI_1 i]
    refine br_f (nI_ge (by omega) (by omega)) ?_
    refine rb_key hR hs hz (i := i + 1) (by omega) rfl rfl rfl (fun u1 r1 => ?_)
    refine rb_item r1 hs hz (i := i + 2) (by omega) rfl rfl rfl (fun u2 r2 => ?_)
    refine rb_set r2 hw hs hz (c := 1 + i) (by omega) rfl rfl (na_p1 i) (fun u3 r3 => ?_)
    refine rb_set r3 hw hs hz (c := 5 + i) (by omega) rfl rfl (na_p5 i) (fun u4 r4 => nm_e ?_)
    refine ih (i + 1) _ u4 (by omega) r4 (fun B' u' r' k1 k2 k3 k4 k5 k6 => k B' u' r' (fun b hb => ?_) (fun j hj => ?_) (fun j hj => ?_) (fun j h1 h2 => ?_) (fun j h1 h2 => ?_) k6)
    · rw [k1 b hb, ms_mC_o _ _ hb, ms_mC_o _ _ hb]
    · rw [k2 j (by omega)]
      simp only [ms_mC_g]
      rw [if_neg (by omega), if_neg (by omega)]
    · rw [k3 j (by omega)]
      simp only [ms_mC_g]
      rw [if_neg (by omega), if_neg (by omega)]
    · by_cases e : j = i
      · subst e
        rw [k2 j (by omega)]
        simp only [ms_mC_g]
        rw [if_neg (by omega), if_pos (by first | omega | exact ⟨trivial, by omega⟩ | (simp; done)), show 1 + (j + 1) = 2 + j from by omega]
      · rw [k4 j (by omega) h2]
        simp only [ms_mC_g]
        rw [if_neg (by omega), if_neg (by omega)]
    · by_cases e : j = i + 1
      · subst e
        rw [k3 (i + 1) (by omega)]
        simp only [ms_mC_g]
        rw [if_pos (by first | omega | exact ⟨trivial, by omega⟩ | (simp; done)), show 4 + (i + 2) = 5 + (i + 1) from by omega]
      · rw [k5 j (by omega) h2]
        simp only [ms_mC_g]
        rw [if_neg (by omega), if_neg (by omega)]
/-- removeItem: the child behind a slot goes, with the key before it -/
theorem ix_rem {post : SX → Prop} {ps pz pa : Int32} {u : SX} {z l r : Nat} {h1 h2 : Int} {A C : tr_PS} (hR : ms_RB K w V s y x B t u) (hw : w = s) (hs : s < 4) (hz : z < 41) (es : ps = nI s) (ez : pz = nI z) (ea : pa = nI A.length) (hn : tr_nd B z (A ++ (l, h1) :: (r, h2) :: C)) (h4 : A.length + C.length ≤ 2)
    (k : ∀ (B' : ms_B) (u' : SX), ms_RB K w V s y x B' t u' → (∀ b, b ≠ z → B' b = B b) → tr_nd B' z (A ++ (l, h2) :: C) → post u') : wpX_removeItem post u ps pz pa := by
  subst es ez ea
  have hlen : (A ++ (l, h1) :: (r, h2) :: C).length = A.length + C.length + 2 := by simp; omega
  have hlen2 : (A ++ (l, h2) :: C).length = A.length + C.length + 1 := by simp; omega
  rw [xe_removeItem]
  refine rb_cell hR hs hz (c := 0) (by omega) rfl rfl rfl (fun u1 r1 => ⟨C.length + 1, ?_⟩)
  rw [hn.1, hlen]
  refine ix_rem0 hw hs hz (by omega) C.length A.length B u1 (by omega) r1 (fun B' u' r' k1 k2 k3 k4 k5 k6 => k B' u' r' k1 ⟨?_, fun i q hq => ?_⟩)
  · rw [k6, hlen2]; rfl
  · rw [hlen2]
    by_cases hi : i < A.length
    · rw [List.getElem?_append_left hi] at hq
      have h := hn.2 i q (by rw [List.getElem?_append_left hi]; exact hq)
      rw [k3 i (by omega), k2 i hi]
      exact ⟨h.1, fun _ => h.2 (by omega)⟩
    · by_cases hi2 : i = A.length
      · subst hi2
        rw [tw_mid, Option.some.injEq] at hq
        subst hq
        have g1 := hn.2 A.length _ (tw_mid A (l, h1) ((r, h2) :: C))
        have g2 := hn.2 (A.length + 1) _ (tw_mid1 A (l, h1) (r, h2) C)
        refine ⟨by rw [k3 A.length (by omega)]; exact g1.1, fun hlt => ?_⟩
        rw [k4 A.length (by omega) (by omega)]
        have := g2.2 (by omega)
        rw [show 1 + (A.length + 1) = 2 + A.length from by omega] at this
        exact this
      · rw [List.getElem?_append_right (by omega), show i - A.length = (i - A.length - 1) + 1 from by omega, List.getElem?_cons_succ] at hq
        have hi3 : i - A.length - 1 < C.length := by
          rcases Nat.lt_or_ge (i - A.length - 1) C.length with h | h
          · exact h
          · rw [List.getElem?_eq_none h] at hq
            exact absurd hq (by simp)
        have h := hn.2 (i + 1) q (by
          rw [List.getElem?_append_right (by omega), show i + 1 - A.length = (i - A.length - 1) + 1 + 1 from by omega, List.getElem?_cons_succ, List.getElem?_cons_succ]
          exact hq)
        rw [show 1 + (i + 1) = 2 + i from by omega, show 4 + (i + 1) = 5 + i from by omega] at h
        refine ⟨by rw [k5 i (by omega) (by omega)]; exact h.1, fun hlt => ?_⟩
        rw [k4 i (by omega) (by omega)]
        exact h.2 (by omega)
/-- one key of a node -/
theorem ix_key {z l r : Nat} {h1 h2 : Int} {A C : tr_PS} (hn : tr_nd B z (A ++ (l, h1) :: (r, h2) :: C)) (h4 : A.length + C.length ≤ 2) (v : Int32) : tr_nd (ms_mC B z (1 + A.length) v) z (A ++ (l, v.toInt) :: (r, h2) :: C) := by
  have hlen : (A ++ (l, h1) :: (r, h2) :: C).length = A.length + C.length + 2 := by simp; omega
  have hlen2 : (A ++ (l, v.toInt) :: (r, h2) :: C).length = A.length + C.length + 2 := by simp; omega
  refine ⟨?_, fun i q hq => ?_⟩
  · rw [ms_mC_c _ _ (by omega), hn.1, hlen, hlen2]
  · rw [hlen2]
    simp only [ms_mC_g]
    by_cases hi : i < A.length
    · rw [List.getElem?_append_left hi] at hq
      have h := hn.2 i q (by rw [List.getElem?_append_left hi]; exact hq)
      rw [if_neg (by omega), if_neg (by omega)]
      exact ⟨h.1, fun _ => h.2 (by omega)⟩
    · by_cases hi2 : i = A.length
      · subst hi2
        rw [tw_mid, Option.some.injEq] at hq
        subst hq
        have g1 := hn.2 A.length _ (tw_mid A (l, h1) ((r, h2) :: C))
        rw [if_neg (by omega), if_pos (by first | omega | exact ⟨rfl, rfl⟩ | exact ⟨trivial, by omega⟩ | (simp; done))]
        exact ⟨g1.1, fun _ => rfl⟩
      · rw [List.getElem?_append_right (by omega), show i - A.length = (i - A.length - 1) + 1 from by omega, List.getElem?_cons_succ] at hq
        have hi3 : i - A.length - 1 < C.length + 1 := by
          rcases Nat.lt_or_ge (i - A.length - 1) (C.length + 1) with h | h
          · exact h
          · rw [List.getElem?_eq_none (by simpa using h)] at hq
            exact absurd hq (by simp)
        have h := hn.2 i q (by
          rw [List.getElem?_append_right (by omega), show i - A.length = (i - A.length - 1) + 1 from by omega, List.getElem?_cons_succ]
          exact hq)
        rw [if_neg (by omega), if_neg (by omega)]
        exact ⟨h.1, fun _ => h.2 (by omega)⟩
/-- insertItem behind the last child -/
theorem ix_ins {post : SX → Prop} {ps pz pa : Int32} {u : SX} {z c o : Nat} {h : Int} {A : tr_PS} (hR : ms_RB K w V s y x B t u) (hw : w = s) (hs : s < 4) (hz : z < 41) (es : ps = nI s) (ez : pz = nI z) (ea : pa = nI A.length) (eo : t.2.1 = nI o) (hn : tr_nd B z (A ++ [(c, h)])) (h4 : A.length ≤ 2)
    (k : ∀ (B' : ms_B) (u' : SX), ms_RB K w V s y x B' t u' → (∀ b, b ≠ z → B' b = B b) → tr_nd B' z (A ++ [(c, t.1.toInt), (o, h)]) → post u') : wpX_insertItem post u ps pz pa := by
  subst es ez ea
  have hlen : (A ++ [(c, h)]).length = A.length + 1 := by simp
  have hlen2 : (A ++ [(c, t.1.toInt), (o, h)]).length = A.length + 2 := by simp
  have hu : ∀ u1, ms_RB K w V s y x B t u1 → xg_upKey u1 = t.1 := fun u1 r1 => congrArg (fun a : ms_TT => a.1) r1.2.2.1
  have hu2 : ∀ (B1 : ms_B) u1, ms_RB K w V s y x B1 t u1 → xg_upNode u1 = t.2.1 := fun B1 u1 r1 => congrArg (fun a : ms_TT => a.2.1) r1.2.2.1
  rw [xe_insertItem]
  refine rb_cell hR hs hz (c := 0) (by omega) rfl rfl rfl (fun u1 r1 => ?_)
  rw [hn.1, hlen]
  refine nm_r (nI_pred A.length) ⟨1, ?_⟩
  rw [xe_insertItem_15]
  refine br_t (Int32.le_refl _) ?_
  rw [hu u1 r1]
  refine rb_set r1 hw hs hz (c := 1 + A.length) (by omega) rfl rfl (na_p1 _) (fun u2 r2 => ?_)
  rw [hu2 _ u2 r2, eo]
  refine rb_set r2 hw hs hz (c := 5 + A.length) (by omega) rfl rfl (na_p5 _) (fun u3 r3 => ?_)
  rw [nI_1]
  refine rb_set r3 hw hs hz (c := 0) (by omega) rfl rfl rfl (fun u4 r4 => ?_)
  refine k _ u4 r4 (fun b hb => by simp only [ms_mC_o _ _ hb]) ⟨?_, fun i q hq => ?_⟩
  · rw [ms_mC_s, hlen2]
  · rw [hlen2]
    simp only [ms_mC_g]
    by_cases hi : i < A.length
    · rw [List.getElem?_append_left hi] at hq
      have h := hn.2 i q (by rw [List.getElem?_append_left hi]; exact hq)
      rw [if_neg (by omega), if_neg (by omega), if_neg (by omega), if_neg (by omega), if_neg (by omega), if_neg (by omega)]
      exact ⟨h.1, fun _ => h.2 (by omega)⟩
    · by_cases hi2 : i = A.length
      · subst hi2
        rw [tw_mid, Option.some.injEq] at hq
        subst hq
        have g1 := hn.2 A.length _ (tw_mid A (c, h) [])
        rw [if_neg (by omega), if_neg (by omega), if_neg (by omega), if_neg (by omega), if_neg (by omega), if_pos (by first | omega | exact ⟨rfl, rfl⟩ | exact ⟨trivial, by omega⟩ | (simp; done))]
        exact ⟨g1.1, fun _ => rfl⟩
      · have hi3 : i < A.length + 2 := by
          rcases Nat.lt_or_ge i (A.length + 2) with h | h
          · exact h
          · rw [List.getElem?_eq_none (by omega)] at hq
            exact absurd hq (by simp)
        have hi4 : i = A.length + 1 := by omega
        subst hi4
        rw [tw_mid1, Option.some.injEq] at hq
        subst hq
        rw [if_neg (by omega), if_pos (by first | omega | exact ⟨trivial, by omega⟩ | (simp; done))]
        exact ⟨rfl, fun h => by omega⟩
end
end
section
/-! fillLeaf, splitLeaf, splitInner, joinInner -/
theorem tr_lf_2 {B : ms_B} {z : Nat} {a b : Int × Nat} : tr_lf B z [a, b] ↔ B z 0 = 2 ∧ (B z 1).toInt = a.1 ∧ B z 4 = nI a.2 ∧ (B z 2).toInt = b.1 ∧ B z 5 = nI b.2 := by
  constructor
  · intro h
    exact ⟨h.1, (h.2 0 a rfl).1, (h.2 0 a rfl).2, (h.2 1 b rfl).1, (h.2 1 b rfl).2⟩
  · rintro ⟨h0, h1, h2, h3, h4⟩
    refine ⟨h0, fun i p hp => ?_⟩
    rcases i with _ | _ | i
    · rw [List.getElem?_cons_zero, Option.some.injEq] at hp; subst hp; exact ⟨h1, h2⟩
    · rw [List.getElem?_cons_succ, List.getElem?_cons_zero, Option.some.injEq] at hp; subst hp; exact ⟨h3, h4⟩
    · simp at hp
def tw_wk (t : ms_TT) (a : Nat → Int32) : ms_TT := (t.1, t.2.1, t.2.2.1, t.2.2.2.1, a, t.2.2.2.2.2)
def tw_wi (t : ms_TT) (a : Nat → Int32) : ms_TT := (t.1, t.2.1, t.2.2.1, t.2.2.2.1, t.2.2.2.2.1, a)
def tw_uu (t : ms_TT) (a b : Int32) : ms_TT := (a, b, t.2.2)
section
variable {K w : Nat} {V : ms_M} {s : Nat} {y : ms_YT} {x : ms_XT} {B : ms_B} {t : ms_TT}
theorem rb_gwk {u : SX} (hR : ms_RB K w V s y x B t u) : xg_wideKey u = t.2.2.2.2.1 := congrArg (fun a : ms_TT => a.2.2.2.2.1) hR.2.2.1
theorem rb_gwi {u : SX} (hR : ms_RB K w V s y x B t u) : xg_wideItem u = t.2.2.2.2.2 := congrArg (fun a : ms_TT => a.2.2.2.2.2) hR.2.2.1
theorem rb_guk {u : SX} (hR : ms_RB K w V s y x B t u) : xg_upKey u = t.1 := congrArg (fun a : ms_TT => a.1) hR.2.2.1
theorem rb_gun {u : SX} (hR : ms_RB K w V s y x B t u) : xg_upNode u = t.2.1 := congrArg (fun a : ms_TT => a.2.1) hR.2.2.1
theorem rb_gwn {u : SX} (hR : ms_RB K w V s y x B t u) : xg_wayNode u = t.2.2.1 := congrArg (fun a : ms_TT => a.2.2.1) hR.2.2.1
theorem rb_gws {u : SX} (hR : ms_RB K w V s y x B t u) : xg_waySlot u = t.2.2.2.1 := congrArg (fun a : ms_TT => a.2.2.2.1) hR.2.2.1
theorem rb_wk {u : SX} (hR : ms_RB K w V s y x B t u) (a : Nat → Int32) : ms_RB K w V s y x B (tw_wk t a) (xs_wideKey u a) := by
  obtain ⟨hK, hB, rfl, hY, hX⟩ := hR
  exact ⟨hK, hB, rfl, hY, hX⟩
theorem rb_wi {u : SX} (hR : ms_RB K w V s y x B t u) (a : Nat → Int32) : ms_RB K w V s y x B (tw_wi t a) (xs_wideItem u a) := by
  obtain ⟨hK, hB, rfl, hY, hX⟩ := hR
  exact ⟨hK, hB, rfl, hY, hX⟩
theorem rb_uu {u : SX} (hR : ms_RB K w V s y x B t u) (a b : Int32) : ms_RB K w V s y x B (tw_uu t a b) (xs_upNode (xs_upKey u a) b) := by
  obtain ⟨hK, hB, rfl, hY, hX⟩ := hR
  exact ⟨hK, hB, rfl, hY, hX⟩
theorem lx_fill {post : SX → Prop} {ps pz pf : Int32} {u : SX} {z f : Nat} (hR : ms_RB K w V s y x B t u) (hw : w = s) (hs : s < 4) (hz : z < 41) (hf : f ≤ 3) (es : ps = nI s) (ez : pz = nI z) (ef : pf = nI f)
    (k : ∀ (B' : ms_B) (u' : SX), ms_RB K w V s y x B' t u' → (∀ b, b ≠ z → B' b = B b) → (B' z 0 = 2 ∧ B' z 1 = t.2.2.2.2.1 f ∧ B' z 4 = t.2.2.2.2.2 f ∧ B' z 2 = t.2.2.2.2.1 (f + 1) ∧ B' z 5 = t.2.2.2.2.2 (f + 1)) → post u') : wpX_fillLeaf post u ps pz pf := by
  subst es ez ef
  rw [xe_fillLeaf]
  refine rb_clear hR hw hs hz rfl rfl (fun B1 u1 r1 k1 _ => ?_)
  refine rb_set r1 hw hs hz (c := 0) (by omega) rfl rfl rfl (fun u2 r2 => ⟨3, ?_⟩)
  rw [xe_fillLeaf_17]
  refine br_f (by decide) ?_
  rw [show nI f + (0 : Int32) = nI f from Int32.add_zero _]
  refine ⟨vp_in_nI (by omega) (by omega), ?_⟩
  rw [nI_clamp (n := f) (by omega)]
  refine rb_set r2 hw hs hz (c := 1) (by omega) rfl rfl rfl (fun u3 r3 => ⟨vp_in_nI (by omega) (by omega), ?_⟩)
  refine rb_set r3 hw hs hz (c := 4) (by omega) rfl rfl rfl (fun u4 r4 => nm_r (e' := 1) (by decide) ?_)
  rw [xe_fillLeaf_17]
  refine br_f (by decide) ?_
  rw [na_q1 f]
  refine ⟨vp_in_nI (by omega) (by omega), ?_⟩
  rw [nI_clamp (n := f + 1) (by omega)]
  refine rb_set r4 hw hs hz (c := 2) (by omega) rfl rfl rfl (fun u5 r5 => ⟨vp_in_nI (by omega) (by omega), ?_⟩)
  refine rb_set r5 hw hs hz (c := 5) (by omega) rfl rfl rfl (fun u6 r6 => nm_r (e' := 2) (by decide) ?_)
  rw [xe_fillLeaf_17]
  refine br_t (by decide) (k _ u6 r6 (fun b hb => ?_) ?_)
  · simp only [ms_mC_o _ _ hb]
    exact k1 b hb
  · rw [rb_gwk r2, rb_gwi r3, rb_gwk r4, rb_gwi r5]
    simp [ms_mC_g]
theorem lx_split_i {post : SX → Prop} {pv : Int32} {u : SX} {z j n : Nat} (hR : ms_RB K w V s y x B t u) (hs : s < 4) (hz : z < 41) (key : Int32) (hj : j < 3) (hle : B z (1 + j) ≤ key)
    (k : ∀ (t' : ms_TT) (u' : SX), ms_RB K w V s y x B t' u' → (t'.2.2.1 = t.2.2.1 ∧ t'.2.2.2.1 = t.2.2.2.1 ∧ t'.2.2.2.2.1 = upd t.2.2.2.2.1 j (B z (1 + j)) ∧ t'.2.2.2.2.2 = upd t.2.2.2.2.2 j (B z (4 + j))) → xc_splitLeaf_9 post (nI s) (nI z) key pv n (nI (j + 1)) 0 (nI (j + 1)) u') : xc_splitLeaf_9 post (nI s) (nI z) key pv (n + 1) (nI j) 0 (nI j) u := by
  rw [xe_splitLeaf_9]
  refine br_f (na_nle (a := 3) (b := j) rfl rfl hj (by omega)) ?_
  refine rb_key hR hs hz (i := j) (by omega) rfl rfl rfl (fun u1 r1 => br_t rfl (br_t hle ?_))
  rw [xe_splitLeaf_59]
  refine ⟨vp_in_nI (by omega) (by omega), nm_e ?_⟩
  rw [nI_clamp (n := j) (by omega)]
  refine rb_item (rb_wk r1 _) hs hz (i := j) (by omega) rfl rfl rfl (fun u2 r2 => ⟨vp_in_nI (by omega) (by omega), nm_e (nm_r (nI_1 j) (nm_r (nI_1 j) ?_))⟩)
  refine k _ _ (rb_wi r2 _) ⟨rfl, rfl, ?_, ?_⟩
  · show upd (xg_wideKey u1) j _ = _
    rw [rb_gwk r1]
  · show upd (xg_wideItem u2) j _ = _
    rw [rb_gwi r2]
    rfl
theorem lx_split_e {post : SX → Prop} {u : SX} {z v : Nat} (hR : ms_RB K w V s y x B t u) (hw : w = s) (hs : s < 4) (hz : z < 41) (hz9 : 9 ≤ z) (key : Int32) (hf : ∃ i, i < 31 ∧ bt (B 0 6) i = false) (hb : ∀ q, q < 31 → bt (B 0 6) q = false → 9 + q ≠ z)
    (k : ∀ (q : Nat) (B' : ms_B) (t' : ms_TT) (u' : SX), q < 31 → bt (B 0 6) q = false → ms_RB K w V s y x B' t' u' → (t'.2.2.1 = t.2.2.1 ∧ t'.2.2.2.1 = t.2.2.2.1 ∧ t'.1 = t.2.2.2.2.1 2 ∧ t'.2.1 = nI (9 + q)) → (∀ c, c ≠ 6 → B' 0 c = B 0 c) → B' 0 6 = (B 0 6 ||| ((1 : Int32) <<< (nI q &&& 31))) → (∀ b, b ≠ 0 → b ≠ z → b ≠ 9 + q → B' b = B b) →
      (B' z 0 = 2 ∧ B' z 1 = t.2.2.2.2.1 0 ∧ B' z 4 = t.2.2.2.2.2 0 ∧ B' z 2 = t.2.2.2.2.1 1 ∧ B' z 5 = t.2.2.2.2.2 1) → (B' (9 + q) 0 = 2 ∧ B' (9 + q) 1 = t.2.2.2.2.1 2 ∧ B' (9 + q) 4 = t.2.2.2.2.2 2 ∧ B' (9 + q) 2 = key ∧ B' (9 + q) 5 = nI v) → post u') : xc_splitLeaf_9 post (nI s) (nI z) key (nI v) 1 3 0 3 u := by
  rw [xe_splitLeaf_9]
  refine br_t (by decide) (br_t rfl (nm_e (nm_e ?_)))
  rw [xe_splitLeaf_112]
  have r7 : ms_RB K w V s y x B (tw_wi (tw_wk t (upd (xg_wideKey u) 3 key)) (upd (xg_wideItem u) 3 (nI v))) (xs_wideItem (xs_wideKey u (upd (xg_wideKey u) 3 key)) (upd (xg_wideItem u) 3 (nI v))) := rb_wi (rb_wk hR _) _
  rw [rb_gwk hR, rb_gwi hR] at r7 ⊢
  generalize et : tw_wi (tw_wk t (upd t.2.2.2.2.1 3 key)) (upd t.2.2.2.2.2 3 (nI v)) = t7 at r7
  have e1 : t7.2.2.1 = t.2.2.1 := by rw [← et]; rfl
  have e2 : t7.2.2.2.1 = t.2.2.2.1 := by rw [← et]; rfl
  have e3 : t7.2.2.2.2.1 = upd t.2.2.2.2.1 3 key := by rw [← et]; rfl
  have e4 : t7.2.2.2.2.2 = upd t.2.2.2.2.2 3 (nI v) := by rw [← et]; rfl
  refine rb_take r7 hw hs rfl hf (fun q B1 u8 hq hbq r8 k1 k2 k3 k4 => ?_)
  have hqz := hb q hq hbq
  refine lx_fill (f := 0) r8 hw hs hz (by omega) rfl rfl rfl (fun B2 u9 r9 j1 j2 => ?_)
  refine lx_fill (z := 9 + q) (f := 2) r9 hw hs (by omega) (by omega) rfl rfl rfl (fun B3 u10 r10 i1 i2 => nm_e ?_)
  refine k q B3 _ _ hq hbq (rb_uu r10 (xg_wideKey u10 2) (nI (9 + q))) ⟨e1, e2, ?_, rfl⟩ (fun c hc => ?_) ?_ (fun b b0 bz bq => ?_) ?_ ?_
  · show xg_wideKey u10 2 = _
    rw [rb_gwk r10, e3, pk_un (by omega)]
  · rw [i1 0 (by omega), j1 0 (by omega), k1 c hc]
  · rw [i1 0 (by omega), j1 0 (by omega), k2]
  · rw [i1 b bq, j1 b bz, k3 b b0 bq]
  · rw [i1 z (Ne.symm hqz)]
    rw [e3, e4] at j2
    rw [pk_un (by omega), pk_un (by omega), pk_un (by omega), pk_un (by omega)] at j2
    exact j2
  · rw [e3, e4] at i2
    rw [pk_un (by omega), pk_un (by omega), pk_us, pk_us] at i2
    exact i2
/-- splitLeaf for a key behind all of them -/
theorem lx_split {post : SX → Prop} {ps pz pv : Int32} {u : SX} {z v : Nat} {p0 p1 p2 : Int × Nat} (hR : ms_RB K w V s y x B t u) (hw : w = s) (hs : s < 4) (hz : z < 41) (hz9 : 9 ≤ z) (key : Int32) (es : ps = nI s) (ez : pz = nI z) (ev : pv = nI v) (hl : tr_lf B z [p0, p1, p2]) (hk : ∀ p, p ∈ [p0, p1, p2] → p.1 ≤ key.toInt)
    (hb : bt (B 0 6) (z - 9) = true) (hf : ∃ i, i < 31 ∧ bt (B 0 6) i = false)
    (k : ∀ (q : Nat) (B' : ms_B) (t' : ms_TT) (u' : SX), q < 31 → bt (B 0 6) q = false → ms_RB K w V s y x B' t' u' → (t'.2.2.1 = t.2.2.1 ∧ t'.2.2.2.1 = t.2.2.2.1 ∧ t'.1.toInt = p2.1 ∧ t'.2.1 = nI (9 + q)) → (∀ c, c ≠ 6 → B' 0 c = B 0 c) → B' 0 6 = (B 0 6 ||| ((1 : Int32) <<< (nI q &&& 31))) → (∀ b, b ≠ 0 → b ≠ z → b ≠ 9 + q → B' b = B b) → tr_lf B' z [p0, p1] → tr_lf B' (9 + q) [p2, (key.toInt, v)] → post u') : wpX_splitLeaf post u ps pz key pv := by
  subst es ez ev
  have h0 := hl.2 0 p0 rfl
  have h1 := hl.2 1 p1 rfl
  have h2 := hl.2 2 p2 rfl
  have le0 : B z (1 + 0) ≤ key := by rw [Int32.le_iff_toInt_le, h0.1]; exact hk p0 (by simp)
  have le1 : B z (1 + 1) ≤ key := by rw [Int32.le_iff_toInt_le, h1.1]; exact hk p1 (by simp)
  have le2 : B z (1 + 2) ≤ key := by rw [Int32.le_iff_toInt_le, h2.1]; exact hk p2 (by simp)
  rw [xe_splitLeaf]
  refine ⟨4, ?_⟩
  refine lx_split_i (j := 0) hR hs hz key (by omega) le0 (fun t1 u1 r1 e1 => ?_)
  refine lx_split_i (j := 1) r1 hs hz key (by omega) le1 (fun t2 u2 r2 e2 => ?_)
  refine lx_split_i (j := 2) r2 hs hz key (by omega) le2 (fun t3 u3 r3 e3 => ?_)
  have w1 : t3.2.2.1 = t.2.2.1 := e3.1.trans (e2.1.trans e1.1)
  have w2 : t3.2.2.2.1 = t.2.2.2.1 := e3.2.1.trans (e2.2.1.trans e1.2.1)
  have k0 : t3.2.2.2.2.1 0 = B z (1 + 0) := by rw [e3.2.2.1, pk_un (by omega), e2.2.2.1, pk_un (by omega), e1.2.2.1, pk_us]
  have k1 : t3.2.2.2.2.1 1 = B z (1 + 1) := by rw [e3.2.2.1, pk_un (by omega), e2.2.2.1, pk_us]
  have k2 : t3.2.2.2.2.1 2 = B z (1 + 2) := by rw [e3.2.2.1, pk_us]
  have i0 : t3.2.2.2.2.2 0 = B z (4 + 0) := by rw [e3.2.2.2, pk_un (by omega), e2.2.2.2, pk_un (by omega), e1.2.2.2, pk_us]
  have i1 : t3.2.2.2.2.2 1 = B z (4 + 1) := by rw [e3.2.2.2, pk_un (by omega), e2.2.2.2, pk_us]
  have i2 : t3.2.2.2.2.2 2 = B z (4 + 2) := by rw [e3.2.2.2, pk_us]
  refine lx_split_e r3 hw hs hz hz9 key hf (fun q hq hbq e => ?_) (fun q B' t' u' hq hbq r' et a1 a2 a3 a4 a5 => ?_)
  · rw [show z - 9 = q from by omega, hbq] at hb
    exact absurd hb (by decide)
  · rw [k0, k1, i0, i1] at a4
    rw [k2, i2] at a5
    rw [k2, w1, w2] at et
    refine k q B' t' u' hq hbq r' ⟨et.1, et.2.1, by rw [et.2.2.1]; exact h2.1, et.2.2.2⟩ a1 a2 a3 (tr_lf_2.mpr ?_) (tr_lf_2.mpr ?_)
    · obtain ⟨b0, b1, b2, b3, b4⟩ := a4
      rw [b0, b1, b2, b3, b4]
      exact ⟨rfl, h0.1, h0.2, h1.1, h1.2⟩
    · obtain ⟨b0, b1, b2, b3, b4⟩ := a5
      rw [b0, b1, b2, b3, b4]
      exact ⟨rfl, h2.1, h2.2, rfl, rfl⟩
end
end
section
/-! splitInner behind the last child, joinInner -/
section
variable {K w : Nat} {V : ms_M} {s : Nat} {y : ms_YT} {x : ms_XT} {B : ms_B} {t : ms_TT}
theorem ix_split_i {post : SX → Prop} {u : SX} {z j n : Nat} (hR : ms_RB K w V s y x B t u) (hs : s < 4) (hz : z < 41) (hj : j < 3)
    (k : ∀ (t' : ms_TT) (u' : SX), ms_RB K w V s y x B t' u' → (t'.1 = t.1 ∧ t'.2.1 = t.2.1 ∧ t'.2.2.1 = t.2.2.1 ∧ t'.2.2.2.1 = t.2.2.2.1 ∧ t'.2.2.2.2.1 = upd t.2.2.2.2.1 j (B z (1 + j)) ∧ t'.2.2.2.2.2 = upd t.2.2.2.2.2 j (B z (4 + j))) → xc_splitInner_6 post (nI s) (nI z) 3 n (nI (j + 1)) (nI (j + 1)) u') : xc_splitInner_6 post (nI s) (nI z) 3 (n + 1) (nI j) (nI j) u := by
  rw [xe_splitInner_6]
  refine br_f (na_nle (a := 4) (b := j) rfl rfl (by omega) (by omega)) ?_
  refine rb_item hR hs hz (i := j) (by omega) rfl rfl rfl (fun u1 r1 => ⟨vp_in_nI (by omega) (by omega), nm_e (br_f (na_nle (a := 3) (b := j) rfl rfl hj (by omega)) ?_)⟩)
  rw [nI_clamp (n := j) (by omega)]
  refine rb_key (rb_wi r1 _) hs hz (i := j) (by omega) rfl rfl rfl (fun u2 r2 => ?_)
  rw [xe_splitInner_51]
  refine ⟨vp_in_nI (by omega) (by omega), nm_e (nm_r (nI_1 j) (br_f (na_ne (a := j) (b := 3) (by omega) (by omega) (by omega)) (nm_r (nI_1 j) ?_)))⟩
  rw [nI_clamp (n := j) (by omega)]
  refine k _ _ (rb_wk r2 _) ⟨rfl, rfl, rfl, rfl, ?_, ?_⟩
  · show upd (xg_wideKey u2) j _ = _
    rw [rb_gwk r2]
    rfl
  · show upd (xg_wideItem u1) j _ = _
    rw [rb_gwi r1]
theorem ix_split_3 {post : SX → Prop} {u : SX} {z n : Nat} (hR : ms_RB K w V s y x B t u) (hs : s < 4) (hz : z < 41)
    (k : ∀ (t' : ms_TT) (u' : SX), ms_RB K w V s y x B t' u' → (t'.2.2.1 = t.2.2.1 ∧ t'.2.2.2.1 = t.2.2.2.1 ∧ t'.2.2.2.2.1 = upd (upd (upd t.2.2.2.2.1 3 0) 4 0) 3 t.1 ∧ t'.2.2.2.2.2 = upd (upd t.2.2.2.2.2 3 (B z 7)) 4 t.2.1) → xc_splitInner_6 post (nI s) (nI z) 3 n 5 4 u') : xc_splitInner_6 post (nI s) (nI z) 3 (n + 1) 3 3 u := by
  rw [xe_splitInner_6]
  refine br_f (by decide) ?_
  refine rb_item hR hs hz (i := 3) (by omega) rfl rfl rfl (fun u1 r1 => ⟨vp_in_nI (n := 3) (by omega) (by omega), nm_e (br_t (by decide) ?_)⟩)
  rw [xe_splitInner_51]
  refine ⟨vp_in_nI (n := 3) (by omega) (by omega), nm_e (nm_r (e' := 4) (by decide) (br_t rfl ⟨vp_in_nI (n := 4) (by omega) (by omega), nm_e ⟨vp_in_nI (n := 3) (by omega) (by omega), vp_in_nI (n := 4) (by omega) (by omega), nm_e ⟨vp_in_nI (n := 3) (by omega) (by omega), nm_e (nm_r (e' := 5) (by decide) (nm_r (e' := 4) (by decide) ?_))⟩⟩⟩))⟩
  have r2 := rb_wi r1 (upd (xg_wideItem u1) 3 (B z 7))
  have g1 := rb_gwk r1
  have g2 := rb_gwi r1
  have g3 := rb_guk r1
  have g4 := rb_gun r1
  refine k _ _ (rb_wi (rb_wk r2 _) _) ⟨rfl, rfl, ?_, ?_⟩
  · show upd (upd (upd (xg_wideKey u1) 3 0) 4 ((upd (xg_wideKey u1) 3 0) 3)) 3 (xg_upKey u1) = _
    rw [g1, g3, pk_us]
  · show upd (upd (xg_wideItem u1) 3 (B z 7)) 4 (xg_upNode u1) = _
    rw [g2, g4]
theorem ix_split_e {post : SX → Prop} {u : SX} {z : Nat} (hR : ms_RB K w V s y x B t u) (hw : w = s) (hs : s < 4) (hz : z < 41) (hz9 : 9 ≤ z) (hf : ∃ i, i < 31 ∧ bt (B 0 6) i = false) (hb : ∀ q, q < 31 → bt (B 0 6) q = false → 9 + q ≠ z)
    (k : ∀ (q : Nat) (B' : ms_B) (t' : ms_TT) (u' : SX), q < 31 → bt (B 0 6) q = false → ms_RB K w V s y x B' t' u' → (t'.2.2.1 = t.2.2.1 ∧ t'.2.2.2.1 = t.2.2.2.1 ∧ t'.1 = t.2.2.2.2.1 2 ∧ t'.2.1 = nI (9 + q)) → (∀ c, c ≠ 6 → B' 0 c = B 0 c) → B' 0 6 = (B 0 6 ||| ((1 : Int32) <<< (nI q &&& 31))) → (∀ b, b ≠ 0 → b ≠ z → b ≠ 9 + q → B' b = B b) →
      (B' z 0 = 3 ∧ B' z 4 = t.2.2.2.2.2 0 ∧ B' z 5 = t.2.2.2.2.2 1 ∧ B' z 6 = t.2.2.2.2.2 2 ∧ B' z 1 = t.2.2.2.2.1 0 ∧ B' z 2 = t.2.2.2.2.1 1) → (B' (9 + q) 0 = 2 ∧ B' (9 + q) 4 = t.2.2.2.2.2 3 ∧ B' (9 + q) 5 = t.2.2.2.2.2 4 ∧ B' (9 + q) 1 = t.2.2.2.2.1 3) → post u') : xc_splitInner_6 post (nI s) (nI z) 3 1 5 4 u := by
  rw [xe_splitInner_6]
  refine br_t (by decide) ?_
  refine rb_take hR hw hs rfl hf (fun q B1 u8 hq hbq r8 b1 b2 b3 b4 => ?_)
  have hqz := hb q hq hbq
  refine rb_clear r8 hw hs hz rfl rfl (fun B2 u9 r9 c1 c2 => ?_)
  refine rb_set r9 hw hs hz (c := 0) (by omega) rfl rfl rfl (fun u10 r10 => ?_)
  refine rb_set r10 hw hs (b := 9 + q) (c := 0) (by omega) (by omega) rfl rfl rfl (fun u11 r11 => ⟨4, ?_⟩)
  rw [xe_splitInner_143]
  refine br_f (by decide) ⟨vp_in_nI (n := 0) (by omega) (by omega), ?_⟩
  rw [rb_gwi r11]
  refine rb_set r11 hw hs hz (c := 4) (by omega) rfl rfl rfl (fun u12 r12 => nm_r (e' := 1) (by decide) ?_)
  rw [xe_splitInner_143]
  refine br_f (by decide) ⟨vp_in_nI (n := 1) (by omega) (by omega), ?_⟩
  rw [rb_gwi r12]
  refine rb_set r12 hw hs hz (c := 5) (by omega) rfl rfl rfl (fun u13 r13 => nm_r (e' := 2) (by decide) ?_)
  rw [xe_splitInner_143]
  refine br_f (by decide) ⟨vp_in_nI (n := 2) (by omega) (by omega), ?_⟩
  rw [rb_gwi r13]
  refine rb_set r13 hw hs hz (c := 6) (by omega) rfl rfl rfl (fun u14 r14 => nm_r (e' := 3) (by decide) ?_)
  rw [xe_splitInner_143]
  refine br_t (by decide) ?_
  rw [rb_gwk r14]
  refine rb_set r14 hw hs hz (c := 1) (by omega) rfl rfl rfl (fun u15 r15 => ?_)
  rw [rb_gwk r15]
  refine rb_set r15 hw hs hz (c := 2) (by omega) rfl rfl rfl (fun u16 r16 => ?_)
  rw [rb_gwk r16]
  refine rb_set r16 hw hs (b := 9 + q) (c := 1) (by omega) (by omega) rfl rfl rfl (fun u17 r17 => ?_)
  rw [rb_gwi r17]
  refine rb_set r17 hw hs (b := 9 + q) (c := 4) (by omega) (by omega) rfl rfl rfl (fun u18 r18 => ?_)
  rw [rb_gwi r18]
  refine rb_set r18 hw hs (b := 9 + q) (c := 5) (by omega) (by omega) rfl rfl rfl (fun u19 r19 => nm_e ?_)
  refine k q _ _ _ hq hbq (rb_uu r19 (xg_wideKey u19 2) (nI (9 + q))) ⟨rfl, rfl, ?_, rfl⟩ (fun c hc => ?_) ?_ (fun b b0 bz bq => ?_) ?_ ?_
  · show xg_wideKey u19 2 = _
    rw [rb_gwk r19]
  · simp only [ms_mC_o _ _ (show (0 : Nat) ≠ z from by omega), ms_mC_o _ _ (show (0 : Nat) ≠ 9 + q from by omega)]
    rw [c1 0 (by omega), b1 c hc]
  · simp only [ms_mC_o _ _ (show (0 : Nat) ≠ z from by omega), ms_mC_o _ _ (show (0 : Nat) ≠ 9 + q from by omega)]
    rw [c1 0 (by omega), b2]
  · simp only [ms_mC_o _ _ bz, ms_mC_o _ _ bq]
    rw [c1 b bz, b3 b b0 bq]
  · simp only [ms_mC_o _ _ (show z ≠ 9 + q from Ne.symm hqz)]
    refine ⟨?_, ?_, ?_, ?_, ?_, ?_⟩ <;> simp [ms_mC_g, Ne.symm hqz] <;> rfl
  · refine ⟨?_, ?_, ?_, ?_⟩ <;> simp [ms_mC_g, hqz]
theorem ix_split {post : SX → Prop} {ps pz pa : Int32} {u : SX} {z o c3 : Nat} {a0 a1 a2 : Nat × Int} {h3 : Int} (hR : ms_RB K w V s y x B t u) (hw : w = s) (hs : s < 4) (hz : z < 41) (hz9 : 9 ≤ z) (es : ps = nI s) (ez : pz = nI z) (ea : pa = 3) (eo : t.2.1 = nI o) (hn : tr_nd B z [a0, a1, a2, (c3, h3)])
    (hb : bt (B 0 6) (z - 9) = true) (hf : ∃ i, i < 31 ∧ bt (B 0 6) i = false)
    (k : ∀ (q : Nat) (B' : ms_B) (t' : ms_TT) (u' : SX), q < 31 → bt (B 0 6) q = false → ms_RB K w V s y x B' t' u' → (t'.2.2.1 = t.2.2.1 ∧ t'.2.2.2.1 = t.2.2.2.1 ∧ t'.1.toInt = a2.2 ∧ t'.2.1 = nI (9 + q)) → (∀ c, c ≠ 6 → B' 0 c = B 0 c) → B' 0 6 = (B 0 6 ||| ((1 : Int32) <<< (nI q &&& 31))) → (∀ b, b ≠ 0 → b ≠ z → b ≠ 9 + q → B' b = B b) → tr_nd B' z [a0, a1, a2] → tr_nd B' (9 + q) [(c3, t.1.toInt), (o, h3)] → post u') : wpX_splitInner post u ps pz pa := by
  subst es ez ea
  obtain ⟨n0, n4, n5, n6, n7, n1, n2, n3⟩ := tr_nd_4.mp hn
  rw [xe_splitInner]
  refine ⟨5, ?_⟩
  refine ix_split_i (j := 0) hR hs hz (by omega) (fun t1 u1 r1 e1 => ?_)
  refine ix_split_i (j := 1) r1 hs hz (by omega) (fun t2 u2 r2 e2 => ?_)
  refine ix_split_i (j := 2) r2 hs hz (by omega) (fun t3 u3 r3 e3 => ?_)
  refine ix_split_3 r3 hs hz (fun t4 u4 r4 e4 => ?_)
  obtain ⟨p1, p2, p3, p4, p5, p6⟩ := e1
  obtain ⟨q1, q2, q3, q4, q5, q6⟩ := e2
  obtain ⟨s1, s2, s3, s4, s5, s6⟩ := e3
  obtain ⟨v3, v4, v5, v6⟩ := e4
  have w1 : t4.2.2.1 = t.2.2.1 := v3.trans (s3.trans (q3.trans p3))
  have w2 : t4.2.2.2.1 = t.2.2.2.1 := v4.trans (s4.trans (q4.trans p4))
  have uk : t3.1 = t.1 := s1.trans (q1.trans p1)
  have un : t3.2.1 = nI o := (s2.trans (q2.trans p2)).trans eo
  have k0 : t4.2.2.2.2.1 0 = B z 1 := by rw [v5, pk_un (by omega), pk_un (by omega), pk_un (by omega), s5, pk_un (by omega), q5, pk_un (by omega), p5, pk_us]
  have k1 : t4.2.2.2.2.1 1 = B z 2 := by rw [v5, pk_un (by omega), pk_un (by omega), pk_un (by omega), s5, pk_un (by omega), q5, pk_us]
  have k2 : t4.2.2.2.2.1 2 = B z 3 := by rw [v5, pk_un (by omega), pk_un (by omega), pk_un (by omega), s5, pk_us]
  have k3 : t4.2.2.2.2.1 3 = t.1 := by rw [v5, pk_us, uk]
  have i0 : t4.2.2.2.2.2 0 = nI a0.1 := by rw [v6, pk_un (by omega), pk_un (by omega), s6, pk_un (by omega), q6, pk_un (by omega), p6, pk_us]; exact n4
  have i1 : t4.2.2.2.2.2 1 = nI a1.1 := by rw [v6, pk_un (by omega), pk_un (by omega), s6, pk_un (by omega), q6, pk_us]; exact n5
  have i2 : t4.2.2.2.2.2 2 = nI a2.1 := by rw [v6, pk_un (by omega), pk_un (by omega), s6, pk_us]; exact n6
  have i3 : t4.2.2.2.2.2 3 = nI c3 := by rw [v6, pk_un (by omega), pk_us]; exact n7
  have i4 : t4.2.2.2.2.2 4 = nI o := by rw [v6, pk_us, un]
  refine ix_split_e r4 hw hs hz hz9 hf (fun q hq hbq e => ?_) (fun q B' t' u' hq hbq r' et a1 a2 a3 a4 a5 => ?_)
  · rw [show z - 9 = q from by omega, hbq] at hb
    exact absurd hb (by decide)
  · rw [i0, i1, i2, k0, k1] at a4
    rw [i3, i4, k3] at a5
    rw [k2, w1, w2] at et
    refine k q B' t' u' hq hbq r' ⟨et.1, et.2.1, by rw [et.2.2.1]; exact n3, et.2.2.2⟩ a1 a2 a3 (tr_nd_3.mpr ?_) (tr_nd_2.mpr ?_)
    · obtain ⟨b0, b1, b2, b3, b4, b5⟩ := a4
      rw [b0, b1, b2, b3, b4, b5]
      exact ⟨rfl, rfl, rfl, rfl, n1, n2⟩
    · obtain ⟨b0, b1, b2, b3⟩ := a5
      rw [b0, b1, b2, b3]
      exact ⟨rfl, rfl, rfl, rfl⟩
/-- joinInner, of a node of one and a node of two -/
theorem ix_join {post : SX → Prop} {ps pz pr pk : Int32} {u : SX} {z r : Nat} {P Q : tr_PS} {lo h : Int} (hR : ms_RB K w V s y x B t u) (hw : w = s) (hs : s < 4) (hz : z < 41) (hr : r < 41) (h9 : 9 ≤ r) (hz9 : 9 ≤ z) (hzr : z ≠ r) (es : ps = nI s) (ez : pz = nI z) (er : pr = nI r) (hl : tr_nd B z P) (hr' : tr_nd B r Q) (h1 : 1 ≤ P.length) (h1' : 1 ≤ Q.length) (h3 : P.length + Q.length = 3) (eh : tr_hi lo P = h) (ek : pk.toInt = h)
    (k : ∀ (B' : ms_B) (u' : SX), ms_RB K w V s y x B' t u' → (∀ c, c ≠ 6 → B' 0 c = B 0 c) → B' 0 6 = (B 0 6 &&& (((1 : Int32) <<< (nI (r - 9) &&& 31)) ^^^ (-1))) → (∀ b, b ≠ 0 → b ≠ z → b ≠ r → B' b = B b) → tr_nd B' z (P ++ Q) → post u') : wpX_joinInner post u ps pz pr pk := by
  subst es ez er
  rw [xe_joinInner]
  refine rb_cell hR hs hz (c := 0) (by omega) rfl rfl rfl (fun u1 r1 => ?_)
  refine rb_cell r1 hs hr (c := 0) (by omega) rfl rfl rfl (fun u2 r2 => ?_)
  rw [hl.1, hr'.1]
  refine rb_set r2 hw hs hz (c := P.length) (by omega) rfl rfl rfl (fun u3 r3 => ?_)
  rcases P with _ | ⟨a, _ | ⟨b, P⟩⟩
  · simp at h1
  · rcases Q with _ | ⟨c, _ | ⟨d, _ | ⟨e, Q⟩⟩⟩
    · simp at h1'
    · simp at h3
    · -- one and two
      have ea : a.2 = h := eh
      have m4 := (tr_nd_1.mp hl).2
      obtain ⟨m0, q4, q5, q1⟩ := tr_nd_2.mp hr'
      show ∃ n31 : Nat, xc_joinInner_31 post (nI s) (nI z) (nI r) 1 2 n31 0 u3
      have r3 : ms_RB K w V s y x (ms_mC B z 1 pk) t u3 := r3
      refine ⟨3, ?_⟩
      rw [xe_joinInner_31]
      refine br_f (by decide) ?_
      refine rb_item r3 hs hr (i := 0) (by omega) rfl rfl rfl (fun u4 r4 => ?_)
      refine rb_set r4 hw hs hz (c := 5) (by omega) rfl rfl rfl (fun u5 r5 => nm_r (e' := 1) (by decide) ?_)
      rw [xe_joinInner_31]
      refine br_f (by decide) ?_
      refine rb_item r5 hs hr (i := 1) (by omega) rfl rfl rfl (fun u6 r6 => ?_)
      refine rb_set r6 hw hs hz (c := 6) (by omega) rfl rfl rfl (fun u7 r7 => nm_r (e' := 2) (by decide) ?_)
      rw [xe_joinInner_31]
      refine br_t (by decide) (br_t rfl ?_)
      refine rb_key r7 hs hr (i := 0) (by omega) rfl rfl rfl (fun u8 r8 => ?_)
      refine rb_set r8 hw hs hz (c := 2) (by omega) rfl rfl rfl (fun u9 r9 => ?_)
      rw [xe_joinInner_96]
      refine rb_set r9 hw hs hz (c := 0) (by omega) rfl rfl rfl (fun u10 r10 => ?_)
      refine rb_give r10 hw hs hr h9 rfl rfl (fun B' u' r' g1 g2 g3 => k B' u' r' (fun c hc => ?_) ?_ (fun b b0 bz br => ?_) ?_)
      · rw [g1 c hc]; simp only [ms_mC_o _ _ (show (0 : Nat) ≠ z from by omega)]
      · rw [g2]; simp only [ms_mC_o _ _ (show (0 : Nat) ≠ z from by omega)]
      · rw [g3 b b0 br]; simp only [ms_mC_o _ _ bz]
      · refine tr_nd_3.mpr ?_
        rw [g3 z (by omega) hzr]
        simp only [ms_mC_o _ _ (Ne.symm hzr)]
        refine ⟨?_, ?_, ?_, ?_, ?_, ?_⟩
        · simp [ms_mC_g]
        · simp [ms_mC_g, m4]
        · simp [ms_mC_g, q4]
        · simp [ms_mC_g, q5]
        · simp [ms_mC_g, ek, ea]
        · simp [ms_mC_g, q1]
    · simp at h3; omega
  · have hP : P = [] := by
      cases P with
      | nil => rfl
      | cons _ _ => simp at h3; omega
    subst hP
    rcases Q with _ | ⟨c, _ | ⟨d, Q⟩⟩
    · simp at h1'
    · have ea : b.2 = h := eh
      obtain ⟨m0, m4, m5, m1⟩ := tr_nd_2.mp hl
      have q4 := (tr_nd_1.mp hr').2
      show ∃ n31 : Nat, xc_joinInner_31 post (nI s) (nI z) (nI r) 2 1 n31 0 u3
      have r3 : ms_RB K w V s y x (ms_mC B z 2 pk) t u3 := r3
      refine ⟨2, ?_⟩
      rw [xe_joinInner_31]
      refine br_f (by decide) ?_
      refine rb_item r3 hs hr (i := 0) (by omega) rfl rfl rfl (fun u4 r4 => ?_)
      refine rb_set r4 hw hs hz (c := 6) (by omega) rfl rfl rfl (fun u5 r5 => nm_r (e' := 1) (by decide) ?_)
      rw [xe_joinInner_31]
      refine br_t (by decide) (br_f (by decide) ?_)
      rw [xe_joinInner_96]
      refine rb_set r5 hw hs hz (c := 0) (by omega) rfl rfl rfl (fun u10 r10 => ?_)
      refine rb_give r10 hw hs hr h9 rfl rfl (fun B' u' r' g1 g2 g3 => k B' u' r' (fun c hc => ?_) ?_ (fun b b0 bz br => ?_) ?_)
      · rw [g1 c hc]; simp only [ms_mC_o _ _ (show (0 : Nat) ≠ z from by omega)]
      · rw [g2]; simp only [ms_mC_o _ _ (show (0 : Nat) ≠ z from by omega)]
      · rw [g3 b b0 br]; simp only [ms_mC_o _ _ bz]
      · refine tr_nd_3.mpr ?_
        rw [g3 z (by omega) hzr]
        simp only [ms_mC_o _ _ (Ne.symm hzr)]
        refine ⟨?_, ?_, ?_, ?_, ?_, ?_⟩
        · simp [ms_mC_g]
        · simp [ms_mC_g, m4]
        · simp [ms_mC_g, m5]
        · simp [ms_mC_g, q4]
        · simp [ms_mC_g, m1]
        · simp [ms_mC_g, ek, ea]
    · simp at h3; omega
end
end
section
/-! evenLeaves and evenInner: two neighbours, one of which has a single entry -/
def tr_ev (B B' : ms_B) (l p : Nat) (A C : tr_PS) (lo hi : Int) (kv : tr_KV) (nn : List Nat) : Prop := ∃ (M : tr_PS) (n' gone : List Nat),
  tr_nd B' p (A ++ M ++ C) ∧ M ≠ [] ∧ M.length ≤ 2 ∧ tr_hi lo M = hi ∧ tr_F (tr_T B' l 2) lo M kv n' ∧ (gone ++ n').Perm nn
  ∧ (∀ i, i < 32 → bt (B' 0 6) i = (bt (B 0 6) i && !decide (9 + i ∈ gone))) ∧ (∀ c, c ≠ 6 → B' 0 c = B 0 c) ∧ (∀ b, b ≠ 0 → b ≠ p → ¬ b ∈ nn → B' b = B b)
theorem ev_gone {m : Int32} {r : Nat} (h9 : 9 ≤ r) (hr : r < 41) : ∀ i, i < 32 → bt (m &&& (((1 : Int32) <<< (nI (r - 9) &&& 31)) ^^^ (-1))) i = (bt m i && !decide (9 + i ∈ [r])) := by
  intro i hi
  rw [nt_clr m (by omega) hi]
  congr 2
  rw [decide_eq_decide, List.mem_singleton]
  omega
theorem ev_none (m : Int32) : ∀ i, i < 32 → bt m i = (bt m i && !decide (9 + i ∈ ([] : List Nat))) := by
  intro i _
  simp
section
variable {K w : Nat} {V : ms_M} {s : Nat} {y : ms_YT} {x : ms_XT} {B : ms_B} {t : ms_TT}
theorem ev_leaf {post : SX → Prop} {ps pp pa pf : Int32} {u : SX} {p L R m1 m2 : Nat} {A C : tr_PS} {lo h1 h2 : Int} {kv1 kv2 : tr_KV} {n1 n2 : List Nat} (hR : ms_RB K w V s y x B t u) (hw : w = s) (hs : s < 4) (hp : p < 41) (hp9 : 9 ≤ p) (es : ps = nI s) (ep : pp = nI p) (ea : pa = nI A.length)
    (hn : tr_nd B p (A ++ (L, h1) :: (R, h2) :: C)) (h4 : A.length + C.length ≤ 2) (h1' : 1 ≤ m1) (h2' : 1 ≤ m2) (hT1 : tr_T B 0 m1 L lo h1 kv1 n1) (hT2 : tr_T B 0 m2 R h1 h2 kv2 n2) (nd : (p :: (n1 ++ n2)).Nodup)
    (hf : (pf = 0 ∧ kv1.length = 1 ∧ 2 ≤ kv2.length) ∨ (pf = 1 ∧ kv2.length = 1 ∧ 2 ≤ kv1.length))
    (k : ∀ (B' : ms_B) (u' : SX), ms_RB K w V s y x B' t u' → tr_ev B B' 0 p A C lo h2 (kv1 ++ kv2) (n1 ++ n2) → post u') : wpX_evenLeaves post u ps pp pa pf := by
  subst es ep ea
  have z1 := tr_T_sz _ _ _ _ _ _ _ h1' hT1
  have z2 := tr_T_sz _ _ _ _ _ _ _ h2' hT2
  obtain ⟨l1, l2, l3, l4, rfl, l5, l6⟩ := hT1
  obtain ⟨q1, q2, q3, q4, rfl, q5, q6⟩ := hT2
  have hpL : p ≠ L := by intro e; subst e; simp at nd
  have hpR : p ≠ R := by intro e; subst e; simp at nd
  have hLR : L ≠ R := by intro e; subst e; simp at nd
  have hsort : tr_rg lo h2 (kv1 ++ kv2) := tr_rg_app l4 q4 (by omega) (by omega)
  have eL := (hn.2 A.length _ (tw_mid A (L, h1) ((R, h2) :: C))).1
  have eR := (hn.2 (A.length + 1) _ (tw_mid1 A (L, h1) (R, h2) C)).1
  -- the two are joined
  have hjoin : ∀ u1, ms_RB K w V s y x B t u1 → kv1.length + kv2.length = 3 → wpX_joinLeaves (fun u473 => wpX_removeItem (fun u509 => post u509) u473 (nI s) (nI p) (nI A.length)) u1 (nI s) (nI L) (nI R) := by
    intro u1 r1 h3
    refine lx_join r1 hw hs l6 q6 q5 l5 hLR rfl rfl rfl l1 q1 (by omega) hsort.2 (fun B1 u2 r2 a1 a2 a3 a4 => ?_)
    refine ix_rem r2 hw hs hp rfl rfl rfl (tr_nd_fr hn (a3 p (by omega) hpL hpR)) h4 (fun B2 u3 r3 b1 b2 => k B2 u3 r3 ⟨[(L, h2)], [L], [R], by simpa using b2, by simp, by simp, rfl, ?_, ?_, ?_, ?_, ?_⟩)
    · refine tr_F_1.mpr ⟨tr_lf_fr a4 (b1 L (Ne.symm hpL)), ?_, ?_, hsort, rfl, l5, l6⟩
      · rw [List.length_append]; omega
      · rw [List.length_append]; omega
    · exact List.Perm.swap _ _ _
    · intro i hi
      rw [b1 0 (by omega), a2]
      exact ev_gone q5 q6 i hi
    · intro c hc
      rw [b1 0 (by omega), a1 c hc]
    · intro b hb0 hbp hbn
      rw [b1 b hbp, a3 b hb0 (by intro e; subst e; simp at hbn) (by intro e; subst e; simp at hbn)]
  rw [xe_evenLeaves]
  refine rb_item hR hs hp (i := A.length) (by omega) rfl rfl rfl (fun u1 r1 => ?_)
  rw [nI_1]
  refine rb_item r1 hs hp (i := A.length + 1) (by omega) rfl rfl rfl (fun u2 r2 => ?_)
  rw [show 4 + (A.length + 1) = 4 + A.length + 1 from by omega] at *
  rw [eL, eR]
  rcases hf with ⟨rfl, f1, f2⟩ | ⟨rfl, f1, f2⟩
  · refine br_t rfl ?_
    rw [xe_evenLeaves_32]
    refine rb_cell r2 hs q6 (c := 0) (by omega) rfl rfl rfl (fun u3 r3 => ?_)
    rw [q1.1]
    refine pk_le 3 kv2.length (fun hge => ?_) (fun hlt => hjoin u3 r3 (by omega))
    refine br_t rfl ?_
    rcases kv2 with _ | ⟨a, _ | ⟨b, _ | ⟨c, kv2⟩⟩⟩
    · simp at hge
    · simp at hge
    · simp at hge
    · have hkv2 : kv2 = [] := by
        cases kv2 with
        | nil => rfl
        | cons _ _ => simp at q3
      subst hkv2
      have ga := q1.2 0 a rfl
      refine rb_key r3 hs q6 (i := 0) (by omega) rfl rfl rfl (fun u4 r4 => ?_)
      refine rb_item r4 hs q6 (i := 0) (by omega) rfl rfl rfl (fun u5 r5 => ?_)
      rw [ga.2]
      refine lx_rem (A := []) (p := a) (C := [b, c]) r5 hw hs q6 rfl rfl rfl q1 (by simp) (fun B1 u6 r6 a1 a2 => ?_)
      have hab : ∀ e, e ∈ kv1 → e.1 < a.1 := fun e he => (List.pairwise_append.mp hsort.2).2.2 e he a (by simp)
      have hcb : a.1 < b.1 ∧ b.1 < c.1 := by
        have h := (List.pairwise_append.mp hsort.2).2.1
        simp only [List.pairwise_cons] at h
        exact ⟨h.1 b (by simp), h.2.1 c (by simp)⟩
      refine lx_app (v := a.2) (kv := kv1) r6 hw hs l6 (B R (1 + 0)) rfl rfl rfl (tr_lf_fr l1 (a1 L hLR)) (by omega) (fun e he => by rw [ga.1]; exact Int.le_of_lt (hab e he)) (fun B2 u7 r7 b1 b2 => ?_)
      rw [ga.1] at b2
      rw [xe_evenLeaves_153]
      have gb : tr_lf B2 R [b, c] := tr_lf_fr a2 (b1 R (Ne.symm hLR))
      have gb0 := (gb.2 0 b rfl).1
      refine rb_key r7 hs q6 (i := 0) (by omega) rfl rfl rfl (fun u8 r8 => ?_)
      refine rb_set r8 hw hs hp (c := 1 + A.length) (by omega) rfl rfl (na_p1 _) (fun u9 r9 => ?_)
      have hn2 : tr_nd B2 p (A ++ (L, h1) :: (R, h2) :: C) := tr_nd_fr hn (by rw [b1 p hpL, a1 p hpR])
      have hn3 := ix_key hn2 h4 (B2 R (1 + 0))
      rw [gb0] at hn3
      have e1 := l4.1
      have e2 := q4.1
      refine k _ u9 r9 ⟨[(L, b.1), (R, h2)], [L, R], [], by simpa using hn3, by simp, by simp, rfl, ⟨kv1 ++ [a], [b, c], [L], [R], ⟨?_, ?_, ?_, ?_, rfl, l5, l6⟩, tr_F_1.mpr ⟨?_, ?_, ?_, ?_, rfl, q5, q6⟩, by simp, rfl⟩, List.Perm.refl _, ?_, ?_, ?_⟩
      · exact tr_lf_fr b2 (ms_mC_o _ _ (Ne.symm hpL))
      · simp; omega
      · simp; omega
      · refine ⟨fun e he => ?_, (List.pairwise_append.mp (by simpa using hsort.2 : ((kv1 ++ [a]) ++ [b, c]).Pairwise _)).1⟩
        rcases List.mem_append.mp he with he | he
        · have h5 := e1 e he
          have h6 := hab e he
          exact ⟨h5.1, by omega, h5.2.2⟩
        · rw [List.mem_singleton] at he
          subst he
          have h5 := e2 e (by simp)
          exact ⟨by omega, hcb.1, h5.2.2⟩
      · exact tr_lf_fr gb (ms_mC_o _ _ (Ne.symm hpR))
      · simp
      · simp
      · refine ⟨fun e he => ?_, ((List.pairwise_append.mp hsort.2).2.1 : [a, b, c].Pairwise _).of_cons⟩
        have h5 := e2 e (List.mem_cons_of_mem _ he)
        refine ⟨?_, h5.2⟩
        simp only [List.mem_cons, List.not_mem_nil, or_false] at he
        rcases he with rfl | rfl
        · exact Int.le_refl _
        · omega
      · intro i hi
        rw [ms_mC_o _ _ (by omega), b1 0 (by omega), a1 0 (by omega)]
        exact ev_none _ i hi
      · intro c hc
        rw [ms_mC_o _ _ (by omega), b1 0 (by omega), a1 0 (by omega)]
      · intro d hd0 hdp hdn
        rw [ms_mC_o _ _ hdp, b1 d (by intro e; subst e; simp at hdn), a1 d (by intro e; subst e; simp at hdn)]
  · refine br_f (by decide) ?_
    rw [xe_evenLeaves_32]
    refine rb_cell r2 hs l6 (c := 0) (by omega) rfl rfl rfl (fun u3 r3 => ?_)
    rw [l1.1]
    refine pk_le 3 kv1.length (fun hge => ?_) (fun hlt => hjoin u3 r3 (by omega))
    refine br_f (by decide) ?_
    rcases kv1 with _ | ⟨a, _ | ⟨b, _ | ⟨c, kv1⟩⟩⟩
    · simp at hge
    · simp at hge
    · simp at hge
    · have hkv1 : kv1 = [] := by
        cases kv1 with
        | nil => rfl
        | cons _ _ => simp at l3
      subst hkv1
      rcases kv2 with _ | ⟨d, _ | ⟨_, _⟩⟩
      · simp at f1
      · have gc := l1.2 2 c rfl
        refine rb_key r3 hs l6 (i := 2) (by omega) rfl rfl rfl (fun u4 r4 => ?_)
        refine rb_item r4 hs l6 (i := 2) (by omega) rfl rfl rfl (fun u5 r5 => ?_)
        rw [gc.2]
        refine lx_rem (A := [a, b]) (p := c) (C := []) r5 hw hs l6 rfl rfl rfl l1 (by simp) (fun B1 u6 r6 a1 a2 => ?_)
        have hcd : c.1 < d.1 := (List.pairwise_append.mp hsort.2).2.2 c (by simp) d (by simp)
        have hbc : a.1 < c.1 ∧ b.1 < c.1 := by
          have h := l4.2
          simp only [List.pairwise_cons] at h
          exact ⟨h.1 c (by simp), h.2.1 c (by simp)⟩
        refine lx_front (v := c.2) r6 hw hs q6 (B L (1 + 2)) rfl rfl rfl (tr_lf_fr q1 (a1 R (Ne.symm hLR))) (by rw [gc.1]; exact hcd) (fun B2 u7 r7 b1 b2 => ?_)
        rw [gc.1] at b2
        rw [xe_evenLeaves_153]
        have gb0 := (b2.2 0 _ rfl).1
        refine rb_key r7 hs q6 (i := 0) (by omega) rfl rfl rfl (fun u8 r8 => ?_)
        refine rb_set r8 hw hs hp (c := 1 + A.length) (by omega) rfl rfl (na_p1 _) (fun u9 r9 => ?_)
        have hn2 : tr_nd B2 p (A ++ (L, h1) :: (R, h2) :: C) := tr_nd_fr hn (by rw [b1 p hpR, a1 p hpL])
        have hn3 := ix_key hn2 h4 (B2 R (1 + 0))
        rw [gb0] at hn3
        have e1 := l4.1
        have e2 := q4.1
        refine k _ u9 r9 ⟨[(L, c.1), (R, h2)], [L, R], [], by simpa using hn3, by simp, by simp, rfl, ⟨[a, b], [c, d], [L], [R], ⟨?_, ?_, ?_, ?_, rfl, l5, l6⟩, tr_F_1.mpr ⟨?_, ?_, ?_, ?_, rfl, q5, q6⟩, by simp, rfl⟩, List.Perm.refl _, ?_, ?_, ?_⟩
        · exact tr_lf_fr a2 (by rw [ms_mC_o _ _ (Ne.symm hpL), b1 L hLR])
        · simp
        · simp
        · refine ⟨fun e he => ?_, (List.pairwise_append.mp (by simpa using l4.2 : ([a, b] ++ [c]).Pairwise _)).1⟩
          have h5 := e1 e (by rcases (by simpa using he : e = a ∨ e = b) with h | h <;> simp [h])
          refine ⟨h5.1, ?_, h5.2.2⟩
          simp only [List.mem_cons, List.not_mem_nil, or_false] at he
          rcases he with rfl | rfl
          · exact hbc.1
          · exact hbc.2
        · exact tr_lf_fr b2 (ms_mC_o _ _ (Ne.symm hpR))
        · simp
        · simp
        · refine ⟨fun e he => ?_, by simp; exact hcd⟩
          simp only [List.mem_cons, List.not_mem_nil, or_false] at he
          rcases he with rfl | rfl
          · have h5 := e1 e (by simp)
            exact ⟨Int.le_refl _, by omega, h5.2.2⟩
          · have h5 := e2 e (by simp)
            exact ⟨Int.le_of_lt hcd, h5.2⟩
        · intro i hi
          rw [ms_mC_o _ _ (by omega), b1 0 (by omega), a1 0 (by omega)]
          exact ev_none _ i hi
        · intro c hc
          rw [ms_mC_o _ _ (by omega), b1 0 (by omega), a1 0 (by omega)]
        · intro d hd0 hdp hdn
          rw [ms_mC_o _ _ hdp, b1 d (by intro e; subst e; simp at hdn), a1 d (by intro e; subst e; simp at hdn)]
      · simp at f1
end
end
section
/-! evenInner -/
theorem tr_drop {B B' : ms_B} {z : Nat} {P : tr_PS} {q : Nat × Int} (hn : tr_nd B z (P ++ [q])) (h0 : B' z 0 = nI P.length) (h1 : ∀ i, i < P.length → B' z (4 + i) = B z (4 + i)) (h2 : ∀ i, i + 1 < P.length → B' z (1 + i) = B z (1 + i)) : tr_nd B' z P := by
  refine ⟨h0, fun i p hp => ?_⟩
  have hi : i < P.length := by
    rcases Nat.lt_or_ge i P.length with h | h
    · exact h
    · rw [List.getElem?_eq_none h] at hp
      exact absurd hp (by simp)
  have h := hn.2 i p (by rw [List.getElem?_append_left hi]; exact hp)
  refine ⟨by rw [h1 i hi]; exact h.1, fun hlt => ?_⟩
  rw [h2 i hlt]
  exact h.2 (by simp; omega)
section
variable {K w : Nat} {V : ms_M} {s : Nat} {y : ms_YT} {x : ms_XT} {B : ms_B} {t : ms_TT}
theorem ev_inner {post : SX → Prop} {ps pp pa pf : Int32} {u : SX} {l p L R m1 m2 : Nat} {A C : tr_PS} {lo h1 h2 : Int} {kv1 kv2 : tr_KV} {n1 n2 : List Nat} (hR : ms_RB K w V s y x B t u) (hw : w = s) (hs : s < 4) (hp : p < 41) (hp9 : 9 ≤ p) (es : ps = nI s) (ep : pp = nI p) (ea : pa = nI A.length)
    (hn : tr_nd B p (A ++ (L, h1) :: (R, h2) :: C)) (h4 : A.length + C.length ≤ 2) (hm1 : 1 ≤ m1) (hm2 : 1 ≤ m2) (hT1 : tr_T B (l + 1) m1 L lo h1 kv1 n1) (hT2 : tr_T B (l + 1) m2 R h1 h2 kv2 n2) (nd : (p :: (n1 ++ n2)).Nodup)
    (hf : (pf = 0 ∧ B L 0 = nI 1 ∧ 2 ≤ m2) ∨ (pf = 1 ∧ B R 0 = nI 1 ∧ 2 ≤ m1))
    (k : ∀ (B' : ms_B) (u' : SX), ms_RB K w V s y x B' t u' → tr_ev B B' (l + 1) p A C lo h2 (kv1 ++ kv2) (n1 ++ n2) → post u') : wpX_evenInner post u ps pp pa pf := by
  subst es ep ea
  have in1 := tr_T_in _ _ _ _ _ _ _ hT1
  have in2 := tr_T_in _ _ _ _ _ _ _ hT2
  obtain ⟨P, nP, p1, p2, p3, p4, p5, rfl, L9, L41⟩ := hT1
  obtain ⟨Q, nQ, q1, q2, q3, q4, q5, rfl, R9, R41⟩ := hT2
  simp only [List.nodup_cons, List.nodup_append, List.mem_append, List.mem_cons, List.cons_append] at nd
  have hpL : p ≠ L := fun e => nd.1 (by simp [e])
  have hpR : p ≠ R := fun e => nd.1 (by simp [e])
  have hLR : L ≠ R := fun e => nd.2.1 (by simp [e])
  have oP : ∀ z, z ∈ nP → z ≠ 0 ∧ z ≠ p ∧ z ≠ L ∧ z ≠ R := by
    intro z hz
    refine ⟨by have := in1 z (by simp [hz]); omega, ?_, ?_, ?_⟩
    · intro e; subst e; exact nd.1 (by simp [hz])
    · intro e; subst e; exact nd.2.1 (by simp [hz])
    · exact fun e => nd.2.2.2.2 z hz R (by simp) e
  have oQ : ∀ z, z ∈ nQ → z ≠ 0 ∧ z ≠ p ∧ z ≠ L ∧ z ≠ R := by
    intro z hz
    refine ⟨by have := in2 z (by simp [hz]); omega, ?_, ?_, ?_⟩
    · intro e; subst e; exact nd.1 (by simp [hz])
    · intro e; subst e; exact nd.2.1 (by simp [hz])
    · intro e; subst e; exact nd.2.2.2.1.1 hz
  have eL := (hn.2 A.length _ (tw_mid A (L, h1) ((R, h2) :: C))).1
  have eR := (hn.2 (A.length + 1) _ (tw_mid1 A (L, h1) (R, h2) C)).1
  have ek := (hn.2 A.length _ (tw_mid A (L, h1) ((R, h2) :: C))).2 (by simp)
  -- the two are joined
  have hjoin : ∀ u1, ms_RB K w V s y x B t u1 → P.length + Q.length = 3 → wpX_joinInner (fun u869 => wpX_removeItem (fun u905 => post u905) u869 (nI s) (nI p) (nI A.length)) u1 (nI s) (nI L) (nI R) (B p (1 + A.length)) := by
    intro u1 r1 h3
    refine ix_join r1 hw hs L41 R41 R9 L9 hLR rfl rfl rfl p1 q1 (by omega) (by omega) h3 p4 ek (fun B1 u2 r2 a1 a2 a3 a4 => ?_)
    refine ix_rem r2 hw hs hp rfl rfl rfl (tr_nd_fr hn (a3 p (by omega) hpL hpR)) h4 (fun B2 u3 r3 b1 b2 => k B2 u3 r3 ⟨[(L, h2)], L :: (nP ++ nQ), [R], by simpa using b2, by simp, by simp, rfl, ?_, ?_, ?_, ?_, ?_⟩)
    · have fP : tr_F (tr_T B2 l 2) lo P kv1 nP := tr_F_fr p5 (fun z hz => by obtain ⟨o1, o2, o3, o4⟩ := oP z hz; rw [b1 z o2, a3 z o1 o3 o4])
      have fQ : tr_F (tr_T B2 l 2) h1 Q kv2 nQ := tr_F_fr q5 (fun z hz => by obtain ⟨o1, o2, o3, o4⟩ := oQ z hz; rw [b1 z o2, a3 z o1 o3 o4])
      refine tr_F_1.mpr ⟨P ++ Q, nP ++ nQ, tr_nd_fr a4 (b1 L (Ne.symm hpL)), by rw [List.length_append]; omega, by rw [List.length_append]; omega, by rw [tr_hi_app, p4, q4], ?_, rfl, L9, L41⟩
      exact (tr_F_app _ _ _ _ _).mpr ⟨kv1, kv2, nP, nQ, fP, by rw [p4]; exact fQ, rfl, rfl⟩
    · rw [List.perm_iff_count]
      intro a
      simp only [List.count_append, List.count_cons, List.count_nil]
      omega
    · intro i hi
      rw [b1 0 (by omega), a2]
      exact ev_gone R9 R41 i hi
    · intro c hc
      rw [b1 0 (by omega), a1 c hc]
    · intro b hb0 hbp hbn
      rw [b1 b hbp, a3 b hb0 (by intro e; subst e; simp at hbn) (by intro e; subst e; simp at hbn)]
  rw [xe_evenInner]
  refine rb_item hR hs hp (i := A.length) (by omega) rfl rfl rfl (fun u1 r1 => ?_)
  rw [nI_1]
  refine rb_item r1 hs hp (i := A.length + 1) (by omega) rfl rfl rfl (fun u2 r2 => ?_)
  rw [eL, eR]
  rcases hf with ⟨rfl, f1, f2⟩ | ⟨rfl, f1, f2⟩
  · have hP1 : P.length = 1 := na_inj (by omega) (by omega) (p1.1.symm.trans f1)
    refine br_t rfl ?_
    rw [xe_evenInner_32]
    refine rb_key r2 hs hp (i := A.length) (by omega) rfl rfl rfl (fun u3 r3 => ?_)
    refine rb_cell r3 hs R41 (c := 0) (by omega) rfl rfl rfl (fun u4 r4 => ?_)
    rw [q1.1]
    refine pk_le 3 Q.length (fun hge => br_t rfl ?_) (fun hlt => hjoin u4 r4 (by omega))
    rcases P with _ | ⟨⟨c, hc⟩, _ | ⟨_, _⟩⟩
    · simp at hP1
    · have ehc : hc = h1 := p4
      subst ehc
      rcases Q with _ | ⟨⟨b, hb⟩, _ | ⟨⟨b2, hb2⟩, Q⟩⟩
      · simp at hge
      · simp at hge
      · have c4 := (tr_nd_1.mp p1).2
        have d0 := q1.2 0 _ rfl
        have d1 := q1.2 1 _ rfl
        simp only [List.length_cons] at q3 hge
        refine rb_key r4 hs R41 (i := 0) (by omega) rfl rfl rfl (fun u5 r5 => ?_)
        refine rb_item r5 hs R41 (i := 0) (by omega) rfl rfl rfl (fun u6 r6 => ?_)
        refine rb_item r6 hs R41 (i := 1) (by omega) rfl rfl rfl (fun u7 r7 => ?_)
        refine rb_set r7 hw hs R41 (c := 4) (by omega) rfl rfl rfl (fun u8 r8 => ?_)
        have hn' : tr_nd (ms_mC B R 4 (B R (4 + 1))) R ([] ++ (b2, hb) :: (b2, hb2) :: Q) := by
          refine ⟨?_, fun i e he => ?_⟩
          · rw [ms_mC_c _ _ (by omega), q1.1]; rfl
          · simp only [ms_mC_g]
            rcases i with _ | i
            · simp only [List.nil_append, List.getElem?_cons_zero, Option.some.injEq] at he
              subst he
              rw [if_pos (by first | omega | exact ⟨rfl, rfl⟩ | exact ⟨trivial, by omega⟩ | (simp; done)), if_neg (by omega)]
              exact ⟨d1.1, fun _ => d0.2 (by simp)⟩
            · have h := q1.2 (i + 1) e (by simpa using he)
              rw [if_neg (by omega)]
              refine ⟨h.1, fun hlt => ?_⟩
              rw [if_neg (by simp at hlt; omega)]
              exact h.2 (by simpa using hlt)
        refine ix_rem r8 hw hs R41 rfl rfl rfl hn' (by simp; omega) (fun B2 u9 r9 a1 a2 => ?_)
        refine rb_set r9 hw hs L41 (c := 0) (by omega) rfl rfl rfl (fun u10 r10 => ?_)
        refine rb_set r10 hw hs L41 (c := 1) (by omega) rfl rfl rfl (fun u11 r11 => ?_)
        refine rb_set r11 hw hs L41 (c := 5) (by omega) rfl rfl rfl (fun u12 r12 => ?_)
        refine rb_set r12 hw hs hp (c := 1 + A.length) (by omega) rfl rfl (na_p1 _) (fun u13 r13 => ?_)
        have o1 : ∀ z, z ≠ p → z ≠ L → z ≠ R → ms_mC (ms_mC (ms_mC (ms_mC B2 L 0 2) L 1 (B p (1 + A.length))) L 5 (B R (4 + 0))) p (1 + A.length) (B R (1 + 0)) z = B z := by
          intro z zp zL zR
          rw [ms_mC_o _ _ zp, ms_mC_o _ _ zL, ms_mC_o _ _ zL, ms_mC_o _ _ zL, a1 z zR, ms_mC_o _ _ zR]
        have hn2 : tr_nd (ms_mC (ms_mC (ms_mC B2 L 0 2) L 1 (B p (1 + A.length))) L 5 (B R (4 + 0))) p (A ++ (L, hc) :: (R, h2) :: C) := tr_nd_fr hn (by rw [ms_mC_o _ _ hpL, ms_mC_o _ _ hpL, ms_mC_o _ _ hpL, a1 p hpR, ms_mC_o _ _ hpR])
        have hn3 := ix_key hn2 h4 (B R (1 + 0))
        rw [d0.2 (by simp)] at hn3
        obtain ⟨kb, kv2', nb, nQ', g1, g2, rfl, rfl⟩ := q5
        have g0 := tr_F_1.mp p5
        refine k _ u13 r13 ⟨[(L, hb), (R, h2)], (L :: (nP ++ nb)) ++ (R :: nQ'), [], by simpa using hn3, by simp, by simp, rfl, ⟨kv1 ++ kb, kv2', L :: (nP ++ nb), R :: nQ', ⟨[(c, hc), (b, hb)], nP ++ nb, ?_, by simp, by simp, rfl, ?_, rfl, L9, L41⟩, tr_F_1.mpr ⟨(b2, hb2) :: Q, nQ', ?_, by simp; omega, by simp; omega, q4, ?_, rfl, R9, R41⟩, by simp, rfl⟩, ?_, ?_, ?_, ?_⟩
        · refine tr_nd_2.mpr ?_
          rw [ms_mC_o _ _ (Ne.symm hpL)]
          refine ⟨?_, ?_, ?_, ?_⟩
          · simp [ms_mC_g]
          · simp [ms_mC_g]
            rw [a1 L hLR, ms_mC_o _ _ hLR]; exact c4
          · simp [ms_mC_g]
            exact d0.1
          · simp [ms_mC_g]
            exact ek
        · refine ⟨kv1, kb, nP, nb, tr_T_fr _ _ _ _ _ _ _ g0 (fun z hz => ?_), tr_F_1.mpr (tr_T_fr _ _ _ _ _ _ _ g1 (fun z hz => ?_)), rfl, rfl⟩
          · obtain ⟨_, o2, o3, o4⟩ := oP z hz; exact o1 z o2 o3 o4
          · obtain ⟨_, o2, o3, o4⟩ := oQ z (by simp [hz]); exact o1 z o2 o3 o4
        · refine tr_nd_fr a2 ?_
          rw [ms_mC_o _ _ (Ne.symm hpR), ms_mC_o _ _ (Ne.symm hLR), ms_mC_o _ _ (Ne.symm hLR), ms_mC_o _ _ (Ne.symm hLR)]
        · refine tr_F_fr g2 (fun z hz => ?_)
          obtain ⟨_, o2, o3, o4⟩ := oQ z (by simp [hz]); exact o1 z o2 o3 o4
        · rw [List.perm_iff_count]
          intro a
          simp only [List.count_append, List.count_cons, List.count_nil]
          omega
        · intro i hi
          rw [o1 0 (by omega) (by omega) (by omega)]
          exact ev_none _ i hi
        · intro c hc
          rw [o1 0 (by omega) (by omega) (by omega)]
        · intro d hd0 hdp hdn
          exact o1 d hdp (by intro e; subst e; simp at hdn) (by intro e; subst e; simp at hdn)
    · simp at hP1
  · have hQ1 : Q.length = 1 := na_inj (by omega) (by omega) (q1.1.symm.trans f1)
    refine br_f (by decide) ?_
    rw [xe_evenInner_32]
    refine rb_key r2 hs hp (i := A.length) (by omega) rfl rfl rfl (fun u3 r3 => ?_)
    refine rb_cell r3 hs L41 (c := 0) (by omega) rfl rfl rfl (fun u4 r4 => ?_)
    rw [p1.1]
    refine pk_le 3 P.length (fun hge => br_f (by decide) ?_) (fun hlt => hjoin u4 r4 (by omega))
    rcases Q with _ | ⟨⟨c, hc⟩, _ | ⟨_, _⟩⟩
    · simp at hQ1
    · have ehc : hc = h2 := q4
      subst ehc
      rcases tr_snoc P with rfl | ⟨P1, ⟨b, hb⟩, rfl⟩
      · simp at hge
      · rcases tr_snoc P1 with rfl | ⟨P2, ⟨a, ha⟩, rfl⟩
        · simp at hge
        · have ehb : hb = h1 := by rw [tr_hi_app] at p4; exact p4
          subst ehb
          have c4 := (tr_nd_1.mp q1).2
          have hlen : (P2 ++ [(a, ha)] ++ [(b, hb)]).length = P2.length + 2 := by simp
          rw [hlen] at p3 hge ⊢
          have da := p1.2 P2.length (a, ha) (by simp)
          have db := p1.2 (P2.length + 1) (b, hb) (by simp)
          have dk := da.2 (by rw [hlen]; omega)
          rw [na_s2 (by omega), na_s1 (by omega), na_p3]
          refine rb_key r4 hs L41 (i := P2.length) (by omega) rfl rfl (by rw [show P2.length + 2 - 2 = P2.length from by omega]) (fun u5 r5 => ?_)
          refine rb_item r5 hs L41 (i := P2.length + 1) (by omega) rfl rfl (by rw [show P2.length + 2 - 1 = P2.length + 1 from by omega]) (fun u6 r6 => ?_)
          refine rb_set r6 hw hs L41 (c := P2.length + 1) (by omega) rfl rfl (by rw [show P2.length + 2 - 1 = P2.length + 1 from by omega]) (fun u7 r7 => ?_)
          refine rb_set r7 hw hs L41 (c := 3 + (P2.length + 2)) (by omega) rfl rfl rfl (fun u8 r8 => ?_)
          refine rb_set r8 hw hs L41 (c := 0) (by omega) rfl rfl rfl (fun u9 r9 => ?_)
          refine rb_item r9 hs R41 (i := 0) (by omega) rfl rfl rfl (fun u10 r10 => ?_)
          refine rb_set r10 hw hs R41 (c := 0) (by omega) rfl rfl rfl (fun u11 r11 => ?_)
          refine rb_set r11 hw hs R41 (c := 1) (by omega) rfl rfl rfl (fun u12 r12 => ?_)
          refine rb_set r12 hw hs R41 (c := 4) (by omega) rfl rfl rfl (fun u13 r13 => ?_)
          refine rb_set r13 hw hs R41 (c := 5) (by omega) rfl rfl rfl (fun u14 r14 => ?_)
          refine rb_set r14 hw hs hp (c := 1 + A.length) (by omega) rfl rfl (na_p1 _) (fun u15 r15 => ?_)
          rw [ms_mC_o _ _ (Ne.symm hLR), ms_mC_o _ _ (Ne.symm hLR), ms_mC_o _ _ (Ne.symm hLR)] at r15
          generalize eB1 : ms_mC (ms_mC (ms_mC B L (P2.length + 1) 0) L (3 + (P2.length + 2)) 0) L 0 (nI (P2.length + 2 - 1)) = B1 at r15
          have b1 : ∀ z, z ≠ L → B1 z = B z := fun z zL => by rw [← eB1, ms_mC_o _ _ zL, ms_mC_o _ _ zL, ms_mC_o _ _ zL]
          have n1 : tr_nd B1 L (P2 ++ [(a, ha)]) := by
            refine tr_drop p1 ?_ (fun i hi => ?_) (fun i hi => ?_)
            · rw [← eB1, ms_mC_s]; simp
            · simp only [List.length_append, List.length_cons, List.length_nil] at hi
              rw [← eB1]
              simp only [ms_mC_g]
              rw [if_neg (by omega), if_neg (by omega), if_neg (by omega)]
            · simp only [List.length_append, List.length_cons, List.length_nil] at hi
              rw [← eB1]
              simp only [ms_mC_g]
              rw [if_neg (by omega), if_neg (by omega), if_neg (by omega)]
          generalize eB2 : ms_mC (ms_mC (ms_mC (ms_mC B1 R 0 2) R 1 (B p (1 + A.length))) R 4 (B L (4 + (P2.length + 1)))) R 5 (B R (4 + 0)) = B2 at r15
          have b2 : ∀ z, z ≠ R → B2 z = B1 z := fun z zR => by rw [← eB2, ms_mC_o _ _ zR, ms_mC_o _ _ zR, ms_mC_o _ _ zR, ms_mC_o _ _ zR]
          have n2 : tr_nd B2 R [(b, hb), (c, hc)] := by
            refine tr_nd_2.mpr ?_
            rw [← eB2]
            refine ⟨by simp [ms_mC_g], ?_, ?_, ?_⟩
            · simp [ms_mC_g]; exact db.1
            · simp [ms_mC_g]; exact c4
            · simp [ms_mC_g]; exact ek
          have hn2 : tr_nd B2 p (A ++ (L, hb) :: (R, hc) :: C) := tr_nd_fr hn (by rw [b2 p hpR, b1 p hpL])
          have hn3 := ix_key hn2 h4 (B L (1 + P2.length))
          rw [dk] at hn3
          have o1 : ∀ z, z ≠ p → z ≠ L → z ≠ R → ms_mC B2 p (1 + A.length) (B L (1 + P2.length)) z = B z := by
            intro z zp zL zR
            rw [ms_mC_o _ _ zp, b2 z zR, b1 z zL]
          obtain ⟨ka, kb, na, nb, g1, g2, rfl, rfl⟩ := (tr_F_app _ _ _ _ _).mp p5
          have g3 := tr_F_1.mp g2
          rw [tr_hi_app] at g3
          have g0 := tr_F_1.mp q5
          refine k _ u15 r15 ⟨[(L, ha), (R, hc)], (L :: na) ++ (R :: (nb ++ nQ)), [], by simpa using hn3, by simp, by simp, rfl, ⟨ka, kb ++ kv2, L :: na, R :: (nb ++ nQ), ⟨P2 ++ [(a, ha)], na, ?_, by simp; omega, by simp; omega, by rw [tr_hi_app]; rfl, ?_, rfl, L9, L41⟩, tr_F_1.mpr ⟨[(b, hb), (c, hc)], nb ++ nQ, ?_, by simp, by simp, rfl, ⟨kb, kv2, nb, nQ, ?_, tr_F_1.mpr ?_, rfl, rfl⟩, rfl, R9, R41⟩, by simp, rfl⟩, ?_, ?_, ?_, ?_⟩
          · exact tr_nd_fr n1 (by rw [ms_mC_o _ _ (Ne.symm hpL), b2 L hLR])
          · refine tr_F_fr g1 (fun z hz => ?_)
            obtain ⟨_, o2, o3, o4⟩ := oP z (by simp [hz]); exact o1 z o2 o3 o4
          · exact tr_nd_fr n2 (ms_mC_o _ _ (Ne.symm hpR))
          · refine tr_T_fr _ _ _ _ _ _ _ g3 (fun z hz => ?_)
            obtain ⟨_, o2, o3, o4⟩ := oP z (by simp [hz]); exact o1 z o2 o3 o4
          · refine tr_T_fr _ _ _ _ _ _ _ g0 (fun z hz => ?_)
            obtain ⟨_, o2, o3, o4⟩ := oQ z hz; exact o1 z o2 o3 o4
          · rw [List.perm_iff_count]
            intro a
            simp only [List.count_append, List.count_cons, List.count_nil]
            omega
          · intro i hi
            rw [o1 0 (by omega) (by omega) (by omega)]
            exact ev_none _ i hi
          · intro c hc
            rw [o1 0 (by omega) (by omega) (by omega)]
          · intro d hd0 hdp hdn
            exact o1 d hdp (by intro e; subst e; simp at hdn) (by intro e; subst e; simp at hdn)
    · simp at hQ1
end
end
section
/-! mend, dropKey -/
def tr_map (B : ms_B) (all : List Nat) : Prop := ∀ i, i < 32 → bt (B 0 6) i = decide (9 + i ∈ all)
theorem tr_map_g {B B' : ms_B} {all new gone : List Nat} (hm : tr_map B all) (hd : all.Nodup) (hp : (gone ++ new).Perm all) (hb : ∀ i, i < 32 → bt (B' 0 6) i = (bt (B 0 6) i && !decide (9 + i ∈ gone))) : tr_map B' new ∧ new.Nodup := by
  have hd2 : (gone ++ new).Nodup := hp.nodup_iff.mpr hd
  rw [List.nodup_append] at hd2
  refine ⟨fun i hi => ?_, hd2.2.1⟩
  rw [hb i hi, hm i hi]
  have h : 9 + i ∈ all ↔ 9 + i ∈ gone ∨ 9 + i ∈ new := by rw [← hp.mem_iff, List.mem_append]
  by_cases h1 : 9 + i ∈ gone
  · have h2 : ¬ 9 + i ∈ new := fun z => hd2.2.2 _ h1 _ z rfl
    simp [h1, h2]
  · by_cases h2 : 9 + i ∈ new
    · simp [h, h1, h2]
    · simp [h, h1, h2]
def tr_fin (B B' : ms_B) (i : Nat) (kv : tr_KV) (n0 no : List Nat) : Prop := ∃ (root L : Nat) (ns : List Nat), B' 0 (3 * i) = nI root ∧ B' 0 (3 * i + 1) = nI (L + 1) ∧ tr_T B' L (if L = 0 then 1 else 2) root 0 1000000 kv ns ∧ (ns ++ no).Nodup ∧ tr_map B' (ns ++ no)
  ∧ (∀ c, c ≠ 6 → c ≠ 3 * i → c ≠ 3 * i + 1 → B' 0 c = B 0 c) ∧ (∀ b, b ≠ 0 → ¬ b ∈ n0 → B' b = B b)
section
variable {K w : Nat} {V : ms_M} {s : Nat} {y : ms_YT} {x : ms_XT} {B : ms_B} {t : ms_TT}
theorem tm_128 {post : SX → Prop} {i L root : Nat} {u : SX} {kv : tr_KV} {ns no : List Nat} (hR : ms_RB K w V s y x B t u) (hw : w = s) (hs : s < 4) (hi : i < 2) (hr : B 0 (3 * i) = nI root) (hl : B 0 (3 * i + 1) = nI (L + 1)) (hL : 1 ≤ L) (hL7 : L ≤ 7) (hT : tr_T B L 1 root 0 1000000 kv ns) (hd : (ns ++ no).Nodup) (hm : tr_map B (ns ++ no))
    (k : ∀ (B' : ms_B) (u' : SX), ms_RB K w V s y x B' t u' → tr_fin B B' i kv ns no → post u') : xc_mend_128 post (nI s) (nI i) (nI (L + 1)) u := by
  obtain ⟨L, rfl⟩ : ∃ L', L = L' + 1 := ⟨L - 1, by omega⟩
  have hin := tr_T_in _ _ _ _ _ _ _ hT
  obtain ⟨ps, ns', n1, n2, n3, n4, n5, rfl, n6, n7⟩ := hT
  rw [xe_mend_128, na_m3, na_q1]
  refine rb_cell hR hs (b := 0) (c := 3 * i) (by omega) (by omega) rfl rfl rfl (fun u1 r1 => ?_)
  refine br_f (na_nle (a := L + 1 + 1) (b := 1) rfl rfl (by omega) (by omega)) ?_
  rw [hr]
  refine rb_cell r1 hs n7 (c := 0) (by omega) rfl rfl rfl (fun u2 r2 => ?_)
  rw [n1.1]
  refine pk_eq ps.length 1 (fun h1 => ?_) (fun hne => ?_)
  · rcases ps with _ | ⟨⟨c, h⟩, _ | ⟨_, _⟩⟩
    · simp at h1
    · have eh : h = 1000000 := n4
      subst eh
      have hT2 := tr_F_1.mp n5
      have hc := (tr_nd_1.mp n1).2
      have zc := tr_T_sz _ _ _ _ _ _ _ (by omega) hT2
      rw [List.cons_append, List.nodup_cons] at hd
      have hcr : ∀ z, z ∈ ns' → z ≠ root := fun z hz e => hd.1 (by subst e; exact List.mem_append.mpr (Or.inl hz))
      refine rb_item r2 hs n7 (i := 0) (by omega) rfl rfl rfl (fun u3 r3 => ?_)
      refine rb_give r3 hw hs n7 n6 rfl rfl (fun B1 u4 r4 a1 a2 a3 => ?_)
      rw [show B root (4 + 0) = nI c from hc]
      refine rb_set r4 hw hs (b := 0) (c := 3 * i) (by omega) (by omega) rfl rfl rfl (fun u5 r5 => ?_)
      refine rb_set r5 hw hs (b := 0) (c := 3 * i + 1) (by omega) (by omega) rfl rfl rfl (fun u6 r6 => ?_)
      have e0 : ∀ z, z ≠ 0 → ms_mC (ms_mC B1 0 (3 * i) (nI c)) 0 (3 * i + 1) (nI (L + 1 + 1) - 1) z = B1 z := fun z hz => by rw [ms_mC_o _ _ hz, ms_mC_o _ _ hz]
      have e6 : ms_mC (ms_mC B1 0 (3 * i) (nI c)) 0 (3 * i + 1) (nI (L + 1 + 1) - 1) 0 6 = B1 0 6 := by rw [ms_mC_c _ _ (by omega), ms_mC_c _ _ (by omega)]
      have hmg := tr_map_g (B' := ms_mC (ms_mC B1 0 (3 * i) (nI c)) 0 (3 * i + 1) (nI (L + 1 + 1) - 1)) (gone := [root]) (new := ns' ++ no) hm (by rw [List.cons_append, List.nodup_cons]; exact hd) (List.Perm.refl _) (by
        intro j hj
        rw [e6, a2]
        exact ev_gone n6 n7 j hj)
      refine k _ u6 r6 ⟨c, L, ns', ?_, ?_, ?_, hmg.2, hmg.1, fun c' h6 h3 h31 => ?_, fun b hb0 hbn => ?_⟩
      · rw [ms_mC_c _ _ (by omega), ms_mC_s]
      · rw [ms_mC_s, nI_pred]
      · refine tr_T_wk (m := 2) (tr_T_fr _ _ _ _ _ _ _ hT2 (fun z hz => ?_)) (by split <;> omega)
        have hz9 := hin z (List.mem_cons_of_mem _ hz)
        rw [e0 z (by omega), a3 z (by omega) (hcr z hz)]
      · rw [ms_mC_c _ _ h31, ms_mC_c _ _ h3, a1 c' h6]
      · rw [e0 b hb0, a3 b hb0 (fun e => hbn (by simp [e]))]
    · simp at h1
  · refine k B u2 r2 ⟨root, L + 1, root :: ns', hr, hl, ?_, hd, hm, fun _ _ _ _ => rfl, fun _ _ _ => rfl⟩
    rw [if_neg (by omega)]
    exact ⟨ps, ns', n1, by omega, n3, n4, n5, rfl, n6, n7⟩
theorem tm_even {post : SX → Prop} {J : Int32 → Int32 → SX → Prop} {pi px : Int32} {u : SX} {l p L R m1 m2 slot : Nat} {A C : tr_PS} {lo h1 h2 : Int} {kv1 kv2 : tr_KV} {n1 n2 : List Nat} (hR : ms_RB K w V s y x B t u) (hw : w = s) (hs : s < 4) (hp : p < 41) (hp9 : 9 ≤ p) (hl : l ≤ 7) (hslot : slot < 8)
    (hn : tr_nd B p (A ++ (L, h1) :: (R, h2) :: C)) (h4 : A.length + C.length ≤ 2) (hm1 : 1 ≤ m1) (hm2 : 1 ≤ m2) (hT1 : tr_T B l m1 L lo h1 kv1 n1) (hT2 : tr_T B l m2 R h1 h2 kv2 n2) (nd : (p :: (n1 ++ n2)).Nodup)
    (hf : (slot = 0 ∧ B L 0 = nI 1 ∧ 2 ≤ m2) ∨ (1 ≤ slot ∧ B R 0 = nI 1 ∧ 2 ≤ m1))
    (k : ∀ (B' : ms_B) (u' : SX), ms_RB K w V s y x B' t u' → tr_ev B B' l p A C lo h2 (kv1 ++ kv2) (n1 ++ n2) → J (nI p) (nI (l + 2)) u') : xc_mend_69 post J (nI s) pi px (nI (l + 1)) (nI p) (nI slot) (nI A.length) u := by
  rw [xe_mend_69]
  rcases l with _ | l
  · refine br_t rfl ?_
    have hf' : (slot = 0 ∧ kv1.length = 1 ∧ 2 ≤ kv2.length) ∨ (1 ≤ slot ∧ kv2.length = 1 ∧ 2 ≤ kv1.length) := by
      have a1 := hT1.2.2.1
      have a2 := hT2.2.2.1
      rcases hf with ⟨f1, f2, f3⟩ | ⟨f1, f2, f3⟩
      · exact Or.inl ⟨f1, na_inj (by omega) (by omega) (hT1.1.1.symm.trans f2), Nat.le_trans f3 hT2.2.1⟩
      · exact Or.inr ⟨f1, na_inj (by omega) (by omega) (hT2.1.1.symm.trans f2), Nat.le_trans f3 hT1.2.1⟩
    rcases hf' with ⟨rfl, f2, f3⟩ | ⟨f1, f2, f3⟩
    · refine br_t (by decide) ?_
      rw [xe_mend_93]
      exact ev_leaf hR hw hs hp hp9 rfl rfl rfl hn h4 hm1 hm2 hT1 hT2 nd (Or.inl ⟨rfl, f2, f3⟩) (fun B' u' r' e => nm_e (k B' u' r' e))
    · refine br_f (nI_nle (by omega) (by omega)) ?_
      rw [xe_mend_93]
      exact ev_leaf hR hw hs hp hp9 rfl rfl rfl hn h4 hm1 hm2 hT1 hT2 nd (Or.inr ⟨rfl, f2, f3⟩) (fun B' u' r' e => nm_e (k B' u' r' e))
  · refine br_f (na_ne (a := l + 1 + 1) (b := 1) (by omega) (by omega) (by omega)) ?_
    rcases hf with ⟨rfl, f2, f3⟩ | ⟨f1, f2, f3⟩
    · refine br_t (by decide) ?_
      rw [xe_mend_115]
      exact ev_inner hR hw hs hp hp9 rfl rfl rfl hn h4 hm1 hm2 hT1 hT2 nd (Or.inl ⟨rfl, f2, f3⟩) (fun B' u' r' e => nm_r (nI_1 _) (k B' u' r' e))
    · refine br_f (nI_nle (by omega) (by omega)) ?_
      rw [xe_mend_115]
      exact ev_inner hR hw hs hp hp9 rfl rfl rfl hn h4 hm1 hm2 hT1 hT2 nd (Or.inr ⟨rfl, f2, f3⟩) (fun B' u' r' e => nm_r (nI_1 _) (k B' u' r' e))
/-- the new node above two evened neighbours -/
theorem tm_new {B' : ms_B} {l p : Nat} {A C : tr_PS} {lo' lo hi hi' : Int} {kA kv kC : tr_KV} {nA nn nC rest : List Nat} (ev : tr_ev B B' l p A C lo hi kv nn) (h4 : A.length + C.length ≤ 2) (hp : p < 41) (hp9 : 9 ≤ p) (f1 : tr_F (tr_T B l 2) lo' A kA nA) (e1 : lo = tr_hi lo' A) (f2 : tr_F (tr_T B l 2) hi C kC nC) (e2 : hi' = tr_hi hi C)
    (hall : (p :: (nA ++ nn ++ nC) ++ rest).Nodup) (h9 : ∀ z, z ∈ p :: (nA ++ nn ++ nC) ++ rest → 9 ≤ z) (hm : tr_map B (p :: (nA ++ nn ++ nC) ++ rest)) :
    ∃ ns', tr_T B' (l + 1) 1 p lo' hi' (kA ++ kv ++ kC) ns' ∧ (ns' ++ rest).Nodup ∧ tr_map B' (ns' ++ rest) ∧ (∀ z, z ∈ ns' → z ∈ p :: (nA ++ nn ++ nC)) ∧ (∀ c, c ≠ 6 → B' 0 c = B 0 c) ∧ (∀ b, b ≠ 0 → b ≠ p → ¬ b ∈ nn → B' b = B b) := by
  obtain ⟨M, n', gone, m1, m2, m3, m4, m5, m6, m7, m8, m9⟩ := ev
  have hper : (gone ++ ((p :: (nA ++ n' ++ nC)) ++ rest)).Perm (p :: (nA ++ nn ++ nC) ++ rest) := by
    rw [List.perm_iff_count]
    intro a
    have := m6.count_eq a
    simp only [List.count_append, List.count_cons, List.cons_append] at this ⊢
    omega
  have hg := tr_map_g (B' := B') hm hall hper m7
  have hn0 : ∀ z, z ∈ nA ∨ z ∈ nC → B' z = B z := by
    intro z hz
    have hz2 : z ∈ p :: (nA ++ nn ++ nC) ++ rest := by
      simp only [List.mem_append, List.mem_cons, List.cons_append]
      rcases hz with hz | hz <;> simp [hz]
    refine m9 z (by have := h9 z hz2; omega) ?_ ?_
    · intro e
      subst e
      simp only [List.nodup_cons, List.mem_append, List.cons_append] at hall
      rcases hz with hz | hz <;> exact hall.1 (by simp [hz])
    · intro hzn
      simp only [List.nodup_cons, List.nodup_append, List.mem_append, List.cons_append] at hall
      rcases hz with hz | hz
      · exact hall.2.1.1.2.2 z hz z hzn rfl
      · exact hall.2.1.2.2 z (Or.inr hzn) z hz rfl
  refine ⟨p :: (nA ++ n' ++ nC), ⟨A ++ M ++ C, nA ++ n' ++ nC, m1, ?_, ?_, ?_, ?_, rfl, hp9, hp⟩, hg.2, hg.1, ?_, m8, m9⟩
  · have : 1 ≤ M.length := by
      cases M with
      | nil => exact absurd rfl m2
      | cons _ _ => simp
    simp only [List.length_append]
    omega
  · simp only [List.length_append]
    omega
  · rw [tr_hi_app, tr_hi_app, ← e1, m4, e2]
  · refine (tr_F_app _ _ _ _ _).mpr ⟨kA ++ kv, kC, nA ++ n', nC, (tr_F_app _ _ _ _ _).mpr ⟨kA, kv, nA, n', tr_F_fr f1 (fun z hz => hn0 z (Or.inl hz)), by rw [← e1]; exact m5, rfl, rfl⟩, ?_, rfl, rfl⟩
    rw [tr_hi_app, ← e1, m4]
    exact tr_F_fr f2 (fun z hz => hn0 z (Or.inr hz))
  · intro z hz
    have h1 : z ∈ n' → z ∈ nn := fun h => m6.mem_iff.mp (List.mem_append.mpr (Or.inr h))
    simp only [List.mem_append, List.mem_cons] at hz ⊢
    rcases hz with hz | (hz | hz) | hz
    · exact Or.inl hz
    · exact Or.inr (Or.inl (Or.inl hz))
    · exact Or.inr (Or.inl (Or.inr (h1 hz)))
    · exact Or.inr (Or.inr hz)
end
end
section
/-! the loop of mend, and dropKey -/
theorem tr_map_p {B : ms_B} {a b : List Nat} (h : tr_map B a) (p : a.Perm b) : tr_map B b := fun i hi => by
  rw [h i hi, decide_eq_decide]
  exact p.mem_iff
theorem tr_cnt {B : ms_B} {l m z : Nat} {lo hi : Int} {kv : tr_KV} {ns : List Nat} (h : tr_T B l m z lo hi kv ns) : ∃ n, B z 0 = nI n ∧ m ≤ n ∧ n ≤ 4 ∧ ∀ m', m' ≤ n → tr_T B l m' z lo hi kv ns := by
  cases l with
  | zero =>
    obtain ⟨h1, h2, h3, h⟩ := h
    exact ⟨kv.length, h1.1, h2, by omega, fun m' hm => ⟨h1, hm, h3, h⟩⟩
  | succ l =>
    obtain ⟨ps, ns', h1, h2, h3, h⟩ := h
    exact ⟨ps.length, h1.1, h2, h3, fun m' hm => ⟨ps, ns', h1, hm, h3, h⟩⟩
theorem tr_fin_t {B B' B'' : ms_B} {i : Nat} {kv : tr_KV} {n0 n1 no : List Nat} (h : tr_fin B' B'' i kv n1 no) (h1 : ∀ c, c ≠ 6 → c ≠ 3 * i → c ≠ 3 * i + 1 → B' 0 c = B 0 c) (h2 : ∀ b, b ≠ 0 → ¬ b ∈ n0 → B' b = B b) (h3 : ∀ b, b ∈ n1 → b ∈ n0) : tr_fin B B'' i kv n0 no := by
  obtain ⟨root, L, ns, a1, a2, a3, a4, a5, a6, a7⟩ := h
  exact ⟨root, L, ns, a1, a2, a3, a4, a5, fun c c6 c3 c31 => (a6 c c6 c3 c31).trans (h1 c c6 c3 c31), fun b hb hn => (a7 b hb (fun z => hn (h3 b z))).trans (h2 b hb hn)⟩
section
variable {K w : Nat} {V : ms_M} {s : Nat} {y : ms_YT} {x : ms_XT} {t : ms_TT}
theorem tm_loop {post : SX → Prop} (hw : w = s) (hs : s < 4) {i L root : Nat} (hi : i < 2) (hL : 1 ≤ L) (hL7 : L ≤ 7) {no : List Nat} (h9o : ∀ z, z ∈ no → 9 ≤ z) : ∀ (d l z : Nat) (lo hi : Int) (kL kv kR : tr_KV) (nC ns : List Nat) (B : ms_B) (u : SX), ms_RB K w V s y x B t u → B 0 (3 * i) = nI root → B 0 (3 * i + 1) = nI (L + 1) →
    tr_H B t.2.2.1 t.2.2.2.1 L root 0 1000000 d l z lo hi kL kR nC → tr_T B l 1 z lo hi kv ns → (ns ++ nC ++ no).Nodup → tr_map B (ns ++ nC ++ no) →
    (∀ (B' : ms_B) (u' : SX), ms_RB K w V s y x B' t u' → tr_fin B B' i (kL ++ kv ++ kR) (ns ++ nC) no → post u') → xc_mend_19 post (nI s) (nI i) (nI (L + 1)) (d + 1) (nI z) (nI (l + 1)) u := by
  intro d
  induction d with
  | zero =>
    intro l z lo hi kL kv kR nC ns B u hR hr hl hH hT hd hm k
    obtain ⟨rfl, rfl, rfl, rfl, rfl, rfl, rfl⟩ := hH
    simp only [List.append_nil, List.nil_append] at hd hm k
    rw [xe_mend_19]
    exact br_t (Int32.le_refl _) (tm_128 hR hw hs ‹i < 2› hr hl hL hL7 hT hd hm k)
  | succ d ih =>
    intro l z lo hi kL kv kR nC0 ns B u hR hr hl hH hT hd hm k
    have hdl := (tr_H_d _ _ _ _ _ _ _ _ hH)
    have zT := tr_T_sz _ _ _ _ _ _ _ (by omega) hT
    obtain ⟨n, c1, c2, c3, c4⟩ := tr_cnt hT
    rw [xe_mend_19]
    refine br_f (nI_ge (by omega) (by omega)) ?_
    refine rb_cell hR hs zT.2.2.2.2.1 (c := 0) (by omega) rfl rfl rfl (fun u1 r1 => ?_)
    rw [c1]
    refine pk_le 2 n (fun hge => ?_) (fun hlt => ?_)
    · obtain ⟨ns', g1, g2⟩ := tr_plug _ _ _ _ _ _ _ _ _ _ hH (c4 2 hge)
      have g3 : (ns' ++ no).Perm (ns ++ nC0 ++ no) := g2.append_right no
      refine tm_128 r1 hw hs ‹i < 2› hr hl hL hL7 (tr_T_wk g1 (by omega)) (g3.nodup_iff.mpr hd) (tr_map_p hm g3.symm) (fun B' u' r' f => k B' u' r' ?_)
      exact tr_fin_t f (fun _ _ _ _ => rfl) (fun _ _ _ => rfl) (fun b hb => g2.mem_iff.mp hb)
    · have hn1 : n = 1 := by omega
      subst hn1
      obtain ⟨p, A, C, lo', hi', kA, kC, nA, nC, kL', kR', ns', ⟨h1, h2, h3, h4, h5⟩, ⟨f1, f2, f3, f4⟩, ⟨w1, w2⟩, hH', rfl, rfl, rfl⟩ := hH
      refine ⟨vp_in_nI (by omega) (by omega), ?_⟩
      rw [nI_clamp (n := l + 1) (by omega), rb_gwn r1, rb_gws r1, w1, w2]
      refine nm_e ⟨vp_in_nI (by omega) (by omega), nm_e ?_⟩
      have h9 : ∀ z', z' ∈ ns ++ (p :: (nA ++ nC ++ ns')) ++ no → 9 ≤ z' := by
        intro z' hz'
        rcases List.mem_append.mp hz' with hz' | hz'
        · rcases List.mem_append.mp hz' with hz' | hz'
          · exact (tr_T_in _ _ _ _ _ _ _ hT z' hz').1
          · exact (hdl.2.2 z' hz').1
        · exact h9o z' hz'
      -- what follows when the neighbours are even
      have hgo : ∀ (A' C' : tr_PS) (lo1 hi1 : Int) (kA' kv' kC' : tr_KV) (nA' nn nC' : List Nat) (B' : ms_B) (u2 : SX), ms_RB K w V s y x B' t u2 → tr_ev B B' l p A' C' lo1 hi1 kv' nn → A'.length + C'.length ≤ 2 → tr_F (tr_T B l 2) lo' A' kA' nA' → lo1 = tr_hi lo' A' → tr_F (tr_T B l 2) hi1 C' kC' nC' → hi' = tr_hi hi1 C' →
          (p :: (nA' ++ nn ++ nC') ++ (ns' ++ no)).Perm (ns ++ (p :: (nA ++ nC ++ ns')) ++ no) → kA' ++ kv' ++ kC' = kA ++ kv ++ kC → xc_mend_19 post (nI s) (nI i) (nI (L + 1)) (d + 1) (nI p) (nI (l + 2)) u2 := by
        intro A' C' lo1 hi1 kA' kv' kC' nA' nn nC' B' u2 r2 ev e4 g1 g2 g3 g4 hper hkv
        obtain ⟨nw, t1, t2, t3, t4, t5, t6⟩ := tm_new ev e4 h5 h4 g1 g2 g3 g4 (hper.nodup_iff.mpr hd) (fun z' hz' => h9 z' (hper.mem_iff.mp hz')) (tr_map_p hm hper.symm)
        have hdd := hper.nodup_iff.mpr hd
        have hns : ∀ z', z' ∈ ns' → B' z' = B z' := by
          intro z' hz'
          have hz9 := h9 z' (by simp [hz'])
          simp only [List.nodup_cons, List.nodup_append, List.mem_append, List.cons_append] at hdd
          refine t6 z' (by omega) ?_ ?_
          · intro e; subst e; exact hdd.1 (by simp [hz'])
          · intro hzn
            exact hdd.2.2.2 z' (Or.inl (Or.inr hzn)) z' (Or.inl hz') rfl
        refine ih (l + 1) p lo' hi' kL' (kA' ++ kv' ++ kC') kR' ns' nw B' u2 r2 ?_ ?_ (tr_H_fr _ _ _ _ _ _ _ _ hH' hns (fun _ _ => ⟨rfl, rfl⟩)) t1 (by rw [List.append_assoc]; exact t2) (by rw [List.append_assoc]; exact t3) (fun B'' u' r' f => k B'' u' r' ?_)
        · rw [t5 _ (by omega)]; exact hr
        · rw [t5 _ (by omega)]; exact hl
        · have e : kL' ++ (kA' ++ kv' ++ kC') ++ kR' = kL' ++ kA ++ kv ++ (kC ++ kR') := by rw [hkv]; simp [List.append_assoc]
          rw [e] at f
          refine tr_fin_t f (fun c c6 _ _ => t5 c c6) (fun b hb hbn => t6 b hb ?_ ?_) (fun b hb => ?_)
          · intro e; subst e; exact hbn (by simp)
          · intro hbnn
            have h6 : b ∈ ns ++ (p :: (nA ++ nC ++ ns')) ++ no := hper.mem_iff.mp (by simp [hbnn])
            rcases List.mem_append.mp h6 with h7 | h7
            · exact hbn h7
            · simp only [List.nodup_cons, List.nodup_append, List.mem_append, List.cons_append] at hdd
              exact hdd.2.2.2 b (Or.inl (Or.inr hbnn)) b (Or.inr h7) rfl
          · rcases List.mem_append.mp hb with h7 | h7
            · have h8 := t4 b h7
              have h6 : b ∈ ns ++ (p :: (nA ++ nC ++ ns')) ++ no := hper.mem_iff.mp (List.mem_append.mpr (Or.inl h8))
              rcases List.mem_append.mp h6 with h6 | h6
              · exact h6
              · rw [List.nodup_append] at hdd
                exact absurd rfl (hdd.2.2 b h8 b (List.mem_append.mpr (Or.inr h6)))
            · simp [h7]
      rcases tr_snoc A with rfl | ⟨A', ⟨lf, hlf⟩, rfl⟩
      · -- the first child: its right neighbour
        obtain ⟨rfl, rfl⟩ := f1
        rcases C with _ | ⟨⟨r, hr'⟩, C'⟩
        · simp at h2
        · obtain ⟨kr, kC', nr, nC', g1, g2, rfl, rfl⟩ := f3
          simp only [List.length_cons, List.length_nil] at h3
          refine br_t (by decide) ?_
          refine tm_even (A := []) (C := C') (slot := 0) r1 hw hs h5 h4 (by omega) (by omega) h1 (by simp; omega) (by omega) (by omega) hT g1 ?_ (Or.inl ⟨rfl, c1, by omega⟩) (fun B' u2 r2 ev => ?_)
          · have hd2 : (p :: (ns ++ nr) ++ (nC' ++ ns' ++ no)).Nodup := by
              refine (List.Perm.nodup_iff ?_).mpr hd
              rw [List.perm_iff_count]
              intro a
              simp only [List.count_append, List.count_cons, List.cons_append, List.count_nil]
              omega
            exact (List.nodup_append.mp hd2).1
          · refine hgo [] C' lo hr' [] (kv ++ kr) kC' [] (ns ++ nr) nC' B' u2 r2 ev (by simp; omega) ⟨rfl, rfl⟩ f2 g2 f4 ?_ (by simp [List.append_assoc])
            rw [List.perm_iff_count]
            intro a
            simp only [List.count_append, List.count_cons, List.cons_append, List.count_nil]
            omega
      · obtain ⟨kA', kl, nA', nl, g1, g2, rfl, rfl⟩ := (tr_F_app _ _ _ _ _).mp f1
        have g3 := tr_F_1.mp g2
        have e1 : hlf = lo := by rw [f2, tr_hi_app]; rfl
        subst e1
        simp only [List.length_append, List.length_cons, List.length_nil] at h3 h2 ⊢
        refine br_f (nI_nle (by omega) (by omega)) ?_
        rw [na_s1 (by omega), show A'.length + (0 + 1) - 1 = A'.length from by omega]
        refine tm_even (A := A') (C := C) (slot := A'.length + (0 + 1)) r1 hw hs h5 h4 (by omega) (by omega) (by simpa using h1) (by omega) (by omega) (by omega) g3 hT ?_ (Or.inr ⟨by omega, c1, by omega⟩) (fun B' u2 r2 ev => ?_)
        · have hd2 : (p :: (nl ++ ns) ++ (nA' ++ nC ++ ns' ++ no)).Nodup := by
            refine (List.Perm.nodup_iff ?_).mpr hd
            rw [List.perm_iff_count]
            intro a
            simp only [List.count_append, List.count_cons, List.cons_append, List.count_nil]
            omega
          exact (List.nodup_append.mp hd2).1
        · refine hgo A' C (tr_hi lo' A') hi kA' (kl ++ kv) kC nA' (nl ++ ns) nC B' u2 r2 ev (by omega) g1 rfl f3 f4 ?_ (by simp [List.append_assoc])
          rw [List.perm_iff_count]
          intro a
          simp only [List.count_append, List.count_cons, List.cons_append, List.count_nil]
          omega
end
end
section
/-! dropKey -/
def tr_del (kv : tr_KV) (key : Int) : tr_KV := kv.filter (fun p => decide (p.1 ≠ key))
theorem tr_del_mid {A C : tr_KV} {key : Int} {v : Nat} (h : (A ++ (key, v) :: C).Pairwise (fun p q => p.1 < q.1)) : tr_del (A ++ (key, v) :: C) key = A ++ C := by
  unfold tr_del
  have h1 := (List.pairwise_append.mp h).2.2
  have h2 := List.pairwise_cons.mp (List.pairwise_append.mp h).2.1
  rw [List.filter_append, List.filter_cons, if_neg (by simp)]
  congr 1
  · refine List.filter_eq_self.mpr (fun p hp => ?_)
    have h3 : p.1 < key := h1 p hp (key, v) (by simp)
    simp; omega
  · refine List.filter_eq_self.mpr (fun p hp => ?_)
    have h3 : key < p.1 := h2.1 p hp
    simp; omega
def tr_res (B B' : ms_B) (i : Nat) (kv : tr_KV) (no : List Nat) : Prop := ∃ ns, tr_ok B' i kv ns ∧ (ns ++ no).Nodup ∧ tr_map B' (ns ++ no)
  ∧ (∀ c, c ≠ 6 → c ≠ 3 * i → c ≠ 3 * i + 1 → c ≠ 3 * i + 2 → B' 0 c = B 0 c) ∧ (∀ b, b ≠ 0 → (b < 9 ∨ b ∈ no) → B' b = B b)
section
variable {K w : Nat} {V : ms_M} {s : Nat} {y : ms_YT} {x : ms_XT} {B : ms_B} {t : ms_TT}
theorem tm_mend {post : SX → Prop} {ps pi pz : Int32} {i L root z : Nat} {lo hi : Int} {kL kv kR : tr_KV} {nC ns no : List Nat} {u : SX} (hR : ms_RB K w V s y x B t u) (hw : w = s) (hs : s < 4) (hi2 : i < 2) (es : ps = nI s) (ei : pi = nI i) (ez : pz = nI z) (hL : 1 ≤ L) (hL7 : L ≤ 7) (h9o : ∀ z, z ∈ no → 9 ≤ z) (hr : B 0 (3 * i) = nI root) (hl : B 0 (3 * i + 1) = nI (L + 1))
    (hH : tr_H B t.2.2.1 t.2.2.2.1 L root 0 1000000 L 0 z lo hi kL kR nC) (hT : tr_T B 0 1 z lo hi kv ns) (hd : (ns ++ nC ++ no).Nodup) (hm : tr_map B (ns ++ nC ++ no))
    (k : ∀ (B' : ms_B) (u' : SX), ms_RB K w V s y x B' t u' → tr_fin B B' i (kL ++ kv ++ kR) (ns ++ nC) no → post u') : wpX_mend post u ps pi pz := by
  subst es ei ez
  rw [xe_mend, na_m3, na_q1]
  refine rb_cell hR hs (b := 0) (c := 3 * i + 1) (by omega) (by omega) rfl rfl rfl (fun u1 r1 => ⟨L + 1, ?_⟩)
  rw [hl]
  exact tm_loop hw hs hi2 hL hL7 h9o L 0 z lo hi kL kv kR nC ns B u1 r1 hr hl hH hT hd hm k
/-- dropKey takes a key out -/
theorem tm_drop {post : SX → Prop} {ps pi : Int32} {i : Nat} {u : SX} {kv : tr_KV} {ns no : List Nat} (hR : ms_RB K w V s y x B t u) (hw : w = s) (hs : s < 4) (hi : i < 2) (es : ps = nI s) (ei : pi = nI i) (key : Int32) (ok : tr_ok B i kv ns) (h9o : ∀ z, z ∈ no → 9 ≤ z) (hd : (ns ++ no).Nodup) (hm : tr_map B (ns ++ no)) (hin : ∃ v, (key.toInt, v) ∈ kv)
    (k : ∀ (B' : ms_B) (t' : ms_TT) (u' : SX), ms_RB K w V s y x B' t' u' → tr_res B B' i (tr_del kv key.toInt) no → post u') : wpX_dropKey post u ps pi key := by
  subst es ei
  obtain ⟨v0, hv0⟩ := hin
  have hcount := ok.1
  have hk14 := ok.2.1
  rw [xe_dropKey]
  refine tw_descend hR hs hi rfl rfl key ok (fun e1 e2 u' r' => ?_) (fun root L eR eL hL t' u' z lo hi kL kw kR nC r' hH hT ek hper hkL hkR => ?_)
  · subst e1
    exact absurd hv0 (by simp)
  · have hT0 := hT
    obtain ⟨l1, l2, l3, l4, _, l5, l6⟩ := hT0
    have hsort : kv.Pairwise (fun p q => p.1 < q.1) := by
      obtain ⟨_, _, ⟨e, _⟩ | ⟨root', L', _, _, hT'⟩⟩ := ok
      · subst e; exact List.Pairwise.nil
      · exact (tr_T_sz _ _ _ _ _ _ _ (by split <;> omega) hT').1.2
    refine br_f (tw_ne0 l5 l6) ?_
    refine tw_place r' hs l6 key rfl rfl l1 l3 (fun A v C u1 eA r1 => ?_) (fun hno u1 r1 => ?_)
    · subst eA
      have hkd : tr_del kv key.toInt = kL ++ (A ++ C) ++ kR := by
        have e : kv = (kL ++ A) ++ (key.toInt, v) :: (C ++ kR) := by rw [← ek]; simp [List.append_assoc]
        rw [e] at hsort ⊢
        rw [tr_del_mid hsort]
        simp [List.append_assoc]
      have hlen : kv.length = (kL ++ (A ++ C) ++ kR).length + 1 := by rw [← ek]; simp; omega
      have hdz : ([z] ++ nC ++ no).Nodup := (List.Perm.nodup_iff (show ([z] ++ nC ++ no).Perm (ns ++ no) from hper.append_right no)).mpr hd
      have hmz : tr_map B ([z] ++ nC ++ no) := tr_map_p hm (show ([z] ++ nC ++ no).Perm (ns ++ no) from hper.append_right no).symm
      have hlenw : (A ++ (key.toInt, v) :: C).length = (A ++ C).length + 1 := by simp; omega
      rw [hlenw] at l2 l3
      rw [xe_dropKey_26]
      refine br_t (nI_pos' (by simp at l3; omega)) ?_
      refine lx_rem r1 hw hs l6 rfl rfl rfl l1 (by rw [hlenw]; exact l3) (fun B1 u2 r2 a1 a2 => ?_)
      rw [na_m3, na_q2, na_q1]
      refine rb_cell r2 hs (b := 0) (c := 3 * i + 2) (by omega) (by omega) rfl rfl rfl (fun u3 r3 => ?_)
      rw [a1 0 (by omega), hcount, na_s1 (by omega)]
      refine rb_set r3 hw hs (b := 0) (c := 3 * i + 2) (by omega) (by omega) rfl rfl rfl (fun u4 r4 => ?_)
      generalize eB2 : ms_mC B1 0 (3 * i + 2) (nI (kv.length - 1)) = B2 at r4
      have b2 : ∀ b, b ≠ 0 → B2 b = B1 b := fun b hb => by rw [← eB2, ms_mC_o _ _ hb]
      have b20 : ∀ c, c ≠ 3 * i + 2 → B2 0 c = B 0 c := fun c hc => by rw [← eB2, ms_mC_c _ _ hc, a1 0 (by omega)]
      have b2c : B2 0 (3 * i + 2) = nI (tr_del kv key.toInt).length := by rw [← eB2, ms_mC_s, hkd]; congr 1; omega
      have hlf : tr_lf B2 z (A ++ C) := tr_lf_fr a2 (b2 z (by omega))
      have hrg : tr_rg lo hi (A ++ C) := by
        refine ⟨fun p hp => l4.1 p ?_, ?_⟩
        · rcases List.mem_append.mp hp with h | h <;> simp [h]
        · have := l4.2
          rw [List.pairwise_append, List.pairwise_cons] at this
          exact List.pairwise_append.mpr ⟨this.1, this.2.1.2, fun p hp q hq => this.2.2 p hp q (List.mem_cons_of_mem _ hq)⟩
      have hoth : ∀ b, b ≠ 0 → b ≠ z → B2 b = B b := fun b hb hz => by rw [b2 b hb, a1 b hz]
      have hzn : ∀ q, q ∈ nC ∨ q ∈ no → q ≠ z := by
        intro q hq e
        subst e
        simp only [List.cons_append, List.nil_append, List.nodup_cons, List.mem_append] at hdz
        exact hdz.1 hq
      have hz9 : ∀ q, q ∈ nC → 9 ≤ q := fun q hq => ((tr_H_d _ _ _ _ _ _ _ _ hH).2.2 q hq).1
      have hmz2 : tr_map B2 ([z] ++ nC ++ no) := fun j hj => by rw [b20 6 (by omega)]; exact hmz j hj
      have hH2 : tr_H B2 t'.2.2.1 t'.2.2.2.1 L root 0 1000000 L 0 z lo hi kL kR nC := tr_H_fr _ _ _ _ _ _ _ _ hH (fun q hq => hoth q (by have := hz9 q hq; omega) (hzn q (Or.inl hq))) (fun _ _ => ⟨rfl, rfl⟩)
      have hfin : ∀ (B' : ms_B), tr_fin B2 B' i (kL ++ (A ++ C) ++ kR) ([z] ++ nC) no → tr_res B B' i (tr_del kv key.toInt) no := by
        rintro B' ⟨root', L', ns', q1, q2, q3, q4, q5, q6, q7⟩
        refine ⟨ns', ⟨?_, by rw [hkd]; omega, Or.inr ⟨root', L', q1, q2, by rw [hkd]; exact q3⟩⟩, q4, q5, fun c c6 c0 c1 c2 => ?_, fun b hb0 hb => ?_⟩
        · rw [q6 _ (by omega) (by omega) (by omega), b2c]
        · rw [q6 c c6 c0 c1, b20 c c2]
        · have hbz : ¬ b ∈ [z] ++ nC := by
            intro hbm
            rcases hb with hb | hb
            · rcases List.mem_append.mp hbm with h | h
              · rw [List.mem_singleton] at h; omega
              · have := hz9 b h; omega
            · rw [List.nodup_append] at hdz
              exact hdz.2.2 b hbm b hb rfl
          rw [q7 b hb0 hbz, hoth b hb0 (fun e => hbz (by simp [e]))]
      refine rb_cell r4 hs l6 (c := 0) (by omega) rfl rfl rfl (fun u5 r5 => ?_)
      rw [hlf.1]
      refine pk_eq (A ++ C).length 0 (fun h0 => ?_) (fun hne => ?_)
      · -- the leaf was the whole tree
        have hL0 : L = 0 := by
          rcases Nat.eq_zero_or_pos L with h | h
          · exact h
          · rw [if_neg (by omega)] at l2
            omega
        subst hL0
        obtain ⟨_, erz, _, _, ekL, ekR, enC⟩ := hH
        subst ekL ekR enC erz
        have hAC : A ++ C = [] := List.eq_nil_of_length_eq_zero h0
        refine rb_give r5 hw hs l6 l5 rfl rfl (fun B3 u6 r6 g1 g2 g3 => ?_)
        refine rb_set r6 hw hs (b := 0) (c := 3 * i) (by omega) (by omega) rfl rfl rfl (fun u7 r7 => ?_)
        refine rb_set r7 hw hs (b := 0) (c := 3 * i + 1) (by omega) (by omega) rfl rfl rfl (fun u8 r8 => ?_)
        have hmg := tr_map_g (B' := ms_mC (ms_mC B3 0 (3 * i) 0) 0 (3 * i + 1) 0) (gone := [z]) (new := [] ++ no) hmz2 (by simpa using hdz) (by simp) (by
          intro j hj
          rw [ms_mC_c _ _ (by omega), ms_mC_c _ _ (by omega), g2]
          exact ev_gone l5 l6 j hj)
        refine k _ t' u8 r8 ⟨[], ⟨?_, by rw [hkd, hAC]; simp, Or.inl ⟨by rw [hkd, hAC]; rfl, rfl, ?_, ?_⟩⟩, hmg.2, hmg.1, fun c c6 c0 c1 c2 => ?_, fun b hb0 hb => ?_⟩
        · rw [ms_mC_c _ _ (by omega), ms_mC_c _ _ (by omega), g1 _ (by omega), b2c]
        · rw [ms_mC_c _ _ (by omega), ms_mC_s]
        · rw [ms_mC_s]
        · rw [ms_mC_c _ _ c1, ms_mC_c _ _ c0, g1 c c6, b20 c c2]
        · have hbz : b ≠ z := by
            rcases hb with hb | hb
            · omega
            · exact hzn b (Or.inr hb)
          rw [ms_mC_o _ _ hb0, ms_mC_o _ _ hb0, g3 b hb0 hbz, hoth b hb0 hbz]
      · refine pk_le 2 (A ++ C).length (fun hge => ?_) (fun hlt => ?_)
        · refine k B2 t' u5 r5 (hfin B2 ?_)
          rcases Nat.eq_zero_or_pos L with h | h
          · subst h
            obtain ⟨_, erz, elo, ehi, ekL, ekR, enC⟩ := hH2
            subst ekL ekR enC erz elo ehi
            rw [show ([] : tr_KV) ++ (A ++ C) ++ [] = A ++ C from by simp]
            refine ⟨z, 0, [z], by rw [b20 _ (by omega)]; exact eR, by rw [b20 _ (by omega)]; exact eL, ⟨hlf, by rw [if_pos rfl]; omega, by omega, hrg, rfl, l5, l6⟩, by simpa using hdz, by simpa using hmz2, fun _ _ _ _ => rfl, fun _ _ _ => rfl⟩
          · obtain ⟨ns', g1, g2⟩ := tr_plug _ _ _ _ _ _ _ _ _ _ hH2 (show tr_T B2 0 2 z lo hi (A ++ C) [z] from ⟨hlf, hge, by omega, hrg, rfl, l5, l6⟩)
            have g3 : (ns' ++ no).Perm ([z] ++ nC ++ no) := g2.append_right no
            refine ⟨root, L, ns', by rw [b20 _ (by omega)]; exact eR, by rw [b20 _ (by omega)]; exact eL, by rw [if_neg (by omega)]; exact g1, g3.nodup_iff.mpr hdz, tr_map_p hmz2 g3.symm, fun _ _ _ _ => rfl, fun _ _ _ => rfl⟩
        · refine rb_cell r5 hs (b := 0) (c := 3 * i + 1) (by omega) (by omega) rfl rfl rfl (fun u6 r6 => ?_)
          rw [b20 _ (by omega), eL]
          refine pk_le (L + 1) 1 (fun hle => ?_) (fun hgt => ?_)
          · have hL0 : L = 0 := by omega
            subst hL0
            refine k B2 t' u6 r6 (hfin B2 ?_)
            obtain ⟨_, erz, elo, ehi, ekL, ekR, enC⟩ := hH2
            subst ekL ekR enC erz elo ehi
            rw [show ([] : tr_KV) ++ (A ++ C) ++ [] = A ++ C from by simp]
            refine ⟨z, 0, [z], by rw [b20 _ (by omega)]; exact eR, by rw [b20 _ (by omega)]; exact eL, ⟨hlf, by rw [if_pos rfl]; omega, by omega, hrg, rfl, l5, l6⟩, by simpa using hdz, by simpa using hmz2, fun _ _ _ _ => rfl, fun _ _ _ => rfl⟩
          · refine tm_mend (root := root) (L := L) r6 hw hs ‹i < 2› rfl rfl rfl (by omega) (by omega) h9o (by rw [b20 _ (by omega)]; exact eR) (by rw [b20 _ (by omega)]; exact eL) hH2 (show tr_T B2 0 1 z lo hi (A ++ C) [z] from ⟨hlf, by omega, by omega, hrg, rfl, l5, l6⟩) hdz hmz2 (fun B' u' r' f => k B' t' u' r' (hfin B' f))
    · exfalso
      rw [← ek] at hv0
      rcases List.mem_append.mp hv0 with h | h
      · rcases List.mem_append.mp h with h | h
        · have := hkL _ h; simp at this
        · exact hno _ h rfl
      · have := hkR _ h; simp at this
end
end
section
/-! growUp -/
theorem tr_pig : ∀ (n : Nat) (l : List Nat), (∀ i, i < n → 9 + i ∈ l) → n ≤ l.length := by
  intro n
  induction n with
  | zero => intro l _; omega
  | succ n ih =>
    intro l h
    have h1 := h n (by omega)
    have h2 := ih (l.erase (9 + n)) (fun i hi => (List.mem_erase_of_ne (by omega)).mpr (h i (by omega)))
    rw [List.length_erase_of_mem h1] at h2
    have h3 : 0 < l.length := List.length_pos_of_mem h1
    omega
theorem tr_free {B : ms_B} {all : List Nat} (hm : tr_map B all) (hl : all.length ≤ 30) : ∃ i, i < 31 ∧ bt (B 0 6) i = false := by
  refine Classical.byContradiction fun hno => ?_
  have h := tr_pig 31 all (fun i hi => ?_)
  · omega
  · have h1 := hm i (by omega)
    cases hb : bt (B 0 6) i
    · exact absurd ⟨i, hi, hb⟩ hno
    · rw [hb] at h1
      exact of_decide_eq_true h1.symm
theorem tr_map_t {B B' : ms_B} {all : List Nat} {q : Nat} (hm : tr_map B all) (hq : q < 31) (e : B' 0 6 = (B 0 6 ||| ((1 : Int32) <<< (nI q &&& 31)))) : tr_map B' ((9 + q) :: all) := by
  intro i hi
  rw [e, nt_or _ (by omega) hi, hm i hi]
  by_cases h : i = q
  · subst h; simp
  · have : ¬ 9 + i = 9 + q := by omega
    simp [h]
theorem tr_map_n {B : ms_B} {all : List Nat} {q : Nat} (hm : tr_map B all) (hq : q < 31) (hb : bt (B 0 6) q = false) : ¬ 9 + q ∈ all := by
  intro h
  have := hm q (by omega)
  rw [hb] at this
  simp [h] at this
theorem tr_H_r {B : ms_B} {wn ws : Nat → Int32} {L root : Nat} {LO HI : Int} : ∀ (d l x : Nat) (lo hi : Int) (kL kR : tr_KV) (ns : List Nat), tr_H B wn ws L root LO HI d l x lo hi kL kR ns → kR = [] → hi = HI := by
  intro d
  induction d with
  | zero => rintro l x lo hi kL kR ns ⟨_, _, _, h, _⟩ _; exact h
  | succ d ih =>
    rintro l x lo hi kL kR nC0 ⟨p, A, C, lo', hi', kA, kC, nA, nC, kL', kR', ns', _, ⟨f1, f2, f3, f4⟩, _, hH, _, e2, _⟩ e
    rw [e2, List.append_eq_nil_iff] at e
    have h := ih _ _ _ _ _ _ _ hH e.2
    have h2 := (tr_F_fz f3).2.2.2
    rw [e.1] at h2
    have h3 : C = [] := List.eq_nil_of_length_eq_zero (by rw [List.length_nil] at h2; omega)
    subst h3
    rw [f4] at h
    exact h
def tr_gin (B B' : ms_B) (i : Nat) (kv : tr_KV) (no : List Nat) : Prop := ∃ (root L : Nat) (ns : List Nat), B' 0 (3 * i) = nI root ∧ B' 0 (3 * i + 1) = nI (L + 1) ∧ tr_T B' L (if L = 0 then 1 else 2) root 0 1000000 kv ns ∧ (ns ++ no).Nodup ∧ tr_map B' (ns ++ no)
  ∧ (∀ c, c ≠ 6 → c ≠ 3 * i → c ≠ 3 * i + 1 → B' 0 c = B 0 c) ∧ (∀ b, b ≠ 0 → (b < 9 ∨ b ∈ no) → B' b = B b)
theorem tr_gin_t {B B' B'' : ms_B} {i : Nat} {kv : tr_KV} {no : List Nat} (h : tr_gin B' B'' i kv no) (h1 : ∀ c, c ≠ 6 → B' 0 c = B 0 c) (h2 : ∀ b, b ≠ 0 → (b < 9 ∨ b ∈ no) → B' b = B b) : tr_gin B B'' i kv no := by
  obtain ⟨root, L, ns, a1, a2, a3, a4, a5, a6, a7⟩ := h
  exact ⟨root, L, ns, a1, a2, a3, a4, a5, fun c c6 c3 c31 => (a6 c c6 c3 c31).trans (h1 c c6), fun b hb hn => (a7 b hb hn).trans (h2 b hb hn)⟩
section
variable {K w : Nat} {V : ms_M} {s : Nat} {y : ms_YT} {x : ms_XT}
theorem tg_loop {post : SX → Prop} (hw : w = s) (hs : s < 4) {i L root : Nat} (hi : i < 2) (hL7 : L ≤ 6) {no : List Nat} (h9o : ∀ z, z ∈ no → 9 ≤ z) (hno : no.length ≤ 14) : ∀ (d l c o : Nat) (lo hi up : Int) (kL kv1 kv2 : tr_KV) (nC n1 n2 : List Nat) (B : ms_B) (t : ms_TT) (u : SX), ms_RB K w V s y x B t u → B 0 (3 * i) = nI root → B 0 (3 * i + 1) = nI (L + 1) →
    tr_H B t.2.2.1 t.2.2.2.1 L root 0 1000000 d l c lo hi kL [] nC → tr_T B l 2 c lo up kv1 n1 → tr_T B l 2 o up hi kv2 n2 → t.1.toInt = up → t.2.1 = nI o → (n1 ++ n2 ++ nC ++ no).Nodup → tr_map B (n1 ++ n2 ++ nC ++ no) → (kL ++ kv1 ++ kv2).length ≤ 14 →
    (∀ (B' : ms_B) (t' : ms_TT) (u' : SX), ms_RB K w V s y x B' t' u' → tr_gin B B' i (kL ++ kv1 ++ kv2) no → post u') → xc_growUp_15 post (nI s) (nI i) (nI (L + 1)) (d + 1) (nI (l + 1)) u := by
  intro d
  induction d with
  | zero =>
    intro l c o lo hi up kL kv1 kv2 nC n1 n2 B t u hR hr hl hH hT1 hT2 hu ho hd hm h14 k
    obtain ⟨rfl, rfl, rfl, rfl, rfl, _, rfl⟩ := hH
    simp only [List.append_nil, List.nil_append] at hd hm h14 k
    have z1 := tr_T_sz _ _ _ _ _ _ _ (by omega) hT1
    have z2 := tr_T_sz _ _ _ _ _ _ _ (by omega) hT2
    have i1 := tr_T_in _ _ _ _ _ _ _ hT1
    have i2 := tr_T_in _ _ _ _ _ _ _ hT2
    have hfree := tr_free hm (by simp only [List.length_append] at h14 ⊢; omega)
    rw [xe_growUp_15]
    refine br_t (Int32.le_refl _) ?_
    rw [na_m3, na_q1, na_q1]
    refine rb_cell hR hs (b := 0) (c := 3 * i) (by omega) (by omega) rfl rfl rfl (fun u1 r1 => ?_)
    rw [hr]
    refine rb_take r1 hw hs rfl hfree (fun q B1 u2 hq hbq r2 a1 a2 a3 a4 => ?_)
    have hqn := tr_map_n hm hq hbq
    refine rb_set r2 hw hs (b := 9 + q) (c := 0) (by omega) (by omega) rfl rfl rfl (fun u3 r3 => ?_)
    rw [rb_guk r3]
    refine rb_set r3 hw hs (b := 9 + q) (c := 1) (by omega) (by omega) rfl rfl rfl (fun u4 r4 => ?_)
    refine rb_set r4 hw hs (b := 9 + q) (c := 4) (by omega) (by omega) rfl rfl rfl (fun u5 r5 => ?_)
    rw [rb_gun r5, ho]
    refine rb_set r5 hw hs (b := 9 + q) (c := 5) (by omega) (by omega) rfl rfl rfl (fun u6 r6 => ?_)
    refine rb_set r6 hw hs (b := 0) (c := 3 * i) (by omega) (by omega) rfl rfl rfl (fun u7 r7 => ?_)
    refine rb_set r7 hw hs (b := 0) (c := 3 * i + 1) (by omega) (by omega) rfl rfl rfl (fun u8 r8 => ?_)
    generalize eB2 : ms_mC (ms_mC (ms_mC (ms_mC B1 (9 + q) 0 2) (9 + q) 1 t.1) (9 + q) 4 (nI c)) (9 + q) 5 (nI o) = B2 at r8
    have b2 : ∀ b, b ≠ 9 + q → B2 b = B1 b := fun b hb => by rw [← eB2, ms_mC_o _ _ hb, ms_mC_o _ _ hb, ms_mC_o _ _ hb, ms_mC_o _ _ hb]
    have hnd : tr_nd B2 (9 + q) [(c, up), (o, 1000000)] := by
      refine tr_nd_2.mpr ?_
      rw [← eB2]
      refine ⟨by simp [ms_mC_g], by simp [ms_mC_g], by simp [ms_mC_g], ?_⟩
      simp [ms_mC_g]
      exact hu
    have e0 : ∀ b, b ≠ 0 → ms_mC (ms_mC B2 0 (3 * i) (nI (9 + q))) 0 (3 * i + 1) (nI (l + 1 + 1)) b = B2 b := fun b hb => by rw [ms_mC_o _ _ hb, ms_mC_o _ _ hb]
    have hold : ∀ b, b ∈ n1 ++ n2 → ms_mC (ms_mC B2 0 (3 * i) (nI (9 + q))) 0 (3 * i + 1) (nI (l + 1 + 1)) b = B b := by
      intro b hb
      have hb9 : 9 ≤ b := by
        rcases List.mem_append.mp hb with h | h
        · exact (i1 b h).1
        · exact (i2 b h).1
      have hbq : b ≠ 9 + q := fun e => hqn (by rw [← e]; simp only [List.mem_append] at hb ⊢; exact Or.inl hb)
      rw [e0 b (by omega), b2 b hbq, a3 b (by omega) hbq]
    refine k _ t u8 r8 ⟨9 + q, l + 1, (9 + q) :: (n1 ++ n2), ?_, ?_, ?_, ?_, ?_, fun c' h6 h3 h31 => ?_, fun b hb0 hb => ?_⟩
    · rw [ms_mC_c _ _ (by omega), ms_mC_s]
    · rw [ms_mC_s]
    · rw [if_neg (by omega)]
      refine ⟨[(c, up), (o, 1000000)], n1 ++ n2, tr_nd_fr hnd (e0 _ (by omega)), by simp, by simp, rfl, ⟨kv1, kv2, n1, n2, ?_, tr_F_1.mpr ?_, rfl, rfl⟩, rfl, by omega, by omega⟩
      · exact tr_T_fr _ _ _ _ _ _ _ hT1 (fun z hz => hold z (by simp [hz]))
      · exact tr_T_fr _ _ _ _ _ _ _ hT2 (fun z hz => hold z (by simp [hz]))
    · rw [List.cons_append, List.nodup_cons]
      exact ⟨hqn, hd⟩
    · refine tr_map_t hm hq ?_
      rw [ms_mC_c _ _ (by omega), ms_mC_c _ _ (by omega), b2 0 (by omega), a2]
    · rw [ms_mC_c _ _ h31, ms_mC_c _ _ h3, b2 0 (by omega), a1 c' h6]
    · have hbq : b ≠ 9 + q := by
        rcases hb with hb | hb
        · omega
        · exact fun e => hqn (by rw [← e]; simp [hb])
      rw [e0 b hb0, b2 b hbq, a3 b hb0 hbq]
  | succ d ih =>
    intro l c o lo hi up kL kv1 kv2 nC0 n1 n2 B t u hR hr hl hH hT1 hT2 hu ho hd hm h14 k
    have hdl := (tr_H_d _ _ _ _ _ _ _ _ hH)
    have z1 := tr_T_sz _ _ _ _ _ _ _ (by omega) hT1
    have z2 := tr_T_sz _ _ _ _ _ _ _ (by omega) hT2
    have i1 := tr_T_in _ _ _ _ _ _ _ hT1
    have i2 := tr_T_in _ _ _ _ _ _ _ hT2
    have hfree := tr_free hm (by simp only [List.length_append, List.length_nil] at h14 hdl ⊢; omega)
    obtain ⟨p, A, C, lo', hi', kA, kC, nA, nC, kL', kR', ns', ⟨h1, h2, h3, h4, h5⟩, ⟨f1, f2, f3, f4⟩, ⟨w1, w2⟩, hH', rfl, eR, rfl⟩ := hH
    obtain ⟨rfl, rfl⟩ := List.append_eq_nil_iff.mp eR.symm
    have hC : C = [] := List.eq_nil_of_length_eq_zero (by have := (tr_F_fz f3).2.2.2; rw [List.length_nil] at this; omega)
    subst hC
    obtain ⟨_, rfl⟩ := f3
    have ehi : hi' = hi := f4
    subst ehi
    simp only [List.length_nil, Nat.add_zero] at h2 h3
    have h9 : ∀ z', z' ∈ n1 ++ n2 ++ (p :: (nA ++ [] ++ ns')) ++ no → 9 ≤ z' := by
      intro z' hz'
      rcases List.mem_append.mp hz' with hz' | hz'
      · rcases List.mem_append.mp hz' with hz' | hz'
        · rcases List.mem_append.mp hz' with hz' | hz'
          · exact (i1 z' hz').1
          · exact (i2 z' hz').1
        · exact (hdl.2.2 z' hz').1
      · exact h9o z' hz'
    have hpn : ∀ z', z' ∈ n1 ∨ z' ∈ n2 ∨ z' ∈ nA ∨ z' ∈ ns' ∨ z' ∈ no → z' ≠ p := by
      intro z' hz' e
      subst e
      simp only [List.append_nil, List.nodup_append, List.nodup_cons, List.mem_append, List.mem_cons, List.append_assoc, List.cons_append] at hd
      rcases hz' with h | h | h | h | h
      · exact hd.2.2 z' h z' (by simp) rfl
      · exact hd.2.1.2.2 z' h z' (by simp) rfl
      · exact hd.2.1.2.1.1 (by simp [h])
      · exact hd.2.1.2.1.1 (by simp [h])
      · exact hd.2.1.2.1.1 (by simp [h])
    rw [xe_growUp_15]
    refine br_f (nI_ge (by omega) (by omega)) ⟨vp_in_nI (by omega) (by omega), ?_⟩
    rw [nI_clamp (n := l + 1) (by omega), rb_gwn hR, rb_gws hR, w1, w2]
    refine nm_e ⟨vp_in_nI (by omega) (by omega), nm_e ?_⟩
    refine rb_cell hR hs h5 (c := 0) (by omega) rfl rfl rfl (fun u1 r1 => ?_)
    rw [h1.1]
    have hlen : (A ++ [(c, hi')]).length = A.length + 1 := by simp
    rw [hlen]
    refine pk_le 4 (A.length + 1) (fun hge => ?_) (fun hlt => ?_)
    · -- a full node is split
      rcases A with _ | ⟨a0, _ | ⟨a1, _ | ⟨a2, A⟩⟩⟩
      · simp at hge
      · simp at hge
      · simp at hge
      · have hA : A = [] := by
          cases A with
          | nil => rfl
          | cons _ _ => simp at h3
        subst hA
        have hpb : bt (B 0 6) (p - 9) = true := by
          rw [hm (p - 9) (by omega), show 9 + (p - 9) = p from by omega]
          simp
        refine ix_split r1 hw hs h5 h4 rfl rfl rfl ho h1 hpb hfree (fun q B1 t1 u2 hq hbq r2 tt d1 d2 d3 d4 d5 => nm_r (nI_1 (l + 1)) ?_)
        have hqn := tr_map_n hm hq hbq
        have hqo : ∀ z', z' ∈ n1 ++ n2 ++ (p :: (nA ++ [] ++ ns')) ++ no → z' ≠ 9 + q := fun z' hz' e => hqn (by rw [← e]; exact hz')
        have hsame : ∀ z', z' ∈ n1 ∨ z' ∈ n2 ∨ z' ∈ nA ∨ z' ∈ ns' ∨ z' ∈ no → B1 z' = B z' := by
          intro z' hz'
          have hz2 : z' ∈ n1 ++ n2 ++ (p :: (nA ++ [] ++ ns')) ++ no := by
            simp only [List.append_nil, List.mem_append, List.mem_cons]
            rcases hz' with h | h | h | h | h <;> simp [h]
          exact d3 z' (by have := h9 z' hz2; omega) (hpn z' hz') (hqo z' hz2)
        rw [hu] at d5
        have hF : tr_F (tr_T B1 l 2) lo' [a0, a1, a2] kA nA := tr_F_fr f1 (fun z hz => hsame z (Or.inr (Or.inr (Or.inl hz))))
        have hlo : lo = a2.2 := f2
        refine ih (l + 1) p (9 + q) lo' hi' a2.2 kL' kA (kv1 ++ kv2) ns' (p :: nA) ((9 + q) :: (n1 ++ n2)) B1 t1 u2 r2 ?_ ?_ ?_ ?_ ?_ tt.2.2.1 tt.2.2.2 ?_ ?_ ?_ (fun B' t' u' r' g => k B' t' u' r' ?_)
        · rw [d1 _ (by omega)]; exact hr
        · rw [d1 _ (by omega)]; exact hl
        · refine tr_H_fr _ _ _ _ _ _ _ _ hH' (fun z hz => hsame z (Or.inr (Or.inr (Or.inr (Or.inl hz))))) (fun j _ => ?_)
          rw [tt.1, tt.2.1]
          exact ⟨rfl, rfl⟩
        · exact ⟨[a0, a1, a2], nA, d4, by simp, by simp, rfl, hF, rfl, h4, h5⟩
        · refine ⟨[(c, up), (o, hi')], n1 ++ n2, d5, by simp, by simp, rfl, ⟨kv1, kv2, n1, n2, ?_, tr_F_1.mpr ?_, rfl, rfl⟩, rfl, by omega, by omega⟩
          · rw [← hlo]
            exact tr_T_fr _ _ _ _ _ _ _ hT1 (fun z hz => hsame z (Or.inl hz))
          · exact tr_T_fr _ _ _ _ _ _ _ hT2 (fun z hz => hsame z (Or.inr (Or.inl hz)))
        · have hper : (p :: nA ++ ((9 + q) :: (n1 ++ n2)) ++ ns' ++ no).Perm ((9 + q) :: (n1 ++ n2 ++ (p :: (nA ++ [] ++ ns')) ++ no)) := by
            rw [List.perm_iff_count]
            intro a
            simp only [List.count_append, List.count_cons, List.cons_append, List.count_nil]
            omega
          refine hper.nodup_iff.mpr ?_
          rw [List.nodup_cons]
          exact ⟨hqn, hd⟩
        · have hper : (p :: nA ++ ((9 + q) :: (n1 ++ n2)) ++ ns' ++ no).Perm ((9 + q) :: (n1 ++ n2 ++ (p :: (nA ++ [] ++ ns')) ++ no)) := by
            rw [List.perm_iff_count]
            intro a
            simp only [List.count_append, List.count_cons, List.cons_append, List.count_nil]
            omega
          exact tr_map_p (tr_map_t hm hq d2) hper.symm
        · simp only [List.length_append] at h14 ⊢
          omega
        · have e : kL' ++ kA ++ (kv1 ++ kv2) = kL' ++ kA ++ kv1 ++ kv2 := by simp [List.append_assoc]
          rw [e] at g
          refine tr_gin_t g d1 (fun b hb0 hb => ?_)
          rcases hb with hb | hb
          · exact d3 b hb0 (by omega) (by omega)
          · exact hsame b (Or.inr (Or.inr (Or.inr (Or.inr hb))))
    · refine ix_ins r1 hw hs h5 rfl rfl rfl ho h1 (by omega) (fun B1 u2 r2 a1 a2 => ?_)
      rw [hu] at a2
      have hsame : ∀ z', z' ∈ n1 ∨ z' ∈ n2 ∨ z' ∈ nA ∨ z' ∈ ns' ∨ z' ∈ no → B1 z' = B z' := fun z' hz' => a1 z' (hpn z' hz')
      have hTn : tr_T B1 (l + 1) 2 p lo' hi' (kA ++ (kv1 ++ kv2)) (p :: (nA ++ (n1 ++ n2))) := by
        refine ⟨A ++ [(c, up), (o, hi')], nA ++ (n1 ++ n2), a2, by simp, by simp; omega, by rw [tr_hi_app]; rfl, ?_, rfl, h4, h5⟩
        refine (tr_F_app _ _ _ _ _).mpr ⟨kA, kv1 ++ kv2, nA, n1 ++ n2, tr_F_fr f1 (fun z hz => hsame z (Or.inr (Or.inr (Or.inl hz)))), ⟨kv1, kv2, n1, n2, ?_, tr_F_1.mpr ?_, rfl, rfl⟩, rfl, rfl⟩
        · rw [← f2]
          exact tr_T_fr _ _ _ _ _ _ _ hT1 (fun z hz => hsame z (Or.inl hz))
        · exact tr_T_fr _ _ _ _ _ _ _ hT2 (fun z hz => hsame z (Or.inr (Or.inl hz)))
      have hH2 := tr_H_fr (B' := B1) (wn' := t.2.2.1) (ws' := t.2.2.2.1) _ _ _ _ _ _ _ _ hH' (fun z hz => hsame z (Or.inr (Or.inr (Or.inr (Or.inl hz))))) (fun _ _ => ⟨rfl, rfl⟩)
      obtain ⟨nw, g1, g2⟩ := tr_plug _ _ _ _ _ _ _ _ _ _ hH2 hTn
      have hper : (nw ++ no).Perm (n1 ++ n2 ++ (p :: (nA ++ [] ++ ns')) ++ no) := by
        rw [List.perm_iff_count]
        intro a
        have := g2.count_eq a
        simp only [List.count_append, List.count_cons, List.cons_append, List.count_nil] at this ⊢
        omega
      have e : kL' ++ (kA ++ (kv1 ++ kv2)) ++ [] = kL' ++ kA ++ kv1 ++ kv2 := by simp [List.append_assoc]
      rw [e] at g1
      have hL0 : L ≠ 0 := by omega
      have b0 : B1 0 = B 0 := a1 0 (by omega)
      refine k B1 t u2 r2 ⟨root, L, nw, by rw [b0]; exact hr, by rw [b0]; exact hl, by rw [if_neg hL0]; exact g1, hper.nodup_iff.mpr hd, ?_, fun c _ _ _ => by rw [b0], fun b hb0 hb => a1 b ?_⟩
      · refine tr_map_p (b := nw ++ no) (a := n1 ++ n2 ++ (p :: (nA ++ [] ++ ns')) ++ no) ?_ hper.symm
        intro j hj
        rw [b0]; exact hm j hj
      · rcases hb with hb | hb
        · omega
        · exact hpn b (Or.inr (Or.inr (Or.inr (Or.inr hb))))
end
end
section
/-! setKey for a key behind all others -/
theorem tr_res_t {B B' B'' : ms_B} {i : Nat} {kv : tr_KV} {no : List Nat} (h : tr_res B' B'' i kv no) (h1 : ∀ c, c ≠ 6 → c ≠ 3 * i → c ≠ 3 * i + 1 → c ≠ 3 * i + 2 → B' 0 c = B 0 c) (h2 : ∀ b, b ≠ 0 → (b < 9 ∨ b ∈ no) → B' b = B b) : tr_res B B'' i kv no := by
  obtain ⟨ns, a1, a2, a3, a4, a5⟩ := h
  exact ⟨ns, a1, a2, a3, fun c c6 c0 c1 c2 => (a4 c c6 c0 c1 c2).trans (h1 c c6 c0 c1 c2), fun b hb hn => (a5 b hb hn).trans (h2 b hb hn)⟩
theorem tr_gr {B B' : ms_B} {i : Nat} {kv : tr_KV} {no : List Nat} (hi : i < 2) (h : tr_gin B B' i kv no) (h1 : B 0 (3 * i + 2) = nI kv.length) (h2 : kv.length ≤ 14) : tr_res B B' i kv no := by
  obtain ⟨root, L, ns, a1, a2, a3, a4, a5, a6, a7⟩ := h
  exact ⟨ns, ⟨by rw [a6 _ (by omega) (by omega) (by omega)]; exact h1, h2, Or.inr ⟨root, L, a1, a2, a3⟩⟩, a4, a5, fun c c6 c0 c1 _ => a6 c c6 c0 c1, a7⟩
section
variable {K w : Nat} {V : ms_M} {s : Nat} {y : ms_YT} {x : ms_XT} {B : ms_B} {t : ms_TT}
theorem tg_44 {post : SX → Prop} {i L root z v : Nat} {lo : Int} {kL kw : tr_KV} {nC no : List Nat} {u : SX} (hR : ms_RB K w V s y x B t u) (hw : w = s) (hs : s < 4) (hi : i < 2) (key : Int32) (hL : L ≤ 2) (h9o : ∀ z, z ∈ no → 9 ≤ z) (hno : no.length ≤ 14) (hr : B 0 (3 * i) = nI root) (hl : B 0 (3 * i + 1) = nI (L + 1)) (hc : B 0 (3 * i + 2) = nI (kL ++ kw).length) (h13 : (kL ++ kw).length ≤ 13)
    (hH : tr_H B t.2.2.1 t.2.2.2.1 L root 0 1000000 L 0 z lo 1000000 kL [] nC) (hlf : tr_lf B z kw) (h3 : kw.length ≤ 3) (hrg : tr_rg lo 1000000 kw) (hz9 : 9 ≤ z) (hz : z < 41) (h2 : L ≠ 0 → 2 ≤ kw.length) (hd : ([z] ++ nC ++ no).Nodup) (hm : tr_map B ([z] ++ nC ++ no)) (hv : v < 14) (hlo : lo ≤ key.toInt) (h6 : key.toInt < 1000000) (hmax : ∀ p, p ∈ kL ++ kw → p.1 < key.toInt)
    (k : ∀ (B' : ms_B) (t' : ms_TT) (u' : SX), ms_RB K w V s y x B' t' u' → tr_res B B' i (kL ++ kw ++ [(key.toInt, v)]) no → post u') : xc_setKey_44 post (nI s) (nI i) key (nI v) (nI z) u := by
  have hzn : ∀ q, q ∈ nC ∨ q ∈ no → q ≠ z := by
    intro q hq e
    subst e
    simp only [List.cons_append, List.nil_append, List.nodup_cons, List.mem_append] at hd
    exact hd.1 hq
  have hC9 : ∀ q, q ∈ nC → 9 ≤ q := fun q hq => ((tr_H_d _ _ _ _ _ _ _ _ hH).2.2 q hq).1
  have hCl := (tr_H_d _ _ _ _ _ _ _ _ hH).2.1
  have hkl : ∀ p, p ∈ kw → p.1 < key.toInt := fun p hp => hmax p (by simp [hp])
  rw [xe_setKey_44]
  refine tw_place hR hs hz key rfl rfl hlf h3 (fun A v' C u1 eA _ => ?_) (fun hno' u1 r1 => ?_)
  · exfalso
    have := hkl (key.toInt, v') (by rw [← eA]; simp)
    simp at this
  · refine br_t (by decide) ?_
    rw [na_m3, na_q2]
    refine rb_cell r1 hs (b := 0) (c := 3 * i + 2) (by omega) (by omega) rfl rfl rfl (fun u2 r2 => ?_)
    rw [hc, nI_1]
    refine rb_set r2 hw hs (b := 0) (c := 3 * i + 2) (by omega) (by omega) rfl rfl rfl (fun u3 r3 => ?_)
    generalize eB2 : ms_mC B 0 (3 * i + 2) (nI ((kL ++ kw).length + 1)) = B2 at r3
    have b2 : ∀ b, b ≠ 0 → B2 b = B b := fun b hb => by rw [← eB2, ms_mC_o _ _ hb]
    have b20 : ∀ c, c ≠ 3 * i + 2 → B2 0 c = B 0 c := fun c hc => by rw [← eB2, ms_mC_c _ _ hc]
    have b2c : B2 0 (3 * i + 2) = nI (kL ++ kw ++ [(key.toInt, v)]).length := by rw [← eB2, ms_mC_s]; congr 1; simp; omega
    have h14 : (kL ++ kw ++ [(key.toInt, v)]).length ≤ 14 := by simp at h13 ⊢; omega
    have hlf2 : tr_lf B2 z kw := tr_lf_fr hlf (b2 z (by omega))
    have hH2 : tr_H B2 t.2.2.1 t.2.2.2.1 L root 0 1000000 L 0 z lo 1000000 kL [] nC := tr_H_fr _ _ _ _ _ _ _ _ hH (fun q hq => b2 q (by have := hC9 q hq; omega)) (fun _ _ => ⟨rfl, rfl⟩)
    have hm2 : tr_map B2 ([z] ++ nC ++ no) := fun j hj => by rw [b20 6 (by omega)]; exact hm j hj
    have hres : ∀ B', tr_gin B2 B' i (kL ++ kw ++ [(key.toInt, v)]) no → tr_res B B' i (kL ++ kw ++ [(key.toInt, v)]) no := fun B' g =>
      tr_res_t (tr_gr hi g b2c h14) (fun c _ _ _ c2 => b20 c c2) (fun b hb _ => b2 b hb)
    have hsort : ∀ (a : tr_KV), (∀ p, p ∈ a → p.1 < key.toInt) → a.Pairwise (fun p q => p.1 < q.1) → (a ++ [(key.toInt, v)]).Pairwise (fun p q => p.1 < q.1) := by
      intro a ha hp
      refine List.pairwise_append.mpr ⟨hp, by simp, fun p hp q hq => ?_⟩
      rw [List.mem_singleton] at hq
      subst hq
      exact ha p hp
    refine rb_cell r3 hs hz (c := 0) (by omega) rfl rfl rfl (fun u4 r4 => ?_)
    rw [hlf2.1]
    refine pk_le 3 kw.length (fun hge => ?_) (fun hlt => ?_)
    · rcases kw with _ | ⟨p0, _ | ⟨p1, _ | ⟨p2, kw⟩⟩⟩
      · simp at hge
      · simp at hge
      · simp at hge
      · have hkw : kw = [] := by
          cases kw with
          | nil => rfl
          | cons _ _ => simp at h3
        subst hkw
        have hzb : bt (B2 0 6) (z - 9) = true := by
          rw [hm2 (z - 9) (by omega), show 9 + (z - 9) = z from by omega]
          simp
        have hfree := tr_free hm2 (by simp only [List.length_append, List.length_cons, List.length_nil] at h13 hCl ⊢; omega)
        have hs3 := hrg.2
        simp only [List.pairwise_cons, List.mem_cons, List.not_mem_nil, or_false] at hs3
        have o01 : p0.1 < p1.1 := hs3.1 p1 (by simp)
        have o12 : p1.1 < p2.1 := hs3.2.1 p2 (by simp)
        have q0 := hrg.1 p0 (by simp)
        have q1 := hrg.1 p1 (by simp)
        have q2 := hrg.1 p2 (by simp)
        have q3 := hkl p2 (by simp)
        refine lx_split r4 hw hs hz hz9 key rfl rfl rfl hlf2 (fun p hp => Int.le_of_lt (hkl p hp)) hzb hfree (fun q B3 t3 u5 hq hbq r5 tt a1 a2 a3 a4 a5 => ?_)
        have hqn := tr_map_n hm2 hq hbq
        have hsame : ∀ z', z' ∈ nC ∨ z' ∈ no → B3 z' = B2 z' := by
          intro z' hz'
          refine a3 z' ?_ (hzn z' hz') (fun e => hqn (by rw [← e]; rcases hz' with h | h <;> simp [h]))
          rcases hz' with h | h
          · have := hC9 z' h; omega
          · have := h9o z' h; omega
        rw [xe_growUp, na_m3, na_q1]
        refine rb_cell r5 hs (b := 0) (c := 3 * i + 1) (by omega) (by omega) rfl rfl rfl (fun u6 r6 => ⟨L + 1, ?_⟩)
        rw [a1 _ (by omega), b20 _ (by omega), hl]
        refine tg_loop (root := root) hw hs hi (by omega) h9o hno L 0 z (9 + q) lo 1000000 p2.1 kL [p0, p1] [p2, (key.toInt, v)] nC [z] [9 + q] B3 t3 u6 r6 ?_ ?_ ?_ ?_ ?_ tt.2.2.1 tt.2.2.2 ?_ ?_ ?_ (fun B' t' u' r' g => k B' t' u' r' (hres B' ?_))
        · rw [a1 _ (by omega), b20 _ (by omega)]; exact hr
        · rw [a1 _ (by omega), b20 _ (by omega)]; exact hl
        · refine tr_H_fr _ _ _ _ _ _ _ _ hH2 (fun z' hz' => hsame z' (Or.inl hz')) (fun j _ => ?_)
          rw [tt.1, tt.2.1]
          exact ⟨rfl, rfl⟩
        · refine ⟨a4, by simp, by simp, ⟨fun p hp => ?_, by simp; exact o01⟩, rfl, hz9, hz⟩
          simp only [List.mem_cons, List.not_mem_nil, or_false] at hp
          rcases hp with rfl | rfl
          · exact ⟨q0.1, by omega, q0.2.2⟩
          · exact ⟨q1.1, o12, q1.2.2⟩
        · refine ⟨a5, by simp, by simp, ⟨fun p hp => ?_, by simp; exact q3⟩, rfl, by omega, by omega⟩
          simp only [List.mem_cons, List.not_mem_nil, or_false] at hp
          rcases hp with rfl | rfl
          · exact ⟨Int.le_refl _, q2.2⟩
          · exact ⟨Int.le_of_lt q3, h6, hv⟩
        · have hper : ([z] ++ [9 + q] ++ nC ++ no).Perm ((9 + q) :: ([z] ++ nC ++ no)) := by
            rw [List.perm_iff_count]
            intro a
            simp only [List.count_append, List.count_cons, List.cons_append, List.count_nil, List.nil_append]
            omega
          refine hper.nodup_iff.mpr ?_
          rw [List.nodup_cons]
          exact ⟨hqn, hd⟩
        · have hper : ([z] ++ [9 + q] ++ nC ++ no).Perm ((9 + q) :: ([z] ++ nC ++ no)) := by
            rw [List.perm_iff_count]
            intro a
            simp only [List.count_append, List.count_cons, List.cons_append, List.count_nil, List.nil_append]
            omega
          exact tr_map_p (tr_map_t hm2 hq a2) hper.symm
        · simp only [List.length_append, List.length_cons, List.length_nil] at h13 ⊢
          omega
        · have e : kL ++ [p0, p1] ++ [p2, (key.toInt, v)] = kL ++ [p0, p1, p2] ++ [(key.toInt, v)] := by simp
          rw [e] at g
          refine tr_gin_t g a1 (fun b hb0 hb => ?_)
          rcases hb with hb | hb
          · exact a3 b hb0 (by omega) (by omega)
          · exact hsame b (Or.inr hb)
    · refine lx_app (v := v) r4 hw hs hz key rfl rfl rfl hlf2 (by omega) (fun p hp => Int.le_of_lt (hkl p hp)) (fun B3 u5 r5 a1 a2 => k B3 t u5 r5 (hres B3 ?_))
      have hrg3 : tr_rg lo 1000000 (kw ++ [(key.toInt, v)]) := by
        refine ⟨fun p hp => ?_, hsort kw hkl hrg.2⟩
        rcases List.mem_append.mp hp with h | h
        · exact hrg.1 p h
        · rw [List.mem_singleton] at h
          subst h
          exact ⟨hlo, h6, hv⟩
      have b3 : B3 0 = B2 0 := a1 0 (by omega)
      have hm3 : tr_map B3 ([z] ++ nC ++ no) := fun j hj => by rw [b3]; exact hm2 j hj
      have hoth : ∀ b, b ≠ 0 → (b < 9 ∨ b ∈ no) → B3 b = B2 b := by
        intro b hb0 hb
        refine a1 b ?_
        rcases hb with hb | hb
        · omega
        · exact hzn b (Or.inr hb)
      rcases Nat.eq_zero_or_pos L with h | h
      · subst h
        obtain ⟨_, erz, elo, _, ekL, _, enC⟩ := hH2
        subst ekL enC erz elo
        refine ⟨z, 0, [z], by rw [b3, b20 _ (by omega)]; exact hr, by rw [b3, b20 _ (by omega)]; exact hl, ⟨a2, by simp, by simp; omega, hrg3, rfl, hz9, hz⟩, by simpa using hd, by simpa using hm3, fun c _ _ _ => by rw [b3], hoth⟩
      · have hH3 := tr_H_fr (B' := B3) (wn' := t.2.2.1) (ws' := t.2.2.2.1) _ _ _ _ _ _ _ _ hH2 (fun q hq => a1 q (hzn q (Or.inl hq))) (fun _ _ => ⟨rfl, rfl⟩)
        obtain ⟨ns', g1, g2⟩ := tr_plug _ _ _ _ _ _ _ _ _ _ hH3 (show tr_T B3 0 2 z lo 1000000 (kw ++ [(key.toInt, v)]) [z] from ⟨a2, by have := h2 (by omega); simp; omega, by simp; omega, hrg3, rfl, hz9, hz⟩)
        have g3 : (ns' ++ no).Perm ([z] ++ nC ++ no) := g2.append_right no
        have e : kL ++ (kw ++ [(key.toInt, v)]) ++ [] = kL ++ kw ++ [(key.toInt, v)] := by simp
        rw [e] at g1
        exact ⟨root, L, ns', by rw [b3, b20 _ (by omega)]; exact hr, by rw [b3, b20 _ (by omega)]; exact hl, by rw [if_neg (by omega)]; exact g1, g3.nodup_iff.mpr hd, tr_map_p hm3 g3.symm, fun c _ _ _ => by rw [b3], hoth⟩
theorem tg_set {post : SX → Prop} {ps pi pv : Int32} {i v : Nat} {u : SX} {kv : tr_KV} {ns no : List Nat} (hR : ms_RB K w V s y x B t u) (hw : w = s) (hs : s < 4) (hi : i < 2) (es : ps = nI s) (ei : pi = nI i) (ev : pv = nI v) (key : Int32) (ok : tr_ok B i kv ns) (h9o : ∀ z, z ∈ no → 9 ≤ z) (hno : no.length ≤ 14) (hd : (ns ++ no).Nodup) (hm : tr_map B (ns ++ no)) (h13 : kv.length ≤ 13) (hv : v < 14) (h0 : 0 ≤ key.toInt) (h6 : key.toInt < 1000000) (hmax : ∀ p, p ∈ kv → p.1 < key.toInt)
    (k : ∀ (B' : ms_B) (t' : ms_TT) (u' : SX), ms_RB K w V s y x B' t' u' → tr_res B B' i (kv ++ [(key.toInt, v)]) no → post u') : wpX_setKey post u ps pi key pv := by
  subst es ei ev
  rw [xe_setKey]
  refine tw_descend hR hs hi rfl rfl key ok (fun e1 e2 u' r' => ?_) (fun root L eR eL hL t' u' z lo hi' kL kw kR nC r' hH hT ek hper hkL hkR => ?_)
  · subst e1 e2
    refine br_t rfl ?_
    refine rb_take r' hw hs rfl (tr_free hm (by simp; omega)) (fun q B1 u2 hq hbq r2 a1 a2 a3 a4 => ?_)
    have hqn := tr_map_n hm hq hbq
    rw [na_m3, na_q1]
    refine rb_set r2 hw hs (b := 0) (c := 3 * i) (by omega) (by omega) rfl rfl rfl (fun u3 r3 => ?_)
    refine rb_set r3 hw hs (b := 0) (c := 3 * i + 1) (by omega) (by omega) rfl rfl rfl (fun u4 r4 => ?_)
    have e0 : ∀ b, b ≠ 0 → ms_mC (ms_mC B1 0 (3 * i) (nI (9 + q))) 0 (3 * i + 1) 1 b = B1 b := fun b hb => by rw [ms_mC_o _ _ hb, ms_mC_o _ _ hb]
    have e00 : ∀ c, c ≠ 3 * i → c ≠ 3 * i + 1 → ms_mC (ms_mC B1 0 (3 * i) (nI (9 + q))) 0 (3 * i + 1) 1 0 c = B1 0 c := fun c h1 h2 => by rw [ms_mC_c _ _ h2, ms_mC_c _ _ h1]
    refine tg_44 (L := 0) (root := 9 + q) (lo := 0) (kL := []) (kw := []) (nC := []) (no := no) (v := v) r4 hw hs hi key (by omega) h9o hno ?_ ?_ ?_ (by simp) ⟨rfl, rfl, rfl, rfl, rfl, rfl, rfl⟩ ⟨?_, fun j p hp => absurd hp (by simp)⟩ (by simp) ⟨fun p hp => absurd hp (by simp), List.Pairwise.nil⟩ (by omega) (by omega) (fun h => absurd rfl h) ?_ ?_ hv h0 h6 (fun p hp => absurd hp (by simp)) (fun B' t' u' r' g => k B' t' u' r' ?_)
    · rw [ms_mC_c _ _ (by omega), ms_mC_s]
    · rw [ms_mC_s]; rfl
    · rw [e00 _ (by omega) (by omega), a1 _ (by omega)]
      exact ok.1
    · rw [e0 _ (by omega), a4 0 (by omega)]; rfl
    · simp only [List.append_nil, List.cons_append, List.nil_append, List.nodup_cons]
      exact ⟨by simpa using hqn, by simpa using hd⟩
    · refine fun j hj => ?_
      have h := tr_map_t (B' := B1) hm hq a2 j hj
      rw [e00 6 (by omega) (by omega), h]
      simp
    · refine tr_res_t (by simpa using g) (fun c c6 c0 c1 _ => ?_) (fun b hb0 hb => ?_)
      · rw [e00 c c0 c1, a1 c c6]
      · rw [e0 b hb0, a3 b hb0 ?_]
        rcases hb with hb | hb
        · omega
        · exact fun e => hqn (by rw [← e]; simp [hb])
  · obtain ⟨l1, l2, l3, l4, _, l5, l6⟩ := hT
    refine br_f (tw_ne0 l5 l6) ?_
    have hkR0 : kR = [] := by
      cases kR with
      | nil => rfl
      | cons a kR =>
        have h1 := hkR a (by simp)
        have h2 := hmax a (by rw [← ek]; simp)
        omega
    subst hkR0
    have ehi := tr_H_r _ _ _ _ _ _ _ _ hH rfl
    subst ehi
    rw [List.append_nil] at ek
    subst ek
    have hp2 : ([z] ++ nC ++ no).Perm (ns ++ no) := hper.append_right no
    have hlo : lo ≤ key.toInt := by
      cases kw with
      | nil => simp at l2; split at l2 <;> omega
      | cons a kw =>
        have h1 := l4.1 a (by simp)
        have h2 := hmax a (by simp)
        omega
    exact tg_44 r' hw hs hi key hL h9o hno eR eL ok.1 h13 hH l1 l3 l4 l5 l6 (fun h => by rw [if_neg h] at l2; exact l2) (hp2.nodup_iff.mpr hd) (tr_map_p hm hp2.symm) hv hlo h6 hmax k
end
end
section
/-! writing home, anchors -/
theorem st_mK_b (D : ms_B) (b : Nat) (f g : Nat → Int32) : ms_mK (ms_mK D b f) b g = ms_mK D b g := by
  funext b'
  unfold ms_mK
  by_cases h : b' = b <;> simp [h]
theorem st_mK_c (D : ms_B) {a b : Nat} (f g : Nat → Int32) (h : a ≠ b) : ms_mK (ms_mK D b f) a g = ms_mK (ms_mK D a g) b f := by
  funext b'
  unfold ms_mK
  by_cases h1 : b' = a
  · subst h1; simp [h]
  · simp [h1]
theorem st_rD_u {im V : ms_B} {b : Nat} {f : Nat → Int32} (hf : ∀ c, c < 8 → f c = V b c) : ∀ (L : List Nat) (i : Nat) (D : ms_B), st_eq (st_rD im i D L) V → st_eq (st_rD im i (ms_mK D b f) L) V := by
  intro L
  induction L with
  | nil =>
    intro i D h b' c hb hc
    show ms_mK D b f b' c = V b' c
    by_cases e : b' = b
    · subst e; rw [ms_mK_s]; exact hf c hc
    · rw [ms_mK_o _ _ e]; exact h b' c hb hc
  | cons a L ih =>
    intro i D h
    show st_eq (st_rD im (i + 1) (ms_mK (ms_mK D b f) a (im (i % 48))) L) V
    by_cases e : a = b
    · subst e; rw [st_mK_b]; exact h
    · rw [st_mK_c _ _ _ e]; exact ih _ _ h
theorem hm_loop {post : SX → Prop} {s b j : Nat} (hs : s < 4) (hb : b < 41) (hj : j < 48) : ∀ (d c : Nat) (u : SX), c + d = 8 →
    (∀ dk' : Nat → Int32, (∀ i, (i < 8 * (41 * s + b) + c ∨ 8 * (41 * s + b) + 8 ≤ i) → dk' i = xg_disk u i) → (∀ c', c ≤ c' → c' < 8 → dk' (8 * (41 * s + b) + c') = xg_images u (8 * (48 * s + j) + c')) → post (xs_disk u dk')) →
    xc_copyHome_3 post (nI s) (nI b) (nI j) 8 (d + 1) (nI c) u := by
  intro d
  induction d with
  | zero =>
    intro c u hc k
    rw [xe_copyHome_3]
    refine br_t (na_le (a := 8) (b := c) rfl rfl (by omega) (by omega)) ?_
    exact k (xg_disk u) (fun _ _ => rfl) (fun c' _ _ => by omega)
  | succ d ih =>
    intro c u hc k
    rw [xe_copyHome_3]
    refine br_f (na_nle (a := 8) (b := c) rfl rfl (by omega) (by omega)) ?_
    rw [na_48, na_g, na_8, na_8, nI_clamp (n := 8 * (48 * s + j) + c) (by omega), nI_clamp (n := 8 * (41 * s + b) + c) (by omega)]
    refine ⟨vp_in_nI (by omega) (by omega), vp_in_nI (by omega) (by omega), nm_e (nm_r (nI_1 c) ?_)⟩
    refine ih (c + 1) _ (by omega) (fun dk' k1 k2 => k dk' (fun i hi => ?_) (fun c' h3 h4 => ?_))
    · refine (k1 i (by omega)).trans ?_
      exact pk_un (by omega)
    · by_cases e : c' = c
      · subst e
        refine (k1 _ (by omega)).trans ?_
        exact pk_us
      · exact k2 c' (by omega) h4
theorem hm_copy {post : SX → Prop} {u : SX} {ps pb pj p8 : Int32} {s b j : Nat} (hs : s < 4) (hb : b < 41) (hj : j < 48) (es : ps = nI s) (eb : pb = nI b) (ej : pj = nI j) (e8 : p8 = 8)
    (k : ∀ dk' : Nat → Int32, (∀ s', s' ≠ s → ms_v2 41 8 dk' s' = xv_dk u s') → ms_v2 41 8 dk' s = ms_mK (xv_dk u s) b (xv_im u s j) → post (xs_disk u dk')) : wpX_copyHome post u ps pb pj p8 := by
  subst es eb ej e8
  rw [xe_copyHome]
  refine ⟨9, hm_loop hs hb hj 8 0 u rfl (fun dk' k1 k2 => k dk' (fun s' hs' => ?_) ?_)⟩
  · exact ms_v2_x (fun b' c' hb' hc' => k1 _ (by omega))
  · funext b' c'
    by_cases e : b' = b
    · subst e
      rw [ms_mK_s]
      unfold xv_im ms_v2
      by_cases hc : c' < 8
      · rw [if_pos ⟨hb, hc⟩, if_pos ⟨hj, hc⟩]
        exact k2 c' (by omega) hc
      · rw [if_neg (fun h => hc h.2), if_neg (fun h => hc h.2)]
    · rw [ms_mK_o _ _ e]
      unfold xv_dk ms_v2
      by_cases h : b' < 41 ∧ c' < 8
      · rw [if_pos h, if_pos h]
        exact k1 _ (by omega)
      · rw [if_neg h, if_neg h]
section
variable {K w : Nat} {V M : ms_M} {t : ms_TT} {y : ms_YT} {x : ms_XT} {u : SX} {s b : Nat}
theorem hm_wl (hR : ms_R K w V M t y x u) (a : Int32) : ms_R K w V M t y x (xs_writesLeft u a) := ⟨hR.1, hR.2.1, hR.2.2.1, hR.2.2.2.1, hR.2.2.2.2⟩
theorem hm_hf (hR : ms_R K w V M t y x u) (a : Int32) : ms_R K w V M t y x (xs_half u a) := ⟨hR.1, hR.2.1, hR.2.2.1, hR.2.2.2.1, hR.2.2.2.2⟩
/-- an image goes home -/
theorem hm_dk (hR : ms_R K w V M t y x u) (hs : s < 4) (hb : b < 41) {j : Nat} (hj : ∀ c, c < 8 → xv_im u s j c = V s b c) {dk' : Nat → Int32} (e1 : ∀ s', s' ≠ s → ms_v2 41 8 dk' s' = xv_dk u s') (e2 : ms_v2 41 8 dk' s = ms_mK (xv_dk u s) b (xv_im u s j)) : ms_R K w V M t y x (xs_disk u dk') := by
  obtain ⟨hK, hB, hT, hY, hX⟩ := hR
  refine ⟨hK, fun s' hs' => ?_, hT, hY, hX⟩
  have h := hB s' hs'
  by_cases e : s' = s
  · subst e
    obtain ⟨N, r0, i0, q0, LS, ⟨p1, p2, p3, p4, p5⟩, ⟨v1, v2⟩, hC⟩ := h
    have f : xv_dk (xs_disk u dk') s' = ms_mK (xv_dk u s') b (xv_im u s' j) := e2
    refine ⟨N, r0, i0, q0, LS, ⟨p1, p2, p3, p4, ?_⟩, ⟨v1, fun b' hb' => ?_⟩, hC⟩
    · rw [f]
      exact st_rD_u hj _ _ _ p5
    · rw [f]
      rcases v2 b' hb' with ⟨a1, a2⟩ | a
      · left
        refine ⟨a1, fun c hc => ?_⟩
        by_cases eb : b' = b
        · subst eb; rw [ms_mK_s]; exact hj c hc
        · rw [ms_mK_o _ _ eb]; exact a2 c hc
      · exact Or.inr a
  · exact st_frame h ⟨⟨e1 s' e, rfl, rfl, rfl⟩, ⟨rfl, rfl, rfl, rfl, rfl, rfl, rfl⟩, rfl, rfl, rfl⟩
theorem hm_io (hR : ms_R K w V M t y x u) (hs : s < 4) (hb : b < 41) (hd : ∀ c, c < 8 → xv_dk u s b c = V s b c) : ms_R K w V M t y x (xs_imageOf u (upd (xg_imageOf u) (41 * s + b) (-1))) := by
  obtain ⟨hK, hB, hT, hY, hX⟩ := hR
  refine ⟨hK, fun s' hs' => ?_, hT, hY, hX⟩
  have h := hB s' hs'
  by_cases e : s' = s
  · subst e
    obtain ⟨N, r0, i0, q0, LS, hP, ⟨v1, v2⟩, hC⟩ := h
    have f : xv_io (xs_imageOf u (upd (xg_imageOf u) (41 * s' + b) (-1))) s' = upd (xv_io u s') b (-1) := ms_v1_u _ _ _ hb
    refine ⟨N, r0, i0, q0, LS, hP, ⟨v1, fun b' hb' => ?_⟩, hC⟩
    rw [f]
    by_cases eb : b' = b
    · subst eb
      exact Or.inl ⟨pk_us, hd⟩
    · rw [pk_un eb]
      exact v2 b' hb'
  · exact st_frame h ⟨⟨rfl, rfl, rfl, rfl⟩, ⟨ms_v1_o _ _ hb e, rfl, rfl, rfl, rfl, rfl, rfl⟩, rfl, rfl, rfl⟩
end
/-! anchors -/
theorem wa_pers {K : Nat} {V dk im rw an an' : ms_B} {N r0 i0 q0 r' i' q' : Nat} {LS : List (List Nat)} (h : st_Pers K V dk im rw an N r0 i0 q0 LS) (hd : st_eq dk V) (hr : r' < 14) (hi : i' < 48) (hq : q0 + LS.length ≤ q') (hq' : q' ≤ K + 1)
    (e0 : an' (N % 2) 0 = nI (N + 1)) (e1 : an' (N % 2) 1 = nI r') (e2 : an' (N % 2) 2 = nI i') (e3 : an' (N % 2) 3 = nI q') (e4 : an' (N % 2) 4 = nI (N + 1)) (eo : an' ((N + 1) % 2) = an ((N + 1) % 2)) : st_Pers (K + 1) V dk im rw an' (N + 1) r' i' q' [] := by
  obtain ⟨⟨n1, n2, a0, a1, a2, a3, a4, _⟩, ⟨_, _, _, _, c5, _⟩, _, p4, _⟩ := h
  have hN : (N + 1 + 1) % 2 = N % 2 := by omega
  rw [← hN] at e0 e1 e2 e3 e4
  refine ⟨⟨by omega, by omega, e0, e1, e2, e3, e4, N, by omega, by rw [eo]; exact a0, by rw [eo]; exact a4⟩, ⟨hr, hi, by simp [st_rn], by simp, by omega, by simpa using hq'⟩, trivial, fun j hj => ?_, hd⟩
  obtain ⟨m, m1, m2, m3⟩ := p4 j hj
  exact ⟨m, m1, by simp; omega, fun h => by have := m3 h; simp; omega⟩
def wa_new (u : SX) (s N : Nat) (p1 p2 : Int32) : SX := (xg_writesLeft u, xg_half u, xg_grouped u, xg_upKey u, xg_upNode u, xg_waiting u, xg_wrong u, xg_seenNodes u, xg_seenKeys u, xg_disk u, xg_images u, xg_rows u,
  upd (upd (upd (upd (upd (xg_anchors u) (5 * (2 * s + N % 2) + 0) (nI (N + 1))) (5 * (2 * s + N % 2) + 1) p1) (5 * (2 * s + N % 2) + 2) p2) (5 * (2 * s + N % 2) + 3) (xg_nextSaving u s)) (5 * (2 * s + N % 2) + 4) (nI (N + 1)),
  xg_copies u, xg_loaded u, xg_changed u, xg_imageOf u, upd (xg_rowAt u) s p1, upd (xg_rowsUsed u) s 0, upd (xg_imageAt u) s p2, upd (xg_imagesUsed u) s 0, xg_nextSaving u, upd (xg_anchorNumber u) s (nI (N + 1)), xg_selected u, xg_viewLength u, xg_view u, xg_group u, xg_wayNode u, xg_waySlot u, xg_wideKey u, xg_wideItem u, xg_walkNode u, xg_walkLevel u, xg_walkLow u, xg_walkHigh u)
theorem wa_walk {post : SX → Prop} {u : SX} {ps p1 p2 : Int32} {s N wl : Nat} (hs : s < 4) (es : ps = nI s) (hw : xg_writesLeft u = nI (wl + 1)) (hwl : wl < 100000) (hh : xg_half u = 0) (hN : xg_anchorNumber u s = nI N) (hN2 : N < 1000000) (k : post (wa_new (xs_writesLeft u (nI wl)) s N p1 p2)) : wpX_writeAnchor post u ps p1 p2 := by
  subst es
  rw [xe_writeAnchor, xe_mayWrite]
  refine br_t (by rw [hw]; exact nI_lt (a := 0) (by omega) (by omega)) (nm_r (e' := nI wl) (by rw [hw]; exact nI_pred wl) ?_)
  refine br_f (by decide) ⟨vp_in_nI hs (by omega), ?_⟩
  have eN : xg_anchorNumber (xs_writesLeft u (nI wl)) s = nI N := hN
  have hm : N % 2 < 2 := Nat.mod_lt _ (by omega)
  rw [nI_clamp (n := s) (by omega), eN, pk_andN (m := 1) (by omega) 1 (by decide), show N % 2 ^ 1 = N % 2 from rfl, na_m2, nI_add, na_m5, nI_1]
  refine nm_e ⟨vp_in_nI hs (by omega), vp_in_nI hs (by omega), nm_e ⟨vp_in_nI hs (by omega), ?_⟩⟩
  rw [pk_us, na_q1, na_q2, na_q3, na_q4, nI_clamp (n := 5 * (2 * s + N % 2)) (by omega), nI_clamp (n := 5 * (2 * s + N % 2) + 1) (by omega), nI_clamp (n := 5 * (2 * s + N % 2) + 2) (by omega), nI_clamp (n := 5 * (2 * s + N % 2) + 3) (by omega), nI_clamp (n := 5 * (2 * s + N % 2) + 4) (by omega)]
  refine ⟨vp_in_nI (by omega) (by omega), nm_e ⟨vp_in_nI (by omega) (by omega), nm_e ?_⟩⟩
  rw [xe_reach]
  refine br_t hh (br_t (by decide) ⟨vp_in_nI (by omega) (by omega), nm_e ⟨vp_in_nI hs (by omega), vp_in_nI (by omega) (by omega), nm_e ⟨vp_in_nI hs (by omega), vp_in_nI (by omega) (by omega), nm_e ⟨vp_in_nI hs (by omega), nm_e ⟨vp_in_nI hs (by omega), nm_e ⟨vp_in_nI hs (by omega), nm_e ⟨vp_in_nI hs (by omega), nm_e ?_⟩⟩⟩⟩⟩⟩⟩)
  exact k
theorem wa_an {u : SX} {s N : Nat} {p1 p2 : Int32} : xv_an (wa_new u s N p1 p2) s = ms_mC (ms_mC (ms_mC (ms_mC (ms_mC (xv_an u s) (N % 2) 0 (nI (N + 1))) (N % 2) 1 p1) (N % 2) 2 p2) (N % 2) 3 (xg_nextSaving u s)) (N % 2) 4 (nI (N + 1)) := by
  have hm : N % 2 < 2 := Nat.mod_lt _ (by omega)
  show ms_v2 2 5 (upd (upd (upd (upd (upd (xg_anchors u) (5 * (2 * s + N % 2) + 0) (nI (N + 1))) (5 * (2 * s + N % 2) + 1) p1) (5 * (2 * s + N % 2) + 2) p2) (5 * (2 * s + N % 2) + 3) (xg_nextSaving u s)) (5 * (2 * s + N % 2) + 4) (nI (N + 1))) s = _
  rw [ms_v2_u _ _ _ hm (by omega), ms_v2_u _ _ _ hm (by omega), ms_v2_u _ _ _ hm (by omega), ms_v2_u _ _ _ hm (by omega), ms_v2_u _ _ _ hm (by omega)]
  rfl
theorem wa_ano {u : SX} {s s' N : Nat} {p1 p2 : Int32} (h : s' ≠ s) : xv_an (wa_new u s N p1 p2) s' = xv_an u s' := by
  have hm : N % 2 < 2 := Nat.mod_lt _ (by omega)
  show ms_v2 2 5 (upd (upd (upd (upd (upd (xg_anchors u) (5 * (2 * s + N % 2) + 0) (nI (N + 1))) (5 * (2 * s + N % 2) + 1) p1) (5 * (2 * s + N % 2) + 2) p2) (5 * (2 * s + N % 2) + 3) (xg_nextSaving u s)) (5 * (2 * s + N % 2) + 4) (nI (N + 1))) s' = _
  rw [ms_v2_o _ _ hm (by omega) h, ms_v2_o _ _ hm (by omega) h, ms_v2_o _ _ hm (by omega) h, ms_v2_o _ _ hm (by omega) h, ms_v2_o _ _ hm (by omega) h]
  rfl
theorem st_mono {K K' : Nat} {d : Prop} {V M : ms_B} {u : SX} {s : Nat} (h : st_Bx K d V M u s) (hK : K ≤ K') : st_Bx K' d V M u s := by
  obtain ⟨N, r0, i0, q0, LS, ⟨⟨n1, n2, n3⟩, ⟨c1, c2, c3, c4, c5, c6⟩, p⟩, hV, hC⟩ := h
  exact ⟨N, r0, i0, q0, LS, ⟨⟨n1, by omega, n3⟩, ⟨c1, c2, c3, c4, c5, by omega⟩, p⟩, hV, hC⟩
theorem ms_mono {K K' w : Nat} {V M : ms_M} {t : ms_TT} {y : ms_YT} {x : ms_XT} {u : SX} (h : ms_R K w V M t y x u) (hK : K ≤ K') (hK' : K' ≤ 100000) : ms_R K' w V M t y x u :=
  ⟨hK', fun s hs => st_mono (h.2.1 s hs) hK, h.2.2⟩
/-- a new anchor when all is home -/
theorem wa_bx {K : Nat} {d : Prop} {V M : ms_B} {u : SX} {s N r0 i0 q0 r' i' q' : Nat} {LS : List (List Nat)} (hs : s < 4)
    (hP : st_Pers K V (xv_dk u s) (xv_im u s) (xv_rw u s) (xv_an u s) N r0 i0 q0 LS) (hd : st_eq (xv_dk u s) V) (hio : ∀ b, b < 41 → xv_io u s b = -1) (hr : r' < 14) (hi : i' < 48) (hq : q0 + LS.length ≤ q') (hq' : q' ≤ K + 1) (hn : xg_nextSaving u s = nI q')
    (hC : st_Cache d V M (xv_cp u s) (xv_ld u s) (xv_ch u s)) : st_Bx (K + 1) d V M (wa_new u s N (nI r') (nI i')) s := by
  have h2 : (N + 1) % 2 ≠ N % 2 := by omega
  refine ⟨N + 1, r', i', q', [], wa_pers hP hd hr hi hq hq' ?_ ?_ ?_ ?_ ?_ ?_, ⟨⟨pk_us, pk_us, pk_us, pk_us, pk_us, hn⟩, fun b hb => Or.inl ⟨hio b hb, fun c hc => hd b c hb hc⟩⟩, hC⟩
  · rw [wa_an]; simp [ms_mC_g]
  · rw [wa_an]; simp [ms_mC_g]
  · rw [wa_an]; simp [ms_mC_g]
  · rw [wa_an]; simp [ms_mC_g, hn]
  · rw [wa_an]; simp [ms_mC_g]
  · rw [wa_an, ms_mC_o _ _ h2, ms_mC_o _ _ h2, ms_mC_o _ _ h2, ms_mC_o _ _ h2, ms_mC_o _ _ h2]
theorem wa_bo {K : Nat} {d : Prop} {V M : ms_B} {u : SX} {s s' N : Nat} {p1 p2 : Int32} (h : st_Bx K d V M u s') (hs : s' ≠ s) : st_Bx K d V M (wa_new u s N p1 p2) s' :=
  st_frame h ⟨⟨rfl, rfl, rfl, wa_ano hs⟩, ⟨rfl, pk_un hs, pk_un hs, pk_un hs, pk_un hs, rfl, pk_un hs⟩, rfl, rfl, rfl⟩
end
section
/-! writeHomes, makeRoom, changedBlocks -/
section
variable {K w : Nat} {V M : ms_M} {t : ms_TT} {y : ms_YT} {x : ms_XT} {u : SX} {s : Nat}
theorem wa_R {N r0 i0 q0 r' i' : Nat} {LS : List (List Nat)} (hR : ms_R K w V M t y x u) (hK : K + 1 ≤ 100000) (hs : s < 4)
    (hP : st_Pers K (V s) (xv_dk u s) (xv_im u s) (xv_rw u s) (xv_an u s) N r0 i0 q0 LS) (hio : ∀ b, b < 41 → xv_io u s b = -1) (hr : r' < 14) (hi : i' < 48) (hn : xg_nextSaving u s = nI (q0 + LS.length)) : ms_R (K + 1) w V M t y x (wa_new u s N (nI r') (nI i')) := by
  obtain ⟨_, hB, hT, hY, hX⟩ := hR
  refine ⟨hK, fun s' hs' => ?_, hT, hY, hX⟩
  by_cases e : s' = s
  · subst e
    obtain ⟨N1, r1, i1, q1, LS1, hP1, ⟨_, v2⟩, hC⟩ := hB s' hs'
    refine wa_bx hs hP (fun b c hb hc => ?_) hio hr hi (Nat.le_refl _) (by have := hP.2.1.2.2.2.2.2; omega) hn hC
    rcases v2 b hb with ⟨_, a2⟩ | ⟨i, _, a2, _⟩
    · exact a2 c hc
    · rw [hio b hb] at a2
      exact absurd a2.symm (na_nm1 (by have := Nat.mod_lt (i1 + i) (show 0 < 48 by omega); omega))
  · exact wa_bo (st_mono (hB s' hs') (by omega)) e
def st_same (u u' : SX) : Prop := xg_copies u' = xg_copies u ∧ xg_loaded u' = xg_loaded u ∧ xg_changed u' = xg_changed u
theorem hh_81 {post : SX → Prop} {J : Int32 → Int32 → SX → Prop} {p1 a : Int32} {b : Nat} (hs : s < 4) (hb : b < 41) (ha : a = 0 ∨ a = 1) (k0 : a = 0 → J 0 (nI (b + 1)) u) (k1 : a = 1 → xv_io u s b < 0 → J 1 (nI (b + 1)) u) (k2 : a = 1 → ¬ xv_io u s b < 0 → J 0 (nI (b + 1)) u) : xc_writeHomes_81 post J p1 a (nI b) (nI (41 * s + b)) u := by
  rw [xe_writeHomes_81]
  have e : xv_io u s b = xg_imageOf u (41 * s + b) := ms_v1_g _ _ hb
  rw [nI_clamp (n := 41 * s + b) (by omega), ← e]
  rcases ha with rfl | rfl
  · exact br_t rfl (nm_r (nI_1 b) (k0 rfl))
  · refine br_f (by decide) ⟨vp_in_nI (by omega) (by omega), br_c (fun h => nm_r (nI_1 b) (k2 rfl (Int32.not_lt.mpr h))) (fun h => nm_r (nI_1 b) (k1 rfl (Int32.not_le.mp h)))⟩
theorem hh_loop {post : SX → Prop} (hs : s < 4) (hK : K + 1 ≤ 100000) {u0 : SX} (big : Prop)
    (k : ∀ u', ms_R (K + 1) w V M t y x u' → st_same u0 u' → (big → xg_rowsUsed u' s = 0 ∧ xg_imagesUsed u' s = 0) → post u') :
    ∀ (d b : Nat) (a : Int32) (wl : Nat) (u : SX), b + d = 41 → ms_R K w V M t y x u → xg_half u = 0 → xg_writesLeft u = nI wl → wl ≤ 1000 → (a = 0 ∨ (a = 1 ∧ ∀ b', b' < b → xv_io u s b' = -1)) → (big → a = 1 ∧ 1000 ≤ wl + b) → st_same u0 u →
    xc_writeHomes_4 post (nI s) (d + 1) a (nI b) u := by
  intro d
  induction d with
  | zero =>
    intro b a wl u hb hR hh hwl hwl2 ha hbig hsame
    have hb41 : b = 41 := by omega
    subst hb41
    rw [xe_writeHomes_4]
    refine br_t (by decide) ?_
    have hR' := hR
    obtain ⟨_, hB, _⟩ := hR'
    obtain ⟨N, r0, i0, q0, LS, hP, hV, hC⟩ := hB s hs
    obtain ⟨⟨v1, v2, v3, v4, v5, v6⟩, v7⟩ := hV
    have hc := hP.2.1
    have hN := hP.1.2.1
    rcases ha with rfl | ⟨rfl, ha⟩
    · exact br_t rfl (k u (ms_mono hR (by omega) hK) hsame (fun h => absurd (hbig h).1 (by decide)))
    · refine br_f (by decide) ⟨vp_in_nI hs (by omega), ?_⟩
      rw [nI_clamp (n := s) (by omega), v4, v2, v3, v5]
      by_cases h0 : st_rn LS = 0
      · refine br_t (by rw [h0]; decide) (k u (ms_mono hR (by omega) hK) hsame (fun _ => ?_))
        cases LS with
        | nil => exact ⟨by rw [v4]; rfl, by rw [v5]; rfl⟩
        | cons S LS => simp [st_rn] at h0
      · refine br_f (nI_nle (by omega) (by omega)) ⟨vp_in_nI hs (by omega), vp_in_nI hs (by omega), by decide, ?_⟩
        refine nm_r (e' := nI ((r0 + st_rn LS) % 14)) (by rw [nI_add]; exact pk_rem (d := 14) (by omega) (by omega) (by omega)) ⟨vp_in_nI hs (by omega), vp_in_nI hs (by omega), by decide, nm_r (e' := nI ((i0 + LS.flatten.length) % 48)) (by rw [nI_add]; exact pk_rem (d := 48) (by omega) (by omega) (by omega)) ?_⟩
        cases wl with
        | zero =>
          rw [xe_writeAnchor, xe_mayWrite]
          refine br_f (by rw [hwl]; decide) (br_t rfl (k u (ms_mono hR (by omega) hK) hsame (fun h => ?_)))
          have := (hbig h).2
          omega
        | succ wl =>
          refine wa_walk hs rfl hwl (by omega) hh v1 (by omega) (k _ (wa_R (hm_wl hR _) hK hs hP (fun b hb => ha b hb) (Nat.mod_lt _ (by omega)) (Nat.mod_lt _ (by omega)) v6) hsame (fun _ => ⟨pk_us, pk_us⟩))
  | succ d ih =>
    intro b a wl u hb hR hh hwl hwl2 ha hbig hsame
    rw [xe_writeHomes_4]
    have hb41 : b < 41 := by omega
    refine br_f (na_nle (a := 41) (b := b) rfl rfl (by omega) (by omega)) (nm_r (na_g s b) ⟨vp_in_nI (by omega) (by omega), ?_⟩)
    have hR' := hR
    obtain ⟨_, hB, _⟩ := hR'
    obtain ⟨N, r0, i0, q0, LS, hP, hV, hC⟩ := hB s hs
    have e : xg_imageOf u (41 * s + b) = xv_io u s b := (ms_v1_g _ _ hb41).symm
    have ha01 : a = 0 ∨ a = 1 := ha.elim Or.inl (fun h => Or.inr h.1)
    rw [nI_clamp (n := 41 * s + b) (by omega), e]
    rcases hV.2 b hb41 with ⟨h1, h2⟩ | ⟨i, hi, h1, h2⟩
    · refine br_t (by rw [h1]; decide) (hh_81 hs hb41 ha01 (fun e0 => ?_) (fun e1 _ => ?_) (fun _ h => absurd (show xv_io u s b < 0 by rw [h1]; decide) h))
      · refine ih (b + 1) 0 wl u (by omega) hR hh hwl hwl2 (Or.inl rfl) (fun h => ?_) hsame
        have := (hbig h).1
        rw [e0] at this
        exact absurd this (by decide)
      · refine ih (b + 1) 1 wl u (by omega) hR hh hwl hwl2 (Or.inr ⟨rfl, fun b' hb' => ?_⟩) (fun h => ⟨rfl, by have := (hbig h).2; omega⟩) hsame
        rcases ha with h0 | ⟨_, h0⟩
        · rw [e1] at h0; exact absurd h0 (by decide)
        · by_cases eb : b' = b
          · subst eb; exact h1
          · exact h0 b' (by omega)
    · have hmod : (i0 + i) % 48 < 48 := Nat.mod_lt _ (by omega)
      have hnn : ¬ xv_io u s b < 0 := by rw [h1]; exact nI_pos (by omega)
      refine br_f hnn ?_
      rw [xe_mayWrite]
      cases wl with
      | zero =>
        have hnb : ¬ big := fun h => by have := (hbig h).2; omega
        refine br_f (by rw [hwl]; decide) (br_t rfl (hh_81 hs hb41 ha01 (fun _ => ?_) (fun _ h => absurd h hnn) (fun _ _ => ?_)))
        · exact ih (b + 1) 0 0 u (by omega) hR hh hwl hwl2 (Or.inl rfl) (fun h => absurd h hnb) hsame
        · exact ih (b + 1) 0 0 u (by omega) hR hh hwl hwl2 (Or.inl rfl) (fun h => absurd h hnb) hsame
      | succ wl =>
        refine br_t (by rw [hwl]; exact nI_lt (a := 0) (by omega) (by omega)) (nm_r (e' := nI wl) (by rw [hwl]; exact nI_pred wl) (br_f (by decide) ?_))
        have hR1 := hm_wl hR (nI wl)
        have e1 : xg_imageOf (xs_writesLeft u (nI wl)) (41 * s + b) = nI ((i0 + i) % 48) := e.trans h1
        rw [xe_reach]
        refine br_t hh ⟨vp_in_nI (by omega) (by omega), ?_⟩
        refine hm_copy (u := xs_writesLeft u (nI wl)) hs hb41 hmod rfl rfl e1 rfl (fun dk' k1 k2 => br_t rfl ?_)
        have hR2 := hm_dk hR1 hs hb41 (j := (i0 + i) % 48) h2 k1 k2
        have hd2 : ∀ c, c < 8 → xv_dk (xs_disk (xs_writesLeft u (nI wl)) dk') s b c = V s b c := fun c hc => by
          show ms_v2 41 8 dk' s b c = _
          rw [k2, ms_mK_s]; exact h2 c hc
        rw [xe_writeHomes_80, nI_clamp (n := 41 * s + b) (by omega)]
        refine ⟨vp_in_nI (by omega) (by omega), nm_e ?_⟩
        have hR3 := hm_io hR2 hs hb41 hd2
        have hio : ∀ b', xv_io (xs_imageOf (xs_disk (xs_writesLeft u (nI wl)) dk') (upd (xg_imageOf (xs_disk (xs_writesLeft u (nI wl)) dk')) (41 * s + b) (-1))) s b' = upd (xv_io u s) b (-1) b' := fun b' => congrFun (ms_v1_u (xg_imageOf u) s (-1) hb41) b'
        refine hh_81 hs hb41 ha01 (fun e0 => ?_) (fun e1 _ => ?_) (fun _ h => absurd (show _ < (0 : Int32) by rw [hio b, pk_us]; decide) h)
        · refine ih (b + 1) 0 wl _ (by omega) hR3 hh rfl (by omega) (Or.inl rfl) (fun h => ?_) hsame
          have := (hbig h).1
          rw [e0] at this
          exact absurd this (by decide)
        · refine ih (b + 1) 1 wl _ (by omega) hR3 hh rfl (by omega) (Or.inr ⟨rfl, fun b' hb' => ?_⟩) (fun h => ⟨rfl, by have := (hbig h).2; omega⟩) hsame
          rw [hio b']
          by_cases eb : b' = b
          · subst eb; exact pk_us
          · rw [pk_un eb]
            rcases ha with h0 | ⟨_, h0⟩
            · rw [e1] at h0; exact absurd h0 (by decide)
            · exact h0 b' (by omega)
theorem hh_homes {post : SX → Prop} {ps : Int32} {wl : Nat} (hR : ms_R K w V M t y x u) (hs : s < 4) (es : ps = nI s) (hK : K + 1 ≤ 100000) (hh : xg_half u = 0) (hwl : xg_writesLeft u = nI wl) (hwl2 : wl ≤ 1000)
    (k : ∀ u', ms_R (K + 1) w V M t y x u' → st_same u u' → (wl = 1000 → xg_rowsUsed u' s = 0 ∧ xg_imagesUsed u' s = 0) → post u') : wpX_writeHomes post u ps := by
  subst es
  rw [xe_writeHomes]
  exact ⟨42, hh_loop hs hK (wl = 1000) k 41 0 1 wl u rfl hR hh hwl hwl2 (Or.inr ⟨rfl, fun b hb => absurd hb (by omega)⟩) (fun h => ⟨rfl, by omega⟩) ⟨rfl, rfl, rfl⟩⟩
/-- makeRoom: there is room then -/
theorem hh_room {post : SX → Prop} {ps pn : Int32} {n : Nat} (hR : ms_R K w V M t y x u) (hs : s < 4) (es : ps = nI s) (en : pn = nI n) (hn : n ≤ 41) (hK : K + 1 ≤ 100000)
    (k : ∀ u' (a b : Nat), ms_R (K + 1) w V M t y x u' → st_same u u' → xg_rowsUsed u' s = nI a → a + ((n + 3) / 4 + 1) ≤ 14 → xg_imagesUsed u' s = nI b → b + n ≤ 48 → post u') : wpX_makeRoom post u ps pn := by
  subst es en
  have hR' := hR
  obtain ⟨_, hB, _⟩ := hR'
  obtain ⟨N, r0, i0, q0, LS, hP, ⟨⟨v1, v2, v3, v4, v5, v6⟩, v7⟩, hC⟩ := hB s hs
  have hc := hP.2.1
  have hm : xc_makeRoom_31 post (nI s) u := by
    rw [xe_makeRoom_31]
    refine hh_homes (wl := 1000) (hm_hf (hm_wl hR 1000) 0) hs rfl hK rfl rfl (by omega) (fun u' r' sm h => ?_)
    obtain ⟨h1, h2⟩ := h rfl
    exact k u' 0 0 r' sm h1 (by omega) h2 (by omega)
  rw [xe_makeRoom]
  refine ⟨by decide, ?_⟩
  have e1 : ((nI n + 4) - 1) / 4 + 1 = nI ((n + 3) / 4 + 1) := by
    rw [na_q4, na_s1 (by omega), show n + 4 - 1 = n + 3 from by omega, show ((4 : Int32)) = nI 4 from rfl, pk_div (by omega) (by omega) (by omega), nI_1]
  rw [e1]
  dsimp only
  rw [nI_clamp (n := s) (by omega), v4, v5, nI_add, nI_add]
  refine ⟨vp_in_nI hs (by omega), ?_⟩
  refine pk_lt 14 (st_rn LS + ((n + 3) / 4 + 1)) (fun _ => hm) (fun h1 => ⟨vp_in_nI hs (by omega), ?_⟩)
  refine pk_le (LS.flatten.length + n) 48 (fun h2 => ?_) (fun _ => hm)
  exact k u (st_rn LS) LS.flatten.length (ms_mono hR (by omega) hK) ⟨rfl, rfl, rfl⟩ v4 h1 v5 h2
end
def st_cl (ch : Nat → Int32) (n : Nat) : List Nat := (List.range n).filter (fun b => decide (ch b ≠ 0))
theorem st_cl_s (ch : Nat → Int32) (n : Nat) : st_cl ch (n + 1) = st_cl ch n ++ (if ch n ≠ 0 then [n] else []) := by
  unfold st_cl
  rw [List.range_succ, List.filter_append]
  congr 1
  by_cases h : ch n = 0 <;> simp [h]
theorem st_cl_l (ch : Nat → Int32) (n : Nat) : (st_cl ch n).length ≤ n := by
  have h := List.length_filter_le (fun b => decide (ch b ≠ 0)) (List.range n)
  rw [List.length_range] at h
  exact h
theorem cb_loop {post : Int32 → Prop} {u : SX} {s : Nat} (hs : s < 4) (k : post (nI (st_cl (xv_ch u s) 41).length)) : ∀ (d b : Nat), b + d = 41 → xc_changedBlocks_7 post (nI s) u (d + 1) (nI (st_cl (xv_ch u s) b).length) (nI (41 * s + b)) := by
  intro d
  induction d with
  | zero =>
    intro b hb
    have hb41 : b = 41 := by omega
    subst hb41
    rw [xe_changedBlocks_7, na_m41, na_q41]
    exact br_t (Int32.le_refl _) k
  | succ d ih =>
    intro b hb
    rw [xe_changedBlocks_7, na_m41, na_q41]
    refine br_f (nI_ge (by omega) (by omega)) ⟨vp_in_nI (by omega) (by omega), ?_⟩
    have e : xg_changed u (41 * s + b) = xv_ch u s b := (ms_v1_g _ _ (by omega)).symm
    rw [nI_clamp (n := 41 * s + b) (by omega), e]
    have h := ih (b + 1) (by omega)
    rw [st_cl_s] at h
    refine br_c (fun h0 => nm_r (na_z _) (nm_r (nI_1 _) ?_)) (fun h1 => nm_r (nI_1 _) (nm_r (nI_1 _) ?_))
    · rw [if_neg (by simp [h0]), List.append_nil] at h
      exact h
    · rw [if_pos h1, List.length_append] at h
      exact h
theorem cb_walk {post : Int32 → Prop} {u : SX} {s : Nat} {ps : Int32} (hs : s < 4) (es : ps = nI s) (k : post (nI (st_cl (xv_ch u s) 41).length)) : wpX_changedBlocks post u ps := by
  subst es
  rw [xe_changedBlocks, na_m41]
  exact nm_e ⟨42, cb_loop hs k 41 0 rfl⟩
end
section
/-! one write of a saving: image, list, counts -/
theorem wi_loop {post : SX → Prop} {s b j e : Nat} (hs : s < 4) (hb : b < 41) (hj : j < 48) (he : e ≤ 8) : ∀ (d c : Nat) (u : SX), c + d = e →
    (∀ im' : Nat → Int32, (∀ i, (i < 8 * (48 * s + j) + c ∨ 8 * (48 * s + j) + e ≤ i) → im' i = xg_images u i) → (∀ c', c ≤ c' → c' < e → im' (8 * (48 * s + j) + c') = xg_copies u (8 * (41 * s + b) + c')) → post (xs_images u im')) →
    xc_writeImage_42 post (nI s) (nI b) (nI (48 * s + j)) (nI e) (d + 1) (nI c) u := by
  intro d
  induction d with
  | zero =>
    intro c u hc k
    rw [xe_writeImage_42]
    refine br_t (nI_le (by omega) (by omega)) ?_
    exact k (xg_images u) (fun _ _ => rfl) (fun c' _ _ => by omega)
  | succ d ih =>
    intro c u hc k
    rw [xe_writeImage_42]
    refine br_f (nI_ge (by omega) (by omega)) ?_
    rw [na_g, na_8, na_8, nI_clamp (n := 8 * (48 * s + j) + c) (by omega), nI_clamp (n := 8 * (41 * s + b) + c) (by omega)]
    refine ⟨vp_in_nI (by omega) (by omega), vp_in_nI (by omega) (by omega), nm_e (nm_r (nI_1 c) ?_)⟩
    refine ih (c + 1) _ (by omega) (fun im' k1 k2 => k im' (fun i hi => ?_) (fun c' h3 h4 => ?_))
    · refine (k1 i (by omega)).trans ?_
      exact pk_un (by omega)
    · by_cases e : c' = c
      · subst e
        refine (k1 _ (by omega)).trans ?_
        exact pk_us
      · exact k2 c' (by omega) h4
theorem wi_walk {post : SX → Prop} {u : SX} {ps pi pb : Int32} {s b i0 len i wl : Nat} (hs : s < 4) (hb : b < 41) (es : ps = nI s) (ei : pi = nI i) (eb : pb = nI b) (h1 : xg_imageAt u s = nI i0) (h2 : xg_imagesUsed u s = nI len) (hi0 : i0 < 48) (hlen : len ≤ 48) (hi : i < 48) (hwl : xg_writesLeft u = nI wl) (hwl2 : wl ≤ 1000)
    (k0 : wl = 0 → post u)
    (k1 : ∀ im' : Nat → Int32, 1 ≤ wl → (∀ s', s' ≠ s → ms_v2 48 8 im' s' = xv_im u s') → (∀ j, j ≠ (i0 + len + i) % 48 → ms_v2 48 8 im' s j = xv_im u s j) → (xg_half u = 0 → ms_v2 48 8 im' s ((i0 + len + i) % 48) = xv_cp u s b) → post (xs_images (xs_writesLeft u (nI (wl - 1))) im')) : wpX_writeImage post u ps pi pb := by
  subst es ei eb
  rw [xe_writeImage, xe_mayWrite]
  cases wl with
  | zero => exact br_f (by rw [hwl]; decide) (br_t rfl (k0 rfl))
  | succ wl =>
    refine br_t (by rw [hwl]; exact nI_lt (a := 0) (by omega) (by omega)) (nm_r (e' := nI wl) (by rw [hwl]; exact nI_pred wl) (br_f (by decide) ⟨vp_in_nI hs (by omega), vp_in_nI hs (by omega), by decide, ?_⟩))
    have f1 : xg_imageAt (xs_writesLeft u (nI wl)) s = nI i0 := h1
    have f2 : xg_imagesUsed (xs_writesLeft u (nI wl)) s = nI len := h2
    have hm : (i0 + len + i) % 48 < 48 := Nat.mod_lt _ (by omega)
    rw [nI_clamp (n := s) (by omega), f1, f2, nI_add, nI_add]
    refine nm_r (e' := nI (48 * s + (i0 + len + i) % 48)) (by rw [show (48 : Int32) = nI 48 from rfl, pk_rem (d := 48) (by omega) (by omega) (by omega), pk_mul, nI_add]) ?_
    have hgo : ∀ e : Nat, e ≤ 8 → (e ≠ 8 → ¬ xg_half u = 0) → ∃ n42 : Nat, xc_writeImage_42 post (nI s) (nI b) (nI (48 * s + (i0 + len + i) % 48)) (nI e) n42 0 (xs_writesLeft u (nI wl)) := by
      intro e he hne
      refine ⟨e + 1, wi_loop hs hb hm he e 0 _ (by omega) (fun im' g1 g2 => k1 im' (by omega) (fun s' hs' => ms_v2_x (fun b' c' hb' hc' => g1 _ (by omega))) (fun j hj => ?_) (fun h0 => ?_))⟩
      · funext c
        unfold xv_im ms_v2
        by_cases h : j < 48 ∧ c < 8
        · rw [if_pos h, if_pos h]
          exact g1 _ (by omega)
        · rw [if_neg h, if_neg h]
      · have he8 : e = 8 := Classical.byContradiction (fun h => hne h h0)
        subst he8
        funext c
        unfold xv_cp ms_v2
        by_cases hc : c < 8
        · rw [if_pos ⟨hm, hc⟩, if_pos ⟨hb, hc⟩]
          exact g2 c (by omega) hc
        · rw [if_neg (fun h => hc h.2), if_neg (fun h => hc h.2)]
    rw [xe_reach]
    refine br_c (fun _ => hgo 8 (by omega) (fun h => absurd rfl h)) (fun hh => br_c (fun _ => hgo 4 (by omega) (fun _ => hh)) (fun _ => hgo 8 (by omega) (fun h => absurd rfl h)))
theorem wr_row {s r0 k : Nat} (h : r0 + k < 1000) : 8 * ((14 * nI s) + ((nI r0 + nI k) - (nI r0 + nI k) / 14 * 14)) = nI (8 * (14 * s + (r0 + k) % 14)) := by
  rw [nI_add, show (14 : Int32) = nI 14 from rfl, pk_rem (d := 14) (by omega) (by omega) (by omega), pk_mul, nI_add, na_m8]
theorem xq_rr (u : SX) (a b : Nat → Int32) : xs_rows (xs_rows u a) b = xs_rows u b := rfl
theorem xq_gr (u : SX) (a : Nat → Int32) : xg_rows (xs_rows u a) = a := rfl
theorem xq_gg (u : SX) (a : Nat → Int32) : xg_group (xs_rows u a) = xg_group u := rfl
theorem xq_gn (u : SX) (a : Nat → Int32) : xg_nextSaving (xs_rows u a) = xg_nextSaving u := rfl
theorem wr_86 {post : SX → Prop} {u : SX} {s j q : Nat} (hs : s < 4) (hj : j < 14) (h3 : xg_nextSaving u s = nI q) (R4 : Nat → Int32)
    (k : post (xs_rows u (upd (upd (upd (upd R4 (8 * (14 * s + j) + 4) (xg_group u 1)) (8 * (14 * s + j) + 5) (xg_group u 2)) (8 * (14 * s + j) + 6) (xg_group u 3)) (8 * (14 * s + j) + 7) (nI q)))) : xc_writeList_86 post (nI s) (nI (8 * (14 * s + j))) 4 1 (xs_rows u R4) := by
  have b1 : (nI (8 * (14 * s + j)) + 3) + 1 = nI (8 * (14 * s + j) + 4) := by rw [na_q3, na_q1]
  have b2 : (nI (8 * (14 * s + j)) + 3) + 2 = nI (8 * (14 * s + j) + 5) := by rw [na_q3, na_q2]
  have b3 : (nI (8 * (14 * s + j)) + 3) + 3 = nI (8 * (14 * s + j) + 6) := by rw [na_q3, na_q3]
  rw [xe_writeList_86, b1, nI_clamp (n := 8 * (14 * s + j) + 4) (by omega)]
  refine br_f (by decide) ⟨vp_in_nI (n := 1) (by omega) (by omega), vp_in_nI (by omega) (by omega), nm_e (nm_r (e' := 2) (by decide) ?_)⟩
  rw [xq_gr, xq_gg, xq_rr, xe_writeList_86, b2, nI_clamp (n := 8 * (14 * s + j) + 5) (by omega)]
  refine br_f (by decide) ⟨vp_in_nI (n := 2) (by omega) (by omega), vp_in_nI (by omega) (by omega), nm_e (nm_r (e' := 3) (by decide) ?_)⟩
  rw [xq_gr, xq_gg, xq_rr, xe_writeList_86, b3, nI_clamp (n := 8 * (14 * s + j) + 6) (by omega)]
  refine br_f (by decide) ⟨vp_in_nI (n := 3) (by omega) (by omega), vp_in_nI (by omega) (by omega), nm_e (nm_r (e' := 4) (by decide) ?_)⟩
  rw [xq_gr, xq_gg, xq_rr, xe_writeList_86, na_q7, nI_clamp (n := 8 * (14 * s + j) + 7) (by omega), nI_clamp (n := s) (by omega)]
  refine br_t (by decide) ⟨vp_in_nI hs (by omega), vp_in_nI (by omega) (by omega), nm_e ?_⟩
  rw [xq_gr, xq_rr, xq_gn, h3]
  exact k
theorem wr_list {post : SX → Prop} {u : SX} {ps pr : Int32} {s r0 ru row q wl : Nat} (hs : s < 4) (es : ps = nI s) (er : pr = nI row) (h1 : xg_rowAt u s = nI r0) (h2 : xg_rowsUsed u s = nI ru) (h3 : xg_nextSaving u s = nI q) (hr0 : r0 < 14) (hru : ru ≤ 14) (hrow : row ≤ 14) (hwl : xg_writesLeft u = nI wl) (hwl2 : wl ≤ 1000)
    (k0 : wl = 0 → post u)
    (k1 : ∀ rw' : Nat → Int32, 1 ≤ wl → (∀ s', s' ≠ s → ms_v2 14 8 rw' s' = xv_rw u s') → (∀ j, j ≠ (r0 + (ru + row)) % 14 → ms_v2 14 8 rw' s j = xv_rw u s j) → ms_v2 14 8 rw' s ((r0 + (ru + row)) % 14) 0 = 1 → (ms_v2 14 8 rw' s ((r0 + (ru + row)) % 14) 7 = xv_rw u s ((r0 + (ru + row)) % 14) 7 ∨ ms_v2 14 8 rw' s ((r0 + (ru + row)) % 14) 7 = nI q) →
      (xg_half u = 0 → ms_v2 14 8 rw' s ((r0 + (ru + row)) % 14) 1 = nI q ∧ ms_v2 14 8 rw' s ((r0 + (ru + row)) % 14) 2 = xg_grouped u ∧ (∀ i, i < 4 → ms_v2 14 8 rw' s ((r0 + (ru + row)) % 14) (3 + i) = xg_group u i) ∧ ms_v2 14 8 rw' s ((r0 + (ru + row)) % 14) 7 = nI q) → post (xs_rows (xs_writesLeft u (nI (wl - 1))) rw')) : wpX_writeList post u ps pr := by
  subst es er
  rw [xe_writeList, xe_mayWrite]
  cases wl with
  | zero => exact br_f (by rw [hwl]; decide) (br_t rfl (k0 rfl))
  | succ wl =>
    refine br_t (by rw [hwl]; exact nI_lt (a := 0) (by omega) (by omega)) (nm_r (e' := nI wl) (by rw [hwl]; exact nI_pred wl) (br_f (by decide) ⟨vp_in_nI hs (by omega), ?_⟩))
    have f1 : xg_rowAt (xs_writesLeft u (nI wl)) s = nI r0 := h1
    have f2 : xg_rowsUsed (xs_writesLeft u (nI wl)) s = nI ru := h2
    have f3 : xg_nextSaving (xs_writesLeft u (nI wl)) s = nI q := h3
    generalize ej : (r0 + (ru + row)) % 14 = j at k1
    have hj : j < 14 := by rw [← ej]; exact Nat.mod_lt _ (by omega)
    rw [nI_clamp (n := s) (by omega), f2, nI_add, xe_rowCell, nI_clamp (n := s) (by omega), f1, wr_row (by omega), ej]
    refine ⟨vp_in_nI hs (by omega), by decide, ?_⟩
    have hi0 : (nI (8 * (14 * s + j))).toNatClampNeg = 8 * (14 * s + j) + 0 := nI_clamp (by omega)
    rw [xe_reach]
    -- the four first cells
    have hgo : ∀ r : Int32, (r = 8 ∨ (r = 4 ∧ ¬ xg_half u = 0)) → vp_in (nI (8 * (14 * s + j))) 448 ∧ ∀ a_rows_112, a_rows_112 = upd (xg_rows (xs_writesLeft u (nI wl))) (nI (8 * (14 * s + j))).toNatClampNeg 1 → (vp_in (nI s) 4 ∧ (vp_in (nI (8 * (14 * s + j)) + 1) 448 ∧ ∀ a_rows_115, a_rows_115 = upd a_rows_112 (nI (8 * (14 * s + j)) + 1).toNatClampNeg ((xg_nextSaving (xs_writesLeft u (nI wl))) s) → (vp_in (nI (8 * (14 * s + j)) + 2) 448 ∧ ∀ a_rows_117, a_rows_117 = upd a_rows_115 (nI (8 * (14 * s + j)) + 2).toNatClampNeg (xg_grouped (xs_writesLeft u (nI wl))) → (vp_in (nI (8 * (14 * s + j)) + 3) 448 ∧ ∀ a_rows_119, a_rows_119 = upd a_rows_117 (nI (8 * (14 * s + j)) + 3).toNatClampNeg ((xg_group (xs_writesLeft u (nI wl))) 0) → ((8 ≤ r → (∃ n86 : Nat, xc_writeList_86 post (nI s) (nI (8 * (14 * s + j))) n86 1 (xs_rows (xs_writesLeft u (nI wl)) a_rows_119))) ∧ (¬ 8 ≤ r → post (xs_rows (xs_writesLeft u (nI wl)) a_rows_119))))))) := by
      intro r hr
      rw [f3, na_q1, na_q2, na_q3, hi0, nI_clamp (n := 8 * (14 * s + j) + 1) (by omega), nI_clamp (n := 8 * (14 * s + j) + 2) (by omega), nI_clamp (n := 8 * (14 * s + j) + 3) (by omega)]
      refine ⟨vp_in_nI (by omega) (by omega), nm_e ⟨vp_in_nI hs (by omega), vp_in_nI (by omega) (by omega), nm_e ⟨vp_in_nI (by omega) (by omega), nm_e ⟨vp_in_nI (by omega) (by omega), nm_e ?_⟩⟩⟩⟩
      have v4 : ∀ s', ms_v2 14 8 (upd (upd (upd (upd (xg_rows u) (8 * (14 * s + j) + 0) 1) (8 * (14 * s + j) + 1) (nI q)) (8 * (14 * s + j) + 2) (xg_grouped u)) (8 * (14 * s + j) + 3) (xg_group u 0)) s' = if s' = s then ms_mC (ms_mC (ms_mC (ms_mC (xv_rw u s) j 0 1) j 1 (nI q)) j 2 (xg_grouped u)) j 3 (xg_group u 0) else xv_rw u s' := by
        intro s'
        by_cases e : s' = s
        · subst e
          rw [if_pos rfl, ms_v2_u _ _ _ hj (by omega), ms_v2_u _ _ _ hj (by omega), ms_v2_u _ _ _ hj (by omega), ms_v2_u _ _ _ hj (by omega)]
          rfl
        · rw [if_neg e, ms_v2_o _ _ hj (by omega) e, ms_v2_o _ _ hj (by omega) e, ms_v2_o _ _ hj (by omega) e, ms_v2_o _ _ hj (by omega) e]
          rfl
      generalize eR : upd (upd (upd (upd (xg_rows u) (8 * (14 * s + j) + 0) 1) (8 * (14 * s + j) + 1) (nI q)) (8 * (14 * s + j) + 2) (xg_grouped u)) (8 * (14 * s + j) + 3) (xg_group u 0) = R4 at v4
      have eR2 : upd (upd (upd (upd (xg_rows (xs_writesLeft u (nI wl))) (8 * (14 * s + j) + 0) 1) (8 * (14 * s + j) + 1) (nI q)) (8 * (14 * s + j) + 2) (xg_grouped (xs_writesLeft u (nI wl)))) (8 * (14 * s + j) + 3) (xg_group (xs_writesLeft u (nI wl)) 0) = R4 := eR
      rw [eR2]
      rcases hr with rfl | ⟨rfl, hh⟩
      · refine br_t (by decide) ⟨4, wr_86 (q := q) hs hj f3 R4 ?_⟩
        have v8 : ∀ s', ms_v2 14 8 (upd (upd (upd (upd R4 (8 * (14 * s + j) + 4) (xg_group u 1)) (8 * (14 * s + j) + 5) (xg_group u 2)) (8 * (14 * s + j) + 6) (xg_group u 3)) (8 * (14 * s + j) + 7) (nI q)) s' = if s' = s then ms_mC (ms_mC (ms_mC (ms_mC (ms_mC (ms_mC (ms_mC (ms_mC (xv_rw u s) j 0 1) j 1 (nI q)) j 2 (xg_grouped u)) j 3 (xg_group u 0)) j 4 (xg_group u 1)) j 5 (xg_group u 2)) j 6 (xg_group u 3)) j 7 (nI q) else xv_rw u s' := by
          intro s'
          by_cases e : s' = s
          · subst e
            rw [if_pos rfl, ms_v2_u _ _ _ hj (by omega), ms_v2_u _ _ _ hj (by omega), ms_v2_u _ _ _ hj (by omega), ms_v2_u _ _ _ hj (by omega), v4, if_pos rfl]
          · rw [if_neg e, ms_v2_o _ _ hj (by omega) e, ms_v2_o _ _ hj (by omega) e, ms_v2_o _ _ hj (by omega) e, ms_v2_o _ _ hj (by omega) e, v4, if_neg e]
        exact k1 (upd (upd (upd (upd R4 (8 * (14 * s + j) + 4) (xg_group u 1)) (8 * (14 * s + j) + 5) (xg_group u 2)) (8 * (14 * s + j) + 6) (xg_group u 3)) (8 * (14 * s + j) + 7) (nI q)) (by omega) (fun s' e => by rw [v8, if_neg e]) (fun j' hj' => by rw [v8, if_pos rfl]; simp only [ms_mC_o _ _ hj']) (by rw [v8, if_pos rfl]; simp [ms_mC_g]) (Or.inr (by rw [v8, if_pos rfl]; simp [ms_mC_g])) (fun _ => ⟨by rw [v8, if_pos rfl]; simp [ms_mC_g], by rw [v8, if_pos rfl]; simp [ms_mC_g], fun i hi => by
            rw [v8, if_pos rfl]
            rcases i with _ | _ | _ | _ | i
            · simp [ms_mC_g]
            · simp [ms_mC_g]
            · simp [ms_mC_g]
            · simp [ms_mC_g]
            · omega, by rw [v8, if_pos rfl]; simp [ms_mC_g]⟩)
      · refine br_f (by decide) ?_
        exact k1 R4 (by omega) (fun s' e => by rw [v4, if_neg e]) (fun j' hj' => by rw [v4, if_pos rfl]; simp only [ms_mC_o _ _ hj']) (by rw [v4, if_pos rfl]; simp [ms_mC_g]) (Or.inl (by rw [v4, if_pos rfl]; simp [ms_mC_g])) (fun h => absurd h hh)
    refine br_c (fun _ => hgo 8 (Or.inl rfl)) (fun hh => br_c (fun _ => hgo 4 (Or.inr ⟨rfl, hh⟩)) (fun _ => hgo 8 (Or.inl rfl)))
/-- the row that makes a saving count -/
theorem wr_counts {post : SX → Prop} {u : SX} {ps pr pn : Int32} {s r0 ru row q wl : Nat} (hs : s < 4) (es : ps = nI s) (er : pr = nI row) (h1 : xg_rowAt u s = nI r0) (h2 : xg_rowsUsed u s = nI ru) (h3 : xg_nextSaving u s = nI q) (hr0 : r0 < 14) (hru : ru ≤ 14) (hrow : row ≤ 14) (hwl : xg_writesLeft u = nI (wl + 1)) (hwl2 : wl ≤ 1000) (hh : xg_half u = 0)
    (k1 : ∀ rw' : Nat → Int32, (∀ s', s' ≠ s → ms_v2 14 8 rw' s' = xv_rw u s') → (∀ j, j ≠ (r0 + (ru + row)) % 14 → ms_v2 14 8 rw' s j = xv_rw u s j) → ms_v2 14 8 rw' s ((r0 + (ru + row)) % 14) 0 = 2 → ms_v2 14 8 rw' s ((r0 + (ru + row)) % 14) 1 = nI q → ms_v2 14 8 rw' s ((r0 + (ru + row)) % 14) 7 = nI q → post (xs_rows (xs_writesLeft u (nI wl)) rw')) : wpX_writeCounts post u ps pr pn := by
  subst es er
  rw [xe_writeCounts, xe_mayWrite]
  refine br_t (by rw [hwl]; exact nI_lt (a := 0) (by omega) (by omega)) (nm_r (e' := nI wl) (by rw [hwl]; exact nI_pred wl) (br_f (by decide) ⟨vp_in_nI hs (by omega), ?_⟩))
  have f1 : xg_rowAt (xs_writesLeft u (nI wl)) s = nI r0 := h1
  have f2 : xg_rowsUsed (xs_writesLeft u (nI wl)) s = nI ru := h2
  have f3 : xg_nextSaving (xs_writesLeft u (nI wl)) s = nI q := h3
  generalize ej : (r0 + (ru + row)) % 14 = j at k1
  have hj : j < 14 := by rw [← ej]; exact Nat.mod_lt _ (by omega)
  rw [nI_clamp (n := s) (by omega), f2, f3, nI_add, xe_rowCell, nI_clamp (n := s) (by omega), f1, wr_row (by omega), ej]
  refine ⟨vp_in_nI hs (by omega), by decide, ?_⟩
  have hi0 : (nI (8 * (14 * s + j))).toNatClampNeg = 8 * (14 * s + j) + 0 := nI_clamp (by omega)
  rw [xe_reach]
  refine br_t hh ?_
  rw [na_q1, na_q2, na_q7, hi0, nI_clamp (n := 8 * (14 * s + j) + 1) (by omega), nI_clamp (n := 8 * (14 * s + j) + 2) (by omega), nI_clamp (n := 8 * (14 * s + j) + 7) (by omega)]
  refine ⟨vp_in_nI (by omega) (by omega), nm_e ⟨vp_in_nI hs (by omega), vp_in_nI (by omega) (by omega), nm_e ⟨vp_in_nI (by omega) (by omega), nm_e (br_t rfl ⟨vp_in_nI hs (by omega), vp_in_nI (by omega) (by omega), nm_e ?_⟩)⟩⟩⟩
  have v4 : ∀ s', ms_v2 14 8 (upd (upd (upd (upd (xg_rows u) (8 * (14 * s + j) + 0) 2) (8 * (14 * s + j) + 1) (nI q)) (8 * (14 * s + j) + 2) pn) (8 * (14 * s + j) + 7) (nI q)) s' = if s' = s then ms_mC (ms_mC (ms_mC (ms_mC (xv_rw u s) j 0 2) j 1 (nI q)) j 2 pn) j 7 (nI q) else xv_rw u s' := by
    intro s'
    by_cases e : s' = s
    · subst e
      rw [if_pos rfl, ms_v2_u _ _ _ hj (by omega), ms_v2_u _ _ _ hj (by omega), ms_v2_u _ _ _ hj (by omega), ms_v2_u _ _ _ hj (by omega)]
      rfl
    · rw [if_neg e, ms_v2_o _ _ hj (by omega) e, ms_v2_o _ _ hj (by omega) e, ms_v2_o _ _ hj (by omega) e, ms_v2_o _ _ hj (by omega) e]
      rfl
  exact k1 (upd (upd (upd (upd (xg_rows u) (8 * (14 * s + j) + 0) 2) (8 * (14 * s + j) + 1) (nI q)) (8 * (14 * s + j) + 2) pn) (8 * (14 * s + j) + 7) (nI q)) (fun s' e => by rw [v4, if_neg e]) (fun j' hj' => by rw [v4, if_pos rfl]; simp only [ms_mC_o _ _ hj']) (by rw [v4, if_pos rfl]; simp [ms_mC_g]) (by rw [v4, if_pos rfl]; simp [ms_mC_g]) (by rw [v4, if_pos rfl]; simp [ms_mC_g])
end
section
/-! writeSaving -/
theorem st_cl_x (ch : Nat → Int32) {b : Nat} (hb : ch b ≠ 0) : ∀ m, b < m → ∃ R, st_cl ch m = st_cl ch b ++ b :: R := by
  intro m
  induction m with
  | zero => intro h; omega
  | succ m ih =>
    intro h
    rw [st_cl_s]
    by_cases e : b = m
    · subst e
      exact ⟨[], by rw [if_pos hb]⟩
    · obtain ⟨R, hR⟩ := ih (by omega)
      exact ⟨R ++ (if ch m ≠ 0 then [m] else []), by rw [hR]; simp⟩
theorem st_cl_m (ch : Nat → Int32) : ∀ (d b : Nat), (st_cl ch b).length ≤ (st_cl ch (b + d)).length := by
  intro d
  induction d with
  | zero => intro b; exact Nat.le_refl _
  | succ d ih =>
    intro b
    refine Nat.le_trans (ih b) ?_
    rw [show b + (d + 1) = b + d + 1 from by omega, st_cl_s, List.length_append]
    omega
theorem st_cl_g (ch : Nat → Int32) {b : Nat} (hb : ch b ≠ 0) (h : b < 41) : (st_cl ch 41).getD (st_cl ch b).length 0 = b ∧ (st_cl ch b).length < (st_cl ch 41).length := by
  obtain ⟨R, hR⟩ := st_cl_x ch hb 41 h
  rw [hR]
  refine ⟨?_, by simp⟩
  rw [List.getD_eq_getElem?_getD, tw_mid]
  rfl
def sv_mk (u0 : SX) (wl gr : Int32) (im rw gp : Nat → Int32) : SX := (wl, xg_half u0, gr, xg_upKey u0, xg_upNode u0, xg_waiting u0, xg_wrong u0, xg_seenNodes u0, xg_seenKeys u0, xg_disk u0, im, rw, xg_anchors u0, xg_copies u0, xg_loaded u0, xg_changed u0, xg_imageOf u0, xg_rowAt u0, xg_rowsUsed u0, xg_imageAt u0, xg_imagesUsed u0, xg_nextSaving u0, xg_anchorNumber u0, xg_selected u0, xg_viewLength u0, xg_view u0, gp, xg_wayNode u0, xg_waySlot u0, xg_wideKey u0, xg_wideItem u0, xg_walkNode u0, xg_walkLevel u0, xg_walkLow u0, xg_walkHigh u0)
theorem sv_1 (u0 : SX) (wl gr a : Int32) (im rw gp im' : Nat → Int32) : xs_images (xs_writesLeft (sv_mk u0 wl gr im rw gp) a) im' = sv_mk u0 a gr im' rw gp := rfl
theorem sv_2 (u0 : SX) (wl gr a : Int32) (im rw gp rw' : Nat → Int32) : xs_rows (xs_writesLeft (sv_mk u0 wl gr im rw gp) a) rw' = sv_mk u0 a gr im rw' gp := rfl
theorem sv_3 (u0 : SX) (wl gr a : Int32) (im rw gp gp' : Nat → Int32) : xs_group (xs_grouped (sv_mk u0 wl gr im rw gp) a) gp' = sv_mk u0 wl a im rw gp' := rfl
theorem sv_4 (u0 : SX) (wl gr a : Int32) (im rw gp : Nat → Int32) : xs_grouped (sv_mk u0 wl gr im rw gp) a = sv_mk u0 wl a im rw gp := rfl
theorem sv_5 (u : SX) : xs_grouped u 0 = sv_mk u (xg_writesLeft u) 0 (xg_images u) (xg_rows u) (xg_group u) := rfl
def sv_im (u0 : SX) (s p : Nat) (fl : Prop) (nb : Nat) (im : Nat → Int32) : Prop :=
  (∀ s', s' ≠ s → ms_v2 48 8 im s' = xv_im u0 s') ∧ (∀ j, (∀ i, i < nb → j ≠ (p + i) % 48) → ms_v2 48 8 im s j = xv_im u0 s j) ∧ (fl → ∀ i, i < nb → ms_v2 48 8 im s ((p + i) % 48) = xv_cp u0 s ((st_cl (xv_ch u0 s) 41).getD i 0))
def sv_rw (u0 : SX) (s rr q : Nat) (fl : Prop) (row : Nat) (rw : Nat → Int32) : Prop :=
  (∀ s', s' ≠ s → ms_v2 14 8 rw s' = xv_rw u0 s') ∧ (∀ j, (∀ k, k < row → j ≠ (rr + k) % 14) → ms_v2 14 8 rw s j = xv_rw u0 s j) ∧ (∀ j, ms_v2 14 8 rw s j = xv_rw u0 s j ∨ (ms_v2 14 8 rw s j 0 = 1 ∧ (ms_v2 14 8 rw s j 7 = xv_rw u0 s j 7 ∨ ms_v2 14 8 rw s j 7 = nI q))) ∧ (fl → ∀ k, k < row → st_rowL (ms_v2 14 8 rw s) rr q (st_cl (xv_ch u0 s) 41) k)
def sv_gr (u0 : SX) (s n : Nat) (fl : Prop) (nb row : Nat) (gr : Int32) (gp : Nat → Int32) : Prop :=
  (nb < n ∧ row = nb / 4 ∧ gr = nI (nb % 4) ∧ (fl → ∀ i, i < nb % 4 → gp i = nI ((st_cl (xv_ch u0 s) 41).getD (4 * row + i) 0))) ∨ (nb = n ∧ row = (n + 3) / 4 ∧ gr = 0)
theorem st_rowL_fr {v v' : ms_B} {r q k : Nat} {S : List Nat} (h : st_rowL v r q S k) (e : v' ((r + k) % 14) = v ((r + k) % 14)) : st_rowL v' r q S k := by
  unfold st_rowL; rw [e]; exact h
section
variable {post : SX → Prop} {u0 : SX} {s i0 len r0 ru q n w0 : Nat} {fl : Prop}
theorem sv_list (hs : s < 4) (h1 : xg_rowAt u0 s = nI r0) (h2 : xg_rowsUsed u0 s = nI ru) (h3 : xg_nextSaving u0 s = nI q) (hr0 : r0 < 14) (hfl : fl → xg_half u0 = 0 ∧ w0 = 1000) (hw0 : w0 ≤ 1000) (hr : ru + ((n + 3) / 4 + 1) ≤ 14) (hn : n = (st_cl (xv_ch u0 s) 41).length)
    {nb row : Nat} {im rw gp : Nat → Int32} {pr : Int32} (er : pr = nI row) (hrow : row = nb / 4) (hnb : nb < n) (hlast : nb % 4 = 3 ∨ nb + 1 = n) (hrw : sv_rw u0 s (r0 + ru) q fl row rw)
    (hgp : fl → ∀ i, i < nb % 4 + 1 → gp i = nI ((st_cl (xv_ch u0 s) 41).getD (4 * row + i) 0))
    (k : ∀ rw', sv_rw u0 s (r0 + ru) q fl (row + 1) rw' → post (sv_mk u0 (nI (w0 - (nb + 1 + (row + 1)))) (nI (nb % 4 + 1)) im rw' gp)) :
    wpX_writeList post (sv_mk u0 (nI (w0 - (nb + 1 + row))) (nI (nb % 4 + 1)) im rw gp) (nI s) pr := by
  obtain ⟨a1, a2, a3, a4⟩ := hrw
  have eidx : r0 + (ru + row) = r0 + ru + row := by omega
  refine wr_list (u := sv_mk u0 (nI (w0 - (nb + 1 + row))) (nI (nb % 4 + 1)) im rw gp) (wl := w0 - (nb + 1 + row)) hs rfl er h1 h2 h3 hr0 (by omega) (by omega) rfl (by omega) (fun h0 => ?_) (fun rw' hge b1 b2 b3 b4 b5 => ?_)
  · have hk := k rw ⟨a1, fun j hj => a2 j (fun k hk => hj k (by omega)), a3, fun f => ?_⟩
    · rw [show w0 - (nb + 1 + (row + 1)) = w0 - (nb + 1 + row) from by omega] at hk
      exact hk
    · have := (hfl f).2
      have h41 := st_cl_l (xv_ch u0 s) 41
      omega
  · rw [eidx] at b2 b3 b4 b5
    rw [sv_2]
    have hk := k rw' ⟨fun s' e => (b1 s' e).trans (a1 s' e), fun j hj => ?_, fun j => ?_, fun f => ?_⟩
    · rw [show w0 - (nb + 1 + (row + 1)) = w0 - (nb + 1 + row) - 1 from by omega] at hk
      exact hk
    · exact (b2 j (hj row (by omega))).trans (a2 j (fun k hk => hj k (by omega)))
    · by_cases e : j = (r0 + ru + row) % 14
      · right
        subst e
        refine ⟨b3, ?_⟩
        rcases b4 with h | h
        · left
          rw [h]
          refine congrFun (a2 _ (fun k hk => ?_)) 7
          omega
        · exact Or.inr h
      · have h := b2 j e
        have h' : ms_v2 14 8 rw' s j = ms_v2 14 8 rw s j := h
        rw [h']
        exact a3 j
    · intro k' hk'
      by_cases e : k' = row
      · subst e
        obtain ⟨c1, c2, c3, c4⟩ := b5 (hfl f).1
        refine ⟨b3, c1, ?_, c4, fun j hj hlt => ?_⟩
        · rw [c2, ← hn]
          show nI (nb % 4 + 1) = _
          congr 1
          omega
        · rw [c3 j hj]
          exact hgp f j (by omega)
      · refine st_rowL_fr (a4 f k' (by omega)) (b2 _ ?_)
        omega
theorem sv_loop (hs : s < 4) (h1 : xg_rowAt u0 s = nI r0) (h2 : xg_rowsUsed u0 s = nI ru) (h3 : xg_nextSaving u0 s = nI q) (h4 : xg_imageAt u0 s = nI i0) (h5 : xg_imagesUsed u0 s = nI len) (hr0 : r0 < 14) (hi0 : i0 < 48) (hfl : fl → xg_half u0 = 0 ∧ w0 = 1000) (hw0 : w0 ≤ 1000) (hr : ru + ((n + 3) / 4 + 1) ≤ 14) (hi : len + n ≤ 48) (hn : n = (st_cl (xv_ch u0 s) 41).length)
    (k : ∀ (gr : Int32) (im rw gp : Nat → Int32), sv_im u0 s (i0 + len) fl n im → sv_rw u0 s (r0 + ru) q fl ((n + 3) / 4) rw → wpX_writeCounts (fun u3 => post u3) (sv_mk u0 (nI (w0 - (n + (n + 3) / 4))) gr im rw gp) (nI s) (nI ((n + 3) / 4)) (nI n)) :
    ∀ (d b row : Nat) (gr : Int32) (im rw gp : Nat → Int32), b + d = 41 → sv_im u0 s (i0 + len) fl (st_cl (xv_ch u0 s) b).length im → sv_rw u0 s (r0 + ru) q fl row rw → sv_gr u0 s n fl (st_cl (xv_ch u0 s) b).length row gr gp →
    xc_writeSaving_13 post (nI s) (nI n) (d + 1) (nI (st_cl (xv_ch u0 s) b).length) (nI row) (nI b) (sv_mk u0 (nI (w0 - ((st_cl (xv_ch u0 s) b).length + row))) gr im rw gp) := by
  intro d
  induction d with
  | zero =>
    intro b row gr im rw gp hb him hrw hgr
    have hb41 : b = 41 := by omega
    subst hb41
    rw [xe_writeSaving_13]
    refine br_t (by decide) ?_
    rw [← hn] at him hgr ⊢
    rcases hgr with ⟨h, _⟩ | ⟨_, rfl, _⟩
    · omega
    · exact k gr im rw gp him hrw
  | succ d ih =>
    intro b row gr im rw gp hb him hrw hgr
    have hb41 : b < 41 := by omega
    have e : xg_changed u0 (41 * s + b) = xv_ch u0 s b := (ms_v1_g _ _ hb41).symm
    have e' : ∀ wl gr im rw gp, xg_changed (sv_mk u0 wl gr im rw gp) (41 * s + b) = xv_ch u0 s b := fun _ _ _ _ _ => e
    rw [xe_writeSaving_13, na_g, nI_clamp (n := 41 * s + b) (by omega)]
    refine br_f (na_nle (a := 41) (b := b) rfl rfl (by omega) (by omega)) ⟨vp_in_nI (by omega) (by omega), ?_⟩
    rw [e']
    refine br_c (fun h0 => ?_) (fun hne => ?_)
    · rw [xe_writeSaving_67, na_g, nI_clamp (n := 41 * s + b) (by omega), e']
      refine ⟨vp_in_nI (by omega) (by omega), br_t h0 (nm_r (nI_1 b) ?_)⟩
      have ecl : st_cl (xv_ch u0 s) (b + 1) = st_cl (xv_ch u0 s) b := by rw [st_cl_s, if_neg (by simp [h0]), List.append_nil]
      have h := ih (b + 1) row gr im rw gp (by omega)
      rw [ecl] at h
      exact h him hrw hgr
    · obtain ⟨g1, g2⟩ := st_cl_g (xv_ch u0 s) hne hb41
      rw [← hn] at g2
      have ecl : (st_cl (xv_ch u0 s) (b + 1)).length = (st_cl (xv_ch u0 s) b).length + 1 := by rw [st_cl_s, if_pos hne, List.length_append]; rfl
      have ih' := fun row gr im rw gp => ih (b + 1) row gr im rw gp (by omega)
      rw [ecl] at ih'
      generalize (st_cl (xv_ch u0 s) b).length = nb at g1 g2 him hgr ih' ⊢
      obtain ⟨_, hrow, rfl, hgp⟩ : nb < n ∧ row = nb / 4 ∧ gr = nI (nb % 4) ∧ (fl → ∀ i, i < nb % 4 → gp i = nI ((st_cl (xv_ch u0 s) 41).getD (4 * row + i) 0)) := by
        rcases hgr with h | ⟨h, _⟩
        · exact h
        · omega
      have h41 := st_cl_l (xv_ch u0 s) 41
      have hcont : ∀ im1, sv_im u0 s (i0 + len) fl (nb + 1) im1 → (fun u85 => (vp_in (xg_grouped u85) 4 ∧ ∀ a_group_121, a_group_121 = upd (xg_group u85) (xg_grouped u85).toNatClampNeg (nI b) → (∀ f_grouped_122, f_grouped_122 = (xg_grouped u85) + 1 → (∀ x3_123, x3_123 = nI nb + 1 → (xc_writeSaving_67 post (xc_writeSaving_13 post (nI s) (nI n) (d + 1)) (nI s) (nI n) x3_123 (nI row) (nI b) (xs_group (xs_grouped u85 f_grouped_122) a_group_121)))))) (sv_mk u0 (nI (w0 - (nb + 1 + row))) (nI (nb % 4)) im1 rw gp) := by
        intro im1 him1
        have hmod : nb % 4 < 4 := Nat.mod_lt _ (by omega)
        refine ⟨vp_in_nI hmod (by omega), nm_e (nm_r (e' := nI (nb % 4 + 1)) (nI_1 _) (nm_r (nI_1 nb) ?_))⟩
        rw [show (xg_grouped (sv_mk u0 (nI (w0 - (nb + 1 + row))) (nI (nb % 4)) im1 rw gp)).toNatClampNeg = nb % 4 from nI_clamp (by omega), sv_3]
        have hgp1 : fl → ∀ i, i < nb % 4 + 1 → upd gp (nb % 4) (nI b) i = nI ((st_cl (xv_ch u0 s) 41).getD (4 * row + i) 0) := by
          intro f i hi
          by_cases ei : i = nb % 4
          · subst ei
            rw [pk_us, show 4 * row + nb % 4 = nb from by omega, g1]
          · rw [pk_un ei]; exact hgp f i (by omega)
        rw [xe_writeSaving_67, na_g, nI_clamp (n := 41 * s + b) (by omega), e']
        refine ⟨vp_in_nI (by omega) (by omega), br_f hne ?_⟩
        have h95 : (nb % 4 = 3 ∨ nb + 1 = n) → xc_writeSaving_95 post (xc_writeSaving_13 post (nI s) (nI n) (d + 1)) (nI s) (nI n) (nI (nb + 1)) (nI row) (nI b) (sv_mk u0 (nI (w0 - (nb + 1 + row))) (nI (nb % 4 + 1)) im1 rw (upd gp (nb % 4) (nI b))) := by
          intro hlast
          rw [xe_writeSaving_95]
          refine sv_list hs h1 h2 h3 hr0 hfl hw0 hr hn rfl hrow g2 hlast hrw hgp1 (fun rw' hrw' => nm_r (nI_1 row) (nm_r (nI_1 b) ?_))
          rw [sv_4]
          refine ih' (row + 1) 0 im1 rw' _ him1 hrw' ?_
          by_cases hend : nb + 1 = n
          · exact Or.inr ⟨hend, by omega, rfl⟩
          · refine Or.inl ⟨by omega, by omega, ?_, fun _ i hi => ?_⟩
            · rw [show (nb + 1) % 4 = 0 from by omega]; rfl
            · omega
        refine pk_eq (nb % 4 + 1) 4 (fun h => h95 (Or.inl (by omega))) (fun hn4 => ?_)
        refine pk_eq (nb + 1) n (fun h => h95 (Or.inr h)) (fun hnn => nm_r (nI_1 b) ?_)
        refine ih' row (nI (nb % 4 + 1)) im1 rw _ him1 hrw (Or.inl ⟨by omega, by omega, ?_, fun f i hi => hgp1 f i (by omega)⟩)
        rw [show (nb + 1) % 4 = nb % 4 + 1 from by omega]
      obtain ⟨m1, m2, m3⟩ := him
      refine wi_walk (u := sv_mk u0 (nI (w0 - (nb + row))) (nI (nb % 4)) im rw gp) (wl := w0 - (nb + row)) hs hb41 rfl rfl rfl h4 h5 hi0 (by omega) (by omega) rfl (by omega) (fun h0 => ?_) (fun im' hge c1 c2 c3 => ?_)
      · have hc := hcont im ⟨m1, fun j hj => m2 j (fun i hi => hj i (by omega)), fun f => ?_⟩
        · rw [show w0 - (nb + 1 + row) = w0 - (nb + row) from by omega] at hc
          exact hc
        · have := (hfl f).2
          omega
      · rw [sv_1]
        have hc := hcont im' ⟨fun s' e => (c1 s' e).trans (m1 s' e), fun j hj => (c2 j (hj nb (by omega))).trans (m2 j (fun i hi => hj i (by omega))), fun f i hi => ?_⟩
        · rw [show w0 - (nb + 1 + row) = w0 - (nb + row) - 1 from by omega] at hc
          exact hc
        · by_cases ei : i = nb
          · subst ei
            rw [g1]
            exact c3 (hfl f).1
          · refine (c2 _ ?_).trans (m3 f i (by omega))
            omega
theorem sv_saving {ps pn : Int32} {u : SX} (hs : s < 4) (es : ps = nI s) (en : pn = nI n) (h1 : xg_rowAt u s = nI r0) (h2 : xg_rowsUsed u s = nI ru) (h3 : xg_nextSaving u s = nI q) (h4 : xg_imageAt u s = nI i0) (h5 : xg_imagesUsed u s = nI len) (hr0 : r0 < 14) (hi0 : i0 < 48) (hwl : xg_writesLeft u = nI w0) (hfl : fl → xg_half u = 0 ∧ w0 = 1000) (hw0 : w0 ≤ 1000) (hr : ru + ((n + 3) / 4 + 1) ≤ 14) (hi : len + n ≤ 48) (hn : n = (st_cl (xv_ch u s) 41).length) (hn1 : 1 ≤ n)
    (k : ∀ (gr : Int32) (im rw gp : Nat → Int32), sv_im u s (i0 + len) fl n im → sv_rw u s (r0 + ru) q fl ((n + 3) / 4) rw → wpX_writeCounts (fun u3 => post u3) (sv_mk u (nI (w0 - (n + (n + 3) / 4))) gr im rw gp) (nI s) (nI ((n + 3) / 4)) (nI n)) : wpX_writeSaving post u ps pn := by
  subst es en
  rw [xe_writeSaving, sv_5, hwl]
  refine ⟨42, sv_loop hs h1 h2 h3 h4 h5 hr0 hi0 hfl hw0 hr hi hn k 41 0 0 0 (xg_images u) (xg_rows u) (xg_group u) rfl ⟨fun _ _ => rfl, fun _ _ => rfl, fun _ i hi => absurd hi (by simp [st_cl])⟩ ⟨fun _ _ => rfl, fun _ _ => rfl, fun _ => Or.inl rfl, fun _ k hk => absurd hk (by omega)⟩ (Or.inl ⟨by simp [st_cl]; omega, by simp [st_cl], by simp [st_cl]; rfl, fun _ i hi => absurd hi (by simp [st_cl])⟩)⟩
end
end
section
/-! the log grows by one saving; pure -/
theorem st_rD_app (im : ms_B) (C : List Nat) : ∀ (A : List Nat) (i : Nat) (D : ms_B), st_rD im i D (A ++ C) = st_rD im (i + A.length) (st_rD im i D A) C := by
  intro A
  induction A with
  | nil => intro i D; rfl
  | cons a A ih =>
    intro i D
    show st_rD im (i + 1) (ms_mK D a (im (i % 48))) (A ++ C) = _
    rw [ih, List.length_cons, show i + (A.length + 1) = i + 1 + A.length from by omega]
    rfl
theorem st_rD_im {im im' : ms_B} : ∀ (L : List Nat) (i : Nat) (D : ms_B), (∀ k, k < L.length → im' ((i + k) % 48) = im ((i + k) % 48)) → st_rD im' i D L = st_rD im i D L := by
  intro L
  induction L with
  | nil => intro i D _; rfl
  | cons a L ih =>
    intro i D h
    show st_rD im' (i + 1) (ms_mK D a (im' (i % 48))) L = st_rD im (i + 1) (ms_mK D a (im (i % 48))) L
    have h0 := h 0 (by simp)
    rw [Nat.add_zero] at h0
    rw [h0]
    refine ih (i + 1) _ (fun k hk => ?_)
    have h1 := h (k + 1) (by simp; omega)
    rw [show i + (k + 1) = i + 1 + k from by omega] at h1
    exact h1
theorem st_rD_c {im : ms_B} : ∀ (L : List Nat) (i : Nat) (D D' : ms_B), st_eq D D' → st_eq (st_rD im i D L) (st_rD im i D' L) := by
  intro L
  induction L with
  | nil => intro i D D' h; exact h
  | cons a L ih =>
    intro i D D' h
    refine ih (i + 1) _ _ (fun b c hb hc => ?_)
    by_cases e : b = a
    · subst e; rw [ms_mK_s, ms_mK_s]
    · rw [ms_mK_o _ _ e, ms_mK_o _ _ e]; exact h b c hb hc
theorem st_rD_at {im f : ms_B} : ∀ (L : List Nat) (p : Nat) (D : ms_B), L.Nodup → (∀ i, i < L.length → ∀ c, c < 8 → im ((p + i) % 48) c = f (L.getD i 0) c) → ∀ b c, c < 8 → (b ∈ L → st_rD im p D L b c = f b c) ∧ (¬ b ∈ L → st_rD im p D L b c = D b c) := by
  intro L
  induction L with
  | nil => intro p D _ _ b c _; exact ⟨fun h => absurd h (by simp), fun _ => rfl⟩
  | cons a L ih =>
    intro p D hd h b c hc
    rw [List.nodup_cons] at hd
    have h' := ih (p + 1) (ms_mK D a (im (p % 48))) hd.2 (fun i hi c hc => by
      have h1 := h (i + 1) (by simp; omega) c hc
      rw [show p + (i + 1) = p + 1 + i from by omega] at h1
      exact h1) b c hc
    have h0 := h 0 (by simp) c hc
    constructor
    · intro hb
      by_cases hbL : b ∈ L
      · exact h'.1 hbL
      · have hba : b = a := by
          rcases List.mem_cons.mp hb with h | h
          · exact h
          · exact absurd h hbL
        subst hba
        show st_rD im (p + 1) (ms_mK D b (im (p % 48))) L b c = _
        rw [h'.2 hbL, ms_mK_s]
        exact h0
    · intro hb
      show st_rD im (p + 1) (ms_mK D a (im (p % 48))) L b c = _
      rw [h'.2 (fun z => hb (List.mem_cons_of_mem _ z)), ms_mK_o _ _ (fun e => hb (by simp [e]))]
theorem st_Rows_app (rw : ms_B) (S : List Nat) : ∀ (LS : List (List Nat)) (r q : Nat), st_Rows rw r q LS → st_Rows rw (r + st_rn LS) (q + LS.length) [S] → st_Rows rw r q (LS ++ [S]) := by
  intro LS
  induction LS with
  | nil => intro r q _ h; exact h
  | cons A LS ih =>
    rintro r q ⟨h1, h2⟩ h3
    refine ⟨h1, ih _ _ h2 ?_⟩
    rw [show r + st_nl A + 1 + st_rn LS = r + st_rn (A :: LS) from by simp [st_rn]; omega, show q + 1 + LS.length = q + (A :: LS).length from by simp; omega]
    exact h3
theorem st_Rows_fr {rw rw' : ms_B} : ∀ (LS : List (List Nat)) (r q : Nat), st_Rows rw r q LS → (∀ k, k < st_rn LS → rw' ((r + k) % 14) = rw ((r + k) % 14)) → st_Rows rw' r q LS := by
  intro LS
  induction LS with
  | nil => intro r q _ _; trivial
  | cons A LS ih =>
    rintro r q ⟨⟨a1, a2, a3, a4, a5⟩, h2⟩ h
    refine ⟨⟨a1, a2, a3, fun k hk => st_rowL_fr (a4 k hk) (h k (by simp [st_rn]; omega)), ?_⟩, ih _ _ h2 (fun k hk => ?_)⟩
    · have := h (st_nl A) (by simp [st_rn]; omega)
      unfold st_rowC
      rw [this]; exact a5
    · have := h (st_nl A + 1 + k) (by simp [st_rn]; omega)
      rw [show r + (st_nl A + 1 + k) = r + st_nl A + 1 + k from by omega] at this
      exact this
theorem st_rn_app (S : List Nat) : ∀ LS, st_rn (LS ++ [S]) = st_rn LS + (st_nl S + 1) := by
  intro LS
  induction LS with
  | nil => simp [st_rn]
  | cons A LS ih => simp only [List.cons_append, st_rn, ih]; omega
theorem st_cl_nd (ch : Nat → Int32) (n : Nat) : (st_cl ch n).Nodup := List.Pairwise.filter _ List.nodup_range
theorem st_cl_mem (ch : Nat → Int32) (n b : Nat) : b ∈ st_cl ch n ↔ b < n ∧ ch b ≠ 0 := by
  unfold st_cl
  rw [List.mem_filter, List.mem_range, decide_eq_true_iff]
theorem st_congr {K : Nat} {d : Prop} {V V' M : ms_B} {u : SX} {s : Nat} (h : st_Bx K d V M u s) (e : st_eq V V') : st_Bx K d V' M u s := by
  obtain ⟨N, r0, i0, q0, LS, ⟨p1, p2, p3, p4, p5⟩, ⟨v1, v2⟩, hC⟩ := h
  refine ⟨N, r0, i0, q0, LS, ⟨p1, p2, p3, p4, fun b c hb hc => (p5 b c hb hc).trans (e b c hb hc)⟩, ⟨v1, fun b hb => ?_⟩, fun b hb => ?_⟩
  · rcases v2 b hb with ⟨a1, a2⟩ | ⟨i, a1, a2, a3⟩
    · exact Or.inl ⟨a1, fun c hc => (a2 c hc).trans (e b c hb hc)⟩
    · exact Or.inr ⟨i, a1, a2, fun c hc => (a3 c hc).trans (e b c hb hc)⟩
  · obtain ⟨c1, c2, c3, c4⟩ := hC b hb
    exact ⟨c1, c2, fun h c hc => (c3 h c hc).trans (e b c hb hc), c4⟩
theorem st_clean {K : Nat} {d d' : Prop} {V M : ms_B} {u : SX} {s : Nat} (h : st_Bx K d V M u s) (hd : ¬ d) : st_Bx K d' V M u s := by
  obtain ⟨N, r0, i0, q0, LS, hP, hV, hC⟩ := h
  refine ⟨N, r0, i0, q0, LS, hP, hV, fun b hb => ?_⟩
  obtain ⟨c1, c2, c3, c4⟩ := hC b hb
  exact ⟨c1, c2, c3, fun _ => c4 hd⟩
/-- the log with one more saving -/
theorem st_grow {K N r0 i0 q0 : Nat} {LS : List (List Nat)} {d : Prop} {V M dk im im' rw rw' an cp : ms_B} {ld ch io io' : Nat → Int32} {ra ru ia iu ns ac : Int32} {CL : List Nat}
    (hP : st_Pers K V dk im rw an N r0 i0 q0 LS) (hV : st_Vol V dk im io ra ru ia iu ns ac N r0 i0 q0 LS) (hC : st_Cache d V M cp ld ch) (eCL : CL = st_cl ch 41) (h1 : 1 ≤ CL.length) (hr : st_rn LS + (st_nl CL + 1) ≤ 14) (hi : LS.flatten.length + CL.length ≤ 48)
    (i1 : ∀ j, (∀ i, i < CL.length → j ≠ (i0 + LS.flatten.length + i) % 48) → im' j = im j) (i2 : ∀ i, i < CL.length → im' ((i0 + LS.flatten.length + i) % 48) = cp (CL.getD i 0))
    (w1 : ∀ j, (∀ k, k < st_nl CL + 1 → j ≠ (r0 + st_rn LS + k) % 14) → rw' j = rw j) (w2 : ∀ k, k < st_nl CL → st_rowL rw' (r0 + st_rn LS) (q0 + LS.length) CL k) (w3 : st_rowC rw' (r0 + st_rn LS + st_nl CL) (q0 + LS.length)) (w4 : ∀ j, j < 14 → rw' j 7 = rw j 7 ∨ rw' j 7 = nI (q0 + LS.length))
    (j1 : ∀ b, b < 41 → ch b = 0 → io' b = io b) (j2 : ∀ b, b < 41 → ch b ≠ 0 → io' b = nI ((i0 + LS.flatten.length + (st_cl ch b).length) % 48)) :
    st_Pers (K + 1) M dk im' rw' an N r0 i0 q0 (LS ++ [CL]) ∧ st_Vol M dk im' io' ra (nI (st_rn LS + (st_nl CL + 1))) ia (nI (LS.flatten.length + CL.length)) (nI (q0 + LS.length + 1)) ac N r0 i0 q0 (LS ++ [CL]) ∧ st_Cache False M M cp ld (fun _ => 0) := by
  obtain ⟨⟨n1, n2, n3⟩, ⟨c1, c2, c3, c4, c5, c6⟩, p3, p4, p5⟩ := hP
  obtain ⟨⟨v1, v2, v3, v4, v5, v6⟩, v7⟩ := hV
  have hfl : (LS ++ [CL]).flatten = LS.flatten ++ CL := by simp
  have hll : (LS ++ [CL]).length = LS.length + 1 := by simp
  have hMV : ∀ b c, b < 41 → c < 8 → ch b = 0 → M b c = V b c := fun b c hb hc h => (hC b hb).2.2.1 h c hc
  have hMc : ∀ b c, b < 41 → c < 8 → ch b ≠ 0 → M b c = cp b c := fun b c hb hc h => (hC b hb).1 (fun e => h ((hC b hb).2.1 e)) c hc
  have himold : ∀ k, k < LS.flatten.length → im' ((i0 + k) % 48) = im ((i0 + k) % 48) := fun k hk => i1 _ (fun i hi' => by omega)
  have hgetD : ∀ i, i < CL.length → CL.getD i 0 ∈ CL := fun i hi' => by
    rw [List.getD_eq_getElem?_getD, List.getElem?_eq_getElem hi']
    exact List.getElem_mem hi'
  have hmem : ∀ b, b ∈ CL → b < 41 ∧ ch b ≠ 0 := fun b hb => (st_cl_mem ch 41 b).mp (by rw [← eCL]; exact hb)
  refine ⟨⟨⟨n1, by omega, n3⟩, ⟨c1, c2, by rw [st_rn_app]; omega, by rw [hfl, List.length_append]; omega, c5, by rw [hll]; omega⟩, ?_, fun j hj => ?_, ?_⟩, ⟨⟨v1, v2, v3, by rw [st_rn_app], by rw [hfl, List.length_append], by rw [hll]; rfl⟩, fun b hb => ?_⟩, fun b hb => ?_⟩
  · refine st_Rows_app _ _ _ _ _ (st_Rows_fr LS _ _ p3 (fun k hk => w1 _ (fun k' hk' => by omega))) ⟨⟨fun e => by rw [e] at h1; simp at h1, ?_, fun b hb => (hmem b hb).1, w2, w3⟩, trivial⟩
    rw [eCL]; exact st_cl_l ch 41
  · obtain ⟨m, m1, m2, m3⟩ := p4 j hj
    rw [hll]
    rcases w4 j hj with h | h
    · exact ⟨m, h.trans m1, by omega, fun _ => by omega⟩
    · exact ⟨q0 + LS.length, h, by omega, fun _ => by omega⟩
  · intro b c hb hc
    rw [hfl, st_rD_app, st_rD_im _ _ _ himold]
    have hA := st_rD_at (im := im') (f := cp) CL (i0 + LS.flatten.length) (st_rD im i0 dk LS.flatten) (by rw [eCL]; exact st_cl_nd ch 41) (fun i hi' c hc' => by rw [i2 i hi']) b c hc
    by_cases h : b ∈ CL
    · rw [hA.1 h, hMc b c hb hc (hmem b h).2]
    · rw [hA.2 h]
      have h0 : ch b = 0 := Classical.byContradiction (fun z => h (by rw [eCL]; exact (st_cl_mem ch 41 b).mpr ⟨hb, z⟩))
      rw [hMV b c hb hc h0]
      exact p5 b c hb hc
  · by_cases h0 : ch b = 0
    · rw [j1 b hb h0]
      rcases v7 b hb with ⟨a1, a2⟩ | ⟨i, a1, a2, a3⟩
      · exact Or.inl ⟨a1, fun c hc => by rw [hMV b c hb hc h0]; exact a2 c hc⟩
      · refine Or.inr ⟨i, by rw [hfl, List.length_append]; omega, a2, fun c hc => ?_⟩
        rw [himold i a1, hMV b c hb hc h0]
        exact a3 c hc
    · obtain ⟨g1, g2⟩ := st_cl_g ch h0 hb
      rw [← eCL] at g1 g2
      refine Or.inr ⟨LS.flatten.length + (st_cl ch b).length, by rw [hfl, List.length_append]; omega, ?_, fun c hc => ?_⟩
      · rw [j2 b hb h0, Nat.add_assoc]
      · rw [← Nat.add_assoc, i2 _ g2, g1, hMc b c hb hc h0]
  · obtain ⟨e1, e2, e3, e4⟩ := hC b hb
    exact ⟨e1, fun _ => rfl, fun _ _ _ => rfl, fun _ => rfl⟩
end
section
/-! save -/
def sl_mk (u : SX) (ch io : Nat → Int32) : SX := (xg_writesLeft u, xg_half u, xg_grouped u, xg_upKey u, xg_upNode u, xg_waiting u, xg_wrong u, xg_seenNodes u, xg_seenKeys u, xg_disk u, xg_images u, xg_rows u, xg_anchors u, xg_copies u, xg_loaded u, ch, io, xg_rowAt u, xg_rowsUsed u, xg_imageAt u, xg_imagesUsed u, xg_nextSaving u, xg_anchorNumber u, xg_selected u, xg_viewLength u, xg_view u, xg_group u, xg_wayNode u, xg_waySlot u, xg_wideKey u, xg_wideItem u, xg_walkNode u, xg_walkLevel u, xg_walkLow u, xg_walkHigh u)
def sl_fin (u : SX) (ch io : Nat → Int32) (s : Nat) (a b c : Int32) : SX := (xg_writesLeft u, xg_half u, xg_grouped u, xg_upKey u, xg_upNode u, xg_waiting u, xg_wrong u, xg_seenNodes u, xg_seenKeys u, xg_disk u, xg_images u, xg_rows u, xg_anchors u, xg_copies u, xg_loaded u, ch, io, xg_rowAt u, upd (xg_rowsUsed u) s a, xg_imageAt u, upd (xg_imagesUsed u) s b, upd (xg_nextSaving u) s c, xg_anchorNumber u, xg_selected u, xg_viewLength u, xg_view u, xg_group u, xg_wayNode u, xg_waySlot u, xg_wideKey u, xg_wideItem u, xg_walkNode u, xg_walkLevel u, xg_walkLow u, xg_walkHigh u)
theorem sl_1 (u : SX) (ch io a b : Nat → Int32) : xs_imageOf (xs_changed (sl_mk u ch io) a) b = sl_mk u a b := rfl
theorem sl_2 (u : SX) : u = sl_mk u (xg_changed u) (xg_imageOf u) := rfl
theorem sl_g1 (u : SX) (ch io : Nat → Int32) : xg_changed (sl_mk u ch io) = ch := rfl
theorem sl_g2 (u : SX) (ch io : Nat → Int32) : xg_imageOf (sl_mk u ch io) = io := rfl
theorem sl_g3 (u : SX) (ch io : Nat → Int32) : xg_imageAt (sl_mk u ch io) = xg_imageAt u := rfl
theorem sl_g4 (u : SX) (ch io : Nat → Int32) : xg_imagesUsed (sl_mk u ch io) = xg_imagesUsed u := rfl
theorem sl_g5 (u : SX) (ch io : Nat → Int32) : xg_rowsUsed (sl_mk u ch io) = xg_rowsUsed u := rfl
theorem sl_g6 (u : SX) (ch io : Nat → Int32) : xg_nextSaving (sl_mk u ch io) = xg_nextSaving u := rfl
theorem sw_dk (v : SX) (wl gr : Int32) (im rw gp : Nat → Int32) (s : Nat) : xv_dk (sv_mk v wl gr im rw gp) s = xv_dk v s := rfl
theorem sw_an (v : SX) (wl gr : Int32) (im rw gp : Nat → Int32) (s : Nat) : xv_an (sv_mk v wl gr im rw gp) s = xv_an v s := rfl
theorem sw_cp (v : SX) (wl gr : Int32) (im rw gp : Nat → Int32) (s : Nat) : xv_cp (sv_mk v wl gr im rw gp) s = xv_cp v s := rfl
theorem sw_ld (v : SX) (wl gr : Int32) (im rw gp : Nat → Int32) (s : Nat) : xv_ld (sv_mk v wl gr im rw gp) s = xv_ld v s := rfl
theorem sw_ch (v : SX) (wl gr : Int32) (im rw gp : Nat → Int32) (s : Nat) : xv_ch (sv_mk v wl gr im rw gp) s = xv_ch v s := rfl
theorem sw_io (v : SX) (wl gr : Int32) (im rw gp : Nat → Int32) (s : Nat) : xv_io (sv_mk v wl gr im rw gp) s = xv_io v s := rfl
theorem sw_im (v : SX) (wl gr : Int32) (im rw gp : Nat → Int32) (s : Nat) : xv_im (sv_mk v wl gr im rw gp) s = ms_v2 48 8 im s := rfl
theorem sw_rw (v : SX) (wl gr : Int32) (im rw gp : Nat → Int32) (s : Nat) : xv_rw (sv_mk v wl gr im rw gp) s = ms_v2 14 8 rw s := rfl
theorem sw_rowAt (v : SX) (wl gr : Int32) (im rw gp : Nat → Int32) : xg_rowAt (sv_mk v wl gr im rw gp) = xg_rowAt v := rfl
theorem sw_rowsUsed (v : SX) (wl gr : Int32) (im rw gp : Nat → Int32) : xg_rowsUsed (sv_mk v wl gr im rw gp) = xg_rowsUsed v := rfl
theorem sw_imageAt (v : SX) (wl gr : Int32) (im rw gp : Nat → Int32) : xg_imageAt (sv_mk v wl gr im rw gp) = xg_imageAt v := rfl
theorem sw_imagesUsed (v : SX) (wl gr : Int32) (im rw gp : Nat → Int32) : xg_imagesUsed (sv_mk v wl gr im rw gp) = xg_imagesUsed v := rfl
theorem sw_nextSaving (v : SX) (wl gr : Int32) (im rw gp : Nat → Int32) : xg_nextSaving (sv_mk v wl gr im rw gp) = xg_nextSaving v := rfl
theorem sw_anchorNumber (v : SX) (wl gr : Int32) (im rw gp : Nat → Int32) : xg_anchorNumber (sv_mk v wl gr im rw gp) = xg_anchorNumber v := rfl
theorem sw_T (v : SX) (wl gr : Int32) (im rw gp : Nat → Int32) : ms_T (sv_mk v wl gr im rw gp) = ms_T v := rfl
theorem sw_Y (v : SX) (wl gr : Int32) (im rw gp : Nat → Int32) : ms_Y (sv_mk v wl gr im rw gp) = ms_Y v := rfl
theorem sw_X (v : SX) (wl gr : Int32) (im rw gp : Nat → Int32) : ms_X (sv_mk v wl gr im rw gp) = ms_X v := rfl
theorem sw_S (v : SX) (wl gr : Int32) (im rw gp : Nat → Int32) (s : Nat) (h1 : ms_v2 48 8 im s = xv_im v s) (h2 : ms_v2 14 8 rw s = xv_rw v s) : st_S v (sv_mk v wl gr im rw gp) s := ⟨⟨rfl, h1, h2, rfl⟩, ⟨rfl, rfl, rfl, rfl, rfl, rfl, rfl⟩, rfl, rfl, rfl⟩
theorem sf_dk (u : SX) (ch io : Nat → Int32) (z : Nat) (a b c : Int32) (s : Nat) : xv_dk (sl_fin u ch io z a b c) s = xv_dk u s := rfl
theorem sf_im (u : SX) (ch io : Nat → Int32) (z : Nat) (a b c : Int32) (s : Nat) : xv_im (sl_fin u ch io z a b c) s = xv_im u s := rfl
theorem sf_rw (u : SX) (ch io : Nat → Int32) (z : Nat) (a b c : Int32) (s : Nat) : xv_rw (sl_fin u ch io z a b c) s = xv_rw u s := rfl
theorem sf_an (u : SX) (ch io : Nat → Int32) (z : Nat) (a b c : Int32) (s : Nat) : xv_an (sl_fin u ch io z a b c) s = xv_an u s := rfl
theorem sf_cp (u : SX) (ch io : Nat → Int32) (z : Nat) (a b c : Int32) (s : Nat) : xv_cp (sl_fin u ch io z a b c) s = xv_cp u s := rfl
theorem sf_ld (u : SX) (ch io : Nat → Int32) (z : Nat) (a b c : Int32) (s : Nat) : xv_ld (sl_fin u ch io z a b c) s = xv_ld u s := rfl
theorem sf_ch (u : SX) (ch io : Nat → Int32) (z : Nat) (a b c : Int32) (s : Nat) : xv_ch (sl_fin u ch io z a b c) s = ms_v1 41 ch s := rfl
theorem sf_io (u : SX) (ch io : Nat → Int32) (z : Nat) (a b c : Int32) (s : Nat) : xv_io (sl_fin u ch io z a b c) s = ms_v1 41 io s := rfl
theorem sf_rowAt (u : SX) (ch io : Nat → Int32) (z : Nat) (a b c : Int32) : xg_rowAt (sl_fin u ch io z a b c) = xg_rowAt u := rfl
theorem sf_imageAt (u : SX) (ch io : Nat → Int32) (z : Nat) (a b c : Int32) : xg_imageAt (sl_fin u ch io z a b c) = xg_imageAt u := rfl
theorem sf_anchorNumber (u : SX) (ch io : Nat → Int32) (z : Nat) (a b c : Int32) : xg_anchorNumber (sl_fin u ch io z a b c) = xg_anchorNumber u := rfl
theorem sf_rowsUsed (u : SX) (ch io : Nat → Int32) (z : Nat) (a b c : Int32) : xg_rowsUsed (sl_fin u ch io z a b c) = upd (xg_rowsUsed u) z a := rfl
theorem sf_imagesUsed (u : SX) (ch io : Nat → Int32) (z : Nat) (a b c : Int32) : xg_imagesUsed (sl_fin u ch io z a b c) = upd (xg_imagesUsed u) z b := rfl
theorem sf_nextSaving (u : SX) (ch io : Nat → Int32) (z : Nat) (a b c : Int32) : xg_nextSaving (sl_fin u ch io z a b c) = upd (xg_nextSaving u) z c := rfl
theorem sf_T (u : SX) (ch io : Nat → Int32) (z : Nat) (a b c : Int32) : ms_T (sl_fin u ch io z a b c) = ms_T u := rfl
theorem sf_Y (u : SX) (ch io : Nat → Int32) (z : Nat) (a b c : Int32) : ms_Y (sl_fin u ch io z a b c) = ms_Y u := rfl
theorem sf_X (u : SX) (ch io : Nat → Int32) (z : Nat) (a b c : Int32) : ms_X (sl_fin u ch io z a b c) = ms_X u := rfl
theorem sf_S (u : SX) (ch io : Nat → Int32) (z : Nat) (a b c : Int32) (s : Nat) (hs : s ≠ z) (h1 : ms_v1 41 ch s = xv_ch u s) (h2 : ms_v1 41 io s = xv_io u s) : st_S u (sl_fin u ch io z a b c) s := ⟨⟨rfl, rfl, rfl, rfl⟩, ⟨h2, rfl, pk_un hs, rfl, pk_un hs, pk_un hs, rfl⟩, rfl, rfl, h1⟩
theorem rf_walk {post : Int32 → Prop} {pn : Int32} {n : Nat} (en : pn = nI n) (hn : n ≤ 1000) (k : post (nI ((n + 3) / 4 + 1))) : wpX_rowsFor post pn := by
  subst en
  refine ⟨by decide, ?_⟩
  have e1 : ((nI n + 4) - 1) / 4 + 1 = nI ((n + 3) / 4 + 1) := by
    rw [na_q4, na_s1 (by omega), show n + 4 - 1 = n + 3 from by omega, show ((4 : Int32)) = nI 4 from rfl, pk_div (by omega) (by omega) (by omega), nI_1]
  rw [e1]
  exact k
theorem sl_loop {post : SX → Prop} {u1 : SX} {s i0 len ru q n : Nat} (hs : s < 4) (h4 : xg_imageAt u1 s = nI i0) (h5 : xg_imagesUsed u1 s = nI len) (h2 : xg_rowsUsed u1 s = nI ru) (h3 : xg_nextSaving u1 s = nI q) (hi0 : i0 < 48) (hlen : len ≤ 48) (hn : n ≤ 41)
    (k : ∀ ch io : Nat → Int32, (∀ s', s' ≠ s → ms_v1 41 ch s' = xv_ch u1 s') → (∀ s', s' ≠ s → ms_v1 41 io s' = xv_io u1 s') → (∀ b, b < 41 → ms_v1 41 ch s b = 0) → (∀ b, b < 41 → xv_ch u1 s b = 0 → ms_v1 41 io s b = xv_io u1 s b) → (∀ b, b < 41 → xv_ch u1 s b ≠ 0 → ms_v1 41 io s b = nI ((i0 + len + (st_cl (xv_ch u1 s) b).length) % 48)) → post (sl_fin u1 ch io s (nI (ru + ((n + 3) / 4 + 1))) (nI (len + n)) (nI (q + 1)))) :
    ∀ (d b : Nat) (ch io : Nat → Int32), b + d = 41 → (∀ s', s' ≠ s → ms_v1 41 ch s' = xv_ch u1 s') → (∀ s', s' ≠ s → ms_v1 41 io s' = xv_io u1 s') → (∀ b', b' < b → ms_v1 41 ch s b' = 0) → (∀ b', b ≤ b' → ms_v1 41 ch s b' = xv_ch u1 s b') → (∀ b', b' < 41 → (b ≤ b' ∨ xv_ch u1 s b' = 0) → ms_v1 41 io s b' = xv_io u1 s b') → (∀ b', b' < b → xv_ch u1 s b' ≠ 0 → ms_v1 41 io s b' = nI ((i0 + len + (st_cl (xv_ch u1 s) b').length) % 48)) →
    xc_save_43 post (nI s) (nI n) (d + 1) (nI (st_cl (xv_ch u1 s) b).length) (nI (41 * s + b)) (sl_mk u1 ch io) := by
  intro d
  induction d with
  | zero =>
    intro b ch io hb a1 a2 a3 a4 a5 a6
    have hb41 : b = 41 := by omega
    subst hb41
    rw [xe_save_43, na_m41, na_q41]
    refine br_t (Int32.le_refl _) ⟨vp_in_nI hs (by omega), vp_in_nI hs (by omega), ?_⟩
    rw [nI_clamp (n := s) (by omega), sl_g4, sl_g5, sl_g6, h5, h2, h3, nI_add, nI_1]
    refine nm_e ⟨vp_in_nI hs (by omega), ?_⟩
    refine rf_walk rfl (by omega) ⟨vp_in_nI hs (by omega), ?_⟩
    rw [nI_add]
    refine nm_e ⟨vp_in_nI hs (by omega), vp_in_nI hs (by omega), nm_e ?_⟩
    exact k ch io a1 a2 a3 (fun b hb h => a5 b hb (Or.inr h)) (fun b hb h => a6 b hb h)
  | succ d ih =>
    intro b ch io hb a1 a2 a3 a4 a5 a6
    have hb41 : b < 41 := by omega
    have e : ch (41 * s + b) = xv_ch u1 s b := (ms_v1_g ch s hb41).symm.trans (a4 b (Nat.le_refl _))
    rw [xe_save_43, na_m41, na_q41, nI_clamp (n := 41 * s + b) (by omega), sl_g1, sl_g2, sl_g3, sl_g4, e]
    refine br_f (nI_ge (by omega) (by omega)) ⟨vp_in_nI (by omega) (by omega), ?_⟩
    refine br_c (fun h0 => nm_r (nI_1 _) ?_) (fun hne => ?_)
    · have ecl : st_cl (xv_ch u1 s) (b + 1) = st_cl (xv_ch u1 s) b := by rw [st_cl_s, if_neg (by simp [h0]), List.append_nil]
      have h := ih (b + 1) ch io (by omega) a1 a2 (fun b' hb' => ?_) (fun b' hb' => a4 b' (by omega)) (fun b' hb' h => ?_) (fun b' hb' h => ?_)
      · rw [ecl] at h
        exact h
      · by_cases eb : b' = b
        · subst eb; rw [a4 b' (Nat.le_refl _)]; exact h0
        · exact a3 b' (by omega)
      · exact a5 b' hb' (h.elim (fun h => Or.inl (by omega)) Or.inr)
      · by_cases eb : b' = b
        · subst eb; exact absurd h0 h
        · exact a6 b' (by omega) h
    · have ecl : (st_cl (xv_ch u1 s) (b + 1)).length = (st_cl (xv_ch u1 s) b).length + 1 := by rw [st_cl_s, if_pos hne, List.length_append]; rfl
      have hcl := st_cl_l (xv_ch u1 s) b
      refine ⟨vp_in_nI (by omega) (by omega), nm_e ⟨vp_in_nI hs (by omega), vp_in_nI hs (by omega), by decide, vp_in_nI (by omega) (by omega), ?_⟩⟩
      rw [nI_clamp (n := s) (by omega), h4, h5, nI_add, nI_add]
      refine nm_r (e' := upd io (41 * s + b) (nI ((i0 + len + (st_cl (xv_ch u1 s) b).length) % 48))) (by rw [show (48 : Int32) = nI 48 from rfl, pk_rem (d := 48) (by omega) (by omega) (by omega)]) (nm_r (nI_1 _) (nm_r (nI_1 _) ?_))
      rw [sl_1]
      have h := ih (b + 1) (upd ch (41 * s + b) 0) (upd io (41 * s + b) (nI ((i0 + len + (st_cl (xv_ch u1 s) b).length) % 48))) (by omega) (fun s' e' => (ms_v1_o _ _ hb41 e').trans (a1 s' e')) (fun s' e' => (ms_v1_o _ _ hb41 e').trans (a2 s' e')) (fun b' hb' => ?_) (fun b' hb' => ?_) (fun b' hb' h => ?_) (fun b' hb' h => ?_)
      · rw [ecl] at h
        exact h
      · rw [ms_v1_u _ _ _ hb41]
        by_cases eb : b' = b
        · subst eb; exact pk_us
        · rw [pk_un eb]; exact a3 b' (by omega)
      · rw [ms_v1_u _ _ _ hb41, pk_un (by omega)]
        exact a4 b' (by omega)
      · rw [ms_v1_u _ _ _ hb41]
        have eb : b' ≠ b := by
          rintro rfl
          rcases h with h | h
          · omega
          · exact hne h
        rw [pk_un eb]
        exact a5 b' hb' (h.elim (fun h => Or.inl (by omega)) Or.inr)
      · rw [ms_v1_u _ _ _ hb41]
        by_cases eb : b' = b
        · subst eb; exact pk_us
        · rw [pk_un eb]; exact a6 b' (by omega) h
section
variable {K : Nat} {V M : ms_M} {t : ms_TT} {y : ms_YT} {x : ms_XT} {u : SX} {s : Nat}
theorem sl_all {K : Nat} {d : Prop} {V M : ms_B} {u : SX} {s : Nat} (h : st_Bx K d V M u s) (h0 : (st_cl (xv_ch u s) 41).length = 0) : st_Bx K False M M u s := by
  have hz : ∀ b, b < 41 → xv_ch u s b = 0 := fun b hb => Classical.byContradiction fun z => by
    have := (st_cl_mem (xv_ch u s) 41 b).mpr ⟨hb, z⟩
    rw [List.eq_nil_of_length_eq_zero h0] at this
    exact absurd this (by simp)
  have h2 := st_congr (V' := M) h (by
    obtain ⟨_, _, _, _, _, _, _, hC⟩ := h
    exact fun b c hb hc => ((hC b hb).2.2.1 (hz b hb) c hc).symm)
  obtain ⟨N, r0, i0, q0, LS, hP, hV, hC⟩ := h2
  refine ⟨N, r0, i0, q0, LS, hP, hV, fun b hb => ?_⟩
  obtain ⟨c1, c2, c3, c4⟩ := hC b hb
  exact ⟨c1, c2, c3, fun _ => hz b hb⟩
/-- save: what is there counts now -/
theorem sl_save {post : SX → Prop} {ps : Int32} (hR : ms_R K s V M t y x u) (hs : s < 4) (es : ps = nI s) (hK : K + 2 ≤ 100000) (k : ∀ u', ms_R (K + 2) 4 (ms_mB V s (M s)) M t y x u' → post u') : wpX_save post u ps := by
  subst es
  rw [xe_save]
  refine cb_walk hs rfl ?_
  generalize en : (st_cl (xv_ch u s) 41).length = n
  have hn41 : n ≤ 41 := by rw [← en]; exact st_cl_l _ 41
  refine pk_eq n 0 (fun h0 => ?_) (fun hne => ?_)
  · refine k u ⟨hK, fun s' hs' => ?_, hR.2.2⟩
    have h := hR.2.1 s' hs'
    by_cases e : s' = s
    · subst e
      rw [ms_mB_s]
      exact st_clean (st_mono (sl_all h (by rw [en]; exact h0)) (by omega)) (fun z => z)
    · rw [ms_mB_o _ _ e]
      exact st_clean (st_mono h (by omega)) e
  · refine hh_room hR hs rfl rfl hn41 (by omega) (fun v0 ru' iu' r0' sm hru0 hru2 hiu0 hiu2 => ?_)
    have r1 := hm_hf (hm_wl r0' 1000) 0
    have hch : xv_ch (xs_half (xs_writesLeft v0 1000) 0) s = xv_ch u s := by
      show ms_v1 41 (xg_changed v0) s = _
      unfold xv_ch; rw [sm.2.2]
    have hru : xg_rowsUsed (xs_half (xs_writesLeft v0 1000) 0) s = nI ru' := hru0
    have hiu : xg_imagesUsed (xs_half (xs_writesLeft v0 1000) 0) s = nI iu' := hiu0
    have hwl : xg_writesLeft (xs_half (xs_writesLeft v0 1000) 0) = nI 1000 := rfl
    have hhf : xg_half (xs_half (xs_writesLeft v0 1000) 0) = 0 := rfl
    generalize xs_half (xs_writesLeft v0 1000) 0 = v at r1 hch hru hiu hwl hhf ⊢
    obtain ⟨_, hB, hT, hY, hX⟩ := r1
    obtain ⟨N, r0, i0, q0, LS, hP, hV, hC⟩ := hB s hs
    have hV' := hV
    obtain ⟨⟨v1, v2, v3, v4, v5, v6⟩, v7⟩ := hV'
    have hc := hP.2.1
    have eru : ru' = st_rn LS := na_inj (by omega) (by omega) (hru.symm.trans v4)
    have eiu : iu' = LS.flatten.length := na_inj (by omega) (by omega) (hiu.symm.trans v5)
    subst eru eiu
    have eCL : n = (st_cl (xv_ch v s) 41).length := by rw [hch, en]
    refine sv_saving (u := v) (fl := True) (w0 := 1000) (q := q0 + LS.length) hs rfl rfl v2 v4 v6 v3 v5 hc.1 hc.2.1 hwl (fun _ => ⟨hhf, rfl⟩) (by omega) hru2 hiu2 eCL (by omega) (fun gr im rw gp him hrw => ?_)
    obtain ⟨m1, m2, m3⟩ := him
    obtain ⟨w1, w2, w3, w4⟩ := hrw
    refine wr_counts (u := sv_mk v (nI (1000 - (n + (n + 3) / 4))) gr im rw gp) (wl := 999 - (n + (n + 3) / 4)) (q := q0 + LS.length) hs rfl rfl v2 v4 v6 hc.1 (by omega) (by omega) (by rw [show 999 - (n + (n + 3) / 4) + 1 = 1000 - (n + (n + 3) / 4) from by omega]; rfl) (by omega) hhf (fun rw' z1 z2 z3 z4 z5 => ?_)
    rw [sv_2, na_m41]
    rw [show r0 + (st_rn LS + (n + 3) / 4) = r0 + st_rn LS + (n + 3) / 4 from by omega] at z2 z3 z4 z5
    refine nm_e ⟨42, ?_⟩
    generalize nI (999 - (n + (n + 3) / 4)) = wz
    have hgo := sl_loop (post := post) (u1 := sv_mk v wz gr im rw' gp) (n := n) hs (by rw [sw_imageAt]; exact v3) (by rw [sw_imagesUsed]; exact v5) (by rw [sw_rowsUsed]; exact v4) (by rw [sw_nextSaving]; exact v6) hc.2.1 (by omega) hn41 (fun ch io d1 d2 d3 d4 d5 => ?_) 41 0 (xg_changed (sv_mk v wz gr im rw' gp)) (xg_imageOf (sv_mk v wz gr im rw' gp)) rfl (fun _ _ => rfl) (fun _ _ => rfl) (fun b hb => absurd hb (by omega)) (fun _ _ => rfl) (fun _ _ _ => rfl) (fun b hb => absurd hb (by omega))
    · rw [← sl_2 (sv_mk v wz gr im rw' gp)] at hgo
      exact hgo
    · generalize ez1 : nI (st_rn LS + ((n + 3) / 4 + 1)) = z1'
      generalize ez2 : nI (LS.flatten.length + n) = z2'
      generalize ez3 : nI (q0 + LS.length + 1) = z3'
      refine k _ ⟨hK, fun s' hs' => ?_, by rw [sf_T, sw_T]; exact hT, by rw [sf_Y, sw_Y]; exact hY, by rw [sf_X, sw_X]; exact hX⟩
      have h := hB s' hs'
      by_cases e : s' = s
      · subst e
        rw [ms_mB_s]
        rw [sw_ch, sw_io] at d4
        rw [sw_ch] at d5
        have enl : st_nl (st_cl (xv_ch v s') 41) = (n + 3) / 4 := by unfold st_nl; rw [← eCL]
        obtain ⟨G1, G2, G3⟩ := st_grow (im' := ms_v2 48 8 im s') (rw' := ms_v2 14 8 rw' s') (io' := ms_v1 41 io s') (CL := st_cl (xv_ch v s') 41) hP hV hC rfl (by omega) (by rw [enl]; exact hru2) (by rw [← eCL]; exact hiu2)
          (fun j hj => m2 j (fun i hi => hj i (by rw [← eCL]; exact hi))) (fun i hi => m3 trivial i (by rw [eCL]; exact hi))
          (fun j hj => (z2 j (hj ((n + 3) / 4) (by rw [enl]; omega))).trans (w2 j (fun k' hk' => hj k' (by rw [enl]; omega))))
          (fun k' hk' => st_rowL_fr (w4 trivial k' (by rw [enl] at hk'; exact hk')) (z2 _ (by rw [enl] at hk'; omega)))
          (by rw [enl]; exact ⟨z3, z4, z5⟩)
          (fun j hj => by
            by_cases ej : j = (r0 + st_rn LS + (n + 3) / 4) % 14
            · subst ej; exact Or.inr z5
            · have h1 : ms_v2 14 8 rw' s' j = ms_v2 14 8 rw s' j := z2 j ej
              rw [h1]
              rcases w3 j with h | ⟨_, h | h⟩
              · rw [h]; exact Or.inl rfl
              · exact Or.inl h
              · exact Or.inr h) d4 d5
        rw [enl, ← eCL, ez1, ez2, ez3] at G2
        refine ⟨N, r0, i0, q0, LS ++ [st_cl (xv_ch v s') 41], ?_, ?_, ?_⟩
        · rw [sf_dk, sf_im, sf_rw, sf_an, sw_dk, sw_im, sw_rw, sw_an]
          exact G1
        · rw [sf_dk, sf_im, sf_io, sf_rowAt, sf_rowsUsed, sf_imageAt, sf_imagesUsed, sf_nextSaving, sf_anchorNumber, sw_dk, sw_im, sw_rowAt, sw_imageAt, sw_anchorNumber, pk_us, pk_us, pk_us]
          exact G2
        · rw [sf_cp, sf_ld, sf_ch, sw_cp, sw_ld]
          refine fun b hb => ?_
          rw [d3 b hb]
          obtain ⟨e1, e2, e3, e4⟩ := G3 b hb
          exact ⟨e1, fun _ => rfl, fun _ _ _ => rfl, fun _ => rfl⟩
      · rw [ms_mB_o _ _ e]
        exact st_clean (st_frame (st_frame (st_mono h (by omega)) (sw_S v wz gr im rw' gp s' (m1 s' e) ((z1 s' e).trans (w1 s' e)))) (sf_S _ ch io s z1' z2' z3' s' e (d1 s' e) (d2 s' e))) e
end
end
section
/-! saveSome: what counted still counts -/
def st_Ps (K : Nat) (V : ms_B) (u : SX) (s : Nat) : Prop := ∃ (N r0 i0 q0 : Nat) (LS : List (List Nat)), st_Pers K V (xv_dk u s) (xv_im u s) (xv_rw u s) (xv_an u s) N r0 i0 q0 LS
theorem st_Bp {K : Nat} {d : Prop} {V M : ms_B} {u : SX} {s : Nat} (h : st_Bx K d V M u s) : st_Ps K V u s := by
  obtain ⟨N, r0, i0, q0, LS, hP, _⟩ := h
  exact ⟨N, r0, i0, q0, LS, hP⟩
theorem st_Pf {K : Nat} {V : ms_B} {u u' : SX} {s : Nat} (h : st_Ps K V u s) (e : st_Sp u u' s) : st_Ps K V u' s := by
  obtain ⟨e1, e2, e3, e4⟩ := e
  unfold st_Ps
  rw [e1, e2, e3, e4]
  exact h
theorem st_part {K N r0 i0 q0 n row : Nat} {LS : List (List Nat)} {V dk im im' rw rw' an : ms_B} (hP : st_Pers K V dk im rw an N r0 i0 q0 LS) (hn : LS.flatten.length + n ≤ 48) (hr : st_rn LS + row ≤ 14)
    (i1 : ∀ j, (∀ i, i < n → j ≠ (i0 + LS.flatten.length + i) % 48) → im' j = im j) (w1 : ∀ j, (∀ k, k < row → j ≠ (r0 + st_rn LS + k) % 14) → rw' j = rw j) (w2 : ∀ j, rw' j = rw j ∨ (rw' j 0 = 1 ∧ (rw' j 7 = rw j 7 ∨ rw' j 7 = nI (q0 + LS.length)))) : st_Pers K V dk im' rw' an N r0 i0 q0 LS := by
  obtain ⟨p1, p2, p3, p4, p5⟩ := hP
  refine ⟨p1, p2, st_Rows_fr LS _ _ p3 (fun k hk => w1 _ (fun k' hk' => by omega)), fun j hj => ?_, ?_⟩
  · obtain ⟨m, m1, m2, m3⟩ := p4 j hj
    rcases w2 j with h | ⟨h0, h | h⟩
    · rw [h]; exact ⟨m, m1, m2, m3⟩
    · exact ⟨m, h.trans m1, m2, fun e => absurd (h0.symm.trans e) (by decide)⟩
    · exact ⟨q0 + LS.length, h, Nat.le_refl _, fun e => absurd (h0.symm.trans e) (by decide)⟩
  · rw [st_rD_im _ _ _ (fun k hk => i1 _ (fun i hi => by omega))]
    exact p5
theorem ss_nar (z : Int32) (h : z = 0 ∨ z = 1) : narrow .boolean (.int z) = .int z ∧ fits .boolean (.int z) = true := by
  rcases h with rfl | rfl
  · exact ⟨rfl, rfl⟩
  · exact ⟨rfl, rfl⟩
section
variable {K : Nat} {V M : ms_M} {t : ms_TT} {y : ms_YT} {x : ms_XT} {u : SX} {s : Nat}
theorem ss_some {post : SX → Prop} {ps p1 : Int32} (hR : ms_R K s V M t y x u) (hs : s < 4) (es : ps = nI s) (hK : K + 1 ≤ 100000) (k : ∀ u', (∀ s', s' < 4 → st_Ps (K + 1) (V s') u' s') → ms_T u' = t → ms_Y u' = y → ms_X u' = x → post u') : wpX_saveSome post u ps p1 := by
  subst es
  rw [xe_saveSome]
  refine cb_walk hs rfl ?_
  generalize en : (st_cl (xv_ch u s) 41).length = n
  have hn41 : n ≤ 41 := by rw [← en]; exact st_cl_l _ 41
  refine pk_eq n 0 (fun h0 => ?_) (fun hne => ?_)
  · exact k u (fun s' hs' => st_Bp (st_mono (hR.2.1 s' hs') (by omega))) hR.2.2.1 hR.2.2.2.1 hR.2.2.2.2
  · refine hh_room hR hs rfl rfl hn41 hK (fun v0 ru' iu' r0' sm hru0 hru2 hiu0 hiu2 => ?_)
    refine rf_walk rfl (by omega) ?_
    rw [nI_add, na_s1 (by omega), show n + ((n + 3) / 4 + 1) - 1 = n + (n + 3) / 4 from by omega]
    have hgo : ∀ w0, w0 ≤ n + (n + 3) / 4 → xc_saveSome_48 post (nI s) p1 (nI n) (nI w0) v0 := by
      intro w0 hw0
      have h64 : ∀ z : Int32, (z = 0 ∨ z = 1) → xc_saveSome_64 post (nI s) (nI n) z (xs_writesLeft v0 (nI w0)) := by
        intro z hz
        rw [xe_saveSome_64]
        refine ⟨(ss_nar z hz).1, (ss_nar z hz).2, ?_⟩
        have r1 := hm_hf (hm_wl r0' (nI w0)) z
        have hch : xv_ch (xs_half (xs_writesLeft v0 (nI w0)) z) s = xv_ch u s := by
          show ms_v1 41 (xg_changed v0) s = _
          unfold xv_ch; rw [sm.2.2]
        have hru : xg_rowsUsed (xs_half (xs_writesLeft v0 (nI w0)) z) s = nI ru' := hru0
        have hiu : xg_imagesUsed (xs_half (xs_writesLeft v0 (nI w0)) z) s = nI iu' := hiu0
        have hwl : xg_writesLeft (xs_half (xs_writesLeft v0 (nI w0)) z) = nI w0 := rfl
        generalize xs_half (xs_writesLeft v0 (nI w0)) z = v at r1 hch hru hiu hwl ⊢
        obtain ⟨_, hB, hT, hY, hX⟩ := r1
        obtain ⟨N, r0, i0, q0, LS, hP, ⟨⟨v1, v2, v3, v4, v5, v6⟩, v7⟩, hC⟩ := hB s hs
        have hc := hP.2.1
        have eru : ru' = st_rn LS := na_inj (by omega) (by omega) (hru.symm.trans v4)
        have eiu : iu' = LS.flatten.length := na_inj (by omega) (by omega) (hiu.symm.trans v5)
        subst eru eiu
        refine sv_saving (u := v) (fl := False) (w0 := w0) (q := q0 + LS.length) hs rfl rfl v2 v4 v6 v3 v5 hc.1 hc.2.1 hwl (fun f => f.elim) (by omega) hru2 hiu2 (by rw [hch, en]) (by omega) (fun gr im rw gp him hrw => ?_)
        obtain ⟨m1, m2, _⟩ := him
        obtain ⟨w1, w2, w3, _⟩ := hrw
        rw [show w0 - (n + (n + 3) / 4) = 0 from by omega, xe_writeCounts, xe_mayWrite]
        refine br_f (show ¬ (0 : Int32) < nI 0 by decide) (br_t rfl ?_)
        generalize nI 0 = wz
        refine k _ (fun s' hs' => ?_) (by rw [sw_T]; exact hT) (by rw [sw_Y]; exact hY) (by rw [sw_X]; exact hX)
        by_cases e : s' = s
        · subst e
          refine ⟨N, r0, i0, q0, LS, ?_⟩
          rw [sw_dk, sw_im, sw_rw, sw_an]
          exact st_part (n := n) (row := (n + 3) / 4) hP hiu2 (by omega) m2 w2 w3
        · exact st_Pf (st_Bp (hB s' hs')) (sw_S v wz gr im rw gp s' (m1 s' e) (w1 s' e)).1
      rw [xe_saveSome_48]
      exact br_c (fun _ => h64 1 (Or.inr rfl)) (fun _ => h64 0 (Or.inl rfl))
    refine nm_e (br_c (fun h0 => ?_) (fun _ => hgo 0 (by omega)))
    obtain ⟨j, hj, rfl⟩ := nI_of (x := p1) (Int32.not_lt.mpr h0)
    refine pk_le j (n + (n + 3) / 4) (fun h => hgo j h) (fun _ => hgo _ (Nat.le_refl _))
end
end
section
/-! forget, findAnchor, the constructor -/
def fg_mk (u : SX) (ld ch io : Nat → Int32) : SX := (xg_writesLeft u, xg_half u, xg_grouped u, xg_upKey u, xg_upNode u, xg_waiting u, xg_wrong u, xg_seenNodes u, xg_seenKeys u, xg_disk u, xg_images u, xg_rows u, xg_anchors u, xg_copies u, ld, ch, io, xg_rowAt u, xg_rowsUsed u, xg_imageAt u, xg_imagesUsed u, xg_nextSaving u, xg_anchorNumber u, xg_selected u, xg_viewLength u, xg_view u, xg_group u, xg_wayNode u, xg_waySlot u, xg_wideKey u, xg_wideItem u, xg_walkNode u, xg_walkLevel u, xg_walkLow u, xg_walkHigh u)
theorem fg_1 (u : SX) (ld ch io ld' ch' io' : Nat → Int32) : fg_mk (fg_mk u ld ch io) ld' ch' io' = fg_mk u ld' ch' io' := rfl
theorem fg_2 (u : SX) : u = fg_mk u (xg_loaded u) (xg_changed u) (xg_imageOf u) := rfl
theorem fg_loop {post : SX → Prop} {u0 : SX} {s : Nat} (hs : s < 4)
    (k : ∀ ld ch io : Nat → Int32, (∀ s', s' ≠ s → ms_v1 41 ld s' = xv_ld u0 s' ∧ ms_v1 41 ch s' = xv_ch u0 s' ∧ ms_v1 41 io s' = xv_io u0 s') → (∀ b, b < 41 → ms_v1 41 ld s b = 0 ∧ ms_v1 41 ch s b = 0 ∧ ms_v1 41 io s b = -1) → post (fg_mk u0 ld ch io)) :
    ∀ (d b : Nat) (ld ch io : Nat → Int32), b + d = 41 → (∀ s', s' ≠ s → ms_v1 41 ld s' = xv_ld u0 s' ∧ ms_v1 41 ch s' = xv_ch u0 s' ∧ ms_v1 41 io s' = xv_io u0 s') → (∀ b', b' < b → ms_v1 41 ld s b' = 0 ∧ ms_v1 41 ch s b' = 0 ∧ ms_v1 41 io s b' = -1) → xc_forget_5 post (nI s) (d + 1) (nI (41 * s + b)) (fg_mk u0 ld ch io) := by
  intro d
  induction d with
  | zero =>
    intro b ld ch io hb h1 h2
    have hb41 : b = 41 := by omega
    subst hb41
    rw [xe_forget_5, na_m41, na_q41]
    exact br_t (Int32.le_refl _) (k ld ch io h1 h2)
  | succ d ih =>
    intro b ld ch io hb h1 h2
    have hb41 : b < 41 := by omega
    rw [xe_forget_5, na_m41, na_q41, nI_clamp (n := 41 * s + b) (by omega)]
    refine br_f (nI_ge (by omega) (by omega)) ⟨vp_in_nI (by omega) (by omega), nm_e ⟨vp_in_nI (by omega) (by omega), nm_e ⟨vp_in_nI (by omega) (by omega), nm_e (nm_r (nI_1 _) ?_)⟩⟩⟩
    refine ih (b + 1) (upd ld (41 * s + b) 0) (upd ch (41 * s + b) 0) (upd io (41 * s + b) (-1)) (by omega) (fun s' e => ?_) (fun b' hb' => ?_)
    · rw [ms_v1_o _ _ hb41 e, ms_v1_o _ _ hb41 e, ms_v1_o _ _ hb41 e]
      exact h1 s' e
    · rw [ms_v1_u _ _ _ hb41, ms_v1_u _ _ _ hb41, ms_v1_u _ _ _ hb41]
      by_cases e : b' = b
      · subst e; exact ⟨pk_us, pk_us, pk_us⟩
      · rw [pk_un e, pk_un e, pk_un e]; exact h2 b' (by omega)
theorem fg_walk {post : SX → Prop} {u : SX} {s : Nat} {ps : Int32} (hs : s < 4) (es : ps = nI s)
    (k : ∀ ld ch io : Nat → Int32, (∀ s', s' ≠ s → ms_v1 41 ld s' = xv_ld u s' ∧ ms_v1 41 ch s' = xv_ch u s' ∧ ms_v1 41 io s' = xv_io u s') → (∀ b, b < 41 → ms_v1 41 ld s b = 0 ∧ ms_v1 41 ch s b = 0 ∧ ms_v1 41 io s b = -1) → post (fg_mk u ld ch io)) : wpX_forget post u ps := by
  subst es
  rw [xe_forget, na_m41]
  exact nm_e ⟨42, fg_loop hs k 41 0 (xg_loaded u) (xg_changed u) (xg_imageOf u) rfl (fun _ _ => ⟨rfl, rfl, rfl⟩) (fun b hb => absurd hb (by omega))⟩
def fa_mk (u : SX) (ld ch io : Nat → Int32) (s : Nat) (a b c d : Int32) : SX := (xg_writesLeft u, xg_half u, xg_grouped u, xg_upKey u, xg_upNode u, xg_waiting u, xg_wrong u, xg_seenNodes u, xg_seenKeys u, xg_disk u, xg_images u, xg_rows u, xg_anchors u, xg_copies u, ld, ch, io, upd (xg_rowAt u) s b, upd (xg_rowsUsed u) s 0, upd (xg_imageAt u) s c, upd (xg_imagesUsed u) s 0, upd (xg_nextSaving u) s d, upd (xg_anchorNumber u) s a, xg_selected u, xg_viewLength u, xg_view u, xg_group u, xg_wayNode u, xg_waySlot u, xg_wideKey u, xg_wideItem u, xg_walkNode u, xg_walkLevel u, xg_walkLow u, xg_walkHigh u)
theorem fa_65 {post : SX → Prop} {u : SX} {s p : Nat} {ld ch io : Nat → Int32} {px : Int32} (hs : s < 4) (hp : p < 2) (ex : px = nI (5 * (2 * s + p)))
    (k : post (fa_mk u ld ch io s (xv_an u s p 0) (xv_an u s p 1) (xv_an u s p 2) (xv_an u s p 3))) : xc_findAnchor_65 post (nI s) px (fg_mk u ld ch io) := by
  subst ex
  have e0 : xv_an u s p 0 = xg_anchors u (5 * (2 * s + p)) := ms_v2_g _ _ hp (by omega)
  have e1 : xv_an u s p 1 = xg_anchors u (5 * (2 * s + p) + 1) := ms_v2_g _ _ hp (by omega)
  have e2 : xv_an u s p 2 = xg_anchors u (5 * (2 * s + p) + 2) := ms_v2_g _ _ hp (by omega)
  have e3 : xv_an u s p 3 = xg_anchors u (5 * (2 * s + p) + 3) := ms_v2_g _ _ hp (by omega)
  rw [e0, e1, e2, e3] at k
  rw [xe_findAnchor_65, na_q1, na_q2, na_q3, nI_clamp (n := s) (by omega), nI_clamp (n := 5 * (2 * s + p)) (by omega), nI_clamp (n := 5 * (2 * s + p) + 1) (by omega), nI_clamp (n := 5 * (2 * s + p) + 2) (by omega), nI_clamp (n := 5 * (2 * s + p) + 3) (by omega)]
  refine ⟨vp_in_nI (by omega) (by omega), vp_in_nI hs (by omega), nm_e ⟨vp_in_nI (by omega) (by omega), vp_in_nI hs (by omega), nm_e ⟨vp_in_nI (by omega) (by omega), vp_in_nI hs (by omega), nm_e ⟨vp_in_nI (by omega) (by omega), vp_in_nI hs (by omega), nm_e ⟨vp_in_nI hs (by omega), nm_e ⟨vp_in_nI hs (by omega), nm_e ?_⟩⟩⟩⟩⟩⟩
  exact k
theorem fg_an (u : SX) (ld ch io : Nat → Int32) : xg_anchors (fg_mk u ld ch io) = xg_anchors u := rfl
theorem fa_walk {post : SX → Prop} {u : SX} {ps : Int32} {s K N r0 i0 q0 : Nat} {LS : List (List Nat)} {V dk im rw : ms_B} (hs : s < 4) (es : ps = nI s) (hK : K ≤ 100000) (hP : st_Pers K V dk im rw (xv_an u s) N r0 i0 q0 LS)
    (k : ∀ ld ch io : Nat → Int32, (∀ s', s' ≠ s → ms_v1 41 ld s' = xv_ld u s' ∧ ms_v1 41 ch s' = xv_ch u s' ∧ ms_v1 41 io s' = xv_io u s') → (∀ b, b < 41 → ms_v1 41 ld s b = 0 ∧ ms_v1 41 ch s b = 0 ∧ ms_v1 41 io s b = -1) → post (fa_mk u ld ch io s (nI N) (nI r0) (nI i0) (nI q0))) : wpX_findAnchor post u ps := by
  subst es
  obtain ⟨⟨n1, n2, a0, a1, a2, a3, a4, N', hN', b0, b4⟩, _⟩ := hP
  rw [xe_findAnchor]
  refine fg_walk hs rfl (fun ld ch io h1 h2 => ?_)
  have e0 : xg_anchors u (5 * (2 * s + 0)) = xv_an u s 0 0 := (ms_v2_g (m := 2) (n := 5) (b := 0) (c := 0) _ _ (by omega) (by omega)).symm
  have e4 : xg_anchors u (5 * (2 * s + 0) + 4) = xv_an u s 0 4 := (ms_v2_g (m := 2) (n := 5) _ _ (by omega) (by omega)).symm
  have f0 : xg_anchors u (5 * (2 * s + 1)) = xv_an u s 1 0 := (ms_v2_g (m := 2) (n := 5) (b := 1) (c := 0) _ _ (by omega) (by omega)).symm
  have f4 : xg_anchors u (5 * (2 * s + 1) + 4) = xv_an u s 1 4 := (ms_v2_g (m := 2) (n := 5) _ _ (by omega) (by omega)).symm
  refine nm_r (e' := nI (5 * (2 * s + 0))) (by rw [na_m10]; exact congrArg nI (by omega)) (nm_r (e' := nI (5 * (2 * s + 1))) (by rw [na_q5]; exact congrArg nI (by omega)) ⟨vp_in_nI (by omega) (by omega), ?_⟩)
  rw [na_q4, na_q4, fg_an, nI_clamp (n := 5 * (2 * s + 0)) (by omega), nI_clamp (n := 5 * (2 * s + 0) + 4) (by omega), nI_clamp (n := 5 * (2 * s + 1)) (by omega), nI_clamp (n := 5 * (2 * s + 1) + 4) (by omega), e0, e4, f0, f4]
  refine ⟨vp_in_nI (by omega) (by omega), ?_⟩
  have hk := k ld ch io h1 h2
  rcases Nat.mod_two_eq_zero_or_one N with hm | hm
  · -- the newer one is the second
    rw [show (N + 1) % 2 = 1 from by omega] at a0 a1 a2 a3 a4
    rw [hm] at b0 b4
    refine br_t (b0.trans b4.symm) ⟨vp_in_nI (by omega) (by omega), vp_in_nI (by omega) (by omega), br_t (a0.trans a4.symm) ⟨vp_in_nI (by omega) (by omega), vp_in_nI (by omega) (by omega), br_f ?_ ?_⟩⟩
    · rw [a0, b0]; exact nI_ge hN' (by omega)
    · rw [xe_findAnchor_63]
      refine fa_65 hs (p := 1) (by omega) rfl ?_
      rw [a0, a1, a2, a3]
      exact hk
  · rw [show (N + 1) % 2 = 0 from by omega] at a0 a1 a2 a3 a4
    rw [hm] at b0 b4
    refine br_t (a0.trans a4.symm) ⟨vp_in_nI (by omega) (by omega), vp_in_nI (by omega) (by omega), br_t (b0.trans b4.symm) ⟨vp_in_nI (by omega) (by omega), vp_in_nI (by omega) (by omega), br_t ?_ ?_⟩⟩
    · rw [a0, b0]; exact nI_le (by omega) (by omega)
    · refine fa_65 hs (p := 0) (by omega) rfl ?_
      rw [a0, a1, a2, a3]
      exact hk
end
section
/-! replaying savings -/
def rp_mk (u : SX) (dk ra ia ns : Nat → Int32) : SX := (xg_writesLeft u, xg_half u, xg_grouped u, xg_upKey u, xg_upNode u, xg_waiting u, xg_wrong u, xg_seenNodes u, xg_seenKeys u, dk, xg_images u, xg_rows u, xg_anchors u, xg_copies u, xg_loaded u, xg_changed u, xg_imageOf u, ra, xg_rowsUsed u, ia, xg_imagesUsed u, ns, xg_anchorNumber u, xg_selected u, xg_viewLength u, xg_view u, xg_group u, xg_wayNode u, xg_waySlot u, xg_wideKey u, xg_wideItem u, xg_walkNode u, xg_walkLevel u, xg_walkLow u, xg_walkHigh u)
section
variable (u : SX) (dk ra ia ns dk' ra' ia' ns' : Nat → Int32)
theorem rp_1 : xs_disk (rp_mk u dk ra ia ns) dk' = rp_mk u dk' ra ia ns := rfl
theorem rp_2 : xs_imageAt (rp_mk u dk ra ia ns) ia' = rp_mk u dk ra ia' ns := rfl
theorem rp_3 : xs_nextSaving (xs_rowAt (rp_mk u dk ra ia ns) ra') ns' = rp_mk u dk ra' ia ns' := rfl
theorem rp_4 : u = rp_mk u (xg_disk u) (xg_rowAt u) (xg_imageAt u) (xg_nextSaving u) := rfl
theorem rp_g1 : xg_rows (rp_mk u dk ra ia ns) = xg_rows u := rfl
theorem rp_g2 : xg_rowAt (rp_mk u dk ra ia ns) = ra := rfl
theorem rp_g3 : xg_imageAt (rp_mk u dk ra ia ns) = ia := rfl
theorem rp_g4 : xg_nextSaving (rp_mk u dk ra ia ns) = ns := rfl
theorem rp_v1 (s : Nat) : xv_dk (rp_mk u dk ra ia ns) s = ms_v2 41 8 dk s := rfl
theorem rp_v2 (s : Nat) : xv_im (rp_mk u dk ra ia ns) s = xv_im u s := rfl
end
theorem rr_idx {r k : Nat} : (r % 14 + k) % 14 = (r + k) % 14 := by omega
theorem rr_cell {post : Int32 → Prop} {u : SX} {ps pk : Int32} {s r k : Nat} (hs : s < 4) (es : ps = nI s) (ek : pk = nI k) (hk : k ≤ 14) (h : xg_rowAt u s = nI (r % 14)) (c : post (nI (8 * (14 * s + (r + k) % 14)))) : wpX_rowCell post u ps pk := by
  subst es ek
  rw [xe_rowCell, nI_clamp (n := s) (by omega), h, wr_row (by omega), rr_idx]
  exact ⟨vp_in_nI hs (by omega), by decide, c⟩
theorem is_walk {post : Int32 → Prop} {u : SX} {ps pk p2 : Int32} {s r k : Nat} (hs : s < 4) (es : ps = nI s) (ek : pk = nI k) (hk : k ≤ 14) (h : xg_rowAt u s = nI (r % 14))
    (k1 : xv_rw u s ((r + k) % 14) 0 = p2 → xv_rw u s ((r + k) % 14) 1 = xg_nextSaving u s → xv_rw u s ((r + k) % 14) 7 = xg_nextSaving u s → post 1) (k0 : ¬ (xv_rw u s ((r + k) % 14) 0 = p2 ∧ xv_rw u s ((r + k) % 14) 1 = xg_nextSaving u s ∧ xv_rw u s ((r + k) % 14) 7 = xg_nextSaving u s) → post 0) : wpX_isRow post u ps pk p2 := by
  subst es
  rw [xe_isRow]
  refine rr_cell hs rfl ek hk h ?_
  have hj : (r + k) % 14 < 14 := Nat.mod_lt _ (by omega)
  generalize (r + k) % 14 = j at k1 k0 hj ⊢
  have e0 : xg_rows u (8 * (14 * s + j)) = xv_rw u s j 0 := (ms_v2_g (m := 14) (n := 8) (c := 0) _ _ hj (by omega)).symm
  have e1 : xg_rows u (8 * (14 * s + j) + 1) = xv_rw u s j 1 := (ms_v2_g (m := 14) (n := 8) (c := 1) _ _ hj (by omega)).symm
  have e7 : xg_rows u (8 * (14 * s + j) + 7) = xv_rw u s j 7 := (ms_v2_g (m := 14) (n := 8) (c := 7) _ _ hj (by omega)).symm
  rw [na_q1, na_q7, nI_clamp (n := s) (by omega), nI_clamp (n := 8 * (14 * s + j)) (by omega), nI_clamp (n := 8 * (14 * s + j) + 1) (by omega), nI_clamp (n := 8 * (14 * s + j) + 7) (by omega), e0, e1, e7]
  refine ⟨vp_in_nI (by omega) (by omega), br_c (fun h0 => ⟨vp_in_nI (by omega) (by omega), vp_in_nI hs (by omega), br_c (fun h1 => ⟨vp_in_nI (by omega) (by omega), vp_in_nI hs (by omega), br_c (fun h7 => k1 h0 h1 h7) (fun h7 => k0 (fun z => h7 z.2.2))⟩) (fun h1 => k0 (fun z => h1 z.2.1))⟩) (fun h0 => k0 (fun z => h0 z.1))⟩
def rp_oth (ub : SX) (s : Nat) (dk ra ia ns : Nat → Int32) : Prop := ∀ s', s' ≠ s → ms_v2 41 8 dk s' = xv_dk ub s' ∧ ra s' = xg_rowAt ub s' ∧ ia s' = xg_imageAt ub s' ∧ ns s' = xg_nextSaving ub s'
theorem rl_take {S : List Nat} {m : Nat} (h : m < S.length) : S.take (m + 1) = S.take m ++ [S.getD m 0] := by
  rw [List.take_succ, List.getD_eq_getElem?_getD, List.getElem?_eq_getElem h]
  rfl
theorem rl_loop {post : SX → Prop} {ub : SX} {s i k cnt J : Nat} {D0 : ms_B} {S : List Nat} {ra ns : Nat → Int32} (hs : s < 4) (hJ : J < 14) (hcnt : cnt = min 4 (S.length - 4 * k)) (hS : ∀ b, b ∈ S → b < 41) (hi : i < 48) (hSl : S.length ≤ 41)
    (hrow : ∀ j, j < 4 → 4 * k + j < S.length → xv_rw ub s J (3 + j) = nI (S.getD (4 * k + j) 0))
    (c : ∀ dk ia, rp_oth ub s dk ra ia ns → ms_v2 41 8 dk s = st_rD (xv_im ub s) i D0 (S.take (4 * k + cnt)) → ia s = nI ((i + (4 * k + cnt)) % 48) → post (rp_mk ub dk ra ia ns)) :
    ∀ (d j : Nat) (dk ia : Nat → Int32), j + d = cnt → rp_oth ub s dk ra ia ns → ms_v2 41 8 dk s = st_rD (xv_im ub s) i D0 (S.take (4 * k + j)) → ia s = nI ((i + (4 * k + j)) % 48) → xc_replayList_20 post (nI s) (nI (8 * (14 * s + J))) (nI cnt) (d + 1) (nI j) (rp_mk ub dk ra ia ns) := by
  intro d
  induction d with
  | zero =>
    intro j dk ia hj h1 h2 h3
    have : j = cnt := by omega
    subst this
    rw [xe_replayList_20]
    exact br_t (Int32.le_refl _) (c dk ia h1 h2 h3)
  | succ d ih =>
    intro j dk ia hj h1 h2 h3
    have hlt : 4 * k + j < S.length := by omega
    rw [xe_replayList_20, rp_g1, rp_g3]
    refine br_f (nI_ge (by omega) (by omega)) (br_f (na_nle (a := 4) (b := j) rfl rfl (by omega) (by omega)) ?_)
    have e1 : (nI (8 * (14 * s + J)) + 3) + nI j = nI (8 * (14 * s + J) + (3 + j)) := by rw [na_q3, nI_add, Nat.add_assoc]
    have e2 : xg_rows ub (8 * (14 * s + J) + (3 + j)) = nI (S.getD (4 * k + j) 0) := (ms_v2_g (m := 14) (n := 8) _ _ hJ (by omega)).symm.trans (hrow j (by omega) hlt)
    rw [e1, nI_clamp (n := 8 * (14 * s + J) + (3 + j)) (by omega), nI_clamp (n := s) (by omega), e2, h3]
    have hmod : (i + (4 * k + j)) % 48 < 48 := Nat.mod_lt _ (by omega)
    have hb : S.getD (4 * k + j) 0 < 41 := by
      refine hS _ ?_
      rw [List.getD_eq_getElem?_getD, List.getElem?_eq_getElem hlt]
      exact List.getElem_mem hlt
    refine ⟨vp_in_nI (by omega) (by omega), vp_in_nI hs (by omega), ?_⟩
    refine hm_copy hs hb hmod rfl rfl rfl rfl (fun dk' k1 k2 => ?_)
    rw [rp_1, rp_v1, rp_v2] at *
    rw [rp_g3, h3, nI_1]
    refine ⟨vp_in_nI hs (by omega), by decide, vp_in_nI hs (by omega), nm_r (e' := upd ia s (nI ((i + (4 * k + (j + 1))) % 48))) ?_ (nm_r (nI_1 j) ?_)⟩
    · rw [show (48 : Int32) = nI 48 from rfl, pk_rem (d := 48) (by omega) (by omega) (by omega)]
      congr 2
      omega
    · rw [rp_2]
      refine ih (j + 1) dk' (upd ia s (nI ((i + (4 * k + (j + 1))) % 48))) (by omega) (fun s' e => ?_) ?_ pk_us
      · obtain ⟨a1, a2, a3, a4⟩ := h1 s' e
        exact ⟨(k1 s' e).trans a1, a2, (pk_un e).trans a3, a4⟩
      · rw [k2, h2, show 4 * k + (j + 1) = 4 * k + j + 1 from by omega, rl_take hlt, st_rD_app, List.length_take, Nat.min_eq_left (by omega)]
        rfl
theorem rl_walk {post : SX → Prop} {ub : SX} {s i k r q : Nat} {D0 : ms_B} {S : List Nat} {dk ra ia ns : Nat → Int32} {pk : Int32} (hs : s < 4) (hS : ∀ b, b ∈ S → b < 41) (hSl : S.length ≤ 41) (hi : i < 48) (hk : k < st_nl S) (ek : pk = nI k) (hra : ra s = nI (r % 14)) (hrow : st_rowL (xv_rw ub s) r q S k)
    (h1 : rp_oth ub s dk ra ia ns) (h2 : ms_v2 41 8 dk s = st_rD (xv_im ub s) i D0 (S.take (4 * k))) (h3 : ia s = nI ((i + 4 * k) % 48))
    (c : ∀ dk ia, rp_oth ub s dk ra ia ns → ms_v2 41 8 dk s = st_rD (xv_im ub s) i D0 (S.take (4 * (k + 1))) → ((k + 1 < st_nl S → ia s = nI ((i + 4 * (k + 1)) % 48)) ∧ (k + 1 = st_nl S → ia s = nI ((i + S.length) % 48))) → post (rp_mk ub dk ra ia ns)) : wpX_replayList post (rp_mk ub dk ra ia ns) (nI s) pk := by
  have hnl : st_nl S ≤ 11 := by unfold st_nl; omega
  unfold st_nl at hk
  rw [xe_replayList]
  refine rr_cell (r := r) hs rfl ek (by omega) (by rw [rp_g2]; exact hra) ?_
  obtain ⟨_, _, w2, _, w4⟩ := hrow
  have hj : (r + k) % 14 < 14 := Nat.mod_lt _ (by omega)
  generalize (r + k) % 14 = J at w2 w4 hj ⊢
  have e2 : xg_rows ub (8 * (14 * s + J) + 2) = nI (min 4 (S.length - 4 * k)) := (ms_v2_g (m := 14) (n := 8) (c := 2) _ _ hj (by omega)).symm.trans w2
  rw [na_q2, rp_g1, nI_clamp (n := 8 * (14 * s + J) + 2) (by omega), e2]
  refine ⟨vp_in_nI (by omega) (by omega), nm_e ⟨min 4 (S.length - 4 * k) + 1, ?_⟩⟩
  refine rl_loop (i := i) (k := k) (D0 := D0) hs hj rfl hS hi hSl w4 (fun dk' ia' g1 g2 g3 => c dk' ia' g1 ?_ ⟨fun hlt => ?_, fun he => ?_⟩) _ 0 dk ia (by omega) h1 (by rw [Nat.add_zero]; exact h2) (by rw [Nat.add_zero]; exact h3)
  · rw [g2]
    congr 1
    rcases Nat.lt_or_ge (4 * (k + 1)) S.length with h | h
    · congr 1; omega
    · rw [List.take_of_length_le (by omega), List.take_of_length_le h]
  · unfold st_nl at hlt
    rw [g3]; congr 2; omega
  · unfold st_nl at he
    rw [g3]; congr 2; omega
theorem rr_38 {post : Int32 → SX → Prop} {ub : SX} {s i r q : Nat} {D0 : ms_B} {S : List Nat} {ra ns : Nat → Int32} (hs : s < 4) (hS : ∀ b, b ∈ S → b < 41) (hSl : S.length ≤ 41) (hS1 : S ≠ []) (hi : i < 48) (hra : ra s = nI (r % 14)) (hns : ns s = nI q) (hq : q < 200000) (hrow : ∀ k, k < st_nl S → st_rowL (xv_rw ub s) r q S k)
    (c : ∀ dk ra' ia ns', rp_oth ub s dk ra' ia ns' → ms_v2 41 8 dk s = st_rD (xv_im ub s) i D0 S → ra' s = nI ((r + st_nl S + 1) % 14) → ia s = nI ((i + S.length) % 48) → ns' s = nI (q + 1) → post 1 (rp_mk ub dk ra' ia ns')) :
    ∀ (d k : Nat) (dk ia : Nat → Int32), k + d = st_nl S → rp_oth ub s dk ra ia ns → ms_v2 41 8 dk s = st_rD (xv_im ub s) i D0 (S.take (4 * k)) → ((k < st_nl S → ia s = nI ((i + 4 * k) % 48)) ∧ (k = st_nl S → ia s = nI ((i + S.length) % 48))) → xc_replay_38 post (nI s) (nI (st_nl S)) (d + 1) (nI k) (rp_mk ub dk ra ia ns) := by
  have hnl : st_nl S ≤ 11 := by unfold st_nl; omega
  intro d
  induction d with
  | zero =>
    intro k dk ia hk h1 h2 h3
    have hk' : k = st_nl S := by omega
    rw [xe_replay_38, rp_g2, rp_g4, nI_clamp (n := s) (by omega), hra, hns, nI_add, nI_1, nI_1]
    refine br_t (nI_le (by omega) (by omega)) ⟨vp_in_nI hs (by omega), by decide, vp_in_nI hs (by omega), nm_r (e' := upd ra s (nI ((r + st_nl S + 1) % 14))) ?_ ⟨vp_in_nI hs (by omega), vp_in_nI hs (by omega), nm_e ?_⟩⟩
    · rw [show (14 : Int32) = nI 14 from rfl, pk_rem (d := 14) (by omega) (by omega) (by omega)]
      congr 2
      omega
    · rw [rp_3]
      refine c dk (upd ra s (nI ((r + st_nl S + 1) % 14))) ia (upd ns s (nI (q + 1))) (fun s' e => ?_) ?_ pk_us (h3.2 hk') pk_us
      · obtain ⟨a1, a2, a3, a4⟩ := h1 s' e
        exact ⟨a1, (pk_un e).trans a2, a3, (pk_un e).trans a4⟩
      · rw [h2, List.take_of_length_le (by rw [hk']; unfold st_nl; omega)]
  | succ d ih =>
    intro k dk ia hk h1 h2 h3
    rw [xe_replay_38]
    refine br_f (nI_ge (by omega) (by omega)) ?_
    refine rl_walk (i := i) (k := k) (r := r) (q := q) (D0 := D0) (S := S) hs hS hSl hi (by omega) rfl hra (hrow k (by omega)) h1 h2 (h3.1 (by omega)) (fun dk' ia' g1 g2 g3 => nm_r (nI_1 k) ?_)
    exact ih (k + 1) dk' ia' (by omega) g1 g2 g3
theorem rr_2 {post : Int32 → SX → Prop} {u : SX} {s r q : Nat} {S : List Nat} (hs : s < 4) (hra : xg_rowAt u s = nI (r % 14)) (hns : xg_nextSaving u s = nI q) (hnl : st_nl S ≤ 13) (hrow : ∀ k, k < st_nl S → st_rowL (xv_rw u s) r q S k) (hc : st_rowC (xv_rw u s) (r + st_nl S) q) (c : ∃ n38 : Nat, xc_replay_38 post (nI s) (nI (st_nl S)) n38 0 u) :
    ∀ (d k : Nat), k + d = st_nl S → xc_replay_2 post (nI s) u (d + 1) (nI k) := by
  intro d
  induction d with
  | zero =>
    intro k hk
    have hk' : k = st_nl S := by omega
    subst hk'
    obtain ⟨w0, w1, w7⟩ := hc
    rw [xe_replay_2]
    refine br_f (na_nle (a := 14) (b := st_nl S) rfl rfl (by omega) (by omega)) ?_
    refine is_walk hs rfl rfl (by omega) hra (fun h _ _ => ?_) (fun _ => br_t rfl ?_)
    · rw [w0] at h
      exact absurd h (by decide)
    · rw [xe_replay_24]
      refine is_walk hs rfl rfl (by omega) hra (fun _ _ _ => br_f (by decide) c) (fun h => absurd ⟨w0, w1.trans hns.symm, w7.trans hns.symm⟩ h)
  | succ d ih =>
    intro k hk
    obtain ⟨w0, w1, _, w7, _⟩ := hrow k (by omega)
    rw [xe_replay_2]
    refine br_f (na_nle (a := 14) (b := k) rfl rfl (by omega) (by omega)) ?_
    refine is_walk hs rfl rfl (by omega) hra (fun _ _ _ => br_f (by decide) (nm_r (nI_1 k) (ih (k + 1) (by omega)))) (fun h => absurd ⟨w0, w1.trans hns.symm, w7.trans hns.symm⟩ h)
/-- no further saving counts -/
theorem rr_none {post : Int32 → SX → Prop} {u : SX} {s r q : Nat} (hs : s < 4) (hra : xg_rowAt u s = nI (r % 14)) (hns : xg_nextSaving u s = nI q) (hq : q < 200000) (ht : ∀ j, j < 14 → ∃ m, xv_rw u s j 7 = nI m ∧ m ≤ q ∧ (xv_rw u s j 0 = 2 → m < q)) (c : post 0 u) :
    ∀ (d k : Nat), k + d = 14 → xc_replay_2 post (nI s) u (d + 1) (nI k) := by
  have h24 : ∀ k, k ≤ 14 → xc_replay_24 post (nI s) (nI k) u := by
    intro k hk
    rw [xe_replay_24]
    refine is_walk hs rfl rfl hk hra (fun h0 _ h7 => ?_) (fun _ => br_t rfl c)
    obtain ⟨m, m1, m2, m3⟩ := ht ((r + k) % 14) (Nat.mod_lt _ (by omega))
    have := m3 h0
    rw [m1, hns] at h7
    have := na_inj (by omega) (by omega) h7
    omega
  intro d
  induction d with
  | zero =>
    intro k hk
    rw [xe_replay_2]
    exact br_t (nI_le (a := 14) (by omega) (by omega)) (h24 k (by omega))
  | succ d ih =>
    intro k hk
    rw [xe_replay_2]
    refine br_f (na_nle (a := 14) (b := k) rfl rfl (by omega) (by omega)) ?_
    exact is_walk hs rfl rfl (by omega) hra (fun _ _ _ => br_f (by decide) (nm_r (nI_1 k) (ih (k + 1) (by omega)))) (fun _ => br_t rfl (h24 k (by omega)))
end
section
/-! comeUp -/
theorem fb_dk (u : SX) (ld ch io : Nat → Int32) (z : Nat) (a b c d : Int32) (s : Nat) : xv_dk (fa_mk u ld ch io z a b c d) s = xv_dk u s := rfl
theorem fb_im (u : SX) (ld ch io : Nat → Int32) (z : Nat) (a b c d : Int32) (s : Nat) : xv_im (fa_mk u ld ch io z a b c d) s = xv_im u s := rfl
theorem fb_rw (u : SX) (ld ch io : Nat → Int32) (z : Nat) (a b c d : Int32) (s : Nat) : xv_rw (fa_mk u ld ch io z a b c d) s = xv_rw u s := rfl
theorem fb_an (u : SX) (ld ch io : Nat → Int32) (z : Nat) (a b c d : Int32) (s : Nat) : xv_an (fa_mk u ld ch io z a b c d) s = xv_an u s := rfl
theorem fb_cp (u : SX) (ld ch io : Nat → Int32) (z : Nat) (a b c d : Int32) (s : Nat) : xv_cp (fa_mk u ld ch io z a b c d) s = xv_cp u s := rfl
theorem fb_ld (u : SX) (ld ch io : Nat → Int32) (z : Nat) (a b c d : Int32) (s : Nat) : xv_ld (fa_mk u ld ch io z a b c d) s = ms_v1 41 ld s := rfl
theorem fb_ch (u : SX) (ld ch io : Nat → Int32) (z : Nat) (a b c d : Int32) (s : Nat) : xv_ch (fa_mk u ld ch io z a b c d) s = ms_v1 41 ch s := rfl
theorem fb_io (u : SX) (ld ch io : Nat → Int32) (z : Nat) (a b c d : Int32) (s : Nat) : xv_io (fa_mk u ld ch io z a b c d) s = ms_v1 41 io s := rfl
theorem fb_T (u : SX) (ld ch io : Nat → Int32) (z : Nat) (a b c d : Int32) : ms_T (fa_mk u ld ch io z a b c d) = ms_T u := rfl
theorem fb_Y (u : SX) (ld ch io : Nat → Int32) (z : Nat) (a b c d : Int32) : ms_Y (fa_mk u ld ch io z a b c d) = ms_Y u := rfl
theorem fb_X (u : SX) (ld ch io : Nat → Int32) (z : Nat) (a b c d : Int32) : ms_X (fa_mk u ld ch io z a b c d) = ms_X u := rfl
theorem fb_rowAt (u : SX) (ld ch io : Nat → Int32) (z : Nat) (a b c d : Int32) : xg_rowAt (fa_mk u ld ch io z a b c d) = upd (xg_rowAt u) z b := rfl
theorem fb_imageAt (u : SX) (ld ch io : Nat → Int32) (z : Nat) (a b c d : Int32) : xg_imageAt (fa_mk u ld ch io z a b c d) = upd (xg_imageAt u) z c := rfl
theorem fb_nextSaving (u : SX) (ld ch io : Nat → Int32) (z : Nat) (a b c d : Int32) : xg_nextSaving (fa_mk u ld ch io z a b c d) = upd (xg_nextSaving u) z d := rfl
theorem fb_anchorNumber (u : SX) (ld ch io : Nat → Int32) (z : Nat) (a b c d : Int32) : xg_anchorNumber (fa_mk u ld ch io z a b c d) = upd (xg_anchorNumber u) z a := rfl
theorem fb_rowsUsed (u : SX) (ld ch io : Nat → Int32) (z : Nat) (a b c d : Int32) : xg_rowsUsed (fa_mk u ld ch io z a b c d) = upd (xg_rowsUsed u) z 0 := rfl
theorem fb_imagesUsed (u : SX) (ld ch io : Nat → Int32) (z : Nat) (a b c d : Int32) : xg_imagesUsed (fa_mk u ld ch io z a b c d) = upd (xg_imagesUsed u) z 0 := rfl
theorem fb_S (u : SX) (ld ch io : Nat → Int32) (z : Nat) (a b c d : Int32) (s : Nat) (h : s ≠ z) (h1 : ms_v1 41 ld s = xv_ld u s) (h2 : ms_v1 41 ch s = xv_ch u s) (h3 : ms_v1 41 io s = xv_io u s) : st_S u (fa_mk u ld ch io z a b c d) s := ⟨⟨rfl, rfl, rfl, rfl⟩, ⟨h3, pk_un h, pk_un h, pk_un h, pk_un h, pk_un h, pk_un h⟩, rfl, h1, h2⟩
theorem fg_S (u : SX) (ld ch io : Nat → Int32) (s : Nat) (h1 : ms_v1 41 ld s = xv_ld u s) (h2 : ms_v1 41 ch s = xv_ch u s) (h3 : ms_v1 41 io s = xv_io u s) : st_S u (fg_mk u ld ch io) s := ⟨⟨rfl, rfl, rfl, rfl⟩, ⟨h3, rfl, rfl, rfl, rfl, rfl, rfl⟩, rfl, h1, h2⟩
theorem fg_Sp (u : SX) (ld ch io : Nat → Int32) (s : Nat) : st_Sp u (fg_mk u ld ch io) s := ⟨rfl, rfl, rfl, rfl⟩
theorem fg_T (u : SX) (ld ch io : Nat → Int32) : ms_T (fg_mk u ld ch io) = ms_T u := rfl
theorem fg_Y (u : SX) (ld ch io : Nat → Int32) : ms_Y (fg_mk u ld ch io) = ms_Y u := rfl
theorem fg_X (u : SX) (ld ch io : Nat → Int32) : ms_X (fg_mk u ld ch io) = ms_X u := rfl
def cu_mk (u : SX) (wl hf : Int32) (dk ra ia ns : Nat → Int32) : SX := (wl, hf, xg_grouped u, xg_upKey u, xg_upNode u, xg_waiting u, xg_wrong u, xg_seenNodes u, xg_seenKeys u, dk, xg_images u, xg_rows u, xg_anchors u, xg_copies u, xg_loaded u, xg_changed u, xg_imageOf u, ra, xg_rowsUsed u, ia, xg_imagesUsed u, ns, xg_anchorNumber u, xg_selected u, xg_viewLength u, xg_view u, xg_group u, xg_wayNode u, xg_waySlot u, xg_wideKey u, xg_wideItem u, xg_walkNode u, xg_walkLevel u, xg_walkLow u, xg_walkHigh u)
theorem cu_dk (u : SX) (wl hf : Int32) (dk ra ia ns : Nat → Int32) (s : Nat) : xv_dk (cu_mk u wl hf dk ra ia ns) s = ms_v2 41 8 dk s := rfl
theorem cu_im (u : SX) (wl hf : Int32) (dk ra ia ns : Nat → Int32) (s : Nat) : xv_im (cu_mk u wl hf dk ra ia ns) s = xv_im u s := rfl
theorem cu_rw (u : SX) (wl hf : Int32) (dk ra ia ns : Nat → Int32) (s : Nat) : xv_rw (cu_mk u wl hf dk ra ia ns) s = xv_rw u s := rfl
theorem cu_an (u : SX) (wl hf : Int32) (dk ra ia ns : Nat → Int32) (s : Nat) : xv_an (cu_mk u wl hf dk ra ia ns) s = xv_an u s := rfl
theorem cu_cp (u : SX) (wl hf : Int32) (dk ra ia ns : Nat → Int32) (s : Nat) : xv_cp (cu_mk u wl hf dk ra ia ns) s = xv_cp u s := rfl
theorem cu_ld (u : SX) (wl hf : Int32) (dk ra ia ns : Nat → Int32) (s : Nat) : xv_ld (cu_mk u wl hf dk ra ia ns) s = xv_ld u s := rfl
theorem cu_ch (u : SX) (wl hf : Int32) (dk ra ia ns : Nat → Int32) (s : Nat) : xv_ch (cu_mk u wl hf dk ra ia ns) s = xv_ch u s := rfl
theorem cu_io (u : SX) (wl hf : Int32) (dk ra ia ns : Nat → Int32) (s : Nat) : xv_io (cu_mk u wl hf dk ra ia ns) s = xv_io u s := rfl
theorem cu_T (u : SX) (wl hf : Int32) (dk ra ia ns : Nat → Int32) : ms_T (cu_mk u wl hf dk ra ia ns) = ms_T u := rfl
theorem cu_Y (u : SX) (wl hf : Int32) (dk ra ia ns : Nat → Int32) : ms_Y (cu_mk u wl hf dk ra ia ns) = ms_Y u := rfl
theorem cu_X (u : SX) (wl hf : Int32) (dk ra ia ns : Nat → Int32) : ms_X (cu_mk u wl hf dk ra ia ns) = ms_X u := rfl
theorem cu_ns (u : SX) (wl hf : Int32) (dk ra ia ns : Nat → Int32) : xg_nextSaving (cu_mk u wl hf dk ra ia ns) = ns := rfl
theorem cu_ac (u : SX) (wl hf : Int32) (dk ra ia ns : Nat → Int32) : xg_anchorNumber (cu_mk u wl hf dk ra ia ns) = xg_anchorNumber u := rfl
theorem cu_wl (u : SX) (wl hf : Int32) (dk ra ia ns : Nat → Int32) (a : Int32) : xs_writesLeft (cu_mk u wl hf dk ra ia ns) a = cu_mk u a hf dk ra ia ns := rfl
theorem cu_S (u : SX) (wl hf : Int32) (dk ra ia ns : Nat → Int32) (s : Nat) (h1 : ms_v2 41 8 dk s = xv_dk u s) (h2 : ra s = xg_rowAt u s) (h3 : ia s = xg_imageAt u s) (h4 : ns s = xg_nextSaving u s) : st_S u (cu_mk u wl hf dk ra ia ns) s := ⟨⟨h1, rfl, rfl, rfl⟩, ⟨rfl, h2, rfl, h3, rfl, h4, rfl⟩, rfl, rfl, rfl⟩
theorem wa_S (u : SX) (s s' N : Nat) (p1 p2 : Int32) (h : s' ≠ s) : st_S u (wa_new u s N p1 p2) s' := ⟨⟨rfl, rfl, rfl, wa_ano h⟩, ⟨rfl, pk_un h, pk_un h, pk_un h, pk_un h, rfl, pk_un h⟩, rfl, rfl, rfl⟩
theorem wa_T (u : SX) (s N : Nat) (p1 p2 : Int32) : ms_T (wa_new u s N p1 p2) = ms_T u := rfl
theorem wa_Y (u : SX) (s N : Nat) (p1 p2 : Int32) : ms_Y (wa_new u s N p1 p2) = ms_Y u := rfl
theorem wa_X (u : SX) (s N : Nat) (p1 p2 : Int32) : ms_X (wa_new u s N p1 p2) = ms_X u := rfl
theorem st_S_t {u v w : SX} {s : Nat} (h1 : st_S u v s) (h2 : st_S v w s) : st_S u w s := by
  obtain ⟨⟨a1, a2, a3, a4⟩, ⟨b1, b2, b3, b4, b5, b6, b7⟩, c1, c2, c3⟩ := h1
  obtain ⟨⟨d1, d2, d3, d4⟩, ⟨e1, e2, e3, e4, e5, e6, e7⟩, f1, f2, f3⟩ := h2
  exact ⟨⟨d1.trans a1, d2.trans a2, d3.trans a3, d4.trans a4⟩, ⟨e1.trans b1, e2.trans b2, e3.trans b3, e4.trans b4, e5.trans b5, e6.trans b6, e7.trans b7⟩, f1.trans c1, f2.trans c2, f3.trans c3⟩
theorem st_rD_m {im : ms_B} : ∀ (L : List Nat) (i j : Nat) (D : ms_B), i % 48 = j % 48 → st_rD im i D L = st_rD im j D L := by
  intro L
  induction L with
  | nil => intro i j D _; rfl
  | cons a L ih =>
    intro i j D h
    show st_rD im (i + 1) (ms_mK D a (im (i % 48))) L = st_rD im (j + 1) (ms_mK D a (im (j % 48))) L
    rw [h]
    exact ih _ _ _ (by omega)
theorem st_rD_i {im : ms_B} : ∀ (L : List Nat) (i : Nat) (D D' : ms_B) (b : Nat), (b ∈ L → st_rD im i D L b = st_rD im i D' L b) ∧ (¬ b ∈ L → st_rD im i D L b = D b) := by
  intro L
  induction L with
  | nil => intro i D D' b; exact ⟨fun h => absurd h (by simp), fun _ => rfl⟩
  | cons a L ih =>
    intro i D D' b
    have h1 := ih (i + 1) (ms_mK D a (im (i % 48))) (ms_mK D' a (im (i % 48))) b
    have h2 := ih (i + 1) (ms_mK D' a (im (i % 48))) (ms_mK D a (im (i % 48))) b
    constructor
    · intro hb
      show st_rD im (i + 1) (ms_mK D a (im (i % 48))) L b = st_rD im (i + 1) (ms_mK D' a (im (i % 48))) L b
      by_cases hL : b ∈ L
      · exact h1.1 hL
      · rw [h1.2 hL, h2.2 hL]
        rcases List.mem_cons.mp hb with e | e
        · subst e; rw [ms_mK_s, ms_mK_s]
        · exact absurd e hL
    · intro hb
      show st_rD im (i + 1) (ms_mK D a (im (i % 48))) L b = D b
      rw [h1.2 (fun z => hb (List.mem_cons_of_mem _ z)), ms_mK_o _ _ (fun e => hb (by simp [e]))]
theorem st_rD_v {im V D D' : ms_B} {L : List Nat} {i : Nat} (h : st_eq (st_rD im i D L) V) (h' : st_eq D' V) : st_eq (st_rD im i D' L) V := by
  intro b c hb hc
  by_cases hL : b ∈ L
  · rw [(st_rD_i L i D' D b).1 hL]; exact h b c hb hc
  · rw [(st_rD_i L i D' D b).2 hL]; exact h' b c hb hc
theorem st_rn_2 (rw : ms_B) : ∀ (LS : List (List Nat)) (r q : Nat), st_Rows rw r q LS → 2 * LS.length ≤ st_rn LS := by
  intro LS
  induction LS with
  | nil => intro r q _; simp [st_rn]
  | cons S LS ih =>
    rintro r q ⟨⟨a1, _⟩, h2⟩
    have := ih _ _ h2
    have h1 : 1 ≤ st_nl S := by
      unfold st_nl
      cases S with
      | nil => exact absurd rfl a1
      | cons _ _ => simp; omega
    simp only [st_rn, List.length_cons]
    omega
theorem cu_31 {post : SX → Prop} {ub : SX} {s N r i q : Nat} {dk ra ia ns : Nat → Int32} (hs : s < 4) (hra : ra s = nI r) (hia : ia s = nI i) (hns : ns s = nI q) (hN : xg_anchorNumber ub s = nI N) (hN2 : N < 1000000)
    (c : post (wa_new (cu_mk ub (nI 0) 0 dk ra ia (upd ns s (nI (q + 1)))) s N (nI r) (nI i))) : xc_comeUp_31 post (nI s) (rp_mk ub dk ra ia ns) := by
  rw [xe_comeUp_31, rp_g2, rp_g3, rp_g4, nI_clamp (n := s) (by omega), hra, hia, hns, nI_1]
  refine ⟨vp_in_nI hs (by omega), vp_in_nI hs (by omega), nm_e ⟨vp_in_nI hs (by omega), vp_in_nI hs (by omega), ?_⟩⟩
  refine wa_walk (u := cu_mk ub 1 0 dk ra ia (upd ns s (nI (q + 1)))) (wl := 0) hs rfl rfl (by omega) rfl (by rw [cu_ac]; exact hN) hN2 ?_
  rw [cu_wl]
  exact c
theorem cu_loop {post : SX → Prop} {ub : SX} {s i0 r0 q0 : Nat} {D0 : ms_B} {LS : List (List Nat)} (hs : s < 4) (hi0 : i0 < 48) (hr0 : r0 < 14) (hq : q0 + LS.length < 150000) (hrn : st_rn LS ≤ 14) (hl48 : LS.flatten.length ≤ 48)
    (ht : ∀ j, j < 14 → ∃ m, xv_rw ub s j 7 = nI m ∧ m ≤ q0 + LS.length ∧ (xv_rw ub s j 0 = 2 → m < q0 + LS.length)) (hlen : LS.length ≤ 7)
    (c : ∀ dk ra ia ns, rp_oth ub s dk ra ia ns → ms_v2 41 8 dk s = st_rD (xv_im ub s) i0 D0 LS.flatten → ra s = nI ((r0 + st_rn LS) % 14) → ia s = nI ((i0 + LS.flatten.length) % 48) → ns s = nI (q0 + LS.length) → xc_comeUp_31 post (nI s) (rp_mk ub dk ra ia ns)) :
    ∀ (rest done : List (List Nat)) (dk ra ia ns : Nat → Int32), done ++ rest = LS → st_Rows (xv_rw ub s) (r0 + st_rn done) (q0 + done.length) rest → rp_oth ub s dk ra ia ns → ms_v2 41 8 dk s = st_rD (xv_im ub s) i0 D0 done.flatten → ra s = nI ((r0 + st_rn done) % 14) → ia s = nI ((i0 + done.flatten.length) % 48) → ns s = nI (q0 + done.length) →
    xc_comeUp_9 post (nI s) (rest.length + 2) 1 (nI done.length) (rp_mk ub dk ra ia ns) := by
  intro rest
  induction rest with
  | nil =>
    intro done dk ra ia ns e hR h1 h2 h3 h4 h5
    rw [List.append_nil] at e
    subst e
    rw [List.length_nil, xe_comeUp_9]
    refine br_f (na_nle (a := 14) (b := done.length) rfl rfl (by omega) (by omega)) (br_f (by decide) ?_)
    rw [xe_replay]
    refine ⟨15, rr_none (u := rp_mk ub dk ra ia ns) (r := r0 + st_rn done) (q := q0 + done.length) hs h3 h5 (by omega) ht (nm_r (nI_1 _) ?_) 14 0 rfl⟩
    rw [xe_comeUp_9]
    exact br_f (na_nle (a := 14) (b := done.length + 1) rfl rfl (by omega) (by omega)) (br_t rfl (c dk ra ia ns h1 h2 h3 h4 h5))
  | cons S rest ih =>
    intro done dk ra ia ns e hR h1 h2 h3 h4 h5
    obtain ⟨⟨s1, s2, s3, s4, s5⟩, hR'⟩ := hR
    have el : LS.length = done.length + rest.length + 1 := by rw [← e]; simp; omega
    have hnl : st_nl S ≤ 13 := by unfold st_nl; omega
    have hfl : (done ++ [S]).flatten = done.flatten ++ S := by simp
    have hdl : (done ++ [S]).length = done.length + 1 := by simp
    have hfb : done.flatten.length ≤ 48 := by
      have : LS.flatten.length = done.flatten.length + (S :: rest).flatten.length := by rw [← e, List.flatten_append, List.length_append]
      omega
    rw [List.length_cons, xe_comeUp_9]
    refine br_f (na_nle (a := 14) (b := done.length) rfl rfl (by omega) (by omega)) (br_f (by decide) ?_)
    rw [xe_replay]
    refine ⟨st_nl S + 1, rr_2 (u := rp_mk ub dk ra ia ns) (r := r0 + st_rn done) (q := q0 + done.length) hs h3 h5 hnl s4 s5 ⟨st_nl S + 1, ?_⟩ (st_nl S) 0 (by omega)⟩
    refine rr_38 (i := (i0 + done.flatten.length) % 48) (r := r0 + st_rn done) (q := q0 + done.length) (D0 := st_rD (xv_im ub s) i0 D0 done.flatten) (S := S) hs s3 s2 s1 (Nat.mod_lt _ (by omega)) h3 h5 (by omega) s4 (fun dk' ra' ia' ns' g1 g2 g3 g4 g5 => nm_r (nI_1 _) ?_) (st_nl S) 0 dk ia (by omega) h1 (by rw [Nat.mul_zero, List.take_zero]; exact h2) ⟨fun _ => by rw [Nat.mul_zero, Nat.add_zero, Nat.mod_mod]; exact h4, fun h => ?_⟩
    · have h := ih (done ++ [S]) dk' ra' ia' ns' (by rw [← e]; simp) (by rw [st_rn_app, hdl, ← Nat.add_assoc, ← Nat.add_assoc, ← Nat.add_assoc]; exact hR') g1 ?_ ?_ ?_ ?_
      · rw [hdl] at h
        exact h
      · rw [hfl, st_rD_app, g2]
        exact st_rD_m _ _ _ _ (by omega)
      · rw [g3, st_rn_app]; exact congrArg nI (by omega)
      · rw [g4, hfl, List.length_append]; exact congrArg nI (by omega)
      · rw [g5, hdl]; exact congrArg nI (by omega)
    · exfalso
      unfold st_nl at h
      cases S with
      | nil => exact s1 rfl
      | cons _ _ => simp at h; omega
theorem cm_walk {post : SX → Prop} {u : SX} {ps : Int32} {s K : Nat} {V : ms_B} (hs : s < 4) (es : ps = nI s) (hK : K + 1 ≤ 100000) (hP : st_Ps K V u s) (k : ∀ u', st_Bx (K + 1) False V V u' s → (∀ s', s' ≠ s → st_S u u' s') → ms_T u' = ms_T u → ms_Y u' = ms_Y u → ms_X u' = ms_X u → post u') : wpX_comeUp post u ps := by
  subst es
  obtain ⟨N, r0, i0, q0, LS, hP⟩ := hP
  have hP' := hP
  obtain ⟨⟨n1, n2, n3⟩, ⟨c1, c2, c3, c4, c5, c6⟩, p3, p4, p5⟩ := hP'
  rw [xe_comeUp]
  refine fa_walk hs rfl (by omega) hP (fun ld ch io h1 h2 => ⟨LS.length + 2, ?_⟩)
  generalize e1 : nI N = zN
  generalize e2 : nI r0 = zr
  generalize e3 : nI i0 = zi
  generalize e4 : nI q0 = zq
  have hgo := cu_loop (post := post) (i0 := i0) (r0 := r0) (q0 := q0) (ub := fa_mk u ld ch io s zN zr zi zq) (D0 := xv_dk u s) (LS := LS) hs c2 c1 (by omega) c3 c4 (by rw [fb_rw]; exact p4) (by have := st_rn_2 _ LS _ _ p3; omega) (fun dk ra ia ns g1 g2 g3 g4 g5 => ?_) LS [] (xg_disk (fa_mk u ld ch io s zN zr zi zq)) (xg_rowAt (fa_mk u ld ch io s zN zr zi zq)) (xg_imageAt (fa_mk u ld ch io s zN zr zi zq)) (xg_nextSaving (fa_mk u ld ch io s zN zr zi zq)) rfl (by rw [fb_rw]; exact p3) (fun _ _ => ⟨rfl, rfl, rfl, rfl⟩) rfl ?_ ?_ ?_
  · rw [← rp_4] at hgo
    exact hgo
  · refine cu_31 hs g3 g4 g5 (by rw [fb_anchorNumber, pk_us, ← e1]) (by omega) ?_
    generalize nI 0 = wz
    rw [fb_im] at g2
    refine k _ ?_ (fun s' e => ?_) (by rw [wa_T, cu_T, fb_T]) (by rw [wa_Y, cu_Y, fb_Y]) (by rw [wa_X, cu_X, fb_X])
    · have hd : st_eq (ms_v2 41 8 dk s) V := by rw [g2]; exact p5
      refine wa_bx (K := K) (r0 := r0) (i0 := i0) (q0 := q0) (LS := LS) (q' := q0 + LS.length + 1) hs ?_ (by rw [cu_dk]; exact hd) (fun b hb => by rw [cu_io, fb_io]; exact (h2 b hb).2.2) (Nat.mod_lt _ (by omega)) (Nat.mod_lt _ (by omega)) (by omega) (by omega) (by rw [cu_ns, pk_us]) ?_
      · rw [cu_dk, cu_im, cu_rw, cu_an, fb_im, fb_rw, fb_an]
        exact ⟨⟨n1, n2, n3⟩, ⟨c1, c2, c3, c4, c5, c6⟩, p3, p4, st_rD_v p5 hd⟩
      · rw [cu_cp, cu_ld, cu_ch, fb_ld, fb_ch]
        exact fun b hb => ⟨fun h => absurd (h2 b hb).1 h, fun _ => (h2 b hb).2.1, fun _ _ _ => rfl, fun _ => (h2 b hb).2.1⟩
    · obtain ⟨a1, a2, a3, a4⟩ := g1 s' e
      obtain ⟨b1, b2, b3⟩ := h1 s' e
      exact st_S_t (st_S_t (fb_S u ld ch io s zN zr zi zq s' e b1 b2 b3) (cu_S _ wz 0 dk ra ia _ s' a1 a2 a3 ((pk_un e).trans a4))) (wa_S _ s s' N _ _ e)
  · rw [fb_rowAt, pk_us, ← e2]
    show nI r0 = nI ((r0 + 0) % 14)
    exact congrArg nI (by omega)
  · rw [fb_imageAt, pk_us, ← e3]
    show nI i0 = nI ((i0 + 0) % 48)
    exact congrArg nI (by omega)
  · rw [fb_nextSaving, pk_us, ← e4]
    rfl
end
section
/-! crash, idle, the constructor -/
theorem cr_41 {post : Int32 → SX → Prop} {K : Nat} {V : ms_M} {t : ms_TT} {y : ms_YT} {x : ms_XT} {r : Int32} (hK : K + 1 ≤ 100000) (k : ∀ u', ms_R (K + 1) 4 V V t y x u' → post r u') :
    ∀ (d m : Nat) (u : SX), m + d = 4 → (∀ s, s < m → st_Bx (K + 1) False (V s) (V s) u s) → (∀ s, m ≤ s → s < 4 → st_Ps K (V s) u s) → ms_T u = t → ms_Y u = y → ms_X u = x → xc_crash_41 post r (d + 1) (nI m) u := by
  intro d
  induction d with
  | zero =>
    intro m u hm h1 h2 hT hY hX
    have : m = 4 := by omega
    subst this
    rw [xe_crash_41]
    exact br_t (by decide) (k u ⟨hK, fun s hs => st_clean (h1 s hs) (fun z => z), hT, hY, hX⟩)
  | succ d ih =>
    intro m u hm h1 h2 hT hY hX
    rw [xe_crash_41]
    refine br_f (na_nle (a := 4) (b := m) rfl rfl (by omega) (by omega)) ?_
    refine fg_walk (s := m) (by omega) rfl (fun ld ch io g1 g2 => ?_)
    refine cm_walk (K := K) (V := V m) (s := m) (by omega) rfl hK (st_Pf (h2 m (Nat.le_refl _) (by omega)) (fg_Sp u ld ch io m)) (fun u' b1 b2 b3 b4 b5 => nm_r (nI_1 m) ?_)
    have hS : ∀ s, s ≠ m → st_S u u' s := fun s e => st_S_t (fg_S u ld ch io s (g1 s e).1 (g1 s e).2.1 (g1 s e).2.2) (b2 s e)
    refine ih (m + 1) u' (by omega) (fun s hs => ?_) (fun s hs hs4 => ?_) ?_ ?_ ?_
    · by_cases e : s = m
      · subst e; exact b1
      · exact st_frame (h1 s (by omega)) (hS s e)
    · exact st_Pf (h2 s (by omega) hs4) (hS s (by omega)).1
    · rw [b3, fg_T]; exact hT
    · rw [b4, fg_Y]; exact hY
    · rw [b5, fg_X]; exact hX
def cr_sel (a : Nat → Int32) : Nat → Int32 := upd (upd (upd a 0 0) 1 0) 2 0
def cr_one (v : Int32) : Nat := if v ≤ 0 then 0 else 1
theorem cr_24 {post : Int32 → SX → Prop} {n j c : Nat} {u : SX} (hj : j < 3) (k : xc_crash_4 post n (nI (c + cr_one (xg_selected u j))) (nI (j + 1)) (xs_selected u (upd (xg_selected u) j 0))) : xc_crash_4 post (n + 1) (nI c) (nI j) u := by
  rw [xe_crash_4]
  refine br_f (na_nle (a := 3) (b := j) rfl rfl (by omega) (by omega)) ⟨vp_in_nI hj (by omega), ?_⟩
  rw [nI_clamp (n := j) (by omega)]
  unfold cr_one at k
  refine br_c (fun h => ?_) (fun h => ?_)
  · rw [if_pos h] at k
    rw [xe_crash_24, nI_clamp (n := j) (by omega)]
    exact nm_r (na_z c) ⟨vp_in_nI hj (by omega), nm_e (nm_r (nI_1 j) k)⟩
  · rw [if_neg h] at k
    rw [xe_crash_24, nI_clamp (n := j) (by omega)]
    exact nm_r (nI_1 c) ⟨vp_in_nI hj (by omega), nm_e (nm_r (nI_1 j) k)⟩
theorem xq_ss (u : SX) (a b : Nat → Int32) : xs_selected (xs_selected u a) b = xs_selected u b := rfl
theorem xq_gs (u : SX) (a : Nat → Int32) : xg_selected (xs_selected u a) = a := rfl
theorem xq_sS (u : SX) (a : Nat → Int32) (s : Nat) : st_Sp u (xs_selected u a) s := ⟨rfl, rfl, rfl, rfl⟩
theorem xq_sT (u : SX) (a : Nat → Int32) : ms_T (xs_selected u a) = ms_T u := rfl
theorem xq_sY (u : SX) (a : Nat → Int32) : ms_Y (xs_selected u a) = ms_Y u := rfl
theorem xq_sX (u : SX) (a : Nat → Int32) : ms_X (xs_selected u a) = (a, (ms_X u).2) := rfl
theorem cr_walk {post : Int32 → SX → Prop} {K : Nat} {V : ms_M} {u : SX} (hK : K + 1 ≤ 100000) (hP : ∀ s, s < 4 → st_Ps K (V s) u s)
    (k : ∀ u', ms_R (K + 1) 4 V V (ms_T u) (ms_Y u) (cr_sel (ms_X u).1, (ms_X u).2) u' → post (nI (cr_one ((ms_X u).1 0) + cr_one ((ms_X u).1 1) + cr_one ((ms_X u).1 2))) u') : wpX_crash post u := by
  rw [xe_crash]
  refine ⟨4, ?_⟩
  refine cr_24 (j := 0) (c := 0) (by omega) ?_
  refine cr_24 (j := 1) (by omega) ?_
  rw [xq_gs, xq_ss]
  refine cr_24 (j := 2) (by omega) ?_
  rw [xq_gs, xq_ss, xe_crash_4]
  refine br_t (by decide) ⟨5, ?_⟩
  have e1 : upd (xg_selected u) 0 0 1 = xg_selected u 1 := pk_un (by omega)
  have e2 : upd (upd (xg_selected u) 0 0) 1 0 2 = xg_selected u 2 := by rw [pk_un (by omega), pk_un (by omega)]
  rw [e1, e2, Nat.zero_add]
  refine cr_41 hK k 4 0 _ rfl (fun s hs => absurd hs (by omega)) (fun s _ hs => st_Pf (hP s hs) (xq_sS _ _ s)) (xq_sT _ _) (xq_sY _ _) (xq_sX _ _)
/-! idle -/
section
variable {K w : Nat} {V M : ms_M} {t : ms_TT} {y : ms_YT} {x : ms_XT} {u : SX} {s : Nat}
theorem id_49 {post : SX → Prop} (hs : s < 4) (k : ∀ u', ms_R K w V M t y x u' → post u') : ∀ (d b : Nat) (u : SX), b + d = 41 → ms_R K w V M t y x u → xc_idle_49 post (nI s) (d + 1) (nI (41 * s + b)) u := by
  have hz : ∀ (u : SX) (b : Nat), b < 41 → ms_R K w V M t y x u → xv_ch u s b = 0 → ms_R K w V M t y x (xs_loaded u (upd (xg_loaded u) (41 * s + b) 0)) := by
    intro u b hb hR h0
    obtain ⟨hK, hB, hT, hY, hX⟩ := hR
    refine ⟨hK, fun s' hs' => ?_, hT, hY, hX⟩
    by_cases e : s' = s
    · subst e
      obtain ⟨N, r0, i0, q0, LS, hP, hV, hC⟩ := hB s' hs'
      refine ⟨N, r0, i0, q0, LS, hP, hV, fun b' hb' => ?_⟩
      have f1 : xv_ld (xs_loaded u (upd (xg_loaded u) (41 * s' + b) 0)) s' = upd (xv_ld u s') b 0 := ms_v1_u _ _ _ hb
      rw [f1]
      obtain ⟨c1, c2, c3, c4⟩ := hC b' hb'
      by_cases eb : b' = b
      · subst eb
        rw [pk_us]
        exact ⟨fun h => absurd rfl h, fun _ => h0, c3, c4⟩
      · rw [pk_un eb]
        exact ⟨c1, c2, c3, c4⟩
    · exact st_frame (hB s' hs') ⟨⟨rfl, rfl, rfl, rfl⟩, ⟨rfl, rfl, rfl, rfl, rfl, rfl, rfl⟩, rfl, ms_v1_o _ _ hb e, rfl⟩
  have ho : ∀ (u : SX) (b : Nat), b < 41 → ms_R K w V M t y x u → xv_ld u s b ≠ 0 → ms_R K w V M t y x (xs_loaded u (upd (xg_loaded u) (41 * s + b) 1)) := by
    intro u b hb hR h0
    obtain ⟨hK, hB, hT, hY, hX⟩ := hR
    refine ⟨hK, fun s' hs' => ?_, hT, hY, hX⟩
    by_cases e : s' = s
    · subst e
      obtain ⟨N, r0, i0, q0, LS, hP, hV, hC⟩ := hB s' hs'
      refine ⟨N, r0, i0, q0, LS, hP, hV, fun b' hb' => ?_⟩
      have f1 : xv_ld (xs_loaded u (upd (xg_loaded u) (41 * s' + b) 1)) s' = upd (xv_ld u s') b 1 := ms_v1_u _ _ _ hb
      rw [f1]
      obtain ⟨c1, c2, c3, c4⟩ := hC b' hb'
      by_cases eb : b' = b
      · subst eb
        rw [pk_us]
        exact ⟨fun _ => c1 h0, fun h => absurd h (by decide), c3, c4⟩
      · rw [pk_un eb]
        exact ⟨c1, c2, c3, c4⟩
    · exact st_frame (hB s' hs') ⟨⟨rfl, rfl, rfl, rfl⟩, ⟨rfl, rfl, rfl, rfl, rfl, rfl, rfl⟩, rfl, ms_v1_o _ _ hb e, rfl⟩
  intro d
  induction d with
  | zero =>
    intro b u hb hR
    have hb41 : b = 41 := by omega
    subst hb41
    rw [xe_idle_49, na_m41, na_q41]
    exact br_t (Int32.le_refl _) (k u hR)
  | succ d ih =>
    intro b u hb hR
    have hb41 : b < 41 := by omega
    have e1 : xg_loaded u (41 * s + b) = xv_ld u s b := (ms_v1_g _ _ hb41).symm
    have e2 : xg_changed u (41 * s + b) = xv_ch u s b := (ms_v1_g _ _ hb41).symm
    rw [xe_idle_49, na_m41, na_q41, nI_clamp (n := 41 * s + b) (by omega), e1, e2]
    refine br_f (nI_ge (by omega) (by omega)) ⟨vp_in_nI (by omega) (by omega), br_c (fun h => ⟨vp_in_nI (by omega) (by omega), nm_e (nm_r (nI_1 _) ?_)⟩) (fun h => ⟨vp_in_nI (by omega) (by omega), br_c (fun hc => ⟨vp_in_nI (by omega) (by omega), nm_e (nm_r (nI_1 _) ?_)⟩) (fun hc => ⟨vp_in_nI (by omega) (by omega), nm_e (nm_r (nI_1 _) ?_)⟩)⟩)⟩
    · refine ih (b + 1) _ (by omega) (hz u b hb41 hR ?_)
      obtain ⟨_, _, _, _, _, _, _, hC⟩ := hR.2.1 s hs
      exact (hC b hb41).2.1 h
    · exact ih (b + 1) _ (by omega) (hz u b hb41 hR hc)
    · exact ih (b + 1) _ (by omega) (ho u b hb41 hR h)
theorem id_walk {post : SX → Prop} {p0 p1 : Int32} (hR : ms_R K w V M t y x u) (hK : K + 1 ≤ 100000) (k : ∀ u', ms_R (K + 1) w V M t y x u' → post u') : wpX_idle post u p0 p1 := by
  have hR' := ms_mono hR (K' := K + 1) (by omega) hK
  rw [xe_idle]
  refine br_c (fun _ => br_t rfl (k u hR')) (fun h0 => br_c (fun _ => br_t rfl (k u hR')) (fun h4 => br_f (by decide) ?_))
  obtain ⟨s, hs, rfl⟩ := nI_of h0
  have hs4 : s < 4 := by
    rcases Nat.lt_or_ge s 4 with h | h
    · exact h
    · exact absurd (nI_le (a := 4) h hs) h4
  have hgo : ∀ wl, wl ≤ 1000 → xc_idle_31 post (nI s) (nI wl) u := by
    intro wl hwl
    rw [xe_idle_31]
    refine hh_homes (wl := wl) (hm_hf (hm_wl hR (nI wl)) 0) hs4 rfl hK rfl rfl hwl (fun u' r' _ _ => ?_)
    rw [na_m41]
    exact nm_e ⟨42, id_49 hs4 k 41 0 u' rfl r'⟩
  refine br_c (fun hp => ?_) (fun _ => hgo 0 (by omega))
  obtain ⟨j, hj, rfl⟩ := nI_of (x := p1) (Int32.not_lt.mpr hp)
  exact pk_le j 1000 (fun h => hgo j h) (fun _ => hgo 1000 (by omega))
end
/-! the constructor -/
def it_V : ms_M := fun _ _ _ => 0
theorem it_an {a : Nat → Int32} {s : Nat} : ms_v2 2 5 (upd (upd (upd a (5 * (2 * s + 0) + 0) 1) (5 * (2 * s + 0) + 3) 1) (5 * (2 * s + 0) + 4) 1) s = ms_mC (ms_mC (ms_mC (ms_v2 2 5 a s) 0 0 1) 0 3 1) 0 4 1 := by
  rw [ms_v2_u _ _ _ (by omega) (by omega), ms_v2_u _ _ _ (by omega) (by omega), ms_v2_u _ _ _ (by omega) (by omega)]
theorem it_ano {a : Nat → Int32} {s s' : Nat} (e : s' ≠ s) : ms_v2 2 5 (upd (upd (upd a (5 * (2 * s + 0) + 0) 1) (5 * (2 * s + 0) + 3) 1) (5 * (2 * s + 0) + 4) 1) s' = ms_v2 2 5 a s' := by
  rw [ms_v2_o _ _ (by omega) (by omega) e, ms_v2_o _ _ (by omega) (by omega) e, ms_v2_o _ _ (by omega) (by omega) e]
theorem it_S (u : SX) (a : Nat → Int32) (s : Nat) (h : ms_v2 2 5 a s = xv_an u s) : st_S u (xs_anchors u a) s := ⟨⟨rfl, rfl, rfl, h⟩, ⟨rfl, rfl, rfl, rfl, rfl, rfl, rfl⟩, rfl, rfl, rfl⟩
theorem it_T (u : SX) (a : Nat → Int32) : ms_T (xs_anchors u a) = ms_T u := rfl
theorem it_Y (u : SX) (a : Nat → Int32) : ms_Y (xs_anchors u a) = ms_Y u := rfl
theorem it_X (u : SX) (a : Nat → Int32) : ms_X (xs_anchors u a) = ms_X u := rfl
theorem it_gan (u : SX) (a : Nat → Int32) (s : Nat) : xv_an (xs_anchors u a) s = ms_v2 2 5 a s := rfl
theorem it_z2 (m n s : Nat) : ms_v2 m n (fun _ => 0) s = fun _ _ => 0 := by
  funext b c
  unfold ms_v2
  split <;> rfl
theorem it_0 {V dk im rw an : ms_B} (hV : ∀ b c, V b c = 0) (hd : dk = fun _ _ => 0) (hr : rw = fun _ _ => 0) (h0 : an 0 0 = 1) (h1 : an 0 1 = 0) (h2 : an 0 2 = 0) (h3 : an 0 3 = 1) (h4 : an 0 4 = 1) (g0 : an 1 0 = 0) (g4 : an 1 4 = 0) : st_Pers 1 V dk im rw an 1 0 0 1 [] := by
  refine ⟨⟨by omega, by omega, h0, h1, h2, h3, h4, 0, by omega, g0, g4⟩, ⟨by omega, by omega, by simp [st_rn], by simp, by omega, by simp⟩, trivial, fun j hj => ⟨0, by rw [hr]; rfl, by simp, fun _ => by simp⟩, fun b c _ _ => ?_⟩
  show dk b c = V b c
  rw [hd, hV]
theorem it_loop {post : SX → Prop} (k : ∀ u', ms_R 1 4 it_V it_V (ms_T xu_0) (ms_Y xu_0) (ms_X xu_0) u' → post u') : ∀ (d m : Nat) (u : SX), m + d = 4 → (∀ s, s < m → st_Bx 1 False (it_V s) (it_V s) u s) → (∀ s, m ≤ s → st_S xu_0 u s) → ms_T u = ms_T xu_0 → ms_Y u = ms_Y xu_0 → ms_X u = ms_X xu_0 → xc_init_210 post (d + 1) (nI m) u := by
  intro d
  induction d with
  | zero =>
    intro m u hm h1 h2 hT hY hX
    have : m = 4 := by omega
    subst this
    rw [xe_init_210]
    exact br_t (by decide) (k u ⟨by omega, fun s hs => st_clean (h1 s hs) (fun z => z), hT, hY, hX⟩)
  | succ d ih =>
    intro m u hm h1 h2 hT hY hX
    rw [xe_init_210, na_m10, na_q3, na_q4, nI_clamp (n := 10 * m) (by omega), nI_clamp (n := 10 * m + 3) (by omega), nI_clamp (n := 10 * m + 4) (by omega)]
    refine br_f (na_nle (a := 4) (b := m) rfl rfl (by omega) (by omega)) ⟨vp_in_nI (by omega) (by omega), nm_e ⟨vp_in_nI (by omega) (by omega), nm_e ⟨vp_in_nI (by omega) (by omega), nm_e ?_⟩⟩⟩
    rw [show 10 * m = 5 * (2 * m + 0) + 0 from by omega, show 5 * (2 * m + 0) + 0 + 3 = 5 * (2 * m + 0) + 3 from by omega, show 5 * (2 * m + 0) + 0 + 4 = 5 * (2 * m + 0) + 4 from by omega]
    have hman := it_an (a := xg_anchors u) (s := m)
    have hoan := fun s' (e : s' ≠ m) => it_ano (a := xg_anchors u) e
    generalize upd (upd (upd (xg_anchors u) (5 * (2 * m + 0) + 0) 1) (5 * (2 * m + 0) + 3) 1) (5 * (2 * m + 0) + 4) 1 = A at hman hoan ⊢
    have hm0 := h2 m (Nat.le_refl _)
    obtain ⟨⟨a1, a2, a3, a4⟩, _, b1, b2, b3⟩ := hm0
    have z4 : xv_an u m = fun _ _ => 0 := a4.trans (it_z2 2 5 m)
    have hAn : ms_v2 2 5 A m = ms_mC (ms_mC (ms_mC (fun _ _ => 0) 0 0 1) 0 3 1) 0 4 1 := by rw [hman]; show ms_mC (ms_mC (ms_mC (xv_an u m) 0 0 1) 0 3 1) 0 4 1 = _; rw [z4]
    have hP : st_Pers 1 (it_V m) (xv_dk u m) (xv_im u m) (xv_rw u m) (xv_an (xs_anchors u A) m) 1 0 0 1 [] := by
      rw [it_gan, hAn]
      exact it_0 (fun _ _ => rfl) (a1.trans (it_z2 41 8 m)) (a3.trans (it_z2 14 8 m)) (by simp [ms_mC_g]) (by simp [ms_mC_g]) (by simp [ms_mC_g]) (by simp [ms_mC_g]) (by simp [ms_mC_g]) (by simp [ms_mC_g]) (by simp [ms_mC_g])
    refine fa_walk (K := 1) (s := m) (by omega) rfl (by omega) hP (fun ld ch io g1 g2 => nm_r (nI_1 m) ?_)
    generalize e1 : nI 1 = z1
    generalize e0 : nI 0 = z0
    have hS : ∀ s, s ≠ m → st_S u (fa_mk (xs_anchors u A) ld ch io m z1 z0 z0 z1) s := fun s e => st_S_t (it_S u A s (hoan s e)) (fb_S _ ld ch io m z1 z0 z0 z1 s e (g1 s e).1 (g1 s e).2.1 (g1 s e).2.2)
    refine ih (m + 1) _ (by omega) (fun s hs => ?_) (fun s hs => ?_) ?_ ?_ ?_
    · by_cases e : s = m
      · subst e
        refine ⟨1, 0, 0, 1, [], ?_, ?_, ?_⟩
        · rw [fb_dk, fb_im, fb_rw, fb_an]
          exact hP
        · rw [fb_dk, fb_im, fb_io, fb_rowAt, fb_rowsUsed, fb_imageAt, fb_imagesUsed, fb_nextSaving, fb_anchorNumber, pk_us, pk_us, pk_us, pk_us, pk_us, pk_us]
          refine ⟨⟨e1.symm, e0.symm, e0.symm, rfl, rfl, e1.symm⟩, fun b hb => Or.inl ⟨(g2 b hb).2.2, fun c hc => ?_⟩⟩
          show xv_dk u s b c = _
          rw [a1.trans (it_z2 41 8 s)]
          rfl
        · rw [fb_ld, fb_ch]
          exact fun b hb => ⟨fun h => absurd (g2 b hb).1 h, fun _ => (g2 b hb).2.1, fun _ _ _ => rfl, fun _ => (g2 b hb).2.1⟩
      · exact st_frame (h1 s (by omega)) (hS s e)
    · exact st_S_t (h2 s (by omega)) (hS s (by omega))
    · rw [fb_T, it_T]; exact hT
    · rw [fb_Y, it_Y]; exact hY
    · rw [fb_X, it_X]; exact hX
theorem it_walk {post : SX → Prop} (k : ∀ u', ms_R 1 4 it_V it_V (ms_T xu_0) (ms_Y xu_0) (ms_X xu_0) u' → post u') : wpX_init post := by
  rw [xe_init]
  exact ⟨5, it_loop k 4 0 xu_0 rfl (fun s hs => absurd hs (by omega)) (fun s _ => ⟨⟨rfl, rfl, rfl, rfl⟩, ⟨rfl, rfl, rfl, rfl, rfl, rfl, rfl⟩, rfl, rfl, rfl⟩) rfl rfl rfl⟩
end
section
/-! a mailbox's contents -/
theorem tr_ok_fr {B B' : ms_B} {i : Nat} {kv : tr_KV} {ns : List Nat} (h : tr_ok B i kv ns) (e0 : B' 0 (3 * i) = B 0 (3 * i)) (e1 : B' 0 (3 * i + 1) = B 0 (3 * i + 1)) (e2 : B' 0 (3 * i + 2) = B 0 (3 * i + 2)) (en : ∀ z, z ∈ ns → B' z = B z) : tr_ok B' i kv ns := by
  obtain ⟨h1, h2, h3⟩ := h
  refine ⟨e2.trans h1, h2, ?_⟩
  rcases h3 with ⟨a, b, c, d⟩ | ⟨root, L, a, b, c⟩
  · exact Or.inl ⟨a, b, e0.trans c, e1.trans d⟩
  · exact Or.inr ⟨root, L, e0.trans a, e1.trans b, tr_T_fr _ _ _ _ _ _ _ c en⟩
theorem tr_ok_in {B : ms_B} {i : Nat} {kv : tr_KV} {ns : List Nat} (h : tr_ok B i kv ns) : (∀ z, z ∈ ns → 9 ≤ z ∧ z < 41) ∧ ns.length ≤ 14 ∧ tr_rg 0 1000000 kv := by
  obtain ⟨h1, h2, h3⟩ := h
  rcases h3 with ⟨a, b, c, d⟩ | ⟨root, L, a, b, c⟩
  · subst a b
    exact ⟨fun z hz => absurd hz (by simp), by simp, fun p hp => absurd hp (by simp), List.Pairwise.nil⟩
  · have hs := tr_T_sz _ _ _ _ _ _ _ (by split <;> omega) c
    refine ⟨tr_T_in _ _ _ _ _ _ _ c, ?_, hs.1⟩
    have := hs.2.2.1
    split at this <;> omega
def mb_tr (B : ms_B) (k0 k1 : tr_KV) : Prop := ∃ ns0 ns1, tr_ok B 0 k0 ns0 ∧ tr_ok B 1 k1 ns1 ∧ (ns0 ++ ns1).Nodup ∧ tr_map B (ns0 ++ ns1)
theorem mb_tr_fr {B B' : ms_B} {k0 k1 : tr_KV} (h : mb_tr B k0 k1) (e0 : B' 0 = B 0) (e : ∀ z, 9 ≤ z → B' z = B z) : mb_tr B' k0 k1 := by
  obtain ⟨ns0, ns1, a, b, c, d⟩ := h
  refine ⟨ns0, ns1, tr_ok_fr a (by rw [e0]) (by rw [e0]) (by rw [e0]) (fun z hz => e z ((tr_ok_in a).1 z hz).1), tr_ok_fr b (by rw [e0]) (by rw [e0]) (by rw [e0]) (fun z hz => e z ((tr_ok_in b).1 z hz).1), c, fun i hi => ?_⟩
  rw [e0]; exact d i hi
section
variable {K w : Nat} {V : ms_M} {s : Nat} {y : ms_YT} {x : ms_XT} {B : ms_B} {t : ms_TT} {u : SX} {k0 k1 : tr_KV}
theorem mb_set0 {post : SX → Prop} {ps pi pv : Int32} {v : Nat} (hR : ms_RB K w V s y x B t u) (hw : w = s) (hs : s < 4) (es : ps = nI s) (ei : pi = 0) (ev : pv = nI v) (key : Int32) (ht : mb_tr B k0 k1) (h13 : k0.length ≤ 13) (hv : v < 14) (h0 : 0 ≤ key.toInt) (h6 : key.toInt < 1000000) (hmax : ∀ p, p ∈ k0 → p.1 < key.toInt)
    (k : ∀ (B' : ms_B) (t' : ms_TT) (u' : SX), ms_RB K w V s y x B' t' u' → mb_tr B' (k0 ++ [(key.toInt, v)]) k1 → (∀ b, 1 ≤ b → b < 9 → B' b = B b) → post u') : wpX_setKey post u ps pi key pv := by
  obtain ⟨ns0, ns1, a, b, c, d⟩ := ht
  have ib := tr_ok_in b
  refine tg_set (i := 0) hR hw hs (by omega) es ei ev key a (fun z hz => (ib.1 z hz).1) ib.2.1 c d h13 hv h0 h6 hmax (fun B' t' u' r' g => ?_)
  obtain ⟨ns, g1, g2, g3, g4, g5⟩ := g
  refine k B' t' u' r' ⟨ns, ns1, g1, tr_ok_fr b (g4 _ (by omega) (by omega) (by omega) (by omega)) (g4 _ (by omega) (by omega) (by omega) (by omega)) (g4 _ (by omega) (by omega) (by omega) (by omega)) (fun z hz => g5 z (by have := ib.1 z hz; omega) (Or.inr hz)), g2, g3⟩ (fun b h1 h9 => g5 b (by omega) (Or.inl h9))
theorem mb_set1 {post : SX → Prop} {ps pi pv : Int32} {v : Nat} (hR : ms_RB K w V s y x B t u) (hw : w = s) (hs : s < 4) (es : ps = nI s) (ei : pi = 1) (ev : pv = nI v) (key : Int32) (ht : mb_tr B k0 k1) (h13 : k1.length ≤ 13) (hv : v < 14) (h0 : 0 ≤ key.toInt) (h6 : key.toInt < 1000000) (hmax : ∀ p, p ∈ k1 → p.1 < key.toInt)
    (k : ∀ (B' : ms_B) (t' : ms_TT) (u' : SX), ms_RB K w V s y x B' t' u' → mb_tr B' k0 (k1 ++ [(key.toInt, v)]) → (∀ b, 1 ≤ b → b < 9 → B' b = B b) → post u') : wpX_setKey post u ps pi key pv := by
  obtain ⟨ns0, ns1, a, b, c, d⟩ := ht
  have ia := tr_ok_in a
  have hp : (ns1 ++ ns0).Perm (ns0 ++ ns1) := List.perm_append_comm
  refine tg_set (i := 1) hR hw hs (by omega) es ei ev key b (fun z hz => (ia.1 z hz).1) ia.2.1 (hp.nodup_iff.mpr c) (tr_map_p d hp.symm) h13 hv h0 h6 hmax (fun B' t' u' r' g => ?_)
  obtain ⟨ns, g1, g2, g3, g4, g5⟩ := g
  have hp2 : (ns ++ ns0).Perm (ns0 ++ ns) := List.perm_append_comm
  refine k B' t' u' r' ⟨ns0, ns, tr_ok_fr a (g4 _ (by omega) (by omega) (by omega) (by omega)) (g4 _ (by omega) (by omega) (by omega) (by omega)) (g4 _ (by omega) (by omega) (by omega) (by omega)) (fun z hz => g5 z (by have := ia.1 z hz; omega) (Or.inr hz)), g1, hp2.nodup_iff.mp g2, tr_map_p g3 hp2⟩ (fun b h1 h9 => g5 b (by omega) (Or.inl h9))
theorem mb_drop0 {post : SX → Prop} {ps pi : Int32} (hR : ms_RB K w V s y x B t u) (hw : w = s) (hs : s < 4) (es : ps = nI s) (ei : pi = 0) (key : Int32) (ht : mb_tr B k0 k1) (hin : ∃ v, (key.toInt, v) ∈ k0)
    (k : ∀ (B' : ms_B) (t' : ms_TT) (u' : SX), ms_RB K w V s y x B' t' u' → mb_tr B' (tr_del k0 key.toInt) k1 → (∀ b, 1 ≤ b → b < 9 → B' b = B b) → post u') : wpX_dropKey post u ps pi key := by
  obtain ⟨ns0, ns1, a, b, c, d⟩ := ht
  have ib := tr_ok_in b
  refine tm_drop (i := 0) hR hw hs (by omega) es ei key a (fun z hz => (ib.1 z hz).1) c d hin (fun B' t' u' r' g => ?_)
  obtain ⟨ns, g1, g2, g3, g4, g5⟩ := g
  refine k B' t' u' r' ⟨ns, ns1, g1, tr_ok_fr b (g4 _ (by omega) (by omega) (by omega) (by omega)) (g4 _ (by omega) (by omega) (by omega) (by omega)) (g4 _ (by omega) (by omega) (by omega) (by omega)) (fun z hz => g5 z (by have := ib.1 z hz; omega) (Or.inr hz)), g2, g3⟩ (fun b h1 h9 => g5 b (by omega) (Or.inl h9))
theorem mb_drop1 {post : SX → Prop} {ps pi : Int32} (hR : ms_RB K w V s y x B t u) (hw : w = s) (hs : s < 4) (es : ps = nI s) (ei : pi = 1) (key : Int32) (ht : mb_tr B k0 k1) (hin : ∃ v, (key.toInt, v) ∈ k1)
    (k : ∀ (B' : ms_B) (t' : ms_TT) (u' : SX), ms_RB K w V s y x B' t' u' → mb_tr B' k0 (tr_del k1 key.toInt) → (∀ b, 1 ≤ b → b < 9 → B' b = B b) → post u') : wpX_dropKey post u ps pi key := by
  obtain ⟨ns0, ns1, a, b, c, d⟩ := ht
  have ia := tr_ok_in a
  have hp : (ns1 ++ ns0).Perm (ns0 ++ ns1) := List.perm_append_comm
  refine tm_drop (i := 1) hR hw hs (by omega) es ei key b (fun z hz => (ia.1 z hz).1) (hp.nodup_iff.mpr c) (tr_map_p d hp.symm) hin (fun B' t' u' r' g => ?_)
  obtain ⟨ns, g1, g2, g3, g4, g5⟩ := g
  have hp2 : (ns ++ ns0).Perm (ns0 ++ ns) := List.perm_append_comm
  refine k B' t' u' r' ⟨ns0, ns, tr_ok_fr a (g4 _ (by omega) (by omega) (by omega) (by omega)) (g4 _ (by omega) (by omega) (by omega) (by omega)) (g4 _ (by omega) (by omega) (by omega) (by omega)) (fun z hz => g5 z (by have := ia.1 z hz; omega) (Or.inr hz)), g1, hp2.nodup_iff.mp g2, tr_map_p g3 hp2⟩ (fun b h1 h9 => g5 b (by omega) (Or.inl h9))
/-! cells of what a mailbox is, and of records -/
theorem mb_about {post : Int32 → SX → Prop} {ps pc : Int32} {c : Nat} (hR : ms_RB K w V s y x B t u) (hs : s < 4) (hc : c < 8) (es : ps = nI s) (ec : pc = nI c) (k : ∀ u', ms_RB K w V s y x B t u' → post (B 1 c) u') : wpX_about post u ps pc := by
  rw [xe_about]
  exact rb_cell hR hs (b := 1) (by omega) hc es rfl ec k
theorem mb_sh : ∀ n, n < 14 → nI n >>> ((1 : Int32) &&& 31) = nI (n / 2) ∧ nI n &&& 1 = nI (n % 2) := by decide +kernel
theorem mb_entry {post : Int32 → SX → Prop} {ps pn pc : Int32} {n c : Nat} (hR : ms_RB K w V s y x B t u) (hs : s < 4) (hn : n < 14) (hc : c < 4) (es : ps = nI s) (en : pn = nI n) (ec : pc = nI c) (k : ∀ u', ms_RB K w V s y x B t u' → post (B (2 + n / 2) (4 * (n % 2) + c)) u') : wpX_entry post u ps pn pc := by
  subst en ec
  rw [xe_entry, (mb_sh n hn).1, (mb_sh n hn).2, na_p2, na_m4, nI_add]
  exact rb_cell hR hs (by omega) (by omega) es rfl rfl k
theorem mb_rec {post : SX → Prop} {ps pn pc v : Int32} {n c : Nat} (hR : ms_RB K w V s y x B t u) (hw : w = s) (hs : s < 4) (hn : n < 14) (hc : c < 4) (es : ps = nI s) (en : pn = nI n) (ec : pc = nI c) (k : ∀ u', ms_RB K w V s y x (ms_mC B (2 + n / 2) (4 * (n % 2) + c) v) t u' → post u') : wpX_setRecord post u ps pn pc v := by
  subst en ec
  rw [xe_setRecord, (mb_sh n hn).1, (mb_sh n hn).2, na_p2, na_m4, nI_add]
  exact rb_set hR hw hs (by omega) (by omega) es rfl rfl k
theorem mb_free0 {post : Int32 → SX → Prop} {v : Int32} (k : ∀ q, q < 14 → (∀ i, i < q → bt v i = true) → (q < 13 → bt v q = false) → post (nI q) u) : ∀ (d q : Nat), q + d = 13 → (∀ i, i < q → bt v i = true) → xc_freeRecord_9 post v u (d + 1) (nI q) := by
  intro d
  induction d with
  | zero =>
    intro q hq h
    rw [xe_freeRecord_9]
    exact br_t (nI_le (a := 13) (by omega) (by omega)) (k q (by omega) h (fun h => by omega))
  | succ d ih =>
    intro q hq h
    rw [xe_freeRecord_9, nt_bit _ q (by omega)]
    refine br_f (na_nle (a := 13) (b := q) rfl rfl (by omega) (by omega)) (br_c (fun hb => nm_r (nI_1 q) (ih (q + 1) (by omega) (fun i hi => ?_))) (fun hb => k q (by omega) h (fun _ => ?_)))
    · by_cases e : i = q
      · subst e; exact hb
      · exact h i (by omega)
    · cases hz : bt v q
      · rfl
      · exact absurd hz hb
theorem mb_free {post : Int32 → SX → Prop} {ps : Int32} (hR : ms_RB K w V s y x B t u) (hs : s < 4) (es : ps = nI s) (k : ∀ u' q, q < 14 → (∀ i, i < q → bt (B 1 5) i = true) → (q < 13 → bt (B 1 5) q = false) → ms_RB K w V s y x B t u' → post (nI q) u') : wpX_freeRecord post u ps := by
  subst es
  rw [xe_freeRecord]
  exact mb_about hR hs (c := 5) (by omega) rfl rfl (fun u1 r1 => ⟨14, mb_free0 (fun q h1 h2 h3 => k u1 q h1 h2 h3 r1) 13 0 rfl (fun i hi => absurd hi (by omega))⟩)
theorem mb_newc {post : Int32 → SX → Prop} {ps : Int32} {h : Nat} (hR : ms_RB K w V s y x B t u) (hw : w = s) (hs : s < 4) (es : ps = nI s) (hh : B 1 3 = nI h) (k : ∀ u', ms_RB K w V s y x (ms_mC B 1 3 (nI (h + 1))) t u' → post (nI (h + 1)) u') : wpX_newChange post u ps := by
  subst es
  rw [xe_newChange]
  refine mb_about hR hs (c := 3) (by omega) rfl rfl (fun u1 r1 => ?_)
  rw [hh]
  exact nm_r (nI_1 h) (rb_set r1 hw hs (b := 1) (c := 3) (by omega) (by omega) rfl rfl rfl k)
end
/-! a message: number, size, flags, change, slot -/
abbrev mb_Msg : Type := Nat × Int32 × Int32 × Nat × Nat
def mb_rc (B : ms_B) (m : mb_Msg) : Prop := B (2 + m.2.2.2.2 / 2) (4 * (m.2.2.2.2 % 2) + 0) = nI m.1 ∧ B (2 + m.2.2.2.2 / 2) (4 * (m.2.2.2.2 % 2) + 1) = m.2.1 ∧ B (2 + m.2.2.2.2 / 2) (4 * (m.2.2.2.2 % 2) + 2) = m.2.2.1 ∧ B (2 + m.2.2.2.2 / 2) (4 * (m.2.2.2.2 % 2) + 3) = nI m.2.2.2.1
def mb_k0 (ms : List mb_Msg) : tr_KV := ms.map (fun m => ((m.1 : Int), m.2.2.2.2))
def mb_k1 (ms : List mb_Msg) : tr_KV := ms.map (fun m => ((m.2.2.2.1 : Int), m.2.2.2.2))
def mb_ms (B : ms_B) (nx hg : Nat) (ms : List mb_Msg) : Prop :=
  (∀ m, m ∈ ms → mb_rc B m ∧ m.2.2.2.2 < 14 ∧ 1 ≤ m.1 ∧ m.1 < nx ∧ 1 ≤ m.2.2.2.1 ∧ m.2.2.2.1 ≤ hg) ∧ ms.Pairwise (fun a b => a.1 < b.1) ∧ (ms.map (fun m => m.2.2.2.2)).Nodup ∧ (∀ i, i < 32 → bt (B 1 5) i = decide (i ∈ ms.map (fun m => m.2.2.2.2)))
  ∧ ∃ k1, mb_tr B (mb_k0 ms) k1 ∧ k1.Perm (mb_k1 ms)
/-- th: whether it is there; validity, next number, highest change, last validity, messages -/
def mb_box (B : ms_B) (th : Bool) (vl nx hg ls : Nat) (ms : List mb_Msg) : Prop :=
  B 1 0 = (if th then 1 else 0) ∧ B 1 1 = nI vl ∧ B 1 2 = nI nx ∧ B 1 3 = nI hg ∧ B 1 4 = nI ls ∧ mb_ms B nx hg ms
end
section
/-! putMessage, changeFlags, takeOut -/
theorem mb_pig : ∀ (n : Nat) (l : List Nat), (∀ i, i < n → i ∈ l) → n ≤ l.length := by
  intro n
  induction n with
  | zero => intro l _; omega
  | succ n ih =>
    intro l h
    have h1 := h n (by omega)
    have h2 := ih (l.erase n) (fun i hi => (List.mem_erase_of_ne (by omega)).mpr (h i (by omega)))
    rw [List.length_erase_of_mem h1] at h2
    have h3 : 0 < l.length := List.length_pos_of_mem h1
    omega
theorem mb_k0_a (ms : List mb_Msg) (m : mb_Msg) : mb_k0 (ms ++ [m]) = mb_k0 ms ++ [((m.1 : Int), m.2.2.2.2)] := by simp [mb_k0]
theorem mb_k1_a (ms : List mb_Msg) (m : mb_Msg) : mb_k1 (ms ++ [m]) = mb_k1 ms ++ [((m.2.2.2.1 : Int), m.2.2.2.2)] := by simp [mb_k1]
theorem mb_k0_m {ms : List mb_Msg} {p : Int × Nat} : p ∈ mb_k0 ms ↔ ∃ m, m ∈ ms ∧ ((m.1 : Int), m.2.2.2.2) = p := by simp only [mb_k0, List.mem_map]
theorem mb_k1_m {ms : List mb_Msg} {p : Int × Nat} : p ∈ mb_k1 ms ↔ ∃ m, m ∈ ms ∧ ((m.2.2.2.1 : Int), m.2.2.2.2) = p := by simp only [mb_k1, List.mem_map]
theorem mb_rc_fr {B B' : ms_B} {m : mb_Msg} (h : mb_rc B m) (hm : m.2.2.2.2 < 14) (e : ∀ b, 1 ≤ b → b < 9 → B' b = B b) : mb_rc B' m := by
  unfold mb_rc
  rw [e _ (by omega) (by omega)]
  exact h
/-- changes are different -/
theorem mb_cd {B : ms_B} {k0 k1 : tr_KV} {P Q : List mb_Msg} {a : mb_Msg} (ht : mb_tr B k0 k1) (hp : k1.Perm (mb_k1 (P ++ a :: Q))) : ∀ b, b ∈ P ∨ b ∈ Q → b.2.2.2.1 ≠ a.2.2.2.1 := by
  obtain ⟨ns0, ns1, _, hb, _⟩ := ht
  have h1 : (k1.map (fun p => p.1)).Nodup := by
    rw [List.Nodup, List.pairwise_map]
    exact (tr_ok_in hb).2.2.2.imp (fun h => by omega)
  have h2 : ((mb_k1 (P ++ a :: Q)).map (fun p => p.1)).Nodup := ((hp.map (fun p => p.1)).nodup_iff).mp h1
  simp only [mb_k1, List.map_append, List.map_cons, List.map_map, List.nodup_append, List.nodup_cons, List.mem_map, List.mem_cons] at h2
  intro b hb e
  rcases hb with h | h
  · exact h2.2.2 _ ⟨b, h, rfl⟩ _ (Or.inl rfl) (by simp [e])
  · exact h2.2.1.1 ⟨b, h, by simp [e]⟩
theorem mb_k1_del {P Q : List mb_Msg} {a : mb_Msg} (h : ∀ b, b ∈ P ∨ b ∈ Q → b.2.2.2.1 ≠ a.2.2.2.1) : tr_del (mb_k1 (P ++ a :: Q)) (a.2.2.2.1 : Int) = mb_k1 (P ++ Q) := by
  unfold tr_del mb_k1
  rw [List.map_append, List.map_cons, List.filter_append, List.filter_cons, if_neg (by simp), List.map_append]
  congr 1
  · refine List.filter_eq_self.mpr (fun p hp => ?_)
    obtain ⟨b, hb, rfl⟩ := List.mem_map.mp hp
    have := h b (Or.inl hb)
    simp; omega
  · refine List.filter_eq_self.mpr (fun p hp => ?_)
    obtain ⟨b, hb, rfl⟩ := List.mem_map.mp hp
    have := h b (Or.inr hb)
    simp; omega
theorem mb_k0_del {P Q : List mb_Msg} {a : mb_Msg} (h : (P ++ a :: Q).Pairwise (fun a b => a.1 < b.1)) : tr_del (mb_k0 (P ++ a :: Q)) (a.1 : Int) = mb_k0 (P ++ Q) := by
  have e : mb_k0 (P ++ a :: Q) = mb_k0 P ++ ((a.1 : Int), a.2.2.2.2) :: mb_k0 Q := by simp [mb_k0]
  rw [e, tr_del_mid]
  · simp [mb_k0]
  · rw [← e]
    unfold mb_k0
    rw [List.pairwise_map]
    exact h.imp (fun h => by omega)
section
variable {K w : Nat} {V : ms_M} {s : Nat} {y : ms_YT} {x : ms_XT} {B : ms_B} {t : ms_TT} {u : SX} {th : Bool} {vl nx hg ls : Nat} {ms : List mb_Msg}
theorem mb_put {post : Int32 → SX → Prop} {ps size flags : Int32} (hR : ms_RB K w V s y x B t u) (hw : w = s) (hs : s < 4) (es : ps = nI s) (hB : mb_box B th vl nx hg ls ms) (hl : ms.length ≤ 13) (hnx : 1 ≤ nx) (hnx2 : nx < 900000) (hhg : hg < 900000)
    (k : ∀ (B' : ms_B) (t' : ms_TT) (u' : SX) (q : Nat), ms_RB K w V s y x B' t' u' → mb_box B' th vl (nx + 1) (hg + 1) ls (ms ++ [(nx, size, flags, hg + 1, q)]) → post (nI nx) u') : wpX_putMessage post u ps size flags := by
  subst es
  obtain ⟨b0, b1, b2, b3, b4, m1, m2, m3, m4, k1, m5, m6⟩ := hB
  rw [xe_putMessage]
  refine mb_about hR hs (c := 2) (by omega) rfl rfl (fun u1 r1 => ?_)
  rw [b2]
  refine mb_free r1 hs rfl (fun u2 q hq hq1 hq2 r2 => ?_)
  have hqn : ¬ q ∈ ms.map (fun m => m.2.2.2.2) := by
    intro hin
    by_cases h13 : q < 13
    · have h := hq2 h13
      rw [m4 q (by omega)] at h
      simp [hin] at h
    · have h := mb_pig 14 (ms.map (fun m => m.2.2.2.2)) (fun i hi => by
        by_cases e : i = q
        · subst e; exact hin
        · have h1 := hq1 i (by omega)
          rw [m4 i (by omega)] at h1
          exact of_decide_eq_true h1)
      rw [List.length_map] at h
      omega
  refine mb_newc r2 hw hs rfl b3 (fun u3 r3 => ?_)
  refine mb_about r3 hs (c := 5) (by omega) rfl rfl (fun u4 r4 => ?_)
  rw [ms_mC_c _ _ (by omega)]
  refine rb_set r4 hw hs (b := 1) (c := 5) (by omega) (by omega) rfl rfl rfl (fun u5 r5 => ?_)
  rw [nI_1]
  refine rb_set r5 hw hs (b := 1) (c := 2) (by omega) (by omega) rfl rfl rfl (fun u6 r6 => ?_)
  refine mb_rec (n := q) (c := 0) r6 hw hs hq (by omega) rfl rfl rfl (fun u7 r7 => ?_)
  refine mb_rec (n := q) (c := 1) r7 hw hs hq (by omega) rfl rfl rfl (fun u8 r8 => ?_)
  refine mb_rec (n := q) (c := 2) r8 hw hs hq (by omega) rfl rfl rfl (fun u9 r9 => ?_)
  refine mb_rec (n := q) (c := 3) r9 hw hs hq (by omega) rfl rfl rfl (fun u10 r10 => ?_)
  have n1 : (1 : Nat) ≠ 2 + q / 2 := by omega
  have n0 : (0 : Nat) ≠ 2 + q / 2 := by omega
  generalize eB : ms_mC (ms_mC (ms_mC (ms_mC (ms_mC (ms_mC (ms_mC B 1 3 (nI (hg + 1))) 1 5 (B 1 5 ||| ((1 : Int32) <<< (nI q &&& 31)))) 1 2 (nI (nx + 1))) (2 + q / 2) (4 * (q % 2) + 0) (nI nx)) (2 + q / 2) (4 * (q % 2) + 1) size) (2 + q / 2) (4 * (q % 2) + 2) flags) (2 + q / 2) (4 * (q % 2) + 3) (nI (hg + 1)) = B1 at r10
  have e0 : B1 0 = B 0 := by rw [← eB]; simp only [ms_mC_o _ _ n0, ms_mC_o _ _ (show (0 : Nat) ≠ 1 by omega)]
  have e9 : ∀ z, 9 ≤ z → B1 z = B z := fun z hz => by rw [← eB]; simp only [ms_mC_o _ _ (show z ≠ 2 + q / 2 by omega), ms_mC_o _ _ (show z ≠ 1 by omega)]
  have e1 : ∀ c, B1 1 c = if c = 2 then nI (nx + 1) else if c = 5 then (B 1 5 ||| ((1 : Int32) <<< (nI q &&& 31))) else if c = 3 then nI (hg + 1) else B 1 c := by
    intro c
    rw [← eB]
    simp only [ms_mC_o _ _ n1]
    simp only [ms_mC_g]
    by_cases h2 : c = 2
    · simp [h2]
    · by_cases h5 : c = 5
      · simp [h5]
      · by_cases h3 : c = 3 <;> simp [h2, h5, h3]
  have hrq : mb_rc B1 (nx, size, flags, hg + 1, q) := by
    refine ⟨?_, ?_, ?_, ?_⟩ <;> rw [← eB] <;> simp [ms_mC_g]
  have hro : ∀ m, m ∈ ms → mb_rc B1 m := by
    intro m hm
    have hne : m.2.2.2.2 ≠ q := fun e => hqn (List.mem_map.mpr ⟨m, hm, e⟩)
    have h14 := (m1 m hm).2.1
    obtain ⟨a1, a2, a3, a4⟩ := (m1 m hm).1
    have hcell : ∀ c, c < 4 → B1 (2 + m.2.2.2.2 / 2) (4 * (m.2.2.2.2 % 2) + c) = B (2 + m.2.2.2.2 / 2) (4 * (m.2.2.2.2 % 2) + c) := by
      intro c hc
      rw [← eB]
      simp only [ms_mC_g]
      rw [if_neg (by omega), if_neg (by omega), if_neg (by omega), if_neg (by omega), if_neg (by omega), if_neg (by omega), if_neg (by omega)]
    exact ⟨(hcell 0 (by omega)).trans a1, (hcell 1 (by omega)).trans a2, (hcell 2 (by omega)).trans a3, (hcell 3 (by omega)).trans a4⟩
  have t1 : (nI nx).toInt = (nx : Int) := nI_toInt (by omega)
  have t2 : (nI (hg + 1)).toInt = ((hg + 1 : Nat) : Int) := nI_toInt (by omega)
  refine mb_set0 (v := q) r10 hw hs rfl rfl rfl (nI nx) (mb_tr_fr m5 e0 e9) (by simpa [mb_k0] using hl) hq (by omega) (by omega) (fun p hp => ?_) (fun B2 t2' u11 r11 f1 f2 => ?_)
  · obtain ⟨m, hm, rfl⟩ := mb_k0_m.mp hp
    have := (m1 m hm).2.2.2.1
    rw [t1]
    show (m.1 : Int) < nx
    omega
  refine mb_set1 (v := q) r11 hw hs rfl rfl rfl (nI (hg + 1)) f1 (by rw [m6.length_eq]; simpa [mb_k1] using hl) hq (by omega) (by omega) (fun p hp => ?_) (fun B3 t3 u12 r12 f3 f4 => ?_)
  · obtain ⟨m, hm, rfl⟩ := mb_k1_m.mp (m6.mem_iff.mp hp)
    have := (m1 m hm).2.2.2.2.2
    rw [t2]
    show (m.2.2.2.1 : Int) < ((hg + 1 : Nat) : Int)
    omega
  have g : ∀ b, 1 ≤ b → b < 9 → B3 b = B1 b := fun b h1 h9 => (f4 b h1 h9).trans (f2 b h1 h9)
  rw [t1, t2] at f3
  refine k B3 t3 u12 q r12 ⟨?_, ?_, ?_, ?_, ?_, fun m hm => ?_, ?_, ?_, fun i hi => ?_, k1 ++ [(((hg + 1 : Nat) : Int), q)], ?_, ?_⟩
  · rw [g 1 (by omega) (by omega), e1]; simpa using b0
  · rw [g 1 (by omega) (by omega), e1]; simpa using b1
  · rw [g 1 (by omega) (by omega), e1]; simp
  · rw [g 1 (by omega) (by omega), e1]; simp
  · rw [g 1 (by omega) (by omega), e1]; simpa using b4
  · rcases List.mem_append.mp hm with h | h
    · obtain ⟨c1, c2, c3, c4, c5, c6⟩ := m1 m h
      exact ⟨mb_rc_fr (hro m h) c2 g, c2, c3, by omega, c5, by omega⟩
    · rw [List.mem_singleton] at h
      subst h
      exact ⟨mb_rc_fr hrq hq g, hq, hnx, by simp, by simp, by simp⟩
  · refine List.pairwise_append.mpr ⟨m2, by simp, fun a ha b hb => ?_⟩
    rw [List.mem_singleton] at hb
    subst hb
    exact (m1 a ha).2.2.2.1
  · rw [List.map_append, List.nodup_append]
    refine ⟨m3, by simp, fun a ha b hb => ?_⟩
    simp at hb
    subst hb
    exact fun e => hqn (e ▸ ha)
  · rw [g 1 (by omega) (by omega), e1]
    simp only [show ¬ (5 : Nat) = 2 by omega, if_false, if_true]
    rw [nt_or _ (by omega) hi, m4 i hi, ← Bool.decide_or, decide_eq_decide, List.map_append, List.mem_append, List.map_cons, List.map_nil, List.mem_singleton]
  · rw [mb_k0_a]; exact f3
  · rw [mb_k1_a]; exact m6.append_right _
/-- dropping a message's key by change and giving it a new one -/
theorem mb_flags {post : SX → Prop} {ps pn flags : Int32} {P Q : List mb_Msg} {a : mb_Msg} (hR : ms_RB K w V s y x B t u) (hw : w = s) (hs : s < 4) (es : ps = nI s) (en : pn = nI a.2.2.2.2) (hB : mb_box B th vl nx hg ls (P ++ a :: Q)) (hl : (P ++ a :: Q).length ≤ 14) (hhg : hg < 900000)
    (k : ∀ (B' : ms_B) (t' : ms_TT) (u' : SX), ms_RB K w V s y x B' t' u' → mb_box B' th vl nx (hg + 1) ls (P ++ (a.1, a.2.1, flags, hg + 1, a.2.2.2.2) :: Q) → post u') : wpX_changeFlags post u ps pn flags := by
  subst es en
  obtain ⟨b0, b1, b2, b3, b4, m1, m2, m3, m4, k1, m5, m6⟩ := hB
  have ha := m1 a (by simp)
  obtain ⟨⟨a1, a2, a3, a4⟩, a14, an1, anx, ac1, ach⟩ := ha
  have hcd := mb_cd m5 m6
  have hslot : ∀ m, m ∈ P ∨ m ∈ Q → m.2.2.2.2 ≠ a.2.2.2.2 := by
    intro m hm e
    rw [List.map_append, List.map_cons, List.nodup_append, List.nodup_cons] at m3
    rcases hm with h | h
    · exact m3.2.2 _ (List.mem_map.mpr ⟨m, h, rfl⟩) _ (by simp) e
    · exact m3.2.1.1 (List.mem_map.mpr ⟨m, h, e⟩)
  rw [xe_changeFlags]
  refine mb_entry (c := 3) hR hs a14 (by omega) rfl rfl rfl (fun u1 r1 => ?_)
  rw [a4]
  refine mb_newc r1 hw hs rfl b3 (fun u2 r2 => ?_)
  have t1 : (nI a.2.2.2.1).toInt = (a.2.2.2.1 : Int) := nI_toInt (by omega)
  have t2 : (nI (hg + 1)).toInt = ((hg + 1 : Nat) : Int) := nI_toInt (by omega)
  refine mb_drop1 r2 hw hs rfl rfl (nI a.2.2.2.1) (mb_tr_fr m5 (ms_mC_o _ _ (by omega)) (fun z hz => ms_mC_o _ _ (by omega))) ⟨a.2.2.2.2, by rw [t1]; exact m6.mem_iff.mpr (mb_k1_m.mpr ⟨a, by simp, rfl⟩)⟩ (fun B1 t1' u3 r3 f1 f2 => ?_)
  rw [t1] at f1
  have hdel : (tr_del k1 (a.2.2.2.1 : Int)).Perm (mb_k1 (P ++ Q)) := by
    rw [← mb_k1_del hcd]
    exact m6.filter _
  refine mb_set1 (v := a.2.2.2.2) r3 hw hs rfl rfl rfl (nI (hg + 1)) f1 (by rw [hdel.length_eq]; simp [mb_k1] at hl ⊢; omega) a14 (by omega) (by omega) (fun p hp => ?_) (fun B2 t2' u4 r4 f3 f4 => ?_)
  · obtain ⟨m, hm, rfl⟩ := mb_k1_m.mp (hdel.mem_iff.mp hp)
    have := (m1 m (by rcases List.mem_append.mp hm with h | h <;> simp [h])).2.2.2.2.2
    rw [t2]
    show (m.2.2.2.1 : Int) < ((hg + 1 : Nat) : Int)
    omega
  rw [t2] at f3
  refine mb_rec (n := a.2.2.2.2) (c := 2) r4 hw hs a14 (by omega) rfl rfl rfl (fun u5 r5 => ?_)
  refine mb_rec (n := a.2.2.2.2) (c := 3) r5 hw hs a14 (by omega) rfl rfl rfl (fun u6 r6 => ?_)
  have g : ∀ b, 1 ≤ b → b < 9 → B2 b = ms_mC B 1 3 (nI (hg + 1)) b := fun b h1 h9 => (f4 b h1 h9).trans (f2 b h1 h9)
  generalize eB : ms_mC (ms_mC B2 (2 + a.2.2.2.2 / 2) (4 * (a.2.2.2.2 % 2) + 2) flags) (2 + a.2.2.2.2 / 2) (4 * (a.2.2.2.2 % 2) + 3) (nI (hg + 1)) = B3 at r6
  have e1 : B3 1 = ms_mC B 1 3 (nI (hg + 1)) 1 := by rw [← eB, ms_mC_o _ _ (by omega), ms_mC_o _ _ (by omega), g 1 (by omega) (by omega)]
  have hcell : ∀ n c, n < 14 → c < 4 → (n ≠ a.2.2.2.2 ∨ c < 2) → B3 (2 + n / 2) (4 * (n % 2) + c) = B (2 + n / 2) (4 * (n % 2) + c) := by
    intro n c hn hc hne
    rw [← eB]
    simp only [ms_mC_g]
    rw [if_neg (by omega), if_neg (by omega), g _ (by omega) (by omega), ms_mC_o _ _ (by omega)]
  refine k B3 t2' u6 r6 ⟨?_, ?_, ?_, ?_, ?_, fun m hm => ?_, ?_, ?_, fun i hi => ?_, tr_del k1 (a.2.2.2.1 : Int) ++ [(((hg + 1 : Nat) : Int), a.2.2.2.2)], ?_, ?_⟩
  · rw [e1, ms_mC_c _ _ (by omega)]; exact b0
  · rw [e1, ms_mC_c _ _ (by omega)]; exact b1
  · rw [e1, ms_mC_c _ _ (by omega)]; exact b2
  · rw [e1, ms_mC_s]
  · rw [e1, ms_mC_c _ _ (by omega)]; exact b4
  · have hm' : m ∈ P ∨ m ∈ Q ∨ m = (a.1, a.2.1, flags, hg + 1, a.2.2.2.2) := by
      rcases List.mem_append.mp hm with h | h
      · exact Or.inl h
      · rcases List.mem_cons.mp h with h | h
        · exact Or.inr (Or.inr h)
        · exact Or.inr (Or.inl h)
    have hold : m ∈ P ∨ m ∈ Q → mb_rc B3 m ∧ m.2.2.2.2 < 14 ∧ 1 ≤ m.1 ∧ m.1 < nx ∧ 1 ≤ m.2.2.2.1 ∧ m.2.2.2.1 ≤ hg + 1 := by
      intro h
      obtain ⟨⟨d1, d2, d3, d4⟩, c2, c3, c4, c5, c6⟩ := m1 m (by rcases h with h | h <;> simp [h])
      have hne := hslot m h
      exact ⟨⟨(hcell _ 0 c2 (by omega) (Or.inl hne)).trans d1, (hcell _ 1 c2 (by omega) (Or.inl hne)).trans d2, (hcell _ 2 c2 (by omega) (Or.inl hne)).trans d3, (hcell _ 3 c2 (by omega) (Or.inl hne)).trans d4⟩, c2, c3, c4, c5, by omega⟩
    rcases hm' with h | h | h
    · exact hold (Or.inl h)
    · exact hold (Or.inr h)
    · subst h
      refine ⟨⟨(hcell _ 0 a14 (by omega) (Or.inr (by omega))).trans a1, (hcell _ 1 a14 (by omega) (Or.inr (by omega))).trans a2, ?_, ?_⟩, a14, an1, anx, by simp, by simp⟩
      · rw [← eB]; simp [ms_mC_g]
      · rw [← eB]; simp [ms_mC_g]
  · rw [List.pairwise_append, List.pairwise_cons] at m2 ⊢
    refine ⟨m2.1, m2.2.1, fun p hp q hq => ?_⟩
    rcases List.mem_cons.mp hq with h | h
    · subst h; exact m2.2.2 p hp a (by simp)
    · exact m2.2.2 p hp q (List.mem_cons_of_mem _ h)
  · rw [List.map_append, List.map_cons] at m3 ⊢
    exact m3
  · rw [e1, ms_mC_c _ _ (by omega), m4 i hi]
    simp
  · have e9 : ∀ z, 9 ≤ z → B3 z = B2 z := fun z hz => by rw [← eB, ms_mC_o _ _ (by omega), ms_mC_o _ _ (by omega)]
    have hk0 : mb_k0 (P ++ (a.1, a.2.1, flags, hg + 1, a.2.2.2.2) :: Q) = mb_k0 (P ++ a :: Q) := by simp [mb_k0]
    rw [hk0]
    exact mb_tr_fr f3 (by rw [← eB, ms_mC_o _ _ (by omega), ms_mC_o _ _ (by omega)]) e9
  · have hk : (mb_k1 (P ++ (a.1, a.2.1, flags, hg + 1, a.2.2.2.2) :: Q)).Perm (mb_k1 (P ++ Q) ++ [(((hg + 1 : Nat) : Int), a.2.2.2.2)]) := by
      simp only [mb_k1, List.map_append, List.map_cons, List.append_assoc]
      refine List.Perm.append_left _ ?_
      exact (List.perm_append_comm (l₁ := [(((hg + 1 : Nat) : Int), a.2.2.2.2)]))
    exact (hdel.append_right _).trans hk.symm
end
end
section
/-! recordOf, keyAfter over a mailbox; takeOut -/
section
variable {K w : Nat} {V : ms_M} {s : Nat} {y : ms_YT} {x : ms_XT} {B : ms_B} {t : ms_TT} {u : SX} {nx hg : Nat} {ms : List mb_Msg}
theorem mb_recof {post : Int32 → SX → Prop} {ps : Int32} (hR : ms_RB K w V s y x B t u) (hs : s < 4) (es : ps = nI s) (number : Int32) (hB : mb_ms B nx hg ms)
    (k1 : ∀ (P : List mb_Msg) (a : mb_Msg) (Q : List mb_Msg) (t' : ms_TT) (u' : SX), ms = P ++ a :: Q → (a.1 : Int) = number.toInt → ms_RB K w V s y x B t' u' → post (nI a.2.2.2.2) u')
    (k2 : (∀ a, a ∈ ms → (a.1 : Int) ≠ number.toInt) → ∀ (t' : ms_TT) (u' : SX), ms_RB K w V s y x B t' u' → post (-2) u') : wpX_recordOf post u ps number := by
  rw [xe_recordOf]
  obtain ⟨_, _, _, _, c1, ⟨ns0, ns1, a0, _⟩, _⟩ := hB
  refine tw_value (i := 0) hR hs (by omega) es rfl number a0 (fun v t' u' hv r' => ?_) (fun hno t' u' r' => k2 (fun a ha e => hno _ (mb_k0_m.mpr ⟨a, ha, rfl⟩) e) t' u' r')
  obtain ⟨a, ha, e⟩ := mb_k0_m.mp hv
  obtain ⟨P, Q, hPQ⟩ := List.append_of_mem ha
  rw [Prod.mk.injEq] at e
  rw [← e.2]
  exact k1 P a Q t' u' hPQ e.1 r'
theorem mb_aft {post : Int32 → SX → Prop} {ps pi : Int32} (hR : ms_RB K w V s y x B t u) (hs : s < 4) (es : ps = nI s) (ei : pi = 0) (bound : Int32) (hB : mb_ms B nx hg ms) (hnx : nx < 900000)
    (k1 : ∀ (P : List mb_Msg) (a : mb_Msg) (Q : List mb_Msg) (t' : ms_TT) (u' : SX), ms = P ++ a :: Q → (∀ b, b ∈ P → (b.1 : Int) ≤ bound.toInt) → bound.toInt < (a.1 : Int) → ms_RB K w V s y x B t' u' → post (nI a.1) u')
    (k2 : (∀ a, a ∈ ms → (a.1 : Int) ≤ bound.toInt) → ∀ (t' : ms_TT) (u' : SX), ms_RB K w V s y x B t' u' → post (-2) u') : wpX_keyAfter post u ps pi bound := by
  obtain ⟨m1, _, _, _, c1, ⟨ns0, ns1, a0, _⟩, _⟩ := hB
  refine tw_after (i := 0) hR hs (by omega) es ei bound a0 (fun A p C r t' u' e1 e2 e3 e4 r' => ?_) (fun hno t' u' r' => k2 (fun a ha => hno _ (mb_k0_m.mpr ⟨a, ha, rfl⟩)) t' u' r')
  obtain ⟨P, Q', h1, h2, h3⟩ := List.map_eq_append_iff.mp e1.symm
  obtain ⟨a, Q, h4, h5, h6⟩ := List.map_eq_cons_iff.mp h3
  subst h4 h5
  have ha := (m1 a (by rw [h1]; simp)).2.2.2.1
  have er : r = nI a.1 := Int32.toInt_inj.mp (by rw [e4, nI_toInt (by omega)])
  rw [er]
  refine k1 P a Q t' u' h1 (fun b hb => ?_) e3 r'
  exact e2 ((b.1 : Int), b.2.2.2.2) (by rw [← h2]; exact List.mem_map.mpr ⟨b, hb, rfl⟩)
/-- the tree of changes -/
theorem mb_aftc {post : Int32 → SX → Prop} {ps pi : Int32} {k1 : tr_KV} {k0 : tr_KV} (hR : ms_RB K w V s y x B t u) (hs : s < 4) (es : ps = nI s) (ei : pi = 1) (bound : Int32) (hB : mb_tr B k0 k1)
    (c1 : ∀ (A : tr_KV) (p : Int × Nat) (C : tr_KV) (r : Int32) (t' : ms_TT) (u' : SX), A ++ p :: C = k1 → (∀ q, q ∈ A → q.1 ≤ bound.toInt) → bound.toInt < p.1 → r.toInt = p.1 → ms_RB K w V s y x B t' u' → post r u')
    (c2 : (∀ p, p ∈ k1 → p.1 ≤ bound.toInt) → ∀ (t' : ms_TT) (u' : SX), ms_RB K w V s y x B t' u' → post (-2) u') : wpX_keyAfter post u ps pi bound := by
  obtain ⟨ns0, ns1, _, a1, _⟩ := hB
  exact tw_after (i := 1) hR hs (by omega) es ei bound a1 c1 c2
theorem mb_valc {post : Int32 → SX → Prop} {ps pi : Int32} {k1 : tr_KV} {k0 : tr_KV} (hR : ms_RB K w V s y x B t u) (hs : s < 4) (es : ps = nI s) (ei : pi = 1) (key : Int32) (hB : mb_tr B k0 k1)
    (c1 : ∀ (v : Nat) (t' : ms_TT) (u' : SX), (key.toInt, v) ∈ k1 → ms_RB K w V s y x B t' u' → post (nI v) u')
    (c2 : (∀ p, p ∈ k1 → p.1 ≠ key.toInt) → ∀ (t' : ms_TT) (u' : SX), ms_RB K w V s y x B t' u' → post (-2) u') : wpX_valueOf post u ps pi key := by
  obtain ⟨ns0, ns1, _, a1, _⟩ := hB
  exact tw_value (i := 1) hR hs (by omega) es ei key a1 c1 c2
end
section
variable {K w : Nat} {V : ms_M} {s : Nat} {y : ms_YT} {x : ms_XT} {B : ms_B} {t : ms_TT} {u : SX} {th : Bool} {vl nx hg ls : Nat}
theorem mb_out {post : SX → Prop} {ps pn : Int32} {P Q : List mb_Msg} {a : mb_Msg} (hR : ms_RB K w V s y x B t u) (hw : w = s) (hs : s < 4) (es : ps = nI s) (en : pn = nI a.1) (hB : mb_box B th vl nx hg ls (P ++ a :: Q)) (hhg : hg < 900000) (hnx : nx < 900000)
    (k : ∀ (B' : ms_B) (t' : ms_TT) (u' : SX), ms_RB K w V s y x B' t' u' → mb_box B' th vl nx (hg + 1) ls (P ++ Q) → post u') : wpX_takeOut post u ps pn := by
  subst es en
  obtain ⟨b0, b1, b2, b3, b4, hms⟩ := hB
  have hms' := hms
  obtain ⟨m1, m2, m3, m4, k1, m5, m6⟩ := hms'
  have ha := m1 a (by simp)
  obtain ⟨⟨a1, a2, a3, a4⟩, a14, an1, anx, ac1, ach⟩ := ha
  have hcd := mb_cd m5 m6
  have t0 : (nI a.1).toInt = (a.1 : Int) := nI_toInt (by omega)
  have t1 : (nI a.2.2.2.1).toInt = (a.2.2.2.1 : Int) := nI_toInt (by omega)
  have hnum : ∀ m, m ∈ P ∨ m ∈ Q → m.1 ≠ a.1 := by
    intro m hm
    rw [List.pairwise_append, List.pairwise_cons] at m2
    rcases hm with h | h
    · have := m2.2.2 m h a (by simp); omega
    · have := m2.2.1.1 m h; omega
  have hslot : ∀ m, m ∈ P ∨ m ∈ Q → m.2.2.2.2 ≠ a.2.2.2.2 := by
    intro m hm e
    rw [List.map_append, List.map_cons, List.nodup_append, List.nodup_cons] at m3
    rcases hm with h | h
    · exact m3.2.2 _ (List.mem_map.mpr ⟨m, h, rfl⟩) _ (by simp) e
    · exact m3.2.1.1 (List.mem_map.mpr ⟨m, h, e⟩)
  rw [xe_takeOut]
  refine mb_recof hR hs rfl (nI a.1) hms (fun P' a' Q' t1' u1 e1 e2 r1 => ?_) (fun hno => absurd t0.symm (hno a (by simp)))
  have hmem : a' ∈ P ++ a :: Q := by rw [e1]; simp
  have haa : a' = a := by
    rcases List.mem_append.mp hmem with h | h
    · have := hnum a' (Or.inl h); omega
    · rcases List.mem_cons.mp h with h | h
      · exact h
      · have := hnum a' (Or.inr h); omega
  subst haa
  refine mb_entry (c := 3) r1 hs a14 (by omega) rfl rfl rfl (fun u2 r2 => ?_)
  rw [a4]
  refine mb_about r2 hs (c := 5) (by omega) rfl rfl (fun u3 r3 => ?_)
  refine mb_drop0 r3 hw hs rfl rfl (nI a'.1) m5 ⟨a'.2.2.2.2, by rw [t0]; exact mb_k0_m.mpr ⟨a', by simp, rfl⟩⟩ (fun B1 t2' u4 r4 f1 f2 => ?_)
  rw [t0, mb_k0_del m2] at f1
  refine mb_drop1 r4 hw hs rfl rfl (nI a'.2.2.2.1) f1 ⟨a'.2.2.2.2, by rw [t1]; exact m6.mem_iff.mpr (mb_k1_m.mpr ⟨a', by simp, rfl⟩)⟩ (fun B2 t3' u5 r5 f3 f4 => ?_)
  rw [t1] at f3
  have hdel : (tr_del k1 (a'.2.2.2.1 : Int)).Perm (mb_k1 (P ++ Q)) := by
    rw [← mb_k1_del hcd]
    exact m6.filter _
  have g : ∀ b, 1 ≤ b → b < 9 → B2 b = B b := fun b h1 h9 => (f4 b h1 h9).trans (f2 b h1 h9)
  refine rb_set r5 hw hs (b := 1) (c := 5) (by omega) (by omega) rfl rfl rfl (fun u6 r6 => ?_)
  refine mb_newc (h := hg) r6 hw hs rfl (by rw [ms_mC_c _ _ (by omega), g 1 (by omega) (by omega)]; exact b3) (fun u7 r7 => ?_)
  generalize eB : ms_mC (ms_mC B2 1 5 (B 1 5 &&& (((1 : Int32) <<< (nI a'.2.2.2.2 &&& 31)) ^^^ (-1)))) 1 3 (nI (hg + 1)) = B3 at r7
  have e1' : ∀ c, B3 1 c = if c = 3 then nI (hg + 1) else if c = 5 then (B 1 5 &&& (((1 : Int32) <<< (nI a'.2.2.2.2 &&& 31)) ^^^ (-1))) else B 1 c := by
    intro c
    rw [← eB]
    simp only [ms_mC_g]
    rw [g 1 (by omega) (by omega)]
    simp
  have eo : ∀ b, b ≠ 1 → B3 b = B2 b := fun b hb => by rw [← eB, ms_mC_o _ _ hb, ms_mC_o _ _ hb]
  refine k B3 t3' u7 r7 ⟨?_, ?_, ?_, ?_, ?_, fun m hm => ?_, ?_, ?_, fun i hi => ?_, tr_del k1 (a'.2.2.2.1 : Int), mb_tr_fr f3 (eo 0 (by omega)) (fun z hz => eo z (by omega)), hdel⟩
  · rw [e1']; simpa using b0
  · rw [e1']; simpa using b1
  · rw [e1']; simpa using b2
  · rw [e1']; simp
  · rw [e1']; simpa using b4
  · obtain ⟨d0, d1, d2, d3, d4, d5⟩ := m1 m (by rcases List.mem_append.mp hm with h | h <;> simp [h])
    refine ⟨?_, d1, d2, d3, d4, by omega⟩
    unfold mb_rc
    rw [eo _ (by omega), g _ (by omega) (by omega)]
    exact d0
  · rw [List.pairwise_append, List.pairwise_cons] at m2
    exact List.pairwise_append.mpr ⟨m2.1, m2.2.1.2, fun p hp q hq => m2.2.2 p hp q (List.mem_cons_of_mem _ hq)⟩
  · rw [List.map_append, List.map_cons, List.nodup_append, List.nodup_cons] at m3
    rw [List.map_append, List.nodup_append]
    exact ⟨m3.1, m3.2.1.2, fun p hp q hq => m3.2.2 p hp q (List.mem_cons_of_mem _ hq)⟩
  · rw [e1']
    simp only [show ¬ (5 : Nat) = 3 by omega, if_false, if_true]
    rw [nt_clr _ (by omega) hi, m4 i hi]
    have hiff : i ∈ (P ++ a' :: Q).map (fun m => m.2.2.2.2) ↔ (i ∈ (P ++ Q).map (fun m => m.2.2.2.2) ∨ i = a'.2.2.2.2) := by
      simp only [List.map_append, List.map_cons, List.mem_append, List.mem_cons]
      constructor
      · rintro (h | h | h)
        · exact Or.inl (Or.inl h)
        · exact Or.inr h
        · exact Or.inl (Or.inr h)
      · rintro ((h | h) | h)
        · exact Or.inl h
        · exact Or.inr (Or.inr h)
        · exact Or.inr (Or.inl h)
    have hno : ¬ a'.2.2.2.2 ∈ (P ++ Q).map (fun m => m.2.2.2.2) := by
      intro h
      obtain ⟨m, hm, e⟩ := List.mem_map.mp h
      exact hslot m (List.mem_append.mp hm) e
    by_cases h : i = a'.2.2.2.2
    · rw [h]
      have : ¬ a'.2.2.2.2 ∈ (P ++ Q).map (fun m => m.2.2.2.2) := hno
      rw [decide_eq_false this]
      simp
    · have h2 : (i ∈ (P ++ a' :: Q).map (fun m => m.2.2.2.2)) = (i ∈ (P ++ Q).map (fun m => m.2.2.2.2)) := propext ⟨fun z => (hiff.mp z).elim id (fun e => absurd e h), fun z => hiff.mpr (Or.inl z)⟩
      rw [decide_eq_false h, Bool.not_false, Bool.and_true]
      exact decide_eq_decide.mpr (by rw [h2])
end
end
section
/-! the relation between the two objects -/
abbrev ml_B : Type := Bool × Nat × Nat × Nat × Nat × List mb_Msg
def ml_X (B : ms_B) (b : ml_B) : Prop := mb_box B b.1 b.2.1 b.2.2.1 b.2.2.2.1 b.2.2.2.2.1 b.2.2.2.2.2
def ml_yl (v : SY) (m : Nat) (ms : List mb_Msg) : Prop := ∀ i a, ms[i]? = some a → yg_numbers v (14 * m + i) = nI a.1 ∧ yg_sizes v (14 * m + i) = a.2.1 ∧ yg_flags v (14 * m + i) = a.2.2.1 ∧ yg_changes v (14 * m + i) = nI a.2.2.2.1
def ml_Y (k : Nat) (v : SY) (m : Nat) (b : ml_B) : Prop :=
  yg_there v m = (if b.1 then 1 else 0) ∧ (b.1 = false → b.2.2.2.2.2 = []) ∧ b.2.2.2.2.2.length ≤ 14 ∧ (∀ a, a ∈ b.2.2.2.2.2 → ∃ f, f < 32 ∧ a.2.2.1 = nI f) ∧
  (b.1 = true → (1 ≤ b.2.2.1 ∧ b.2.2.1 ≤ k + 1 ∧ b.2.2.2.1 ≤ 3 * k + 1) ∧ yg_validity v m = nI b.2.1 ∧ yg_next v m = nI b.2.2.1 ∧ yg_highest v m = nI b.2.2.2.1 ∧ yg_counts v m = nI b.2.2.2.2.2.length ∧ ml_yl v m b.2.2.2.2.2)
def ml_vw (x : ms_XT) (v : SY) (s : Nat) (vs : List Nat) : Prop := x.2.1 s = nI vs.length ∧ yg_lengths v s = nI vs.length ∧ ∀ i n, vs[i]? = some n → x.2.2 (16 * s + i) = nI n ∧ yg_views v (14 * s + i) = nI n
def ml_S (x : ms_XT) (v : SY) (s : Nat) (bx : Nat → ml_B) : Prop := (x.1 s = 0 ∧ yg_selected v s = -1) ∨ ∃ m vs, m < 4 ∧ x.1 s = nI (m + 1) ∧ yg_selected v s = nI m ∧ (bx m).1 = true ∧ vs.length ≤ 14 ∧ vs.Pairwise (fun a b => a < b) ∧ (∀ n, n ∈ vs → 1 ≤ n ∧ n < (bx m).2.2.1) ∧ (∀ a, a ∈ (bx m).2.2.2.2.2 → a.1 ∈ vs ∨ ∀ n, n ∈ vs → n < a.1) ∧ ml_vw x v s vs
def ml_W (k : Nat) (v : SY) (bx : Nat → ml_B) (W : Nat) : Prop := yg_validities v = nI W ∧ W ≤ k ∧ (∀ m, m < 4 → (bx m).2.2.2.2.1 ≤ W) ∧ (W = 0 ∨ ∃ m, m < 4 ∧ (bx m).2.2.2.2.1 = W)
def ml_rest (k : Nat) (V : ms_M) (x : ms_XT) (v : SY) (bx : Nat → ml_B) (W : Nat) : Prop := (∀ m, m < 4 → ml_X (V m) (bx m)) ∧ (∀ m, m < 4 → ml_Y k v m (bx m)) ∧ (∀ s, s < 3 → ml_S x v s bx) ∧ ml_W k v bx W
/-- the relation at the head of a turn whose first cell is k -/
def i_Rel (k : Nat) (u : SX) (v : SY) : Prop := ∃ (V : ms_M) (t : ms_TT) (y : ms_YT) (x : ms_XT) (bx : Nat → ml_B) (W : Nat), ms_R (min (k + 1) 100000) 4 V V t y x u ∧ ml_rest k V x v bx W
theorem ml_up {k k' : Nat} {V : ms_M} {x : ms_XT} {v : SY} {bx : Nat → ml_B} {W : Nat} (h : ml_rest k V x v bx W) (hk : k ≤ k') : ml_rest k' V x v bx W := by
  obtain ⟨h1, h2, h3, w1, w2, w3, w4⟩ := h
  refine ⟨h1, fun m hm => ?_, h3, w1, by omega, w3, w4⟩
  obtain ⟨a, b, c, d, e⟩ := h2 m hm
  refine ⟨a, b, c, d, fun ht => ?_⟩
  obtain ⟨⟨e1, e2, e3⟩, e4⟩ := e ht
  exact ⟨⟨e1, by omega, by omega⟩, e4⟩
theorem i_up {k : Nat} {u : SX} {v : SY} (h : i_Rel k u v) : i_Rel (k + 5) u v := by
  obtain ⟨V, t, y, x, bx, W, hR, h⟩ := h
  exact ⟨V, t, y, x, bx, W, ms_mono hR (by omega) (by omega), ml_up h (by omega)⟩
/-- back to the relation -/
theorem ml_in {k K : Nat} {u : SX} {v : SY} {V : ms_M} {t : ms_TT} {y : ms_YT} {x : ms_XT} {bx : Nat → ml_B} {W : Nat} (hk : k + 5 ≤ 2560) (hR : ms_R K 4 V V t y x u) (hK : K ≤ k + 3) (h : ml_rest (k + 5) V x v bx W) : i_Rel (k + 5) u v :=
  ⟨V, t, y, x, bx, W, ms_mono hR (by omega) (by omega), h⟩
theorem ml_out {k : Nat} {u : SX} {v : SY} (hk : k + 5 ≤ 2560) (I : i_Rel k u v) : ∃ (V : ms_M) (t : ms_TT) (y : ms_YT) (x : ms_XT) (bx : Nat → ml_B) (W : Nat), ms_R (k + 1) 4 V V t y x u ∧ ml_rest k V x v bx W := by
  obtain ⟨V, t, y, x, bx, W, hR, h⟩ := I
  rw [Nat.min_eq_left (by omega)] at hR
  exact ⟨V, t, y, x, bx, W, hR, h⟩
theorem ml_RB {K w : Nat} {V : ms_M} {t : ms_TT} {y : ms_YT} {x : ms_XT} {u : SX} (s : Nat) (h : ms_R K w V V t y x u) : ms_RB K w V s y x (V s) t u := by
  unfold ms_RB; rw [ms_mB_i]; exact h
theorem ml_BR {K w : Nat} {V : ms_M} {t : ms_TT} {y : ms_YT} {x : ms_XT} {u : SX} {s : Nat} (h : ms_RB K w V s y x (V s) t u) : ms_R K w V V t y x u := by
  unfold ms_RB at h; rw [ms_mB_i] at h; exact h
/-- dirty mode -/
theorem ml_dirty {K : Nat} {V M : ms_M} {t : ms_TT} {y : ms_YT} {x : ms_XT} {u : SX} (s : Nat) (h : ms_R K 4 V M t y x u) : ms_R K s V M t y x u :=
  ⟨h.1, fun s' hs' => st_clean (h.2.1 s' hs') (by omega), h.2.2⟩
/-- a mailbox's new contents are saved -/
theorem ml_save {post : SX → Prop} {K s : Nat} {V : ms_M} {t : ms_TT} {y : ms_YT} {x : ms_XT} {B : ms_B} {u : SX} {ps : Int32} (hR : ms_RB K s V s y x B t u) (hs : s < 4) (es : ps = nI s) (hK : K + 2 ≤ 100000) (k : ∀ u', ms_R (K + 2) 4 (ms_mB V s B) (ms_mB V s B) t y x u' → post u') : wpX_save post u ps := by
  refine sl_save hR hs es hK (fun u' r' => k u' ?_)
  rw [ms_mB_s] at r'
  exact r'
/-! guards -/
theorem ml_ib (p : Int32) : ((∀ post, post 0 → wpX_isBox post p) ∧ (∀ post v, post 1 → wpY_badBox post v p)) ∨ ∃ m, m < 4 ∧ p = nI m ∧ (∀ post, post 1 → wpX_isBox post p) ∧ (∀ post v, post 0 → wpY_badBox post v p) := by
  rcases pk_ix p (n := 4) (by omega) with h | h | ⟨m, hm, rfl⟩
  · exact Or.inl ⟨fun post hp => br_t h hp, fun post v hp => br_t h hp⟩
  · have h0 : ¬ p < 0 := Int32.not_lt.mpr (Int32.le_trans (by decide) h)
    have h3 : ¬ p ≤ 3 := fun z => absurd (Int32.le_trans h z) (by decide)
    exact Or.inl ⟨fun post hp => br_f h0 (br_t h hp), fun post v hp => br_f h0 (br_f h3 hp)⟩
  · have h0 : ¬ nI m < 0 := nI_pos (by omega)
    exact Or.inr ⟨m, hm, rfl, fun post hp => br_f h0 (br_f (na_nle (a := 4) (b := m) rfl rfl hm (by omega)) hp), fun post v hp => br_f h0 (br_t (na_le (a := m) (b := 3) rfl rfl (by omega) (by omega)) hp)⟩
theorem ml_is (p : Int32) : ((∀ post, post 0 → wpX_isSession post p) ∧ (∀ post v, post 1 → wpY_badSession post v p)) ∨ ∃ m, m < 3 ∧ p = nI m ∧ (∀ post, post 1 → wpX_isSession post p) ∧ (∀ post v, post 0 → wpY_badSession post v p) := by
  rcases pk_ix p (n := 3) (by omega) with h | h | ⟨m, hm, rfl⟩
  · exact Or.inl ⟨fun post hp => br_t h hp, fun post v hp => br_t h hp⟩
  · have h0 : ¬ p < 0 := Int32.not_lt.mpr (Int32.le_trans (by decide) h)
    have h3 : ¬ p ≤ 2 := fun z => absurd (Int32.le_trans h z) (by decide)
    exact Or.inl ⟨fun post hp => br_f h0 (br_t h hp), fun post v hp => br_f h0 (br_f h3 hp)⟩
  · have h0 : ¬ nI m < 0 := nI_pos (by omega)
    exact Or.inr ⟨m, hm, rfl, fun post hp => br_f h0 (br_f (na_nle (a := 3) (b := m) rfl rfl hm (by omega)) hp), fun post v hp => br_f h0 (br_t (na_le (a := m) (b := 2) rfl rfl (by omega) (by omega)) hp)⟩
section
variable {K w : Nat} {V : ms_M} {t : ms_TT} {y : ms_YT} {x : ms_XT} {u : SX} {m : Nat} {b : ml_B}
theorem ml_there {post : Int32 → SX → Prop} {pm : Int32} (hR : ms_R K w V V t y x u) (hm : m < 4) (em : pm = nI m) (hX : ml_X (V m) b) (k1 : b.1 = true → ∀ u', ms_R K w V V t y x u' → post 1 u') (k0 : b.1 = false → ∀ u', ms_R K w V V t y x u' → post 0 u') : wpX_isThere post u pm := by
  subst em
  rw [xe_isThere]
  refine mb_about (ml_RB m hR) hm (c := 0) (by omega) rfl rfl (fun u1 r1 => ?_)
  rw [hX.1]
  cases hb : b.1
  · exact br_f (by decide) (k0 hb u1 (ml_BR r1))
  · exact br_t rfl (k1 hb u1 (ml_BR r1))
theorem ml_messages {post : Int32 → SX → Prop} {pm : Int32} (hR : ms_R K w V V t y x u) (hm : m < 4) (em : pm = nI m) (hX : ml_X (V m) b) (k : ∀ u', ms_R K w V V t y x u' → post (nI b.2.2.2.2.2.length) u') : wpX_messages post u pm := by
  subst em
  rw [xe_messages]
  refine rb_cell (ml_RB m hR) hm (b := 0) (c := 2) (by omega) (by omega) rfl rfl rfl (fun u1 r1 => ?_)
  obtain ⟨_, _, _, _, _, _, _, _, _, k1, ⟨ns0, ns1, h0, _⟩, _⟩ := hX
  have h : V m 0 2 = nI (mb_k0 b.2.2.2.2.2).length := h0.1
  rw [h, mb_k0, List.length_map]
  exact k u1 (ml_BR r1)
end
end
section
/-! frames; the constructors; create -/
def ml_ye (v v' : SY) (j : Nat) : Prop := yg_there v' j = yg_there v j ∧ yg_validity v' j = yg_validity v j ∧ yg_next v' j = yg_next v j ∧ yg_highest v' j = yg_highest v j ∧ yg_counts v' j = yg_counts v j ∧ ∀ i, i < 14 → yg_numbers v' (14 * j + i) = yg_numbers v (14 * j + i) ∧ yg_sizes v' (14 * j + i) = yg_sizes v (14 * j + i) ∧ yg_flags v' (14 * j + i) = yg_flags v (14 * j + i) ∧ yg_changes v' (14 * j + i) = yg_changes v (14 * j + i)
theorem ml_lt {α : Type} {l : List α} {i : Nat} {a : α} (h : l[i]? = some a) : i < l.length := by
  rcases Nat.lt_or_ge i l.length with g | g
  · exact g
  · rw [List.getElem?_eq_none g] at h
    exact absurd h (by simp)
theorem ml_Yf {k : Nat} {v v' : SY} {j : Nat} {b : ml_B} (h : ml_Y k v j b) (e : ml_ye v v' j) : ml_Y k v' j b := by
  obtain ⟨h1, h2, h3, h4, h5⟩ := h
  obtain ⟨e1, e2, e3, e4, e5, e6⟩ := e
  refine ⟨e1.trans h1, h2, h3, h4, fun ht => ?_⟩
  obtain ⟨g0, g1, g2, g3, g4, g5⟩ := h5 ht
  refine ⟨g0, e2.trans g1, e3.trans g2, e4.trans g3, e5.trans g4, fun i a hi => ?_⟩
  have := ml_lt hi
  obtain ⟨f1, f2, f3, f4⟩ := e6 i (by omega)
  obtain ⟨d1, d2, d3, d4⟩ := g5 i a hi
  exact ⟨f1.trans d1, f2.trans d2, f3.trans d3, f4.trans d4⟩
def ml_se (x x' : ms_XT) (v v' : SY) (s : Nat) : Prop := x'.1 s = x.1 s ∧ yg_selected v' s = yg_selected v s ∧ x'.2.1 s = x.2.1 s ∧ yg_lengths v' s = yg_lengths v s ∧ ∀ i, i < 14 → x'.2.2 (16 * s + i) = x.2.2 (16 * s + i) ∧ yg_views v' (14 * s + i) = yg_views v (14 * s + i)
def ml_be (bx bx' : Nat → ml_B) (m : Nat) : Prop := (bx m).1 = true → (bx' m).1 = true ∧ (bx m).2.2.1 ≤ (bx' m).2.2.1 ∧ ∀ a, a ∈ (bx' m).2.2.2.2.2 → (∃ c, c ∈ (bx m).2.2.2.2.2 ∧ c.1 = a.1) ∨ (bx m).2.2.1 ≤ a.1
theorem ml_Sf {x x' : ms_XT} {v v' : SY} {s : Nat} {bx bx' : Nat → ml_B} (h : ml_S x v s bx) (e : ml_se x x' v v' s) (hb : ∀ m, m < 4 → ml_be bx bx' m) : ml_S x' v' s bx' := by
  obtain ⟨e1, e2, e3, e4, e5⟩ := e
  rcases h with ⟨h1, h2⟩ | ⟨m, vs, hm, h1, h2, h3, h4, h5, h6, h7, h8, h9, h10⟩
  · exact Or.inl ⟨e1.trans h1, e2.trans h2⟩
  · obtain ⟨b1, b2, b3⟩ := hb m hm h3
    refine Or.inr ⟨m, vs, hm, e1.trans h1, e2.trans h2, b1, h4, h5, fun n hn => ?_, fun a ha => ?_, e3.trans h8, e4.trans h9, fun i n hi => ?_⟩
    · have := h6 n hn; omega
    · rcases b3 a ha with ⟨c, hc, ec⟩ | h
      · rw [← ec]; exact h7 c hc
      · exact Or.inr (fun n hn => by have := h6 n hn; omega)
    · have := ml_lt hi
      obtain ⟨f1, f2⟩ := e5 i (by omega)
      obtain ⟨d1, d2⟩ := h10 i n hi
      exact ⟨f1.trans d1, f2.trans d2⟩
def ml_ub (bx : Nat → ml_B) (m : Nat) (b : ml_B) : Nat → ml_B := fun j => if j = m then b else bx j
theorem ml_ub_s (bx : Nat → ml_B) (m : Nat) (b : ml_B) : ml_ub bx m b m = b := if_pos rfl
theorem ml_ub_o (bx : Nat → ml_B) {m j : Nat} (b : ml_B) (h : j ≠ m) : ml_ub bx m b j = bx j := if_neg h
theorem ml_be_o {bx : Nat → ml_B} {m : Nat} {b : ml_B} {j : Nat} (h : j ≠ m) : ml_be bx (ml_ub bx m b) j := by
  intro ht
  rw [ml_ub_o _ _ h]
  exact ⟨ht, Nat.le_refl _, fun a ha => Or.inl ⟨a, ha, rfl⟩⟩
/-- empty trees -/
theorem mb_zero {B : ms_B} (h : ∀ c, c < 8 → B 0 c = 0) : mb_tr B [] [] := by
  refine ⟨[], [], ⟨h 2 (by omega), by simp, Or.inl ⟨rfl, rfl, h 0 (by omega), h 1 (by omega)⟩⟩, ⟨h 5 (by omega), by simp, Or.inl ⟨rfl, rfl, h 3 (by omega), h 4 (by omega)⟩⟩, by simp, fun i hi => ?_⟩
  rw [h 6 (by omega), b_0]
  simp
theorem mb_empty {B : ms_B} {nx hg : Nat} (h : ∀ c, c < 8 → B 0 c = 0) (h5 : B 1 5 = 0) : mb_ms B nx hg [] := by
  refine ⟨fun m hm => absurd hm (by simp), List.Pairwise.nil, by simp, fun i hi => ?_, [], mb_zero h, List.Perm.refl _⟩
  rw [h5, b_0]
  simp
theorem yi_sel (u : SY) (a : Nat → Int32) : yg_selected (ys_selected u a) = a := rfl
theorem yi_ss (u : SY) (a b : Nat → Int32) : ys_selected (ys_selected u a) b = ys_selected u b := rfl
theorem yi_walk {post : SY → Prop} (k : post (ys_selected yu_0 (upd (upd (upd (yg_selected yu_0) 0 (-1)) 1 (-1)) 2 (-1)))) : wpY_init post := by
  rw [ye_init]
  refine ⟨4, ?_⟩
  rw [ye_init_95]
  refine br_f (by decide) ⟨vp_in_nI (n := 0) (by omega) (by omega), nm_e (nm_r (e' := 1) (by decide) ?_)⟩
  rw [ye_init_95, yi_sel]
  refine br_f (by decide) ⟨vp_in_nI (n := 1) (by omega) (by omega), nm_e (nm_r (e' := 2) (by decide) ?_)⟩
  rw [yi_ss, ye_init_95, yi_sel]
  refine br_f (by decide) ⟨vp_in_nI (n := 2) (by omega) (by omega), nm_e (nm_r (e' := 3) (by decide) ?_)⟩
  rw [yi_ss, ye_init_95]
  exact br_t (by decide) k
theorem i_vc0 : wpX_init (fun u => wpY_init (fun v => i_Rel 0 u v)) := by
  refine it_walk (fun u' r' => yi_walk ?_)
  refine ⟨it_V, _, _, _, fun _ => (false, 0, 0, 0, 0, []), 0, r', fun m hm => ⟨rfl, rfl, rfl, rfl, rfl, mb_empty (fun _ _ => rfl) rfl⟩, fun m hm => ⟨rfl, fun _ => rfl, by simp, fun a ha => absurd ha (by simp), fun h => by simp at h⟩, fun s hs => Or.inl ⟨rfl, ?_⟩, rfl, by omega, fun _ _ => Nat.le_refl _, Or.inl rfl⟩
  rw [yi_sel]
  by_cases h2 : s = 2
  · subst h2; exact pk_us
  · rw [pk_un h2]
    by_cases h1 : s = 1
    · subst h1; exact pk_us
    · rw [pk_un h1]
      have h0 : s = 0 := by omega
      subst h0
      exact pk_us
theorem ce_loop {post : Int32 → SX → Prop} {K : Nat} {V : ms_M} {t : ms_TT} {y : ms_YT} {x : ms_XT} {m : Nat} {bx : Nat → ml_B} {W : Nat} (hm : m < 4) (hK : K + 2 ≤ 100000) (hX : ∀ m, m < 4 → ml_X (V m) (bx m)) (hW : W < 100000) (w3 : ∀ m, m < 4 → (bx m).2.2.2.2.1 ≤ W) (w4 : W = 0 ∨ ∃ m, m < 4 ∧ (bx m).2.2.2.2.1 = W)
    (k : ∀ (B' : ms_B) (u' : SX), ms_R (K + 2) 4 (ms_mB V m B') (ms_mB V m B') t y x u' → ml_X B' (true, W + 1, 1, 1, W + 1, []) → post (nI (W + 1)) u') :
    ∀ (d j mx : Nat) (u : SX), j + d = 4 → ms_R K 4 V V t y x u → (∀ i, i < j → (bx i).2.2.2.2.1 ≤ mx) → (mx = 0 ∨ ∃ i, i < j ∧ (bx i).2.2.2.2.1 = mx) → xc_create_24 post (nI m) (d + 1) (nI mx) (nI j) u := by
  intro d
  induction d with
  | zero =>
    intro j mx u hj hR h1 h2
    have hj4 : j = 4 := by omega
    subst hj4
    have emx : mx = W := by
      have a1 : mx ≤ W := by
        rcases h2 with h | ⟨i, hi, h⟩
        · omega
        · have := w3 i hi; omega
      have a2 : W ≤ mx := by
        rcases w4 with h | ⟨i, hi, h⟩
        · omega
        · have := h1 i hi; omega
      omega
    subst emx
    rw [xe_create_24]
    refine br_t (by decide) (nm_r (nI_1 mx) ?_)
    have r0 := ml_RB m (ml_dirty m hR)
    refine rb_clear r0 rfl hm (b := 0) (by omega) rfl rfl (fun B1 u1 r1 a1 a2 => ?_)
    refine rb_clear r1 rfl hm (b := 1) (by omega) rfl rfl (fun B2 u2 r2 c1 c2 => ?_)
    refine rb_set r2 rfl hm (b := 1) (c := 0) (by omega) (by omega) rfl rfl rfl (fun u3 r3 => ?_)
    refine rb_set r3 rfl hm (b := 1) (c := 1) (by omega) (by omega) rfl rfl rfl (fun u4 r4 => ?_)
    refine rb_set r4 rfl hm (b := 1) (c := 4) (by omega) (by omega) rfl rfl rfl (fun u5 r5 => ?_)
    refine rb_set r5 rfl hm (b := 1) (c := 2) (by omega) (by omega) rfl rfl rfl (fun u6 r6 => ?_)
    refine rb_set r6 rfl hm (b := 1) (c := 3) (by omega) (by omega) rfl rfl rfl (fun u7 r7 => ?_)
    refine ml_save r7 hm rfl hK (fun u8 r8 => k _ u8 r8 ⟨?_, ?_, ?_, ?_, ?_, mb_empty (fun c hc => ?_) ?_⟩)
    · simp [ms_mC_g]
    · simp [ms_mC_g]
    · simp [ms_mC_g]; rfl
    · simp [ms_mC_g]; rfl
    · simp [ms_mC_g]
    · simp only [ms_mC_o _ _ (show (0 : Nat) ≠ 1 by omega)]
      rw [c1 0 (by omega)]; exact a2 c hc
    · simp [ms_mC_g]; exact c2 5 (by omega)
  | succ d ih =>
    intro j mx u hj hR h1 h2
    have hmx : mx ≤ W := by
      rcases h2 with h | ⟨i, hi, h⟩
      · omega
      · have := w3 i (by omega); omega
    rw [xe_create_24]
    refine br_f (na_nle (a := 4) (b := j) rfl rfl (by omega) (by omega)) ?_
    refine mb_about (ml_RB j hR) (by omega) (c := 4) (by omega) rfl rfl (fun u1 r1 => ?_)
    have hj4 := w3 j (by omega)
    rw [(hX j (by omega)).2.2.2.2.1]
    refine pk_le (bx j).2.2.2.2.1 mx (fun hle => nm_r (nI_1 j) ?_) (fun hgt => nm_r (nI_1 j) ?_)
    · refine ih (j + 1) mx u1 (by omega) (ml_BR r1) (fun i hi => ?_) (h2.elim Or.inl (fun ⟨i, hi, h⟩ => Or.inr ⟨i, by omega, h⟩))
      by_cases e : i = j
      · subst e; exact hle
      · exact h1 i (by omega)
    · refine ih (j + 1) _ u1 (by omega) (ml_BR r1) (fun i hi => ?_) (Or.inr ⟨j, by omega, rfl⟩)
      by_cases e : i = j
      · subst e; exact Nat.le_refl _
      · have := h1 i (by omega); omega
theorem i_vc_create {k : Nat} {u : SX} {v : SY} (I : i_Rel k u v) (hk : k + 5 ≤ 2560) (v1 : Int32) : wpX_create (fun r u' => wpY_create (fun r' v' => r' = r ∧ i_Rel (k + 5) u' v') v v1) u v1 := by
  obtain ⟨V, t, y, x, bx, W, hR, hrest⟩ := ml_out hk I
  have hrest' := hrest
  obtain ⟨hX, hY, hS, w1, w2, w3, w4⟩ := hrest'
  rw [xe_create]
  rcases ml_ib v1 with ⟨g1, g2⟩ | ⟨m, hm, rfl, g1, g2⟩
  · refine g1 _ (br_t rfl ?_)
    rw [ye_create]
    exact g2 _ v (br_f (by decide) ⟨rfl, i_up I⟩)
  · have yt := (hY m hm).1
    refine g1 _ (br_f (by decide) (ml_there hR hm rfl (hX m hm) (fun ht u' r' => br_f (by decide) ?_) (fun hf u' r' => br_t rfl ⟨5, ?_⟩)))
    · rw [ye_create]
      refine g2 _ v (br_t rfl ⟨vp_in_nI hm (by omega), br_f ?_ ⟨rfl, ml_in hk r' (by omega) (ml_up hrest (by omega))⟩⟩)
      rw [nI_clamp (n := m) (by omega), yt, ht]; decide
    · refine ce_loop hm (by omega) hX (by omega) w3 w4 (fun B' u'' r'' hB => ?_) 4 0 0 u' rfl r' (fun i hi => absurd hi (by omega)) (Or.inl rfl)
      rw [ye_create]
      refine g2 _ v (br_t rfl ⟨vp_in_nI hm (by omega), br_t (by rw [nI_clamp (n := m) (by omega), yt, hf]; rfl) ?_⟩)
      rw [nI_clamp (n := m) (by omega)]
      refine ⟨vp_in_nI hm (by omega), nm_e (nm_r (e' := nI (W + 1)) (by rw [w1, nI_1]) ⟨vp_in_nI hm (by omega), nm_e ⟨vp_in_nI hm (by omega), nm_e ⟨vp_in_nI hm (by omega), nm_e ⟨vp_in_nI hm (by omega), nm_e ⟨rfl, ?_⟩⟩⟩⟩⟩)⟩
      refine ml_in (bx := ml_ub bx m (true, W + 1, 1, 1, W + 1, [])) (W := W + 1) hk r'' (by omega) ⟨fun j hj => ?_, fun j hj => ?_, fun s hs => ?_, rfl, by omega, fun j hj => ?_, Or.inr ⟨m, hm, by rw [ml_ub_s]⟩⟩
      · by_cases e : j = m
        · subst e; rw [ms_mB_s, ml_ub_s]; exact hB
        · rw [ms_mB_o _ _ e, ml_ub_o _ _ e]; exact hX j hj
      · by_cases e : j = m
        · subst e; rw [ml_ub_s]
          exact ⟨pk_us, fun h => by simp at h, by simp, fun a ha => absurd ha (by simp), fun _ => ⟨⟨by simp, by simp, by simp⟩, pk_us, pk_us, pk_us, pk_us, fun i a hi => absurd hi (by simp)⟩⟩
        · rw [ml_ub_o _ _ e]
          exact ml_Yf ((ml_up hrest (k' := k + 5) (by omega)).2.1 j hj) ⟨pk_un e, pk_un e, pk_un e, pk_un e, pk_un e, fun i hi => ⟨rfl, rfl, rfl, rfl⟩⟩
      · refine ml_Sf (hS s hs) ⟨rfl, rfl, rfl, rfl, fun i hi => ⟨rfl, rfl⟩⟩ (fun j hj => ?_)
        by_cases e : j = m
        · subst e; intro ht; rw [hf] at ht; exact absurd ht (by decide)
        · exact ml_be_o e
      · by_cases e : j = m
        · subst e; rw [ml_ub_s]; exact Nat.le_refl _
        · rw [ml_ub_o _ _ e]; have := w3 j hj; omega
end
section
/-! append, status, idle, crash, appendAndCrash -/
theorem ml_yt {k : Nat} {v : SY} {m : Nat} {b : ml_B} (h : ml_Y k v m b) : (b.1 = true → ¬ yg_there v m = 0) ∧ (b.1 = false → yg_there v m = 0) := by
  constructor
  · intro ht; rw [h.1, ht]; decide
  · intro ht; rw [h.1, ht]; rfl
/-- a message's bounds -/
theorem ml_im (p q : Int32) : ((∀ post, post 0 → wpX_isMessage post p q) ∧ (∀ post v z, post (-1) → wpY_refused post v z p q)) ∨ ∃ f, f < 32 ∧ q = nI f ∧ (∀ post, post 1 → wpX_isMessage post p q) ∧ (∀ (post : Int32 → Prop) (v : SY) (z : Int32), wpY_badBox (fun r_1 => (r_1 = 0 → vp_in z 4 ∧ ((yg_there v z.toNatClampNeg = 0 → post (-2)) ∧ (¬ yg_there v z.toNatClampNeg = 0 → vp_in z 4 ∧ ((yg_counts v z.toNatClampNeg = 14 → post (-3)) ∧ (¬ yg_counts v z.toNatClampNeg = 14 → post 0))))) ∧ (¬ r_1 = 0 → post (-1))) v z → wpY_refused post v z p q) := by
  by_cases h1 : p < 1
  · refine Or.inl ⟨fun post hp => br_t h1 hp, fun post v z hp => ?_⟩
    rw [ye_refused]
    rcases ml_ib z with ⟨_, g⟩ | ⟨m, _, _, _, g⟩
    · exact g _ v (br_f (by decide) hp)
    · exact g _ v (br_t rfl (br_t h1 hp))
  · by_cases h2 : 1000 < p
    · refine Or.inl ⟨fun post hp => br_f h1 (br_t h2 hp), fun post v z hp => ?_⟩
      rw [ye_refused]
      rcases ml_ib z with ⟨_, g⟩ | ⟨m, _, _, _, g⟩
      · exact g _ v (br_f (by decide) hp)
      · exact g _ v (br_t rfl (br_f h1 (br_t h2 hp)))
    · by_cases h3 : q < 0
      · refine Or.inl ⟨fun post hp => br_f h1 (br_f h2 (br_t h3 hp)), fun post v z hp => ?_⟩
        rw [ye_refused]
        rcases ml_ib z with ⟨_, g⟩ | ⟨m, _, _, _, g⟩
        · exact g _ v (br_f (by decide) hp)
        · exact g _ v (br_t rfl (br_f h1 (br_f h2 (br_t h3 hp))))
      · by_cases h4 : q ≤ 31
        · obtain ⟨f, hf, rfl⟩ := nI_of2 (x := q) (M := 31) (n := 31) (by decide) h3 h4
          refine Or.inr ⟨f, by omega, rfl, fun post hp => br_f h1 (br_f h2 (br_f h3 (br_f (Int32.not_lt.mpr h4) hp))), fun post v z hp => ?_⟩
          rw [ye_refused]
          rcases ml_ib z with ⟨g0, g⟩ | ⟨m, hm, em, g0, g⟩
          · refine g _ v (br_f (by decide) ?_)
            rcases pk_ix z (n := 4) (by omega) with h | h | ⟨m, hm, e⟩
            · exact ((hp.1 h).2 (by decide))
            · have h0 : ¬ z < 0 := Int32.not_lt.mpr (Int32.le_trans (by decide) h)
              have h3' : ¬ z ≤ 3 := fun w => absurd (Int32.le_trans h w) (by decide)
              exact (((hp.2 h0).2 h3').2 (by decide))
            · have := g0 (fun r => r = 0) rfl
              subst e
              exact absurd (((this.2 (nI_pos (by omega))).2 (na_nle (a := 4) (b := m) rfl rfl hm (by omega)))) (by decide)
          · refine g _ v (br_t rfl (br_f h1 (br_f h2 (br_f h3 (br_t h4 ?_)))))
            subst em
            have h0 : ¬ nI m < 0 := nI_pos (by omega)
            exact (((hp.2 h0).1 (na_le (a := m) (b := 3) rfl rfl (by omega) (by omega))).1 rfl)
        · refine Or.inl ⟨fun post hp => br_f h1 (br_f h2 (br_f h3 (br_t (Int32.not_le.mp h4) hp))), fun post v z hp => ?_⟩
          rw [ye_refused]
          rcases ml_ib z with ⟨_, g⟩ | ⟨m, _, _, _, g⟩
          · exact g _ v (br_f (by decide) hp)
          · exact g _ v (br_t rfl (br_f h1 (br_f h2 (br_f h3 (br_f h4 hp)))))
/-- the reference's list grows by one -/
theorem ya_add {post : Int32 → SY → Prop} {k : Nat} {v : SY} {m : Nat} {b : ml_B} {pm size flags : Int32} {f q : Nat} (hk : k ≤ 2560) (hm : m < 4) (em : pm = nI m) (hY : ml_Y k v m b) (ht : b.1 = true) (hl : b.2.2.2.2.2.length ≤ 13) (ef : flags = nI f) (hf : f < 32)
    (c : ∀ v', ml_Y (k + 5) v' m (b.1, b.2.1, b.2.2.1 + 1, b.2.2.2.1 + 1, b.2.2.2.2.1, b.2.2.2.2.2 ++ [(b.2.2.1, size, flags, b.2.2.2.1 + 1, q)]) → (∀ j, j ≠ m → ml_ye v v' j) → (∀ x s, ml_se x x v v' s) → yg_validities v' = yg_validities v → post (nI b.2.2.1) v') : wpY_add post v pm size flags := by
  subst em
  obtain ⟨y1, y2, y3, y4, y5⟩ := hY
  obtain ⟨⟨z1, z2, z3⟩, g1, g2, g3, g4, g5⟩ := y5 ht
  rw [ye_add, na_m14, nI_clamp (n := m) (by omega), g2, g3, g4, nI_1, nI_1, nI_1]
  refine ⟨vp_in_nI hm (by omega), nm_r (nI_add _ _) ⟨vp_in_nI hm (by omega), vp_in_nI hm (by omega), nm_e ⟨vp_in_nI hm (by omega), ?_⟩⟩⟩
  rw [nI_clamp (n := 14 * m + b.2.2.2.2.2.length) (by omega), pk_us]
  refine ⟨vp_in_nI (by omega) (by omega), nm_e ⟨vp_in_nI (by omega) (by omega), nm_e ⟨vp_in_nI (by omega) (by omega), nm_e ⟨vp_in_nI hm (by omega), vp_in_nI (by omega) (by omega), nm_e ⟨vp_in_nI hm (by omega), vp_in_nI hm (by omega), nm_e ⟨vp_in_nI hm (by omega), vp_in_nI hm (by omega), nm_e ⟨vp_in_nI (by omega) (by omega), ?_⟩⟩⟩⟩⟩⟩⟩
  rw [pk_us]
  refine c _ ⟨y1, fun h => by rw [ht] at h; exact absurd h (by decide), by simp; omega, fun a ha => ?_, fun _ => ⟨⟨by simp, by show b.2.2.1 + 1 ≤ k + 5 + 1; omega, by show b.2.2.2.1 + 1 ≤ 3 * (k + 5) + 1; omega⟩, g1, pk_us, pk_us, ?_, fun i a hi => ?_⟩⟩ (fun j hj => ⟨rfl, rfl, pk_un hj, pk_un hj, pk_un hj, fun i hi => ⟨pk_un (by omega), pk_un (by omega), pk_un (by omega), pk_un (by omega)⟩⟩) (fun x s => ⟨rfl, rfl, rfl, rfl, fun i hi => ⟨rfl, rfl⟩⟩) rfl
  · rcases List.mem_append.mp ha with h | h
    · exact y4 a h
    · rw [List.mem_singleton] at h
      subst h
      exact ⟨f, hf, ef⟩
  · show upd (yg_counts v) m (nI (b.2.2.2.2.2.length + 1)) m = _
    rw [pk_us]; simp
  · have hlt := ml_lt hi
    rw [List.length_append, List.length_cons, List.length_nil] at hlt
    by_cases e : i = b.2.2.2.2.2.length
    · subst e
      rw [tw_mid, Option.some.injEq] at hi
      subst hi
      exact ⟨pk_us, pk_us, pk_us, pk_us⟩
    · rw [List.getElem?_append_left (by omega)] at hi
      obtain ⟨d1, d2, d3, d4⟩ := g5 i a hi
      exact ⟨(pk_un (by omega)).trans d1, (pk_un (by omega)).trans d2, (pk_un (by omega)).trans d3, (pk_un (by omega)).trans d4⟩
/-- after a message has come to a mailbox -/
theorem ml_added {k K : Nat} {u' : SX} {v v' : SY} {V : ms_M} {t : ms_TT} {y : ms_YT} {x : ms_XT} {bx : Nat → ml_B} {W m : Nat} {B' : ms_B} {b' : ml_B} (hk : k + 5 ≤ 2560) (hm : m < 4) (hrest : ml_rest k V x v bx W) (hR : ms_R K 4 (ms_mB V m B') (ms_mB V m B') t y x u') (hK : K ≤ k + 3) (hX : ml_X B' b') (hY : ml_Y (k + 5) v' m b') (hbe : ml_be bx (ml_ub bx m b') m) (hls : b'.2.2.2.2.1 = (bx m).2.2.2.2.1) (h1 : ∀ j, j ≠ m → ml_ye v v' j) (h2 : ∀ s, s < 3 → ml_se x x v v' s) (h3 : yg_validities v' = yg_validities v) : i_Rel (k + 5) u' v' := by
  obtain ⟨gX, gY, gS, w1, w2, w3, w4⟩ := ml_up hrest (k' := k + 5) (by omega)
  refine ml_in (bx := ml_ub bx m b') (W := W) hk hR hK ⟨fun j hj => ?_, fun j hj => ?_, fun s hs => ml_Sf (gS s hs) (h2 s hs) (fun j hj => ?_), h3.trans w1, w2, fun j hj => ?_, w4.elim Or.inl (fun ⟨j, hj, e⟩ => Or.inr ⟨j, hj, ?_⟩)⟩
  · by_cases e : j = m
    · subst e; rw [ms_mB_s, ml_ub_s]; exact hX
    · rw [ms_mB_o _ _ e, ml_ub_o _ _ e]; exact gX j hj
  · by_cases e : j = m
    · subst e; rw [ml_ub_s]; exact hY
    · rw [ml_ub_o _ _ e]; exact ml_Yf (gY j hj) (h1 j e)
  · by_cases e : j = m
    · subst e; exact hbe
    · exact ml_be_o e
  · by_cases e : j = m
    · subst e; rw [ml_ub_s, hls]; exact w3 j hj
    · rw [ml_ub_o _ _ e]; exact w3 j hj
  · by_cases e' : j = m
    · subst e'; rw [ml_ub_s, hls]; exact e
    · rw [ml_ub_o _ _ e']; exact e
/-- one more message in both -/
theorem ml_putadd {post : Int32 → SX → Prop} {k : Nat} {u : SX} {v : SY} {V : ms_M} {t : ms_TT} {y : ms_YT} {x : ms_XT} {bx : Nat → ml_B} {W m f : Nat} {size flags : Int32} (hk : k + 5 ≤ 2560) (hm : m < 4) (hR : ms_R (k + 1) 4 V V t y x u) (hrest : ml_rest k V x v bx W) (ht : (bx m).1 = true) (hl : (bx m).2.2.2.2.2.length ≤ 13) (ef : flags = nI f) (hf : f < 32)
    (c : ∀ u'', (∀ postY : Int32 → SY → Prop, (∀ v', i_Rel (k + 5) u'' v' → postY (nI (bx m).2.2.1) v') → wpY_add postY v (nI m) size flags) → post (nI (bx m).2.2.1) u'') :
    wpX_putMessage (fun r_79 u80 => wpX_save (fun u116 => post r_79 u116) u80 (nI m)) u (nI m) size flags := by
  have hX := hrest.1 m hm
  have hY := hrest.2.1 m hm
  obtain ⟨⟨z1, z2, z3⟩, _⟩ := hY.2.2.2.2 ht
  refine mb_put (ml_RB m (ml_dirty m hR)) rfl hm rfl hX hl z1 (by omega) (by omega) (fun B' t' u' q r' hB => ?_)
  refine ml_save r' hm rfl (by omega) (fun u'' r'' => c u'' (fun postY hp => ?_))
  refine ya_add (q := q) (by omega) hm rfl hY ht hl ef hf (fun v' hY' h1 h2 h3 => hp v' ?_)
  refine ml_added (b' := ((bx m).1, (bx m).2.1, (bx m).2.2.1 + 1, (bx m).2.2.2.1 + 1, (bx m).2.2.2.2.1, (bx m).2.2.2.2.2 ++ [((bx m).2.2.1, size, flags, (bx m).2.2.2.1 + 1, q)])) hk hm hrest r'' (by omega) hB hY' (fun _ => ?_) rfl h1 (fun s _ => h2 x s) h3
  rw [ml_ub_s]
  refine ⟨ht, by simp, fun a ha => ?_⟩
  rcases List.mem_append.mp ha with h | h
  · exact Or.inl ⟨a, h, rfl⟩
  · rw [List.mem_singleton] at h
    subst h
    exact Or.inr (Nat.le_refl _)
theorem i_vc_append {k : Nat} {u : SX} {v : SY} (I : i_Rel k u v) (hk : k + 5 ≤ 2560) (v1 : Int32) (v2 : Int32) (v3 : Int32) : wpX_append (fun r u' => wpY_append (fun r' v' => r' = r ∧ i_Rel (k + 5) u' v') v v1 v2 v3) u v1 v2 v3 := by
  obtain ⟨V, t, y, x, bx, W, hR, hrest⟩ := ml_out hk I
  have hrest' := hrest
  obtain ⟨hX, hY, hS, hW⟩ := hrest'
  rw [xe_append]
  rcases ml_ib v1 with ⟨g1, g2⟩ | ⟨m, hm, rfl, g1, g2⟩
  · refine g1 _ (br_t rfl ?_)
    rw [ye_append, ye_refused]
    exact g2 _ v (br_f (by decide) (br_f (by decide) ⟨rfl, i_up I⟩))
  · refine g1 _ (br_f (by decide) ?_)
    rcases ml_im v2 v3 with ⟨g3, g4⟩ | ⟨f, hf, rfl, g3, g4⟩
    · refine g3 _ (br_t rfl ?_)
      rw [ye_append]
      exact g4 _ v _ (br_f (by decide) ⟨rfl, i_up I⟩)
    · refine g3 _ (br_f (by decide) (ml_there hR hm rfl (hX m hm) (fun ht u' r' => br_f (by decide) ?_) (fun hf' u' r' => br_t rfl ?_)))
      · obtain ⟨_, q1, q2, q3, q4, q5⟩ := (hY m hm).2.2.2.2 ht
        have hlen := (hY m hm).2.2.1
        refine ml_messages r' hm rfl (hX m hm) (fun u'' r'' => ?_)
        refine pk_lt (bx m).2.2.2.2.2.length 14 (fun hl => ?_) (fun hl => ?_)
        · refine ml_putadd (f := f) hk hm r'' hrest ht (by omega) rfl hf (fun u3 hadd => ?_)
          rw [ye_append]
          refine g4 _ v _ (g2 _ v (br_t rfl ⟨vp_in_nI hm (by omega), ?_⟩))
          rw [nI_clamp (n := m) (by omega), q4]
          exact br_f ((ml_yt (hY m hm)).1 ht) ⟨vp_in_nI hm (by omega), br_f (na_ne (b := 14) (by omega) (by omega) (by omega)) (br_t (by decide) (hadd _ (fun v' hrel => ⟨rfl, hrel⟩)))⟩
        · rw [ye_append]
          refine g4 _ v _ (g2 _ v (br_t rfl ⟨vp_in_nI hm (by omega), ?_⟩))
          rw [nI_clamp (n := m) (by omega), q4]
          exact br_f ((ml_yt (hY m hm)).1 ht) ⟨vp_in_nI hm (by omega), br_t (by rw [show (bx m).2.2.2.2.2.length = 14 from by omega]; rfl) (br_f (by decide) ⟨rfl, ml_in hk r'' (by omega) (ml_up hrest (by omega))⟩)⟩
      · rw [ye_append]
        refine g4 _ v _ (g2 _ v (br_t rfl ⟨vp_in_nI hm (by omega), br_t (by rw [nI_clamp (n := m) (by omega)]; exact (ml_yt (hY m hm)).2 hf') (br_f (by decide) ⟨rfl, ml_in hk r' (by omega) (ml_up hrest (by omega))⟩)⟩))
end
section
/-! status, idle, crash, appendAndCrash, remove -/
theorem i_vc_status {k : Nat} {u : SX} {v : SY} (I : i_Rel k u v) (hk : k + 5 ≤ 2560) (v1 : Int32) (v2 : Int32) : wpX_status (fun r u' => wpY_status (fun r' => r' = r ∧ i_Rel (k + 5) u' v) v v1 v2) u v1 v2 := by
  obtain ⟨V, t, y, x, bx, W, hR, hrest⟩ := ml_out hk I
  have hrest' := hrest
  obtain ⟨hX, hY, hS, hW⟩ := hrest'
  have hin : ∀ u', ms_R (k + 1) 4 V V t y x u' → i_Rel (k + 5) u' v := fun u' r' => ml_in hk r' (by omega) (ml_up hrest (by omega))
  rw [xe_status]
  rcases ml_ib v1 with ⟨g1, g2⟩ | ⟨m, hm, rfl, g1, g2⟩
  · refine g1 _ (br_t rfl ?_)
    rw [ye_status]
    exact g2 _ v (br_f (by decide) ⟨rfl, i_up I⟩)
  · refine g1 _ (br_f (by decide) ?_)
    by_cases h0 : v2 < 0
    · refine br_t h0 ?_
      rw [ye_status]
      exact g2 _ v (br_t rfl (br_t h0 ⟨rfl, i_up I⟩))
    · refine br_f h0 ?_
      by_cases h3 : v2 ≤ 3
      · refine br_t h3 (ml_there hR hm rfl (hX m hm) (fun ht u' r' => br_f (by decide) ?_) (fun hf u' r' => br_t rfl ?_))
        · obtain ⟨c, hc, rfl⟩ := nI_of2 (x := v2) (M := 3) (n := 3) (by decide) h0 h3
          obtain ⟨_, q1, q2, q3, q4, q5⟩ := (hY m hm).2.2.2.2 ht
          have hyt := (ml_yt (hY m hm)).1 ht
          have hgo : ∀ (r : Int32) (u'' : SX), ms_R (k + 1) 4 V V t y x u'' → ((c = 0 → r = yg_validity v m) ∧ (c = 1 → r = yg_next v m) ∧ (c = 2 → r = yg_highest v m) ∧ (c = 3 → r = yg_counts v m)) → wpY_status (fun r' => r' = r ∧ i_Rel (k + 5) u'' v) v (nI m) (nI c) := by
            intro r u'' r'' ⟨e0, e1, e2, e3⟩
            rw [ye_status]
            refine g2 _ v (br_t rfl (br_f h0 (br_t h3 ⟨vp_in_nI hm (by omega), ?_⟩)))
            rw [nI_clamp (n := m) (by omega)]
            refine br_f hyt (pk_eq c 0 (fun h => ⟨vp_in_nI hm (by omega), (e0 h).symm, hin u'' r''⟩) (fun h => pk_eq c 1 (fun h => ⟨vp_in_nI hm (by omega), (e1 h).symm, hin u'' r''⟩) (fun h' => pk_eq c 2 (fun h => ⟨vp_in_nI hm (by omega), (e2 h).symm, hin u'' r''⟩) (fun h'' => ⟨vp_in_nI hm (by omega), (e3 (by omega)).symm, hin u'' r''⟩))))
          refine pk_eq c 3 (fun hc3 => ?_) (fun hc3 => ?_)
          · exact ml_messages r' hm rfl (hX m hm) (fun u'' r'' => hgo _ u'' r'' ⟨fun h => by omega, fun h => by omega, fun h => by omega, fun _ => q4.symm⟩)
          · rw [na_p1]
            refine mb_about (ml_RB m r') hm (c := 1 + c) (by omega) rfl rfl (fun u'' r'' => hgo _ u'' (ml_BR r'') ⟨fun h => ?_, fun h => ?_, fun h => ?_, fun h => absurd h hc3⟩)
            · subst h; exact (hX m hm).2.1.trans q1.symm
            · subst h; exact (hX m hm).2.2.1.trans q2.symm
            · subst h; exact (hX m hm).2.2.2.1.trans q3.symm
        · rw [ye_status]
          exact g2 _ v (br_t rfl (br_f h0 (br_t h3 ⟨vp_in_nI hm (by omega), br_t (by rw [nI_clamp (n := m) (by omega)]; exact (ml_yt (hY m hm)).2 hf) ⟨rfl, hin u' r'⟩⟩)))
      · refine br_f h3 ?_
        rw [ye_status]
        exact g2 _ v (br_t rfl (br_f h0 (br_f h3 ⟨rfl, i_up I⟩)))
theorem i_vc_idle {k : Nat} {u : SX} {v : SY} (I : i_Rel k u v) (hk : k + 5 ≤ 2560) (v1 : Int32) (v2 : Int32) : wpX_idle (fun u' => wpY_idle (fun v' => i_Rel (k + 5) u' v') v v1 v2) u v1 v2 := by
  obtain ⟨V, t, y, x, bx, W, hR, hrest⟩ := ml_out hk I
  refine id_walk hR (by omega) (fun u' r' => ?_)
  rw [ye_idle]
  exact ml_in hk r' (by omega) (ml_up hrest (by omega))
/-! crash -/
theorem yc_24 {post : Int32 → SY → Prop} {n j c : Nat} {v : SY} (hj : j < 3) (k : yc_crash_4 post n (nI (c + (if yg_selected v j < 0 then 0 else 1))) (nI (j + 1)) (ys_selected v (upd (yg_selected v) j (-1)))) : yc_crash_4 post (n + 1) (nI c) (nI j) v := by
  rw [ye_crash_4]
  refine br_f (na_nle (a := 3) (b := j) rfl rfl (by omega) (by omega)) ⟨vp_in_nI hj (by omega), ?_⟩
  rw [nI_clamp (n := j) (by omega)]
  refine br_c (fun h => ?_) (fun h => ?_)
  · rw [if_pos h] at k
    exact ⟨vp_in_nI hj (by omega), nm_e (nm_r (nI_1 j) k)⟩
  · rw [if_neg h] at k
    exact nm_r (nI_1 c) ⟨vp_in_nI hj (by omega), nm_e (nm_r (nI_1 j) k)⟩
def yc_sel (a : Nat → Int32) : Nat → Int32 := upd (upd (upd a 0 (-1)) 1 (-1)) 2 (-1)
theorem yc_walk {post : Int32 → SY → Prop} {v : SY} (k : post (nI ((if yg_selected v 0 < 0 then 0 else 1) + (if yg_selected v 1 < 0 then 0 else 1) + (if yg_selected v 2 < 0 then 0 else 1))) (ys_selected v (yc_sel (yg_selected v)))) : wpY_crash post v := by
  rw [ye_crash]
  refine ⟨4, ?_⟩
  refine yc_24 (j := 0) (c := 0) (by omega) ?_
  refine yc_24 (j := 1) (by omega) ?_
  rw [yi_sel, yi_ss]
  refine yc_24 (j := 2) (by omega) ?_
  rw [yi_sel, yi_ss, ye_crash_4]
  have e1 : upd (yg_selected v) 0 (-1) 1 = yg_selected v 1 := pk_un (by omega)
  have e2 : upd (upd (yg_selected v) 0 (-1)) 1 (-1) 2 = yg_selected v 2 := by rw [pk_un (by omega), pk_un (by omega)]
  rw [e1, e2, Nat.zero_add]
  exact br_t (by decide) k
theorem ml_cr1 {x : ms_XT} {v : SY} {s : Nat} {bx : Nat → ml_B} (h : ml_S x v s bx) : cr_one (x.1 s) = (if yg_selected v s < 0 then 0 else 1) := by
  unfold cr_one
  rcases h with ⟨h1, h2⟩ | ⟨m, vs, hm, h1, h2, _⟩
  · rw [h1, h2]; rfl
  · rw [h1, h2, if_neg (nI_nle (by omega) (by omega)), if_neg (nI_pos (by omega))]
theorem ml_sel3 {a : Nat → Int32} {z : Int32} {s : Nat} (hs : s < 3) : upd (upd (upd a 0 z) 1 z) 2 z s = z := by
  by_cases h2 : s = 2
  · subst h2; exact pk_us
  · rw [pk_un h2]
    by_cases h1 : s = 1
    · subst h1; exact pk_us
    · rw [pk_un h1]
      have h0 : s = 0 := by omega
      subst h0
      exact pk_us
theorem ml_crashed {k K : Nat} {u' : SX} {v : SY} {V : ms_M} {t : ms_TT} {y : ms_YT} {x : ms_XT} {bx : Nat → ml_B} {W : Nat} (hk : k + 5 ≤ 2560) (hrest : ml_rest k V x v bx W) (hR : ms_R K 4 V V t y (cr_sel x.1, x.2) u') (hK : K ≤ k + 3) : i_Rel (k + 5) u' (ys_selected v (yc_sel (yg_selected v))) := by
  obtain ⟨gX, gY, gS, w⟩ := ml_up hrest (k' := k + 5) (by omega)
  exact ml_in (bx := bx) (W := W) hk hR hK ⟨gX, fun j hj => ml_Yf (gY j hj) ⟨rfl, rfl, rfl, rfl, rfl, fun i hi => ⟨rfl, rfl, rfl, rfl⟩⟩, fun s hs => Or.inl ⟨ml_sel3 hs, ml_sel3 hs⟩, w⟩
theorem i_vc_crash {k : Nat} {u : SX} {v : SY} (I : i_Rel k u v) (hk : k + 5 ≤ 2560) : wpX_crash (fun r u' => wpY_crash (fun r' v' => r' = r ∧ i_Rel (k + 5) u' v') v) u := by
  obtain ⟨V, t, y, x, bx, W, hR, hrest⟩ := ml_out hk I
  have hrest' := hrest
  obtain ⟨hX, hY, hS, hW⟩ := hrest'
  obtain ⟨_, hB, hT, hY', hX'⟩ := hR
  refine cr_walk (K := k + 1) (V := V) (by omega) (fun s hs => st_Bp (hB s hs)) (fun u' r' => yc_walk ⟨?_, ?_⟩)
  · rw [hX', ml_cr1 (hS 0 (by omega)), ml_cr1 (hS 1 (by omega)), ml_cr1 (hS 2 (by omega))]
  · rw [hX'] at r'
    exact ml_crashed hk hrest r' (by omega)
theorem ac_shr {c : Nat} (hc : c < 2147483648) : nI c >>> ((5 : Int32) &&& 31) = nI (c / 32) := pk_shrN (by omega) _ 5 (by decide)
theorem ac_and {c : Nat} (hc : c < 2147483648) : nI c &&& 31 = nI (c % 32) := pk_andN (by omega) 5 (by decide)
theorem i_vc_appendAndCrash {k : Nat} {u : SX} {v : SY} (I : i_Rel k u v) (hk : k + 5 ≤ 2560) (v1 : Int32) (v2 : Int32) (v3 : Int32) : wpX_appendAndCrash (fun r u' => wpY_appendAndCrash (fun r' v' => r' = r ∧ i_Rel (k + 5) u' v') v v1 v2 v3) u v1 v2 v3 := by
  obtain ⟨V, t, y, x, bx, W, hR, hrest⟩ := ml_out hk I
  have hrest' := hrest
  obtain ⟨hX, hY, hS, hW⟩ := hrest'
  have hin : ∀ u', ms_R (k + 1) 4 V V t y x u' → i_Rel (k + 5) u' v := fun u' r' => ml_in hk r' (by omega) (ml_up hrest (by omega))
  rw [xe_appendAndCrash]
  by_cases hneg : v2 < 0
  · have hY0 : ∀ u', i_Rel (k + 5) u' v → wpY_appendAndCrash (fun r' v' => r' = -1 ∧ i_Rel (k + 5) u' v') v v1 v2 v3 := fun u' h => by
      rw [ye_appendAndCrash]
      exact br_f (Int32.not_le.mpr hneg) ⟨rfl, h⟩
    rcases ml_ib v1 with ⟨g1, g2⟩ | ⟨m, hm, rfl, g1, g2⟩
    · exact g1 _ (br_t rfl (hY0 u (i_up I)))
    · exact g1 _ (br_f (by decide) (br_t hneg (hY0 u (i_up I))))
  · obtain ⟨c, hc, rfl⟩ := nI_of hneg
    have hpos : (0 : Int32) ≤ nI c := Int32.not_lt.mp hneg
    have ed : nI c / 32 = nI (c / 32) := pk_div (d := 32) (by omega) (by omega) (by omega)
    have er : nI c - nI c / 32 * 32 = nI (c % 32) := pk_rem (d := 32) (by omega) (by omega) (by omega)
    have hYr : ∀ post : Int32 → SY → Prop, wpY_refused (fun r_4 => (0 ≤ r_4 → wpY_crash (fun _ u20 => post 0 u20) v) ∧ (¬ 0 ≤ r_4 → post r_4 v)) v v1 (nI (c / 32)) (nI (c % 32)) → wpY_appendAndCrash post v v1 (nI c) v3 := fun post h => by
      rw [ye_appendAndCrash, er, ed]
      exact br_t hpos ⟨by decide, by decide, h⟩
    rw [ac_shr hc, ac_and hc]
    rcases ml_ib v1 with ⟨g1, g2⟩ | ⟨m, hm, rfl, g1, g2⟩
    · refine g1 _ (br_t rfl (hYr _ ?_))
      rw [ye_refused]
      exact g2 _ v (br_f (by decide) (br_f (by decide) ⟨rfl, i_up I⟩))
    · refine g1 _ (br_f (by decide) (br_f hneg ?_))
      rcases ml_im (nI (c / 32)) (nI (c % 32)) with ⟨g3, g4⟩ | ⟨f, hf, ef, g3, g4⟩
      · exact g3 _ (br_t rfl (hYr _ (g4 _ v _ (br_f (by decide) ⟨rfl, i_up I⟩))))
      · refine g3 _ (br_f (by decide) (ml_there hR hm rfl (hX m hm) (fun ht u' r' => br_f (by decide) ?_) (fun hf' u' r' => br_t rfl ?_)))
        · obtain ⟨⟨z1, z2, z3⟩, q1, q2, q3, q4, q5⟩ := (hY m hm).2.2.2.2 ht
          have hlen := (hY m hm).2.2.1
          refine ml_messages r' hm rfl (hX m hm) (fun u'' r'' => ?_)
          refine pk_lt (bx m).2.2.2.2.2.length 14 (fun hl => ?_) (fun hl => ?_)
          · refine mb_put (ml_RB m (ml_dirty m r'')) rfl hm rfl (hX m hm) (by omega) z1 (by omega) (by omega) (fun B' t' u3 q r3 hB => ?_)
            refine ss_some r3 hm rfl (by omega) (fun u4 hP e1 e2 e3 => ?_)
            refine cr_walk (K := k + 2) (V := V) (by omega) hP (fun u5 r5 => hYr _ (g4 _ v _ (g2 _ v (br_t rfl ⟨vp_in_nI hm (by omega), ?_⟩))))
            rw [e3] at r5
            rw [nI_clamp (n := m) (by omega), q4]
            exact br_f ((ml_yt (hY m hm)).1 ht) ⟨vp_in_nI hm (by omega), br_f (na_ne (b := 14) (by omega) (by omega) (by omega)) (br_t (by decide) (yc_walk ⟨rfl, ml_crashed hk hrest r5 (by omega)⟩))⟩
          · refine hYr _ (g4 _ v _ (g2 _ v (br_t rfl ⟨vp_in_nI hm (by omega), ?_⟩)))
            rw [nI_clamp (n := m) (by omega), q4]
            exact br_f ((ml_yt (hY m hm)).1 ht) ⟨vp_in_nI hm (by omega), br_t (by rw [show (bx m).2.2.2.2.2.length = 14 from by omega]; rfl) (br_f (by decide) ⟨rfl, hin u'' r''⟩)⟩
        · refine hYr _ (g4 _ v _ (g2 _ v (br_t rfl ⟨vp_in_nI hm (by omega), br_t (by rw [nI_clamp (n := m) (by omega)]; exact (ml_yt (hY m hm)).2 hf') (br_f (by decide) ⟨rfl, hin u' r'⟩)⟩)))
end
section
/-! guards of a mailbox; vanished; counting -/
theorem ml_trb {k K w : Nat} {V : ms_M} {t : ms_TT} {y : ms_YT} {x : ms_XT} {u : SX} {v : SY} {bx : Nat → ml_B} (hR : ms_R K w V V t y x u) (hX : ∀ m, m < 4 → ml_X (V m) (bx m)) (hY : ∀ m, m < 4 → ml_Y k v m (bx m)) (p : Int32) :
    (∃ e : Int32, ¬ 0 ≤ e ∧ (∀ post : Int32 → SX → Prop, (∀ u', ms_R K w V V t y x u' → post e u') → wpX_trouble post u p) ∧ (∀ post : Int32 → Prop, post e → wpY_noBox post v p)) ∨ ∃ m, m < 4 ∧ p = nI m ∧ (bx m).1 = true ∧ (∀ post : Int32 → SX → Prop, (∀ u', ms_R K w V V t y x u' → post 0 u') → wpX_trouble post u p) ∧ (∀ post : Int32 → Prop, post 0 → wpY_noBox post v p) := by
  rcases ml_ib p with ⟨g1, g2⟩ | ⟨m, hm, rfl, g1, g2⟩
  · refine Or.inl ⟨-1, by decide, fun post hp => ?_, fun post hp => ?_⟩
    · rw [xe_trouble]; exact g1 _ (br_t rfl (hp u hR))
    · rw [ye_noBox]; exact g2 _ v (br_f (by decide) hp)
  · cases hb : (bx m).1
    · refine Or.inl ⟨-2, by decide, fun post hp => ?_, fun post hp => ?_⟩
      · rw [xe_trouble]
        exact g1 _ (br_f (by decide) (ml_there hR hm rfl (hX m hm) (fun ht => by rw [hb] at ht; exact absurd ht (by decide)) (fun _ u' r' => br_t rfl (hp u' r'))))
      · rw [ye_noBox]
        exact g2 _ v (br_t rfl ⟨vp_in_nI hm (by omega), br_t (by rw [nI_clamp (n := m) (by omega)]; exact (ml_yt (hY m hm)).2 hb) hp⟩)
    · refine Or.inr ⟨m, hm, rfl, hb, fun post hp => ?_, fun post hp => ?_⟩
      · rw [xe_trouble]
        exact g1 _ (br_f (by decide) (ml_there hR hm rfl (hX m hm) (fun _ u' r' => br_f (by decide) (hp u' r')) (fun hf => by rw [hb] at hf; exact absurd hf (by decide))))
      · rw [ye_noBox]
        exact g2 _ v (br_t rfl ⟨vp_in_nI hm (by omega), br_f (by rw [nI_clamp (n := m) (by omega)]; exact (ml_yt (hY m hm)).1 hb) hp⟩)
theorem ml_nx {k : Nat} {v : SY} {m : Nat} {b : ml_B} {B : ms_B} (hX : ml_X B b) (hY : ml_Y k v m b) (ht : b.1 = true) (hk : k ≤ 2560) : (∀ a, a ∈ b.2.2.2.2.2 → 1 ≤ a.1 ∧ a.1 < 3000 ∧ a.2.2.2.2 < 14 ∧ a.2.2.2.1 < 9000) ∧ b.2.2.1 < 3000 ∧ b.2.2.2.1 < 9000 := by
  obtain ⟨⟨z1, z2, z3⟩, _⟩ := hY.2.2.2.2 ht
  obtain ⟨_, _, _, _, _, m1, _⟩ := hX
  refine ⟨fun a ha => ?_, by omega, by omega⟩
  obtain ⟨_, c2, c3, c4, c5, c6⟩ := m1 a ha
  exact ⟨c3, by omega, c2, by omega⟩
/-- where a number is in the reference's list -/
theorem yf_loop {post : Int32 → Prop} {v : SY} {m : Nat} {ms : List mb_Msg} {number : Int32} (hm : m < 4) (hl : ms.length ≤ 14) (hc : yg_counts v m = nI ms.length) (hyl : ml_yl v m ms) (hb : ∀ a, a ∈ ms → a.1 < 3000)
    (k1 : ∀ P a Q, ms = P ++ a :: Q → (a.1 : Int) = number.toInt → post (nI (14 * m + P.length))) (k0 : (∀ a, a ∈ ms → (a.1 : Int) ≠ number.toInt) → post (-1)) :
    ∀ (Q P : List mb_Msg), ms = P ++ Q → (∀ a, a ∈ P → (a.1 : Int) ≠ number.toInt) → yc_find_5 post (nI m) number v (Q.length + 1) (nI (14 * m + P.length)) := by
  intro Q
  induction Q with
  | nil =>
    intro P e hP
    rw [List.append_nil] at e
    subst e
    rw [List.length_nil, ye_find_5, na_m14, nI_clamp (n := m) (by omega), hc, nI_add]
    exact ⟨vp_in_nI hm (by omega), br_t (Int32.le_refl _) (k0 hP)⟩
  | cons a Q ih =>
    intro P e hP
    have el : ms.length = P.length + Q.length + 1 := by rw [e]; simp; omega
    have hg := hyl P.length a (by rw [e]; exact tw_mid P a Q)
    rw [List.length_cons, ye_find_5, na_m14, nI_clamp (n := m) (by omega), hc, nI_add, nI_clamp (n := 14 * m + P.length) (by omega), hg.1]
    refine ⟨vp_in_nI hm (by omega), br_f (nI_ge (by omega) (by omega)) ⟨vp_in_nI (by omega) (by omega), ?_⟩⟩
    have ha := hb a (by rw [e]; simp)
    refine br_c (fun h => ?_) (fun h => nm_r (nI_1 _) ?_)
    · refine k1 P a Q e ?_
      rw [← h, nI_toInt (by omega)]
    · have h2 := ih (P ++ [a]) (by rw [e]; simp) (fun c hcm => ?_)
      · rw [List.length_append] at h2
        exact h2
      · rcases List.mem_append.mp hcm with h3 | h3
        · exact hP c h3
        · rw [List.mem_singleton] at h3
          subst h3
          intro h4
          exact h (Int32.toInt_inj.mp (by rw [nI_toInt (by omega)]; exact h4))
theorem yf_find {post : Int32 → Prop} {k : Nat} {v : SY} {m : Nat} {b : ml_B} {B : ms_B} {pm number : Int32} (hk : k ≤ 2560) (hm : m < 4) (em : pm = nI m) (hX : ml_X B b) (hY : ml_Y k v m b) (ht : b.1 = true)
    (k1 : ∀ P a Q, b.2.2.2.2.2 = P ++ a :: Q → (a.1 : Int) = number.toInt → post (nI (14 * m + P.length))) (k0 : (∀ a, a ∈ b.2.2.2.2.2 → (a.1 : Int) ≠ number.toInt) → post (-1)) : wpY_find post v pm number := by
  subst em
  obtain ⟨_, q1, q2, q3, q4, q5⟩ := hY.2.2.2.2 ht
  rw [ye_find, na_m14]
  exact nm_e ⟨b.2.2.2.2.2.length + 1, yf_loop hm hY.2.2.1 q4 q5 (fun a ha => ((ml_nx hX hY ht hk).1 a ha).2.1) k1 k0 b.2.2.2.2.2 [] rfl (fun a ha => absurd ha (by simp))⟩
theorem i_vc_vanished {k : Nat} {u : SX} {v : SY} (I : i_Rel k u v) (hk : k + 5 ≤ 2560) (v1 : Int32) (v2 : Int32) : wpX_vanished (fun r u' => wpY_vanished (fun r' => r' = r ∧ i_Rel (k + 5) u' v) v v1 v2) u v1 v2 := by
  obtain ⟨V, t, y, x, bx, W, hR, hrest⟩ := ml_out hk I
  have hrest' := hrest
  obtain ⟨hX, hY, hS, hW⟩ := hrest'
  have hin : ∀ t' u', ms_R (k + 1) 4 V V t' y x u' → i_Rel (k + 5) u' v := fun t' u' r' => ml_in hk r' (by omega) (ml_up hrest (by omega))
  rw [xe_vanished]
  rcases ml_trb hR hX hY v1 with ⟨e, he, g1, g2⟩ | ⟨m, hm, rfl, ht, g1, g2⟩
  · refine g1 _ (fun u' r' => br_f he ?_)
    rw [ye_vanished]
    exact g2 _ (br_f he (g2 _ ⟨rfl, hin t u' r'⟩))
  · obtain ⟨_, q1, q2, q3, q4, q5⟩ := (hY m hm).2.2.2.2 ht
    refine g1 _ (fun u' r' => br_t (by decide) ?_)
    have h01 : v2 < 1 ↔ v2 ≤ 0 := by
      rw [Int32.lt_iff_toInt_lt, Int32.le_iff_toInt_le, show (1 : Int32).toInt = 1 from by decide, show (0 : Int32).toInt = 0 from by decide]
      omega
    by_cases h0 : v2 ≤ 0
    · refine br_t (h01.mpr h0) ?_
      rw [ye_vanished]
      exact g2 _ (br_t (by decide) (br_t h0 ⟨rfl, hin t u' r'⟩))
    · refine br_f (fun h => h0 (h01.mp h)) (mb_about (ml_RB m r') hm (c := 2) (by omega) rfl rfl (fun u2 r2 => ?_))
      rw [(hX m hm).2.2.1]
      refine br_c (fun hn => ?_) (fun hn => ?_)
      · rw [ye_vanished]
        refine g2 _ (br_t (by decide) (br_f h0 ⟨vp_in_nI hm (by omega), ?_⟩))
        rw [nI_clamp (n := m) (by omega), q2]
        exact br_t hn ⟨rfl, hin t u2 (ml_BR r2)⟩
      · have hyf : ∀ post : Int32 → Prop, wpY_find (fun r_19 => (0 ≤ r_19 → post 0) ∧ (¬ 0 ≤ r_19 → post 1)) v (nI m) v2 → wpY_vanished post v (nI m) v2 := fun post h => by
          rw [ye_vanished]
          refine g2 _ (br_t (by decide) (br_f h0 ⟨vp_in_nI hm (by omega), ?_⟩))
          rw [nI_clamp (n := m) (by omega), q2]
          exact br_f hn h
        have hn2 := (ml_nx (hX m hm) (hY m hm) ht (by omega)).1
        refine mb_recof r2 hm rfl v2 (hX m hm).2.2.2.2.2 (fun P a Q t' u3 e1 e2 r3 => ?_) (fun hno t' u3 r3 => ?_)
        · have ha := hn2 a (by rw [e1]; simp)
          refine br_t (nI_pos' (by omega)) (hyf _ (yf_find (by omega) hm rfl (hX m hm) (hY m hm) ht (fun P' a' Q' e1' e2' => br_t (nI_pos' ?_) ⟨rfl, hin t' u3 (ml_BR r3)⟩) (fun hno => absurd e2 (hno a (by rw [e1]; simp)))))
          have : (bx m).2.2.2.2.2.length ≤ 14 := (hY m hm).2.2.1
          rw [e1', List.length_append] at this
          omega
        · exact br_f (by decide) (hyf _ (yf_find (by omega) hm rfl (hX m hm) (hY m hm) ht (fun P' a' Q' e1' e2' => absurd e2' (hno a' (by rw [e1']; simp))) (fun _ => br_f (by decide) ⟨rfl, hin t' u3 (ml_BR r3)⟩)))
/-! going along the numbers -/
theorem mb_nx {K w : Nat} {V : ms_M} {s : Nat} {y : ms_YT} {x : ms_XT} {B : ms_B} {t : ms_TT} {u : SX} {nx hg : Nat} {ms : List mb_Msg} {post : Int32 → SX → Prop} {ps pi : Int32} {A C : List mb_Msg} (hR : ms_RB K w V s y x B t u) (hs : s < 4) (es : ps = nI s) (ei : pi = 0) (bound : Int32) (hB : mb_ms B nx hg ms) (hnx : nx < 900000) (hAC : ms = A ++ C) (hA : ∀ a, a ∈ A → (a.1 : Int) ≤ bound.toInt) (hC : ∀ a, a ∈ C → bound.toInt < (a.1 : Int))
    (k1 : ∀ b Q (t' : ms_TT) (u' : SX), C = b :: Q → ms_RB K w V s y x B t' u' → post (nI b.1) u') (k2 : C = [] → ∀ (t' : ms_TT) (u' : SX), ms_RB K w V s y x B t' u' → post (-2) u') : wpX_keyAfter post u ps pi bound := by
  have hsort := hB.2.1
  refine mb_aft hR hs es ei bound hB hnx (fun P b Q t' u' e1 e2 e3 r' => ?_) (fun hno t' u' r' => k2 ?_ t' u' r')
  · cases C with
    | nil =>
      exfalso
      have hb : b ∈ A ++ [] := by rw [← hAC, e1]; simp
      rw [List.append_nil] at hb
      have := hA b hb
      omega
    | cons c C =>
      have hcm : c ∈ P ++ b :: Q := by rw [← e1, hAC]; simp
      have hbm : b ∈ A ++ c :: C := by rw [← hAC, e1]; simp
      have hcc := hC c (by simp)
      have hs1 := hsort
      rw [hAC] at hs1
      have hs2 := hsort
      rw [e1] at hs2
      rw [List.pairwise_append, List.pairwise_cons] at hs1 hs2
      have hcb : c.1 = b.1 := by
        rcases List.mem_append.mp hcm with h | h
        · have := e2 c h; omega
        · rcases List.mem_cons.mp h with h | h
          · rw [h]
          · have h1 := hs2.2.1.1 c h
            rcases List.mem_append.mp hbm with h' | h'
            · have := hA b h'; omega
            · rcases List.mem_cons.mp h' with h' | h'
              · rw [h']
              · have := hs1.2.1.1 b h'; omega
      rw [← hcb]
      exact k1 c C t' u' rfl r'
  · cases C with
    | nil => rfl
    | cons c C =>
      have h1 := hno c (by rw [hAC]; simp)
      have h2 := hC c (by simp)
      omega
def ct_ft (c : Nat) (fl : Int32) : Prop := (fl &&& nI (c / 32)) = (nI (c % 32) &&& nI (c / 32))
def ct_n (c : Nat) (ms : List mb_Msg) : Nat := (ms.filter (fun a => decide ((a.2.2.1 &&& nI (c / 32)) = (nI (c % 32) &&& nI (c / 32))))).length
theorem ct_n_s (c : Nat) (P : List mb_Msg) (a : mb_Msg) : ct_n c (P ++ [a]) = ct_n c P + (if (a.2.2.1 &&& nI (c / 32)) = (nI (c % 32) &&& nI (c / 32)) then 1 else 0) := by
  unfold ct_n
  rw [List.filter_append, List.length_append]
  congr 1
  by_cases h : (a.2.2.1 &&& nI (c / 32)) = (nI (c % 32) &&& nI (c / 32)) <;> simp [h]
theorem ct_fits {post : Int32 → Prop} {c : Nat} {fl : Int32} (hc : c < 1024) (k1 : (fl &&& nI (c / 32)) = (nI (c % 32) &&& nI (c / 32)) → post 1) (k0 : ¬ (fl &&& nI (c / 32)) = (nI (c % 32) &&& nI (c / 32)) → post 0) : wpX_fits post fl (nI c) := by
  unfold wpX_fits
  rw [ac_shr (by omega), ac_and (by omega)]
  exact br_c k1 k0
theorem ct_has {post : Int32 → Prop} {c : Nat} {fl : Int32} {v : SY} (hc : c < 1024) (k1 : (fl &&& nI (c / 32)) = (nI (c % 32) &&& nI (c / 32)) → post 1) (k0 : ¬ (fl &&& nI (c / 32)) = (nI (c % 32) &&& nI (c / 32)) → post 0) : wpY_has post v fl (nI c / 32) (nI c - nI c / 32 * 32) := by
  rw [show nI c - nI c / 32 * 32 = nI (c % 32) from pk_rem (d := 32) (by omega) (by omega) (by omega), show nI c / 32 = nI (c / 32) from pk_div (d := 32) (by omega) (by omega) (by omega), ye_has]
  exact br_c k1 k0
theorem ct_xloop {post : Int32 → SX → Prop} {K w : Nat} {V : ms_M} {s c : Nat} {y : ms_YT} {x : ms_XT} {B : ms_B} {nx hg : Nat} {ms : List mb_Msg} (hs : s < 4) (hc : c < 1024) (hB : mb_ms B nx hg ms) (hnx : nx < 900000) (hl : ms.length ≤ 14)
    (k : ∀ (t' : ms_TT) (u' : SX), ms_RB K w V s y x B t' u' → post (nI (ct_n c ms)) u') :
    ∀ (Q P : List mb_Msg) (t : ms_TT) (u : SX) (z : Int32), ms = P ++ Q → ms_RB K w V s y x B t u → z = (match Q with | [] => -2 | a :: _ => nI a.1) → xc_counting_41 post (nI s) (nI c) (Q.length + 1) (nI (ct_n c P)) z (nI P.length) u := by
  intro Q
  induction Q with
  | nil =>
    intro P t u z e hR hz
    rw [List.append_nil] at e
    subst e hz
    rw [xe_counting_41]
    exact br_c (fun _ => k t u hR) (fun _ => br_t (by decide) (k t u hR))
  | cons a Q ih =>
    intro P t u z e hR hz
    have hz : z = nI a.1 := hz
    subst hz
    have el : ms.length = P.length + Q.length + 1 := by rw [e]; simp; omega
    obtain ⟨⟨a1, a2, a3, a4⟩, a14, an1, anx, _, _⟩ := hB.1 a (by rw [e]; simp)
    have hsort := hB.2.1
    rw [e, List.pairwise_append, List.pairwise_cons] at hsort
    have ta : (nI a.1).toInt = (a.1 : Int) := nI_toInt (by omega)
    rw [List.length_cons, xe_counting_41]
    refine br_f (na_nle (a := 14) (b := P.length) rfl rfl (by omega) (by omega)) (br_f (nI_nle (by omega) (by omega)) ?_)
    refine mb_recof hR hs rfl (nI a.1) hB (fun P' a' Q' t1 u1 e1 e2 r1 => ?_) (fun hno => absurd ta.symm (hno a (by rw [e]; simp)))
    have haa : a' = a := by
      have hm : a' ∈ P ++ a :: Q := by rw [← e, e1]; simp
      rcases List.mem_append.mp hm with h | h
      · have := hsort.2.2 a' h a (by simp); omega
      · rcases List.mem_cons.mp h with h | h
        · exact h
        · have := hsort.2.1.1 a' h; omega
    subst haa
    refine mb_entry (c := 2) r1 hs a14 (by omega) rfl rfl rfl (fun u2 r2 => ?_)
    rw [a3]
    have hgo : ∀ d : Nat, ct_n c (P ++ [a']) = ct_n c P + d → d ≤ 1 → xc_counting_87 post (xc_counting_41 post (nI s) (nI c) (Q.length + 1)) (nI s) (nI c) (nI a'.1) (nI P.length) (nI d) (nI (ct_n c P)) u2 := by
      intro d hd _
      rw [xe_counting_87]
      refine nm_r (nI_add _ _) ?_
      rw [← hd]
      refine mb_nx (A := P ++ [a']) (C := Q) r2 hs rfl rfl (nI a'.1) hB hnx (by rw [e]; simp) (fun b hb => ?_) (fun b hb => ?_) (fun b Q'' t3 u3 eQ r3 => nm_r (nI_1 _) ?_) (fun eQ t3 u3 r3 => nm_r (nI_1 _) ?_)
      · rw [ta]
        rcases List.mem_append.mp hb with h | h
        · have := hsort.2.2 b h a' (by simp); omega
        · rw [List.mem_singleton] at h; rw [h]; exact Int.le_refl _
      · rw [ta]
        have := hsort.2.1.1 b hb; omega
      · have h := ih (P ++ [a']) t3 u3 (nI b.1) (by rw [e]; simp) r3 (by rw [eQ])
        rw [List.length_append] at h
        exact h
      · have h := ih (P ++ [a']) t3 u3 (-2) (by rw [e]; simp) r3 (by rw [eQ])
        rw [List.length_append] at h
        exact h
    refine ct_fits hc (fun h => br_f (by decide) (hgo 1 (by rw [ct_n_s, if_pos h]) (by omega))) (fun h => br_t rfl (hgo 0 (by rw [ct_n_s, if_neg h]) (by omega)))
theorem ct_yloop {post : Int32 → Prop} {v : SY} {m c : Nat} {ms : List mb_Msg} (hm : m < 4) (hc : c < 1024) (hl : ms.length ≤ 14) (hcn : yg_counts v m = nI ms.length) (hyl : ml_yl v m ms) (k : post (nI (ct_n c ms))) :
    ∀ (Q P : List mb_Msg), ms = P ++ Q → yc_counting_41 post (nI m) (nI c) v (Q.length + 1) (nI (ct_n c P)) (nI (14 * m + P.length)) := by
  intro Q
  induction Q with
  | nil =>
    intro P e
    rw [List.append_nil] at e
    subst e
    rw [List.length_nil, ye_counting_41, na_m14, nI_clamp (n := m) (by omega), hcn, nI_add]
    exact ⟨vp_in_nI hm (by omega), br_t (Int32.le_refl _) k⟩
  | cons a Q ih =>
    intro P e
    have el : ms.length = P.length + Q.length + 1 := by rw [e]; simp; omega
    have hg := hyl P.length a (by rw [e]; exact tw_mid P a Q)
    rw [List.length_cons, ye_counting_41, na_m14, nI_clamp (n := m) (by omega), hcn, nI_add, nI_clamp (n := 14 * m + P.length) (by omega), hg.2.2.1]
    refine ⟨vp_in_nI hm (by omega), br_f (nI_ge (by omega) (by omega)) ⟨vp_in_nI (by omega) (by omega), by decide, by decide, ?_⟩⟩
    have h2 := ih (P ++ [a]) (by rw [e]; simp)
    rw [List.length_append, ct_n_s] at h2
    refine ct_has hc (fun h => br_f (by decide) (nm_r (nI_1 _) (nm_r (nI_1 _) ?_))) (fun h => br_t rfl (nm_r (nI_1 _) ?_))
    · rw [if_pos h] at h2; exact h2
    · rw [if_neg h] at h2; exact h2
theorem i_vc_counting {k : Nat} {u : SX} {v : SY} (I : i_Rel k u v) (hk : k + 5 ≤ 2560) (v1 : Int32) (v2 : Int32) : wpX_counting (fun r u' => wpY_counting (fun r' => r' = r ∧ i_Rel (k + 5) u' v) v v1 v2) u v1 v2 := by
  obtain ⟨V, t, y, x, bx, W, hR, hrest⟩ := ml_out hk I
  have hrest' := hrest
  obtain ⟨hX, hY, hS, hW⟩ := hrest'
  have hin : ∀ t' u', ms_R (k + 1) 4 V V t' y x u' → i_Rel (k + 5) u' v := fun t' u' r' => ml_in hk r' (by omega) (ml_up hrest (by omega))
  rw [xe_counting]
  rcases ml_ib v1 with ⟨g1, g2⟩ | ⟨m, hm, rfl, g1, g2⟩
  · refine g1 _ (br_t rfl ?_)
    rw [ye_counting]
    exact g2 _ v (br_f (by decide) ⟨rfl, i_up I⟩)
  · refine g1 _ (br_f (by decide) ?_)
    by_cases h0 : v2 < 0
    · refine br_t h0 (br_t rfl ?_)
      rw [ye_counting]
      exact g2 _ v (br_t rfl (br_t h0 ⟨rfl, i_up I⟩))
    · by_cases h1 : v2 ≤ 1023
      · obtain ⟨c, hc, rfl⟩ := nI_of2 (x := v2) (M := 1023) (n := 1023) (by decide) h0 h1
        refine br_f h0 (br_f (na_nle (a := 1024) (b := c) rfl rfl (by omega) (by omega)) (br_f (by decide) (ml_there hR hm rfl (hX m hm) (fun ht u' r' => br_f (by decide) ?_) (fun hf u' r' => br_t rfl ?_))))
        · obtain ⟨_, q1, q2, q3, q4, q5⟩ := (hY m hm).2.2.2.2 ht
          have hn2 := ml_nx (hX m hm) (hY m hm) ht (by omega)
          have hms := (hX m hm).2.2.2.2.2
          have hlen := (hY m hm).2.2.1
          have hfin : ∀ (t2 : ms_TT) (u2 : SX), ms_RB (k + 1) 4 V m y x (V m) t2 u2 → wpY_counting (fun r' => r' = nI (ct_n c (bx m).2.2.2.2.2) ∧ i_Rel (k + 5) u2 v) v (nI m) (nI c) := by
            intro t2 u2 r2
            rw [ye_counting]
            refine g2 _ v (br_t rfl (br_f h0 (br_t h1 ⟨vp_in_nI hm (by omega), br_f (by rw [nI_clamp (n := m) (by omega)]; exact (ml_yt (hY m hm)).1 ht) ?_⟩)))
            rw [na_m14]
            exact nm_e ⟨_, ct_yloop hm (by omega) hlen q4 q5 ⟨rfl, hin t2 u2 (ml_BR r2)⟩ (bx m).2.2.2.2.2 [] rfl⟩
          refine mb_nx (A := []) (C := (bx m).2.2.2.2.2) (ml_RB m r') hm rfl rfl 0 hms (by omega) rfl (fun a ha => absurd ha (by simp)) (fun a ha => ?_) (fun b Q t2 u2 eQ r2 => ?_) (fun eQ t2 u2 r2 => ?_)
          · have := (hn2.1 a ha).1
            show (0 : Int) < a.1
            omega
          · exact ⟨_, ct_xloop hm (by omega) hms (by omega) hlen hfin (bx m).2.2.2.2.2 [] t2 u2 (nI b.1) rfl r2 (by rw [eQ])⟩
          · exact ⟨_, ct_xloop hm (by omega) hms (by omega) hlen hfin (bx m).2.2.2.2.2 [] t2 u2 (-2) rfl r2 (by rw [eQ])⟩
        · rw [ye_counting]
          exact g2 _ v (br_t rfl (br_f h0 (br_t h1 ⟨vp_in_nI hm (by omega), br_t (by rw [nI_clamp (n := m) (by omega)]; exact (ml_yt (hY m hm)).2 hf) ⟨rfl, hin t u' r'⟩⟩)))
      · have h2 : (1024 : Int32) ≤ v2 := by
          rw [Int32.le_iff_toInt_le] at h1 ⊢
          have e1 : (1023 : Int32).toInt = 1023 := by decide
          have e2 : (1024 : Int32).toInt = 1024 := by decide
          omega
        refine br_f h0 (br_t h2 (br_t rfl ?_))
        rw [ye_counting]
        exact g2 _ v (br_t rfl (br_f h0 (br_f h1 ⟨rfl, i_up I⟩)))
end
section
/-! sessions: leave, length, numberAt, placeOf -/
def ml_on (x : ms_XT) (v : SY) (s : Nat) (bx : Nat → ml_B) (m : Nat) (vs : List Nat) : Prop := m < 4 ∧ x.1 s = nI (m + 1) ∧ yg_selected v s = nI m ∧ (bx m).1 = true ∧ vs.length ≤ 14 ∧ vs.Pairwise (fun a b => a < b) ∧ (∀ n, n ∈ vs → 1 ≤ n ∧ n < (bx m).2.2.1) ∧ (∀ a, a ∈ (bx m).2.2.2.2.2 → a.1 ∈ vs ∨ ∀ n, n ∈ vs → n < a.1) ∧ ml_vw x v s vs
theorem ml_xs {x : ms_XT} {u : SX} (h : ms_X u = x) : xg_selected u = x.1 ∧ xg_viewLength u = x.2.1 ∧ xg_view u = x.2.2 := by subst h; exact ⟨rfl, rfl, rfl⟩
theorem ml_yb {s : Nat} (hs : s < 3) {post : Int32 → Prop} {v : SY} (k : post 0) : wpY_badSession post v (nI s) := br_f (nI_pos (by omega)) (br_t (na_le (a := s) (b := 2) rfl rfl (by omega) (by omega)) k)
theorem ml_xb {s : Nat} (hs : s < 3) {post : Int32 → Prop} (k : post 1) : wpX_isSession post (nI s) := br_f (nI_pos (by omega)) (br_f (na_nle (a := 3) (b := s) rfl rfl hs (by omega)) k)
theorem ml_nv {v : SY} {s : Nat} {x : ms_XT} {bx : Nat → ml_B} (hs : s < 3) : ((x.1 s = 0 ∧ yg_selected v s = -1) → ∀ post : Int32 → Prop, post (-2) → wpY_noView post v (nI s)) ∧ ((∃ m vs, ml_on x v s bx m vs) → ∀ post : Int32 → Prop, post 0 → wpY_noView post v (nI s)) := by
  constructor
  · rintro ⟨_, h⟩ post hp
    rw [ye_noView]
    refine ml_yb hs (br_t rfl ⟨vp_in_nI hs (by omega), br_f ?_ hp⟩)
    rw [nI_clamp (n := s) (by omega), h]; decide
  · rintro ⟨m, vs, hm, _, h, _⟩ post hp
    rw [ye_noView]
    refine ml_yb hs (br_t rfl ⟨vp_in_nI hs (by omega), br_t ?_ hp⟩)
    rw [nI_clamp (n := s) (by omega), h]; exact nI_pos' (by omega)
/-- idleness and noView together -/
theorem ml_idl {u : SX} {v : SY} {x : ms_XT} {bx : Nat → ml_B} (hx : ms_X u = x) (hS : ∀ s, s < 3 → ml_S x v s bx) (p : Int32) :
    (∃ e : Int32, ¬ 0 ≤ e ∧ (∀ post : Int32 → Prop, post e → wpX_idleness post u p) ∧ (∀ post : Int32 → Prop, post e → wpY_noView post v p)) ∨ ∃ s m vs, s < 3 ∧ p = nI s ∧ ml_on x v s bx m vs ∧ (∀ post : Int32 → Prop, post 0 → wpX_idleness post u p) ∧ (∀ post : Int32 → Prop, post 0 → wpY_noView post v p) := by
  rcases ml_is p with ⟨g1, g2⟩ | ⟨s, hs, rfl, g1, g2⟩
  · refine Or.inl ⟨-1, by decide, fun post hp => ?_, fun post hp => ?_⟩
    · rw [xe_idleness]; exact g1 _ (br_t rfl hp)
    · rw [ye_noView]; exact g2 _ v (br_f (by decide) hp)
  · have e1 := (ml_xs hx).1
    rcases hS s hs with h | ⟨m, vs, h⟩
    · refine Or.inl ⟨-2, by decide, fun post hp => ?_, (ml_nv hs (bx := bx)).1 h⟩
      rw [xe_idleness]
      exact g1 _ (br_f (by decide) ⟨vp_in_nI hs (by omega), br_t (by rw [nI_clamp (n := s) (by omega), e1]; exact h.1) hp⟩)
    · refine Or.inr ⟨s, m, vs, hs, rfl, h, fun post hp => ?_, (ml_nv hs).2 ⟨m, vs, h⟩⟩
      rw [xe_idleness]
      exact g1 _ (br_f (by decide) ⟨vp_in_nI hs (by omega), br_f (by rw [nI_clamp (n := s) (by omega), e1, h.2.1]; exact nI_ne0 (by omega) (by have := h.1; omega)) hp⟩)
theorem i_vc_length {k : Nat} {u : SX} {v : SY} (I : i_Rel k u v) (hk : k + 5 ≤ 2560) (v1 : Int32) : wpX_length (fun r => wpY_length (fun r' => r' = r ∧ i_Rel (k + 5) u v) v v1) u v1 := by
  obtain ⟨V, t, y, x, bx, W, hR, hrest⟩ := ml_out hk I
  have hx := hR.2.2.2.2
  rw [xe_length]
  rcases ml_idl hx hrest.2.2.1 v1 with ⟨e, he, g1, g2⟩ | ⟨s, m, vs, hs, rfl, hon, g1, g2⟩
  · refine g1 _ (br_f he ?_)
    rw [ye_length]
    exact g2 _ (br_f he (g2 _ ⟨rfl, i_up I⟩))
  · obtain ⟨_, _, _, _, _, _, _, _, w1, w2, _⟩ := hon
    refine g1 _ (br_t (by decide) ⟨vp_in_nI hs (by omega), ?_⟩)
    rw [ye_length]
    refine g2 _ (br_t (by decide) ⟨vp_in_nI hs (by omega), ?_, i_up I⟩)
    rw [nI_clamp (n := s) (by omega), (ml_xs hx).2.1, w1, w2]
theorem ml_selR {K w : Nat} {V M : ms_M} {t : ms_TT} {y : ms_YT} {x : ms_XT} {u : SX} (h : ms_R K w V M t y x u) (a : Nat → Int32) : ms_R K w V M t y (a, x.2) (xs_selected u a) := by
  obtain ⟨hK, hB, hT, hY, rfl⟩ := h
  exact ⟨hK, hB, hT, hY, rfl⟩
theorem i_vc_leave {k : Nat} {u : SX} {v : SY} (I : i_Rel k u v) (hk : k + 5 ≤ 2560) (v1 : Int32) : wpX_leave (fun r u' => wpY_leave (fun r' v' => r' = r ∧ i_Rel (k + 5) u' v') v v1) u v1 := by
  obtain ⟨V, t, y, x, bx, W, hR, hrest⟩ := ml_out hk I
  have hx := hR.2.2.2.2
  rw [xe_leave]
  rcases ml_idl hx hrest.2.2.1 v1 with ⟨e, he, g1, g2⟩ | ⟨s, m, vs, hs, rfl, hon, g1, g2⟩
  · refine g1 _ (br_f he ?_)
    rw [ye_leave]
    exact g2 _ (br_f he (g2 _ ⟨rfl, i_up I⟩))
  · obtain ⟨hm, s1, s2, _⟩ := hon
    refine g1 _ (br_t (by decide) ⟨vp_in_nI hs (by omega), ?_⟩)
    rw [nI_clamp (n := s) (by omega), (ml_xs hx).1, s1]
    refine nm_r (nI_pred m) ⟨vp_in_nI hs (by omega), nm_e ?_⟩
    rw [ye_leave]
    refine g2 _ (br_t (by decide) ⟨vp_in_nI hs (by omega), ?_⟩)
    rw [nI_clamp (n := s) (by omega), s2]
    refine nm_e ⟨vp_in_nI hs (by omega), nm_e ⟨rfl, ?_⟩⟩
    obtain ⟨gX, gY, gS, w⟩ := ml_up hrest (k' := k + 5) (by omega)
    refine ml_in (bx := bx) (W := W) hk (ml_selR hR _) (by omega) ⟨gX, fun j hj => ml_Yf (gY j hj) ⟨rfl, rfl, rfl, rfl, rfl, fun i hi => ⟨rfl, rfl, rfl, rfl⟩⟩, fun s' hs' => ?_, w⟩
    by_cases e : s' = s
    · subst e; exact Or.inl ⟨pk_us, pk_us⟩
    · refine ml_Sf (gS s' hs') ⟨pk_un e, pk_un e, rfl, rfl, fun i hi => ⟨rfl, rfl⟩⟩ (fun j hj ht => ⟨ht, Nat.le_refl _, fun a ha => Or.inl ⟨a, ha, rfl⟩⟩)
/-- told and numberAt together -/
theorem tl_told {u : SX} {v : SY} {x : ms_XT} {bx : Nat → ml_B} {s : Nat} (hx : ms_X u = x) (hs : s < 3) (hS : ml_S x v s bx) (p : Int32) :
    ((∀ post : Int32 → Prop, post (-2) → wpX_told post u (nI s) p) ∧ (∀ post : Int32 → Prop, post (-2) → wpY_numberAt post v (nI s) p)) ∨ ∃ m vs i n, ml_on x v s bx m vs ∧ vs[i]? = some n ∧ p = nI (i + 1) ∧ (∀ post : Int32 → Prop, post (nI n) → wpX_told post u (nI s) p) ∧ (∀ post : Int32 → Prop, post (nI n) → wpY_numberAt post v (nI s) p) := by
  obtain ⟨e1, e2, e3⟩ := ml_xs hx
  rcases hS with h | ⟨m, vs, h⟩
  · refine Or.inl ⟨fun post hp => ?_, fun post hp => ?_⟩
    · rw [xe_told]
      exact ⟨vp_in_nI hs (by omega), br_t (by rw [nI_clamp (n := s) (by omega), e1]; exact h.1) hp⟩
    · rw [ye_numberAt]
      exact (ml_nv hs (bx := bx)).1 h _ (br_f (by decide) ((ml_nv hs (bx := bx)).1 h _ hp))
  · have hv0 : ∀ post : Int32 → Prop, post 0 → wpY_noView post v (nI s) := (ml_nv hs).2 ⟨m, vs, h⟩
    have hon := h
    obtain ⟨hm, s1, s2, _, hl, _, _, _, w1, w2, w3⟩ := h
    have hsel : ¬ xg_selected u (nI s).toNatClampNeg = 0 := by rw [nI_clamp (n := s) (by omega), e1, s1]; exact nI_ne0 (by omega) (by omega)
    have hvl : xg_viewLength u (nI s).toNatClampNeg = nI vs.length := by rw [nI_clamp (n := s) (by omega), e2, w1]
    have hyl : yg_lengths v (nI s).toNatClampNeg = nI vs.length := by rw [nI_clamp (n := s) (by omega), w2]
    by_cases h1 : p < 1
    · refine Or.inl ⟨fun post hp => ?_, fun post hp => ?_⟩
      · rw [xe_told]; exact ⟨vp_in_nI hs (by omega), br_f hsel (br_t h1 hp)⟩
      · rw [ye_numberAt]; exact hv0 _ (br_t (by decide) (br_t h1 hp))
    · by_cases h2 : p ≤ nI vs.length
      · have h0 : ¬ p < 0 := fun z => h1 (by
          rw [Int32.lt_iff_toInt_lt] at z ⊢
          have a1 : (0 : Int32).toInt = 0 := by decide
          have a2 : (1 : Int32).toInt = 1 := by decide
          omega)
        obtain ⟨j, hj, rfl⟩ := nI_of h0
        rw [nI_leI hj (by omega)] at h2
        have h1' : 1 ≤ j := by
          rcases Nat.eq_zero_or_pos j with h | h
          · subst h; exact absurd (by decide) h1
          · exact h
        obtain ⟨i, rfl⟩ : ∃ i, j = i + 1 := ⟨j - 1, by omega⟩
        have hi : i < vs.length := by omega
        have hg : vs[i]? = some vs[i] := List.getElem?_eq_getElem hi
        obtain ⟨g1, g2⟩ := w3 i _ hg
        refine Or.inr ⟨m, vs, i, vs[i], hon, hg, rfl, fun post hp => ?_, fun post hp => ?_⟩
        · rw [xe_told, hvl, na_16, na_s1 (by omega), show 16 * s + (i + 1) - 1 = 16 * s + i from by omega, nI_clamp (n := 16 * s + i) (by omega), e3, g1]
          exact ⟨vp_in_nI hs (by omega), br_f hsel (br_f h1 ⟨vp_in_nI hs (by omega), br_t (nI_le h2 (by omega)) ⟨vp_in_nI (by omega) (by omega), hp⟩⟩)⟩
        · rw [ye_numberAt, hyl, na_14, na_s1 (by omega), show 14 * s + (i + 1) - 1 = 14 * s + i from by omega, nI_clamp (n := 14 * s + i) (by omega), g2]
          exact hv0 _ (br_t (by decide) (br_f h1 ⟨vp_in_nI hs (by omega), br_t (nI_le h2 (by omega)) ⟨vp_in_nI (by omega) (by omega), hp⟩⟩))
      · refine Or.inl ⟨fun post hp => ?_, fun post hp => ?_⟩
        · rw [xe_told, hvl]; exact ⟨vp_in_nI hs (by omega), br_f hsel (br_f h1 ⟨vp_in_nI hs (by omega), br_f h2 hp⟩)⟩
        · rw [ye_numberAt, hyl]; exact hv0 _ (br_t (by decide) (br_f h1 ⟨vp_in_nI hs (by omega), br_f h2 hp⟩))
theorem i_vc_numberAt {k : Nat} {u : SX} {v : SY} (I : i_Rel k u v) (hk : k + 5 ≤ 2560) (v1 : Int32) (v2 : Int32) : wpX_numberAt (fun r => wpY_numberAt (fun r' => r' = r ∧ i_Rel (k + 5) u v) v v1 v2) u v1 v2 := by
  obtain ⟨V, t, y, x, bx, W, hR, hrest⟩ := ml_out hk I
  have hx := hR.2.2.2.2
  rw [xe_numberAt]
  rcases ml_is v1 with ⟨g1, g2⟩ | ⟨s, hs, rfl, g1, g2⟩
  · refine g1 _ (br_t rfl ?_)
    have hn : ∀ post : Int32 → Prop, post (-1) → wpY_noView post v v1 := fun post hp => by
      rw [ye_noView]; exact g2 _ v (br_f (by decide) hp)
    rw [ye_numberAt]
    exact hn _ (br_f (by decide) (hn _ ⟨rfl, i_up I⟩))
  · refine g1 _ (br_f (by decide) ?_)
    rcases tl_told hx hs (hrest.2.2.1 s hs) v2 with ⟨a1, a2⟩ | ⟨m, vs, i, n, _, _, _, a1, a2⟩
    · exact a1 _ (a2 _ ⟨rfl, i_up I⟩)
    · exact a1 _ (a2 _ ⟨rfl, i_up I⟩)
/-! placeOf -/
theorem po_y {post : Int32 → Prop} {v : SY} {s : Nat} {vs : List Nat} {number : Int32} (hs : s < 3) (hl : vs.length ≤ 14) (w2 : yg_lengths v s = nI vs.length) (w3 : ∀ i n, vs[i]? = some n → yg_views v (14 * s + i) = nI n)
    (k1 : ∀ P n Q, vs = P ++ n :: Q → nI n = number → post (nI (P.length + 1))) (k0 : (∀ n, n ∈ vs → nI n ≠ number) → post (-2)) :
    ∀ (Q P : List Nat), vs = P ++ Q → (∀ n, n ∈ P → nI n ≠ number) → yc_placeOf_16 post (nI s) number v (Q.length + 1) (nI P.length) := by
  intro Q
  induction Q with
  | nil =>
    intro P e hP
    rw [List.append_nil] at e
    subst e
    rw [List.length_nil, ye_placeOf_16, nI_clamp (n := s) (by omega), w2]
    exact ⟨vp_in_nI hs (by omega), br_t (Int32.le_refl _) (k0 hP)⟩
  | cons a Q ih =>
    intro P e hP
    have el : vs.length = P.length + Q.length + 1 := by rw [e]; simp; omega
    have hg := w3 P.length a (by rw [e]; exact tw_mid P a Q)
    rw [List.length_cons, ye_placeOf_16, nI_clamp (n := s) (by omega), w2, na_14, nI_clamp (n := 14 * s + P.length) (by omega), hg, nI_1]
    refine ⟨vp_in_nI hs (by omega), br_f (nI_ge (by omega) (by omega)) ⟨vp_in_nI (by omega) (by omega), br_c (fun h => k1 P a Q e h) (fun h => nm_e ?_)⟩⟩
    have h2 := ih (P ++ [a]) (by rw [e]; simp) (fun c hc => ?_)
    · rw [List.length_append] at h2
      exact h2
    · rcases List.mem_append.mp hc with h3 | h3
      · exact hP c h3
      · rw [List.mem_singleton] at h3; rw [h3]; exact h
theorem po_x {post : Int32 → Prop} {u : SX} {s : Nat} {vs : List Nat} {number : Int32} (hs : s < 3) (hl : vs.length ≤ 14) (hb : ∀ n, n ∈ vs → n < 3000) (hsort : vs.Pairwise (fun a b => a < b)) (w1 : xg_viewLength u s = nI vs.length) (w3 : ∀ i n, vs[i]? = some n → xg_view u (16 * s + i) = nI n)
    (k1 : ∀ P n Q, vs = P ++ n :: Q → nI n = number → post (nI (P.length + 1))) (k0 : (∀ n, n ∈ vs → nI n ≠ number) → post (-2)) :
    ∀ (d lo hi : Nat), hi - lo ≤ d → lo ≤ hi → hi ≤ vs.length → (∀ i n, vs[i]? = some n → i < lo → (nI n).toInt < number.toInt) → (∀ i n, vs[i]? = some n → hi ≤ i → number.toInt ≤ (nI n).toInt) → xc_placeOf_23 post (nI s) number u (d + 1) (nI lo) (nI hi) := by
  intro d
  induction d with
  | zero =>
    intro lo hi h1 h2 h3 h4 h5
    have e : lo = hi := by omega
    subst e
    rw [xe_placeOf_23, nI_clamp (n := s) (by omega), w1, na_16, nI_clamp (n := 16 * s + lo) (by omega), nI_1]
    refine br_t (Int32.le_refl _) ⟨vp_in_nI hs (by omega), pk_le vs.length lo (fun h => k0 (fun n hn e => ?_)) (fun h => ?_)⟩
    · obtain ⟨i, hi, rfl⟩ := List.getElem_of_mem hn
      have := h4 i _ (List.getElem?_eq_getElem hi) (by omega)
      rw [e] at this
      omega
    · have hg : vs[lo]? = some vs[lo] := List.getElem?_eq_getElem h
      rw [w3 lo _ hg]
      refine ⟨vp_in_nI (by omega) (by omega), br_c (fun e => ?_) (fun e => k0 (fun n hn e' => ?_))⟩
      · have hk := k1 (vs.take lo) vs[lo] (vs.drop (lo + 1)) (by rw [← List.drop_eq_getElem_cons h, List.take_append_drop]) e
        rw [List.length_take, Nat.min_eq_left (by omega)] at hk
        exact hk
      · obtain ⟨i, hi, rfl⟩ := List.getElem_of_mem hn
        rcases Nat.lt_trichotomy i lo with h6 | h6 | h6
        · have := h4 i _ (List.getElem?_eq_getElem hi) h6
          rw [e'] at this
          omega
        · subst h6; exact e e'
        · have h7 := h5 lo _ hg (Nat.le_refl _)
          have h8 : vs[lo] < vs[i] := (List.pairwise_iff_getElem.mp hsort) lo i h hi h6
          have b1 := hb vs[lo] (List.getElem_mem h)
          have b2 := hb vs[i] (List.getElem_mem hi)
          rw [← e', nI_toInt (by omega), nI_toInt (by omega)] at h7
          omega
  | succ d ih =>
    intro lo hi h1 h2 h3 h4 h5
    by_cases e : lo = hi
    · subst e
      have h := ih lo lo (by omega) h2 h3 h4 h5
      rw [xe_placeOf_23] at h ⊢
      exact br_t (Int32.le_refl _) (h.1 (Int32.le_refl _))
    · rw [xe_placeOf_23]
      refine br_f (nI_ge (by omega) (by omega)) (nm_r (e' := nI ((lo + hi) / 2)) (by rw [nI_add]; exact pk_shrN (by omega) _ 1 (by decide)) ?_)
      rw [na_16, nI_clamp (n := 16 * s + (lo + hi) / 2) (by omega)]
      have hmid : (lo + hi) / 2 < vs.length := by omega
      have hg : vs[(lo + hi) / 2]? = some vs[(lo + hi) / 2] := List.getElem?_eq_getElem hmid
      have bm := hb _ (List.getElem_mem hmid)
      rw [w3 _ _ hg]
      refine ⟨vp_in_nI (by omega) (by omega), br_c (fun hle => ?_) (fun hgt => nm_r (nI_1 _) ?_)⟩
      · rw [Int32.le_iff_toInt_le] at hle
        refine ih lo ((lo + hi) / 2) (by omega) (by omega) (by omega) h4 (fun i n hi' hge => ?_)
        have hlt := ml_lt hi'
        rw [List.getElem?_eq_getElem hlt, Option.some.injEq] at hi'
        subst hi'
        rcases Nat.lt_or_ge ((lo + hi) / 2) i with h6 | h6
        · have h8 : vs[(lo + hi) / 2] < vs[i] := (List.pairwise_iff_getElem.mp hsort) _ i hmid hlt h6
          have b2 := hb vs[i] (List.getElem_mem hlt)
          rw [nI_toInt (by omega)] at hle ⊢
          omega
        · have : i = (lo + hi) / 2 := by omega
          subst this
          exact hle
      · rw [Int32.le_iff_toInt_le] at hgt
        refine ih ((lo + hi) / 2 + 1) hi (by omega) (by omega) h3 (fun i n hi' hlt' => ?_) h5
        have hlt := ml_lt hi'
        rw [List.getElem?_eq_getElem hlt, Option.some.injEq] at hi'
        subst hi'
        rcases Nat.lt_or_ge i ((lo + hi) / 2) with h6 | h6
        · have h8 : vs[i] < vs[(lo + hi) / 2] := (List.pairwise_iff_getElem.mp hsort) i _ hlt hmid h6
          have b2 := hb vs[i] (List.getElem_mem hlt)
          rw [nI_toInt (by omega)] at hgt ⊢
          omega
        · have : i = (lo + hi) / 2 := by omega
          subst this
          omega
theorem i_vc_placeOf {k : Nat} {u : SX} {v : SY} (I : i_Rel k u v) (hk : k + 5 ≤ 2560) (v1 : Int32) (v2 : Int32) : wpX_placeOf (fun r => wpY_placeOf (fun r' => r' = r ∧ i_Rel (k + 5) u v) v v1 v2) u v1 v2 := by
  obtain ⟨V, t, y, x, bx, W, hR, hrest⟩ := ml_out hk I
  have hx := hR.2.2.2.2
  rw [xe_placeOf]
  rcases ml_idl hx hrest.2.2.1 v1 with ⟨e, he, g1, g2⟩ | ⟨s, m, vs, hs, rfl, hon, g1, g2⟩
  · refine g1 _ (br_f he ?_)
    rw [ye_placeOf]
    exact g2 _ (br_f he (g2 _ ⟨rfl, i_up I⟩))
  · obtain ⟨hm, s1, s2, ht, hl, hsort, hbd, _, w1, w2, w3⟩ := hon
    obtain ⟨e1, e2, e3⟩ := ml_xs hx
    have hnx := (ml_nx (hrest.1 m hm) (hrest.2.1 m hm) ht (by omega)).2.1
    have hb : ∀ n, n ∈ vs → n < 3000 := fun n hn => by have := hbd n hn; omega
    have huniq : ∀ P n Q P' n' Q', vs = P ++ n :: Q → vs = P' ++ n' :: Q' → nI n = v2 → nI n' = v2 → P.length = P'.length := by
      intro P n Q P' n' Q' a1 a2 a3 a4
      have hnn : n = n' := na_inj (by have := hb n (by rw [a1]; simp); omega) (by have := hb n' (by rw [a2]; simp); omega) (a3.trans a4.symm)
      subst hnn
      have b1 : vs[P.length]? = some n := by rw [a1]; exact tw_mid P n Q
      have b2 : vs[P'.length]? = some n := by rw [a2]; exact tw_mid P' n Q'
      have l1 := ml_lt b1
      have l2 := ml_lt b2
      rw [List.getElem?_eq_getElem l1, Option.some.injEq] at b1
      rw [List.getElem?_eq_getElem l2, Option.some.injEq] at b2
      rcases Nat.lt_trichotomy P.length P'.length with h | h | h
      · have := (List.pairwise_iff_getElem.mp hsort) _ _ l1 l2 h; omega
      · exact h
      · have := (List.pairwise_iff_getElem.mp hsort) _ _ l2 l1 h; omega
    refine g1 _ (br_t (by decide) ⟨vp_in_nI hs (by omega), ?_⟩)
    rw [nI_clamp (n := s) (by omega), e2, w1]
    refine nm_e ⟨vs.length + 1, po_x (lo := 0) (hi := vs.length) hs hl hb hsort (by rw [e2, w1]) (fun i n hi => by rw [e3]; exact (w3 i n hi).1) (fun P n Q a1 a2 => ?_) (fun hno => ?_) vs.length (by omega) (by omega) (Nat.le_refl _) (fun i n _ h => absurd h (by omega)) (fun i n hi h => absurd (ml_lt hi) (by omega))⟩
    · rw [ye_placeOf]
      refine g2 _ (br_t (by decide) ⟨vs.length + 1, po_y hs hl w2 (fun i n hi => (w3 i n hi).2) (fun P' n' Q' b1 b2 => ⟨?_, i_up I⟩) (fun hno => absurd a2 (hno n (by rw [a1]; simp))) vs [] rfl (fun n hn => absurd hn (by simp))⟩)
      rw [huniq P n Q P' n' Q' a1 b1 a2 b2]
    · rw [ye_placeOf]
      exact g2 _ (br_t (by decide) ⟨vs.length + 1, po_y hs hl w2 (fun i n hi => (w3 i n hi).2) (fun P' n' Q' b1 b2 => absurd b2 (hno n' (by rw [b1]; simp))) (fun _ => ⟨rfl, i_up I⟩) vs [] rfl (fun n hn => absurd hn (by simp))⟩)
end
section
/-! recordAt and messageAt together; fetch, copy -/
theorem ra_walk {k K w : Nat} {V : ms_M} {t : ms_TT} {y : ms_YT} {x : ms_XT} {u : SX} {v : SY} {bx : Nat → ml_B} {s : Nat} (hk : k ≤ 2560) (hR : ms_R K w V V t y x u) (hX : ∀ m, m < 4 → ml_X (V m) (bx m)) (hY : ∀ m, m < 4 → ml_Y k v m (bx m)) (hs : s < 3) (hS : ml_S x v s bx) (p : Int32) :
    (∃ e : Int32, ¬ 0 ≤ e ∧ (∀ post : Int32 → SX → Prop, (∀ t' u', ms_R K w V V t' y x u' → post e u') → wpX_recordAt post u (nI s) p) ∧ (∀ post : Int32 → Prop, post e → wpY_messageAt post v (nI s) p)) ∨ ∃ m vs P a Q, ml_on x v s bx m vs ∧ (bx m).2.2.2.2.2 = P ++ a :: Q ∧ (∀ post : Int32 → SX → Prop, (∀ t' u', ms_R K w V V t' y x u' → post (nI a.2.2.2.2) u') → wpX_recordAt post u (nI s) p) ∧ (∀ post : Int32 → Prop, post (nI (14 * m + P.length)) → wpY_messageAt post v (nI s) p) := by
  have hx := hR.2.2.2.2
  obtain ⟨e1, e2, e3⟩ := ml_xs hx
  rcases tl_told hx hs hS p with ⟨a1, a2⟩ | ⟨m, vs, i, n, hon, hi, _, a1, a2⟩
  · refine Or.inl ⟨-2, by decide, fun post hp => ?_, fun post hp => ?_⟩
    · rw [xe_recordAt]; exact a1 _ (br_f (by decide) (hp t u hR))
    · rw [ye_messageAt]; exact a2 _ (br_f (by decide) hp)
  · have hon' := hon
    obtain ⟨hm, s1, s2, ht, hl, hsort, hbd, _, w1, w2, w3⟩ := hon'
    have hnx := ml_nx (hX m hm) (hY m hm) ht hk
    have hn : n < 3000 := by
      have h1 := hbd n (List.mem_of_getElem? hi)
      have := hnx.2.1
      omega
    have tn : (nI n).toInt = (n : Int) := nI_toInt (by omega)
    have esel : xg_selected u (nI s).toNatClampNeg - 1 = nI m := by rw [nI_clamp (n := s) (by omega), e1, s1]; exact nI_pred m
    have ysel : yg_selected v (nI s).toNatClampNeg = nI m := by rw [nI_clamp (n := s) (by omega), s2]
    by_cases hex : ∃ a, a ∈ (bx m).2.2.2.2.2 ∧ a.1 = n
    · obtain ⟨a, ha, han⟩ := hex
      obtain ⟨P, Q, hPQ⟩ := List.append_of_mem ha
      have hms := (hX m hm).2.2.2.2.2
      have hso := hms.2.1
      rw [hPQ, List.pairwise_append, List.pairwise_cons] at hso
      have haa : ∀ P' a' Q', (bx m).2.2.2.2.2 = P' ++ a' :: Q' → (a'.1 : Int) = (nI n).toInt → a' = a ∧ P'.length = P.length := by
        intro P' a' Q' h1 h2
        rw [tn] at h2
        have hm' : a' ∈ P ++ a :: Q := by rw [← hPQ, h1]; simp
        have haa' : a' = a := by
          rcases List.mem_append.mp hm' with h | h
          · have := hso.2.2 a' h a (by simp); omega
          · rcases List.mem_cons.mp h with h | h
            · exact h
            · have := hso.2.1.1 a' h; omega
        refine ⟨haa', ?_⟩
        subst haa'
        have b1 : (bx m).2.2.2.2.2[P.length]? = some a' := by rw [hPQ]; exact tw_mid P a' Q
        have b2 : (bx m).2.2.2.2.2[P'.length]? = some a' := by rw [h1]; exact tw_mid P' a' Q'
        have l1 := ml_lt b1
        have l2 := ml_lt b2
        rw [List.getElem?_eq_getElem l1, Option.some.injEq] at b1
        rw [List.getElem?_eq_getElem l2, Option.some.injEq] at b2
        have hso2 := hms.2.1
        rcases Nat.lt_trichotomy P.length P'.length with h | h | h
        · have := (List.pairwise_iff_getElem.mp hso2) _ _ l1 l2 h; rw [b1, b2] at this; omega
        · exact h.symm
        · have := (List.pairwise_iff_getElem.mp hso2) _ _ l2 l1 h; rw [b1, b2] at this; omega
      have h14 := (hnx.1 a ha).2.2.1
      refine Or.inr ⟨m, vs, P, a, Q, hon, hPQ, fun post hp => ?_, fun post hp => ?_⟩
      · rw [xe_recordAt]
        refine a1 _ (br_t (nI_pos' (by omega)) ⟨vp_in_nI hs (by omega), ?_⟩)
        rw [esel]
        refine mb_recof (ml_RB m hR) hm rfl (nI n) hms (fun P' a' Q' t' u' h1 h2 r' => ?_) (fun hno => absurd (by rw [tn, han]) (hno a ha))
        rw [(haa P' a' Q' h1 h2).1]
        exact br_t (nI_pos' (by omega)) (hp t' u' (ml_BR r'))
      · rw [ye_messageAt]
        refine a2 _ (br_t (nI_pos' (by omega)) ⟨vp_in_nI hs (by omega), ?_⟩)
        rw [ysel]
        refine yf_find hk hm rfl (hX m hm) (hY m hm) ht (fun P' a' Q' h1 h2 => ?_) (fun hno => absurd (by rw [tn, han]) (hno a ha))
        rw [(haa P' a' Q' h1 h2).2]
        have hlen : (bx m).2.2.2.2.2.length ≤ 14 := (hY m hm).2.2.1
        rw [hPQ, List.length_append] at hlen
        exact br_t (nI_pos' (by omega)) hp
    · have hno : ∀ a, a ∈ (bx m).2.2.2.2.2 → (a.1 : Int) ≠ (nI n).toInt := fun a ha h => hex ⟨a, ha, by rw [tn] at h; omega⟩
      refine Or.inl ⟨-4, by decide, fun post hp => ?_, fun post hp => ?_⟩
      · rw [xe_recordAt]
        refine a1 _ (br_t (nI_pos' (by omega)) ⟨vp_in_nI hs (by omega), ?_⟩)
        rw [esel]
        exact mb_recof (ml_RB m hR) hm rfl (nI n) (hX m hm).2.2.2.2.2 (fun P' a' Q' t' u' h1 h2 r' => absurd h2 (hno a' (by rw [h1]; simp))) (fun _ t' u' r' => br_f (by decide) (hp t' u' (ml_BR r')))
      · rw [ye_messageAt]
        refine a2 _ (br_t (nI_pos' (by omega)) ⟨vp_in_nI hs (by omega), ?_⟩)
        rw [ysel]
        exact yf_find hk hm rfl (hX m hm) (hY m hm) ht (fun P' a' Q' h1 h2 => absurd h2 (hno a' (by rw [h1]; simp))) (fun _ => br_f (by decide) hp)
theorem i_vc_fetch {k : Nat} {u : SX} {v : SY} (I : i_Rel k u v) (hk : k + 5 ≤ 2560) (v1 : Int32) (v2 : Int32) (v3 : Int32) : wpX_fetch (fun r u' => wpY_fetch (fun r' => r' = r ∧ i_Rel (k + 5) u' v) v v1 v2 v3) u v1 v2 v3 := by
  obtain ⟨V, t, y, x, bx, W, hR, hrest⟩ := ml_out hk I
  have hrest' := hrest
  obtain ⟨hX, hY, hS, hW⟩ := hrest'
  have hin : ∀ t' u', ms_R (k + 1) 4 V V t' y x u' → i_Rel (k + 5) u' v := fun t' u' r' => ml_in hk r' (by omega) (ml_up hrest (by omega))
  rw [xe_fetch]
  rcases ml_is v1 with ⟨g1, g2⟩ | ⟨s, hs, rfl, g1, g2⟩
  · refine g1 _ (br_t rfl ?_)
    rw [ye_fetch]
    exact g2 _ v (br_f (by decide) ⟨rfl, i_up I⟩)
  · refine g1 _ (br_f (by decide) ?_)
    by_cases h0 : v3 < 0
    · refine br_t h0 ?_
      rw [ye_fetch]
      exact g2 _ v (br_t rfl (br_t h0 ⟨rfl, i_up I⟩))
    · by_cases h2 : v3 ≤ 2
      · refine br_f h0 (br_t h2 ?_)
        rcases ra_walk (by omega) hR hX hY hs (hS s hs) v2 with ⟨e, he, a1, a2⟩ | ⟨m, vs, P, a, Q, hon, hPQ, a1, a2⟩
        · refine a1 _ (fun t' u' r' => br_f he ?_)
          rw [ye_fetch]
          exact g2 _ v (br_t rfl (br_f h0 (br_t h2 (a2 _ (br_f he ⟨rfl, hin t' u' r'⟩)))))
        · obtain ⟨hm, s1, s2, ht, _⟩ := hon
          have hnx := ml_nx (hX m hm) (hY m hm) ht (by omega)
          have h14 := (hnx.1 a (by rw [hPQ]; simp)).2.2.1
          obtain ⟨c1, c2, c3, c4⟩ := ((hX m hm).2.2.2.2.2.1 a (by rw [hPQ]; simp)).1
          obtain ⟨_, q1, q2, q3, q4, q5⟩ := (hY m hm).2.2.2.2 ht
          obtain ⟨d1, d2, d3, d4⟩ := q5 P.length a (by rw [hPQ]; exact tw_mid P a Q)
          have hlen : (bx m).2.2.2.2.2.length ≤ 14 := (hY m hm).2.2.1
          rw [hPQ, List.length_append, List.length_cons] at hlen
          obtain ⟨c, hc, rfl⟩ := nI_of2 (x := v3) (M := 2) (n := 2) (by decide) h0 h2
          refine a1 _ (fun t' u' r' => br_t (nI_pos' (by omega)) ⟨vp_in_nI hs (by omega), ?_⟩)
          have esel : xg_selected u' (nI s).toNatClampNeg - 1 = nI m := by rw [nI_clamp (n := s) (by omega), (ml_xs r'.2.2.2.2).1, s1]; exact nI_pred m
          rw [esel]
          have hY2 : ∀ (r : Int32) (u'' : SX), i_Rel (k + 5) u'' v → ((c = 0 → r = a.2.2.1) ∧ (c = 1 → r = a.2.1) ∧ (c = 2 → r = nI a.2.2.2.1)) → wpY_fetch (fun r' => r' = r ∧ i_Rel (k + 5) u'' v) v (nI s) v2 (nI c) := by
            intro r u'' hrel ⟨f0, f1, f2⟩
            rw [ye_fetch]
            refine g2 _ v (br_t rfl (br_f h0 (br_t h2 (a2 _ (br_t (nI_pos' (by omega)) ?_)))))
            rw [nI_clamp (n := 14 * m + P.length) (by omega), d2, d3, d4]
            exact pk_eq c 0 (fun h => ⟨vp_in_nI (by omega) (by omega), (f0 h).symm, hrel⟩) (fun h => pk_eq c 1 (fun h => ⟨vp_in_nI (by omega) (by omega), (f1 h).symm, hrel⟩) (fun h' => ⟨vp_in_nI (by omega) (by omega), (f2 (by omega)).symm, hrel⟩))
          refine pk_eq c 0 (fun h => ?_) (fun h => pk_eq c 1 (fun h' => ?_) (fun h' => ?_))
          · rw [xe_fetch_63]
            refine mb_entry (c := 2) (ml_RB m r') hm h14 (by omega) rfl rfl rfl (fun u2 r2 => hY2 _ u2 (hin t' u2 (ml_BR r2)) ⟨fun _ => c3, fun z => by omega, fun z => by omega⟩)
          · rw [xe_fetch_63]
            refine mb_entry (c := 1) (ml_RB m r') hm h14 (by omega) rfl rfl rfl (fun u2 r2 => hY2 _ u2 (hin t' u2 (ml_BR r2)) ⟨fun z => by omega, fun _ => c2, fun z => by omega⟩)
          · rw [xe_fetch_63]
            refine mb_entry (c := 3) (ml_RB m r') hm h14 (by omega) rfl rfl rfl (fun u2 r2 => hY2 _ u2 (hin t' u2 (ml_BR r2)) ⟨fun z => by omega, fun z => by omega, fun _ => c4⟩)
      · refine br_f h0 (br_f h2 ?_)
        rw [ye_fetch]
        exact g2 _ v (br_t rfl (br_f h0 (br_f h2 ⟨rfl, i_up I⟩)))
theorem i_vc_copy {k : Nat} {u : SX} {v : SY} (I : i_Rel k u v) (hk : k + 5 ≤ 2560) (v1 : Int32) (v2 : Int32) (v3 : Int32) : wpX_copy (fun r u' => wpY_copy (fun r' v' => r' = r ∧ i_Rel (k + 5) u' v') v v1 v2 v3) u v1 v2 v3 := by
  obtain ⟨V, t, y, x, bx, W, hR, hrest⟩ := ml_out hk I
  have hrest' := hrest
  obtain ⟨hX, hY, hS, hW⟩ := hrest'
  have hin : ∀ t' u', ms_R (k + 1) 4 V V t' y x u' → i_Rel (k + 5) u' v := fun t' u' r' => ml_in hk r' (by omega) (ml_up hrest (by omega))
  rw [xe_copy]
  rcases ml_is v1 with ⟨g1, g2⟩ | ⟨s, hs, rfl, g1, g2⟩
  · refine g1 _ (br_t rfl ?_)
    rw [ye_copy]
    exact g2 _ v (br_f (by decide) ⟨rfl, i_up I⟩)
  · refine g1 _ (br_f (by decide) ?_)
    rcases ml_ib v3 with ⟨g3, g4⟩ | ⟨j, hj, rfl, g3, g4⟩
    · refine g3 _ (br_t rfl ?_)
      rw [ye_copy]
      exact g2 _ v (br_t rfl (g4 _ v (br_f (by decide) ⟨rfl, i_up I⟩)))
    · refine g3 _ (br_f (by decide) ?_)
      rcases ra_walk (by omega) hR hX hY hs (hS s hs) v2 with ⟨e, he, a1, a2⟩ | ⟨m, vs, P, a, Q, hon, hPQ, a1, a2⟩
      · refine a1 _ (fun t' u' r' => br_f he ?_)
        rw [ye_copy]
        exact g2 _ v (br_t rfl (g4 _ v (br_t rfl (a2 _ (br_f he ⟨rfl, hin t' u' r'⟩)))))
      · obtain ⟨hm, s1, s2, ht, _⟩ := hon
        have hnx := ml_nx (hX m hm) (hY m hm) ht (by omega)
        have h14 := (hnx.1 a (by rw [hPQ]; simp)).2.2.1
        obtain ⟨c1, c2, c3, c4⟩ := ((hX m hm).2.2.2.2.2.1 a (by rw [hPQ]; simp)).1
        obtain ⟨_, q1, q2, q3, q4, q5⟩ := (hY m hm).2.2.2.2 ht
        obtain ⟨d1, d2, d3, d4⟩ := q5 P.length a (by rw [hPQ]; exact tw_mid P a Q)
        obtain ⟨f, hf, ef⟩ := (hY m hm).2.2.2.1 a (by rw [hPQ]; simp)
        have hlen : (bx m).2.2.2.2.2.length ≤ 14 := (hY m hm).2.2.1
        rw [hPQ, List.length_append, List.length_cons] at hlen
        have hY2 : ∀ post : Int32 → SY → Prop, ((yg_there v j = 0 → post (-2) v) ∧ (¬ yg_there v j = 0 → vp_in (nI j) 4 ∧ ((yg_counts v j = 14 → post (-3) v) ∧ (¬ yg_counts v j = 14 → wpY_add post v (nI j) a.2.1 a.2.2.1)))) → wpY_copy post v (nI s) v2 (nI j) := by
          intro post hp
          rw [ye_copy]
          refine g2 _ v (br_t rfl (g4 _ v (br_t rfl (a2 _ (br_t (nI_pos' (by omega)) ⟨vp_in_nI hj (by omega), ?_⟩)))))
          rw [nI_clamp (n := j) (by omega), nI_clamp (n := 14 * m + P.length) (by omega), d2, d3]
          exact ⟨hp.1, fun h => ⟨(hp.2 h).1, (hp.2 h).2.1, fun h' => ⟨vp_in_nI (by omega) (by omega), vp_in_nI (by omega) (by omega), (hp.2 h).2.2 h'⟩⟩⟩
        refine a1 _ (fun t' u' r' => br_t (nI_pos' (by omega)) (ml_there r' hj rfl (hX j hj) (fun htj u2 r2 => br_f (by decide) ?_) (fun hfj u2 r2 => br_t rfl ?_)))
        · obtain ⟨_, _, _, _, qj4, _⟩ := (hY j hj).2.2.2.2 htj
          have hlj : (bx j).2.2.2.2.2.length ≤ 14 := (hY j hj).2.2.1
          refine ml_messages r2 hj rfl (hX j hj) (fun u3 r3 => pk_lt (bx j).2.2.2.2.2.length 14 (fun hlt => ⟨vp_in_nI hs (by omega), ?_⟩) (fun hge => ?_))
          · have esel : ∀ u4 t4, ms_R (k + 1) 4 V V t4 y x u4 → xg_selected u4 (nI s).toNatClampNeg - 1 = nI m := fun u4 t4 r4 => by rw [nI_clamp (n := s) (by omega), (ml_xs r4.2.2.2.2).1, s1]; exact nI_pred m
            rw [esel u3 t' r3]
            refine mb_entry (c := 1) (ml_RB m r3) hm h14 (by omega) rfl rfl rfl (fun u4 r4 => ⟨vp_in_nI hs (by omega), ?_⟩)
            rw [esel u4 t' (ml_BR r4)]
            refine mb_entry (c := 2) r4 hm h14 (by omega) rfl rfl rfl (fun u5 r5 => ?_)
            rw [c2, c3]
            refine ml_putadd (f := f) hk hj (ml_BR r5) hrest htj (by omega) ef hf (fun u6 hadd => hY2 _ (br_f ((ml_yt (hY j hj)).1 htj) ⟨vp_in_nI hj (by omega), ?_⟩))
            rw [qj4]
            exact br_f (na_ne (b := 14) (by omega) (by omega) (by omega)) (hadd _ (fun v' hrel => ⟨rfl, hrel⟩))
          · refine hY2 _ (br_f ((ml_yt (hY j hj)).1 htj) ⟨vp_in_nI hj (by omega), ?_⟩)
            rw [qj4]
            exact br_t (by rw [show (bx j).2.2.2.2.2.length = 14 from by omega]; rfl) ⟨rfl, hin t' u3 r3⟩
        · exact hY2 _ (br_t ((ml_yt (hY j hj)).2 hfj) ⟨rfl, hin t' u2 r2⟩)
end
section
/-! store -/
theorem so_bits : ∀ a, a < 32 → ∀ b, b < 32 → ((nI a ||| nI b).toNatClampNeg < 32 ∧ nI a ||| nI b = nI (nI a ||| nI b).toNatClampNeg) ∧ ((nI a &&& (nI b ^^^ (-1))).toNatClampNeg < 32 ∧ nI a &&& (nI b ^^^ (-1)) = nI (nI a &&& (nI b ^^^ (-1))).toNatClampNeg) := by decide +kernel
theorem ml_repl {P Q : List mb_Msg} {a a' : mb_Msg} {i : Nat} {c : mb_Msg} (h : (P ++ a' :: Q)[i]? = some c) : (i = P.length ∧ c = a') ∨ (i ≠ P.length ∧ (P ++ a :: Q)[i]? = some c) := by
  by_cases e : i = P.length
  · subst e
    rw [tw_mid, Option.some.injEq] at h
    exact Or.inl ⟨rfl, h.symm⟩
  · refine Or.inr ⟨e, ?_⟩
    by_cases h1 : i < P.length
    · rw [List.getElem?_append_left h1] at h ⊢
      exact h
    · rw [List.getElem?_append_right (by omega), show i - P.length = (i - P.length - 1) + 1 from by omega, List.getElem?_cons_succ] at h ⊢
      exact h
theorem so_fin {post : Int32 → SX → Prop} {k : Nat} {u : SX} {v : SY} {V : ms_M} {t : ms_TT} {y : ms_YT} {x : ms_XT} {bx : Nat → ml_B} {W m s f : Nat} {P Q : List mb_Msg} {a : mb_Msg} {z : Int32} (hk : k + 5 ≤ 2560) (hm : m < 4) (hs : s < 3) (hR : ms_R (k + 1) 4 V V t y x u) (hrest : ml_rest k V x v bx W) (ht : (bx m).1 = true) (hsel : yg_selected v s = nI m) (hPQ : (bx m).2.2.2.2.2 = P ++ a :: Q) (ez : z = nI f) (hf : f < 32)
    (c : ∀ u'', (∀ postY : Int32 → SY → Prop, (∀ v', i_Rel (k + 5) u'' v' → postY z v') → yc_store_84 postY (nI s) (nI (14 * m + P.length)) z v) → post z u'') :
    xc_store_98 post (nI a.2.2.2.2) (nI m) a.2.2.1 z u := by
  have hX := hrest.1 m hm
  have hY := hrest.2.1 m hm
  obtain ⟨y1, y2, hlen, y4, y5⟩ := hY
  obtain ⟨⟨z1, z2, z3⟩, q1, q2, q3, q4, q5⟩ := y5 ht
  obtain ⟨d1, d2, d3, d4⟩ := q5 P.length a (by rw [hPQ]; exact tw_mid P a Q)
  have hl2 := hlen
  rw [hPQ, List.length_append, List.length_cons] at hl2
  have hrest5 := ml_up hrest (k' := k + 5) (by omega)
  rw [xe_store_98]
  refine br_c (fun he => ?_) (fun hne => ?_)
  · refine c u (fun postY hp => ?_)
    rw [ye_store_84, nI_clamp (n := 14 * m + P.length) (by omega), d3]
    refine ⟨vp_in_nI (by omega) (by omega), br_t he ⟨vp_in_nI (by omega) (by omega), nm_e (hp _ ?_)⟩⟩
    obtain ⟨gX, gY, gS, w⟩ := hrest5
    have hfl : ∀ i, upd (yg_flags v) (14 * m + P.length) z i = yg_flags v i := by
      intro i
      by_cases e : i = 14 * m + P.length
      · subst e; rw [pk_us, d3]; exact he
      · exact pk_un e
    exact ml_in (bx := bx) (W := W) hk hR (by omega) ⟨gX, fun j hj => ml_Yf (gY j hj) ⟨rfl, rfl, rfl, rfl, rfl, fun i hi => ⟨rfl, rfl, hfl _, rfl⟩⟩, fun s' hs' => ml_Sf (gS s' hs') ⟨rfl, rfl, rfl, rfl, fun i hi => ⟨rfl, rfl⟩⟩ (fun j hj ht => ⟨ht, Nat.le_refl _, fun a ha => Or.inl ⟨a, ha, rfl⟩⟩), w⟩
  · have hX' : mb_box (V m) (bx m).1 (bx m).2.1 (bx m).2.2.1 (bx m).2.2.2.1 (bx m).2.2.2.2.1 (P ++ a :: Q) := by rw [← hPQ]; exact hX
    refine mb_flags (ml_RB m (ml_dirty m hR)) rfl hm rfl rfl hX' (by rw [List.length_append, List.length_cons]; omega) (by omega) (fun B' t' u' r' hB => ?_)
    refine ml_save r' hm rfl (by omega) (fun u'' r'' => c u'' (fun postY hp => ?_))
    rw [ye_store_84, nI_clamp (n := 14 * m + P.length) (by omega), d3, nI_clamp (n := s) (by omega), hsel, nI_clamp (n := m) (by omega), q3, nI_1]
    refine ⟨vp_in_nI (by omega) (by omega), br_f hne ⟨vp_in_nI hs (by omega), vp_in_nI hm (by omega), vp_in_nI hm (by omega), nm_e ⟨vp_in_nI hs (by omega), vp_in_nI hm (by omega), vp_in_nI (by omega) (by omega), ?_⟩⟩⟩
    rw [pk_us]
    refine nm_e ⟨vp_in_nI (by omega) (by omega), nm_e (hp _ ?_)⟩
    refine ml_added (b' := ((bx m).1, (bx m).2.1, (bx m).2.2.1, (bx m).2.2.2.1 + 1, (bx m).2.2.2.2.1, P ++ (a.1, a.2.1, z, (bx m).2.2.2.1 + 1, a.2.2.2.2) :: Q)) hk hm hrest r'' (by omega) hB ⟨y1, fun h => by rw [ht] at h; exact absurd h (by decide), by rw [List.length_append, List.length_cons]; exact hl2, fun e he => ?_, fun _ => ⟨⟨z1, by show (bx m).2.2.1 ≤ k + 5 + 1; omega, by show (bx m).2.2.2.1 + 1 ≤ 3 * (k + 5) + 1; omega⟩, q1, q2, pk_us, ?_, fun i e hi => ?_⟩⟩ (fun _ => ?_) rfl (fun j hj => ?_) (fun s' _ => ⟨rfl, rfl, rfl, rfl, fun i hi => ⟨rfl, rfl⟩⟩) rfl
    · have he' : e ∈ P ∨ e = (a.1, a.2.1, z, (bx m).2.2.2.1 + 1, a.2.2.2.2) ∨ e ∈ Q := by
        rcases List.mem_append.mp he with h | h
        · exact Or.inl h
        · rcases List.mem_cons.mp h with h | h
          · exact Or.inr (Or.inl h)
          · exact Or.inr (Or.inr h)
      rcases he' with h | h | h
      · exact y4 e (by rw [hPQ]; simp [h])
      · subst h; exact ⟨f, hf, ez⟩
      · exact y4 e (by rw [hPQ]; simp [h])
    · show yg_counts v m = _
      rw [q4, hPQ]
      simp
    · rcases ml_repl (a := a) hi with ⟨rfl, rfl⟩ | ⟨hne', hi'⟩
      · exact ⟨d1, d2, pk_us, pk_us⟩
      · obtain ⟨f1, f2, f3, f4⟩ := q5 i e (by rw [hPQ]; exact hi')
        exact ⟨f1, f2, (pk_un (by omega)).trans f3, (pk_un (by omega)).trans f4⟩
    · rw [ml_ub_s]
      refine ⟨ht, Nat.le_refl _, fun e he => Or.inl ?_⟩
      rcases List.mem_append.mp he with h | h
      · exact ⟨e, by rw [hPQ]; simp [h], rfl⟩
      · rcases List.mem_cons.mp h with h | h
        · subst h; exact ⟨a, by rw [hPQ]; simp, rfl⟩
        · exact ⟨e, by rw [hPQ]; simp [h], rfl⟩
    · exact ⟨rfl, rfl, rfl, pk_un hj, rfl, fun i hi => ⟨rfl, rfl, pk_un (by omega), pk_un (by omega)⟩⟩
theorem i_vc_store {k : Nat} {u : SX} {v : SY} (I : i_Rel k u v) (hk : k + 5 ≤ 2560) (v1 : Int32) (v2 : Int32) (v3 : Int32) : wpX_store (fun r u' => wpY_store (fun r' v' => r' = r ∧ i_Rel (k + 5) u' v') v v1 v2 v3) u v1 v2 v3 := by
  obtain ⟨V, t, y, x, bx, W, hR, hrest⟩ := ml_out hk I
  have hrest' := hrest
  obtain ⟨hX, hY, hS, hW⟩ := hrest'
  have hin : ∀ t' u', ms_R (k + 1) 4 V V t' y x u' → i_Rel (k + 5) u' v := fun t' u' r' => ml_in hk r' (by omega) (ml_up hrest (by omega))
  rw [xe_store]
  rcases ml_is v1 with ⟨g1, g2⟩ | ⟨s, hs, rfl, g1, g2⟩
  · refine g1 _ (br_t rfl ?_)
    rw [ye_store]
    exact g2 _ v (br_f (by decide) ⟨rfl, i_up I⟩)
  · refine g1 _ (br_f (by decide) ?_)
    by_cases h0 : v3 < 0
    · refine br_t h0 ?_
      rw [ye_store]
      exact g2 _ v (br_t rfl (br_t h0 ⟨rfl, i_up I⟩))
    · by_cases h2 : v3 ≤ 95
      · refine br_f h0 (br_t h2 ?_)
        rcases ra_walk (by omega) hR hX hY hs (hS s hs) v2 with ⟨e, he, a1, a2⟩ | ⟨m, vs, P, a, Q, hon, hPQ, a1, a2⟩
        · refine a1 _ (fun t' u' r' => br_f he ?_)
          rw [ye_store]
          exact g2 _ v (br_t rfl (br_f h0 (br_t h2 (a2 _ (br_f he ⟨rfl, hin t' u' r'⟩)))))
        · obtain ⟨hm, s1, s2, ht, _⟩ := hon
          have hnx := ml_nx (hX m hm) (hY m hm) ht (by omega)
          have h14 := (hnx.1 a (by rw [hPQ]; simp)).2.2.1
          obtain ⟨c1, c2, c3, c4⟩ := ((hX m hm).2.2.2.2.2.1 a (by rw [hPQ]; simp)).1
          obtain ⟨_, q1, q2, q3, q4, q5⟩ := (hY m hm).2.2.2.2 ht
          obtain ⟨d1, d2, d3, d4⟩ := q5 P.length a (by rw [hPQ]; exact tw_mid P a Q)
          obtain ⟨f, hf, ef⟩ := (hY m hm).2.2.2.1 a (by rw [hPQ]; simp)
          have hlen : (bx m).2.2.2.2.2.length ≤ 14 := (hY m hm).2.2.1
          rw [hPQ, List.length_append, List.length_cons] at hlen
          obtain ⟨c, hc, rfl⟩ := nI_of2 (x := v3) (M := 95) (n := 95) (by decide) h0 h2
          have hset : c % 32 < 32 := Nat.mod_lt _ (by omega)
          have hY2 : ∀ post : Int32 → SY → Prop, ((32 ≤ c → ((64 ≤ c → yc_store_84 post (nI s) (nI (14 * m + P.length)) (a.2.2.1 &&& (nI (c % 32) ^^^ (-1))) v) ∧ (c < 64 → yc_store_84 post (nI s) (nI (14 * m + P.length)) (a.2.2.1 ||| nI (c % 32)) v))) ∧ (c < 32 → yc_store_84 post (nI s) (nI (14 * m + P.length)) (nI (c % 32)) v)) → wpY_store post v (nI s) v2 (nI c) := by
            intro post hp
            rw [ye_store]
            refine g2 _ v (br_t rfl (br_f h0 (br_t h2 (a2 _ (br_t (nI_pos' (by omega)) ⟨by decide, ?_⟩)))))
            refine nm_r (e' := nI (c % 32)) (pk_rem (d := 32) (by omega) (by omega) (by omega)) ?_
            rw [nI_clamp (n := 14 * m + P.length) (by omega), d3]
            exact pk_le 32 c (fun h => pk_le 64 c (fun h' => ⟨vp_in_nI (by omega) (by omega), (hp.1 h).1 h'⟩) (fun h' => ⟨vp_in_nI (by omega) (by omega), (hp.1 h).2 h'⟩)) (fun h => hp.2 h)
          refine a1 _ (fun t' u' r' => br_t (nI_pos' (by omega)) ⟨vp_in_nI hs (by omega), ?_⟩)
          have esel : xg_selected u' (nI s).toNatClampNeg - 1 = nI m := by rw [nI_clamp (n := s) (by omega), (ml_xs r'.2.2.2.2).1, s1]; exact nI_pred m
          rw [esel]
          refine nm_e (mb_entry (c := 2) (ml_RB m r') hm h14 (by omega) rfl rfl rfl (fun u2 r2 => ?_))
          rw [c3, ac_shr (by omega), ac_and (by omega)]
          have r2' := ml_BR r2
          refine nm_e (pk_eq (c / 32) 0 (fun h => ?_) (fun h => pk_eq (c / 32) 1 (fun h' => ?_) (fun h' => ?_)))
          · exact so_fin (f := c % 32) hk hm hs r2' hrest ht s2 hPQ rfl hset (fun u3 hst => hY2 _ ⟨fun h => by omega, fun _ => hst _ (fun v' hrel => ⟨rfl, hrel⟩)⟩)
          · refine so_fin (f := (nI f ||| nI (c % 32)).toNatClampNeg) hk hm hs r2' hrest ht s2 hPQ (by rw [ef]; exact (so_bits f hf _ hset).1.2) (so_bits f hf _ hset).1.1 (fun u3 hst => hY2 _ ⟨fun _ => ⟨fun h => by omega, fun _ => hst _ (fun v' hrel => ⟨rfl, hrel⟩)⟩, fun h => by omega⟩)
          · refine so_fin (f := (nI f &&& (nI (c % 32) ^^^ (-1))).toNatClampNeg) hk hm hs r2' hrest ht s2 hPQ (by rw [ef]; exact (so_bits f hf _ hset).2.2) (so_bits f hf _ hset).2.1 (fun u3 hst => hY2 _ ⟨fun _ => ⟨fun _ => hst _ (fun v' hrel => ⟨rfl, hrel⟩), fun h => by omega⟩, fun h => by omega⟩)
      · refine br_f h0 (br_f h2 ?_)
        rw [ye_store]
        exact g2 _ v (br_t rfl (br_f h0 (br_f h2 ⟨rfl, i_up I⟩)))
end
section
/-! search -/
theorem tl_at {u : SX} {v : SY} {x : ms_XT} {bx : Nat → ml_B} {s m i n : Nat} {vs : List Nat} (hx : ms_X u = x) (hs : s < 3) (hon : ml_on x v s bx m vs) (hi : vs[i]? = some n) : (∀ post : Int32 → Prop, post (nI n) → wpX_told post u (nI s) (nI (i + 1))) ∧ (∀ post : Int32 → Prop, post (nI n) → wpY_numberAt post v (nI s) (nI (i + 1))) := by
  obtain ⟨e1, e2, e3⟩ := ml_xs hx
  have hv0 : ∀ post : Int32 → Prop, post 0 → wpY_noView post v (nI s) := (ml_nv hs).2 ⟨m, vs, hon⟩
  obtain ⟨hm, s1, s2, _, hl, _, _, _, w1, w2, w3⟩ := hon
  have hlt := ml_lt hi
  have hsel : ¬ xg_selected u (nI s).toNatClampNeg = 0 := by rw [nI_clamp (n := s) (by omega), e1, s1]; exact nI_ne0 (by omega) (by omega)
  have hvl : xg_viewLength u (nI s).toNatClampNeg = nI vs.length := by rw [nI_clamp (n := s) (by omega), e2, w1]
  have hyl : yg_lengths v (nI s).toNatClampNeg = nI vs.length := by rw [nI_clamp (n := s) (by omega), w2]
  obtain ⟨g1, g2⟩ := w3 i _ hi
  have h1 : ¬ nI (i + 1) < 1 := na_nlt (a := i + 1) (b := 1) rfl rfl (by omega) (by omega)
  refine ⟨fun post hp => ?_, fun post hp => ?_⟩
  · rw [xe_told, hvl, na_16, na_s1 (by omega), show 16 * s + (i + 1) - 1 = 16 * s + i from by omega, nI_clamp (n := 16 * s + i) (by omega), e3, g1]
    exact ⟨vp_in_nI hs (by omega), br_f hsel (br_f h1 ⟨vp_in_nI hs (by omega), br_t (nI_le (by omega) (by omega)) ⟨vp_in_nI (by omega) (by omega), hp⟩⟩)⟩
  · rw [ye_numberAt, hyl, na_14, na_s1 (by omega), show 14 * s + (i + 1) - 1 = 14 * s + i from by omega, nI_clamp (n := 14 * s + i) (by omega), g2]
    exact hv0 _ (br_t (by decide) (br_f h1 ⟨vp_in_nI hs (by omega), br_t (nI_le (by omega) (by omega)) ⟨vp_in_nI (by omega) (by omega), hp⟩⟩))
/-- a number stands at one place of the list -/
theorem ml_uni {ms P Q P' Q' : List mb_Msg} {a a' : mb_Msg} (hso : ms.Pairwise (fun a b => a.1 < b.1)) (h1 : ms = P ++ a :: Q) (h2 : ms = P' ++ a' :: Q') (h3 : a'.1 = a.1) : a' = a ∧ P'.length = P.length := by
  have b1 : ms[P.length]? = some a := by rw [h1]; exact tw_mid P a Q
  have b2 : ms[P'.length]? = some a' := by rw [h2]; exact tw_mid P' a' Q'
  have l1 := ml_lt b1
  have l2 := ml_lt b2
  have hl : P'.length = P.length := by
    have c1 := b1
    have c2 := b2
    rw [List.getElem?_eq_getElem l1, Option.some.injEq] at c1
    rw [List.getElem?_eq_getElem l2, Option.some.injEq] at c2
    rcases Nat.lt_trichotomy P.length P'.length with h | h | h
    · have := (List.pairwise_iff_getElem.mp hso) _ _ l1 l2 h; rw [c1, c2] at this; omega
    · exact h.symm
    · have := (List.pairwise_iff_getElem.mp hso) _ _ l2 l1 h; rw [c1, c2] at this; omega
  rw [hl, b1, Option.some.injEq] at b2
  exact ⟨b2.symm, hl⟩
theorem ra_at {k K w : Nat} {V : ms_M} {t : ms_TT} {y : ms_YT} {x : ms_XT} {u : SX} {v : SY} {bx : Nat → ml_B} {s m i n : Nat} {vs : List Nat} (hk : k ≤ 2560) (hR : ms_R K w V V t y x u) (hX : ∀ m, m < 4 → ml_X (V m) (bx m)) (hY : ∀ m, m < 4 → ml_Y k v m (bx m)) (hs : s < 3) (hon : ml_on x v s bx m vs) (hi : vs[i]? = some n) :
    ((∀ a, a ∈ (bx m).2.2.2.2.2 → a.1 ≠ n) ∧ (∀ post : Int32 → SX → Prop, (∀ t' u', ms_R K w V V t' y x u' → post (-4) u') → wpX_recordAt post u (nI s) (nI (i + 1))) ∧ (∀ post : Int32 → Prop, post (-4) → wpY_messageAt post v (nI s) (nI (i + 1)))) ∨ ∃ P a Q, (bx m).2.2.2.2.2 = P ++ a :: Q ∧ a.1 = n ∧ (∀ post : Int32 → SX → Prop, (∀ t' u', ms_R K w V V t' y x u' → post (nI a.2.2.2.2) u') → wpX_recordAt post u (nI s) (nI (i + 1))) ∧ (∀ post : Int32 → Prop, post (nI (14 * m + P.length)) → wpY_messageAt post v (nI s) (nI (i + 1))) := by
  have hx := hR.2.2.2.2
  obtain ⟨e1, e2, e3⟩ := ml_xs hx
  obtain ⟨a1, a2⟩ := tl_at hx hs hon hi
  obtain ⟨hm, s1, s2, ht, hl, hsort, hbd, _, w1, w2, w3⟩ := hon
  have hnx := ml_nx (hX m hm) (hY m hm) ht hk
  have hn : n < 3000 := by
    have h1 := hbd n (List.mem_of_getElem? hi)
    have := hnx.2.1
    omega
  have tn : (nI n).toInt = (n : Int) := nI_toInt (by omega)
  have esel : xg_selected u (nI s).toNatClampNeg - 1 = nI m := by rw [nI_clamp (n := s) (by omega), e1, s1]; exact nI_pred m
  have ysel : yg_selected v (nI s).toNatClampNeg = nI m := by rw [nI_clamp (n := s) (by omega), s2]
  have hms := (hX m hm).2.2.2.2.2
  by_cases hex : ∃ a, a ∈ (bx m).2.2.2.2.2 ∧ a.1 = n
  · obtain ⟨a, ha, han⟩ := hex
    obtain ⟨P, Q, hPQ⟩ := List.append_of_mem ha
    have h14 := (hnx.1 a ha).2.2.1
    refine Or.inr ⟨P, a, Q, hPQ, han, fun post hp => ?_, fun post hp => ?_⟩
    · rw [xe_recordAt]
      refine a1 _ (br_t (nI_pos' (by omega)) ⟨vp_in_nI hs (by omega), ?_⟩)
      rw [esel]
      refine mb_recof (ml_RB m hR) hm rfl (nI n) hms (fun P' a' Q' t' u' h1 h2 r' => ?_) (fun hno => absurd (by rw [tn, han]) (hno a ha))
      rw [tn] at h2
      rw [(ml_uni hms.2.1 hPQ h1 (by omega)).1]
      exact br_t (nI_pos' (by omega)) (hp t' u' (ml_BR r'))
    · rw [ye_messageAt]
      refine a2 _ (br_t (nI_pos' (by omega)) ⟨vp_in_nI hs (by omega), ?_⟩)
      rw [ysel]
      refine yf_find hk hm rfl (hX m hm) (hY m hm) ht (fun P' a' Q' h1 h2 => ?_) (fun hno => absurd (by rw [tn, han]) (hno a ha))
      rw [tn] at h2
      rw [(ml_uni hms.2.1 hPQ h1 (by omega)).2]
      have hlen : (bx m).2.2.2.2.2.length ≤ 14 := (hY m hm).2.2.1
      rw [hPQ, List.length_append] at hlen
      exact br_t (nI_pos' (by omega)) hp
  · have hno' : ∀ a, a ∈ (bx m).2.2.2.2.2 → a.1 ≠ n := fun a ha h => hex ⟨a, ha, h⟩
    have hno : ∀ a, a ∈ (bx m).2.2.2.2.2 → (a.1 : Int) ≠ (nI n).toInt := fun a ha h => hex ⟨a, ha, by rw [tn] at h; omega⟩
    refine Or.inl ⟨hno', fun post hp => ?_, fun post hp => ?_⟩
    · rw [xe_recordAt]
      refine a1 _ (br_t (nI_pos' (by omega)) ⟨vp_in_nI hs (by omega), ?_⟩)
      rw [esel]
      exact mb_recof (ml_RB m hR) hm rfl (nI n) (hX m hm).2.2.2.2.2 (fun P' a' Q' t' u' h1 h2 r' => absurd h2 (hno a' (by rw [h1]; simp))) (fun _ t' u' r' => br_f (by decide) (hp t' u' (ml_BR r')))
    · rw [ye_messageAt]
      refine a2 _ (br_t (nI_pos' (by omega)) ⟨vp_in_nI hs (by omega), ?_⟩)
      rw [ysel]
      exact yf_find hk hm rfl (hX m hm) (hY m hm) ht (fun P' a' Q' h1 h2 => absurd h2 (hno a' (by rw [h1]; simp))) (fun _ => br_f (by decide) hp)
def se_sat (b : ml_B) (vs : List Nat) (c : Nat) (size : Int32) (i : Nat) : Prop := ∃ n a, vs[i]? = some n ∧ a ∈ b.2.2.2.2.2 ∧ a.1 = n ∧ ¬ a.2.1 < size ∧ (a.2.2.1 &&& nI (c / 32)) = (nI (c % 32) &&& nI (c / 32))
section
variable {k K w : Nat} {V : ms_M} {y : ms_YT} {x : ms_XT} {v : SY} {bx : Nat → ml_B} {s m c : Nat} {vs : List Nat} {size : Int32}
theorem se_x {post : Int32 → SX → Prop} (hk : k ≤ 2560) (hX : ∀ m, m < 4 → ml_X (V m) (bx m)) (hY : ∀ m, m < 4 → ml_Y k v m (bx m)) (hs : s < 3) (hc : c < 1024) (hon : ml_on x v s bx m vs) (j0 : Nat)
    (k1 : ∀ i (t' : ms_TT) (u' : SX), j0 ≤ i → i < vs.length → se_sat (bx m) vs c size i → (∀ i', j0 ≤ i' → i' < i → ¬ se_sat (bx m) vs c size i') → ms_R K w V V t' y x u' → post (nI (i + 1)) u')
    (k0 : (∀ i, j0 ≤ i → i < vs.length → ¬ se_sat (bx m) vs c size i) → ∀ (t' : ms_TT) (u' : SX), ms_R K w V V t' y x u' → post (-2) u') :
    ∀ (d j : Nat) (t : ms_TT) (u : SX), vs.length ≤ j + d → j ≤ 15 → j0 ≤ j → ms_R K w V V t y x u → (∀ i', j0 ≤ i' → i' < j → ¬ se_sat (bx m) vs c size i') → xc_search_69 post (nI s) (nI c) size (nI m) (d + 1) (nI (j + 1)) u := by
  intro d
  have hon' := hon
  obtain ⟨hm, s1, s2, ht, hl, hsort, hbd, _, w1, w2, w3⟩ := hon'
  induction d with
  | zero =>
    intro j t u hd hj15 hj hR hns
    rw [xe_search_69, nI_clamp (n := s) (by omega), (ml_xs hR.2.2.2.2).2.1, w1]
    exact ⟨vp_in_nI hs (by omega), br_t (nI_lt (by omega) (by omega)) (k0 (fun i h1 h2 => hns i h1 (by omega)) t u hR)⟩
  | succ d ih =>
    intro j t u hd hj15 hj hR hns
    rw [xe_search_69, nI_clamp (n := s) (by omega), (ml_xs hR.2.2.2.2).2.1, w1]
    refine ⟨vp_in_nI hs (by omega), pk_lt vs.length (j + 1) (fun h => k0 (fun i h1 h2 => hns i h1 (by omega)) t u hR) (fun h => ?_)⟩
    have hjl : j < vs.length := by omega
    have hg : vs[j]? = some vs[j] := List.getElem?_eq_getElem hjl
    have hnext : ¬ se_sat (bx m) vs c size j → ∀ (t' : ms_TT) (u' : SX), ms_R K w V V t' y x u' → ∀ x7, x7 = nI (j + 1) + 1 → xc_search_69 post (nI s) (nI c) size (nI m) (d + 1) x7 u' := by
      intro hno t' u' r'
      refine nm_r (nI_1 (j + 1)) (ih (j + 1) t' u' (by omega) (by omega) (by omega) r' (fun i' h1 h2 => ?_))
      by_cases e : i' = j
      · subst e; exact hno
      · exact hns i' h1 (by omega)
    rcases ra_at hk hR hX hY hs hon hg with ⟨hno, a1, a2⟩ | ⟨P, a, Q, hPQ, han, a1, a2⟩
    · refine a1 _ (fun t' u' r' => br_t (by decide) (hnext ?_ t' u' r'))
      rintro ⟨n, a, h1, h2, h3, _⟩
      rw [hg, Option.some.injEq] at h1
      exact hno a h2 (h3.trans h1.symm)
    · have hmem : a ∈ (bx m).2.2.2.2.2 := by rw [hPQ]; simp
      have h14 := ((ml_nx (hX m hm) (hY m hm) ht hk).1 a hmem).2.2.1
      obtain ⟨c1, c2, c3, c4⟩ := ((hX m hm).2.2.2.2.2.1 a hmem).1
      have huni : ∀ a', a' ∈ (bx m).2.2.2.2.2 → a'.1 = vs[j] → a' = a := by
        intro a' ha' e'
        obtain ⟨P', Q', h'⟩ := List.append_of_mem ha'
        exact (ml_uni (hX m hm).2.2.2.2.2.2.1 hPQ h' (by omega)).1
      refine a1 _ (fun t' u' r' => br_f (nI_pos (by omega)) ?_)
      refine mb_entry (c := 1) (ml_RB m r') hm h14 (by omega) rfl rfl rfl (fun u2 r2 => ?_)
      rw [c2]
      refine br_c (fun hlt => hnext ?_ t' u2 (ml_BR r2)) (fun hge => ?_)
      · rintro ⟨n, a', h1, h2, h3, h4, _⟩
        rw [hg, Option.some.injEq] at h1
        rw [huni a' h2 (h3.trans h1.symm)] at h4
        exact h4 hlt
      · refine mb_entry (c := 2) r2 hm h14 (by omega) rfl rfl rfl (fun u3 r3 => ?_)
        rw [c3]
        refine ct_fits hc (fun hf => br_f (by decide) (k1 j t' u3 hj hjl ⟨_, a, hg, hmem, han, hge, hf⟩ hns (ml_BR r3))) (fun hf => br_t rfl (hnext ?_ t' u3 (ml_BR r3)))
        rintro ⟨n, a', h1, h2, h3, _, h5⟩
        rw [hg, Option.some.injEq] at h1
        rw [huni a' h2 (h3.trans h1.symm)] at h5
        exact hf h5
theorem se_y {post : Int32 → Prop} {after : Int32} {t : ms_TT} {u : SX} (hk : k ≤ 2560) (hR : ms_R K w V V t y x u) (hX : ∀ m, m < 4 → ml_X (V m) (bx m)) (hY : ∀ m, m < 4 → ml_Y k v m (bx m)) (hs : s < 3) (hc : c < 1024) (hon : ml_on x v s bx m vs)
    (k1 : ∀ i, i < vs.length → ¬ nI (i + 1) ≤ after → se_sat (bx m) vs c size i → (∀ i', i' < i → ¬ nI (i' + 1) ≤ after → ¬ se_sat (bx m) vs c size i') → post (nI (i + 1)))
    (k0 : (∀ i, i < vs.length → ¬ nI (i + 1) ≤ after → ¬ se_sat (bx m) vs c size i) → post (-2)) :
    ∀ (d j : Nat), vs.length ≤ j + d → j ≤ 15 → (∀ i', i' < j → ¬ nI (i' + 1) ≤ after → ¬ se_sat (bx m) vs c size i') → yc_search_36 post (nI s) (nI c) size after v (d + 1) (nI (j + 1)) := by
  intro d
  have hon' := hon
  obtain ⟨hm, s1, s2, ht, hl, hsort, hbd, _, w1, w2, w3⟩ := hon'
  obtain ⟨_, q1, q2, q3, q4, q5⟩ := (hY m hm).2.2.2.2 ht
  induction d with
  | zero =>
    intro j hd hj15 hns
    rw [ye_search_36, nI_clamp (n := s) (by omega), w2]
    exact ⟨vp_in_nI hs (by omega), br_t (nI_lt (by omega) (by omega)) (k0 (fun i h1 => hns i (by omega)))⟩
  | succ d ih =>
    intro j hd hj15 hns
    rw [ye_search_36, nI_clamp (n := s) (by omega), w2]
    refine ⟨vp_in_nI hs (by omega), pk_lt vs.length (j + 1) (fun h => k0 (fun i h1 => hns i (by omega))) (fun h => ?_)⟩
    have hjl : j < vs.length := by omega
    have hg : vs[j]? = some vs[j] := List.getElem?_eq_getElem hjl
    have hnext : (¬ nI (j + 1) ≤ after → ¬ se_sat (bx m) vs c size j) → ∀ x7, x7 = nI (j + 1) + 1 → yc_search_36 post (nI s) (nI c) size after v (d + 1) x7 := by
      intro hno
      refine nm_r (nI_1 (j + 1)) (ih (j + 1) (by omega) (by omega) (fun i' h1 h2 => ?_))
      by_cases e : i' = j
      · subst e; exact hno h2
      · exact hns i' (by omega) h2
    rcases ra_at hk hR hX hY hs hon hg with ⟨hno, a1, a2⟩ | ⟨P, a, Q, hPQ, han, a1, a2⟩
    · have hnot : ¬ se_sat (bx m) vs c size j := by
        rintro ⟨n, a, h1, h2, h3, _⟩
        rw [hg, Option.some.injEq] at h1
        exact hno a h2 (h3.trans h1.symm)
      exact a2 _ (br_c (fun _ => hnext (fun _ => hnot)) (fun _ => br_t (by decide) (hnext (fun _ => hnot))))
    · have hmem : a ∈ (bx m).2.2.2.2.2 := by rw [hPQ]; simp
      obtain ⟨d1, d2, d3, d4⟩ := q5 P.length a (by rw [hPQ]; exact tw_mid P a Q)
      have hlen : (bx m).2.2.2.2.2.length ≤ 14 := (hY m hm).2.2.1
      rw [hPQ, List.length_append, List.length_cons] at hlen
      have huni : ∀ a', a' ∈ (bx m).2.2.2.2.2 → a'.1 = vs[j] → a' = a := by
        intro a' ha' e'
        obtain ⟨P', Q', h'⟩ := List.append_of_mem ha'
        exact (ml_uni (hX m hm).2.2.2.2.2.2.1 hPQ h' (by omega)).1
      refine a2 _ (br_c (fun hle => hnext (fun h => absurd hle h)) (fun hgt => br_f (nI_pos (by omega)) ⟨vp_in_nI (by omega) (by omega), by decide, by decide, ?_⟩))
      rw [nI_clamp (n := 14 * m + P.length) (by omega), d2, d3]
      refine ct_has hc (fun hf => br_f (by decide) ⟨vp_in_nI (by omega) (by omega), br_c (fun hlt => hnext (fun _ => ?_)) (fun hge => k1 j hjl hgt ⟨_, a, hg, hmem, han, hge, hf⟩ hns)⟩) (fun hf => br_t rfl (hnext (fun _ => ?_)))
      · rintro ⟨n, a', h1, h2, h3, h4, _⟩
        rw [hg, Option.some.injEq] at h1
        rw [huni a' h2 (h3.trans h1.symm)] at h4
        exact h4 hlt
      · rintro ⟨n, a', h1, h2, h3, _, h5⟩
        rw [hg, Option.some.injEq] at h1
        rw [huni a' h2 (h3.trans h1.symm)] at h5
        exact hf h5
end
theorem i_vc_search {k : Nat} {u : SX} {v : SY} (I : i_Rel k u v) (hk : k + 5 ≤ 2560) (v1 : Int32) (v2 : Int32) (v3 : Int32) (v4 : Int32) : wpX_search (fun r u' => wpY_search (fun r' => r' = r ∧ i_Rel (k + 5) u' v) v v1 v2 v3 v4) u v1 v2 v3 v4 := by
  obtain ⟨V, t, y, x, bx, W, hR, hrest⟩ := ml_out hk I
  have hrest' := hrest
  obtain ⟨hX, hY, hS, hW⟩ := hrest'
  have hin : ∀ t' u', ms_R (k + 1) 4 V V t' y x u' → i_Rel (k + 5) u' v := fun t' u' r' => ml_in hk r' (by omega) (ml_up hrest (by omega))
  obtain ⟨e1, e2, e3⟩ := ml_xs hR.2.2.2.2
  rw [xe_search]
  rcases ml_is v1 with ⟨g1, g2⟩ | ⟨s, hs, rfl, g1, g2⟩
  · refine g1 _ (br_t rfl ?_)
    rw [ye_search]
    exact g2 _ v (br_f (by decide) ⟨rfl, i_up I⟩)
  · refine g1 _ (br_f (by decide) ?_)
    by_cases h0 : v2 < 0
    · refine br_t h0 (br_t rfl ?_)
      rw [ye_search]
      exact g2 _ v (br_t rfl (br_t h0 ⟨rfl, i_up I⟩))
    · by_cases h1 : v2 ≤ 1023
      · obtain ⟨c, hc, rfl⟩ := nI_of2 (x := v2) (M := 1023) (n := 1023) (by decide) h0 h1
        refine br_f h0 (br_f (na_nle (a := 1024) (b := c) rfl rfl (by omega) (by omega)) (br_f (by decide) ⟨vp_in_nI hs (by omega), ?_⟩))
        rw [nI_clamp (n := s) (by omega), e1]
        rcases hS s hs with h | ⟨m, vs, hon⟩
        · refine br_t h.1 ?_
          rw [ye_search]
          exact g2 _ v (br_t rfl (br_f h0 (br_t h1 ⟨vp_in_nI hs (by omega), br_f (by rw [nI_clamp (n := s) (by omega), h.2]; decide) ⟨rfl, i_up I⟩⟩)))
        · have hon : ml_on x v s bx m vs := hon
          have hon' := hon
          obtain ⟨hm, s1, s2, ht, hl, hsort, hbd, _, w1, w2, w3⟩ := hon'
          rw [s1]
          refine br_f (nI_ne0 (by omega) (by omega)) ⟨vp_in_nI hs (by omega), nm_r (nI_pred m) ?_⟩
          have hgo : ∀ j0, j0 ≤ 15 → (∀ i, i < vs.length → (¬ nI (i + 1) ≤ v4 ↔ j0 ≤ i)) → ∃ n69 : Nat, xc_search_69 (fun r u' => wpY_search (fun r' => r' = r ∧ i_Rel (k + 5) u' v) v (nI s) (nI c) v3 v4) (nI s) (nI c) v3 (nI m) n69 (nI (j0 + 1)) u := by
            intro j0 hj0 hiff
            have hyw : ∀ post : Int32 → Prop, (∃ n36 : Nat, yc_search_36 post (nI s) (nI c) v3 v4 v n36 1) → wpY_search post v (nI s) (nI c) v3 v4 := fun post h => by
              rw [ye_search]
              exact g2 _ v (br_t rfl (br_f h0 (br_t h1 ⟨vp_in_nI hs (by omega), br_t (by rw [nI_clamp (n := s) (by omega), s2]; exact nI_pos' (by omega)) h⟩)))
            refine ⟨vs.length + 1, se_x (by omega) hX hY hs (by omega) hon j0 (fun i t' u' a1 a2 a3 a4 r' => ?_) (fun hno t' u' r' => ?_) vs.length j0 t u (by omega) hj0 (Nat.le_refl _) hR (fun i' h1 h2 => absurd h2 (by omega))⟩
            · refine hyw _ ⟨vs.length + 1, se_y (after := v4) (by omega) r' hX hY hs (by omega) hon (fun i' b1 b2 b3 b4 => ⟨?_, hin t' u' r'⟩) (fun hno => absurd a3 (hno i a2 ((hiff i a2).mpr a1))) vs.length 0 (by omega) (by omega) (fun i' h => absurd h (by omega))⟩
              rcases Nat.lt_trichotomy i i' with h | h | h
              · exact absurd a3 (b4 i h ((hiff i a2).mpr a1))
              · rw [h]
              · exact absurd b3 (a4 i' ((hiff i' b1).mp b2) h)
            · exact hyw _ ⟨vs.length + 1, se_y (after := v4) (by omega) r' hX hY hs (by omega) hon (fun i' b1 b2 b3 b4 => absurd b3 (hno i' ((hiff i' b1).mp b2) b1)) (fun _ => ⟨rfl, hin t' u' r'⟩) vs.length 0 (by omega) (by omega) (fun i' h => absurd h (by omega))⟩
          by_cases h4 : 0 ≤ v4
          · obtain ⟨j, hj, rfl⟩ := nI_of (x := v4) (Int32.not_lt.mpr h4)
            refine br_t h4 (pk_lt j 16 (fun h => nm_r (nI_1 j) (hgo j (by omega) (fun i hi => ?_))) (fun h => hgo 15 (by omega) (fun i hi => ?_)))
            · rw [nI_leI (by omega) hj]; omega
            · rw [nI_leI (by omega) hj]; omega
          · refine br_f h4 (hgo 0 (by omega) (fun i hi => ⟨fun _ => by omega, fun _ h => h4 (Int32.le_trans (nI_pos' (n := i + 1) (by omega)) h)⟩))
      · have h2 : (1024 : Int32) ≤ v2 := by
          rw [Int32.le_iff_toInt_le] at h1 ⊢
          have e1 : (1023 : Int32).toInt = 1023 := by decide
          have e2 : (1024 : Int32).toInt = 1024 := by decide
          omega
        refine br_f h0 (br_t h2 (br_t rfl ?_))
        rw [ye_search]
        exact g2 _ v (br_t rfl (br_f h0 (br_f h1 ⟨rfl, i_up I⟩)))
end
section
/-! views: tell, fill; select -/
def vx_hd : List mb_Msg → Int32
  | [] => -2
  | a :: _ => nI a.1
def vx_w (x : ms_XT) (s : Nat) (vs : List Nat) : Prop := x.2.1 s = nI vs.length ∧ ∀ i n, vs[i]? = some n → x.2.2 (16 * s + i) = nI n
def vx_o (x x' : ms_XT) (s : Nat) : Prop := x'.1 = x.1 ∧ ∀ s', s' ≠ s → x'.2.1 s' = x.2.1 s' ∧ ∀ i, i < 14 → x'.2.2 (16 * s' + i) = x.2.2 (16 * s' + i)
theorem vx_t {x x' x'' : ms_XT} {s : Nat} (h1 : vx_o x x' s) (h2 : vx_o x' x'' s) : vx_o x x'' s := ⟨h2.1.trans h1.1, fun s' e => ⟨(h2.2 s' e).1.trans (h1.2 s' e).1, fun i hi => ((h2.2 s' e).2 i hi).trans ((h1.2 s' e).2 i hi)⟩⟩
theorem vx_R {K w : Nat} {V M : ms_M} {t : ms_TT} {y : ms_YT} {x : ms_XT} {u : SX} (h : ms_R K w V M t y x u) (a b : Nat → Int32) : ms_R K w V M t y (x.1, a, b) (xs_view (xs_viewLength u a) b) := by
  obtain ⟨hK, hB, hT, hY, rfl⟩ := h
  exact ⟨hK, hB, hT, hY, rfl⟩
theorem vx_app {x : ms_XT} {s n : Nat} {vs : List Nat} (h : vx_w x s vs) (hl : vs.length ≤ 13) : vx_w (x.1, upd x.2.1 s (nI (vs.length + 1)), upd x.2.2 (16 * s + vs.length) (nI n)) s (vs ++ [n]) ∧ vx_o x (x.1, upd x.2.1 s (nI (vs.length + 1)), upd x.2.2 (16 * s + vs.length) (nI n)) s := by
  refine ⟨⟨?_, fun i n' hi => ?_⟩, rfl, fun s' e => ⟨pk_un e, fun i hi => pk_un (by omega)⟩⟩
  · show upd x.2.1 s (nI (vs.length + 1)) s = _
    rw [pk_us]; simp
  · have hlt := ml_lt hi
    rw [List.length_append, List.length_cons, List.length_nil] at hlt
    show upd x.2.2 (16 * s + vs.length) (nI n) (16 * s + i) = nI n'
    by_cases e : i = vs.length
    · subst e
      rw [tw_mid, Option.some.injEq] at hi
      subst hi
      exact pk_us
    · rw [List.getElem?_append_left (by omega)] at hi
      rw [pk_un (by omega)]
      exact h.2 i n' hi
theorem tx_loop {post : Int32 → SX → Prop} {K w : Nat} {V : ms_M} {m s : Nat} {y : ms_YT} {nx hg : Nat} {ms : List mb_Msg} (hm : m < 4) (hs : s < 3) (hB : mb_ms (V m) nx hg ms) (hnx : nx < 900000) :
    ∀ (C A : List mb_Msg) (vs : List Nat) (x : ms_XT) (t : ms_TT) (u : SX) (z : Int32) (c0 j : Nat), ms = A ++ C → ms_R K w V V t y x u → vx_w x s vs → vs.length + C.length ≤ 14 → j + C.length ≤ 14 → z = vx_hd C →
    (∀ (x' : ms_XT) (t' : ms_TT) (u' : SX), ms_R K w V V t' y x' u' → vx_w x' s (vs ++ C.map (fun a => a.1)) → vx_o x x' s → post (nI (c0 + C.length)) u') →
    xc_tell_15 post (nI s) (nI m) (C.length + 1) (nI c0) z (nI j) u := by
  intro C
  induction C with
  | nil =>
    intro A vs x t u z c0 j e hR hv h1 h2 hz k
    subst hz
    have hk := k x t u hR (by simpa using hv) ⟨rfl, fun _ _ => ⟨rfl, fun _ _ => rfl⟩⟩
    rw [xe_tell_15]
    exact br_c (fun _ => hk) (fun _ => br_t (by decide) hk)
  | cons a C ih =>
    intro A vs x t u z c0 j e hR hv h1 h2 hz k
    have hz : z = nI a.1 := hz
    subst hz
    rw [List.length_cons] at h1 h2
    obtain ⟨_, a14, an1, anx, _, _⟩ := hB.1 a (by rw [e]; simp)
    have hsort := hB.2.1
    rw [e, List.pairwise_append, List.pairwise_cons] at hsort
    have ta : (nI a.1).toInt = (a.1 : Int) := nI_toInt (by omega)
    obtain ⟨e1, e2, e3⟩ := ml_xs hR.2.2.2.2
    rw [List.length_cons, xe_tell_15, nI_clamp (n := s) (by omega), e2, e3, hv.1, na_16, nI_clamp (n := 16 * s + vs.length) (by omega), nI_1]
    refine br_f (na_nle (a := 14) (b := j) rfl rfl (by omega) (by omega)) (br_f (nI_nle (by omega) (by omega)) ⟨vp_in_nI hs (by omega), vp_in_nI (by omega) (by omega), nm_e ⟨vp_in_nI hs (by omega), vp_in_nI hs (by omega), nm_e (nm_r (nI_1 c0) ?_)⟩⟩)
    have hR2 := vx_R hR (upd x.2.1 s (nI (vs.length + 1))) (upd x.2.2 (16 * s + vs.length) (nI a.1))
    obtain ⟨v1, v2⟩ := vx_app (n := a.1) hv (by omega)
    have hgo : ∀ (z' : Int32) (t3 : ms_TT) (u3 : SX), z' = vx_hd C → ms_RB K w V m y (x.1, upd x.2.1 s (nI (vs.length + 1)), upd x.2.2 (16 * s + vs.length) (nI a.1)) (V m) t3 u3 → xc_tell_15 post (nI s) (nI m) (C.length + 1) (nI (c0 + 1)) z' (nI (j + 1)) u3 := by
      intro z' t3 u3 hz' r3
      refine ih (A ++ [a]) (vs ++ [a.1]) _ t3 u3 z' (c0 + 1) (j + 1) (by rw [e]; simp) (ml_BR r3) v1 (by rw [List.length_append, List.length_cons, List.length_nil]; omega) (by omega) hz' (fun x' t' u' r' w1 w2 => ?_)
      have hk := k x' t' u' r' (by simpa using w1) (vx_t v2 w2)
      rw [List.length_cons, show c0 + (C.length + 1) = c0 + 1 + C.length from by omega] at hk
      exact hk
    refine mb_nx (A := A ++ [a]) (C := C) (ml_RB m hR2) hm rfl rfl (nI a.1) hB hnx (by rw [e]; simp) (fun b hb => ?_) (fun b hb => ?_) (fun b Q t3 u3 eQ r3 => nm_r (nI_1 j) (hgo _ t3 u3 (by rw [eQ]; rfl) r3)) (fun eQ t3 u3 r3 => nm_r (nI_1 j) (hgo _ t3 u3 (by rw [eQ]; rfl) r3))
    · rw [ta]
      rcases List.mem_append.mp hb with h | h
      · have := hsort.2.2 b h a (by simp); omega
      · rw [List.mem_singleton] at h; rw [h]; exact Int.le_refl _
    · rw [ta]
      have := hsort.2.1.1 b hb; omega
theorem tx_tell {post : Int32 → SX → Prop} {K w : Nat} {V : ms_M} {m s : Nat} {y : ms_YT} {nx hg : Nat} {ms A C : List mb_Msg} {vs : List Nat} {x : ms_XT} {t : ms_TT} {u : SX} {ps pm bound : Int32} (hm : m < 4) (hs : s < 3) (es : ps = nI s) (em : pm = nI m) (hB : mb_ms (V m) nx hg ms) (hnx : nx < 900000) (hR : ms_R K w V V t y x u) (hAC : ms = A ++ C) (hA : ∀ a, a ∈ A → (a.1 : Int) ≤ bound.toInt) (hC : ∀ a, a ∈ C → bound.toInt < (a.1 : Int)) (hv : vx_w x s vs) (hl : vs.length + C.length ≤ 14)
    (k : ∀ (x' : ms_XT) (t' : ms_TT) (u' : SX), ms_R K w V V t' y x' u' → vx_w x' s (vs ++ C.map (fun a => a.1)) → vx_o x x' s → post (nI C.length) u') : wpX_tell post u ps pm bound := by
  subst es em
  rw [xe_tell]
  have hgo : ∀ (z' : Int32) (t3 : ms_TT) (u3 : SX), z' = vx_hd C → ms_RB K w V m y x (V m) t3 u3 → ∃ n15 : Nat, xc_tell_15 post (nI s) (nI m) n15 0 z' 0 u3 := fun z' t3 u3 hz' r3 => ⟨C.length + 1, tx_loop hm hs hB hnx C A vs x t3 u3 z' 0 0 hAC (ml_BR r3) hv hl (by omega) hz' (fun x' t' u' r' w1 w2 => by rw [Nat.zero_add]; exact k x' t' u' r' w1 w2)⟩
  exact mb_nx (A := A) (C := C) (ml_RB m hR) hm rfl rfl bound hB hnx hAC hA hC (fun b Q t3 u3 eQ r3 => hgo _ t3 u3 (by rw [eQ]; rfl) r3) (fun eQ t3 u3 r3 => hgo _ t3 u3 (by rw [eQ]; rfl) r3)
/-! the reference's views -/
def vy_mk (v : SY) (ln vw : Nat → Int32) : SY := (yg_validities v, yg_there v, yg_validity v, yg_next v, yg_highest v, yg_counts v, yg_numbers v, yg_sizes v, yg_flags v, yg_changes v, yg_selected v, ln, vw)
theorem vy_1 (v : SY) (ln vw a b : Nat → Int32) : ys_views (ys_lengths (vy_mk v ln vw) a) b = vy_mk v a b := rfl
theorem vy_2 (v : SY) : v = vy_mk v (yg_lengths v) (yg_views v) := rfl
theorem vy_g1 (v : SY) (ln vw : Nat → Int32) : yg_lengths (vy_mk v ln vw) = ln := rfl
theorem vy_g2 (v : SY) (ln vw : Nat → Int32) : yg_views (vy_mk v ln vw) = vw := rfl
theorem vy_g3 (v : SY) (ln vw : Nat → Int32) : yg_numbers (vy_mk v ln vw) = yg_numbers v := rfl
theorem vy_g4 (v : SY) (ln vw : Nat → Int32) : yg_counts (vy_mk v ln vw) = yg_counts v := rfl
theorem vy_g5 (v : SY) (ln vw : Nat → Int32) : yg_selected (vy_mk v ln vw) = yg_selected v := rfl
def vy_w (s : Nat) (vs : List Nat) (ln vw : Nat → Int32) : Prop := ln s = nI vs.length ∧ ∀ i n, vs[i]? = some n → vw (14 * s + i) = nI n
def vy_o (s : Nat) (ln vw ln' vw' : Nat → Int32) : Prop := ∀ s', s' ≠ s → ln' s' = ln s' ∧ ∀ i, i < 14 → vw' (14 * s' + i) = vw (14 * s' + i)
theorem vy_t {s : Nat} {a b c d e f : Nat → Int32} (h1 : vy_o s a b c d) (h2 : vy_o s c d e f) : vy_o s a b e f := fun s' e => ⟨(h2 s' e).1.trans (h1 s' e).1, fun i hi => ((h2 s' e).2 i hi).trans ((h1 s' e).2 i hi)⟩
theorem vy_app {s n : Nat} {vs : List Nat} {ln vw : Nat → Int32} (h : vy_w s vs ln vw) (hl : vs.length ≤ 13) : vy_w s (vs ++ [n]) (upd ln s (nI (vs.length + 1))) (upd vw (14 * s + vs.length) (nI n)) ∧ vy_o s ln vw (upd ln s (nI (vs.length + 1))) (upd vw (14 * s + vs.length) (nI n)) := by
  refine ⟨⟨?_, fun i n' hi => ?_⟩, fun s' e => ⟨pk_un e, fun i hi => pk_un (by omega)⟩⟩
  · rw [pk_us]; simp
  · have hlt := ml_lt hi
    rw [List.length_append, List.length_cons, List.length_nil] at hlt
    by_cases e : i = vs.length
    · subst e
      rw [tw_mid, Option.some.injEq] at hi
      subst hi
      exact pk_us
    · rw [List.getElem?_append_left (by omega)] at hi
      rw [pk_un (by omega)]
      exact h.2 i n' hi
def vy_ff : List Nat → List mb_Msg → List Nat
  | vs, [] => vs
  | vs, a :: L => if a.1 ∈ vs then vy_ff vs L else vy_ff (vs ++ [a.1]) L
theorem vy_ff_l : ∀ (L : List mb_Msg) (vs : List Nat), vs.length ≤ (vy_ff vs L).length := by
  intro L
  induction L with
  | nil => intro vs; exact Nat.le_refl _
  | cons a L ih =>
    intro vs
    unfold vy_ff
    split
    · exact ih vs
    · have := ih (vs ++ [a.1])
      rw [List.length_append] at this
      omega
theorem vy_ff_in : ∀ (A C : List mb_Msg) (vs : List Nat), (∀ a, a ∈ A → a.1 ∈ vs) → vy_ff vs (A ++ C) = vy_ff vs C := by
  intro A
  induction A with
  | nil => intro C vs _; rfl
  | cons a A ih =>
    intro C vs h
    show (if a.1 ∈ vs then vy_ff vs (A ++ C) else vy_ff (vs ++ [a.1]) (A ++ C)) = _
    rw [if_pos (h a (by simp))]
    exact ih C vs (fun b hb => h b (by simp [hb]))
theorem vy_ff_out : ∀ (C : List mb_Msg) (vs : List Nat), C.Pairwise (fun a b => a.1 < b.1) → (∀ a, a ∈ C → ¬ a.1 ∈ vs) → vy_ff vs C = vs ++ C.map (fun a => a.1) := by
  intro C
  induction C with
  | nil => intro vs _ _; simp [vy_ff]
  | cons a C ih =>
    intro vs hp h
    rw [List.pairwise_cons] at hp
    show (if a.1 ∈ vs then vy_ff vs C else vy_ff (vs ++ [a.1]) C) = _
    rw [if_neg (h a (by simp)), ih (vs ++ [a.1]) hp.2 (fun b hb hin => ?_)]
    · simp
    · rcases List.mem_append.mp hin with h1 | h1
      · exact h b (by simp [hb]) h1
      · rw [List.mem_singleton] at h1
        have := hp.1 b hb
        omega
theorem ty_in {post : Int32 → SY → Prop} {J : Int32 → SY → Prop} {v : SY} {ln vw : Nat → Int32} {s idx n : Nat} {vs : List Nat} {p2 p3 : Int32} (hs : s < 3) (hidx : idx < 56) (hl : vs.length ≤ 14) (hw : vy_w s vs ln vw) (hb : ∀ c, c ∈ vs → c < 3000) (hn : n < 3000) (hnum : yg_numbers v idx = nI n)
    (k1 : n ∈ vs → J (nI (idx + 1)) (vy_mk v ln vw)) (k0 : ¬ n ∈ vs → vs.length ≤ 13 ∧ J (nI (idx + 1)) (vy_mk v (upd ln s (nI (vs.length + 1))) (upd vw (14 * s + vs.length) (nI n)))) :
    ∀ (d i : Nat) (sn : Int32), i + d = vs.length → ((sn = 0 ∧ ∀ i' c, i' < i → vs[i']? = some c → c ≠ n) ∨ (sn = 1 ∧ n ∈ vs)) → yc_fill_42 post J (nI s) p2 p3 (nI idx) (vy_mk v ln vw) (d + 1) sn (nI i) := by
  intro d
  induction d with
  | zero =>
    intro i sn hi hsn
    have hi' : i = vs.length := by omega
    subst hi'
    rw [ye_fill_42, vy_g1, vy_g2, vy_g3, nI_clamp (n := s) (by omega), hw.1, nI_clamp (n := idx) (by omega), hnum, na_14, nI_1]
    refine ⟨vp_in_nI hs (by omega), br_t (Int32.le_refl _) ?_⟩
    rcases hsn with ⟨rfl, h⟩ | ⟨rfl, h⟩
    · have hno : ¬ n ∈ vs := by
        intro hin
        obtain ⟨j, hj, e⟩ := List.getElem_of_mem hin
        exact h j _ hj (List.getElem?_eq_getElem hj) e
      obtain ⟨h13, hJ⟩ := k0 hno
      rw [nI_clamp (n := 14 * s + vs.length) (by omega)]
      refine br_t rfl ⟨vp_in_nI hs (by omega), vp_in_nI hidx (by omega), vp_in_nI (by omega) (by omega), nm_e ⟨vp_in_nI hs (by omega), vp_in_nI hs (by omega), nm_e (nm_r (nI_1 idx) ?_)⟩⟩
      rw [vy_1]
      exact hJ
    · exact br_f (by decide) (nm_r (nI_1 idx) (k1 h))
  | succ d ih =>
    intro i sn hi hsn
    have hlt : i < vs.length := by omega
    have hg : vs[i]? = some vs[i] := List.getElem?_eq_getElem hlt
    have hbi := hb _ (List.getElem_mem hlt)
    rw [ye_fill_42, vy_g1, vy_g2, vy_g3, nI_clamp (n := s) (by omega), hw.1, nI_clamp (n := idx) (by omega), hnum, na_14, na_14, nI_clamp (n := 14 * s + i) (by omega), hw.2 i _ hg]
    refine ⟨vp_in_nI hs (by omega), br_f (nI_ge (by omega) (by omega)) ?_⟩
    rcases hsn with ⟨rfl, h⟩ | ⟨rfl, h⟩
    · refine br_t rfl ⟨vp_in_nI (by omega) (by omega), vp_in_nI hidx (by omega), pk_eq vs[i] n (fun e => nm_r (nI_1 i) (ih (i + 1) 1 (by omega) (Or.inr ⟨rfl, by rw [← e]; exact List.getElem_mem hlt⟩))) (fun e => nm_r (nI_1 i) (ih (i + 1) 0 (by omega) (Or.inl ⟨rfl, fun i' c h1 h2 => ?_⟩)))⟩
      by_cases e' : i' = i
      · subst e'
        rw [hg, Option.some.injEq] at h2
        rw [← h2]; exact e
      · exact h i' c (by omega) h2
    · exact br_f (by decide) (nm_r (nI_1 i) (ih (i + 1) 1 (by omega) (Or.inr ⟨rfl, h⟩)))
theorem ty_loop {post : Int32 → SY → Prop} {v : SY} {s m b0 : Nat} {ms : List mb_Msg} (hs : s < 3) (hm : m < 4) (hlen : ms.length ≤ 14) (hc : yg_counts v m = nI ms.length) (hyl : ml_yl v m ms) (hbm : ∀ a, a ∈ ms → a.1 < 3000) :
    ∀ (L A : List mb_Msg) (vs : List Nat) (ln vw : Nat → Int32), ms = A ++ L → vy_w s vs ln vw → (∀ c, c ∈ vs → c < 3000) → (vy_ff vs L).length ≤ 14 → b0 ≤ vs.length →
    (∀ ln' vw', vy_w s (vy_ff vs L) ln' vw' → vy_o s ln vw ln' vw' → post (nI ((vy_ff vs L).length - b0)) (vy_mk v ln' vw')) →
    yc_fill_20 post (nI s) (nI m) (nI b0) (L.length + 1) (nI (14 * m + A.length)) (vy_mk v ln vw) := by
  intro L
  induction L with
  | nil =>
    intro A vs ln vw e hw hb h14 hb0 k
    rw [List.append_nil] at e
    subst e
    have h14 : vs.length ≤ 14 := h14
    rw [List.length_nil, ye_fill_20, vy_g1, vy_g4, na_m14, nI_clamp (n := m) (by omega), nI_clamp (n := s) (by omega), hc, hw.1, nI_add, pk_sub hb0]
    exact ⟨vp_in_nI hm (by omega), br_t (Int32.le_refl _) ⟨vp_in_nI hs (by omega), k ln vw hw (fun _ _ => ⟨rfl, fun _ _ => rfl⟩)⟩⟩
  | cons a L ih =>
    intro A vs ln vw e hw hb h14 hb0 k
    have el : ms.length = A.length + L.length + 1 := by rw [e]; simp; omega
    have hg := hyl A.length a (by rw [e]; exact tw_mid A a L)
    have ha := hbm a (by rw [e]; simp)
    have h14' := Nat.le_trans (vy_ff_l (a :: L) vs) h14
    rw [List.length_cons, ye_fill_20, vy_g4, na_m14, nI_clamp (n := m) (by omega), hc, nI_add]
    refine ⟨vp_in_nI hm (by omega), br_f (nI_ge (by omega) (by omega)) ⟨vs.length + 1, ?_⟩⟩
    have hff : vy_ff vs (a :: L) = if a.1 ∈ vs then vy_ff vs L else vy_ff (vs ++ [a.1]) L := rfl
    refine ty_in hs (by omega) h14' hw hb ha hg.1 (fun hin => ?_) (fun hno => ?_) vs.length 0 0 (by omega) (Or.inl ⟨rfl, fun i' c h => absurd h (by omega)⟩)
    · rw [hff, if_pos hin] at h14 k
      have h := ih (A ++ [a]) vs ln vw (by rw [e]; simp) hw hb h14 hb0 k
      rw [List.length_append] at h
      exact h
    · rw [hff, if_neg hno] at h14 k
      have hl2 := Nat.le_trans (vy_ff_l L (vs ++ [a.1])) h14
      rw [List.length_append, List.length_cons, List.length_nil] at hl2
      obtain ⟨w1, w2⟩ := vy_app (n := a.1) hw (by omega)
      refine ⟨by omega, ?_⟩
      have h := ih (A ++ [a]) (vs ++ [a.1]) _ _ (by rw [e]; simp) w1 (fun c hc => ?_) h14 (by rw [List.length_append]; omega) (fun ln' vw' z1 z2 => k ln' vw' z1 (vy_t w2 z2))
      · rw [List.length_append] at h
        exact h
      · rcases List.mem_append.mp hc with h1 | h1
        · exact hb c h1
        · rw [List.mem_singleton] at h1; rw [h1]; exact ha
theorem ty_fill {post : Int32 → SY → Prop} {v : SY} {s m : Nat} {ms A C : List mb_Msg} {vs : List Nat} {ln vw : Nat → Int32} (hs : s < 3) (hm : m < 4) (hsel : yg_selected v s = nI m) (hlen : ms.length ≤ 14) (hc : yg_counts v m = nI ms.length) (hyl : ml_yl v m ms) (hbm : ∀ a, a ∈ ms → a.1 < 3000) (hw : vy_w s vs ln vw) (hb : ∀ c, c ∈ vs → c < 3000) (hAC : ms = A ++ C) (hA : ∀ a, a ∈ A → a.1 ∈ vs) (hC : ∀ a, a ∈ C → ¬ a.1 ∈ vs) (hsort : ms.Pairwise (fun a b => a.1 < b.1)) (h14 : vs.length + C.length ≤ 14)
    (k : ∀ ln' vw', vy_w s (vs ++ C.map (fun a => a.1)) ln' vw' → vy_o s ln vw ln' vw' → post (nI C.length) (vy_mk v ln' vw')) : wpY_fill post (vy_mk v ln vw) (nI s) := by
  have hff : vy_ff vs ms = vs ++ C.map (fun a => a.1) := by
    rw [hAC, vy_ff_in A C vs hA]
    rw [hAC, List.pairwise_append] at hsort
    exact vy_ff_out C vs hsort.2.1 hC
  rw [ye_fill, vy_g5, vy_g1, nI_clamp (n := s) (by omega), hsel, hw.1]
  refine ⟨vp_in_nI hs (by omega), nm_e ⟨vp_in_nI hs (by omega), nm_e (nm_r (na_m14 m) ⟨ms.length + 1, ?_⟩)⟩⟩
  refine ty_loop hs hm hlen hc hyl hbm ms [] vs ln vw rfl hw hb (by rw [hff, List.length_append, List.length_map]; exact h14) (Nat.le_refl _) (fun ln' vw' z1 z2 => ?_)
  rw [hff] at z1 ⊢
  rw [List.length_append, List.length_map, Nat.add_sub_cancel_left]
  exact k ln' vw' z1 z2
end
section
/-! select -/
theorem vx_sR {K w : Nat} {V M : ms_M} {t : ms_TT} {y : ms_YT} {x : ms_XT} {u : SX} (h : ms_R K w V M t y x u) (a b : Nat → Int32) : ms_R K w V M t y (a, b, x.2.2) (xs_viewLength (xs_selected u a) b) := by
  obtain ⟨hK, hB, hT, hY, rfl⟩ := h
  exact ⟨hK, hB, hT, hY, rfl⟩
def vy_sl (v : SY) (a : Nat → Int32) : SY := (yg_validities v, yg_there v, yg_validity v, yg_next v, yg_highest v, yg_counts v, yg_numbers v, yg_sizes v, yg_flags v, yg_changes v, a, yg_lengths v, yg_views v)
theorem vy_3 (v : SY) (a b : Nat → Int32) : ys_lengths (ys_selected v a) b = vy_mk (vy_sl v a) b (yg_views v) := rfl
theorem vy_g6 (v : SY) (a : Nat → Int32) : yg_selected (vy_sl v a) = a := rfl
theorem vy_yl (v : SY) (a : Nat → Int32) (m : Nat) (ms : List mb_Msg) (h : ml_yl v m ms) : ml_yl (vy_sl v a) m ms := h
theorem vy_yc (v : SY) (a : Nat → Int32) (m : Nat) : yg_counts (vy_sl v a) m = yg_counts v m := rfl
theorem vy_yf (v : SY) (a ln vw : Nat → Int32) (j : Nat) : ml_ye v (vy_mk (vy_sl v a) ln vw) j := ⟨rfl, rfl, rfl, rfl, rfl, fun _ _ => ⟨rfl, rfl, rfl, rfl⟩⟩
theorem vy_vf (v : SY) (ln vw : Nat → Int32) (j : Nat) : ml_ye v (vy_mk v ln vw) j := ⟨rfl, rfl, rfl, rfl, rfl, fun _ _ => ⟨rfl, rfl, rfl, rfl⟩⟩
theorem vy_g7 (v : SY) (a ln vw : Nat → Int32) : yg_selected (vy_mk (vy_sl v a) ln vw) = a := rfl
theorem vy_W (k : Nat) (v : SY) (a ln vw : Nat → Int32) (bx : Nat → ml_B) (W : Nat) (h : ml_W k v bx W) : ml_W k (vy_mk (vy_sl v a) ln vw) bx W := h
theorem vy_W2 (k : Nat) (v : SY) (ln vw : Nat → Int32) (bx : Nat → ml_B) (W : Nat) (h : ml_W k v bx W) : ml_W k (vy_mk v ln vw) bx W := h
theorem vx_map (ms : List mb_Msg) (h : ms.Pairwise (fun a b => a.1 < b.1)) : (ms.map (fun a => a.1)).Pairwise (fun a b => a < b) := by
  rw [List.pairwise_map]; exact h
theorem i_vc_select {k : Nat} {u : SX} {v : SY} (I : i_Rel k u v) (hk : k + 5 ≤ 2560) (v1 v2 : Int32) : wpX_select (fun r u' => wpY_select (fun r' v' => r' = r ∧ i_Rel (k + 5) u' v') v v1 v2) u v1 v2 := by
  obtain ⟨V, t, y, x, bx, W, hR, hrest⟩ := ml_out hk I
  have hup := ml_up hrest (k' := k + 5) (by omega)
  rw [xe_select]
  rcases ml_is v1 with ⟨g1, g2⟩ | ⟨s, hs, rfl, g1, g2⟩
  · refine g1 _ (br_t rfl ?_)
    rw [ye_select]
    exact g2 _ v (br_f (by decide) ⟨rfl, i_up I⟩)
  refine g1 _ (br_f (by decide) ?_)
  rcases ml_ib v2 with ⟨h1, h2⟩ | ⟨m, hm, rfl, h1, h2⟩
  · refine h1 _ (br_t rfl ?_)
    rw [ye_select]
    exact g2 _ v (br_t rfl (h2 _ v (br_f (by decide) ⟨rfl, i_up I⟩)))
  refine h1 _ (br_f (by decide) ?_)
  have hX := hrest.1 m hm
  have hY := hrest.2.1 m hm
  refine ml_there hR hm rfl hX (fun ht u6 r6 => ?_) (fun ht u6 r6 => br_t rfl ?_)
  · obtain ⟨⟨n1, n2, n3⟩, _, _, _, hc, hyl⟩ := hY.2.2.2.2 ht
    obtain ⟨bms, bnx, _⟩ := ml_nx hX hY ht (by omega)
    have hB := hX.2.2.2.2.2
    obtain ⟨e1, e2, e3⟩ := ml_xs r6.2.2.2.2
    refine br_f (by decide) ⟨vp_in_nI hs (by omega), nm_e ⟨vp_in_nI hs (by omega), nm_e ?_⟩⟩
    rw [nI_clamp (n := s) (by omega), nI_1, e1, e2]
    refine tx_tell (A := []) (vs := []) hm hs rfl rfl hB (by omega) (vx_sR r6 _ _) rfl (fun a ha => absurd ha (by simp)) (fun a ha => ?_) ⟨pk_us, fun i n h => absurd h (by simp)⟩ (by simpa using hY.2.2.1) (fun x' t' u' r' w1 w2 => ?_)
    · have := (bms a ha).1
      show (0 : Int) < _
      omega
    rw [ye_select]
    refine g2 _ v (br_t rfl (h2 _ v (br_t rfl ⟨vp_in_nI hm (by omega), br_f ?_ ⟨vp_in_nI hs (by omega), nm_e ⟨vp_in_nI hs (by omega), nm_e ?_⟩⟩⟩)))
    · rw [nI_clamp (n := m) (by omega), hY.1, ht]; decide
    rw [nI_clamp (n := s) (by omega), vy_3]
    refine ty_fill (A := []) (vs := []) hs hm (by rw [vy_g6]; exact pk_us) hY.2.2.1 (by rw [vy_yc]; exact hc) (vy_yl v _ m _ hyl) (fun a ha => (bms a ha).2.1) ⟨pk_us, fun i n h => absurd h (by simp)⟩ (fun c h => absurd h (by simp)) rfl (fun a ha => absurd ha (by simp)) (fun a _ h => absurd h (by simp)) hB.2.1 (by simpa using hY.2.2.1) (fun ln' vw' z1 z2 => ⟨rfl, ?_⟩)
    rw [List.nil_append] at w1 z1
    obtain ⟨gX, gY, gS, gW⟩ := hup
    refine ml_in (bx := bx) (W := W) hk r' (by omega) ⟨gX, fun j hj => ml_Yf (gY j hj) (vy_yf v _ _ _ j), fun s' hs' => ?_, vy_W _ v _ _ _ _ _ gW⟩
    by_cases e : s' = s
    · subst e
      refine Or.inr ⟨m, (bx m).2.2.2.2.2.map (fun a : mb_Msg => a.1), hm, ?_, ?_, ht, by rw [List.length_map]; exact hY.2.2.1, vx_map _ hB.2.1, fun n hn => ?_, fun a ha => Or.inl (List.mem_map.mpr ⟨a, ha, rfl⟩), w1.1, by rw [vy_g1]; exact z1.1, fun i n h => ⟨w1.2 i n h, by rw [vy_g2]; exact z1.2 i n h⟩⟩
      · rw [w2.1]; exact pk_us
      · rw [vy_g7]; exact pk_us
      · obtain ⟨a, ha, rfl⟩ := List.mem_map.mp hn
        obtain ⟨_, _, q1, q2, _⟩ := hB.1 a ha
        exact ⟨q1, q2⟩
    · have q1 := w2.2 s' e
      have q2 := z2 s' e
      refine ml_Sf (gS s' hs') ⟨by rw [w2.1]; exact pk_un e, by rw [vy_g7]; exact pk_un e, q1.1.trans (pk_un e), q2.1.trans (pk_un e), fun i hi => ⟨q1.2 i hi, q2.2 i hi⟩⟩ (fun j hj ht => ⟨ht, Nat.le_refl _, fun a ha => Or.inl ⟨a, ha, rfl⟩⟩)
  · rw [ye_select]
    refine g2 _ v (br_t rfl (h2 _ v (br_t rfl ⟨vp_in_nI hm (by omega), br_t ?_ ⟨rfl, ?_⟩⟩)))
    · rw [nI_clamp (n := m) (by omega), hY.1, ht]; rfl
    · exact ml_in (bx := bx) (W := W) hk r6 (by omega) hup
end
section
/-! forgetGone, dropGone: a view keeps the numbers that are still there -/
def vx_p (ms : List mb_Msg) (n : Nat) : Bool := ms.any (fun a => a.1 == n)
theorem vx_p_t {ms : List mb_Msg} {n : Nat} {a : mb_Msg} (h : a ∈ ms) (e : a.1 = n) : vx_p ms n = true := by
  unfold vx_p
  rw [List.any_eq_true]
  exact ⟨a, h, by rw [e]; exact beq_self_eq_true n⟩
theorem vx_p_f {ms : List mb_Msg} {n : Nat} (h : ∀ a, a ∈ ms → a.1 ≠ n) : vx_p ms n = false := by
  unfold vx_p
  rw [List.any_eq_false]
  intro a ha e
  exact h a ha (eq_of_beq e)
theorem vx_p_ex {ms : List mb_Msg} {n : Nat} (h : vx_p ms n = true) : ∃ a, a ∈ ms ∧ a.1 = n := by
  unfold vx_p at h
  rw [List.any_eq_true] at h
  obtain ⟨a, ha, e⟩ := h
  exact ⟨a, ha, eq_of_beq e⟩
theorem vx_vR {K w : Nat} {V M : ms_M} {t : ms_TT} {y : ms_YT} {x : ms_XT} {u : SX} (h : ms_R K w V M t y x u) (b : Nat → Int32) : ms_R K w V M t y (x.1, x.2.1, b) (xs_view u b) := by
  obtain ⟨hK, hB, hT, hY, rfl⟩ := h
  exact ⟨hK, hB, hT, hY, rfl⟩
theorem vx_lR {K w : Nat} {V M : ms_M} {t : ms_TT} {y : ms_YT} {x : ms_XT} {u : SX} (h : ms_R K w V M t y x u) (a : Nat → Int32) : ms_R K w V M t y (x.1, a, x.2.2) (xs_viewLength u a) := by
  obtain ⟨hK, hB, hT, hY, rfl⟩ := h
  exact ⟨hK, hB, hT, hY, rfl⟩
theorem vx_cons {a : Nat} {D : List Nat} {f : Nat → Int32} {j : Nat} (h : ∀ i n, (a :: D)[i]? = some n → f (j + i) = nI n) : f j = nI a ∧ ∀ i n, D[i]? = some n → f (j + 1 + i) = nI n := by
  refine ⟨h 0 a rfl, fun i n hi => ?_⟩
  have := h (i + 1) n (by simpa using hi)
  rw [show j + 1 + i = j + (i + 1) from by omega]
  exact this
theorem vx_forget {post : Int32 → SX → Prop} {K w : Nat} {V : ms_M} {m s : Nat} {y : ms_YT} {nx hg : Nat} {ms : List mb_Msg} (hm : m < 4) (hs : s < 3) (hB : mb_ms (V m) nx hg ms) {L0 : Nat} (hL : L0 ≤ 14) :
    ∀ (D kept : List Nat) (j : Nat) (x : ms_XT) (t : ms_TT) (u : SX), j + D.length = L0 → kept.length ≤ j → ms_R K w V V t y x u → x.2.1 s = nI L0 → (∀ i n, kept[i]? = some n → x.2.2 (16 * s + i) = nI n) → (∀ i n, D[i]? = some n → x.2.2 (16 * s + j + i) = nI n) → (∀ n, n ∈ D → n < 3000) →
    (∀ (x' : ms_XT) (t' : ms_TT) (u' : SX), ms_R K w V V t' y x' u' → vx_w x' s (kept ++ D.filter (vx_p ms)) → vx_o x x' s → post (nI (L0 - (kept ++ D.filter (vx_p ms)).length)) u') →
    xc_forgetGone_5 post (nI s) (nI m) (D.length + 1) (nI kept.length) (nI j) u := by
  intro D
  induction D with
  | nil =>
    intro kept j x t u hj hkj hR hl hk hd hb k
    rw [List.length_nil] at hj
    have hj' : j = L0 := by omega
    subst hj'
    rw [List.filter_nil, List.append_nil] at k
    obtain ⟨e1, e2, e3⟩ := ml_xs hR.2.2.2.2
    rw [List.length_nil, xe_forgetGone_5, nI_clamp (n := s) (by omega), e2, hl]
    refine ⟨vp_in_nI hs (by omega), br_t (Int32.le_refl _) ⟨vp_in_nI hs (by omega), nm_r (pk_sub hkj) ⟨vp_in_nI hs (by omega), nm_e ?_⟩⟩⟩
    exact k _ t _ (vx_lR hR _) ⟨pk_us, hk⟩ ⟨rfl, fun s' e => ⟨pk_un e, fun _ _ => rfl⟩⟩
  | cons a D ih =>
    intro kept j x t u hj hkj hR hl hk hd hb k
    rw [List.length_cons] at hj
    obtain ⟨e1, e2, e3⟩ := ml_xs hR.2.2.2.2
    obtain ⟨d1, d2⟩ := vx_cons (f := x.2.2) (j := 16 * s + j) hd
    have ha := hb a (by simp)
    have ta : (nI a).toInt = (a : Int) := nI_toInt (by omega)
    have hb' : ∀ n, n ∈ D → n < 3000 := fun n hn => hb n (by simp [hn])
    rw [List.length_cons, xe_forgetGone_5, nI_clamp (n := s) (by omega), e2, e3, hl, na_16, nI_clamp (n := 16 * s + j) (by omega), d1]
    refine ⟨vp_in_nI hs (by omega), br_f (nI_ge (by omega) (by omega)) ⟨vp_in_nI (by omega) (by omega), nm_e ?_⟩⟩
    refine mb_recof (ml_RB m hR) hm rfl (nI a) hB (fun P c Q t3 u3 h1 h2 r3 => ?_) (fun hno t3 u3 r3 => ?_)
    · have hc : c ∈ ms := by rw [h1]; simp
      obtain ⟨_, c14, _⟩ := hB.1 c hc
      have hp : vx_p ms a = true := vx_p_t hc (by rw [ta] at h2; omega)
      have r4 := ml_BR r3
      obtain ⟨f1, f2, f3⟩ := ml_xs r4.2.2.2.2
      rw [List.filter_cons, if_pos hp] at k
      rw [na_16, nI_clamp (n := 16 * s + kept.length) (by omega), f3]
      refine br_f (nI_pos (by omega)) ⟨vp_in_nI (by omega) (by omega), nm_e (nm_r (nI_1 _) (nm_r (nI_1 j) ?_))⟩
      have h := ih (kept ++ [a]) (j + 1) (x.1, x.2.1, upd x.2.2 (16 * s + kept.length) (nI a)) t3 _ (by omega) (by rw [List.length_append, List.length_cons, List.length_nil]; omega) (vx_vR r4 _) hl (fun i n hi => ?_) (fun i n hi => ?_) hb' (fun x' t' u' r' w1 w2 => ?_)
      · rw [List.length_append, List.length_cons, List.length_nil] at h
        exact h
      · show upd x.2.2 (16 * s + kept.length) (nI a) (16 * s + i) = nI n
        by_cases e : i = kept.length
        · subst e
          rw [tw_mid, Option.some.injEq] at hi
          subst hi
          exact pk_us
        · have hlt := ml_lt hi
          rw [List.length_append, List.length_cons, List.length_nil] at hlt
          rw [List.getElem?_append_left (by omega)] at hi
          rw [pk_un (by omega)]
          exact hk i n hi
      · show upd x.2.2 (16 * s + kept.length) (nI a) (16 * s + (j + 1) + i) = nI n
        rw [pk_un (by omega), show 16 * s + (j + 1) + i = 16 * s + j + 1 + i from by omega]
        exact d2 i n hi
      · rw [List.append_assoc, List.singleton_append] at w1 ⊢
        refine k x' t' u' r' w1 (vx_t (x' := (x.1, x.2.1, upd x.2.2 (16 * s + kept.length) (nI a))) ⟨rfl, fun s' e => ⟨rfl, fun i hi => ?_⟩⟩ w2)
        exact pk_un (by omega)
    · have hp : vx_p ms a = false := vx_p_f (fun c hc e => hno c hc (by rw [ta, e]))
      rw [List.filter_cons, if_neg (by rw [hp]; decide)] at k
      refine br_t (by decide) (nm_r (nI_1 j) ?_)
      exact ih kept (j + 1) x t3 u3 (by omega) (by omega) (ml_BR r3) hl hk (fun i n hi => by rw [show 16 * s + (j + 1) + i = 16 * s + j + 1 + i from by omega]; exact d2 i n hi) hb' k
theorem tx_forget {post : Int32 → SX → Prop} {K w : Nat} {V : ms_M} {m s : Nat} {y : ms_YT} {nx hg : Nat} {ms : List mb_Msg} {vs : List Nat} {x : ms_XT} {t : ms_TT} {u : SX} {ps pm : Int32} (hm : m < 4) (hs : s < 3) (es : ps = nI s) (em : pm = nI m) (hB : mb_ms (V m) nx hg ms) (hR : ms_R K w V V t y x u) (hv : vx_w x s vs) (hl : vs.length ≤ 14) (hb : ∀ n, n ∈ vs → n < 3000)
    (k : ∀ (x' : ms_XT) (t' : ms_TT) (u' : SX), ms_R K w V V t' y x' u' → vx_w x' s (vs.filter (vx_p ms)) → vx_o x x' s → post (nI (vs.length - (vs.filter (vx_p ms)).length)) u') : wpX_forgetGone post u ps pm := by
  subst es em
  rw [xe_forgetGone]
  exact ⟨vs.length + 1, vx_forget hm hs hB hl vs [] 0 x t u (by omega) (Nat.le_refl _) hR hv.1 (fun i n h => absurd h (by simp)) (fun i n h => hv.2 i n h) hb k⟩
/-! the reference -/
theorem vy_5 (v : SY) (ln vw a : Nat → Int32) : ys_lengths (vy_mk v ln vw) a = vy_mk v a vw := rfl
theorem vy_6 (v : SY) (ln vw a : Nat → Int32) : ys_views (vy_mk v ln vw) a = vy_mk v ln a := rfl
theorem vy_drop {post : Int32 → SY → Prop} {k0 : Nat} {v : SY} {m s : Nat} {b : ml_B} {B : ms_B} (hk0 : k0 ≤ 2560) (hm : m < 4) (hs : s < 3) (hX : ml_X B b) (hY : ml_Y k0 v m b) (ht : b.1 = true) (hsel : yg_selected v s = nI m) {L0 : Nat} (hL : L0 ≤ 14) :
    ∀ (D kept : List Nat) (j : Nat) (ln vw : Nat → Int32), j + D.length = L0 → kept.length ≤ j → ln s = nI L0 → (∀ i n, kept[i]? = some n → vw (14 * s + i) = nI n) → (∀ i n, D[i]? = some n → vw (14 * s + j + i) = nI n) → (∀ n, n ∈ D → n < 3000) →
    (∀ ln' vw', vy_w s (kept ++ D.filter (vx_p b.2.2.2.2.2)) ln' vw' → vy_o s ln vw ln' vw' → post (nI (L0 - (kept ++ D.filter (vx_p b.2.2.2.2.2)).length)) (vy_mk v ln' vw')) →
    yc_dropGone_4 post (nI s) (D.length + 1) (nI kept.length) (nI j) (vy_mk v ln vw) := by
  intro D
  induction D with
  | nil =>
    intro kept j ln vw hj hkj hl hk hd hb k
    rw [List.length_nil] at hj
    have hj' : j = L0 := by omega
    subst hj'
    rw [List.filter_nil, List.append_nil] at k
    rw [List.length_nil, ye_dropGone_4, nI_clamp (n := s) (by omega), vy_g1, hl]
    refine ⟨vp_in_nI hs (by omega), br_t (Int32.le_refl _) ⟨vp_in_nI hs (by omega), nm_r (pk_sub hkj) ⟨vp_in_nI hs (by omega), nm_e ?_⟩⟩⟩
    rw [vy_5]
    exact k _ _ ⟨pk_us, hk⟩ (fun s' e => ⟨pk_un e, fun _ _ => rfl⟩)
  | cons a D ih =>
    intro kept j ln vw hj hkj hl hk hd hb k
    rw [List.length_cons] at hj
    obtain ⟨d1, d2⟩ := vx_cons (f := vw) (j := 14 * s + j) hd
    have ha := hb a (by simp)
    have ta : (nI a).toInt = (a : Int) := nI_toInt (by omega)
    have hb' : ∀ n, n ∈ D → n < 3000 := fun n hn => hb n (by simp [hn])
    rw [List.length_cons, ye_dropGone_4, nI_clamp (n := s) (by omega), vy_g1, vy_g2, vy_g5, hl, hsel, na_14, nI_clamp (n := 14 * s + j) (by omega), d1]
    refine ⟨vp_in_nI hs (by omega), br_f (nI_ge (by omega) (by omega)) ⟨vp_in_nI (by omega) (by omega), nm_e ⟨vp_in_nI hs (by omega), ?_⟩⟩⟩
    refine yf_find hk0 hm rfl hX (ml_Yf hY (vy_vf v ln vw m)) ht (fun P c Q h1 h2 => ?_) (fun hno => ?_)
    · have hc : c ∈ b.2.2.2.2.2 := by rw [h1]; simp
      have hp : vx_p b.2.2.2.2.2 a = true := vx_p_t hc (by rw [ta] at h2; omega)
      have hlen := hY.2.2.1
      rw [h1, List.length_append, List.length_cons] at hlen
      rw [List.filter_cons, if_pos hp] at k
      rw [na_14, nI_clamp (n := 14 * s + kept.length) (by omega)]
      refine br_f (nI_pos (by omega)) ⟨vp_in_nI (by omega) (by omega), nm_e (nm_r (nI_1 _) (nm_r (nI_1 j) ?_))⟩
      rw [vy_6]
      have h := ih (kept ++ [a]) (j + 1) ln (upd vw (14 * s + kept.length) (nI a)) (by omega) (by rw [List.length_append, List.length_cons, List.length_nil]; omega) hl (fun i n hi => ?_) (fun i n hi => ?_) hb' (fun ln' vw' w1 w2 => ?_)
      · rw [List.length_append, List.length_cons, List.length_nil] at h
        exact h
      · by_cases e : i = kept.length
        · subst e
          rw [tw_mid, Option.some.injEq] at hi
          subst hi
          exact pk_us
        · have hlt := ml_lt hi
          rw [List.length_append, List.length_cons, List.length_nil] at hlt
          rw [List.getElem?_append_left (by omega)] at hi
          rw [pk_un (by omega)]
          exact hk i n hi
      · rw [pk_un (by omega), show 14 * s + (j + 1) + i = 14 * s + j + 1 + i from by omega]
        exact d2 i n hi
      · rw [List.append_assoc, List.singleton_append] at w1 ⊢
        refine k ln' vw' w1 (vy_t (fun s' e => ⟨rfl, fun i hi => ?_⟩) w2)
        exact pk_un (by omega)
    · have hp : vx_p b.2.2.2.2.2 a = false := vx_p_f (fun c hc e => hno c hc (by rw [ta, e]))
      rw [List.filter_cons, if_neg (by rw [hp]; decide)] at k
      refine br_t (by decide) (nm_r (nI_1 j) ?_)
      exact ih kept (j + 1) ln vw (by omega) (by omega) hl hk (fun i n hi => by rw [show 14 * s + (j + 1) + i = 14 * s + j + 1 + i from by omega]; exact d2 i n hi) hb' k
theorem ty_drop {post : Int32 → SY → Prop} {k0 : Nat} {v : SY} {m s : Nat} {b : ml_B} {B : ms_B} {vs : List Nat} {ln vw : Nat → Int32} {ps : Int32} (hk0 : k0 ≤ 2560) (hm : m < 4) (hs : s < 3) (es : ps = nI s) (hX : ml_X B b) (hY : ml_Y k0 v m b) (ht : b.1 = true) (hsel : yg_selected v s = nI m) (hl : vs.length ≤ 14) (hw : vy_w s vs ln vw) (hb : ∀ n, n ∈ vs → n < 3000)
    (k : ∀ ln' vw', vy_w s (vs.filter (vx_p b.2.2.2.2.2)) ln' vw' → vy_o s ln vw ln' vw' → post (nI (vs.length - (vs.filter (vx_p b.2.2.2.2.2)).length)) (vy_mk v ln' vw')) : wpY_dropGone post (vy_mk v ln vw) ps := by
  subst es
  rw [ye_dropGone]
  exact ⟨vs.length + 1, vy_drop hk0 hm hs hX hY ht hsel hl vs [] 0 ln vw (by omega) (Nat.le_refl _) hw.1 (fun i n h => absurd h (by simp)) (fun i n h => hw.2 i n h) hb k⟩
end
section
/-! poll -/
theorem vx_split : ∀ (ms : List mb_Msg) (vs : List Nat), ms.Pairwise (fun a b => a.1 < b.1) → (∀ a, a ∈ ms → a.1 ∈ vs ∨ ∀ n, n ∈ vs → n < a.1) → ∃ A C, ms = A ++ C ∧ (∀ a, a ∈ A → a.1 ∈ vs) ∧ (∀ a, a ∈ C → ∀ n, n ∈ vs → n < a.1) := by
  intro ms
  induction ms with
  | nil => intro vs _ _; exact ⟨[], [], rfl, fun a h => absurd h (by simp), fun a h => absurd h (by simp)⟩
  | cons a L ih =>
    intro vs hp h
    rw [List.pairwise_cons] at hp
    rcases h a (by simp) with h1 | h1
    · obtain ⟨A, C, e, hA, hC⟩ := ih vs hp.2 (fun c hc => h c (by simp [hc]))
      refine ⟨a :: A, C, by rw [e]; rfl, fun c hc => ?_, hC⟩
      rcases List.mem_cons.mp hc with e1 | e1
      · rw [e1]; exact h1
      · exact hA c e1
    · refine ⟨[], a :: L, rfl, fun c hc => absurd hc (by simp), fun c hc n hn => ?_⟩
      rcases List.mem_cons.mp hc with e1 | e1
      · rw [e1]; exact h1 n hn
      · have := hp.1 c e1
        have := h1 n hn
        omega
theorem vx_len : ∀ (l2 l1 : List Nat), l1.Pairwise (fun a b => a < b) → (∀ n, n ∈ l1 → n ∈ l2) → l2.Pairwise (fun a b => a < b) → l1.length ≤ l2.length := by
  intro l2
  induction l2 with
  | nil =>
    intro l1 _ h _
    cases l1 with
    | nil => exact Nat.le_refl _
    | cons a l => exact absurd (h a (by simp)) (by simp)
  | cons b L ih =>
    intro l1 h1 h h2
    rw [List.pairwise_cons] at h2
    cases l1 with
    | nil => exact Nat.zero_le _
    | cons a l =>
      have h1' := h1
      rw [List.pairwise_cons] at h1'
      rcases List.mem_cons.mp (h a (by simp)) with e | e
      · have := ih l h1'.2 (fun n hn => by
          rcases List.mem_cons.mp (h n (by simp [hn])) with e2 | e2
          · have := h1'.1 n hn; omega
          · exact e2) h2.2
        rw [List.length_cons, List.length_cons]; omega
      · have hab := h2.1 a e
        have := ih (a :: l) h1 (fun n hn => by
          rcases List.mem_cons.mp (h n hn) with e2 | e2
          · rcases List.mem_cons.mp hn with e3 | e3
            · omega
            · have := h1'.1 n e3; omega
          · exact e2) h2.2
        rw [List.length_cons] at this ⊢
        rw [List.length_cons]; omega
theorem vx_last {vs : List Nat} (hsort : vs.Pairwise (fun a b => a < b)) (h : 0 < vs.length) : ∃ l, vs[vs.length - 1]? = some l ∧ l ∈ vs ∧ ∀ n, n ∈ vs → n ≤ l := by
  have hlt : vs.length - 1 < vs.length := by omega
  refine ⟨vs[vs.length - 1], List.getElem?_eq_getElem hlt, List.getElem_mem hlt, fun n hn => ?_⟩
  obtain ⟨j, hj, e⟩ := List.getElem_of_mem hn
  rcases Nat.lt_or_ge j (vs.length - 1) with h1 | h1
  · have := (List.pairwise_iff_getElem.mp hsort) j _ hj hlt h1
    omega
  · have : j = vs.length - 1 := by omega
    subst this
    omega
theorem i_vc_poll {k : Nat} {u : SX} {v : SY} (I : i_Rel k u v) (hk : k + 5 ≤ 2560) (v1 : Int32) : wpX_poll (fun r u' => wpY_poll (fun r' v' => r' = r ∧ i_Rel (k + 5) u' v') v v1) u v1 := by
  obtain ⟨V, t, y, x, bx, W, hR, hrest⟩ := ml_out hk I
  have hx := hR.2.2.2.2
  obtain ⟨e1, e2, e3⟩ := ml_xs hx
  rw [xe_poll]
  rcases ml_idl hx hrest.2.2.1 v1 with ⟨e, he, g1, g2⟩ | ⟨s, m, vs, hs, rfl, hon, g1, g2⟩
  · refine g1 _ (br_f he ?_)
    rw [ye_poll]
    exact g2 _ (br_f he (g2 _ ⟨rfl, i_up I⟩))
  · obtain ⟨hm, s1, s2, ht, hl, hsort, hbd, hinv, y1, y2, y3⟩ := hon
    have hX := hrest.1 m hm
    have hY := hrest.2.1 m hm
    have hB := hX.2.2.2.2.2
    obtain ⟨bms, bnx, _⟩ := ml_nx hX hY ht (by omega)
    obtain ⟨⟨n1, n2, n3⟩, _, _, _, hc, hyl⟩ := hY.2.2.2.2 ht
    have hb : ∀ n, n ∈ vs → n < 3000 := fun n hn => by have := hbd n hn; omega
    obtain ⟨A, C, eAC, hA, hC⟩ := vx_split _ vs hB.2.1 hinv
    have hAm : ∀ a, a ∈ A → a ∈ (bx m).2.2.2.2.2 := fun a ha => by rw [eAC]; simp [ha]
    have hCm : ∀ a, a ∈ C → a ∈ (bx m).2.2.2.2.2 := fun a ha => by rw [eAC]; simp [ha]
    have hso := hB.2.1
    rw [eAC, List.pairwise_append] at hso
    have hfs : (vs.filter (vx_p (bx m).2.2.2.2.2)).Pairwise (fun a b => a < b) := List.Pairwise.filter _ hsort
    have hfA : ∀ n, n ∈ vs.filter (vx_p (bx m).2.2.2.2.2) → n ∈ A.map (fun a => a.1) := by
      intro n hn
      rw [List.mem_filter] at hn
      obtain ⟨a, ha, e⟩ := vx_p_ex hn.2
      rw [eAC, List.mem_append] at ha
      rcases ha with h | h
      · exact List.mem_map.mpr ⟨a, h, e⟩
      · have := hC a h n hn.1; omega
    have hlen : (vs.filter (vx_p (bx m).2.2.2.2.2)).length + C.length ≤ 14 := by
      have h1 := vx_len _ _ hfs hfA (vx_map A hso.1)
      have h2 := hY.2.2.1
      rw [eAC, List.length_append] at h2
      rw [List.length_map] at h1
      omega
    have main : ∀ z0 : Int32, (∀ a, a ∈ A → (a.1 : Int) ≤ z0.toInt) → (∀ a, a ∈ C → z0.toInt < (a.1 : Int)) → xc_poll_52 (fun r u' => wpY_poll (fun r' v' => r' = r ∧ i_Rel (k + 5) u' v') v (nI s)) (nI s) (nI m) z0 u := by
      intro z0 hzA hzC
      rw [xe_poll_52]
      refine tx_forget hm hs rfl rfl hB hR ⟨y1, fun i n h => (y3 i n h).1⟩ hl hb (fun x1 t1 u1 r1 w1 w2 => ?_)
      refine tx_tell hm hs rfl rfl hB (by omega) r1 eAC hzA hzC w1 hlen (fun x2 t2 u2 r2 w3 w4 => ?_)
      rw [ye_poll]
      refine g2 _ (br_t (by decide) ?_)
      rw [vy_2 v]
      refine ty_drop (k0 := k) (by omega) hm hs rfl hX hY ht s2 hl ⟨y2, fun i n h => (y3 i n h).2⟩ hb (fun ln1 vw1 z1 z2 => ?_)
      refine ty_fill (v := v) hs hm s2 hY.2.2.1 hc hyl (fun a ha => (bms a ha).2.1) z1 (fun c h => hb c (List.mem_filter.mp h).1) eAC (fun a ha => List.mem_filter.mpr ⟨hA a ha, vx_p_t (hAm a ha) rfl⟩) (fun a ha h => ?_) hB.2.1 hlen (fun ln2 vw2 z3 z4 => ⟨rfl, ?_⟩)
      · have := hC a ha a.1 (List.mem_filter.mp h).1
        omega
      have wo := vx_t w2 w4
      have zo := vy_t z2 z4
      obtain ⟨gX, gY, gS, gW⟩ := ml_up hrest (k' := k + 5) (by omega)
      refine ml_in (bx := bx) (W := W) hk r2 (by omega) ⟨gX, fun j hj => ml_Yf (gY j hj) (vy_vf v _ _ j), fun s' hs' => ?_, vy_W2 _ v _ _ _ _ gW⟩
      by_cases e : s' = s
      · subst e
        refine Or.inr ⟨m, vs.filter (vx_p (bx m).2.2.2.2.2) ++ C.map (fun a : mb_Msg => a.1), hm, ?_, ?_, ht, by rw [List.length_append, List.length_map]; exact hlen, ?_, fun n hn => ?_, fun a ha => Or.inl ?_, w3.1, by rw [vy_g1]; exact z3.1, fun i n h => ⟨w3.2 i n h, by rw [vy_g2]; exact z3.2 i n h⟩⟩
        · rw [wo.1]; exact s1
        · rw [vy_g5]; exact s2
        · rw [List.pairwise_append]
          refine ⟨hfs, vx_map C hso.2.1, fun n hn c hc' => ?_⟩
          obtain ⟨a, ha, rfl⟩ := List.mem_map.mp hc'
          exact hC a ha n (List.mem_filter.mp hn).1
        · rcases List.mem_append.mp hn with h | h
          · exact hbd n (List.mem_filter.mp h).1
          · obtain ⟨a, ha, rfl⟩ := List.mem_map.mp h
            obtain ⟨_, _, q1, q2, _⟩ := hB.1 a (hCm a ha)
            exact ⟨q1, q2⟩
        · rw [eAC, List.mem_append] at ha
          rw [List.mem_append]
          rcases ha with h | h
          · exact Or.inl (List.mem_filter.mpr ⟨hA a h, vx_p_t (hAm a h) rfl⟩)
          · exact Or.inr (List.mem_map.mpr ⟨a, h, rfl⟩)
      · have q1 := wo.2 s' e
        have q2 := zo s' e
        exact ml_Sf (gS s' hs') ⟨by rw [wo.1], by rw [vy_g5], q1.1, q2.1, fun i hi => ⟨q1.2 i hi, q2.2 i hi⟩⟩ (fun j hj ht => ⟨ht, Nat.le_refl _, fun a ha => Or.inl ⟨a, ha, rfl⟩⟩)
    refine g1 _ (br_t (by decide) ⟨vp_in_nI hs (by omega), ?_⟩)
    rw [nI_clamp (n := s) (by omega), e1, e2, e3, s1, y1]
    refine nm_r (nI_pred m) ⟨vp_in_nI hs (by omega), ?_⟩
    rcases Nat.eq_zero_or_pos vs.length with h0 | h0
    · refine br_t (by rw [h0]; rfl) (main 0 (fun a ha => ?_) (fun a ha => ?_))
      · rw [List.length_eq_zero_iff] at h0
        have := hA a ha
        rw [h0] at this
        exact absurd this (by simp)
      · have := (bms a (hCm a ha)).1
        show (0 : Int) < _
        omega
    · obtain ⟨l, l1, l2, l3⟩ := vx_last hsort h0
      have hl3 := hb l l2
      have tl : (nI l).toInt = (l : Int) := nI_toInt (by omega)
      refine br_f (nI_ne0 (by omega) (by omega)) ?_
      rw [na_16, na_s1 (by omega), nI_clamp (n := 16 * s + vs.length - 1) (by omega)]
      refine ⟨vp_in_nI hs (by omega), vp_in_nI (by omega) (by omega), ?_⟩
      have := (y3 _ l l1).1
      rw [show 16 * s + (vs.length - 1) = 16 * s + vs.length - 1 from by omega] at this
      rw [this]
      refine main (nI l) (fun a ha => ?_) (fun a ha => ?_)
      · rw [tl]; have := l3 _ (hA a ha); omega
      · rw [tl]; have := hC a ha l l2; omega
end
section
/-! remove -/
theorem rx_loop {post : Int32 → SX → Prop} {K : Nat} {V : ms_M} {t : ms_TT} {y : ms_YT} {m : Nat} {r : Int32} (hm : m < 4) :
    ∀ (d j : Nat) (x : ms_XT) (u : SX), j + d = 3 → ms_R K 4 V V t y x u →
    (∀ (a : Nat → Int32) (u' : SX), ms_R K 4 V V t y (a, x.2) u' → (∀ s, s < 3 → a s = if j ≤ s ∧ x.1 s = nI (m + 1) then 0 else x.1 s) → post r u') → xc_remove_48 post (nI m) r (d + 1) (nI j) u := by
  intro d
  induction d with
  | zero =>
    intro j x u hj hR k
    rw [xe_remove_48]
    refine br_t (na_le (a := 3) (b := j) rfl rfl (by omega) (by omega)) (k x.1 u hR (fun s hs => ?_))
    rw [if_neg (by omega)]
  | succ d ih =>
    intro j x u hj hR k
    obtain ⟨e1, e2, e3⟩ := ml_xs hR.2.2.2.2
    rw [xe_remove_48, nI_clamp (n := j) (by omega), e1, nI_1]
    refine br_f (na_nle (a := 3) (b := j) rfl rfl (by omega) (by omega)) ⟨vp_in_nI (by omega) (by omega), br_c (fun h => ⟨vp_in_nI (by omega) (by omega), nm_e (nm_r (nI_1 j) ?_)⟩) (fun h => ⟨vp_in_nI (by omega) (by omega), vp_in_nI (by omega) (by omega), nm_e (nm_r (nI_1 j) ?_)⟩)⟩
    · refine ih (j + 1) (upd x.1 j 0, x.2) _ (by omega) (ml_selR hR _) (fun a u' r' ha => k a u' r' (fun s hs => ?_))
      rw [ha s hs]
      show (if j + 1 ≤ s ∧ upd x.1 j 0 s = nI (m + 1) then 0 else upd x.1 j 0 s) = _
      by_cases e : s = j
      · subst e
        rw [if_neg (by omega), pk_us, if_pos ⟨Nat.le_refl _, h⟩]
      · rw [pk_un e]
        by_cases e' : j + 1 ≤ s
        · simp [e', show j ≤ s from by omega]
        · simp [e', show ¬ j ≤ s from by omega]
    · refine ih (j + 1) (upd x.1 j (x.1 j), x.2) _ (by omega) (ml_selR hR _) (fun a u' r' ha => k a u' r' (fun s hs => ?_))
      rw [ha s hs]
      show (if j + 1 ≤ s ∧ upd x.1 j (x.1 j) s = nI (m + 1) then 0 else upd x.1 j (x.1 j) s) = _
      by_cases e : s = j
      · subst e
        rw [if_neg (by omega), pk_us, if_neg (fun z => h z.2)]
      · rw [pk_un e]
        by_cases e' : j + 1 ≤ s
        · simp [e', show j ≤ s from by omega]
        · simp [e', show ¬ j ≤ s from by omega]
theorem ry_eta (v : SY) : ys_selected v (yg_selected v) = v := rfl
theorem ry_cnt (v : SY) (a : Nat → Int32) : yg_counts (ys_selected v a) = yg_counts v := rfl
theorem ry_loop {post : Int32 → SY → Prop} {m : Nat} (hm : m < 4) :
    ∀ (d j : Nat) (v : SY), j + d = 3 →
    (∀ a : Nat → Int32, (∀ s, s < 3 → a s = if j ≤ s ∧ yg_selected v s = nI m then -1 else yg_selected v s) → post (yg_counts v m) (ys_selected v a)) → yc_remove_23 post (nI m) (d + 1) (nI j) v := by
  intro d
  induction d with
  | zero =>
    intro j v hj k
    rw [ye_remove_23, nI_clamp (n := m) (by omega)]
    have h := k (yg_selected v) (fun s hs => by rw [if_neg (by omega)])
    rw [ry_eta] at h
    exact br_t (na_le (a := 3) (b := j) rfl rfl (by omega) (by omega)) ⟨vp_in_nI hm (by omega), h⟩
  | succ d ih =>
    intro j v hj k
    rw [ye_remove_23, nI_clamp (n := j) (by omega)]
    refine br_f (na_nle (a := 3) (b := j) rfl rfl (by omega) (by omega)) ⟨vp_in_nI (by omega) (by omega), br_c (fun h => ⟨vp_in_nI (by omega) (by omega), nm_e (nm_r (nI_1 j) ?_)⟩) (fun h => nm_r (nI_1 j) ?_)⟩
    · refine ih (j + 1) _ (by omega) (fun a ha => ?_)
      rw [yi_ss, ry_cnt]
      refine k a (fun s hs => ?_)
      rw [ha s hs, yi_sel]
      by_cases e : s = j
      · subst e
        rw [if_neg (by omega), pk_us, if_pos ⟨Nat.le_refl _, h⟩]
      · rw [pk_un e]
        by_cases e' : j + 1 ≤ s
        · simp [e', show j ≤ s from by omega]
        · simp [e', show ¬ j ≤ s from by omega]
    · refine ih (j + 1) v (by omega) (fun a ha => k a (fun s hs => ?_))
      rw [ha s hs]
      by_cases e : s = j
      · subst e
        rw [if_neg (by omega), if_neg (fun z => h z.2)]
      · by_cases e' : j + 1 ≤ s
        · simp [e', show j ≤ s from by omega]
        · simp [e', show ¬ j ≤ s from by omega]
theorem ry_there (v : SY) (a : Nat → Int32) : yg_counts (ys_there v a) = yg_counts v ∧ yg_selected (ys_there v a) = yg_selected v := ⟨rfl, rfl⟩
theorem ry_g (v : SY) (a b : Nat → Int32) : yg_there (ys_selected (ys_there v a) b) = a := rfl
theorem i_vc_remove {k : Nat} {u : SX} {v : SY} (I : i_Rel k u v) (hk : k + 5 ≤ 2560) (v1 : Int32) : wpX_remove (fun r u' => wpY_remove (fun r' v' => r' = r ∧ i_Rel (k + 5) u' v') v v1) u v1 := by
  obtain ⟨V, t, y, x, bx, W, hR, hrest⟩ := ml_out hk I
  have hup := ml_up hrest (k' := k + 5) (by omega)
  rw [xe_remove]
  rcases ml_trb hR hrest.1 hrest.2.1 v1 with ⟨e, he, g1, g2⟩ | ⟨m, hm, rfl, ht, g1, g2⟩
  · refine g1 _ (fun u2 r2 => br_f he ?_)
    rw [ye_remove]
    exact g2 _ (br_f he (g2 _ ⟨rfl, ml_in (bx := bx) (W := W) hk r2 (by omega) hup⟩))
  · have hX := hrest.1 m hm
    have hY := hrest.2.1 m hm
    obtain ⟨_, _, _, _, hc, _⟩ := hY.2.2.2.2 ht
    refine g1 _ (fun u2 r2 => br_t (by decide) (ml_messages r2 hm rfl hX (fun u3 r3 => ?_)))
    have r0 := ml_RB m (ml_dirty m r3)
    refine rb_clear r0 rfl hm (b := 0) (by omega) rfl rfl (fun B1 u4 r4 a1 a2 => ?_)
    refine rb_set r4 rfl hm (b := 1) (c := 0) (by omega) (by omega) rfl rfl rfl (fun u5 r5 => ?_)
    refine rb_set r5 rfl hm (b := 1) (c := 5) (by omega) (by omega) rfl rfl rfl (fun u6 r6 => ?_)
    refine ml_save r6 hm rfl (by omega) (fun u7 r7 => ⟨4, rx_loop hm 3 0 x u7 (by omega) r7 (fun a u8 r8 ha => ?_)⟩)
    have hX' : ml_X (ms_mC (ms_mC B1 1 0 0) 1 5 0) (false, (bx m).2.1, (bx m).2.2.1, (bx m).2.2.2.1, (bx m).2.2.2.2.1, []) := by
      obtain ⟨_, x1, x2, x3, x4, _⟩ := hX
      have b1 := a1 1 (by omega)
      refine ⟨?_, ?_, ?_, ?_, ?_, mb_empty (fun c hc => ?_) ?_⟩
      · simp [ms_mC_g]
      · simp [ms_mC_g]; rw [b1]; exact x1
      · simp [ms_mC_g]; rw [b1]; exact x2
      · simp [ms_mC_g]; rw [b1]; exact x3
      · simp [ms_mC_g]; rw [b1]; exact x4
      · simp only [ms_mC_o _ _ (show (0 : Nat) ≠ 1 by omega)]
        exact a2 c hc
      · simp [ms_mC_g]
    generalize ms_mC (ms_mC B1 1 0 0) 1 5 0 = B' at r8 hX'
    rw [ye_remove]
    refine g2 _ (br_t (by decide) ⟨vp_in_nI hm (by omega), nm_e ⟨4, ry_loop hm 3 0 _ (by omega) (fun b hb => ⟨?_, ?_⟩)⟩⟩)
    · rw [(ry_there v _).1, hc]
    rw [(ry_there v _).2] at hb
    rw [nI_clamp (n := m) (by omega), na_b0]
    obtain ⟨gX, gY, gS, w1, w2, w3, w4⟩ := hup
    refine ml_in (bx := ml_ub bx m (false, (bx m).2.1, (bx m).2.2.1, (bx m).2.2.2.1, (bx m).2.2.2.2.1, [])) (W := W) hk r8 (by omega) ⟨fun j hj => ?_, fun j hj => ?_, fun s hs => ?_, w1, w2, fun j hj => ?_, w4.elim Or.inl (fun ⟨j, hj, e⟩ => Or.inr ⟨j, hj, ?_⟩)⟩
    · by_cases e : j = m
      · subst e; rw [ms_mB_s, ml_ub_s]; exact hX'
      · rw [ms_mB_o _ _ e, ml_ub_o _ _ e]; exact gX j hj
    · by_cases e : j = m
      · subst e
        rw [ml_ub_s]
        refine ⟨?_, fun _ => rfl, by simp, fun c hc => absurd hc (by simp), fun h => by simp at h⟩
        rw [ry_g]; exact pk_us
      · rw [ml_ub_o _ _ e]
        exact ml_Yf (gY j hj) ⟨by rw [ry_g]; exact pk_un e, rfl, rfl, rfl, rfl, fun i hi => ⟨rfl, rfl, rfl, rfl⟩⟩
    · have hbs := hb s hs
      have has := ha s hs
      rcases gS s hs with h | ⟨m', vs, hm', s1, s2, rest⟩
      · refine Or.inl ⟨?_, ?_⟩
        · show a s = 0
          rw [has, h.1]; exact ite_self _
        · rw [yi_sel, hbs, h.2]; exact ite_self _
      · by_cases e : m' = m
        · subst e
          refine Or.inl ⟨?_, ?_⟩
          · show a s = 0
            rw [has, if_pos ⟨Nat.zero_le _, s1⟩]
          · rw [yi_sel, hbs, if_pos ⟨Nat.zero_le _, s2⟩]
        · refine Or.inr ⟨m', vs, hm', ?_, ?_, ?_⟩
          · show a s = _
            rw [has, s1, if_neg (fun z => na_ne (by omega) (by omega) (by omega) z.2)]
          · rw [yi_sel, hbs, s2, if_neg (fun z => na_ne (by omega) (by omega) e z.2)]
          · rw [ml_ub_o _ _ e]; exact rest
    · by_cases e : j = m
      · subst e; rw [ml_ub_s]; exact w3 j hj
      · rw [ml_ub_o _ _ e]; exact w3 j hj
    · by_cases e' : j = m
      · subst e'; rw [ml_ub_s]; exact e
      · rw [ml_ub_o _ _ e']; exact e
end
section
/-! changedSince -/
def cs_c (s0 af : Int32) (a : mb_Msg) : Prop := s0.toInt < (a.2.2.2.1 : Int) ∧ af.toInt < (a.1 : Int)
def cs_I (ms : List mb_Msg) (s0 af : Int32) (bd : Int) (z : Int32) : Prop := (z = -2 ∧ ∀ c, c ∈ ms → cs_c s0 af c → ¬ (c.2.2.2.1 : Int) ≤ bd) ∨ ∃ b, b ∈ ms ∧ z = nI b.1 ∧ cs_c s0 af b ∧ ∀ c, c ∈ ms → cs_c s0 af c → (c.2.2.2.1 : Int) ≤ bd → b.1 ≤ c.1
def cs_N (k1 : tr_KV) (bd : Int) : Nat := (k1.filter (fun q => decide (bd < q.1))).length
def cs_r (k1 : tr_KV) (bd : Int) (r : Int32) : Prop := (∃ A p C, A ++ p :: C = k1 ∧ (∀ q, q ∈ A → q.1 ≤ bd) ∧ bd < p.1 ∧ r.toInt = p.1) ∨ (r = -2 ∧ ∀ p, p ∈ k1 → p.1 ≤ bd)
theorem cs_n {k1 A C : tr_KV} {p : Int × Nat} {bd : Int} (e : A ++ p :: C = k1) (hs : k1.Pairwise (fun p q => p.1 < q.1)) (hA : ∀ q, q ∈ A → q.1 ≤ bd) (hp : bd < p.1) : cs_N k1 bd = C.length + 1 ∧ cs_N k1 p.1 = C.length := by
  subst e
  rw [List.pairwise_append, List.pairwise_cons] at hs
  have f1 : ∀ b : Int, (∀ q, q ∈ A → q.1 ≤ b) → A.filter (fun q => decide (b < q.1)) = [] := fun b h => by
    rw [List.filter_eq_nil_iff]
    intro q hq z
    have := h q hq
    have := of_decide_eq_true z
    omega
  have f2 : ∀ b : Int, b ≤ p.1 → C.filter (fun q => decide (b < q.1)) = C := fun b h => by
    rw [List.filter_eq_self]
    intro q hq
    have := hs.2.1.1 q hq
    exact decide_eq_true (by omega)
  unfold cs_N
  rw [List.filter_append, List.filter_append, List.filter_cons, List.filter_cons, f1 bd hA, f1 p.1 (fun q hq => by have := hA q hq; omega), f2 bd (by omega), f2 p.1 (Int.le_refl _), if_pos (decide_eq_true hp), if_neg (by simp)]
  exact ⟨by simp, by simp⟩
theorem cs_slot {ms : List mb_Msg} (h : (ms.map (fun m => m.2.2.2.2)).Nodup) : ∀ a c, a ∈ ms → c ∈ ms → a.2.2.2.2 = c.2.2.2.2 → a = c := by
  induction ms with
  | nil => intro a c ha; exact absurd ha (by simp)
  | cons b L ih =>
    rw [List.map_cons, List.nodup_cons] at h
    intro a c ha hc e
    rcases List.mem_cons.mp ha with h1 | h1
    · rcases List.mem_cons.mp hc with h2 | h2
      · rw [h1, h2]
      · exact absurd (List.mem_map.mpr ⟨c, h2, by rw [← e, h1]⟩) h.1
    · rcases List.mem_cons.mp hc with h2 | h2
      · exact absurd (List.mem_map.mpr ⟨a, h1, by rw [e, h2]⟩) h.1
      · exact ih h.2 a c h1 h2 e
theorem cs_key {k1 : tr_KV} (h : k1.Pairwise (fun p q => p.1 < q.1)) : ∀ p q, p ∈ k1 → q ∈ k1 → p.1 = q.1 → p = q := by
  induction k1 with
  | nil => intro p q hp; exact absurd hp (by simp)
  | cons b L ih =>
    rw [List.pairwise_cons] at h
    intro p q hp hq e
    rcases List.mem_cons.mp hp with h1 | h1
    · rcases List.mem_cons.mp hq with h2 | h2
      · rw [h1, h2]
      · have := h.1 q h2; rw [h1] at e; omega
    · rcases List.mem_cons.mp hq with h2 | h2
      · have := h.1 p h1; rw [h2] at e; omega
      · exact ih h.2 p q h1 h2 e
theorem cs_sort {B : ms_B} {k0 k1 : tr_KV} (h : mb_tr B k0 k1) : k1.Pairwise (fun p q => p.1 < q.1) := by
  obtain ⟨ns0, ns1, _, b, _⟩ := h
  obtain ⟨_, _, ⟨e, _⟩ | ⟨root', L', _, _, hT'⟩⟩ := b
  · subst e; exact List.Pairwise.nil
  · exact (tr_T_sz _ _ _ _ _ _ _ (by split <;> omega) hT').1.2
theorem cs_loop {post : Int32 → SX → Prop} {K w : Nat} {V : ms_M} {m : Nat} {y : ms_YT} {x : ms_XT} {nx hg : Nat} {ms : List mb_Msg} {k1 : tr_KV} {s0 af : Int32} (hm : m < 4) (hB : mb_ms (V m) nx hg ms) (hnx : nx < 900000) (hhg : hg < 900000) (hT : mb_tr (V m) (mb_k0 ms) k1) (hP : k1.Perm (mb_k1 ms))
    (k : ∀ (z : Int32) (bd : Int) (t' : ms_TT) (u' : SX), (∀ p, p ∈ k1 → p.1 ≤ bd) → cs_I ms s0 af bd z → ms_R K w V V t' y x u' → post z u') :
    ∀ (d : Nat) (bd : Int) (z r : Int32) (j : Nat) (t : ms_TT) (u : SX), cs_N k1 bd = d → j + d ≤ 14 → s0.toInt ≤ bd → cs_I ms s0 af bd z → cs_r k1 bd r → ms_R K w V V t y x u → xc_changedSince_31 post (nI m) af (d + 1) z r (nI j) u := by
  have hsort := cs_sort hT
  have hmem : ∀ a, a ∈ ms → ((a.2.2.2.1 : Int), a.2.2.2.2) ∈ k1 := fun a ha => hP.mem_iff.mpr (List.mem_map.mpr ⟨a, ha, rfl⟩)
  have hof : ∀ p, p ∈ k1 → ∃ a, a ∈ ms ∧ ((a.2.2.2.1 : Int), a.2.2.2.2) = p := fun p hp => by
    obtain ⟨a, ha, e⟩ := List.mem_map.mp (hP.mem_iff.mp hp)
    exact ⟨a, ha, e⟩
  intro d
  induction d with
  | zero =>
    intro bd z r j t u hN hj hb hI hr hR
    rcases hr with ⟨A, p, C, e, hA, hp, er⟩ | ⟨rfl, hall⟩
    · have := (cs_n e hsort hA hp).1
      omega
    · have hk := k z bd t u hall hI hR
      rw [xe_changedSince_31]
      exact br_c (fun _ => hk) (fun _ => br_t (by decide) hk)
  | succ d ih =>
    intro bd z r j t u hN hj hb hI hr hR
    rcases hr with ⟨A, p, C, e, hA, hp, er⟩ | ⟨rfl, hall⟩
    · obtain ⟨n1, n2⟩ := cs_n e hsort hA hp
      have hpin : p ∈ k1 := by rw [← e]; simp
      obtain ⟨a, ha, hap⟩ := hof p hpin
      have hp1 : p.1 = (a.2.2.2.1 : Int) := by rw [← hap]
      have hp2 : p.2 = a.2.2.2.2 := by rw [← hap]
      obtain ⟨arc, a14, an1, anx, ac1, ahg⟩ := hB.1 a ha
      have ta : (nI a.1).toInt = (a.1 : Int) := nI_toInt (by omega)
      have hun : ∀ c, c ∈ ms → (c.2.2.2.1 : Int) = p.1 → c = a := fun c hc ec => by
        have h := cs_key hsort _ _ (hmem c hc) hpin ec
        refine cs_slot hB.2.2.1 c a hc ha ?_
        rw [← hp2, ← h]
      have hsplit : ∀ c, c ∈ ms → (c.2.2.2.1 : Int) ≤ p.1 → (c.2.2.2.1 : Int) ≤ bd ∨ c = a := fun c hc hle => by
        have h := hmem c hc
        rw [← e, List.mem_append, List.mem_cons] at h
        rcases h with h | h | h
        · exact Or.inl (hA _ h)
        · exact Or.inr (hun c hc (by rw [← h]))
        · have hs2 := hsort
          rw [← e, List.pairwise_append, List.pairwise_cons] at hs2
          have := hs2.2.1.1 _ h
          have h3 : p.1 < (c.2.2.2.1 : Int) := this
          omega
      have next : ∀ (z' : Int32) (t3 : ms_TT) (u3 : SX), cs_I ms s0 af p.1 z' → ms_R K w V V t3 y x u3 → xc_changedSince_88 post (xc_changedSince_31 post (nI m) af (d + 1)) (nI m) af r (nI j) z' u3 := by
        intro z' t3 u3 hI' r3
        rw [xe_changedSince_88]
        refine mb_aftc (ml_RB m r3) hm rfl rfl r hT (fun A' p' C' r' t4 u4 q1 q2 q3 q4 r4 => nm_r (nI_1 j) ?_) (fun q1 t4 u4 r4 => nm_r (nI_1 j) ?_)
        · rw [er] at q2 q3
          exact ih p.1 z' r' (j + 1) t4 u4 (by omega) (by omega) (by omega) hI' (Or.inl ⟨A', p', C', q1, q2, q3, q4⟩) (ml_BR r4)
        · rw [er] at q1
          exact ih p.1 z' (-2) (j + 1) t4 u4 (by omega) (by omega) (by omega) hI' (Or.inr ⟨rfl, q1⟩) (ml_BR r4)
      have hrp : ¬ r ≤ 0 := by
        rw [Int32.le_iff_toInt_le, er, hp1]
        show ¬ (a.2.2.2.1 : Int) ≤ 0
        omega
      rw [xe_changedSince_31]
      refine br_f (na_nle (a := 14) (b := j) rfl rfl (by omega) (by omega)) (br_f hrp ?_)
      refine mb_valc (ml_RB m hR) hm rfl rfl r hT (fun v t3 u3 hv r3 => ?_) (fun hno t3 u3 r3 => absurd er.symm (hno p hpin))
      have hva : v = a.2.2.2.2 := by
        have h := cs_key hsort _ _ hv hpin er
        rw [← hp2, ← h]
      subst hva
      refine mb_entry r3 hm (n := a.2.2.2.2) (c := 0) a14 (by omega) rfl rfl rfl (fun u4 r4 => ?_)
      rw [arc.1]
      have r5 := ml_BR r4
      have keep : (cs_c s0 af a → ∃ b, b ∈ ms ∧ z = nI b.1 ∧ b.1 ≤ a.1) → cs_I ms s0 af p.1 z := by
        intro h
        rcases hI with ⟨hz, hn⟩ | ⟨b, hbm, hz, hbc, hmin⟩
        · refine Or.inl ⟨hz, fun c hc hcc hle => ?_⟩
          rcases hsplit c hc hle with h1 | h1
          · exact hn c hc hcc h1
          · subst h1
            obtain ⟨b, hbm, hz', _⟩ := h hcc
            have b2 := (hB.1 b hbm).2.2.2.1
            rw [hz] at hz'
            have h9 := congrArg Int32.toInt hz'
            rw [nI_toInt (by omega)] at h9
            have h8 : (-2 : Int) = (b.1 : Int) := h9
            omega
        · refine Or.inr ⟨b, hbm, hz, hbc, fun c hc hcc hle => ?_⟩
          rcases hsplit c hc hle with h1 | h1
          · exact hmin c hc hcc h1
          · subst h1
            obtain ⟨b', hbm', hz', hle'⟩ := h hcc
            have b2 := (hB.1 b hbm).2.2.2.1
            have b3 := (hB.1 b' hbm').2.2.2.1
            have := na_inj (by omega) (by omega) (hz.symm.trans hz')
            omega
      have take : cs_c s0 af a → (∀ b, b ∈ ms → z = nI b.1 → a.1 ≤ b.1) → cs_I ms s0 af p.1 (nI a.1) := by
        intro hac h
        refine Or.inr ⟨a, ha, rfl, hac, fun c hc hcc hle => ?_⟩
        rcases hsplit c hc hle with h1 | h1
        · rcases hI with ⟨hz, hn⟩ | ⟨b, hbm, hz, hbc, hmin⟩
          · exact absurd h1 (hn c hc hcc)
          · have := hmin c hc hcc h1
            have := h b hbm hz
            omega
        · rw [h1]; exact Nat.le_refl _
      refine br_c (fun hle => ?_) (fun hnle => br_c (fun hz0 => ?_) (fun hz0 => br_c (fun hzle => ?_) (fun hznle => ?_)))
      · rw [xe_changedSince_86]
        refine next z t3 u4 (keep (fun hac => ?_)) r5
        rw [Int32.le_iff_toInt_le, ta] at hle
        have := hac.2
        omega
      · rw [xe_changedSince_81]
        rw [Int32.le_iff_toInt_le, ta] at hnle
        refine next (nI a.1) t3 u4 (take ⟨by omega, by omega⟩ (fun b hbm hz => ?_)) r5
        have b2 := (hB.1 b hbm).2.2.2.1
        rw [hz] at hz0
        exact absurd hz0 (nI_pos (by omega))
      · rw [xe_changedSince_86]
        refine next z t3 u4 (keep (fun hac => ?_)) r5
        rcases hI with ⟨hz, hn⟩ | ⟨b, hbm, hz, hbc, hmin⟩
        · rw [hz] at hz0; exact absurd (by decide) hz0
        · have b2 := (hB.1 b hbm).2.2.2.1
          refine ⟨b, hbm, hz, ?_⟩
          rw [hz, Int32.le_iff_toInt_le, ta, nI_toInt (by omega)] at hzle
          omega
      · rw [xe_changedSince_81]
        rw [Int32.le_iff_toInt_le, ta] at hnle
        refine next (nI a.1) t3 u4 (take ⟨by omega, by omega⟩ (fun b hbm hz => ?_)) r5
        have b2 := (hB.1 b hbm).2.2.2.1
        rw [hz, Int32.le_iff_toInt_le, ta, nI_toInt (by omega)] at hznle
        omega
    · have hk := k z bd t u hall hI hR
      rw [xe_changedSince_31]
      exact br_c (fun _ => hk) (fun _ => br_t (by decide) hk)
theorem cs_y {post : Int32 → Prop} {v : SY} {m : Nat} {ms : List mb_Msg} {s0 af : Int32} (hm : m < 4) (hlen : ms.length ≤ 14) (hc : yg_counts v m = nI ms.length) (hyl : ml_yl v m ms) (hb : ∀ a, a ∈ ms → a.1 < 3000 ∧ a.2.2.2.1 < 9000)
    (k1 : ∀ P a Q, ms = P ++ a :: Q → cs_c s0 af a → (∀ c, c ∈ P → ¬ cs_c s0 af c) → post (nI a.1)) (k0 : (∀ a, a ∈ ms → ¬ cs_c s0 af a) → post (-2)) :
    ∀ (L A : List mb_Msg), ms = A ++ L → (∀ c, c ∈ A → ¬ cs_c s0 af c) → yc_changedSince_20 post (nI m) s0 af v (L.length + 1) (nI (14 * m + A.length)) := by
  intro L
  induction L with
  | nil =>
    intro A e hA
    rw [List.append_nil] at e
    subst e
    rw [List.length_nil, ye_changedSince_20, na_m14, nI_clamp (n := m) (by omega), hc, nI_add]
    exact ⟨vp_in_nI hm (by omega), br_t (Int32.le_refl _) (k0 hA)⟩
  | cons a L ih =>
    intro A e hA
    have el : ms.length = A.length + L.length + 1 := by rw [e]; simp; omega
    obtain ⟨g1, _, _, g4⟩ := hyl A.length a (by rw [e]; exact tw_mid A a L)
    obtain ⟨b1, b2⟩ := hb a (by rw [e]; simp)
    have t1 : (nI a.1).toInt = (a.1 : Int) := nI_toInt (by omega)
    have t2 : (nI a.2.2.2.1).toInt = (a.2.2.2.1 : Int) := nI_toInt (by omega)
    have next : ¬ cs_c s0 af a → yc_changedSince_20 post (nI m) s0 af v (L.length + 1) (nI (14 * m + A.length + 1)) := by
      intro hn
      have h := ih (A ++ [a]) (by rw [e]; simp) (fun c hc => ?_)
      · rw [List.length_append] at h
        exact h
      · rcases List.mem_append.mp hc with h1 | h1
        · exact hA c h1
        · rw [List.mem_singleton] at h1; rw [h1]; exact hn
    rw [List.length_cons, ye_changedSince_20, na_m14, nI_clamp (n := m) (by omega), hc, nI_add, nI_clamp (n := 14 * m + A.length) (by omega), g1, g4]
    refine ⟨vp_in_nI hm (by omega), br_f (nI_ge (by omega) (by omega)) ⟨vp_in_nI (by omega) (by omega), br_c (fun h => nm_r (nI_1 _) (next (fun z => ?_))) (fun h => ⟨vp_in_nI (by omega) (by omega), br_c (fun h' => nm_r (nI_1 _) (next (fun z => ?_))) (fun h' => ⟨vp_in_nI (by omega) (by omega), k1 A a L e ⟨?_, ?_⟩ hA⟩)⟩)⟩⟩
    · rw [Int32.le_iff_toInt_le, t2] at h; have := z.1; omega
    · rw [Int32.le_iff_toInt_le, t1] at h'; have := z.2; omega
    · rw [Int32.le_iff_toInt_le, t2] at h; omega
    · rw [Int32.le_iff_toInt_le, t1] at h'; omega
theorem i_vc_changedSince {k : Nat} {u : SX} {v : SY} (I : i_Rel k u v) (hk : k + 5 ≤ 2560) (v1 v2 v3 : Int32) : wpX_changedSince (fun r u' => wpY_changedSince (fun r' => r' = r ∧ i_Rel (k + 5) u' v) v v1 v2 v3) u v1 v2 v3 := by
  obtain ⟨V, t, y, x, bx, W, hR, hrest⟩ := ml_out hk I
  have hup := ml_up hrest (k' := k + 5) (by omega)
  rw [xe_changedSince]
  rcases ml_trb hR hrest.1 hrest.2.1 v1 with ⟨e, he, g1, g2⟩ | ⟨m, hm, rfl, ht, g1, g2⟩
  · refine g1 _ (fun u2 r2 => br_f he ?_)
    rw [ye_changedSince]
    exact g2 _ (br_f he (g2 _ ⟨rfl, ml_in (bx := bx) (W := W) hk r2 (by omega) hup⟩))
  · have hX := hrest.1 m hm
    have hY := hrest.2.1 m hm
    have hB := hX.2.2.2.2.2
    obtain ⟨bms, bnx, bhg⟩ := ml_nx hX hY ht (by omega)
    obtain ⟨_, _, _, _, hc, hyl⟩ := hY.2.2.2.2 ht
    obtain ⟨k1, hT, hP⟩ := hB.2.2.2.2
    have hlen : k1.length ≤ 14 := by
      rw [hP.length_eq, mb_k1, List.length_map]; exact hY.2.2.1
    have hN : ∀ bd, cs_N k1 bd ≤ 14 := fun bd => Nat.le_trans (List.length_filter_le _ _) hlen
    have fin : ∀ (z : Int32) (bd : Int) (t' : ms_TT) (u' : SX), (∀ p, p ∈ k1 → p.1 ≤ bd) → cs_I (bx m).2.2.2.2.2 v2 v3 bd z → ms_R (k + 1) 4 V V t' y x u' → wpY_changedSince (fun r' => r' = z ∧ i_Rel (k + 5) u' v) v (nI m) v2 v3 := by
      intro z bd t' u' hall hI r'
      have hbd : ∀ c, c ∈ (bx m).2.2.2.2.2 → (c.2.2.2.1 : Int) ≤ bd := fun c hc => hall _ (hP.mem_iff.mpr (List.mem_map.mpr ⟨c, hc, rfl⟩))
      have hrel : i_Rel (k + 5) u' v := ml_in (bx := bx) (W := W) hk r' (by omega) hup
      rw [ye_changedSince]
      refine g2 _ (br_t (by decide) (nm_r (na_m14 m) ⟨(bx m).2.2.2.2.2.length + 1, ?_⟩))
      refine cs_y hm hY.2.2.1 hc hyl (fun a ha => ⟨(bms a ha).2.1, (bms a ha).2.2.2⟩) (fun P a Q e hac hPn => ⟨?_, hrel⟩) (fun hno => ⟨?_, hrel⟩) (bx m).2.2.2.2.2 [] rfl (fun c h => absurd h (by simp))
      · have ham : a ∈ (bx m).2.2.2.2.2 := by rw [e]; simp
        rcases hI with ⟨_, hn⟩ | ⟨b, hbm, hz, hbc, hmin⟩
        · exact absurd (hbd a ham) (hn a ham hac)
        · rw [hz]
          have h1 := hmin a ham hac (hbd a ham)
          have hso := hB.2.1
          rw [e, List.pairwise_append, List.pairwise_cons] at hso
          rw [e, List.mem_append, List.mem_cons] at hbm
          rcases hbm with h | h | h
          · exact absurd hbc (hPn b h)
          · rw [h]
          · have := hso.2.1.1 b h; omega
      · rcases hI with ⟨hz, _⟩ | ⟨b, hbm, hz, hbc, _⟩
        · exact hz.symm
        · exact absurd hbc (hno b hbm)
    have hI0 : cs_I (bx m).2.2.2.2.2 v2 v3 v2.toInt (-2) := Or.inl ⟨rfl, fun c _ hcc hle => by have := hcc.1; omega⟩
    refine g1 _ (fun u2 r2 => br_t (by decide) ?_)
    refine mb_aftc (ml_RB m r2) hm rfl rfl v2 hT (fun A p C r t4 u4 q1 q2 q3 q4 r4 => ⟨cs_N k1 v2.toInt + 1, ?_⟩) (fun q1 t4 u4 r4 => ⟨cs_N k1 v2.toInt + 1, ?_⟩)
    · exact cs_loop hm hB (by omega) (by omega) hT hP fin _ v2.toInt (-2) r 0 t4 u4 rfl (by have := hN v2.toInt; omega) (Int.le_refl _) hI0 (Or.inl ⟨A, p, C, q1, q2, q3, q4⟩) (ml_BR r4)
    · exact cs_loop hm hB (by omega) (by omega) hT hP fin _ v2.toInt (-2) (-2) 0 t4 u4 rfl (by have := hN v2.toInt; omega) (Int.le_refl _) hI0 (Or.inr ⟨rfl, q1⟩) (ml_BR r4)
end
section
/-! expunge: the mail store's loop -/
def ex_k (a : mb_Msg) : Bool := decide (¬ (a.2.2.1 &&& 1) = 1)
theorem ex_fl : ∀ f, f < 32 → ((nI f &&& 1 = 1) ↔ ¬ (nI f - nI f / 2 * 2 = 0)) := by decide
theorem ex_loop {post : Int32 → SX → Prop} {K : Nat} {V : ms_M} {m s : Nat} {y : ms_YT} {x : ms_XT} {th : Bool} {vl nx hg ls : Nat} (hm : m < 4) (hnx : nx < 900000) :
    ∀ (C A : List mb_Msg) (B : ms_B) (g j : Nat) (t : ms_TT) (u : SX) (z : Int32), mb_box B th vl nx (hg + g) ls (A ++ C) → ms_RB K m V m y x B t u → z = vx_hd C → j + C.length ≤ 14 → hg + g + C.length < 900000 →
    (∀ (B' : ms_B) (t' : ms_TT) (u' : SX), mb_box B' th vl nx (hg + (g + (C.length - (C.filter ex_k).length))) ls (A ++ C.filter ex_k) → ms_RB K m V m y x B' t' u' → xc_expunge_97 post (nI s) (nI m) (nI (g + (C.length - (C.filter ex_k).length))) u') →
    xc_expunge_36 post (nI s) (nI m) (C.length + 1) (nI g) z (nI j) u := by
  intro C
  induction C with
  | nil =>
    intro A B g j t u z hB hR hz hj hh k
    subst hz
    have hk := k B t u hB hR
    rw [List.length_nil, xe_expunge_36]
    exact br_c (fun _ => hk) (fun _ => br_t (by decide) hk)
  | cons a C ih =>
    intro A B g j t u z hB hR hz hj hh k
    have hz : z = nI a.1 := hz
    subst hz
    rw [List.length_cons] at hj hh
    have hms := hB.2.2.2.2.2
    obtain ⟨arc, a14, an1, anx, _, _⟩ := hms.1 a (by simp)
    have hso := hms.2.1
    have hso' := hso
    rw [List.pairwise_append, List.pairwise_cons] at hso'
    have ta : (nI a.1).toInt = (a.1 : Int) := nI_toInt (by omega)
    have hfl := List.length_filter_le ex_k C
    rw [List.length_cons, xe_expunge_36]
    refine br_f (na_nle (a := 14) (b := j) rfl rfl (by omega) (by omega)) (br_f (nI_nle (by omega) (by omega)) ?_)
    refine mb_recof hR hm rfl (nI a.1) hms (fun P a' Q t3 u3 h1 h2 r3 => ?_) (fun hno t3 u3 r3 => absurd ta.symm (hno a (by simp)))
    have e := (ml_uni hso rfl h1 (by rw [ta] at h2; omega)).1
    subst e
    refine mb_entry r3 hm (n := a'.2.2.2.2) (c := 2) a14 (by omega) rfl rfl rfl (fun u4 r4 => ?_)
    rw [arc.2.2.1]
    refine br_c (fun hb => ?_) (fun hb => ?_)
    · have hf : (a' :: C).filter ex_k = C.filter ex_k := by
        rw [List.filter_cons, if_neg]
        unfold ex_k
        simp [hb]
      rw [hf, List.length_cons] at k
      refine mb_out r4 rfl hm rfl rfl hB (by omega) hnx (fun B' t5 u5 r5 hB' => nm_r (nI_1 g) ?_)
      rw [xe_expunge_81]
      have go : ∀ (z' : Int32) (t6 : ms_TT) (u6 : SX), z' = vx_hd C → ms_RB K m V m y x B' t6 u6 → xc_expunge_36 post (nI s) (nI m) (C.length + 1) (nI (g + 1)) z' (nI (j + 1)) u6 := by
        intro z' t6 u6 hz' r6
        refine ih A B' (g + 1) (j + 1) t6 u6 z' hB' r6 hz' (by omega) (by omega) (fun B7 t7 u7 hB7 r7 => ?_)
        rw [show g + 1 + (C.length - (C.filter ex_k).length) = g + (C.length + 1 - (C.filter ex_k).length) from by omega] at hB7 ⊢
        exact k B7 t7 u7 hB7 r7
      refine mb_nx (A := A) (C := C) r5 hm rfl rfl (nI a'.1) hB'.2.2.2.2.2 hnx rfl (fun b hbA => ?_) (fun b hbC => ?_) (fun b Q' t6 u6 eQ r6 => nm_r (nI_1 j) (go _ t6 u6 (by rw [eQ]; rfl) r6)) (fun eQ t6 u6 r6 => nm_r (nI_1 j) (go _ t6 u6 (by rw [eQ]; rfl) r6))
      · rw [ta]; have := hso'.2.2 b hbA a' (by simp); omega
      · rw [ta]; have := hso'.2.1.1 b hbC; omega
    · have hf : (a' :: C).filter ex_k = a' :: C.filter ex_k := by
        rw [List.filter_cons, if_pos]
        unfold ex_k
        simp [hb]
      rw [hf, List.length_cons, List.length_cons] at k
      rw [xe_expunge_81]
      have hB2 : mb_box B th vl nx (hg + g) ls ((A ++ [a']) ++ C) := by rw [List.append_assoc]; exact hB
      have go : ∀ (z' : Int32) (t6 : ms_TT) (u6 : SX), z' = vx_hd C → ms_RB K m V m y x B t6 u6 → xc_expunge_36 post (nI s) (nI m) (C.length + 1) (nI g) z' (nI (j + 1)) u6 := by
        intro z' t6 u6 hz' r6
        refine ih (A ++ [a']) B g (j + 1) t6 u6 z' hB2 r6 hz' (by omega) (by omega) (fun B7 t7 u7 hB7 r7 => ?_)
        rw [List.append_assoc, List.singleton_append] at hB7
        rw [show C.length - (C.filter ex_k).length = C.length + 1 - ((C.filter ex_k).length + 1) from by omega] at hB7 ⊢
        exact k B7 t7 u7 hB7 r7
      refine mb_nx (A := A ++ [a']) (C := C) r4 hm rfl rfl (nI a'.1) hms hnx (by simp) (fun b hbA => ?_) (fun b hbC => ?_) (fun b Q' t6 u6 eQ r6 => nm_r (nI_1 j) (go _ t6 u6 (by rw [eQ]; rfl) r6)) (fun eQ t6 u6 r6 => nm_r (nI_1 j) (go _ t6 u6 (by rw [eQ]; rfl) r6))
      · rw [ta]
        rcases List.mem_append.mp hbA with h | h
        · have := hso'.2.2 b h a' (by simp); omega
        · rw [List.mem_singleton] at h; rw [h]; exact Int.le_refl _
      · rw [ta]; have := hso'.2.1.1 b hbC; omega
end
section
/-! expunge: the reference's loop -/
def ey_mk (v : SY) (nu si fl ch : Nat → Int32) : SY := (yg_validities v, yg_there v, yg_validity v, yg_next v, yg_highest v, yg_counts v, nu, si, fl, ch, yg_selected v, yg_lengths v, yg_views v)
theorem ey_g1 (v : SY) (nu si fl ch : Nat → Int32) : yg_counts (ey_mk v nu si fl ch) = yg_counts v := rfl
theorem ey_g2 (v : SY) (nu si fl ch : Nat → Int32) : yg_highest (ey_mk v nu si fl ch) = yg_highest v := rfl
theorem ey_g3 (v : SY) (nu si fl ch : Nat → Int32) : yg_numbers (ey_mk v nu si fl ch) = nu := rfl
theorem ey_g4 (v : SY) (nu si fl ch : Nat → Int32) : yg_sizes (ey_mk v nu si fl ch) = si := rfl
theorem ey_g5 (v : SY) (nu si fl ch : Nat → Int32) : yg_flags (ey_mk v nu si fl ch) = fl := rfl
theorem ey_g6 (v : SY) (nu si fl ch : Nat → Int32) : yg_changes (ey_mk v nu si fl ch) = ch := rfl
theorem ey_1 (v : SY) (nu si fl ch : Nat → Int32) : ey_mk (ey_mk v nu si fl ch) = ey_mk v := rfl
theorem ey_2 (v : SY) : v = ey_mk v (yg_numbers v) (yg_sizes v) (yg_flags v) (yg_changes v) := rfl
def ey_at (nu si fl ch : Nat → Int32) (i : Nat) (a : mb_Msg) : Prop := nu i = nI a.1 ∧ si i = a.2.1 ∧ fl i = a.2.2.1 ∧ ch i = nI a.2.2.2.1
def ey_o (m : Nat) (nu si fl ch nu' si' fl' ch' : Nat → Int32) : Prop := ∀ i, (i < 14 * m ∨ 14 * m + 14 ≤ i) → nu' i = nu i ∧ si' i = si i ∧ fl' i = fl i ∧ ch' i = ch i
theorem ey_loop {post : Int32 → SY → Prop} {v : SY} {s m L0 : Nat} (hm : m < 4) (hL0 : L0 ≤ 14) (hc : yg_counts v m = nI L0) :
    ∀ (L Kp : List mb_Msg) (p : Nat) (nu si fl ch : Nat → Int32), p + L.length = L0 → Kp.length ≤ p → (∀ i a, Kp[i]? = some a → ey_at nu si fl ch (14 * m + i) a) → (∀ i a, L[i]? = some a → ey_at nu si fl ch (14 * m + p + i) a) → (∀ a, a ∈ L → ∃ f, f < 32 ∧ a.2.2.1 = nI f) →
    (∀ nu' si' fl' ch', (∀ i a, (Kp ++ L.filter ex_k)[i]? = some a → ey_at nu' si' fl' ch' (14 * m + i) a) → ey_o m nu si fl ch nu' si' fl' ch' → wpY_dropGone (fun _ u => post (nI (L0 - (Kp ++ L.filter ex_k).length)) u) (ys_counts (ys_highest (ey_mk v nu' si' fl' ch') (upd (yg_highest v) m (yg_highest v m + nI (L0 - (Kp ++ L.filter ex_k).length)))) (upd (yg_counts v) m (nI (Kp ++ L.filter ex_k).length))) (nI s)) →
    yc_expunge_29 post (nI s) (nI m) (L.length + 1) (nI Kp.length) (nI (14 * m + p)) (ey_mk v nu si fl ch) := by
  intro L
  induction L with
  | nil =>
    intro Kp p nu si fl ch hp hkp hK hL hf k
    rw [List.length_nil] at hp
    have hp' : p = L0 := by omega
    subst hp'
    rw [List.filter_nil, List.append_nil] at k
    rw [List.length_nil, ye_expunge_29, ey_g1, ey_g2, nI_clamp (n := m) (by omega), hc, na_14 m p]
    refine ⟨vp_in_nI hm (by omega), br_t (Int32.le_refl _) ⟨vp_in_nI hm (by omega), nm_r (pk_sub hkp) ⟨vp_in_nI hm (by omega), nm_e ⟨vp_in_nI hm (by omega), vp_in_nI hm (by omega), nm_e ?_⟩⟩⟩⟩
    exact k nu si fl ch hK (fun _ _ => ⟨rfl, rfl, rfl, rfl⟩)
  | cons a L ih =>
    intro Kp p nu si fl ch hp hkp hK hL hf k
    rw [List.length_cons] at hp
    have h0 := hL 0 a rfl
    have hL' : ∀ i b, L[i]? = some b → ey_at nu si fl ch (14 * m + (p + 1) + i) b := fun i b hi => by
      have := hL (i + 1) b (by simpa using hi)
      rw [show 14 * m + (p + 1) + i = 14 * m + p + (i + 1) from by omega]
      exact this
    obtain ⟨q1, q2, q3, q4⟩ := h0
    rw [Nat.add_zero] at q1 q2 q3 q4
    obtain ⟨f, hf32, ef⟩ := hf a (by simp)
    have hf' : ∀ b, b ∈ L → ∃ f, f < 32 ∧ b.2.2.1 = nI f := fun b hb => hf b (by simp [hb])
    rw [List.length_cons, ye_expunge_29, ey_g1, ey_g3, ey_g4, ey_g5, ey_g6, nI_clamp (n := m) (by omega), hc, na_14 m L0, nI_clamp (n := 14 * m + p) (by omega), q1, q2, q3, q4]
    refine ⟨vp_in_nI hm (by omega), br_f (nI_ge (by omega) (by omega)) ⟨vp_in_nI (by omega) (by omega), by decide, br_c (fun hz => ?_) (fun hz => ?_)⟩⟩
    · have hka : ex_k a = true := by
        unfold ex_k
        rw [ef] at hz ⊢
        exact decide_eq_true (fun h => (ex_fl f hf32).mp h hz)
      rw [List.filter_cons, if_pos hka] at k
      refine nm_r (na_14 m Kp.length) ?_
      rw [nI_clamp (n := 14 * m + Kp.length) (by omega)]
      refine ⟨vp_in_nI (by omega) (by omega), vp_in_nI (by omega) (by omega), nm_e ⟨vp_in_nI (by omega) (by omega), vp_in_nI (by omega) (by omega), nm_e ⟨vp_in_nI (by omega) (by omega), vp_in_nI (by omega) (by omega), nm_e ⟨vp_in_nI (by omega) (by omega), vp_in_nI (by omega) (by omega), nm_e (nm_r (nI_1 _) (nm_r (nI_1 _) ?_))⟩⟩⟩⟩
      have h := ih (Kp ++ [a]) (p + 1) (upd nu (14 * m + Kp.length) (nI a.1)) (upd si (14 * m + Kp.length) a.2.1) (upd fl (14 * m + Kp.length) a.2.2.1) (upd ch (14 * m + Kp.length) (nI a.2.2.2.1)) (by omega) (by rw [List.length_append, List.length_cons, List.length_nil]; omega) (fun i b hi => ?_) (fun i b hi => ?_) hf' (fun nu' si' fl' ch' w1 w2 => ?_)
      · rw [List.length_append, List.length_cons, List.length_nil] at h
        exact h
      · by_cases e : i = Kp.length
        · subst e
          rw [tw_mid, Option.some.injEq] at hi
          subst hi
          exact ⟨pk_us, pk_us, pk_us, pk_us⟩
        · have hlt := ml_lt hi
          rw [List.length_append, List.length_cons, List.length_nil] at hlt
          rw [List.getElem?_append_left (by omega)] at hi
          obtain ⟨z1, z2, z3, z4⟩ := hK i b hi
          exact ⟨(pk_un (by omega)).trans z1, (pk_un (by omega)).trans z2, (pk_un (by omega)).trans z3, (pk_un (by omega)).trans z4⟩
      · obtain ⟨z1, z2, z3, z4⟩ := hL' i b hi
        exact ⟨(pk_un (by omega)).trans z1, (pk_un (by omega)).trans z2, (pk_un (by omega)).trans z3, (pk_un (by omega)).trans z4⟩
      · rw [List.append_assoc, List.singleton_append] at w1 ⊢
        refine k nu' si' fl' ch' w1 (fun i hi => ?_)
        obtain ⟨z1, z2, z3, z4⟩ := w2 i hi
        exact ⟨z1.trans (pk_un (by omega)), z2.trans (pk_un (by omega)), z3.trans (pk_un (by omega)), z4.trans (pk_un (by omega))⟩
    · have hka : ¬ ex_k a = true := by
        unfold ex_k
        rw [ef] at hz ⊢
        have := (ex_fl f hf32).mpr hz
        simp [this]
      rw [List.filter_cons, if_neg hka] at k
      exact nm_r (nI_1 _) (ih Kp (p + 1) nu si fl ch (by omega) (by omega) hK hL' hf' k)
end
section
/-! expunge -/
def ey_fin (v : SY) (nu si fl ch hi cn : Nat → Int32) : SY := (yg_validities v, yg_there v, yg_validity v, yg_next v, hi, cn, nu, si, fl, ch, yg_selected v, yg_lengths v, yg_views v)
theorem ey_3 (v : SY) (nu si fl ch hi cn : Nat → Int32) : ys_counts (ys_highest (ey_mk v nu si fl ch) hi) cn = vy_mk (ey_fin v nu si fl ch hi cn) (yg_lengths v) (yg_views v) := rfl
theorem ey_4 (v : SY) (nu si fl ch hi cn : Nat → Int32) : yg_selected (ey_fin v nu si fl ch hi cn) = yg_selected v := rfl
theorem ey_5 (v : SY) (nu si fl ch hi cn ln vw : Nat → Int32) (k : Nat) (bx : Nat → ml_B) (W : Nat) : (yg_validities (vy_mk (ey_fin v nu si fl ch hi cn) ln vw) = yg_validities v) := rfl
theorem ey_6 {v : SY} {nu si fl ch hi cn : Nat → Int32} {m j : Nat} (hj : j ≠ m) (ho : ey_o m (yg_numbers v) (yg_sizes v) (yg_flags v) (yg_changes v) nu si fl ch) (h1 : hi j = yg_highest v j) (h2 : cn j = yg_counts v j) : ml_ye v (ey_fin v nu si fl ch hi cn) j := ⟨rfl, rfl, rfl, h1, h2, fun i hi' => ho (14 * j + i) (by omega)⟩
theorem ey_7 {k : Nat} {v : SY} {nu si fl ch hi cn : Nat → Int32} {m vl nx hg ls : Nat} {ms : List mb_Msg} (e1 : yg_there v m = 1) (e2 : ms.length ≤ 14) (e3 : ∀ a, a ∈ ms → ∃ f, f < 32 ∧ a.2.2.1 = nI f) (e4 : 1 ≤ nx ∧ nx ≤ k + 1 ∧ hg ≤ 3 * k + 1) (e5 : yg_validity v m = nI vl) (e6 : yg_next v m = nI nx) (e7 : hi m = nI hg) (e8 : cn m = nI ms.length) (e9 : ∀ i a, ms[i]? = some a → ey_at nu si fl ch (14 * m + i) a) : ml_Y k (ey_fin v nu si fl ch hi cn) m (true, vl, nx, hg, ls, ms) := ⟨e1, fun h => by simp at h, e2, e3, fun _ => ⟨e4, e5, e6, e7, e8, e9⟩⟩
theorem i_vc_expunge {k : Nat} {u : SX} {v : SY} (I : i_Rel k u v) (hk : k + 5 ≤ 2560) (v1 : Int32) : wpX_expunge (fun r u' => wpY_expunge (fun r' v' => r' = r ∧ i_Rel (k + 5) u' v') v v1) u v1 := by
  obtain ⟨V, t, y, x, bx, W, hR, hrest⟩ := ml_out hk I
  have hx := hR.2.2.2.2
  obtain ⟨e1, e2, e3⟩ := ml_xs hx
  rw [xe_expunge]
  rcases ml_idl hx hrest.2.2.1 v1 with ⟨e, he, g1, g2⟩ | ⟨s, m, vs, hs, rfl, hon, g1, g2⟩
  · refine g1 _ (br_f he ?_)
    rw [ye_expunge]
    exact g2 _ (br_f he (g2 _ ⟨rfl, i_up I⟩))
  · obtain ⟨hm, s1, s2, ht, hl, hsort, hbd, hinv, y1, y2, y3⟩ := hon
    have hX := hrest.1 m hm
    have hY := hrest.2.1 m hm
    have hB := hX.2.2.2.2.2
    obtain ⟨bms, bnx, bhg⟩ := ml_nx hX hY ht (by omega)
    obtain ⟨⟨n1, n2, n3⟩, c1, c2, c3, hc, hyl⟩ := hY.2.2.2.2 ht
    have hlen := hY.2.2.1
    have hb : ∀ n, n ∈ vs → n < 3000 := fun n hn => by have := hbd n hn; omega
    have hfl := List.length_filter_le ex_k (bx m).2.2.2.2.2
    have r0 := ml_RB m (ml_dirty m hR)
    refine g1 _ (br_t (by decide) ⟨vp_in_nI hs (by omega), ?_⟩)
    rw [nI_clamp (n := s) (by omega), e1, s1]
    refine nm_r (nI_pred m) ?_
    have go : ∀ (z : Int32) (t1 : ms_TT) (u1 : SX), z = vx_hd (bx m).2.2.2.2.2 → ms_RB (k + 1) m V m y x (V m) t1 u1 → ∃ n36 : Nat, xc_expunge_36 (fun r u' => wpY_expunge (fun r' v' => r' = r ∧ i_Rel (k + 5) u' v') v (nI s)) (nI s) (nI m) n36 0 z 0 u1 := by
      intro z t1 u1 hz r1
      refine ⟨(bx m).2.2.2.2.2.length + 1, ex_loop (hg := (bx m).2.2.2.1) (s := s) hm (by omega) (bx m).2.2.2.2.2 [] (V m) 0 0 t1 u1 z hX r1 hz (by omega) (by omega) (fun B' t2 u2 hB' r2 => ?_)⟩
      rw [List.nil_append, Nat.zero_add] at hB'
      rw [Nat.zero_add, xe_expunge_97]
      refine ml_save r2 hm rfl (by omega) (fun u3 r3 => ?_)
      have hB3 : mb_ms (ms_mB V m B' m) (bx m).2.2.1 ((bx m).2.2.2.1 + ((bx m).2.2.2.2.2.length - ((bx m).2.2.2.2.2.filter ex_k).length)) ((bx m).2.2.2.2.2.filter ex_k) := by rw [ms_mB_s]; exact hB'.2.2.2.2.2
      refine tx_forget hm hs rfl rfl hB3 r3 ⟨y1, fun i n h => (y3 i n h).1⟩ hl hb (fun x4 t4 u4 r4 w1 w2 => ?_)
      rw [ye_expunge]
      refine g2 _ (br_t (by decide) ⟨vp_in_nI hs (by omega), ?_⟩)
      rw [nI_clamp (n := s) (by omega), s2]
      refine nm_e (nm_r (na_m14 m) ⟨(bx m).2.2.2.2.2.length + 1, ?_⟩)
      rw [ey_2 v]
      refine ey_loop (v := v) (L0 := (bx m).2.2.2.2.2.length) hm hlen hc (bx m).2.2.2.2.2 [] 0 _ _ _ _ (by omega) (Nat.le_refl _) (fun i a h => absurd h (by simp)) (fun i a h => hyl i a h) hY.2.2.2.1 (fun nu si fl ch q1 q2 => ?_)
      rw [List.nil_append] at q1 ⊢
      rw [ey_3, c3, nI_add]
      have hms' : ∀ a, a ∈ (bx m).2.2.2.2.2.filter ex_k → a ∈ (bx m).2.2.2.2.2 := fun a ha => (List.mem_filter.mp ha).1
      generalize hms : (bx m).2.2.2.2.2.filter ex_k = ms' at *
      have hX' : ml_X B' (true, (bx m).2.1, (bx m).2.2.1, (bx m).2.2.2.1 + ((bx m).2.2.2.2.2.length - ms'.length), (bx m).2.2.2.2.1, ms') := by
        have h := hB'
        rw [ht] at h
        exact h
      have hY' : ml_Y (k + 5) (ey_fin v nu si fl ch (upd (yg_highest v) m (nI ((bx m).2.2.2.1 + ((bx m).2.2.2.2.2.length - ms'.length)))) (upd (yg_counts v) m (nI ms'.length))) m (true, (bx m).2.1, (bx m).2.2.1, (bx m).2.2.2.1 + ((bx m).2.2.2.2.2.length - ms'.length), (bx m).2.2.2.2.1, ms') :=
        ey_7 (by rw [hY.1, ht]; rfl) (by omega) (fun a ha => hY.2.2.2.1 a (hms' a ha)) ⟨n1, by omega, by omega⟩ c1 c2 pk_us pk_us q1
      refine ty_drop (k0 := k + 5) (by omega) hm hs rfl hX' hY' rfl (by rw [ey_4]; exact s2) hl ⟨y2, fun i n h => (y3 i n h).2⟩ hb (fun ln vw z1 z2 => ⟨rfl, ?_⟩)
      obtain ⟨gX, gY, gS, W1, W2, W3, W4⟩ := ml_up hrest (k' := k + 5) (by omega)
      refine ml_in (bx := ml_ub bx m (true, (bx m).2.1, (bx m).2.2.1, (bx m).2.2.2.1 + ((bx m).2.2.2.2.2.length - ms'.length), (bx m).2.2.2.2.1, ms')) (W := W) hk r4 (by omega) ⟨fun j hj => ?_, fun j hj => ?_, fun s' hs' => ?_, W1, W2, fun j hj => ?_, W4.elim Or.inl (fun ⟨j, hj, e⟩ => Or.inr ⟨j, hj, ?_⟩)⟩
      · by_cases e : j = m
        · subst e; rw [ms_mB_s, ml_ub_s]; exact hX'
        · rw [ms_mB_o _ _ e, ml_ub_o _ _ e]; exact gX j hj
      · by_cases e : j = m
        · subst e; rw [ml_ub_s]; exact ml_Yf hY' (vy_vf _ _ _ _)
        · rw [ml_ub_o _ _ e]
          exact ml_Yf (ml_Yf (gY j hj) (ey_6 e q2 (pk_un e) (pk_un e))) (vy_vf _ _ _ _)
      · by_cases e : s' = s
        · subst e
          refine Or.inr ⟨m, vs.filter (vx_p ms'), hm, by rw [w2.1]; exact s1, by rw [vy_g5, ey_4]; exact s2, by rw [ml_ub_s], Nat.le_trans (List.length_filter_le _ _) hl, List.Pairwise.filter _ hsort, fun n hn => ?_, fun a ha => ?_, w1.1, by rw [vy_g1]; exact z1.1, fun i n h => ⟨w1.2 i n h, by rw [vy_g2]; exact z1.2 i n h⟩⟩
          · rw [ml_ub_s]; exact hbd n (List.mem_filter.mp hn).1
          · rw [ml_ub_s] at ha
            rcases hinv a (hms' a ha) with h | h
            · exact Or.inl (List.mem_filter.mpr ⟨h, vx_p_t ha rfl⟩)
            · exact Or.inr (fun n hn => h n (List.mem_filter.mp hn).1)
        · have p1 := w2.2 s' e
          have p2 := z2 s' e
          refine ml_Sf (gS s' hs') ⟨by rw [w2.1], by rw [vy_g5, ey_4], p1.1, p2.1, fun i hi => ⟨p1.2 i hi, p2.2 i hi⟩⟩ (fun j hj => ?_)
          by_cases e' : j = m
          · subst e'
            intro _
            rw [ml_ub_s]
            exact ⟨rfl, Nat.le_refl _, fun a ha => Or.inl ⟨a, hms' a ha, rfl⟩⟩
          · exact ml_be_o e'
      · by_cases e : j = m
        · subst e; rw [ml_ub_s]; exact W3 j hj
        · rw [ml_ub_o _ _ e]; exact W3 j hj
      · by_cases e' : j = m
        · subst e'; rw [ml_ub_s]; exact e
        · rw [ml_ub_o _ _ e']; exact e
    refine mb_nx (A := []) (C := (bx m).2.2.2.2.2) r0 hm rfl rfl 0 hB (by omega) rfl (fun a ha => absurd ha (by simp)) (fun a ha => ?_) (fun b Q t1 u1 eQ r1 => go _ t1 u1 (by rw [eQ]; rfl) r1) (fun eQ t1 u1 r1 => go _ t1 u1 (by rw [eQ]; rfl) r1)
    have := (bms a ha).1
    show (0 : Int) < _
    omega
end
section
/-! faults: the walk over a tree -/
theorem fy_g {y : ms_YT} {u : SX} (h : ms_Y u = y) : xg_waiting u = y.1 ∧ xg_wrong u = y.2.1 ∧ xg_seenNodes u = y.2.2.1 ∧ xg_seenKeys u = y.2.2.2.1 ∧ xg_walkNode u = y.2.2.2.2.1 ∧ xg_walkLevel u = y.2.2.2.2.2.1 ∧ xg_walkLow u = y.2.2.2.2.2.2.1 ∧ xg_walkHigh u = y.2.2.2.2.2.2.2 := by subst h; exact ⟨rfl, rfl, rfl, rfl, rfl, rfl, rfl, rfl⟩
section
variable {K w : Nat} {V M : ms_M} {t : ms_TT} {y : ms_YT} {x : ms_XT} {u : SX}
theorem fy_wr (h : ms_R K w V M t y x u) (a : Int32) : ms_R K w V M t (y.1, a, y.2.2) x (xs_wrong u a) := by
  obtain ⟨hK, hB, hT, rfl, hX⟩ := h
  exact ⟨hK, hB, hT, rfl, hX⟩
theorem fy_sn (h : ms_R K w V M t y x u) (a : Int32) : ms_R K w V M t (y.1, y.2.1, a, y.2.2.2) x (xs_seenNodes u a) := by
  obtain ⟨hK, hB, hT, rfl, hX⟩ := h
  exact ⟨hK, hB, hT, rfl, hX⟩
theorem fy_sk (h : ms_R K w V M t y x u) (a : Int32) : ms_R K w V M t (y.1, y.2.1, y.2.2.1, a, y.2.2.2.2) x (xs_seenKeys u a) := by
  obtain ⟨hK, hB, hT, rfl, hX⟩ := h
  exact ⟨hK, hB, hT, rfl, hX⟩
theorem fy_wt (h : ms_R K w V M t y x u) (a : Int32) : ms_R K w V M t (a, y.2) x (xs_waiting u a) := by
  obtain ⟨hK, hB, hT, rfl, hX⟩ := h
  exact ⟨hK, hB, hT, rfl, hX⟩
theorem fy_exp {post : SX → Prop} {p : Int32} (h : ms_R K w V M t y x u) (hp : ¬ p = 0) (k : ∀ u', ms_R K w V M t y x u' → post u') : wpX_expect post u p := by
  rw [xe_expect]
  refine br_f hp (nm_e (k _ ?_))
  have e := (fy_g h.2.2.2.1).2.1
  have h2 := fy_wr h (xg_wrong u + 0)
  rw [Int32.add_zero, e] at h2
  rw [Int32.add_zero, e]
  exact h2
end
abbrev fy_E : Type := Nat × Nat × Int × Int × tr_KV × List Nat
def fy_st (y : ms_YT) (S : List fy_E) : Prop := y.1 = nI S.length ∧ ∀ i e, S[i]? = some e → y.2.2.2.2.1 i = nI e.1 ∧ y.2.2.2.2.2.1 i = nI e.2.1 ∧ (y.2.2.2.2.2.2.1 i).toInt = e.2.2.1 ∧ (y.2.2.2.2.2.2.2 i).toInt = e.2.2.2.1
def fy_ok (B : ms_B) (root : Nat) (e : fy_E) : Prop := ∃ mm, tr_T B e.2.1 mm e.1 e.2.2.1 e.2.2.2.1 e.2.2.2.2.1 e.2.2.2.2.2 ∧ (mm = 2 ∨ (mm = 1 ∧ e.1 = root ∧ e.2.1 = 0)) ∧ 0 ≤ e.2.2.1 ∧ e.2.2.2.1 ≤ 1000000
def fy_kv (S : List fy_E) : tr_KV := S.flatMap (fun e => e.2.2.2.2.1)
def fy_nn (S : List fy_E) : List Nat := S.flatMap (fun e => e.2.2.2.2.2)
/-- the three figures but the stack -/
def fy_q (y y' : ms_YT) : Prop := y'.2.1 = y.2.1 ∧ y'.2.2.1 = y.2.2.1 ∧ y'.2.2.2.1 = y.2.2.2.1
theorem fy_push {post : SX → Prop} {K w : Nat} {V M : ms_M} {t : ms_TT} {y : ms_YT} {x : ms_XT} {u : SX} {S : List fy_E} {e : fy_E} {p0 p1 p2 p3 : Int32} (hR : ms_R K w V M t y x u) (hst : fy_st y S) (hl : S.length ≤ 39) (e0 : p0 = nI e.1) (e1 : p1 = nI e.2.1) (e2 : p2.toInt = e.2.2.1) (e3 : p3.toInt = e.2.2.2.1)
    (k : ∀ y' u', ms_R K w V M t y' x u' → fy_st y' (S ++ [e]) → fy_q y y' → post u') : wpX_push post u p0 p1 p2 p3 := by
  rw [xe_push]
  have h0 : xg_waiting u = nI S.length := (fy_g hR.2.2.2.1).1.trans hst.1
  rw [h0, nI_clamp (n := S.length) (by omega)]
  refine br_f (na_nle (a := 40) (b := S.length) rfl rfl (by omega) (by omega)) ⟨vp_in_nI (by omega) (by omega), nm_e ⟨vp_in_nI (by omega) (by omega), nm_e ⟨vp_in_nI (by omega) (by omega), nm_e ⟨vp_in_nI (by omega) (by omega), nm_e (nm_r (nI_1 S.length) ?_)⟩⟩⟩⟩
  obtain ⟨hK, hB, hT, hY, hX⟩ := hR
  subst hY
  refine k (nI (S.length + 1), xg_wrong u, xg_seenNodes u, xg_seenKeys u, upd (xg_walkNode u) S.length p0, upd (xg_walkLevel u) S.length p1, upd (xg_walkLow u) S.length p2, upd (xg_walkHigh u) S.length p3) _ ⟨hK, hB, hT, rfl, hX⟩ ⟨by rw [List.length_append]; rfl, fun i e' hi => ?_⟩ ⟨rfl, rfl, rfl⟩
  by_cases hi' : i = S.length
  · subst hi'
    rw [tw_mid, Option.some.injEq] at hi
    subst hi
    exact ⟨pk_us.trans e0, pk_us.trans e1, (congrArg Int32.toInt pk_us).trans e2, (congrArg Int32.toInt pk_us).trans e3⟩
  · have hlt := ml_lt hi
    rw [List.length_append, List.length_cons, List.length_nil] at hlt
    rw [List.getElem?_append_left (by omega)] at hi
    obtain ⟨z1, z2, z3, z4⟩ := hst.2 i e' hi
    exact ⟨(pk_un hi').trans z1, (pk_un hi').trans z2, (congrArg Int32.toInt (pk_un hi')).trans z3, (congrArg Int32.toInt (pk_un hi')).trans z4⟩
theorem fy_leaf {post : SX → Prop} {K w : Nat} {V : ms_M} {t : ms_TT} {x : ms_XT} {m z c : Nat} {lo hi : Int} {hi' : Int32} {kv : tr_KV} (hm : m < 4) (hz : z < 41) (hT : tr_lf (V m) z kv) (h3 : kv.length ≤ 3) (hrg : tr_rg lo hi kv) (ehi : hi'.toInt = hi) :
    ∀ (C A : tr_KV) (pv : Int32) (y : ms_YT) (u : SX) (c : Nat), kv = A ++ C → ms_R K w V V t y x u → y.2.2.2.1 = nI c → (∀ q, q ∈ C → pv.toInt < q.1) →
    (∀ u', ms_R K w V V t (y.1, y.2.1, y.2.2.1, nI (c + C.length), y.2.2.2.2) x u' → post u') → xc_checkLeaf_9 post (nI m) (nI z) (nI kv.length) hi' (C.length + 1) pv (nI A.length) u := by
  intro C
  induction C with
  | nil =>
    intro A pv y u c e hR hc hpv k
    rw [List.append_nil] at e
    subst e
    rw [List.length_nil, xe_checkLeaf_9]
    refine br_t (Int32.le_refl _) (k u ?_)
    rw [List.length_nil, Nat.add_zero, ← hc]
    exact hR
  | cons p C ih =>
    intro A pv y u c e hR hc hpv k
    have el : kv.length = A.length + C.length + 1 := by rw [e]; simp; omega
    obtain ⟨q1, q2⟩ := hT.2 A.length p (by rw [e]; exact tw_mid A p C)
    obtain ⟨r1, r2, r3⟩ := hrg.1 p (by rw [e]; simp)
    have hp := hpv p (by simp)
    have hso := hrg.2
    rw [e, List.pairwise_append, List.pairwise_cons] at hso
    rw [List.length_cons, xe_checkLeaf_9]
    refine br_f (nI_ge (by omega) (by omega)) (br_f (na_nle (a := 3) (b := A.length) rfl rfl (by omega) (by omega)) ?_)
    refine rb_key (ml_RB m hR) hm hz (i := A.length) (by omega) rfl rfl rfl (fun u1 r4 => ?_)
    refine rb_item r4 hm hz (i := A.length) (by omega) rfl rfl rfl (fun u2 r5 => ?_)
    have r6 := ml_BR r5
    rw [q2]
    refine br_f (by rw [Int32.le_iff_toInt_le, q1]; omega) (br_f (by rw [Int32.le_iff_toInt_le, q1, ehi]; omega) (br_f (nI_pos (by omega)) (br_f (na_nle (a := 14) (b := p.2) rfl rfl r3 (by omega)) ?_)))
    rw [xe_checkLeaf_73]
    refine fy_exp r6 (by decide) (fun u3 r7 => ?_)
    rw [(fy_g r7.2.2.2.1).2.2.2.1, hc]
    refine nm_r (nI_1 c) (nm_r (nI_1 _) ?_)
    have h := ih (A ++ [p]) (V m z (1 + A.length)) _ _ (c + 1) (by rw [e]; simp) (fy_sk r7 (nI (c + 1))) rfl (fun q hq => by rw [q1]; exact hso.2.1.1 q hq) (fun u' r' => k u' (by
      rw [List.length_cons, show c + (C.length + 1) = c + 1 + C.length from by omega]
      exact r'))
    rw [List.length_append, List.length_cons, List.length_nil] at h
    exact h
end
section
/-! faults: an inner node, a node -/
theorem fy_kv_c (e : fy_E) (S : List fy_E) : fy_kv (e :: S) = e.2.2.2.2.1 ++ fy_kv S := rfl
theorem fy_nn_c (e : fy_E) (S : List fy_E) : fy_nn (e :: S) = e.2.2.2.2.2 ++ fy_nn S := rfl
theorem fy_qt {a b c : ms_YT} (h1 : fy_q a b) (h2 : fy_q b c) : fy_q a c := ⟨h2.1.trans h1.1, h2.2.1.trans h1.2.1, h2.2.2.trans h1.2.2⟩
theorem fy_inner {post : SX → Prop} {K w : Nat} {V : ms_M} {t : ms_TT} {x : ms_XT} {m z l root : Nat} {hi : Int} {hi' : Int32} {ps : tr_PS} (hm : m < 4) (hz : z < 41) (hT : tr_nd (V m) z ps) (h4 : ps.length ≤ 4) (ehi : hi'.toInt = hi) (hhi : hi ≤ 1000000) :
    ∀ (C A : tr_PS) (lo : Int) (low : Int32) (kv : tr_KV) (ns : List Nat) (S : List fy_E) (y : ms_YT) (u : SX), ps = A ++ C → low.toInt = lo → 0 ≤ lo → tr_hi lo C = hi → tr_F (tr_T (V m) l 2) lo C kv ns → ms_R K w V V t y x u → fy_st y S → S.length + C.length ≤ 40 →
    (∀ (y' : ms_YT) (u' : SX) (S2 : List fy_E), ms_R K w V V t y' x u' → fy_st y' (S ++ S2) → fy_q y y' → (∀ e, e ∈ S2 → fy_ok (V m) root e) → fy_kv S2 = kv → fy_nn S2 = ns → post u') →
    xc_checkInner_7 post (nI m) (nI z) (nI ps.length) (nI (l + 1)) hi' (C.length + 1) low (nI A.length) u := by
  intro C
  induction C with
  | nil =>
    intro A lo low kv ns S y u e elo h0 eh hF hR hst hl k
    rw [List.append_nil] at e
    subst e
    obtain ⟨rfl, rfl⟩ := hF
    rw [List.length_nil, xe_checkInner_7]
    exact br_t (Int32.le_refl _) (k y u [] hR (by rw [List.append_nil]; exact hst) ⟨rfl, rfl, rfl⟩ (fun e he => absurd he (by simp)) rfl rfl)
  | cons p C ih =>
    intro A lo low kv ns S y u e elo h0 eh hF hR hst hl k
    obtain ⟨c, h⟩ := p
    rw [List.length_cons] at hl
    have el : ps.length = A.length + C.length + 1 := by rw [e]; simp; omega
    obtain ⟨q1, q2⟩ := hT.2 A.length (c, h) (by rw [e]; exact tw_mid A (c, h) C)
    obtain ⟨kv1, kv2, ns1, ns2, hT1, hF2, rfl, rfl⟩ := hF
    have hsz := tr_T_sz l 2 c lo h kv1 ns1 (by omega) hT1
    have hlh : lo < h := hsz.2.2.2.2.2.2
    have eh2 : tr_hi h C = hi := eh
    have hle : h ≤ hi := by
      have := (tr_F_sz (e := 2) (by omega) (fun c lo h kv ns hP => by
        have := tr_T_sz l 2 c lo h kv ns (by omega) hP
        have hp : 1 ≤ 2 ^ l := Nat.one_le_two_pow
        refine ⟨this.1, by omega, by omega⟩) C h kv2 ns2 hF2).2.1
      omega
    have main : ∀ (high : Int32) (u1 : SX), high.toInt = h → ms_R K w V V t y x u1 → xc_checkInner_41 post (xc_checkInner_7 post (nI m) (nI z) (nI ps.length) (nI (l + 1)) hi' (C.length + 1)) (nI m) (nI z) (nI ps.length) (nI (l + 1)) hi' low (nI A.length) high u1 := by
      intro high u1 eh1 r1
      rw [xe_checkInner_41]
      refine br_f (by rw [Int32.le_iff_toInt_le, eh1, elo]; omega) ?_
      rw [xe_checkInner_54]
      refine fy_exp r1 (by decide) (fun u2 r2 => ?_)
      refine rb_item (ml_RB m r2) hm hz (i := A.length) (by omega) rfl rfl rfl (fun u3 r3 => ?_)
      rw [q1]
      refine fy_push (e := (c, l, lo, h, kv1, ns1)) (ml_BR r3) hst (by omega) rfl (nI_pred l) elo eh1 (fun y4 u4 r4 s4 f4 => nm_r (nI_1 _) ?_)
      have h5 := ih (A ++ [(c, h)]) h high kv2 ns2 (S ++ [(c, l, lo, h, kv1, ns1)]) y4 u4 (by rw [e]; simp) eh1 (by omega) eh2 hF2 r4 s4 (by rw [List.length_append, List.length_cons, List.length_nil]; omega) (fun y' u' S2 r' s' f' ok' ek en => ?_)
      · rw [List.length_append, List.length_cons, List.length_nil] at h5
        exact h5
      · refine k y' u' ((c, l, lo, h, kv1, ns1) :: S2) r' (by rw [List.append_assoc, List.singleton_append] at s'; exact s') (fy_qt f4 f') (fun e' he' => ?_) (by rw [fy_kv_c, ek]) (by rw [fy_nn_c, en])
        rcases List.mem_cons.mp he' with e1 | e1
        · rw [e1]
          exact ⟨2, hT1, Or.inl rfl, h0, by show h ≤ 1000000; omega⟩
        · exact ok' e' e1
    rw [List.length_cons, xe_checkInner_7]
    refine br_f (nI_ge (by omega) (by omega)) (br_f (na_nle (a := 4) (b := A.length) rfl rfl (by omega) (by omega)) ?_)
    rw [na_s1 (by omega)]
    cases C with
    | nil =>
      have eh3 : h = hi := eh
      rw [List.length_nil] at el
      exact br_t (na_le (a := ps.length - 1) (b := A.length) rfl rfl (by omega) (by omega)) (main hi' u (by rw [ehi, eh3]) hR)
    | cons d D =>
      rw [List.length_cons] at el
      refine br_f (nI_ge (by omega) (by omega)) (rb_key (ml_RB m hR) hm hz (i := A.length) (by omega) rfl rfl rfl (fun u1 r1 => main _ u1 (q2 (by omega)) (ml_BR r1)))
end
section
/-! faults: a node -/
theorem fy_and (a : Int32) {k : Nat} (hk : k < 32) (h : bt a k = false) : a &&& ((1 : Int32) <<< (nI k &&& 31)) = 0 := by
  refine b_ext (fun i hi => ?_)
  rw [b_and, nt_one k hk i hi, b_0]
  by_cases e : i = k
  · subst e; rw [h]; rfl
  · rw [decide_eq_false e]; exact Bool.and_false _
theorem fy_node {post : SX → Prop} {K w : Nat} {V : ms_M} {t : ms_TT} {y : ms_YT} {x : ms_XT} {u : SX} {m root c : Nat} {e : fy_E} {S : List fy_E} {p0 p1 p2 p3 p4 p5 : Int32} (hm : m < 4) (hroot : root < 41) (hR : ms_R K w V V t y x u) (hst : fy_st y S) (hl : S.length ≤ 30) (ok : fy_ok (V m) root e) (hsn : bt y.2.2.1 (e.1 - 9) = false) (hc : y.2.2.2.1 = nI c)
    (e0 : p0 = nI m) (e1 : p1 = nI e.1) (e2 : p2 = nI e.2.1) (hL2 : e.2.1 < 30) (e3 : p3.toInt = e.2.2.1) (e4 : p4.toInt = e.2.2.2.1) (e5 : p5 = nI root)
    (k : ∀ (y' : ms_YT) (u' : SX) (S2 : List fy_E) (c' : Nat), ms_R K w V V t y' x u' → fy_st y' (S ++ S2) → y'.2.1 = y.2.1 → (∀ i, i < 32 → bt y'.2.2.1 i = (bt y.2.2.1 i || decide (i = e.1 - 9))) → y'.2.2.2.1 = nI (c + c') → c' + (fy_kv S2).length = e.2.2.2.2.1.length → (∀ e', e' ∈ S2 → fy_ok (V m) root e') → e.2.2.2.2.2 = e.1 :: fy_nn S2 → post u') : wpX_checkNode post u p0 p1 p2 p3 p4 p5 := by
  subst e0 e1 e2 e5
  obtain ⟨z, L, lo, hi, kv, ns⟩ := e
  obtain ⟨mm, hT, hmm, h0, h1⟩ := ok
  have hT : tr_T (V m) L mm z lo hi kv ns := hT
  have hmm1 : 1 ≤ mm := by omega
  have hsz := tr_T_sz L mm z lo hi kv ns hmm1 hT
  obtain ⟨_, _, _, z9, z41, _, hlh⟩ := hsz
  have hmm' : mm = 2 ∨ (mm = 1 ∧ z = root ∧ L = 0) := hmm
  have h0 : 0 ≤ lo := h0
  have h1 : hi ≤ 1000000 := h1
  have hsn : bt y.2.2.1 (z - 9) = false := hsn
  have e3 : p3.toInt = lo := e3
  have e4 : p4.toInt = hi := e4
  have hL2 : L < 30 := hL2
  show wpX_checkNode post u (nI m) (nI z) (nI L) p3 p4 (nI root)
  rw [xe_checkNode, na_s9 z9, (fy_g hR.2.2.2.1).2.2.1]
  refine br_f (na_nlt (a := z) (b := 9) rfl rfl z9 (by omega)) (br_f (na_nle (a := 41) (b := z) rfl rfl z41 (by omega)) (br_t (nI_pos' (by omega)) (nm_e (br_t (fy_and _ (by omega) hsn) ?_))))
  rw [xe_checkNode_51]
  refine fy_exp hR (by decide) (fun u1 r1 => nm_e ?_)
  rw [(fy_g r1.2.2.2.1).2.2.1]
  have r2 := fy_sn r1 (y.2.2.1 ||| ((1 : Int32) <<< (nI (z - 9) &&& 31)))
  have hbits : ∀ i, i < 32 → bt (y.2.2.1 ||| ((1 : Int32) <<< (nI (z - 9) &&& 31))) i = (bt y.2.2.1 i || decide (i = z - 9)) := fun i hi => nt_or _ (by omega) hi
  generalize (y.2.2.1 ||| ((1 : Int32) <<< (nI (z - 9) &&& 31))) = sn' at r2 hbits
  refine rb_cell (ml_RB m r2) hm (b := z) (c := 0) z41 (by omega) rfl rfl rfl (fun u3 r3 => ?_)
  have r3 := ml_BR r3
  have hst' : fy_st (y.1, y.2.1, sn', y.2.2.2) S := hst
  cases L with
  | zero =>
    obtain ⟨hlf, a1, a2, hrg, rfl, _, _⟩ := hT
    rw [hlf.1]
    have fin : ∀ z0 : Int32, ∀ zn : Nat, z0 = nI zn → zn ≤ kv.length → xc_checkNode_89 post (nI m) (nI z) (nI 0) p3 p4 (nI kv.length) z0 u3 := by
      intro z0 zn ez hle
      subst ez
      rw [xe_checkNode_89]
      refine br_f (nI_nlt hle (by omega)) (br_t rfl ?_)
      rw [xe_checkNode_110]
      refine br_f (na_nlt (a := 3) (b := kv.length) rfl rfl (by omega) (by omega)) ?_
      rw [xe_checkNode_118]
      refine fy_exp r3 (by decide) (fun u4 r4 => br_t rfl ?_)
      rw [xe_checkLeaf]
      refine nm_e ⟨kv.length + 1, ?_⟩
      have hp3 : (p3 - 1).toInt = lo - 1 := by
        rw [Int32.toInt_sub]
        rw [e3]
        show (lo - 1).bmod (2 ^ 32) = lo - 1
        exact Int.bmod_eq_of_le (by omega) (by omega)
      refine fy_leaf (c := 0) hm z41 hlf a2 hrg e4 kv [] (p3 - 1) _ u4 c rfl r4 hc (fun q hq => by rw [hp3]; have := hrg.1 q hq; omega) (fun u5 r5 => ?_)
      refine k _ u5 [] kv.length r5 (by rw [List.append_nil]; exact hst) rfl hbits rfl (by show kv.length + 0 = kv.length; omega) (fun e' he' => absurd he' (by simp)) rfl
    refine br_c (fun h => br_t rfl (fin 1 1 rfl (by omega))) (fun h => ?_)
    rw [xe_checkNode_88]
    refine fin 2 2 rfl ?_
    rcases hmm' with h2 | ⟨_, h2, _⟩
    · omega
    · exact absurd (by rw [h2]) h
  | succ l =>
    obtain ⟨ps, ns', hnd, a1, a2, ehi, hF, rfl, _, _⟩ := hT
    have hmm2 : mm = 2 := by
      rcases hmm' with h2 | ⟨_, _, h2⟩
      · exact h2
      · omega
    subst hmm2
    rw [hnd.1]
    have hL0 : ¬ nI (l + 1) = 0 := nI_ne0 (by omega) (by omega)
    have fin : xc_checkNode_88 post (nI m) (nI z) (nI (l + 1)) p3 p4 (nI ps.length) u3 := by
      rw [xe_checkNode_88, xe_checkNode_89]
      refine br_f (na_nlt (a := ps.length) (b := 2) rfl rfl (by omega) (by omega)) (br_f hL0 ?_)
      rw [xe_checkNode_110]
      refine br_f (na_nlt (a := 4) (b := ps.length) rfl rfl (by omega) (by omega)) ?_
      rw [xe_checkNode_118]
      refine fy_exp r3 (by decide) (fun u4 r4 => br_f hL0 ?_)
      rw [xe_checkInner]
      refine ⟨ps.length + 1, ?_⟩
      refine fy_inner (root := root) hm z41 hnd a2 e4 h1 ps [] lo p3 kv ns' S _ u4 rfl e3 h0 ehi hF r4 hst' (by omega) (fun y5 u5 S2 r5 s5 f5 ok5 k5 n5 => ?_)
      refine k y5 u5 S2 0 r5 s5 f5.1 (fun i hi => by rw [f5.2.1]; exact hbits i hi) (by rw [f5.2.2]; exact hc) (by rw [k5]; exact Nat.zero_add _) ok5 (by rw [n5])
    refine br_c (fun h => br_f hL0 fin) (fun h => fin)
end
section
/-! faults: a tree -/
theorem fy_nn_a (A C : List fy_E) : fy_nn (A ++ C) = fy_nn A ++ fy_nn C := by unfold fy_nn; rw [List.flatMap_append]
theorem fy_kv_a (A C : List fy_E) : fy_kv (A ++ C) = fy_kv A ++ fy_kv C := by unfold fy_kv; rw [List.flatMap_append]
theorem fy_len {B : ms_B} {root : Nat} {S : List fy_E} (h : ∀ e, e ∈ S → fy_ok B root e) : S.length ≤ (fy_kv S).length := by
  induction S with
  | nil => exact Nat.zero_le _
  | cons e S ih =>
    have h1 := ih (fun e' he => h e' (List.mem_cons_of_mem _ he))
    obtain ⟨mm, hT, hmm, _⟩ := h e (by simp)
    have h2 := (tr_T_sz _ _ _ _ _ _ _ (by omega) hT).2.1
    have h3 : 1 ≤ 2 ^ e.2.1 := Nat.one_le_two_pow
    have h4 : 1 * 1 ≤ mm * 2 ^ e.2.1 := Nat.mul_le_mul (by omega) h3
    rw [fy_kv_c, List.length_append, List.length_cons]
    omega
theorem fy_in {B : ms_B} {root : Nat} {S : List fy_E} (h : ∀ e, e ∈ S → fy_ok B root e) : ∀ z, z ∈ fy_nn S → 9 ≤ z ∧ z < 41 := by
  intro z hz
  obtain ⟨e, he, hz⟩ := List.mem_flatMap.mp hz
  obtain ⟨mm, hT, _⟩ := h e he
  exact tr_T_in _ _ _ _ _ _ _ hT z hz
theorem fy_end {post : SX → Prop} {K w : Nat} {V : ms_M} {t : ms_TT} {y : ms_YT} {x : ms_XT} {u : SX} {m i n : Nat} (hm : m < 4) (hi : i < 2) (hc : V m 0 (3 * i + 2) = nI n) (hn : n ≤ 14) (hR : ms_R K w V V t y x u) (h0 : y.1 = 0) (hk : y.2.2.2.1 = nI n) (k : ∀ u', ms_R K w V V t y x u' → post u') : xc_checkTree_156 post (nI m) (nI i) u := by
  rw [xe_checkTree_156, na_m3, show nI (3 * i) + 2 = nI (3 * i + 2) from nI_add _ 2]
  refine rb_cell (ml_RB m hR) hm (b := 0) (c := 3 * i + 2) (by omega) (by omega) rfl rfl rfl (fun u1 r1 => ?_)
  have r1 := ml_BR r1
  obtain ⟨g1, _, _, g4, _⟩ := fy_g r1.2.2.2.1
  rw [g1, g4, hc, hk]
  refine br_t h0 (br_t rfl (br_f (na_nlt (a := 14) (b := n) rfl rfl hn (by omega)) ?_))
  rw [xe_checkTree_198]
  exact fy_exp r1 (by decide) k
theorem fy_loop {post : SX → Prop} {K w : Nat} {V : ms_M} {t : ms_TT} {x : ms_XT} {m i root n : Nat} (hm : m < 4) (hi : i < 2) (hroot : root < 41) (hc : V m 0 (3 * i + 2) = nI n) (hn : n ≤ 14) :
    ∀ (d : Nat) (S : List fy_E) (y : ms_YT) (u : SX) (c j : Nat), (fy_nn S).length = d → ms_R K w V V t y x u → fy_st y S → (∀ e, e ∈ S → fy_ok (V m) root e) → (fy_nn S).Nodup → (∀ z, z ∈ fy_nn S → bt y.2.2.1 (z - 9) = false) → y.2.2.2.1 = nI c → c + (fy_kv S).length = n → j + d < 64 →
    (∀ (y' : ms_YT) (u' : SX), ms_R K w V V t y' x u' → y'.2.1 = y.2.1 → (∀ b, b < 32 → bt y'.2.2.1 b = (bt y.2.2.1 b || decide (9 + b ∈ fy_nn S))) → post u') → xc_checkTree_84 post (nI m) (nI i) (nI root) (d + 1) (nI j) u := by
  intro d
  induction d with
  | zero =>
    intro S y u c j hd hR hst hok hnd hsn hk hkn hj k
    have hS : S = [] := by
      cases S with
      | nil => rfl
      | cons e S =>
        exfalso
        obtain ⟨mm, hT, hmm, _⟩ := hok e (by simp)
        have h2 := (tr_T_sz _ _ _ _ _ _ _ (by omega) hT).2.2.2.2.2.1
        have h3 := List.length_pos_of_mem h2
        rw [fy_nn_c, List.length_append] at hd
        omega
    subst hS
    rw [xe_checkTree_84, (fy_g hR.2.2.2.1).1, hst.1]
    refine br_f (na_nle (a := 64) (b := j) rfl rfl (by omega) (by omega)) (br_t (Int32.le_refl _) ?_)
    refine fy_end hm hi hc hn hR hst.1 (by rw [hk]; exact congrArg nI hkn) (fun u1 r1 => k y u1 r1 rfl (fun b hb => ?_))
    have hno : ¬ 9 + b ∈ fy_nn [] := by simp [fy_nn]
    rw [decide_eq_false hno, Bool.or_false]
  | succ d ih =>
    intro S y u c j hd hR hst hok hnd hsn hk hkn hj k
    rcases List.eq_nil_or_concat S with hS | ⟨S', e, hS⟩
    · rw [hS] at hd; exact absurd hd (by simp [fy_nn])
    rw [List.concat_eq_append] at hS
    subst hS
    have hlen := fy_len hok
    rw [List.length_append, List.length_cons, List.length_nil] at hlen
    have hw : xg_waiting u = nI (S'.length + 1) := by rw [(fy_g hR.2.2.2.1).1, hst.1, List.length_append]; rfl
    obtain ⟨_, _, g3, g4, g5, g6, g7, g8⟩ := fy_g hR.2.2.2.1
    have hoke := hok e (by simp)
    obtain ⟨q1, q2, q3, q4⟩ := hst.2 S'.length e (tw_mid S' e [])
    have hL : e.2.1 < 30 := by
      obtain ⟨mm, hT, hmm, _⟩ := hoke
      have h2 := (tr_T_sz _ _ _ _ _ _ _ (by omega) hT).2.1
      have h3 : e.2.1 < 2 ^ e.2.1 := Nat.lt_two_pow_self
      have h4 : 1 * 2 ^ e.2.1 ≤ mm * 2 ^ e.2.1 := Nat.mul_le_mul (by omega) (Nat.le_refl _)
      rw [fy_kv_a, List.length_append, fy_kv_c, List.length_append] at hkn
      omega
    have he9 : ∀ z, z ∈ fy_nn (S' ++ [e]) → 9 ≤ z ∧ z < 41 := fy_in hok
    have hemem : e.1 ∈ fy_nn (S' ++ [e]) := by
      obtain ⟨mm, hT, hmm, _⟩ := hoke
      have h2 := (tr_T_sz _ _ _ _ _ _ _ (by omega) hT).2.2.2.2.2.1
      rw [fy_nn_a, fy_nn_c]
      simp [h2]
    rw [xe_checkTree_84, hw]
    refine br_f (na_nle (a := 64) (b := j) rfl rfl (by omega) (by omega)) (br_f (na_nle (a := S'.length + 1) (b := 0) rfl rfl (by omega) (by omega)) (nm_r (nI_pred S'.length) ?_))
    rw [nI_clamp (n := S'.length) (by omega)]
    refine ⟨vp_in_nI (by omega) (by omega), vp_in_nI (by omega) (by omega), vp_in_nI (by omega) (by omega), vp_in_nI (by omega) (by omega), ?_⟩
    have r1 := fy_wt hR (nI S'.length)
    have st1 : fy_st (nI S'.length, y.2) S' := ⟨rfl, fun i' e' hi' => hst.2 i' e' (by rw [List.getElem?_append_left (ml_lt hi')]; exact hi')⟩
    refine fy_node (e := e) (S := S') (c := c) hm hroot r1 st1 (by omega) hoke (hsn e.1 hemem) hk rfl (by rw [g5]; exact q1) (by rw [g6]; exact q2) hL (by rw [g7]; exact q3) (by rw [g8]; exact q4) rfl ?_
    intro y' u' S2 c' r2 st2 f1 f2 f3 f4 f5 f6
    have f2 : ∀ i', i' < 32 → bt y'.2.2.1 i' = (bt y.2.2.1 i' || decide (i' = e.1 - 9)) := f2
    have enn : fy_nn (S' ++ [e]) = fy_nn S' ++ e.1 :: fy_nn S2 := by
      rw [fy_nn_a, fy_nn_c, f6]
      exact congrArg (fun q => fy_nn S' ++ q) (List.append_nil _)
    have ekv : (fy_kv (S' ++ [e])).length = (fy_kv S').length + (c' + (fy_kv S2).length) := by
      rw [fy_kv_a, List.length_append, fy_kv_c, List.length_append, f4]
      rfl
    have enn2 : fy_nn (S' ++ S2) = fy_nn S' ++ fy_nn S2 := fy_nn_a _ _
    have hper : (fy_nn (S' ++ [e])).Perm (e.1 :: fy_nn (S' ++ S2)) := by rw [enn, enn2]; exact List.perm_middle
    have hnd2 := (List.nodup_cons.mp (hper.nodup_iff.mp hnd))
    refine nm_r (nI_1 j) ?_
    refine ih (S' ++ S2) y' u' (c + c') (j + 1) ?_ r2 st2 ?_ hnd2.2 ?_ f3 ?_ (by omega) ?_
    · have := hper.length_eq
      rw [List.length_cons] at this
      omega
    · intro e' he'
      rcases List.mem_append.mp he' with h | h
      · exact hok e' (by simp [h])
      · exact f5 e' h
    · intro z hz
      have hz2 : z ∈ fy_nn (S' ++ [e]) := hper.mem_iff.mpr (List.mem_cons_of_mem _ hz)
      have h1 := he9 z hz2
      have h2 := he9 e.1 hemem
      have h3 : z ≠ e.1 := fun h => hnd2.1 (h ▸ hz)
      have h4 : ¬ z - 9 = e.1 - 9 := by omega
      rw [f2 (z - 9) (by omega), hsn z hz2, decide_eq_false h4]
      rfl
    · rw [fy_kv_a, List.length_append]
      rw [ekv] at hkn
      omega
    · intro y3 u3 r3 k1 k2
      refine k y3 u3 r3 (k1.trans f1) (fun b hb => ?_)
      rw [k2 b hb, f2 b hb, Bool.or_assoc]
      refine congrArg (fun q => bt y.2.2.1 b || q) ?_
      have h2 := he9 e.1 hemem
      rw [← Bool.decide_or]
      refine decide_eq_decide.mpr ?_
      rw [hper.mem_iff, List.mem_cons]
      constructor
      · rintro (h | h)
        · left; omega
        · right; exact h
      · rintro (h | h)
        · left; omega
        · right; exact h
theorem fy_tree {post : SX → Prop} {K w : Nat} {V : ms_M} {t : ms_TT} {y : ms_YT} {x : ms_XT} {u : SX} {m i : Nat} {p0 p1 : Int32} {kv : tr_KV} {ns : List Nat} (hm : m < 4) (hi : i < 2) (e0 : p0 = nI m) (e1 : p1 = nI i) (hR : ms_R K w V V t y x u) (hok : tr_ok (V m) i kv ns) (hnd : ns.Nodup) (hsn : ∀ z, z ∈ ns → bt y.2.2.1 (z - 9) = false)
    (k : ∀ (y' : ms_YT) (u' : SX), ms_R K w V V t y' x u' → y'.2.1 = y.2.1 → (∀ b, b < 32 → bt y'.2.2.1 b = (bt y.2.2.1 b || decide (9 + b ∈ ns))) → post u') : wpX_checkTree post u p0 p1 := by
  subst e0 e1
  have hin := tr_ok_in hok
  obtain ⟨hc, hn, hok⟩ := hok
  rw [xe_checkTree, na_m3]
  refine rb_cell (ml_RB m hR) hm (b := 0) (c := 3 * i) (by omega) (by omega) rfl rfl rfl (fun u1 r1 => ?_)
  rw [na_q1]
  refine rb_cell r1 hm (b := 0) (c := 3 * i + 1) (by omega) (by omega) rfl rfl rfl (fun u2 r2 => ?_)
  have r2 := ml_BR r2
  rcases hok with ⟨rfl, rfl, a1, a2⟩ | ⟨root, L, a1, a2, hT⟩
  · rw [a1, a2]
    refine br_t rfl ?_
    rw [xe_checkTree_33]
    refine br_t rfl ?_
    rw [xe_checkTree_43]
    refine br_t rfl ?_
    rw [xe_checkTree_51]
    refine fy_exp r2 (by decide) (fun u3 r3 => br_t rfl ⟨1, ?_⟩)
    have r4 := fy_sk (fy_wt r3 0) 0
    exact fy_loop (root := 0) hm hi (by omega) hc hn 0 [] _ _ 0 0 rfl r4 ⟨rfl, fun i' e' h => absurd h (by simp)⟩ (fun e he => absurd he (by simp)) List.nodup_nil (fun z hz => absurd hz (by simp [fy_nn])) rfl rfl (by omega) k
  · have hlev := tr_lev hT hn
    have hmm : 1 ≤ (if L = 0 then 1 else 2) := by split <;> omega
    have hsz := tr_T_sz _ _ _ _ _ _ _ hmm hT
    obtain ⟨_, _, _, z9, z41, _, _⟩ := hsz
    rw [a1, a2]
    have hr0 : ¬ nI root = 0 := nI_ne0 (by omega) (by omega)
    have hl0 : ¬ nI (L + 1) = 0 := nI_ne0 (by omega) (by omega)
    refine br_f hr0 ?_
    rw [xe_checkTree_33]
    refine br_f hl0 ?_
    rw [xe_checkTree_43]
    refine br_t rfl ?_
    rw [xe_checkTree_51]
    refine fy_exp r2 (by decide) (fun u3 r3 => br_f hr0 ?_)
    have r4 := fy_sk (fy_wt r3 0) 0
    rw [nI_pred]
    refine fy_push (S := []) (e := (root, L, 0, 1000000, kv, ns)) r4 ⟨rfl, fun i' e' h => absurd h (by simp)⟩ (by simp) rfl rfl (show (0 : Int32).toInt = (0 : Int) from by decide) (show (1000000 : Int32).toInt = (1000000 : Int) from by decide) (fun y5 u5 r5 s5 q5 => ?_)
    have enn : fy_nn [(root, L, (0 : Int), (1000000 : Int), kv, ns)] = ns := List.append_nil _
    have ekv : fy_kv [(root, L, (0 : Int), (1000000 : Int), kv, ns)] = kv := List.append_nil _
    refine ⟨ns.length + 1, ?_⟩
    refine fy_loop (root := root) hm hi z41 hc hn ns.length [(root, L, 0, 1000000, kv, ns)] y5 u5 0 0 (by rw [enn]) r5 s5 (fun e he => ?_) (by rw [enn]; exact hnd) (fun z hz => ?_) q5.2.2 (by rw [ekv, Nat.zero_add]) (by omega) (fun y6 u6 r6 k1 k2 => k y6 u6 r6 (k1.trans q5.1) (fun b hb => ?_))
    · rw [List.mem_singleton] at he
      subst he
      refine ⟨_, hT, ?_, Int.le_refl _, Int.le_refl _⟩
      by_cases h : L = 0
      · right; exact ⟨if_pos h, rfl, h⟩
      · left; exact if_neg h
    · rw [enn] at hz
      rw [q5.2.1]
      exact hsn z hz
    · have h := k2 b hb
      rw [q5.2.1, enn] at h
      exact h
end
section
/-! faults: the records -/
theorem fy_rend {post : SX → Prop} {K w : Nat} {V : ms_M} {t : ms_TT} {y : ms_YT} {x : ms_XT} {u : SX} {m nx hg : Nat} {ms : List mb_Msg} {z : Int32} (hm : m < 4) (hB : mb_ms (V m) nx hg ms) (hR : ms_R K w V V t y x u) (hz : ∀ b, b < 32 → bt z b = decide (b ∈ ms.map (fun a => a.2.2.2.2)))
    (k : ∀ u', ms_R K w V V t y x u' → post u') : xc_checkRecords_131 post (nI m) z u := by
  have h5 : z = V m 1 5 := b_ext (fun b hb => by rw [hz b hb, hB.2.2.2.1 b hb])
  obtain ⟨k1, ⟨ns0, ns1, a0, a1, _⟩, hP⟩ := hB.2.2.2.2
  have c0 : V m 0 2 = nI ms.length := by
    have h : V m 0 2 = nI (mb_k0 ms).length := a0.1
    rw [h]
    unfold mb_k0
    rw [List.length_map]
  have c1 : V m 0 5 = nI ms.length := by
    have h : V m 0 5 = nI k1.length := a1.1
    rw [h, hP.length_eq]
    unfold mb_k1
    rw [List.length_map]
  rw [xe_checkRecords_131]
  refine mb_about (ml_RB m hR) hm (c := 5) (by omega) rfl rfl (fun u1 r1 => br_t h5 ?_)
  rw [xe_checkRecords_147]
  refine fy_exp (ml_BR r1) (by decide) (fun u2 r2 => ?_)
  refine rb_cell (ml_RB m r2) hm (b := 0) (c := 2) (by omega) (by omega) rfl rfl rfl (fun u3 r3 => ?_)
  refine rb_cell r3 hm (b := 0) (c := 5) (by omega) (by omega) rfl rfl rfl (fun u4 r4 => br_t (c0.trans c1.symm) ?_)
  rw [xe_checkRecords_173]
  exact fy_exp (ml_BR r4) (by decide) k
theorem fy_rloop {post : SX → Prop} {K w : Nat} {V : ms_M} {y : ms_YT} {x : ms_XT} {m nx hg : Nat} {ms : List mb_Msg} (hm : m < 4) (hB : mb_ms (V m) nx hg ms) (hl : ms.length ≤ 14) (hnx : nx < 900000) (hhg : hg < 900000) (b2 : ∀ a, a ∈ ms → ¬ V m 1 2 ≤ nI a.1) (b3 : ∀ a, a ∈ ms → ¬ V m 1 3 < nI a.2.2.2.1)
    (k : ∀ (t' : ms_TT) (u' : SX), ms_R K w V V t' y x u' → post u') :
    ∀ (C A : List mb_Msg) (z r : Int32) (t : ms_TT) (u : SX), ms = A ++ C → (∀ b, b < 32 → bt z b = decide (b ∈ A.map (fun a => a.2.2.2.2))) → r = vx_hd C → ms_R K w V V t y x u → xc_checkRecords_13 post (nI m) (C.length + 1) z r (nI A.length) u := by
  obtain ⟨k1, hT, hP⟩ := hB.2.2.2.2
  have hsort := cs_sort hT
  intro C
  induction C with
  | nil =>
    intro A z r t u e hz hr hR
    rw [List.append_nil] at e
    subst e
    have he := fy_rend hm hB hR hz (k t)
    rw [List.length_nil, xe_checkRecords_13]
    refine br_c (fun _ => he) (fun _ => br_t ?_ he)
    rw [hr]
    show (-2 : Int32) ≤ 0
    decide
  | cons a C ih =>
    intro A z r t u e hz hr hR
    have hr : r = nI a.1 := hr
    subst hr
    have ha : a ∈ ms := by rw [e]; simp
    obtain ⟨arc, a14, an1, anx, ac1, ahg⟩ := hB.1 a ha
    have hlen : A.length + C.length + 1 ≤ 14 := by rw [e, List.length_append, List.length_cons] at hl; omega
    have ta : (nI a.1).toInt = (a.1 : Int) := nI_toInt (by omega)
    have tc : (nI a.2.2.2.1).toInt = (a.2.2.2.1 : Int) := nI_toInt (by omega)
    have hso := hB.2.1
    rw [e, List.pairwise_append, List.pairwise_cons] at hso
    have hk1 : ((a.2.2.2.1 : Int), a.2.2.2.2) ∈ k1 := hP.mem_iff.mpr (mb_k1_m.mpr ⟨a, ha, rfl⟩)
    rw [List.length_cons, xe_checkRecords_13]
    refine br_f (na_nle (a := 14) (b := A.length) rfl rfl (by omega) (by omega)) (br_f (na_nle (a := a.1) (b := 0) rfl rfl (by omega) (by omega)) ?_)
    refine mb_recof (ml_RB m hR) hm rfl (nI a.1) hB (fun P a' Q t1 u1 e1 e2 r1 => ?_) (fun hno => absurd ta.symm (hno a ha))
    have haa : a' = a := (ml_uni hB.2.1 e e1 (by rw [ta] at e2; omega)).1
    subst haa
    refine mb_entry r1 hm (n := a'.2.2.2.2) (c := 3) a14 (by omega) rfl rfl rfl (fun u2 r2 => ?_)
    rw [arc.2.2.2]
    refine mb_valc r2 hm rfl rfl (nI a'.2.2.2.1) hT (fun v t3 u3 hv r3 => ?_) (fun hno => absurd tc.symm (hno _ hk1))
    have hva : v = a'.2.2.2.2 := by
      have h := cs_key hsort _ _ hv hk1 tc
      exact congrArg Prod.snd h
    subst hva
    refine mb_entry r3 hm (n := a'.2.2.2.2) (c := 0) a14 (by omega) rfl rfl rfl (fun u4 r4 => ?_)
    refine br_t arc.1 (br_t rfl ?_)
    rw [xe_checkRecords_77]
    refine fy_exp (ml_BR r4) (by decide) (fun u5 r5 => ?_)
    refine mb_about (ml_RB m r5) hm (c := 2) (by omega) rfl rfl (fun u6 r6 => br_f (b2 a' ha) ?_)
    refine mb_about r6 hm (c := 3) (by omega) rfl rfl (fun u7 r7 => br_f (b3 a' ha) ?_)
    rw [xe_checkRecords_107]
    refine fy_exp (ml_BR r7) (by decide) (fun u8 r8 => nm_e ?_)
    have hz' : ∀ b, b < 32 → bt (z ||| ((1 : Int32) <<< (nI a'.2.2.2.2 &&& 31))) b = decide (b ∈ (A ++ [a']).map (fun a => a.2.2.2.2)) := fun b hb => by
      rw [nt_or z (k := a'.2.2.2.2) (by omega) hb, hz b hb, ← Bool.decide_or]
      refine decide_eq_decide.mpr ?_
      rw [List.map_append, List.mem_append, List.map_cons, List.map_nil, List.mem_singleton]
    generalize (z ||| ((1 : Int32) <<< (nI a'.2.2.2.2 &&& 31))) = z' at hz' ⊢
    have go : ∀ (r' : Int32) (t9 : ms_TT) (u9 : SX), r' = vx_hd C → ms_RB K w V m y x (V m) t9 u9 → xc_checkRecords_13 post (nI m) (C.length + 1) z' r' (nI (A.length + 1)) u9 := by
      intro r' t9 u9 hr' r9
      have h := ih (A ++ [a']) z' r' t9 u9 (by rw [e]; simp) hz' hr' (ml_BR r9)
      rw [List.length_append, List.length_cons, List.length_nil] at h
      exact h
    refine mb_nx (A := A ++ [a']) (C := C) (ml_RB m r8) hm rfl rfl (nI a'.1) hB hnx (by rw [e]; simp) (fun b hb => ?_) (fun b hb => ?_) (fun b Q' t6 u9 eQ r9 => nm_r (nI_1 _) (go _ t6 u9 (by rw [eQ]; rfl) r9)) (fun eQ t6 u9 r9 => nm_r (nI_1 _) (go _ t6 u9 (by rw [eQ]; rfl) r9))
    · rw [ta]
      rcases List.mem_append.mp hb with h | h
      · have := hso.2.2 b h a' (by simp); omega
      · rw [List.mem_singleton] at h
        rw [h]
        exact Int.le_refl _
    · rw [ta]; have := hso.2.1.1 b hb; omega
theorem fy_recs {post : SX → Prop} {K w : Nat} {V : ms_M} {t : ms_TT} {y : ms_YT} {x : ms_XT} {u : SX} {m nx hg : Nat} {ms : List mb_Msg} (hm : m < 4) (hR : ms_R K w V V t y x u) (hB : mb_ms (V m) nx hg ms) (hl : ms.length ≤ 14) (hnx : nx < 900000) (hhg : hg < 900000) (b2 : ∀ a, a ∈ ms → ¬ V m 1 2 ≤ nI a.1) (b3 : ∀ a, a ∈ ms → ¬ V m 1 3 < nI a.2.2.2.1)
    (k : ∀ (t' : ms_TT) (u' : SX), ms_R K w V V t' y x u' → post u') : wpX_checkRecords post u (nI m) := by
  rw [xe_checkRecords]
  have hz : ∀ b, b < 32 → bt (0 : Int32) b = decide (b ∈ ([] : List mb_Msg).map (fun a => a.2.2.2.2)) := fun b hb => by
    rw [b_0]
    exact (decide_eq_false (by simp)).symm
  have go : ∀ (r' : Int32) (t9 : ms_TT) (u9 : SX), r' = vx_hd ms → ms_RB K w V m y x (V m) t9 u9 → ∃ n13 : Nat, xc_checkRecords_13 post (nI m) n13 0 r' 0 u9 := fun r' t9 u9 hr' r9 => ⟨ms.length + 1, fy_rloop hm hB hl hnx hhg b2 b3 k ms [] 0 r' t9 u9 rfl hz hr' (ml_BR r9)⟩
  refine mb_nx (A := []) (C := ms) (ml_RB m hR) hm rfl rfl 0 hB hnx rfl (fun b hb => absurd hb (by simp)) (fun b hb => ?_) (fun b Q' t6 u9 eQ r9 => go _ t6 u9 (by rw [eQ]; rfl) r9) (fun eQ t6 u9 r9 => go _ t6 u9 (by rw [eQ]; rfl) r9)
  have := (hB.1 b hb).2.2.1
  show (0 : Int) < (b.1 : Int)
  omega
theorem fy_cb {post : Int32 → Prop} {u : SX} {m : Nat} (hm : m < 4) (h : ∀ b, b < 41 → xg_changed u (41 * m + b) = 0) (k : post 0) : ∀ (d j : Nat), j + d = 41 → xc_changedBlocks_7 post (nI m) u (d + 1) 0 (nI (41 * m + j)) := by
  intro d
  induction d with
  | zero =>
    intro j hj
    rw [xe_changedBlocks_7, na_m41, show nI (41 * m) + 41 = nI (41 * m + 41) from nI_add _ 41]
    exact br_t (na_le (a := 41 * m + 41) (b := 41 * m + j) rfl rfl (by omega) (by omega)) k
  | succ d ih =>
    intro j hj
    rw [xe_changedBlocks_7, na_m41, show nI (41 * m) + 41 = nI (41 * m + 41) from nI_add _ 41, nI_clamp (n := 41 * m + j) (by omega)]
    refine br_f (na_nle (a := 41 * m + 41) (b := 41 * m + j) rfl rfl (by omega) (by omega)) ⟨vp_in_nI (by omega) (by omega), br_t (h j (by omega)) ?_⟩
    refine nm_r (Int32.add_zero 0) (nm_r (nI_1 _) ?_)
    exact ih (j + 1) (by omega)
theorem fy_blocks {post : Int32 → Prop} {K : Nat} {V M : ms_M} {t : ms_TT} {y : ms_YT} {x : ms_XT} {u : SX} {m : Nat} (hm : m < 4) (hR : ms_R K 4 V M t y x u) (k : post 0) : wpX_changedBlocks post u (nI m) := by
  rw [xe_changedBlocks, na_m41]
  refine nm_e ⟨41 + 1, fy_cb hm (fun b hb => ?_) k 41 0 rfl⟩
  obtain ⟨_, _, _, _, _, _, _, hc⟩ := hR.2.1 m hm
  have h := (hc b hb).2.2.2 (by omega)
  exact (ms_v1_g (xg_changed u) m hb).symm.trans h
end
section
/-! faults: the views -/
theorem fy_vloop {post : SX → Prop} {K w : Nat} {V : ms_M} {t : ms_TT} {y : ms_YT} {x : ms_XT} {s m nx : Nat} {vs : List Nat} (hs : s < 3) (hm : m < 4) (hsel : x.1 s = nI (m + 1)) (hl : vs.length ≤ 14) (hnx : V m 1 2 = nI nx) (hnx9 : nx < 900000) (hvn : ∀ n, n ∈ vs → 1 ≤ n ∧ n < nx) (hso : vs.Pairwise (fun a b => a < b)) (hvw : x.2.1 s = nI vs.length ∧ ∀ i n, vs[i]? = some n → x.2.2 (16 * s + i) = nI n)
    (k : ∀ u', ms_R K w V V t y x u' → post u') :
    ∀ (C A : List Nat) (l : Nat) (u : SX), vs = A ++ C → l < nx → (∀ n, n ∈ C → l < n) → ms_R K w V V t y x u → xc_checkView_30 post (nI s) (C.length + 1) (nI l) (nI A.length) u := by
  intro C
  induction C with
  | nil =>
    intro A l u e hlx hlC hR
    rw [List.append_nil] at e
    subst e
    obtain ⟨e1, e2, e3⟩ := ml_xs hR.2.2.2.2
    rw [List.length_nil, xe_checkView_30, nI_clamp (n := s) (by omega), e1, e2, hvw.1, hsel, nI_pred]
    refine ⟨vp_in_nI hs (by omega), br_t (Int32.le_refl _) ⟨vp_in_nI hs (by omega), ?_⟩⟩
    refine mb_about (ml_RB m hR) hm (c := 2) (by omega) rfl rfl (fun u1 r1 => ?_)
    rw [hnx]
    refine br_f (na_nle (a := nx) (b := l) rfl rfl hlx (by omega)) ?_
    rw [xe_checkView_105]
    exact fy_exp (ml_BR r1) (by decide) k
  | cons n C ih =>
    intro A l u e hlx hlC hR
    obtain ⟨e1, e2, e3⟩ := ml_xs hR.2.2.2.2
    have hlen : A.length + C.length + 1 ≤ 14 := by rw [e, List.length_append, List.length_cons] at hl; omega
    have elen : vs.length = A.length + C.length + 1 := by rw [e, List.length_append, List.length_cons]; omega
    have hn := hvn n (by rw [e]; simp)
    have hln := hlC n (by simp)
    have hv := hvw.2 A.length n (by rw [e]; exact tw_mid A n C)
    have hso2 := hso
    rw [e, List.pairwise_append, List.pairwise_cons] at hso2
    rw [List.length_cons, xe_checkView_30, nI_clamp (n := s) (by omega), e2, hvw.1, na_16, nI_clamp (n := 16 * s + A.length) (by omega), e3, hv]
    refine ⟨vp_in_nI hs (by omega), br_f (nI_ge (by omega) (by omega)) ⟨vp_in_nI (by omega) (by omega), br_f (na_nle (a := n) (b := l) rfl rfl hln (by omega)) ?_⟩⟩
    rw [xe_checkView_61, na_16, nI_clamp (n := 16 * s + A.length) (by omega)]
    refine fy_exp hR (by decide) (fun u1 r1 => ⟨vp_in_nI (by omega) (by omega), ?_⟩)
    rw [(ml_xs r1.2.2.2.2).2.2, hv]
    refine nm_e (nm_r (nI_1 _) ?_)
    have h := ih (A ++ [n]) n u1 (by rw [e]; simp) hn.2 hso2.2.1.1 r1
    rw [List.length_append, List.length_cons, List.length_nil] at h
    exact h
theorem fy_view {post : SX → Prop} {k K w : Nat} {V : ms_M} {t : ms_TT} {y : ms_YT} {x : ms_XT} {u : SX} {v : SY} {s : Nat} {bx : Nat → ml_B} (hs : s < 3) (hk : k ≤ 2560) (hR : ms_R K w V V t y x u) (hX : ∀ m, m < 4 → ml_X (V m) (bx m)) (hY : ∀ m, m < 4 → ml_Y k v m (bx m)) (hS : ml_S x v s bx) (kk : ∀ u', ms_R K w V V t y x u' → post u') : wpX_checkView post u (nI s) := by
  obtain ⟨e1, _, _⟩ := ml_xs hR.2.2.2.2
  rw [xe_checkView, nI_clamp (n := s) (by omega), e1]
  refine ⟨vp_in_nI hs (by omega), ?_⟩
  rcases hS with ⟨h0, _⟩ | ⟨m, vs, hm, hsel, _, ht, hl, hso, hvn, _, hvw⟩
  · exact br_t h0 (kk u hR)
  · rw [hsel, nI_pred]
    refine br_f (nI_ne0 (by omega) (by omega)) ⟨vp_in_nI hs (by omega), ?_⟩
    have hb := ml_nx (hX m hm) (hY m hm) ht hk
    have h1 := ((hY m hm).2.2.2.2 ht).1.1
    refine ml_there hR hm rfl (hX m hm) (fun _ u1 r1 => ?_) (fun hf => absurd (ht.symm.trans hf) (by decide))
    refine fy_exp r1 (by decide) (fun u2 r2 => ⟨vs.length + 1, ?_⟩)
    exact fy_vloop hs hm hsel hl (hX m hm).2.2.1 (by omega) hvn hso ⟨hvw.1, fun i n h => (hvw.2.2 i n h).1⟩ kk vs [] 0 u2 rfl (by omega) (fun n hn => (hvn n hn).1) r2
end
section
/-! faults -/
theorem fy_box {post : SX → Prop} {k K : Nat} {V : ms_M} {x : ms_XT} {v : SY} {m : Nat} {b : ml_B} {t : ms_TT} {y : ms_YT} {u : SX} (hm : m < 4) (hk : k ≤ 2560) (hR : ms_R K 4 V V t y x u) (hX : ml_X (V m) b) (hY : ml_Y k v m b)
    (kk : ∀ (t' : ms_TT) (u' : SX), ms_R K 4 V V t' y x u' → post u') : wpX_checkRecords post u (nI m) := by
  have hl : b.2.2.2.2.2.length ≤ 14 := hY.2.2.1
  cases ht : b.1 with
  | false =>
    have hn := hY.2.1 ht
    have hB := hX.2.2.2.2.2
    rw [hn] at hB
    have hB0 : mb_ms (V m) 0 0 [] := ⟨fun a ha => absurd ha (by simp), hB.2⟩
    exact fy_recs hm hR hB0 (by simp) (by omega) (by omega) (fun a ha => absurd ha (by simp)) (fun a ha => absurd ha (by simp)) kk
  | true =>
    obtain ⟨h1, h2, h3⟩ := ml_nx hX hY ht hk
    have hB := hX.2.2.2.2.2
    refine fy_recs hm hR hB hl (by omega) (by omega) (fun a ha => ?_) (fun a ha => ?_) kk
    · rw [hX.2.2.1]
      have := hB.1 a ha
      exact na_nle (a := b.2.2.1) (b := a.1) rfl rfl (by omega) (by omega)
    · rw [hX.2.2.2.1]
      have := hB.1 a ha
      exact na_nlt (a := b.2.2.2.1) (b := a.2.2.2.1) rfl rfl (by omega) (by omega)
theorem fy_boxes {post : Int32 → SX → Prop} {k K : Nat} {V : ms_M} {x : ms_XT} {v : SY} {bx : Nat → ml_B} (hk : k ≤ 2560) (hX : ∀ m, m < 4 → ml_X (V m) (bx m)) (hY : ∀ m, m < 4 → ml_Y k v m (bx m))
    (kk : ∀ (t' : ms_TT) (y' : ms_YT) (u' : SX), ms_R K 4 V V t' y' x u' → y'.2.1 = 0 → ∃ n : Nat, xc_faults_87 post n 0 u') :
    ∀ (d m : Nat) (t : ms_TT) (y : ms_YT) (u : SX), m + d = 4 → ms_R K 4 V V t y x u → y.2.1 = 0 → xc_faults_7 post (d + 1) (nI m) u := by
  intro d
  induction d with
  | zero =>
    intro m t y u hmd hR hw
    rw [xe_faults_7]
    exact br_t (na_le (a := 4) (b := m) rfl rfl (by omega) (by omega)) (kk t y u hR hw)
  | succ d ih =>
    intro m t y u hmd hR hw
    have hm : m < 4 := by omega
    obtain ⟨_, _, _, _, k1, ⟨ns0, ns1, a0, a1, hnd, hmap⟩, _⟩ := (hX m hm).2.2.2.2.2
    have hnd2 := List.nodup_append.mp hnd
    have i0 := (tr_ok_in a0).1
    have i1 := (tr_ok_in a1).1
    rw [xe_faults_7]
    refine br_f (na_nle (a := 4) (b := m) rfl rfl hm (by omega)) ?_
    refine fy_tree (i := 0) hm (by omega) rfl rfl (fy_sn hR 0) a0 hnd2.1 (fun z hz => b_0 _) (fun y1 u1 r1 w1 s1 => ?_)
    refine fy_tree (i := 1) hm (by omega) rfl rfl r1 a1 hnd2.2.1 (fun z hz => ?_) (fun y2 u2 r2 w2 s2 => ?_)
    · have := i1 z hz
      rw [s1 (z - 9) (by omega), show 9 + (z - 9) = z from by omega, decide_eq_false (fun h => hnd2.2.2 z h z hz rfl)]
      show (bt (0 : Int32) (z - 9) || false) = false
      rw [b_0]
      rfl
    · refine rb_cell (ml_RB m r2) hm (b := 0) (c := 6) (by omega) (by omega) rfl rfl rfl (fun u3 r3 => ?_)
      have r3 := ml_BR r3
      have hsn : V m 0 6 = y2.2.2.1 := b_ext (fun b hb => by
        rw [hmap b hb, s2 b hb, s1 b hb]
        show decide (9 + b ∈ ns0 ++ ns1) = ((bt (0 : Int32) b || decide (9 + b ∈ ns0)) || decide (9 + b ∈ ns1))
        rw [b_0, Bool.false_or, ← Bool.decide_or]
        exact decide_eq_decide.mpr List.mem_append)
      rw [(fy_g r3.2.2.2.1).2.2.1]
      refine br_t hsn ?_
      rw [xe_faults_52]
      refine fy_exp r3 (by decide) (fun u4 r4 => ?_)
      refine fy_box hm hk r4 (hX m hm) (hY m hm) (fun t5 u5 r5 => ?_)
      refine fy_blocks hm r5 (br_t rfl ?_)
      rw [xe_faults_76]
      refine fy_exp r5 (by decide) (fun u6 r6 => nm_r (nI_1 m) ?_)
      exact ih (m + 1) t5 y2 u6 (by omega) r6 (w2.trans (w1.trans hw))
theorem fy_views {post : Int32 → SX → Prop} {k K : Nat} {V : ms_M} {x : ms_XT} {v : SY} {bx : Nat → ml_B} {t : ms_TT} {y : ms_YT} (hk : k ≤ 2560) (hX : ∀ m, m < 4 → ml_X (V m) (bx m)) (hY : ∀ m, m < 4 → ml_Y k v m (bx m)) (hS : ∀ s, s < 3 → ml_S x v s bx) (hw : y.2.1 = 0)
    (kk : ∀ (u' : SX), ms_R K 4 V V t y x u' → post 0 u') : ∀ (d s : Nat) (u : SX), s + d = 3 → ms_R K 4 V V t y x u → xc_faults_87 post (d + 1) (nI s) u := by
  intro d
  induction d with
  | zero =>
    intro s u hsd hR
    rw [xe_faults_87, (fy_g hR.2.2.2.1).2.1, hw]
    exact br_t (na_le (a := 3) (b := s) rfl rfl (by omega) (by omega)) (kk u hR)
  | succ d ih =>
    intro s u hsd hR
    rw [xe_faults_87]
    refine br_f (na_nle (a := 3) (b := s) rfl rfl (by omega) (by omega)) ?_
    exact fy_view (by omega) hk hR hX hY (hS s (by omega)) (fun u1 r1 => nm_r (nI_1 s) (ih (s + 1) u1 (by omega) r1))
theorem i_vc_faults {k : Nat} {u : SX} {v : SY} (I : i_Rel k u v) (hk : k + 5 ≤ 2560) : wpX_faults (fun r u' => wpY_faults (fun r' => r' = r ∧ i_Rel (k + 5) u' v) v) u := by
  obtain ⟨V, t, y, x, bx, W, hR, hrest⟩ := ml_out hk I
  have hrest' := hrest
  obtain ⟨hX, hY, hS, hW⟩ := hrest'
  rw [xe_faults]
  refine ⟨4 + 1, fy_boxes (v := v) (by omega) hX hY (fun t1 y1 u1 r1 w1 => ⟨3 + 1, ?_⟩) 4 0 t _ _ rfl (fy_wr hR 0) rfl⟩
  refine fy_views (v := v) (by omega) hX hY hS w1 (fun u2 r2 => ?_) 3 0 u1 rfl r1
  show wpY_faults (fun r' => r' = 0 ∧ i_Rel (k + 5) u2 v) v
  rw [ye_faults]
  exact ⟨rfl, ml_in hk r2 (by omega) (ml_up hrest (by omega))⟩
end
