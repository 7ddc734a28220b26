section
/-! pure rows to paste: stores, nI and lN arithmetic, masks, shifts, narrowing, branches by naturals (pk_le, pk_lt, pk_eq), loops (lp1 .. lp16: the measure of the state; rp1 ..: recursion), negatives. Take what you need -/
theorem pk_us {f : Nat → Int32} {k : Nat} {x : Int32} : upd f k x k = x := if_pos rfl
theorem pk_un {f : Nat → Int32} {k j : Nat} {x : Int32} (h : j ≠ k) : upd f k x j = f j := if_neg h
theorem pk_uLs {f : Nat → Int64} {k : Nat} {x : Int64} : vp_updL f k x k = x := if_pos rfl
theorem pk_uLn {f : Nat → Int64} {k j : Nat} {x : Int64} (h : j ≠ k) : vp_updL f k x j = f j := if_neg h
theorem pk_sub {a b : Nat} (h : b ≤ a) : nI a - nI b = nI (a - b) := by
  obtain ⟨c, rfl⟩ : ∃ c, a = c + b := ⟨a - b, by omega⟩
  rw [← nI_add, Int32.add_sub_cancel, Nat.add_sub_cancel]
theorem pk_m1 (n : Nat) : nI (n + 1) + (-1) = nI n := by
  rw [← nI_1, Int32.add_assoc, show (1 : Int32) + (-1) = 0 from rfl, Int32.add_zero]
theorem pk_mul (a b : Nat) : nI a * nI b = nI (a * b) := (Int32.ofNat_mul a b).symm
theorem pk_div {a d : Nat} (ha : a < 2 ^ 31) (h0 : 0 < d) (hd : d < 2 ^ 31) : nI a / nI d = nI (a / d) := by
  apply Int32.toInt_inj.mp
  rw [lg_idiv_nonneg (by rw [nI_toInt ha]; omega) (by rw [nI_toInt hd]; omega), nI_toInt ha, nI_toInt hd, nI_toInt (Nat.lt_of_le_of_lt (Nat.div_le_self a d) ha)]
  first | rfl | exact (Int.natCast_ediv _ _).symm
theorem pk_rem {a d : Nat} (ha : a < 2 ^ 31) (h0 : 0 < d) (hd : d < 2 ^ 31) : nI a - nI a / nI d * nI d = nI (a % d) := by
  rw [pk_div ha h0 hd, pk_mul, pk_sub (Nat.div_mul_le_self a d)]
  exact congrArg nI (by have := Nat.div_add_mod' a d; omega)
theorem pk_sub_toInt {a b : Nat} (ha : a < 2 ^ 30) (hb : b < 2 ^ 30) : (nI a - nI b).toInt = (a : Int) - b := by
  rw [Int32.toInt_sub, nI_toInt (by omega), nI_toInt (by omega)]
  exact Int.bmod_eq_of_le (by omega) (by omega)
theorem pk_sneg {a b : Nat} (hb : b < 2 ^ 30) (h : a < b) : nI a - nI b < 0 := by
  rw [Int32.lt_iff_toInt_lt, pk_sub_toInt (by omega) hb, show (0 : Int32).toInt = 0 from by decide]
  omega
theorem pk_ix (x : Int32) {n : Nat} (hn : n < 2 ^ 31) : x < 0 ∨ nI n ≤ x ∨ ∃ j : Nat, j < n ∧ x = nI j := by
  by_cases h : x < 0
  · exact Or.inl h
  · obtain ⟨j, hj, rfl⟩ := nI_of h
    by_cases h2 : j < n
    · exact Or.inr (Or.inr ⟨j, h2, rfl⟩)
    · exact Or.inr (Or.inl (nI_le (by omega) hj))
theorem pk_le {x y : Int32} {A B : Prop} (a b : Nat) (f : a ≤ b → A) (g : b < a → B) (hx : x = nI a := by rfl) (hy : y = nI b := by rfl) (ha : a < 2 ^ 31 := by omega) (hb : b < 2 ^ 31 := by omega) : (x ≤ y → A) ∧ (¬ x ≤ y → B) := by
  subst hx hy
  rw [nI_leI ha hb]
  exact ⟨f, fun z => g (by omega)⟩
theorem pk_lt {x y : Int32} {A B : Prop} (a b : Nat) (f : a < b → A) (g : b ≤ a → B) (hx : x = nI a := by rfl) (hy : y = nI b := by rfl) (ha : a < 2 ^ 31 := by omega) (hb : b < 2 ^ 31 := by omega) : (x < y → A) ∧ (¬ x < y → B) := by
  subst hx hy
  rw [nI_ltI ha hb]
  exact ⟨f, fun z => g (by omega)⟩
theorem pk_eq {x y : Int32} {A B : Prop} (a b : Nat) (f : a = b → A) (g : a ≠ b → B) (hx : x = nI a := by rfl) (hy : y = nI b := by rfl) (ha : a < 2 ^ 31 := by omega) (hb : b < 2 ^ 31 := by omega) : (x = y → A) ∧ (¬ x = y → B) := by
  subst hx hy
  rw [nI_eq ha hb]
  exact ⟨f, g⟩
theorem pk_in {x : Int32} (n N : Nat) (h : n < N) (hx : x = nI n := by rfl) (hN : N < 2 ^ 31 := by omega) : vp_in x N := by
  subst hx
  exact vp_in_nI h hN
theorem pk_cl {x : Int32} (n : Nat) (hx : x = nI n := by rfl) (h : n < 2 ^ 31 := by omega) : x.toNatClampNeg = n := by
  subst hx
  exact nI_clamp h
theorem pk_tn {n : Nat} (h : n < 2 ^ 32) : (nI n).toBitVec.toNat = n := Nat.mod_eq_of_lt h
theorem pk_and (x : Int32) {m : Int32} (k : Nat) (hm : m.toBitVec.toNat = 2 ^ k - 1) : x &&& m = nI (x.toBitVec.toNat % 2 ^ k) := by
  apply Int32.toBitVec_inj.mp
  apply BitVec.eq_of_toNat_eq
  rw [Int32.toBitVec_and, BitVec.toNat_and, hm, Nat.and_two_pow_sub_one_eq_mod]
  show _ = (BitVec.ofNat 32 _).toNat
  rw [BitVec.toNat_ofNat]
  exact (Nat.mod_eq_of_lt (Nat.lt_of_le_of_lt (Nat.mod_le _ _) x.toBitVec.isLt)).symm
theorem pk_andN {n : Nat} (h : n < 2 ^ 32) {m : Int32} (k : Nat) (hm : m.toBitVec.toNat = 2 ^ k - 1) : nI n &&& m = nI (n % 2 ^ k) := by
  rw [pk_and _ k hm, pk_tn h]
theorem pk_andE (x : Int32) {m : Int32} (k : Nat) (hm : m.toBitVec.toNat = 2 ^ k - 1) : ∃ j : Nat, j < 2 ^ k ∧ x &&& m = nI j := ⟨_, Nat.mod_lt _ (Nat.two_pow_pos k), pk_and x k hm⟩
theorem pk_andIn (x : Int32) {m : Int32} (k : Nat) (hm : m.toBitVec.toNat = 2 ^ k - 1) (hk : k ≤ 30) : vp_in (x &&& m) (2 ^ k) := by
  obtain ⟨j, hj, e⟩ := pk_andE x k hm
  rw [e]
  exact vp_in_nI hj (Nat.lt_of_le_of_lt (Nat.pow_le_pow_right (by decide) hk) (by decide))
theorem pk_shl (a s : Int32) (k : Nat) (hs : (s.toBitVec.smod 32).toNat = k) : (a <<< s).toBitVec.toNat = a.toBitVec.toNat * 2 ^ k % 2 ^ 32 := by
  show (a.toBitVec <<< (s.toBitVec.smod 32).toNat).toNat = _
  rw [hs, BitVec.toNat_shiftLeft, Nat.shiftLeft_eq]
theorem pk_shlN {n : Nat} (s : Int32) (k : Nat) (hs : (s.toBitVec.smod 32).toNat = k) (h : n * 2 ^ k < 2 ^ 32) : nI n <<< s = nI (n * 2 ^ k) := by
  apply Int32.toBitVec_inj.mp
  apply BitVec.eq_of_toNat_eq
  have hn : n < 2 ^ 32 := Nat.lt_of_le_of_lt (Nat.le_mul_of_pos_right n (Nat.two_pow_pos k)) h
  rw [pk_shl _ _ k hs, pk_tn hn, pk_tn h, Nat.mod_eq_of_lt h]
theorem pk_shr (a s : Int32) (k : Nat) (hs : (s.toBitVec.smod 32).toNat = k) : (a >>> s).toInt = a.toInt >>> k := by
  show (a.toBitVec.sshiftRight (s.toBitVec.smod 32).toNat).toInt = _
  rw [hs, BitVec.toInt_sshiftRight]
  rfl
theorem pk_shrN {n : Nat} (h : n < 2 ^ 31) (s : Int32) (k : Nat) (hs : (s.toBitVec.smod 32).toNat = k) : nI n >>> s = nI (n / 2 ^ k) := by
  apply Int32.toInt_inj.mp
  have h2 : n / 2 ^ k ≤ n := Nat.div_le_self _ _
  rw [pk_shr _ _ k hs, nI_toInt h, nI_toInt (by omega), Int.shiftRight_eq_div_pow]
  rfl
theorem pk_ushr (x s : Int32) (k : Nat) (hs : ((s.toUInt32 &&& Int32.toUInt32 31).toBitVec % 32).toNat = k) : (x.toUInt32 >>> (s.toUInt32 &&& Int32.toUInt32 31)).toInt32.toBitVec.toNat = x.toBitVec.toNat / 2 ^ k := by
  have e : (x.toUInt32 >>> (s.toUInt32 &&& Int32.toUInt32 31)).toInt32.toBitVec = x.toBitVec >>> k := by
    rw [← hs]
    exact UInt32.toBitVec_shiftRight _ _
  rw [e, BitVec.toNat_ushiftRight, Nat.shiftRight_eq_div_pow]
theorem pk_ushrN {n : Nat} (hn : n < 2 ^ 32) (s : Int32) (k : Nat) (hs : ((s.toUInt32 &&& Int32.toUInt32 31).toBitVec % 32).toNat = k) : ((nI n).toUInt32 >>> (s.toUInt32 &&& Int32.toUInt32 31)).toInt32 = nI (n / 2 ^ k) := by
  apply Int32.toBitVec_inj.mp
  apply BitVec.eq_of_toNat_eq
  rw [pk_ushr _ s k hs, pk_tn hn, pk_tn (Nat.lt_of_le_of_lt (Nat.div_le_self _ _) hn)]
theorem pk_nb (z : Int32) : narrow .byte (.int z.toInt8.toInt32) = .int z.toInt8.toInt32 := congrArg Value.int (by simp)
theorem pk_ns (z : Int32) : narrow .short (.int z.toInt16.toInt32) = .int z.toInt16.toInt32 := congrArg Value.int (by simp)
theorem pk_fb (r : Int32) : fits .byte (.int r.toInt8.toInt32) = true := by
  have ⟨a, b⟩ := lg_i2b_range r
  have h1 : (-128 : Int32).toInt = -128 := by decide
  have h2 : (127 : Int32).toInt = 127 := by decide
  simp only [fits, Bool.and_eq_true, decide_eq_true_eq, Int32.le_iff_toInt_le, h1, h2]
  omega
theorem pk_fs (r : Int32) : fits .short (.int r.toInt16.toInt32) = true := by
  have ⟨a, b⟩ := lg_i2s_range r
  have h1 : (-32768 : Int32).toInt = -32768 := by decide
  have h2 : (32767 : Int32).toInt = 32767 := by decide
  simp only [fits, Bool.and_eq_true, decide_eq_true_eq, Int32.le_iff_toInt_le, h1, h2]
  omega
theorem pk_charN {q : Nat} (hq : q < 65536) : narrow .char (.int (nI q)) = .int (nI q) ∧ fits .char (.int (nI q)) = true := by
  constructor
  · have e : (nI q).toUInt32.toUInt16.toUInt32.toInt32 = nI q := by
      apply Int32.toBitVec_inj.mp
      apply BitVec.eq_of_toNat_eq
      show (nI q).toUInt32.toUInt16.toUInt32.toNat = q % 2 ^ 32
      rw [UInt16.toNat_toUInt32, UInt32.toNat_toUInt16, show (nI q).toUInt32.toNat = q % 2 ^ 32 from rfl]
      omega
    exact congrArg Value.int e
  · have a : (0 : Int32) ≤ nI q := nI_pos' (by omega)
    have b : nI q ≤ 65535 := nI_le (b := 65535) (by omega) (by decide)
    show (decide ((0 : Int32) ≤ nI q) && decide (nI q ≤ 65535)) = true
    rw [decide_eq_true a, decide_eq_true b]
    rfl
theorem pk_char (x : Int32) : (x.toUInt32 % 65536).toInt32 = nI (x.toBitVec.toNat % 65536) := by
  apply Int32.toBitVec_inj.mp
  apply BitVec.eq_of_toNat_eq
  rw [pk_tn (by omega)]
  show (x.toUInt32 % 65536).toNat = _
  rw [UInt32.toNat_mod]
  rfl
theorem pk_nc (x : Int32) : narrow .char (.int (x.toUInt32 % 65536).toInt32) = .int (x.toUInt32 % 65536).toInt32 := by
  rw [pk_char]
  exact (pk_charN (Nat.mod_lt _ (by decide))).1
theorem pk_fc (x : Int32) : fits .char (.int (x.toUInt32 % 65536).toInt32) = true := by
  rw [pk_char]
  exact (pk_charN (Nat.mod_lt _ (by decide))).2
theorem pk_vb (z : Int32) : vp_nar .byte z.toInt8.toInt32 = z.toInt8.toInt32 := by rw [vp_nar_byte]; simp
theorem pk_vs (z : Int32) : vp_nar .short z.toInt16.toInt32 = z.toInt16.toInt32 := by rw [vp_nar_short]; simp
theorem pk_vc (z : Int32) : vp_nar .char (z.toUInt32 % 65536).toInt32 = (z.toUInt32 % 65536).toInt32 := Value.int.inj (pk_nc z)
theorem pk_lT {n : Nat} (h : n < 2 ^ 63) : (lN n).toInt = (n : Int) := lg_ofNat_toInt h
theorem pk_lLT {a b : Nat} (ha : a < 2 ^ 63) (hb : b < 2 ^ 63) : lN a < lN b ↔ a < b := by
  rw [Int64.lt_iff_toInt_lt, pk_lT ha, pk_lT hb]; omega
theorem pk_lLE {a b : Nat} (ha : a < 2 ^ 63) (hb : b < 2 ^ 63) : lN a ≤ lN b ↔ a ≤ b := by
  rw [Int64.le_iff_toInt_le, pk_lT ha, pk_lT hb]; omega
theorem pk_lEQ {a b : Nat} (ha : a < 2 ^ 63) (hb : b < 2 ^ 63) : lN a = lN b ↔ a = b := by
  rw [← Int64.toInt_inj, pk_lT ha, pk_lT hb]; omega
theorem pk_lOf {x : Int64} (h : ¬ x < 0) : ∃ k : Nat, k < 2 ^ 63 ∧ x = lN k := by
  rw [Int64.lt_iff_toInt_lt] at h
  have h0 : (0 : Int64).toInt = 0 := by decide
  have hx := Int64.toInt_lt x
  refine ⟨x.toInt.toNat, by omega, Int64.toInt_inj.mp ?_⟩
  rw [pk_lT (by omega)]
  omega
theorem pk_lDiv {a b : Nat} (ha : a < 2 ^ 63) (h0 : 0 < b) (hb : b < 2 ^ 63) : lN a / lN b = lN (a / b) := by
  apply Int64.toInt_inj.mp
  rw [lg_ldiv_nonneg (by rw [pk_lT ha]; omega) (by rw [pk_lT hb]; omega), pk_lT ha, pk_lT hb, pk_lT (Nat.lt_of_le_of_lt (Nat.div_le_self a b) ha)]
  rfl
theorem pk_lRem {a b : Nat} (ha : a < 2 ^ 63) (h0 : 0 < b) (hb : b < 2 ^ 63) : lN a - lN a / lN b * lN b = lN (a % b) := by
  rw [pk_lDiv ha h0 hb, lN_mul, lN_sub (Nat.div_mul_le_self a b)]
  exact congrArg lN (by have := Nat.div_add_mod' a b; omega)
theorem pk_loop {σ : Type} (W : Nat → Nat → σ → Prop) (I : Nat → σ → Prop) (e i0 : Nat) (s : σ) (hi : i0 ≤ e) (h0 : I i0 s) (hx : ∀ n s, I e s → W (n + 1) e s)
    (hs : ∀ n i s, i < e → I i s → (∀ s', I (i + 1) s' → W n (i + 1) s') → W (n + 1) i s) : ∃ n, W n i0 s :=
  ⟨e + 1, loop_i W I e hx hs (e + 1) i0 s hi (by omega) h0⟩
theorem pk_loopD {σ : Type} (W : Nat → Nat → σ → Prop) (I : Nat → σ → Prop) (hx : ∀ n s, I 0 s → W (n + 1) 0 s)
    (hs : ∀ n i s, I (i + 1) s → (∀ s', I i s' → W n i s') → W (n + 1) (i + 1) s) : ∀ (e : Nat) (s : σ), I e s → W (e + 1) e s := by
  intro e
  induction e with
  | zero => exact fun s h => hx 0 s h
  | succ e ih => exact fun s h => hs (e + 1) e s h (fun s' h' => ih s' h')
theorem lp1 {A1 : Type} (W : Nat → A1 → Prop) (I : A1 → Prop) (μ : A1 → Nat) (hs : ∀ (n : Nat) (a1 : A1), I a1 → (∀ (b1 : A1), I b1 → μ b1 < μ a1 → W n b1) → W (n + 1) a1) (a1 : A1) (h : I a1) : ∃ n, W n a1 :=
  loop_m (σ := A1) (fun n s => W n s) (fun s => I s) (fun s => μ s) (fun n s hI hk => hs n s hI (fun b1 h9 hm => hk b1 h9 hm)) a1 h
theorem lp2 {A1 A2 : Type} (W : Nat → A1 → A2 → Prop) (I : A1 → A2 → Prop) (μ : A1 → A2 → Nat) (hs : ∀ (n : Nat) (a1 : A1) (a2 : A2), I a1 a2 → (∀ (b1 : A1) (b2 : A2), I b1 b2 → μ b1 b2 < μ a1 a2 → W n b1 b2) → W (n + 1) a1 a2) (a1 : A1) (a2 : A2) (h : I a1 a2) : ∃ n, W n a1 a2 :=
  loop_m (σ := A1 × A2) (fun n s => W n s.1 s.2) (fun s => I s.1 s.2) (fun s => μ s.1 s.2) (fun n s hI hk => hs n s.1 s.2 hI (fun b1 b2 h9 hm => hk (b1, b2) h9 hm)) (a1, a2) h
theorem lp3 {A1 A2 A3 : Type} (W : Nat → A1 → A2 → A3 → Prop) (I : A1 → A2 → A3 → Prop) (μ : A1 → A2 → A3 → Nat) (hs : ∀ (n : Nat) (a1 : A1) (a2 : A2) (a3 : A3), I a1 a2 a3 → (∀ (b1 : A1) (b2 : A2) (b3 : A3), I b1 b2 b3 → μ b1 b2 b3 < μ a1 a2 a3 → W n b1 b2 b3) → W (n + 1) a1 a2 a3) (a1 : A1) (a2 : A2) (a3 : A3) (h : I a1 a2 a3) : ∃ n, W n a1 a2 a3 :=
  loop_m (σ := A1 × A2 × A3) (fun n s => W n s.1 s.2.1 s.2.2) (fun s => I s.1 s.2.1 s.2.2) (fun s => μ s.1 s.2.1 s.2.2) (fun n s hI hk => hs n s.1 s.2.1 s.2.2 hI (fun b1 b2 b3 h9 hm => hk (b1, b2, b3) h9 hm)) (a1, a2, a3) h
theorem lp4 {A1 A2 A3 A4 : Type} (W : Nat → A1 → A2 → A3 → A4 → Prop) (I : A1 → A2 → A3 → A4 → Prop) (μ : A1 → A2 → A3 → A4 → Nat) (hs : ∀ (n : Nat) (a1 : A1) (a2 : A2) (a3 : A3) (a4 : A4), I a1 a2 a3 a4 → (∀ (b1 : A1) (b2 : A2) (b3 : A3) (b4 : A4), I b1 b2 b3 b4 → μ b1 b2 b3 b4 < μ a1 a2 a3 a4 → W n b1 b2 b3 b4) → W (n + 1) a1 a2 a3 a4) (a1 : A1) (a2 : A2) (a3 : A3) (a4 : A4) (h : I a1 a2 a3 a4) : ∃ n, W n a1 a2 a3 a4 :=
  loop_m (σ := A1 × A2 × A3 × A4) (fun n s => W n s.1 s.2.1 s.2.2.1 s.2.2.2) (fun s => I s.1 s.2.1 s.2.2.1 s.2.2.2) (fun s => μ s.1 s.2.1 s.2.2.1 s.2.2.2) (fun n s hI hk => hs n s.1 s.2.1 s.2.2.1 s.2.2.2 hI (fun b1 b2 b3 b4 h9 hm => hk (b1, b2, b3, b4) h9 hm)) (a1, a2, a3, a4) h
theorem lp5 {A1 A2 A3 A4 A5 : Type} (W : Nat → A1 → A2 → A3 → A4 → A5 → Prop) (I : A1 → A2 → A3 → A4 → A5 → Prop) (μ : A1 → A2 → A3 → A4 → A5 → Nat) (hs : ∀ (n : Nat) (a1 : A1) (a2 : A2) (a3 : A3) (a4 : A4) (a5 : A5), I a1 a2 a3 a4 a5 → (∀ (b1 : A1) (b2 : A2) (b3 : A3) (b4 : A4) (b5 : A5), I b1 b2 b3 b4 b5 → μ b1 b2 b3 b4 b5 < μ a1 a2 a3 a4 a5 → W n b1 b2 b3 b4 b5) → W (n + 1) a1 a2 a3 a4 a5) (a1 : A1) (a2 : A2) (a3 : A3) (a4 : A4) (a5 : A5) (h : I a1 a2 a3 a4 a5) : ∃ n, W n a1 a2 a3 a4 a5 :=
  loop_m (σ := A1 × A2 × A3 × A4 × A5) (fun n s => W n s.1 s.2.1 s.2.2.1 s.2.2.2.1 s.2.2.2.2) (fun s => I s.1 s.2.1 s.2.2.1 s.2.2.2.1 s.2.2.2.2) (fun s => μ s.1 s.2.1 s.2.2.1 s.2.2.2.1 s.2.2.2.2) (fun n s hI hk => hs n s.1 s.2.1 s.2.2.1 s.2.2.2.1 s.2.2.2.2 hI (fun b1 b2 b3 b4 b5 h9 hm => hk (b1, b2, b3, b4, b5) h9 hm)) (a1, a2, a3, a4, a5) h
theorem lp6 {A1 A2 A3 A4 A5 A6 : Type} (W : Nat → A1 → A2 → A3 → A4 → A5 → A6 → Prop) (I : A1 → A2 → A3 → A4 → A5 → A6 → Prop) (μ : A1 → A2 → A3 → A4 → A5 → A6 → Nat) (hs : ∀ (n : Nat) (a1 : A1) (a2 : A2) (a3 : A3) (a4 : A4) (a5 : A5) (a6 : A6), I a1 a2 a3 a4 a5 a6 → (∀ (b1 : A1) (b2 : A2) (b3 : A3) (b4 : A4) (b5 : A5) (b6 : A6), I b1 b2 b3 b4 b5 b6 → μ b1 b2 b3 b4 b5 b6 < μ a1 a2 a3 a4 a5 a6 → W n b1 b2 b3 b4 b5 b6) → W (n + 1) a1 a2 a3 a4 a5 a6) (a1 : A1) (a2 : A2) (a3 : A3) (a4 : A4) (a5 : A5) (a6 : A6) (h : I a1 a2 a3 a4 a5 a6) : ∃ n, W n a1 a2 a3 a4 a5 a6 :=
  loop_m (σ := A1 × A2 × A3 × A4 × A5 × A6) (fun n s => W n s.1 s.2.1 s.2.2.1 s.2.2.2.1 s.2.2.2.2.1 s.2.2.2.2.2) (fun s => I s.1 s.2.1 s.2.2.1 s.2.2.2.1 s.2.2.2.2.1 s.2.2.2.2.2) (fun s => μ s.1 s.2.1 s.2.2.1 s.2.2.2.1 s.2.2.2.2.1 s.2.2.2.2.2) (fun n s hI hk => hs n s.1 s.2.1 s.2.2.1 s.2.2.2.1 s.2.2.2.2.1 s.2.2.2.2.2 hI (fun b1 b2 b3 b4 b5 b6 h9 hm => hk (b1, b2, b3, b4, b5, b6) h9 hm)) (a1, a2, a3, a4, a5, a6) h
theorem lp7 {A1 A2 A3 A4 A5 A6 A7 : Type} (W : Nat → A1 → A2 → A3 → A4 → A5 → A6 → A7 → Prop) (I : A1 → A2 → A3 → A4 → A5 → A6 → A7 → Prop) (μ : A1 → A2 → A3 → A4 → A5 → A6 → A7 → Nat) (hs : ∀ (n : Nat) (a1 : A1) (a2 : A2) (a3 : A3) (a4 : A4) (a5 : A5) (a6 : A6) (a7 : A7), I a1 a2 a3 a4 a5 a6 a7 → (∀ (b1 : A1) (b2 : A2) (b3 : A3) (b4 : A4) (b5 : A5) (b6 : A6) (b7 : A7), I b1 b2 b3 b4 b5 b6 b7 → μ b1 b2 b3 b4 b5 b6 b7 < μ a1 a2 a3 a4 a5 a6 a7 → W n b1 b2 b3 b4 b5 b6 b7) → W (n + 1) a1 a2 a3 a4 a5 a6 a7) (a1 : A1) (a2 : A2) (a3 : A3) (a4 : A4) (a5 : A5) (a6 : A6) (a7 : A7) (h : I a1 a2 a3 a4 a5 a6 a7) : ∃ n, W n a1 a2 a3 a4 a5 a6 a7 :=
  loop_m (σ := A1 × A2 × A3 × A4 × A5 × A6 × A7) (fun n s => W n s.1 s.2.1 s.2.2.1 s.2.2.2.1 s.2.2.2.2.1 s.2.2.2.2.2.1 s.2.2.2.2.2.2) (fun s => I s.1 s.2.1 s.2.2.1 s.2.2.2.1 s.2.2.2.2.1 s.2.2.2.2.2.1 s.2.2.2.2.2.2) (fun s => μ s.1 s.2.1 s.2.2.1 s.2.2.2.1 s.2.2.2.2.1 s.2.2.2.2.2.1 s.2.2.2.2.2.2) (fun n s hI hk => hs n s.1 s.2.1 s.2.2.1 s.2.2.2.1 s.2.2.2.2.1 s.2.2.2.2.2.1 s.2.2.2.2.2.2 hI (fun b1 b2 b3 b4 b5 b6 b7 h9 hm => hk (b1, b2, b3, b4, b5, b6, b7) h9 hm)) (a1, a2, a3, a4, a5, a6, a7) h
theorem lp8 {A1 A2 A3 A4 A5 A6 A7 A8 : Type} (W : Nat → A1 → A2 → A3 → A4 → A5 → A6 → A7 → A8 → Prop) (I : A1 → A2 → A3 → A4 → A5 → A6 → A7 → A8 → Prop) (μ : A1 → A2 → A3 → A4 → A5 → A6 → A7 → A8 → Nat) (hs : ∀ (n : Nat) (a1 : A1) (a2 : A2) (a3 : A3) (a4 : A4) (a5 : A5) (a6 : A6) (a7 : A7) (a8 : A8), I a1 a2 a3 a4 a5 a6 a7 a8 → (∀ (b1 : A1) (b2 : A2) (b3 : A3) (b4 : A4) (b5 : A5) (b6 : A6) (b7 : A7) (b8 : A8), I b1 b2 b3 b4 b5 b6 b7 b8 → μ b1 b2 b3 b4 b5 b6 b7 b8 < μ a1 a2 a3 a4 a5 a6 a7 a8 → W n b1 b2 b3 b4 b5 b6 b7 b8) → W (n + 1) a1 a2 a3 a4 a5 a6 a7 a8) (a1 : A1) (a2 : A2) (a3 : A3) (a4 : A4) (a5 : A5) (a6 : A6) (a7 : A7) (a8 : A8) (h : I a1 a2 a3 a4 a5 a6 a7 a8) : ∃ n, W n a1 a2 a3 a4 a5 a6 a7 a8 :=
  loop_m (σ := A1 × A2 × A3 × A4 × A5 × A6 × A7 × A8) (fun n s => W n s.1 s.2.1 s.2.2.1 s.2.2.2.1 s.2.2.2.2.1 s.2.2.2.2.2.1 s.2.2.2.2.2.2.1 s.2.2.2.2.2.2.2) (fun s => I s.1 s.2.1 s.2.2.1 s.2.2.2.1 s.2.2.2.2.1 s.2.2.2.2.2.1 s.2.2.2.2.2.2.1 s.2.2.2.2.2.2.2) (fun s => μ s.1 s.2.1 s.2.2.1 s.2.2.2.1 s.2.2.2.2.1 s.2.2.2.2.2.1 s.2.2.2.2.2.2.1 s.2.2.2.2.2.2.2) (fun n s hI hk => hs n s.1 s.2.1 s.2.2.1 s.2.2.2.1 s.2.2.2.2.1 s.2.2.2.2.2.1 s.2.2.2.2.2.2.1 s.2.2.2.2.2.2.2 hI (fun b1 b2 b3 b4 b5 b6 b7 b8 h9 hm => hk (b1, b2, b3, b4, b5, b6, b7, b8) h9 hm)) (a1, a2, a3, a4, a5, a6, a7, a8) h
theorem lp9 {A1 A2 A3 A4 A5 A6 A7 A8 A9 : Type} (W : Nat → A1 → A2 → A3 → A4 → A5 → A6 → A7 → A8 → A9 → Prop) (I : A1 → A2 → A3 → A4 → A5 → A6 → A7 → A8 → A9 → Prop) (μ : A1 → A2 → A3 → A4 → A5 → A6 → A7 → A8 → A9 → Nat) (hs : ∀ (n : Nat) (a1 : A1) (a2 : A2) (a3 : A3) (a4 : A4) (a5 : A5) (a6 : A6) (a7 : A7) (a8 : A8) (a9 : A9), I a1 a2 a3 a4 a5 a6 a7 a8 a9 → (∀ (b1 : A1) (b2 : A2) (b3 : A3) (b4 : A4) (b5 : A5) (b6 : A6) (b7 : A7) (b8 : A8) (b9 : A9), I b1 b2 b3 b4 b5 b6 b7 b8 b9 → μ b1 b2 b3 b4 b5 b6 b7 b8 b9 < μ a1 a2 a3 a4 a5 a6 a7 a8 a9 → W n b1 b2 b3 b4 b5 b6 b7 b8 b9) → W (n + 1) a1 a2 a3 a4 a5 a6 a7 a8 a9) (a1 : A1) (a2 : A2) (a3 : A3) (a4 : A4) (a5 : A5) (a6 : A6) (a7 : A7) (a8 : A8) (a9 : A9) (h : I a1 a2 a3 a4 a5 a6 a7 a8 a9) : ∃ n, W n a1 a2 a3 a4 a5 a6 a7 a8 a9 :=
  loop_m (σ := A1 × A2 × A3 × A4 × A5 × A6 × A7 × A8 × A9) (fun n s => W n s.1 s.2.1 s.2.2.1 s.2.2.2.1 s.2.2.2.2.1 s.2.2.2.2.2.1 s.2.2.2.2.2.2.1 s.2.2.2.2.2.2.2.1 s.2.2.2.2.2.2.2.2) (fun s => I s.1 s.2.1 s.2.2.1 s.2.2.2.1 s.2.2.2.2.1 s.2.2.2.2.2.1 s.2.2.2.2.2.2.1 s.2.2.2.2.2.2.2.1 s.2.2.2.2.2.2.2.2) (fun s => μ s.1 s.2.1 s.2.2.1 s.2.2.2.1 s.2.2.2.2.1 s.2.2.2.2.2.1 s.2.2.2.2.2.2.1 s.2.2.2.2.2.2.2.1 s.2.2.2.2.2.2.2.2) (fun n s hI hk => hs n s.1 s.2.1 s.2.2.1 s.2.2.2.1 s.2.2.2.2.1 s.2.2.2.2.2.1 s.2.2.2.2.2.2.1 s.2.2.2.2.2.2.2.1 s.2.2.2.2.2.2.2.2 hI (fun b1 b2 b3 b4 b5 b6 b7 b8 b9 h9 hm => hk (b1, b2, b3, b4, b5, b6, b7, b8, b9) h9 hm)) (a1, a2, a3, a4, a5, a6, a7, a8, a9) h
theorem lp10 {A1 A2 A3 A4 A5 A6 A7 A8 A9 A10 : Type} (W : Nat → A1 → A2 → A3 → A4 → A5 → A6 → A7 → A8 → A9 → A10 → Prop) (I : A1 → A2 → A3 → A4 → A5 → A6 → A7 → A8 → A9 → A10 → Prop) (μ : A1 → A2 → A3 → A4 → A5 → A6 → A7 → A8 → A9 → A10 → Nat) (hs : ∀ (n : Nat) (a1 : A1) (a2 : A2) (a3 : A3) (a4 : A4) (a5 : A5) (a6 : A6) (a7 : A7) (a8 : A8) (a9 : A9) (a10 : A10), I a1 a2 a3 a4 a5 a6 a7 a8 a9 a10 → (∀ (b1 : A1) (b2 : A2) (b3 : A3) (b4 : A4) (b5 : A5) (b6 : A6) (b7 : A7) (b8 : A8) (b9 : A9) (b10 : A10), I b1 b2 b3 b4 b5 b6 b7 b8 b9 b10 → μ b1 b2 b3 b4 b5 b6 b7 b8 b9 b10 < μ a1 a2 a3 a4 a5 a6 a7 a8 a9 a10 → W n b1 b2 b3 b4 b5 b6 b7 b8 b9 b10) → W (n + 1) a1 a2 a3 a4 a5 a6 a7 a8 a9 a10) (a1 : A1) (a2 : A2) (a3 : A3) (a4 : A4) (a5 : A5) (a6 : A6) (a7 : A7) (a8 : A8) (a9 : A9) (a10 : A10) (h : I a1 a2 a3 a4 a5 a6 a7 a8 a9 a10) : ∃ n, W n a1 a2 a3 a4 a5 a6 a7 a8 a9 a10 :=
  loop_m (σ := A1 × A2 × A3 × A4 × A5 × A6 × A7 × A8 × A9 × A10) (fun n s => W n s.1 s.2.1 s.2.2.1 s.2.2.2.1 s.2.2.2.2.1 s.2.2.2.2.2.1 s.2.2.2.2.2.2.1 s.2.2.2.2.2.2.2.1 s.2.2.2.2.2.2.2.2.1 s.2.2.2.2.2.2.2.2.2) (fun s => I s.1 s.2.1 s.2.2.1 s.2.2.2.1 s.2.2.2.2.1 s.2.2.2.2.2.1 s.2.2.2.2.2.2.1 s.2.2.2.2.2.2.2.1 s.2.2.2.2.2.2.2.2.1 s.2.2.2.2.2.2.2.2.2) (fun s => μ s.1 s.2.1 s.2.2.1 s.2.2.2.1 s.2.2.2.2.1 s.2.2.2.2.2.1 s.2.2.2.2.2.2.1 s.2.2.2.2.2.2.2.1 s.2.2.2.2.2.2.2.2.1 s.2.2.2.2.2.2.2.2.2) (fun n s hI hk => hs n s.1 s.2.1 s.2.2.1 s.2.2.2.1 s.2.2.2.2.1 s.2.2.2.2.2.1 s.2.2.2.2.2.2.1 s.2.2.2.2.2.2.2.1 s.2.2.2.2.2.2.2.2.1 s.2.2.2.2.2.2.2.2.2 hI (fun b1 b2 b3 b4 b5 b6 b7 b8 b9 b10 h9 hm => hk (b1, b2, b3, b4, b5, b6, b7, b8, b9, b10) h9 hm)) (a1, a2, a3, a4, a5, a6, a7, a8, a9, a10) h
theorem lp11 {A1 A2 A3 A4 A5 A6 A7 A8 A9 A10 A11 : Type} (W : Nat → A1 → A2 → A3 → A4 → A5 → A6 → A7 → A8 → A9 → A10 → A11 → Prop) (I : A1 → A2 → A3 → A4 → A5 → A6 → A7 → A8 → A9 → A10 → A11 → Prop) (μ : A1 → A2 → A3 → A4 → A5 → A6 → A7 → A8 → A9 → A10 → A11 → Nat) (hs : ∀ (n : Nat) (a1 : A1) (a2 : A2) (a3 : A3) (a4 : A4) (a5 : A5) (a6 : A6) (a7 : A7) (a8 : A8) (a9 : A9) (a10 : A10) (a11 : A11), I a1 a2 a3 a4 a5 a6 a7 a8 a9 a10 a11 → (∀ (b1 : A1) (b2 : A2) (b3 : A3) (b4 : A4) (b5 : A5) (b6 : A6) (b7 : A7) (b8 : A8) (b9 : A9) (b10 : A10) (b11 : A11), I b1 b2 b3 b4 b5 b6 b7 b8 b9 b10 b11 → μ b1 b2 b3 b4 b5 b6 b7 b8 b9 b10 b11 < μ a1 a2 a3 a4 a5 a6 a7 a8 a9 a10 a11 → W n b1 b2 b3 b4 b5 b6 b7 b8 b9 b10 b11) → W (n + 1) a1 a2 a3 a4 a5 a6 a7 a8 a9 a10 a11) (a1 : A1) (a2 : A2) (a3 : A3) (a4 : A4) (a5 : A5) (a6 : A6) (a7 : A7) (a8 : A8) (a9 : A9) (a10 : A10) (a11 : A11) (h : I a1 a2 a3 a4 a5 a6 a7 a8 a9 a10 a11) : ∃ n, W n a1 a2 a3 a4 a5 a6 a7 a8 a9 a10 a11 :=
  loop_m (σ := A1 × A2 × A3 × A4 × A5 × A6 × A7 × A8 × A9 × A10 × A11) (fun n s => W n s.1 s.2.1 s.2.2.1 s.2.2.2.1 s.2.2.2.2.1 s.2.2.2.2.2.1 s.2.2.2.2.2.2.1 s.2.2.2.2.2.2.2.1 s.2.2.2.2.2.2.2.2.1 s.2.2.2.2.2.2.2.2.2.1 s.2.2.2.2.2.2.2.2.2.2) (fun s => I s.1 s.2.1 s.2.2.1 s.2.2.2.1 s.2.2.2.2.1 s.2.2.2.2.2.1 s.2.2.2.2.2.2.1 s.2.2.2.2.2.2.2.1 s.2.2.2.2.2.2.2.2.1 s.2.2.2.2.2.2.2.2.2.1 s.2.2.2.2.2.2.2.2.2.2) (fun s => μ s.1 s.2.1 s.2.2.1 s.2.2.2.1 s.2.2.2.2.1 s.2.2.2.2.2.1 s.2.2.2.2.2.2.1 s.2.2.2.2.2.2.2.1 s.2.2.2.2.2.2.2.2.1 s.2.2.2.2.2.2.2.2.2.1 s.2.2.2.2.2.2.2.2.2.2) (fun n s hI hk => hs n s.1 s.2.1 s.2.2.1 s.2.2.2.1 s.2.2.2.2.1 s.2.2.2.2.2.1 s.2.2.2.2.2.2.1 s.2.2.2.2.2.2.2.1 s.2.2.2.2.2.2.2.2.1 s.2.2.2.2.2.2.2.2.2.1 s.2.2.2.2.2.2.2.2.2.2 hI (fun b1 b2 b3 b4 b5 b6 b7 b8 b9 b10 b11 h9 hm => hk (b1, b2, b3, b4, b5, b6, b7, b8, b9, b10, b11) h9 hm)) (a1, a2, a3, a4, a5, a6, a7, a8, a9, a10, a11) h
theorem lp12 {A1 A2 A3 A4 A5 A6 A7 A8 A9 A10 A11 A12 : Type} (W : Nat → A1 → A2 → A3 → A4 → A5 → A6 → A7 → A8 → A9 → A10 → A11 → A12 → Prop) (I : A1 → A2 → A3 → A4 → A5 → A6 → A7 → A8 → A9 → A10 → A11 → A12 → Prop) (μ : A1 → A2 → A3 → A4 → A5 → A6 → A7 → A8 → A9 → A10 → A11 → A12 → Nat) (hs : ∀ (n : Nat) (a1 : A1) (a2 : A2) (a3 : A3) (a4 : A4) (a5 : A5) (a6 : A6) (a7 : A7) (a8 : A8) (a9 : A9) (a10 : A10) (a11 : A11) (a12 : A12), I a1 a2 a3 a4 a5 a6 a7 a8 a9 a10 a11 a12 → (∀ (b1 : A1) (b2 : A2) (b3 : A3) (b4 : A4) (b5 : A5) (b6 : A6) (b7 : A7) (b8 : A8) (b9 : A9) (b10 : A10) (b11 : A11) (b12 : A12), I b1 b2 b3 b4 b5 b6 b7 b8 b9 b10 b11 b12 → μ b1 b2 b3 b4 b5 b6 b7 b8 b9 b10 b11 b12 < μ a1 a2 a3 a4 a5 a6 a7 a8 a9 a10 a11 a12 → W n b1 b2 b3 b4 b5 b6 b7 b8 b9 b10 b11 b12) → W (n + 1) a1 a2 a3 a4 a5 a6 a7 a8 a9 a10 a11 a12) (a1 : A1) (a2 : A2) (a3 : A3) (a4 : A4) (a5 : A5) (a6 : A6) (a7 : A7) (a8 : A8) (a9 : A9) (a10 : A10) (a11 : A11) (a12 : A12) (h : I a1 a2 a3 a4 a5 a6 a7 a8 a9 a10 a11 a12) : ∃ n, W n a1 a2 a3 a4 a5 a6 a7 a8 a9 a10 a11 a12 :=
  loop_m (σ := A1 × A2 × A3 × A4 × A5 × A6 × A7 × A8 × A9 × A10 × A11 × A12) (fun n s => W n s.1 s.2.1 s.2.2.1 s.2.2.2.1 s.2.2.2.2.1 s.2.2.2.2.2.1 s.2.2.2.2.2.2.1 s.2.2.2.2.2.2.2.1 s.2.2.2.2.2.2.2.2.1 s.2.2.2.2.2.2.2.2.2.1 s.2.2.2.2.2.2.2.2.2.2.1 s.2.2.2.2.2.2.2.2.2.2.2) (fun s => I s.1 s.2.1 s.2.2.1 s.2.2.2.1 s.2.2.2.2.1 s.2.2.2.2.2.1 s.2.2.2.2.2.2.1 s.2.2.2.2.2.2.2.1 s.2.2.2.2.2.2.2.2.1 s.2.2.2.2.2.2.2.2.2.1 s.2.2.2.2.2.2.2.2.2.2.1 s.2.2.2.2.2.2.2.2.2.2.2) (fun s => μ s.1 s.2.1 s.2.2.1 s.2.2.2.1 s.2.2.2.2.1 s.2.2.2.2.2.1 s.2.2.2.2.2.2.1 s.2.2.2.2.2.2.2.1 s.2.2.2.2.2.2.2.2.1 s.2.2.2.2.2.2.2.2.2.1 s.2.2.2.2.2.2.2.2.2.2.1 s.2.2.2.2.2.2.2.2.2.2.2) (fun n s hI hk => hs n s.1 s.2.1 s.2.2.1 s.2.2.2.1 s.2.2.2.2.1 s.2.2.2.2.2.1 s.2.2.2.2.2.2.1 s.2.2.2.2.2.2.2.1 s.2.2.2.2.2.2.2.2.1 s.2.2.2.2.2.2.2.2.2.1 s.2.2.2.2.2.2.2.2.2.2.1 s.2.2.2.2.2.2.2.2.2.2.2 hI (fun b1 b2 b3 b4 b5 b6 b7 b8 b9 b10 b11 b12 h9 hm => hk (b1, b2, b3, b4, b5, b6, b7, b8, b9, b10, b11, b12) h9 hm)) (a1, a2, a3, a4, a5, a6, a7, a8, a9, a10, a11, a12) h
theorem lp13 {A1 A2 A3 A4 A5 A6 A7 A8 A9 A10 A11 A12 A13 : Type} (W : Nat → A1 → A2 → A3 → A4 → A5 → A6 → A7 → A8 → A9 → A10 → A11 → A12 → A13 → Prop) (I : A1 → A2 → A3 → A4 → A5 → A6 → A7 → A8 → A9 → A10 → A11 → A12 → A13 → Prop) (μ : A1 → A2 → A3 → A4 → A5 → A6 → A7 → A8 → A9 → A10 → A11 → A12 → A13 → Nat) (hs : ∀ (n : Nat) (a1 : A1) (a2 : A2) (a3 : A3) (a4 : A4) (a5 : A5) (a6 : A6) (a7 : A7) (a8 : A8) (a9 : A9) (a10 : A10) (a11 : A11) (a12 : A12) (a13 : A13), I a1 a2 a3 a4 a5 a6 a7 a8 a9 a10 a11 a12 a13 → (∀ (b1 : A1) (b2 : A2) (b3 : A3) (b4 : A4) (b5 : A5) (b6 : A6) (b7 : A7) (b8 : A8) (b9 : A9) (b10 : A10) (b11 : A11) (b12 : A12) (b13 : A13), I b1 b2 b3 b4 b5 b6 b7 b8 b9 b10 b11 b12 b13 → μ b1 b2 b3 b4 b5 b6 b7 b8 b9 b10 b11 b12 b13 < μ a1 a2 a3 a4 a5 a6 a7 a8 a9 a10 a11 a12 a13 → W n b1 b2 b3 b4 b5 b6 b7 b8 b9 b10 b11 b12 b13) → W (n + 1) a1 a2 a3 a4 a5 a6 a7 a8 a9 a10 a11 a12 a13) (a1 : A1) (a2 : A2) (a3 : A3) (a4 : A4) (a5 : A5) (a6 : A6) (a7 : A7) (a8 : A8) (a9 : A9) (a10 : A10) (a11 : A11) (a12 : A12) (a13 : A13) (h : I a1 a2 a3 a4 a5 a6 a7 a8 a9 a10 a11 a12 a13) : ∃ n, W n a1 a2 a3 a4 a5 a6 a7 a8 a9 a10 a11 a12 a13 :=
  loop_m (σ := A1 × A2 × A3 × A4 × A5 × A6 × A7 × A8 × A9 × A10 × A11 × A12 × A13) (fun n s => W n s.1 s.2.1 s.2.2.1 s.2.2.2.1 s.2.2.2.2.1 s.2.2.2.2.2.1 s.2.2.2.2.2.2.1 s.2.2.2.2.2.2.2.1 s.2.2.2.2.2.2.2.2.1 s.2.2.2.2.2.2.2.2.2.1 s.2.2.2.2.2.2.2.2.2.2.1 s.2.2.2.2.2.2.2.2.2.2.2.1 s.2.2.2.2.2.2.2.2.2.2.2.2) (fun s => I s.1 s.2.1 s.2.2.1 s.2.2.2.1 s.2.2.2.2.1 s.2.2.2.2.2.1 s.2.2.2.2.2.2.1 s.2.2.2.2.2.2.2.1 s.2.2.2.2.2.2.2.2.1 s.2.2.2.2.2.2.2.2.2.1 s.2.2.2.2.2.2.2.2.2.2.1 s.2.2.2.2.2.2.2.2.2.2.2.1 s.2.2.2.2.2.2.2.2.2.2.2.2) (fun s => μ s.1 s.2.1 s.2.2.1 s.2.2.2.1 s.2.2.2.2.1 s.2.2.2.2.2.1 s.2.2.2.2.2.2.1 s.2.2.2.2.2.2.2.1 s.2.2.2.2.2.2.2.2.1 s.2.2.2.2.2.2.2.2.2.1 s.2.2.2.2.2.2.2.2.2.2.1 s.2.2.2.2.2.2.2.2.2.2.2.1 s.2.2.2.2.2.2.2.2.2.2.2.2) (fun n s hI hk => hs n s.1 s.2.1 s.2.2.1 s.2.2.2.1 s.2.2.2.2.1 s.2.2.2.2.2.1 s.2.2.2.2.2.2.1 s.2.2.2.2.2.2.2.1 s.2.2.2.2.2.2.2.2.1 s.2.2.2.2.2.2.2.2.2.1 s.2.2.2.2.2.2.2.2.2.2.1 s.2.2.2.2.2.2.2.2.2.2.2.1 s.2.2.2.2.2.2.2.2.2.2.2.2 hI (fun b1 b2 b3 b4 b5 b6 b7 b8 b9 b10 b11 b12 b13 h9 hm => hk (b1, b2, b3, b4, b5, b6, b7, b8, b9, b10, b11, b12, b13) h9 hm)) (a1, a2, a3, a4, a5, a6, a7, a8, a9, a10, a11, a12, a13) h
theorem lp14 {A1 A2 A3 A4 A5 A6 A7 A8 A9 A10 A11 A12 A13 A14 : Type} (W : Nat → A1 → A2 → A3 → A4 → A5 → A6 → A7 → A8 → A9 → A10 → A11 → A12 → A13 → A14 → Prop) (I : A1 → A2 → A3 → A4 → A5 → A6 → A7 → A8 → A9 → A10 → A11 → A12 → A13 → A14 → Prop) (μ : A1 → A2 → A3 → A4 → A5 → A6 → A7 → A8 → A9 → A10 → A11 → A12 → A13 → A14 → Nat) (hs : ∀ (n : Nat) (a1 : A1) (a2 : A2) (a3 : A3) (a4 : A4) (a5 : A5) (a6 : A6) (a7 : A7) (a8 : A8) (a9 : A9) (a10 : A10) (a11 : A11) (a12 : A12) (a13 : A13) (a14 : A14), I a1 a2 a3 a4 a5 a6 a7 a8 a9 a10 a11 a12 a13 a14 → (∀ (b1 : A1) (b2 : A2) (b3 : A3) (b4 : A4) (b5 : A5) (b6 : A6) (b7 : A7) (b8 : A8) (b9 : A9) (b10 : A10) (b11 : A11) (b12 : A12) (b13 : A13) (b14 : A14), I b1 b2 b3 b4 b5 b6 b7 b8 b9 b10 b11 b12 b13 b14 → μ b1 b2 b3 b4 b5 b6 b7 b8 b9 b10 b11 b12 b13 b14 < μ a1 a2 a3 a4 a5 a6 a7 a8 a9 a10 a11 a12 a13 a14 → W n b1 b2 b3 b4 b5 b6 b7 b8 b9 b10 b11 b12 b13 b14) → W (n + 1) a1 a2 a3 a4 a5 a6 a7 a8 a9 a10 a11 a12 a13 a14) (a1 : A1) (a2 : A2) (a3 : A3) (a4 : A4) (a5 : A5) (a6 : A6) (a7 : A7) (a8 : A8) (a9 : A9) (a10 : A10) (a11 : A11) (a12 : A12) (a13 : A13) (a14 : A14) (h : I a1 a2 a3 a4 a5 a6 a7 a8 a9 a10 a11 a12 a13 a14) : ∃ n, W n a1 a2 a3 a4 a5 a6 a7 a8 a9 a10 a11 a12 a13 a14 :=
  loop_m (σ := A1 × A2 × A3 × A4 × A5 × A6 × A7 × A8 × A9 × A10 × A11 × A12 × A13 × A14) (fun n s => W n s.1 s.2.1 s.2.2.1 s.2.2.2.1 s.2.2.2.2.1 s.2.2.2.2.2.1 s.2.2.2.2.2.2.1 s.2.2.2.2.2.2.2.1 s.2.2.2.2.2.2.2.2.1 s.2.2.2.2.2.2.2.2.2.1 s.2.2.2.2.2.2.2.2.2.2.1 s.2.2.2.2.2.2.2.2.2.2.2.1 s.2.2.2.2.2.2.2.2.2.2.2.2.1 s.2.2.2.2.2.2.2.2.2.2.2.2.2) (fun s => I s.1 s.2.1 s.2.2.1 s.2.2.2.1 s.2.2.2.2.1 s.2.2.2.2.2.1 s.2.2.2.2.2.2.1 s.2.2.2.2.2.2.2.1 s.2.2.2.2.2.2.2.2.1 s.2.2.2.2.2.2.2.2.2.1 s.2.2.2.2.2.2.2.2.2.2.1 s.2.2.2.2.2.2.2.2.2.2.2.1 s.2.2.2.2.2.2.2.2.2.2.2.2.1 s.2.2.2.2.2.2.2.2.2.2.2.2.2) (fun s => μ s.1 s.2.1 s.2.2.1 s.2.2.2.1 s.2.2.2.2.1 s.2.2.2.2.2.1 s.2.2.2.2.2.2.1 s.2.2.2.2.2.2.2.1 s.2.2.2.2.2.2.2.2.1 s.2.2.2.2.2.2.2.2.2.1 s.2.2.2.2.2.2.2.2.2.2.1 s.2.2.2.2.2.2.2.2.2.2.2.1 s.2.2.2.2.2.2.2.2.2.2.2.2.1 s.2.2.2.2.2.2.2.2.2.2.2.2.2) (fun n s hI hk => hs n s.1 s.2.1 s.2.2.1 s.2.2.2.1 s.2.2.2.2.1 s.2.2.2.2.2.1 s.2.2.2.2.2.2.1 s.2.2.2.2.2.2.2.1 s.2.2.2.2.2.2.2.2.1 s.2.2.2.2.2.2.2.2.2.1 s.2.2.2.2.2.2.2.2.2.2.1 s.2.2.2.2.2.2.2.2.2.2.2.1 s.2.2.2.2.2.2.2.2.2.2.2.2.1 s.2.2.2.2.2.2.2.2.2.2.2.2.2 hI (fun b1 b2 b3 b4 b5 b6 b7 b8 b9 b10 b11 b12 b13 b14 h9 hm => hk (b1, b2, b3, b4, b5, b6, b7, b8, b9, b10, b11, b12, b13, b14) h9 hm)) (a1, a2, a3, a4, a5, a6, a7, a8, a9, a10, a11, a12, a13, a14) h
theorem lp15 {A1 A2 A3 A4 A5 A6 A7 A8 A9 A10 A11 A12 A13 A14 A15 : Type} (W : Nat → A1 → A2 → A3 → A4 → A5 → A6 → A7 → A8 → A9 → A10 → A11 → A12 → A13 → A14 → A15 → Prop) (I : A1 → A2 → A3 → A4 → A5 → A6 → A7 → A8 → A9 → A10 → A11 → A12 → A13 → A14 → A15 → Prop) (μ : A1 → A2 → A3 → A4 → A5 → A6 → A7 → A8 → A9 → A10 → A11 → A12 → A13 → A14 → A15 → Nat) (hs : ∀ (n : Nat) (a1 : A1) (a2 : A2) (a3 : A3) (a4 : A4) (a5 : A5) (a6 : A6) (a7 : A7) (a8 : A8) (a9 : A9) (a10 : A10) (a11 : A11) (a12 : A12) (a13 : A13) (a14 : A14) (a15 : A15), I a1 a2 a3 a4 a5 a6 a7 a8 a9 a10 a11 a12 a13 a14 a15 → (∀ (b1 : A1) (b2 : A2) (b3 : A3) (b4 : A4) (b5 : A5) (b6 : A6) (b7 : A7) (b8 : A8) (b9 : A9) (b10 : A10) (b11 : A11) (b12 : A12) (b13 : A13) (b14 : A14) (b15 : A15), I b1 b2 b3 b4 b5 b6 b7 b8 b9 b10 b11 b12 b13 b14 b15 → μ b1 b2 b3 b4 b5 b6 b7 b8 b9 b10 b11 b12 b13 b14 b15 < μ a1 a2 a3 a4 a5 a6 a7 a8 a9 a10 a11 a12 a13 a14 a15 → W n b1 b2 b3 b4 b5 b6 b7 b8 b9 b10 b11 b12 b13 b14 b15) → W (n + 1) a1 a2 a3 a4 a5 a6 a7 a8 a9 a10 a11 a12 a13 a14 a15) (a1 : A1) (a2 : A2) (a3 : A3) (a4 : A4) (a5 : A5) (a6 : A6) (a7 : A7) (a8 : A8) (a9 : A9) (a10 : A10) (a11 : A11) (a12 : A12) (a13 : A13) (a14 : A14) (a15 : A15) (h : I a1 a2 a3 a4 a5 a6 a7 a8 a9 a10 a11 a12 a13 a14 a15) : ∃ n, W n a1 a2 a3 a4 a5 a6 a7 a8 a9 a10 a11 a12 a13 a14 a15 :=
  loop_m (σ := A1 × A2 × A3 × A4 × A5 × A6 × A7 × A8 × A9 × A10 × A11 × A12 × A13 × A14 × A15) (fun n s => W n s.1 s.2.1 s.2.2.1 s.2.2.2.1 s.2.2.2.2.1 s.2.2.2.2.2.1 s.2.2.2.2.2.2.1 s.2.2.2.2.2.2.2.1 s.2.2.2.2.2.2.2.2.1 s.2.2.2.2.2.2.2.2.2.1 s.2.2.2.2.2.2.2.2.2.2.1 s.2.2.2.2.2.2.2.2.2.2.2.1 s.2.2.2.2.2.2.2.2.2.2.2.2.1 s.2.2.2.2.2.2.2.2.2.2.2.2.2.1 s.2.2.2.2.2.2.2.2.2.2.2.2.2.2) (fun s => I s.1 s.2.1 s.2.2.1 s.2.2.2.1 s.2.2.2.2.1 s.2.2.2.2.2.1 s.2.2.2.2.2.2.1 s.2.2.2.2.2.2.2.1 s.2.2.2.2.2.2.2.2.1 s.2.2.2.2.2.2.2.2.2.1 s.2.2.2.2.2.2.2.2.2.2.1 s.2.2.2.2.2.2.2.2.2.2.2.1 s.2.2.2.2.2.2.2.2.2.2.2.2.1 s.2.2.2.2.2.2.2.2.2.2.2.2.2.1 s.2.2.2.2.2.2.2.2.2.2.2.2.2.2) (fun s => μ s.1 s.2.1 s.2.2.1 s.2.2.2.1 s.2.2.2.2.1 s.2.2.2.2.2.1 s.2.2.2.2.2.2.1 s.2.2.2.2.2.2.2.1 s.2.2.2.2.2.2.2.2.1 s.2.2.2.2.2.2.2.2.2.1 s.2.2.2.2.2.2.2.2.2.2.1 s.2.2.2.2.2.2.2.2.2.2.2.1 s.2.2.2.2.2.2.2.2.2.2.2.2.1 s.2.2.2.2.2.2.2.2.2.2.2.2.2.1 s.2.2.2.2.2.2.2.2.2.2.2.2.2.2) (fun n s hI hk => hs n s.1 s.2.1 s.2.2.1 s.2.2.2.1 s.2.2.2.2.1 s.2.2.2.2.2.1 s.2.2.2.2.2.2.1 s.2.2.2.2.2.2.2.1 s.2.2.2.2.2.2.2.2.1 s.2.2.2.2.2.2.2.2.2.1 s.2.2.2.2.2.2.2.2.2.2.1 s.2.2.2.2.2.2.2.2.2.2.2.1 s.2.2.2.2.2.2.2.2.2.2.2.2.1 s.2.2.2.2.2.2.2.2.2.2.2.2.2.1 s.2.2.2.2.2.2.2.2.2.2.2.2.2.2 hI (fun b1 b2 b3 b4 b5 b6 b7 b8 b9 b10 b11 b12 b13 b14 b15 h9 hm => hk (b1, b2, b3, b4, b5, b6, b7, b8, b9, b10, b11, b12, b13, b14, b15) h9 hm)) (a1, a2, a3, a4, a5, a6, a7, a8, a9, a10, a11, a12, a13, a14, a15) h
theorem lp16 {A1 A2 A3 A4 A5 A6 A7 A8 A9 A10 A11 A12 A13 A14 A15 A16 : Type} (W : Nat → A1 → A2 → A3 → A4 → A5 → A6 → A7 → A8 → A9 → A10 → A11 → A12 → A13 → A14 → A15 → A16 → Prop) (I : A1 → A2 → A3 → A4 → A5 → A6 → A7 → A8 → A9 → A10 → A11 → A12 → A13 → A14 → A15 → A16 → Prop) (μ : A1 → A2 → A3 → A4 → A5 → A6 → A7 → A8 → A9 → A10 → A11 → A12 → A13 → A14 → A15 → A16 → Nat) (hs : ∀ (n : Nat) (a1 : A1) (a2 : A2) (a3 : A3) (a4 : A4) (a5 : A5) (a6 : A6) (a7 : A7) (a8 : A8) (a9 : A9) (a10 : A10) (a11 : A11) (a12 : A12) (a13 : A13) (a14 : A14) (a15 : A15) (a16 : A16), I a1 a2 a3 a4 a5 a6 a7 a8 a9 a10 a11 a12 a13 a14 a15 a16 → (∀ (b1 : A1) (b2 : A2) (b3 : A3) (b4 : A4) (b5 : A5) (b6 : A6) (b7 : A7) (b8 : A8) (b9 : A9) (b10 : A10) (b11 : A11) (b12 : A12) (b13 : A13) (b14 : A14) (b15 : A15) (b16 : A16), I b1 b2 b3 b4 b5 b6 b7 b8 b9 b10 b11 b12 b13 b14 b15 b16 → μ b1 b2 b3 b4 b5 b6 b7 b8 b9 b10 b11 b12 b13 b14 b15 b16 < μ a1 a2 a3 a4 a5 a6 a7 a8 a9 a10 a11 a12 a13 a14 a15 a16 → W n b1 b2 b3 b4 b5 b6 b7 b8 b9 b10 b11 b12 b13 b14 b15 b16) → W (n + 1) a1 a2 a3 a4 a5 a6 a7 a8 a9 a10 a11 a12 a13 a14 a15 a16) (a1 : A1) (a2 : A2) (a3 : A3) (a4 : A4) (a5 : A5) (a6 : A6) (a7 : A7) (a8 : A8) (a9 : A9) (a10 : A10) (a11 : A11) (a12 : A12) (a13 : A13) (a14 : A14) (a15 : A15) (a16 : A16) (h : I a1 a2 a3 a4 a5 a6 a7 a8 a9 a10 a11 a12 a13 a14 a15 a16) : ∃ n, W n a1 a2 a3 a4 a5 a6 a7 a8 a9 a10 a11 a12 a13 a14 a15 a16 :=
  loop_m (σ := A1 × A2 × A3 × A4 × A5 × A6 × A7 × A8 × A9 × A10 × A11 × A12 × A13 × A14 × A15 × A16) (fun n s => W n s.1 s.2.1 s.2.2.1 s.2.2.2.1 s.2.2.2.2.1 s.2.2.2.2.2.1 s.2.2.2.2.2.2.1 s.2.2.2.2.2.2.2.1 s.2.2.2.2.2.2.2.2.1 s.2.2.2.2.2.2.2.2.2.1 s.2.2.2.2.2.2.2.2.2.2.1 s.2.2.2.2.2.2.2.2.2.2.2.1 s.2.2.2.2.2.2.2.2.2.2.2.2.1 s.2.2.2.2.2.2.2.2.2.2.2.2.2.1 s.2.2.2.2.2.2.2.2.2.2.2.2.2.2.1 s.2.2.2.2.2.2.2.2.2.2.2.2.2.2.2) (fun s => I s.1 s.2.1 s.2.2.1 s.2.2.2.1 s.2.2.2.2.1 s.2.2.2.2.2.1 s.2.2.2.2.2.2.1 s.2.2.2.2.2.2.2.1 s.2.2.2.2.2.2.2.2.1 s.2.2.2.2.2.2.2.2.2.1 s.2.2.2.2.2.2.2.2.2.2.1 s.2.2.2.2.2.2.2.2.2.2.2.1 s.2.2.2.2.2.2.2.2.2.2.2.2.1 s.2.2.2.2.2.2.2.2.2.2.2.2.2.1 s.2.2.2.2.2.2.2.2.2.2.2.2.2.2.1 s.2.2.2.2.2.2.2.2.2.2.2.2.2.2.2) (fun s => μ s.1 s.2.1 s.2.2.1 s.2.2.2.1 s.2.2.2.2.1 s.2.2.2.2.2.1 s.2.2.2.2.2.2.1 s.2.2.2.2.2.2.2.1 s.2.2.2.2.2.2.2.2.1 s.2.2.2.2.2.2.2.2.2.1 s.2.2.2.2.2.2.2.2.2.2.1 s.2.2.2.2.2.2.2.2.2.2.2.1 s.2.2.2.2.2.2.2.2.2.2.2.2.1 s.2.2.2.2.2.2.2.2.2.2.2.2.2.1 s.2.2.2.2.2.2.2.2.2.2.2.2.2.2.1 s.2.2.2.2.2.2.2.2.2.2.2.2.2.2.2) (fun n s hI hk => hs n s.1 s.2.1 s.2.2.1 s.2.2.2.1 s.2.2.2.2.1 s.2.2.2.2.2.1 s.2.2.2.2.2.2.1 s.2.2.2.2.2.2.2.1 s.2.2.2.2.2.2.2.2.1 s.2.2.2.2.2.2.2.2.2.1 s.2.2.2.2.2.2.2.2.2.2.1 s.2.2.2.2.2.2.2.2.2.2.2.1 s.2.2.2.2.2.2.2.2.2.2.2.2.1 s.2.2.2.2.2.2.2.2.2.2.2.2.2.1 s.2.2.2.2.2.2.2.2.2.2.2.2.2.2.1 s.2.2.2.2.2.2.2.2.2.2.2.2.2.2.2 hI (fun b1 b2 b3 b4 b5 b6 b7 b8 b9 b10 b11 b12 b13 b14 b15 b16 h9 hm => hk (b1, b2, b3, b4, b5, b6, b7, b8, b9, b10, b11, b12, b13, b14, b15, b16) h9 hm)) (a1, a2, a3, a4, a5, a6, a7, a8, a9, a10, a11, a12, a13, a14, a15, a16) h
theorem pk_least (P : Nat → Prop) (h : ∃ k, P k) : ∃ k, P k ∧ ∀ j, j < k → ¬ P j := by
  obtain ⟨k, hk⟩ := h
  induction k using Nat.strongRecOn with
  | ind k ih =>
    by_cases e : ∃ j, j < k ∧ P j
    · obtain ⟨j, hj, pj⟩ := e
      exact ih j hj pj
    · exact ⟨k, hk, fun j hj pj => e ⟨j, hj, pj⟩⟩
theorem rp1 {ρ A1 : Type} (W : Nat → (ρ → Prop) → A1 → Prop) (ok : A1 → Prop) (μ : A1 → Nat) (val : A1 → ρ)
    (hs : ∀ (d : Nat) (post : ρ → Prop) (a1 : A1), ok a1 → post (val a1) → (∀ (post' : ρ → Prop) (b1 : A1), ok b1 → μ b1 < μ a1 → post' (val b1) → W d post' b1) → W (d + 1) post a1) :
    ∀ (d : Nat) (post : ρ → Prop) (a1 : A1), ok a1 → μ a1 < d → post (val a1) → W d post a1 := by
  intro d
  induction d with
  | zero => intro post a1 _ h; omega
  | succ d ih =>
    intro post a1 ho hm hp
    exact hs d post a1 ho hp (fun post' b1 ho' hm' hp' => ih post' b1 ho' (by omega) hp')
theorem rp2 {ρ A1 A2 : Type} (W : Nat → (ρ → Prop) → A1 → A2 → Prop) (ok : A1 → A2 → Prop) (μ : A1 → A2 → Nat) (val : A1 → A2 → ρ)
    (hs : ∀ (d : Nat) (post : ρ → Prop) (a1 : A1) (a2 : A2), ok a1 a2 → post (val a1 a2) → (∀ (post' : ρ → Prop) (b1 : A1) (b2 : A2), ok b1 b2 → μ b1 b2 < μ a1 a2 → post' (val b1 b2) → W d post' b1 b2) → W (d + 1) post a1 a2) :
    ∀ (d : Nat) (post : ρ → Prop) (a1 : A1) (a2 : A2), ok a1 a2 → μ a1 a2 < d → post (val a1 a2) → W d post a1 a2 := by
  intro d
  induction d with
  | zero => intro post a1 a2 _ h; omega
  | succ d ih =>
    intro post a1 a2 ho hm hp
    exact hs d post a1 a2 ho hp (fun post' b1 b2 ho' hm' hp' => ih post' b1 b2 ho' (by omega) hp')
theorem rp3 {ρ A1 A2 A3 : Type} (W : Nat → (ρ → Prop) → A1 → A2 → A3 → Prop) (ok : A1 → A2 → A3 → Prop) (μ : A1 → A2 → A3 → Nat) (val : A1 → A2 → A3 → ρ)
    (hs : ∀ (d : Nat) (post : ρ → Prop) (a1 : A1) (a2 : A2) (a3 : A3), ok a1 a2 a3 → post (val a1 a2 a3) → (∀ (post' : ρ → Prop) (b1 : A1) (b2 : A2) (b3 : A3), ok b1 b2 b3 → μ b1 b2 b3 < μ a1 a2 a3 → post' (val b1 b2 b3) → W d post' b1 b2 b3) → W (d + 1) post a1 a2 a3) :
    ∀ (d : Nat) (post : ρ → Prop) (a1 : A1) (a2 : A2) (a3 : A3), ok a1 a2 a3 → μ a1 a2 a3 < d → post (val a1 a2 a3) → W d post a1 a2 a3 := by
  intro d
  induction d with
  | zero => intro post a1 a2 a3 _ h; omega
  | succ d ih =>
    intro post a1 a2 a3 ho hm hp
    exact hs d post a1 a2 a3 ho hp (fun post' b1 b2 b3 ho' hm' hp' => ih post' b1 b2 b3 ho' (by omega) hp')
theorem rp4 {ρ A1 A2 A3 A4 : Type} (W : Nat → (ρ → Prop) → A1 → A2 → A3 → A4 → Prop) (ok : A1 → A2 → A3 → A4 → Prop) (μ : A1 → A2 → A3 → A4 → Nat) (val : A1 → A2 → A3 → A4 → ρ)
    (hs : ∀ (d : Nat) (post : ρ → Prop) (a1 : A1) (a2 : A2) (a3 : A3) (a4 : A4), ok a1 a2 a3 a4 → post (val a1 a2 a3 a4) → (∀ (post' : ρ → Prop) (b1 : A1) (b2 : A2) (b3 : A3) (b4 : A4), ok b1 b2 b3 b4 → μ b1 b2 b3 b4 < μ a1 a2 a3 a4 → post' (val b1 b2 b3 b4) → W d post' b1 b2 b3 b4) → W (d + 1) post a1 a2 a3 a4) :
    ∀ (d : Nat) (post : ρ → Prop) (a1 : A1) (a2 : A2) (a3 : A3) (a4 : A4), ok a1 a2 a3 a4 → μ a1 a2 a3 a4 < d → post (val a1 a2 a3 a4) → W d post a1 a2 a3 a4 := by
  intro d
  induction d with
  | zero => intro post a1 a2 a3 a4 _ h; omega
  | succ d ih =>
    intro post a1 a2 a3 a4 ho hm hp
    exact hs d post a1 a2 a3 a4 ho hp (fun post' b1 b2 b3 b4 ho' hm' hp' => ih post' b1 b2 b3 b4 ho' (by omega) hp')
theorem rp5 {ρ A1 A2 A3 A4 A5 : Type} (W : Nat → (ρ → Prop) → A1 → A2 → A3 → A4 → A5 → Prop) (ok : A1 → A2 → A3 → A4 → A5 → Prop) (μ : A1 → A2 → A3 → A4 → A5 → Nat) (val : A1 → A2 → A3 → A4 → A5 → ρ)
    (hs : ∀ (d : Nat) (post : ρ → Prop) (a1 : A1) (a2 : A2) (a3 : A3) (a4 : A4) (a5 : A5), ok a1 a2 a3 a4 a5 → post (val a1 a2 a3 a4 a5) → (∀ (post' : ρ → Prop) (b1 : A1) (b2 : A2) (b3 : A3) (b4 : A4) (b5 : A5), ok b1 b2 b3 b4 b5 → μ b1 b2 b3 b4 b5 < μ a1 a2 a3 a4 a5 → post' (val b1 b2 b3 b4 b5) → W d post' b1 b2 b3 b4 b5) → W (d + 1) post a1 a2 a3 a4 a5) :
    ∀ (d : Nat) (post : ρ → Prop) (a1 : A1) (a2 : A2) (a3 : A3) (a4 : A4) (a5 : A5), ok a1 a2 a3 a4 a5 → μ a1 a2 a3 a4 a5 < d → post (val a1 a2 a3 a4 a5) → W d post a1 a2 a3 a4 a5 := by
  intro d
  induction d with
  | zero => intro post a1 a2 a3 a4 a5 _ h; omega
  | succ d ih =>
    intro post a1 a2 a3 a4 a5 ho hm hp
    exact hs d post a1 a2 a3 a4 a5 ho hp (fun post' b1 b2 b3 b4 b5 ho' hm' hp' => ih post' b1 b2 b3 b4 b5 ho' (by omega) hp')
theorem rp6 {ρ A1 A2 A3 A4 A5 A6 : Type} (W : Nat → (ρ → Prop) → A1 → A2 → A3 → A4 → A5 → A6 → Prop) (ok : A1 → A2 → A3 → A4 → A5 → A6 → Prop) (μ : A1 → A2 → A3 → A4 → A5 → A6 → Nat) (val : A1 → A2 → A3 → A4 → A5 → A6 → ρ)
    (hs : ∀ (d : Nat) (post : ρ → Prop) (a1 : A1) (a2 : A2) (a3 : A3) (a4 : A4) (a5 : A5) (a6 : A6), ok a1 a2 a3 a4 a5 a6 → post (val a1 a2 a3 a4 a5 a6) → (∀ (post' : ρ → Prop) (b1 : A1) (b2 : A2) (b3 : A3) (b4 : A4) (b5 : A5) (b6 : A6), ok b1 b2 b3 b4 b5 b6 → μ b1 b2 b3 b4 b5 b6 < μ a1 a2 a3 a4 a5 a6 → post' (val b1 b2 b3 b4 b5 b6) → W d post' b1 b2 b3 b4 b5 b6) → W (d + 1) post a1 a2 a3 a4 a5 a6) :
    ∀ (d : Nat) (post : ρ → Prop) (a1 : A1) (a2 : A2) (a3 : A3) (a4 : A4) (a5 : A5) (a6 : A6), ok a1 a2 a3 a4 a5 a6 → μ a1 a2 a3 a4 a5 a6 < d → post (val a1 a2 a3 a4 a5 a6) → W d post a1 a2 a3 a4 a5 a6 := by
  intro d
  induction d with
  | zero => intro post a1 a2 a3 a4 a5 a6 _ h; omega
  | succ d ih =>
    intro post a1 a2 a3 a4 a5 a6 ho hm hp
    exact hs d post a1 a2 a3 a4 a5 a6 ho hp (fun post' b1 b2 b3 b4 b5 b6 ho' hm' hp' => ih post' b1 b2 b3 b4 b5 b6 ho' (by omega) hp')
theorem rec_p {σ ρ : Type} (W : Nat → (ρ → Prop) → σ → Prop) (ok : σ → Prop) (μ : σ → Nat) (val : σ → ρ)
    (hs : ∀ d s post, ok s → post (val s) → (∀ s' post', ok s' → μ s' < μ s → post' (val s') → W d post' s') → W (d + 1) post s) :
    ∀ d s post, ok s → μ s < d → post (val s) → W d post s := by
  intro d
  induction d with
  | zero => intro s post _ h; omega
  | succ d ih =>
    intro s post ho hm hp
    exact hs d s post ho hp (fun s' post' ho' hm' hp' => ih s' post' ho' (by omega) hp')
theorem rec_q {σ ρ : Type} (W : Nat → (ρ → Prop) → σ → Prop) (ok : σ → Prop) (μ : σ → Nat) (Q : σ → ρ → Prop)
    (hs : ∀ d s post, ok s → (∀ r, Q s r → post r) → (∀ s' post', ok s' → μ s' < μ s → (∀ r, Q s' r → post' r) → W d post' s') → W (d + 1) post s) :
    ∀ d s post, ok s → μ s < d → (∀ r, Q s r → post r) → W d post s := by
  intro d
  induction d with
  | zero => intro s post _ h; omega
  | succ d ih =>
    intro s post ho hm hp
    exact hs d s post ho hp (fun s' post' ho' hm' hp' => ih s' post' ho' (by omega) hp')
def bx_sum (f : Nat → Int32) : Nat → Int32
  | 0 => 0
  | n + 1 => bx_sum f n + f n
theorem ek_u {A : Prop} {B : Nat → Prop} {k N : Nat} (hk : k < N) (h : B k) : (some k = none → A) ∧ (∀ y : Nat, some k = some y → (y < N ∧ B y)) :=
  ⟨fun z => absurd z (Option.some_ne_none k), fun _ e => (by cases e; exact ⟨hk, h⟩)⟩
theorem ek_nu {A : Prop} {B : Nat → Prop} (h : A) : ((none : Option Nat) = none → A) ∧ (∀ y : Nat, (none : Option Nat) = some y → B y) :=
  ⟨fun _ => h, fun _ e => (by cases e)⟩
theorem ek_if {c d A B : Prop} (e : c ↔ d) (f : d → A) (g : ¬ d → B) : (c → A) ∧ (¬ c → B) :=
  ⟨fun z => f (e.mp z), fun z => g (fun y => z (e.mpr y))⟩
theorem ek_v {α : Sort _} {P : α → Prop} {a b : α} (e : a = b) (h : P b) : P a := e ▸ h
theorem co_some {x : Option Nat} {A : Prop} {B : Nat → Prop} (i : Nat) (h : B i) (hx : x = some i := by rfl) : (x = none → A) ∧ (∀ y : Nat, x = some y → B y) := by
  subst hx
  exact ⟨fun e => (nomatch e), fun y e => Option.some.inj e ▸ h⟩
theorem co_none {x : Option Nat} {A : Prop} {B : Nat → Prop} (h : A) (hx : x = none := by rfl) : (x = none → A) ∧ (∀ y : Nat, x = some y → B y) := by
  subst hx
  exact ⟨fun _ => h, fun y e => (nomatch e)⟩
theorem co_any {x : Option Nat} {A : Prop} {B : Nat → Prop} (hn : x = none → A) (hs : ∀ i : Nat, x = some i → B i) : (x = none → A) ∧ (∀ y : Nat, x = some y → B y) := ⟨hn, hs⟩
theorem co_2 {P : Nat → Prop} (h0 : P 0) (h1 : P 1) {i : Nat} (hi : i < 2) : P i :=
  match i, hi with
  | 0, _ => h0
  | 1, _ => h1
theorem co_3 {P : Nat → Prop} (h0 : P 0) (h1 : P 1) (h2 : P 2) {i : Nat} (hi : i < 3) : P i :=
  match i, hi with
  | 0, _ => h0
  | 1, _ => h1
  | 2, _ => h2
theorem co_4 {P : Nat → Prop} (h0 : P 0) (h1 : P 1) (h2 : P 2) (h3 : P 3) {i : Nat} (hi : i < 4) : P i :=
  match i, hi with
  | 0, _ => h0
  | 1, _ => h1
  | 2, _ => h2
  | 3, _ => h3
theorem co_dec {N : Nat} {P : Nat → Prop} [DecidablePred P] (h : (List.range N).all (fun i => decide (P i)) = true) {i : Nat} (hi : i < N) : P i := by
  have := List.all_eq_true.mp h i (List.mem_range.mpr hi)
  exact of_decide_eq_true this
theorem co_tab {α : Type} {l : List α} {d : α} {P : α → Prop} (h : ∀ a, a ∈ l → P a) {i : Nat} (hi : i < l.length) : P (l.getD i d) := by
  rw [List.getD_eq_getElem?_getD, List.getElem?_eq_getElem hi]
  exact h _ (List.getElem_mem hi)
theorem pk_mu {x : Int32} {L : Nat} (h0 : ¬ x < 0) (h : ¬ nI L ≤ x) (hL : L < 2 ^ 31) : ∃ j : Nat, j < L ∧ x = nI j ∧ x + 1 = nI (j + 1) ∧ x.toNatClampNeg = j ∧ L - (x + 1).toNatClampNeg < L - x.toNatClampNeg := by
  obtain ⟨j, hj, rfl⟩ := nI_of h0
  have hl : j < L := Nat.not_le.mp fun q => h (nI_le q hj)
  refine ⟨j, hl, rfl, nI_1 j, nI_clamp hj, ?_⟩
  rw [nI_1, nI_clamp (by omega), nI_clamp hj]
  omega
theorem op_s {α : Type} {r : Option α} {A : Prop} {B : α → Prop} {y : α} (h : r = some y) (b : B y) : (r = none → A) ∧ ∀ z, r = some z → B z :=
  ⟨fun e => (by rw [h] at e; cases e), fun z e => (by rw [h] at e; cases e; exact b)⟩
def l_holds {α : Type} (a : Nat → Option Nat) (LP : List Nat) (p : Nat → α) (c : Nat) (b : Nat → α) : Prop :=
  ∀ j, j < c → ∃ y, a j = some y ∧ y ∈ LP ∧ p y = b j
theorem l_holds_0 {α : Type} {a : Nat → Option Nat} {LP : List Nat} {p b : Nat → α} : l_holds a LP p 0 b := fun j h => absurd h (Nat.not_lt_zero j)
theorem l_in_new (LP : List Nat) (q : Nat) : q ∈ LP ++ [q] := List.mem_append.mpr (Or.inr (List.mem_singleton.mpr rfl))
def l_sum (b : Nat → Int32) : Nat → Int32
  | 0 => 0
  | k + 1 => l_sum b k + b k
theorem sb_shr0 (x : Int32) : x >>> ((0 : Int32) &&& 31) = x := by
  rw [show ((0 : Int32) &&& 31) = 0 by decide]
  simp
theorem sb_shl0 (x : Int32) : x <<< ((0 : Int32) &&& 31) = x := by
  rw [show ((0 : Int32) &&& 31) = 0 by decide]
  simp
theorem sb_cl0 : (0 : Int32).toNatClampNeg = 0 := by decide
theorem sb_m1 {p : Nat} (h : 0 < p) : nI p + (-1) = nI (p - 1) := by
  obtain ⟨q, rfl⟩ : ∃ q, p = q + 1 := ⟨p - 1, by omega⟩
  exact pk_m1 q
def sb_b (c : Nat) : Int32 := (nI c).toInt8.toInt32
theorem sb_byte : ∀ c, c < 256 → sb_b c &&& 255 = nI c ∧ ((nI c).toUInt32 % 65536).toInt32 = nI c ∧ nI c ≤ 255 := by decide +kernel
def sb_Fit (a : Nat → Int32) : Prop := ∀ j, fits .byte (.int (a j)) = true
def sb_Lat (t : Nat → Nat) (n : Nat) (a : Nat → Int32) : Prop := ∀ j, j < n → t j < 256 ∧ a j = sb_b (t j)
theorem sb_fitB (c : Nat) : fits .byte (.int (sb_b c)) = true := pk_fb _
theorem sb_fit0 : sb_Fit (fun _ => 0) := fun _ => by
  show fits .byte (.int 0) = true
  decide
theorem sb_fitU {a : Nat → Int32} {k : Nat} {x : Int32} (h : sb_Fit a) (hx : fits .byte (.int x) = true) : sb_Fit (upd a k x) := by
  intro j
  by_cases e : j = k
  · subst e
    rw [pk_us]
    exact hx
  · rw [pk_un e]
    exact h j
def sb_cat (t : Nat → Nat) (n : Nat) (s : Nat → Nat) : Nat → Nat := fun j => if j < n then t j else s (j - n)
theorem sb_cat_lo {t s : Nat → Nat} {n j : Nat} (h : j < n) : sb_cat t n s j = t j := if_pos h
theorem sb_cat_hi {t s : Nat → Nat} {n j : Nat} : sb_cat t n s (n + j) = s j := by
  show (if n + j < n then t (n + j) else s (n + j - n)) = s j
  rw [if_neg (by omega), Nat.add_sub_cancel_left]
theorem sb_latPut {t s : Nat → Nat} {n w : Nat} {a a' : Nat → Int32} (h : sb_Lat t n a) (hk : ∀ j, j < n → a' j = a j) (hs : ∀ i, i < w → s i < 256 ∧ a' (n + i) = sb_b (s i)) : sb_Lat (sb_cat t n s) (n + w) a' := by
  intro j hj
  by_cases e : j < n
  · rw [sb_cat_lo e, hk j e]
    exact h j e
  · obtain ⟨i, rfl⟩ : ∃ i, j = n + i := ⟨j - n, by omega⟩
    rw [sb_cat_hi]
    exact hs i (by omega)
theorem sb_latKeep {t : Nat → Nat} {n : Nat} {a a' : Nat → Int32} (h : sb_Lat t n a) (hk : ∀ j, j < n → a' j = a j) : sb_Lat t n a' := fun j hj => by
  rw [hk j hj]
  exact h j hj
def sb_cap (q m : Nat) : Nat := if q ≤ m then m else if 2 * m + 2 < q then q else 2 * m + 2
def sb_Room (q m mc ms : Nat) : Prop := q ≤ m ∨ (1 ≤ mc ∧ sb_cap q m ≤ ms ∧ sb_cap q m ≤ 65536)
theorem sb_cap_ge (q m : Nat) : q ≤ sb_cap q m := by
  unfold sb_cap
  split
  · omega
  · split <;> omega
theorem sb_cap_gem (q m : Nat) : m ≤ sb_cap q m := by
  unfold sb_cap
  split
  · omega
  · split <;> omega
theorem sb_cap_le {q m mc ms : Nat} (hm : m ≤ 65536) (hr : sb_Room q m mc ms) : sb_cap q m ≤ 65536 := by
  rcases hr with h | h
  · rw [sb_cap, if_pos h]
    exact hm
  · exact h.2.2
theorem sb_at {P : Int32 → Prop} {x y : Int32} (e : x = y) (h : P y) : P x := e ▸ h
def sb_dg (w : Nat) : Nat := if w < 10 then 1 else if w < 100 then 2 else if w < 1000 then 3 else if w < 10000 then 4 else if w < 100000 then 5 else if w < 1000000 then 6 else if w < 10000000 then 7 else if w < 100000000 then 8 else if w < 1000000000 then 9 else 10
def sb_dec (v : Nat) : Nat → Nat := fun i => 48 + v / 10 ^ (sb_dg v - 1 - i) % 10
theorem sb_dg_in (w : Nat) : 1 ≤ sb_dg w ∧ sb_dg w ≤ 10 := by
  unfold sb_dg
  constructor <;> (repeat' split) <;> omega
theorem sb_dg100 {w : Nat} (h : 100 ≤ w) (hw : w < 2 ^ 31) : sb_dg w = sb_dg (w / 100) + 2 := by
  rw [sb_dg, sb_dg, if_neg (show ¬ w < 10 by omega), if_neg (show ¬ w < 100 by omega)]
  by_cases h3 : w < 1000
  · rw [if_pos h3, if_pos (show w / 100 < 10 by omega)]
  rw [if_neg h3, if_neg (show ¬ w / 100 < 10 by omega)]
  by_cases h4 : w < 10000
  · rw [if_pos h4, if_pos (show w / 100 < 100 by omega)]
  rw [if_neg h4, if_neg (show ¬ w / 100 < 100 by omega)]
  by_cases h5 : w < 100000
  · rw [if_pos h5, if_pos (show w / 100 < 1000 by omega)]
  rw [if_neg h5, if_neg (show ¬ w / 100 < 1000 by omega)]
  by_cases h6 : w < 1000000
  · rw [if_pos h6, if_pos (show w / 100 < 10000 by omega)]
  rw [if_neg h6, if_neg (show ¬ w / 100 < 10000 by omega)]
  by_cases h7 : w < 10000000
  · rw [if_pos h7, if_pos (show w / 100 < 100000 by omega)]
  rw [if_neg h7, if_neg (show ¬ w / 100 < 100000 by omega)]
  by_cases h8 : w < 100000000
  · rw [if_pos h8, if_pos (show w / 100 < 1000000 by omega)]
  rw [if_neg h8, if_neg (show ¬ w / 100 < 1000000 by omega)]
  by_cases h9 : w < 1000000000
  · rw [if_pos h9, if_pos (show w / 100 < 10000000 by omega)]
  rw [if_neg h9, if_neg (show ¬ w / 100 < 10000000 by omega)]
  rw [if_pos (show w / 100 < 100000000 by omega)]
theorem sb_negT {w : Nat} (h : w < 2 ^ 31) : (-nI w).toInt = -(w : Int) := by
  rw [Int32.toInt_neg, nI_toInt h]
  exact Int.bmod_eq_of_le (by omega) (by omega)
theorem sb_nle {a b : Nat} (ha : a < 2 ^ 31) (hb : b < 2 ^ 31) : -nI a ≤ -nI b ↔ b ≤ a := by
  rw [Int32.le_iff_toInt_le, sb_negT ha, sb_negT hb]
  omega
theorem sb_nlt {a b : Nat} (ha : a < 2 ^ 31) (hb : b < 2 ^ 31) : -nI a < -nI b ↔ b < a := by
  rw [Int32.lt_iff_toInt_lt, sb_negT ha, sb_negT hb]
  omega
theorem sb_cmp {A B : Prop} {x : Int32} (v c : Nat) (f : c ≤ v → A) (g : v < c → B) (hv : v < 2 ^ 31) (hx : x = -nI c := by rfl) (hc : c < 2 ^ 31 := by omega) : (-nI v ≤ x → A) ∧ (¬ -nI v ≤ x → B) := by
  subst hx
  rw [sb_nle hv hc]
  exact ⟨f, fun z => g (by omega)⟩
theorem sb_ndiv {w : Nat} (hw : w < 2 ^ 31) : (-nI w) / 100 = -nI (w / 100) := by
  apply Int32.toInt_inj.mp
  have h100 : (100 : Int32).toInt = 100 := by decide
  rw [Int32.toInt_div, sb_negT hw, h100, sb_negT (by omega), Int.neg_tdiv, Int.tdiv_eq_ediv_of_nonneg (by omega), Int.bmod_eq_of_le (by omega) (by omega)]
  omega
theorem sb_nrem {w : Nat} (hw : w < 2 ^ 31) : (-nI (w / 100)) * 100 - (-nI w) = nI (w % 100) := by
  have h := pk_rem (a := w) (d := 100) hw (by decide) (by decide)
  rw [pk_div hw (by decide) (by decide)] at h
  rw [← h]
  show (-nI (w / 100)) * nI 100 - (-nI w) = nI w - nI (w / 100) * nI 100
  rw [Int32.neg_mul, Int32.sub_neg, Int32.add_comm, ← Int32.sub_eq_add_neg]
end
section
/-! rows on bits, shifts and unsigned numbers, to paste: each family out of a closed proof of our own, whole with what it rests on; each by itself clean at Lean in its own claim (generation 39, form 5). Take a family whole -/
/-! ===== Int32 by its bits: bt x i ===== -/
def bt (x : Int32) (i : Nat) : Bool := x.toBitVec.getLsbD i
theorem b_ext {x y : Int32} (h : ∀ i, i < 32 → bt x i = bt y i) : x = y := Int32.toBitVec_inj.mp (BitVec.eq_of_getLsbD_eq (fun i hi => h i hi))
theorem b_or (x y : Int32) (i : Nat) : bt (x ||| y) i = (bt x i || bt y i) := by unfold bt; rw [Int32.toBitVec_or, BitVec.getLsbD_or]
theorem b_and (x y : Int32) (i : Nat) : bt (x &&& y) i = (bt x i && bt y i) := by unfold bt; rw [Int32.toBitVec_and, BitVec.getLsbD_and]
theorem b_xor (x y : Int32) (i : Nat) : bt (x ^^^ y) i = (bt x i ^^ bt y i) := by unfold bt; rw [Int32.toBitVec_xor, BitVec.getLsbD_xor]
theorem b_big {x : Int32} {i : Nat} (h : 32 ≤ i) : bt x i = false := BitVec.getLsbD_of_ge _ _ h
theorem b_255 (i : Nat) : bt 255 i = decide (i < 8) := by
  rcases Nat.lt_or_ge i 32 with h | h
  · exact (by decide +kernel : ∀ i, i < 32 → bt 255 i = decide (i < 8)) i h
  · rw [b_big h, decide_eq_false (by omega)]
theorem b_65535 (i : Nat) : bt 65535 i = decide (i < 16) := by
  rcases Nat.lt_or_ge i 32 with h | h
  · exact (by decide +kernel : ∀ i, i < 32 → bt 65535 i = decide (i < 16)) i h
  · rw [b_big h, decide_eq_false (by omega)]
theorem b_m1 : ∀ i, i < 32 → bt (-1) i = true := by decide +kernel
theorem b_0 (i : Nat) : bt 0 i = false := BitVec.getLsbD_zero
theorem s_l : ∀ n, n < 32 → ((nI n &&& 31).toBitVec.smod 32).toNat = n := by decide +kernel
theorem s_u : ∀ n, n < 32 → (((nI n).toUInt32 &&& Int32.toUInt32 31).toBitVec % 32).toNat = n := by decide +kernel
theorem b_shl (n : Nat) (hn : n < 32) (x : Int32) {i : Nat} (hi : i < 32) : bt (x <<< (nI n &&& 31)) i = (decide (n ≤ i) && bt x (i - n)) := by
  unfold bt
  rw [Int32.toBitVec_shiftLeft]
  show (x.toBitVec <<< ((nI n &&& 31).toBitVec.smod 32).toNat).getLsbD i = _
  rw [s_l n hn, BitVec.getLsbD_shiftLeft]
  rcases Nat.lt_or_ge i n with h | h
  · simp [h, Nat.not_le.mpr h]
  · simp [hi, h, Nat.not_lt.mpr h]
theorem b_ushr (n : Nat) (hn : n < 32) (x : Int32) (i : Nat) : bt ((x.toUInt32 >>> ((nI n).toUInt32 &&& Int32.toUInt32 31)).toInt32) i = bt x (n + i) := by
  show (x.toUInt32 >>> ((nI n).toUInt32 &&& Int32.toUInt32 31)).toBitVec.getLsbD i = x.toUInt32.toBitVec.getLsbD (n + i)
  rw [UInt32.toBitVec_shiftRight]
  show (x.toUInt32.toBitVec >>> (((nI n).toUInt32 &&& Int32.toUInt32 31).toBitVec % 32).toNat).getLsbD i = _
  rw [s_u n hn, BitVec.getLsbD_ushiftRight]
theorem b_sshr (n : Nat) (hn : n < 32) (x : Int32) {i : Nat} (hi : i < 32) : bt (x >>> (nI n &&& 31)) i = if n + i < 32 then bt x (n + i) else bt x 31 := by
  unfold bt
  rw [Int32.toBitVec_shiftRight]
  show (x.toBitVec.sshiftRight ((nI n &&& 31).toBitVec.smod 32).toNat).getLsbD i = _
  rw [s_l n hn, BitVec.getLsbD_sshiftRight, BitVec.msb_eq_getLsbD_last]
  simp [hi]
theorem b_shl8 (x : Int32) {i : Nat} (hi : i < 32) : bt (x <<< ((8 : Int32) &&& 31)) i = (decide (8 ≤ i) && bt x (i - 8)) := b_shl 8 (by omega) x hi
theorem b_shl16 (x : Int32) {i : Nat} (hi : i < 32) : bt (x <<< ((16 : Int32) &&& 31)) i = (decide (16 ≤ i) && bt x (i - 16)) := b_shl 16 (by omega) x hi
theorem b_shl24 (x : Int32) {i : Nat} (hi : i < 32) : bt (x <<< ((24 : Int32) &&& 31)) i = (decide (24 ≤ i) && bt x (i - 24)) := b_shl 24 (by omega) x hi
theorem b_sshr8 (x : Int32) {i : Nat} (hi : i < 32) : bt (x >>> ((8 : Int32) &&& 31)) i = if 8 + i < 32 then bt x (8 + i) else bt x 31 := b_sshr 8 (by omega) x hi
/-! ===== nI under and, xor, >>>, one bit, 65535 ===== -/
theorem nx_and (a b : Nat) : nI a &&& nI b = nI (a &&& b) := by
  apply Int32.toBitVec_inj.1
  show BitVec.ofNat 32 a &&& BitVec.ofNat 32 b = BitVec.ofNat 32 (a &&& b)
  apply BitVec.eq_of_getLsbD_eq
  intro i hi
  simp [hi]
theorem nx_xor (a b : Nat) : nI a ^^^ nI b = nI (a ^^^ b) := by
  apply Int32.toBitVec_inj.1
  show BitVec.ofNat 32 a ^^^ BitVec.ofNat 32 b = BitVec.ofNat 32 (a ^^^ b)
  apply BitVec.eq_of_getLsbD_eq
  intro i hi
  simp [hi]
theorem nx_cnt : ∀ j : Fin 32, (UInt32.ofNat j.val &&& Int32.toUInt32 31).toNat % 32 = j.val := by decide +kernel
theorem nx_ush {k j : Nat} (hk : k < 65536) (hj : j < 32) : ((nI k).toUInt32 >>> ((nI j).toUInt32 &&& Int32.toUInt32 31)).toInt32 = nI (k >>> j) := by
  have hs : k >>> j ≤ k := by
    rw [Nat.shiftRight_eq_div_pow]
    exact Nat.div_le_self _ _
  have e2 : UInt32.ofNat k >>> (UInt32.ofNat j &&& Int32.toUInt32 31) = UInt32.ofNat (k >>> j) := by
    apply UInt32.toNat_inj.1
    have h1 : (UInt32.ofNat k).toNat = k := Nat.mod_eq_of_lt (by omega)
    have h2 : (UInt32.ofNat (k >>> j)).toNat = k >>> j := Nat.mod_eq_of_lt (by omega)
    rw [UInt32.toNat_shiftRight, nx_cnt ⟨j, hj⟩, h1, h2]
  show (UInt32.ofNat k >>> (UInt32.ofNat j &&& Int32.toUInt32 31)).toInt32 = _
  rw [e2]
  rfl
theorem nx_bit {k j : Nat} (hk : k < 65536) (hj : j < 16) : (((nI k).toUInt32 >>> ((nI j).toUInt32 &&& Int32.toUInt32 31)).toInt32 &&& 1) = 0 ↔ k.testBit j = false := by
  rw [nx_ush hk (by omega)]
  show nI (k >>> j) &&& nI 1 = 0 ↔ _
  rw [nx_and, Nat.and_one_is_mod, ← nI_0, nI_eq (by omega) (by omega), Nat.testBit_eq_decide_div_mod_eq, Nat.shiftRight_eq_div_pow, decide_eq_false_iff_not]
  generalize k / 2 ^ j = z
  omega
theorem nx_mod (k : Nat) : nI k &&& 65535 = nI (k % 65536) := by
  show nI k &&& nI 65535 = _
  rw [nx_and, show (65535 : Nat) = 2 ^ 16 - 1 from rfl, Nat.and_two_pow_sub_one_eq_mod]
theorem nx_m16 {k : Nat} (h : k < 65536) : nI k &&& 65535 = nI k := by rw [nx_mod, Nat.mod_eq_of_lt h]
theorem nx_mask (x : Int32) : ∃ k, k < 65536 ∧ x &&& 65535 = nI k := by
  have e : x = nI x.toBitVec.toNat := by
    apply Int32.toBitVec_inj.1
    show x.toBitVec = BitVec.ofNat 32 x.toBitVec.toNat
    simp
  refine ⟨x.toBitVec.toNat % 65536, Nat.mod_lt _ (by omega), ?_⟩
  rw [← nx_mod, ← e]
/-! ===== Int32 as a set of bits: test, set ===== -/
def nf_M (m : Int32) : Nat := 4294967296 - m.toBitVec.toNat
theorem nf_sh : ∀ l, l < 32 → ((1 : Int32) <<< (nI l &&& 31)).toBitVec = BitVec.twoPow 32 l := by decide +kernel
theorem nf_sl : ∀ l, l < 32 → (((nI l).toUInt32 &&& Int32.toUInt32 31).toBitVec % 32).toNat = l := by decide +kernel
theorem nf_tp : ∀ l, l < 32 → BitVec.twoPow 32 l ≠ 0#32 := by decide +kernel
theorem nf_bit (m : Int32) (l : Nat) (hl : l < 32) : ((m.toUInt32 >>> ((nI l).toUInt32 &&& Int32.toUInt32 31)).toInt32 &&& 1) = 0 ↔ (m &&& ((1 : Int32) <<< (nI l &&& 31))) = 0 := by
  have e : ((m.toUInt32 >>> ((nI l).toUInt32 &&& Int32.toUInt32 31)).toInt32).toBitVec = m.toBitVec >>> l := by
    show m.toBitVec >>> (((nI l).toUInt32 &&& Int32.toUInt32 31).toBitVec % 32) = m.toBitVec >>> l
    rw [BitVec.ushiftRight_eq', nf_sl l hl]
  rw [← Int32.toBitVec_inj, ← Int32.toBitVec_inj, Int32.toBitVec_and, Int32.toBitVec_and, nf_sh l hl, e, BitVec.and_twoPow]
  show (m.toBitVec >>> l &&& 1#32) = 0#32 ↔ _ = 0#32
  rw [BitVec.and_one_eq_setWidth_ofBool_getLsbD, BitVec.getLsbD_ushiftRight, Nat.add_zero]
  cases hb : m.toBitVec.getLsbD l
  · exact ⟨fun _ => by simp, fun _ => by decide⟩
  · exact ⟨fun z => absurd z (by decide), fun z => absurd ((if_pos rfl).symm.trans z) (nf_tp l hl)⟩
theorem nf_gr (m k : Int32) (h : m &&& k = 0) (hk : k ≠ 0) : nf_M (m ||| k) < nf_M m := by
  have hm := m.toBitVec.isLt
  have hm' := (m ||| k).toBitVec.isLt
  have h1 : m.toBitVec.toNat ≤ (m ||| k).toBitVec.toNat := by
    rw [Int32.toBitVec_or, BitVec.toNat_or]
    exact Nat.left_le_or
  have h2 : m.toBitVec.toNat ≠ (m ||| k).toBitVec.toNat := by
    intro e
    have e2 : m = m ||| k := Int32.toBitVec_inj.mp (BitVec.eq_of_toNat_eq e)
    apply hk
    apply Int32.toBitVec_inj.mp
    show k.toBitVec = 0#32
    apply BitVec.eq_of_getLsbD_eq
    intro i hi
    have a : m.toBitVec.getLsbD i = (m.toBitVec.getLsbD i || k.toBitVec.getLsbD i) := by rw [← BitVec.getLsbD_or, ← Int32.toBitVec_or, ← e2]
    have b : (m.toBitVec.getLsbD i && k.toBitVec.getLsbD i) = false := by
      rw [← BitVec.getLsbD_and, ← Int32.toBitVec_and, h]
      exact BitVec.getLsbD_zero
    rw [BitVec.getLsbD_zero]
    revert a b
    cases m.toBitVec.getLsbD i <;> cases k.toBitVec.getLsbD i <;> simp
  unfold nf_M
  omega
/-! ===== a byte read unsigned ===== -/
theorem bp_b (x : Int32) : x.toInt8.toInt32 &&& 255 = x &&& 255 := by
  apply Int32.toBitVec_inj.mp
  rw [Int32.toBitVec_and, Int32.toBitVec_and, Int8.toBitVec_toInt32, Int32.toBitVec_toInt8]
  apply BitVec.eq_of_getLsbD_eq
  intro i hi
  rw [BitVec.getLsbD_and, BitVec.getLsbD_and]
  have hm : ∀ i < 32, 8 ≤ i → (255 : Int32).toBitVec.getLsbD i = false := by decide
  rcases Nat.lt_or_ge i 8 with z | z
  · rw [BitVec.getLsbD_signExtend, BitVec.getLsbD_signExtend, if_pos z, if_pos hi]
    simp only [z, hi, decide_true, Bool.true_and]
  · rw [hm i hi z]; simp
/-! ===== the char cast and 65535 ===== -/
theorem em_w (v : Int32) : ∃ w : Nat, w < 65536 ∧ (v.toUInt32 % 65536).toInt32 = nI w ∧ v &&& 65535 = nI w := by
  have hr := lw_u16_r v
  have h0 : (0 : Int32).toInt = 0 := by decide
  obtain ⟨w, h1, h2⟩ := nI_of (x := lw_u16 v) (by rw [Int32.lt_iff_toInt_lt]; omega)
  have h3 : (v.toUInt32 % 65536).toInt32 = nI w := h2
  rw [h2, nI_toInt h1] at hr
  exact ⟨w, by omega, h3, by rw [← lg_i2c_mask, ← lg_i2c_nf, h3]⟩
/-! ===== Int64 as a set of bits: test, set, clear ===== -/
theorem ts_nf {x : Bool} (h : ¬ x = false) : x = true := by cases x <;> first | rfl | exact absurd rfl h
theorem ts_nt {x : Bool} (h : ¬ x = true) : x = false := by cases x <;> first | rfl | exact absurd rfl h
theorem ts_bit {w : Int64} {s : UInt64} {j : Nat} (hj : j < 64) (hs : s.toNat = j) : ((w.toUInt64 >>> s).toInt64 &&& 1) = 0 ↔ w.toBitVec.getLsbD j = false := by
  have e : (w.toUInt64 >>> s).toInt64.toBitVec = w.toBitVec >>> j := by
    apply BitVec.eq_of_toNat_eq
    show (w.toUInt64 >>> s).toNat = _
    rw [UInt64.toNat_shiftRight, hs, Nat.mod_eq_of_lt hj, BitVec.toNat_ushiftRight]
    rfl
  rw [← Int64.toBitVec_inj, Int64.toBitVec_and, e]
  show w.toBitVec >>> j &&& 1#64 = 0#64 ↔ _
  constructor
  · intro h
    have t := congrArg (fun x => x.getLsbD 0) h
    simpa using t
  · intro h
    apply BitVec.eq_of_getLsbD_eq
    intro i hi
    cases i with
    | zero => simp [h]
    | succ i => simp
theorem ts_or {w m : Int64} {j : Nat} (hj : j < 64) (hm : m.toBitVec = BitVec.twoPow 64 j) : (w ||| m) = w ↔ w.toBitVec.getLsbD j = true := by
  rw [← Int64.toBitVec_inj, Int64.toBitVec_or, hm]
  constructor
  · intro h
    have t := congrArg (fun x => x.getLsbD j) h
    simp only [BitVec.getLsbD_or, BitVec.getLsbD_twoPow] at t
    simpa [hj] using t.symm
  · intro h
    apply BitVec.eq_of_getLsbD_eq
    intro i hi
    rw [BitVec.getLsbD_or, BitVec.getLsbD_twoPow]
    by_cases e : j = i
    · subst e; rw [h, Bool.true_or]
    · simp [e]
theorem ts_and {w m : Int64} {j : Nat} (hj : j < 64) (hm : m.toBitVec = BitVec.twoPow 64 j) : (w &&& (m ^^^ (-1))) = w ↔ w.toBitVec.getLsbD j = false := by
  have ha : (-1 : Int64).toBitVec = BitVec.allOnes 64 := by decide
  rw [← Int64.toBitVec_inj, Int64.toBitVec_and, Int64.toBitVec_xor, hm, ha]
  constructor
  · intro h
    have t := congrArg (fun x => x.getLsbD j) h
    simp only [BitVec.getLsbD_and, BitVec.getLsbD_xor, BitVec.getLsbD_twoPow, BitVec.getLsbD_allOnes] at t
    simpa [hj] using t.symm
  · intro h
    apply BitVec.eq_of_getLsbD_eq
    intro i hi
    rw [BitVec.getLsbD_and, BitVec.getLsbD_xor, BitVec.getLsbD_twoPow, BitVec.getLsbD_allOnes]
    by_cases e : j = i
    · subst e; rw [h, Bool.false_and]
    · simp [e, hi]
/-! ===== lN n to 2^64: shifts, and, or, masks, one bit ===== -/
theorem wb_tb (n : Nat) : (lN n).toBitVec = BitVec.ofNat 64 n := rfl
theorem wb_inj {a b : Int64} (h : a.toBitVec = b.toBitVec) : a = b := Int64.toBitVec_inj.mp h
theorem wb_tn {n : Nat} (h : n < 2 ^ 64) : (lN n).toBitVec.toNat = n := by rw [wb_tb, BitVec.toNat_ofNat, Nat.mod_eq_of_lt h]
theorem wb_of (x : Int64) : ∃ n, n < 2 ^ 64 ∧ x = lN n := ⟨x.toBitVec.toNat, x.toBitVec.isLt, wb_inj (by rw [wb_tb]; simp)⟩
theorem wb_of32 (x : Int32) : ∃ n, n < 2 ^ 32 ∧ x = nI n := ⟨x.toBitVec.toNat, x.toBitVec.isLt, Int32.toBitVec_inj.mp (by show _ = BitVec.ofNat 32 _; simp)⟩
theorem wb_c : ∀ k, k < 64 → ((nI k).toInt64 &&& 63) = lN k := by decide +kernel
theorem wb_cu : ∀ k, k < 64 → ((nI k).toInt64.toUInt64 &&& Int64.toUInt64 63) = UInt64.ofNat k := by decide +kernel
theorem wb_sm : ∀ k, k < 64 → (BitVec.ofNat 64 k).smod 64 = BitVec.ofNat 64 k := by decide +kernel
theorem wb_pw {a b : Nat} (h : a ≤ b) : 2 ^ b = 2 ^ a * 2 ^ (b - a) := by rw [← Nat.pow_add]; congr 1; omega
theorem wb_lt2 {a b : Nat} (h : a < b) : 2 ^ a < 2 ^ b := Nat.pow_lt_pow_right (by decide) h
theorem wb_mod (n : Nat) : lN n = lN (n % 2 ^ 64) := wb_inj (by rw [wb_tb, wb_tb]; apply BitVec.eq_of_toNat_eq; rw [BitVec.toNat_ofNat, BitVec.toNat_ofNat, Nat.mod_mod])
theorem wb_shr {n k : Nat} (hn : n < 2 ^ 64) (hk : k < 64) : ((lN n).toUInt64 >>> ((nI k).toInt64.toUInt64 &&& Int64.toUInt64 63)).toInt64 = lN (n / 2 ^ k) := by
  rw [wb_cu k hk]
  apply wb_inj
  apply BitVec.eq_of_toNat_eq
  show ((lN n).toUInt64 >>> UInt64.ofNat k).toNat = (BitVec.ofNat 64 _).toNat
  have h1 : (UInt64.ofNat k).toNat = k := by
    show (BitVec.ofNat 64 k).toNat = k
    rw [BitVec.toNat_ofNat, Nat.mod_eq_of_lt (by omega)]
  have h2 : (lN n).toUInt64.toNat = n := wb_tn hn
  rw [UInt64.toNat_shiftRight, h1, h2, Nat.mod_eq_of_lt hk, Nat.shiftRight_eq_div_pow, BitVec.toNat_ofNat, Nat.mod_eq_of_lt (Nat.lt_of_le_of_lt (Nat.div_le_self _ _) hn)]
theorem wb_shl (n : Nat) {k : Nat} (hk : k < 64) : lN n <<< ((nI k).toInt64 &&& 63) = lN (n * 2 ^ k) := by
  rw [wb_c k hk]
  apply wb_inj
  rw [Int64.toBitVec_shiftLeft, wb_tb, wb_tb, wb_tb, wb_sm k hk]
  apply BitVec.eq_of_toNat_eq
  rw [BitVec.shiftLeft_eq', BitVec.toNat_shiftLeft, BitVec.toNat_ofNat, BitVec.toNat_ofNat, BitVec.toNat_ofNat, Nat.mod_eq_of_lt (show k < 2 ^ 64 by omega), Nat.shiftLeft_eq, Nat.mul_mod, Nat.mod_mod, ← Nat.mul_mod]
theorem wb_and {a b : Nat} (ha : a < 2 ^ 64) (hb : b < 2 ^ 64) : lN a &&& lN b = lN (a &&& b) := by
  apply wb_inj
  rw [Int64.toBitVec_and, wb_tb, wb_tb, wb_tb]
  apply BitVec.eq_of_toNat_eq
  rw [BitVec.toNat_and, BitVec.toNat_ofNat, BitVec.toNat_ofNat, BitVec.toNat_ofNat, Nat.mod_eq_of_lt ha, Nat.mod_eq_of_lt hb, Nat.mod_eq_of_lt (Nat.and_lt_two_pow _ hb)]
theorem wb_or {a b : Nat} (ha : a < 2 ^ 64) (hb : b < 2 ^ 64) : lN a ||| lN b = lN (a ||| b) := by
  apply wb_inj
  rw [Int64.toBitVec_or, wb_tb, wb_tb, wb_tb]
  apply BitVec.eq_of_toNat_eq
  rw [BitVec.toNat_or, BitVec.toNat_ofNat, BitVec.toNat_ofNat, BitVec.toNat_ofNat, Nat.mod_eq_of_lt ha, Nat.mod_eq_of_lt hb, Nat.mod_eq_of_lt (Nat.or_lt_two_pow ha hb)]
theorem wb_mask {n k : Nat} (hn : n < 2 ^ 64) (hk : k < 64) : lN n &&& lN (2 ^ k - 1) = lN (n % 2 ^ k) := by
  rw [wb_and hn (by have := wb_lt2 hk; omega), Nat.and_two_pow_sub_one_eq_mod]
theorem wb_a1 {n : Nat} (hn : n < 2 ^ 64) : lN n &&& 1 = lN (n % 2) := wb_mask (k := 1) hn (by decide)
theorem wb_bit {n k : Nat} (hn : n < 2 ^ 64) (hk : k < 64) : ((lN n).toUInt64 >>> ((nI k).toInt64.toUInt64 &&& Int64.toUInt64 63)).toInt64 &&& 1 = lN (n / 2 ^ k % 2) := by
  rw [wb_shr hn hk, wb_a1 (Nat.lt_of_le_of_lt (Nat.div_le_self _ _) hn)]
theorem wb_xor {q k : Nat} (hk : k < 63) (h : 2 ^ k ≤ q) (h2 : q < 2 ^ (k + 1)) : lN q ^^^ lN (2 ^ k) = lN (q - 2 ^ k) := by
  obtain ⟨r, rfl⟩ : ∃ r, q = 2 ^ k + r := ⟨q - 2 ^ k, by omega⟩
  have hr : r < 2 ^ k := by rw [Nat.pow_succ] at h2; omega
  have hx : (2 ^ k + r) ^^^ 2 ^ k = r := by
    apply Nat.eq_of_testBit_eq
    intro i
    rw [Nat.testBit_xor, Nat.testBit_two_pow]
    rcases Nat.lt_trichotomy i k with h | h | h
    · rw [Nat.testBit_two_pow_add_gt h]
      simp [show ¬ k = i by omega]
    · subst h
      rw [Nat.testBit_two_pow_add_eq]
      simp
    · have a1 : 2 ^ (k + 1) ≤ 2 ^ i := Nat.pow_le_pow_right (by decide) h
      rw [Nat.testBit_lt_two_pow (show 2 ^ k + r < 2 ^ i by omega), Nat.testBit_lt_two_pow (show r < 2 ^ i by omega)]
      simp [show ¬ k = i by omega]
  have b1 := wb_lt2 (show k + 1 < 64 by omega)
  have b2 := wb_lt2 (show k < 64 by omega)
  apply wb_inj
  rw [Int64.toBitVec_xor, wb_tb, wb_tb, wb_tb]
  apply BitVec.eq_of_toNat_eq
  rw [BitVec.toNat_xor, BitVec.toNat_ofNat, BitVec.toNat_ofNat, BitVec.toNat_ofNat, Nat.mod_eq_of_lt (by omega : 2 ^ k + r < 2 ^ 64), Nat.mod_eq_of_lt b2, hx, Nat.add_sub_cancel_left, Nat.mod_eq_of_lt (by omega)]
/-! ===== lN: masks, 'or' of parts that don't overlap is a sum ===== -/
theorem u_tn {n : Nat} (h : n < 2 ^ 64) : (UInt64.ofNat n).toNat = n := Nat.mod_eq_of_lt h
theorem g_and {a b c : Nat} (ha : a < 2 ^ 64) (hb : b < 2 ^ 64) (hc : a &&& b = c) : lN a &&& lN b = lN c := by
  subst hc
  have h : UInt64.ofNat a &&& UInt64.ofNat b = UInt64.ofNat (a &&& b) := UInt64.toNat_inj.mp (by rw [UInt64.toNat_and, u_tn ha, u_tn hb, u_tn (Nat.and_lt_two_pow a hb)])
  have h2 := congrArg UInt64.toInt64 h
  exact h2
theorem g_and1 {a : Nat} (ha : a < 2 ^ 64) : lN a &&& 1 = lN (a % 2) := g_and (b := 1) ha (by decide) (Nat.and_two_pow_sub_one_eq_mod a 1)
theorem g_mask {a s p : Nat} (hp : 2 ^ s = p) (hs : s < 64) (ha : a < 2 ^ 64) : lN a &&& lN (p - 1) = lN (a % p) := by
  subst hp
  have := Nat.pow_lt_pow_right (show 1 < 2 by decide) hs
  exact g_and ha (by omega) (Nat.and_two_pow_sub_one_eq_mod a s)
theorem g_or {k p a b : Nat} (hp : 2 ^ k = p) (ha : a < p) (h : b * p + a < 2 ^ 64) : lN (b * p) ||| lN a = lN (b * p + a) := by
  subst hp
  have h1 : b * 2 ^ k ||| a = b * 2 ^ k + a := by rw [← Nat.shiftLeft_eq, Nat.shiftLeft_add_eq_or_of_lt ha]
  have h3 : UInt64.ofNat (b * 2 ^ k) ||| UInt64.ofNat a = UInt64.ofNat (b * 2 ^ k + a) := UInt64.toNat_inj.mp (by rw [UInt64.toNat_or, u_tn (by omega), u_tn (by omega), u_tn h, h1])
  have h2 := congrArg UInt64.toInt64 h3
  exact h2
theorem g_or' {k p a b : Nat} (hp : 2 ^ k = p) (ha : a < p) (h : a + b * p < 2 ^ 64) : lN a ||| lN (b * p) = lN (a + b * p) := by
  rw [Int64.or_comm, g_or hp ha (by omega), Nat.add_comm]
theorem g_ushr {a k p : Nat} {y : UInt64} (hy : y = UInt64.ofNat k) (hk : k < 64) (hp : 2 ^ k = p) (ha : a < 2 ^ 64) : ((lN a).toUInt64 >>> y).toInt64 = lN (a / p) := by
  subst hy hp
  have h : UInt64.ofNat a >>> UInt64.ofNat k = UInt64.ofNat (a / 2 ^ k) := UInt64.toNat_inj.mp (by rw [UInt64.toNat_shiftRight, u_tn ha, u_tn (by omega), u_tn (Nat.lt_of_le_of_lt (Nat.div_le_self _ _) ha), Nat.mod_eq_of_lt hk, Nat.shiftRight_eq_div_pow])
  have h2 := congrArg UInt64.toInt64 h
  exact h2
theorem g_shl {a k p : Nat} {y : Int64} (hy : y.toBitVec.smod 64 = BitVec.ofNat 64 k) (hk : k < 64) (hp : 2 ^ k = p) (ha : a < 2 ^ 64) : lN a <<< y = lN (a * p) := by
  subst hp
  apply Int64.toBitVec_inj.mp
  rw [Int64.toBitVec_shiftLeft, hy]
  apply BitVec.eq_of_toNat_eq
  have hb : (lN a).toBitVec.toNat = a := Nat.mod_eq_of_lt ha
  have hk' : (BitVec.ofNat 64 k).toNat = k := Nat.mod_eq_of_lt (by omega)
  have h : ((lN a).toBitVec <<< BitVec.ofNat 64 k).toNat = (a * 2 ^ k) % 2 ^ 64 := by simp only [BitVec.shiftLeft_eq', BitVec.toNat_shiftLeft, hb, hk', Nat.shiftLeft_eq]
  exact h
/-! ===== lN to 2^62 under >> and >>> ===== -/
theorem pf_lI {a : Nat} (h : a < 2 ^ 63) : (lN a).toInt = (a : Int) := lg_ofNat_toInt h
theorem pf_shr {a d : Nat} {D : Int64} (hD : (D.toBitVec.smod 64).toNat = d) (h : a < 2 ^ 62) : lN a >>> D = lN (a / 2 ^ d) := by
  have hd : a / 2 ^ d ≤ a := Nat.div_le_self _ _
  apply Int64.toInt_inj.mp
  have e : (lN a >>> D).toInt = (lN a).toInt >>> d := by
    rw [← hD]
    exact BitVec.toInt_sshiftRight ..
  rw [e, Int.shiftRight_eq_div_pow, pf_lI (by omega), pf_lI (by omega)]
  rfl
theorem pf_ushr {a d : Nat} {D : UInt64} (hD : D.toNat % 64 = d) (h : a < 2 ^ 62) : ((lN a).toUInt64 >>> D).toInt64 = lN (a / 2 ^ d) := by
  have hd : a / 2 ^ d ≤ a := Nat.div_le_self _ _
  have e : (lN a).toUInt64 >>> D = UInt64.ofNat (a / 2 ^ d) := UInt64.toNat_inj.mp (by
    rw [UInt64.toNat_shiftRight, hD, Nat.shiftRight_eq_div_pow, UInt64.toNat_ofNat']
    show (UInt64.ofNat a).toNat / 2 ^ d = _
    rw [UInt64.toNat_ofNat', Nat.mod_eq_of_lt (by omega), Nat.mod_eq_of_lt (by omega)])
  rw [e]
  rfl
theorem pf_andw (x : Int64) : ∃ m, m < 2 ^ 32 ∧ x &&& 4294967295 = lN m := ⟨x.toBitVec.toNat % 2 ^ 32, Nat.mod_lt _ (by decide), Int64.toBitVec_inj.mp (BitVec.eq_of_toNat_eq (by
  show (x.toBitVec &&& 4294967295#64).toNat = (BitVec.ofNat 64 (x.toBitVec.toNat % 2 ^ 32)).toNat
  rw [BitVec.toNat_and, show (4294967295#64).toNat = 2 ^ 32 - 1 from by decide, Nat.and_two_pow_sub_one_eq_mod, BitVec.toNat_ofNat]
  omega))⟩
/-! ===== Int64 as an unsigned number: uN x ===== -/
def uN (x : Int64) : Nat := x.toUInt64.toNat
theorem uN_lt (x : Int64) : uN x < 18446744073709551616 := x.toUInt64.toNat_lt
theorem uN_inj {x y : Int64} (h : uN x = uN y) : x = y := congrArg UInt64.toInt64 (UInt64.toNat_inj.mp h)
theorem uN_add (x y : Int64) : uN (x + y) = (uN x + uN y) % 18446744073709551616 := by
  show (x.toUInt64 + y.toUInt64).toNat = _
  exact UInt64.toNat_add _ _
theorem uN_mul (x y : Int64) : uN (x * y) = (uN x * uN y) % 18446744073709551616 := by
  show (x.toUInt64 * y.toUInt64).toNat = _
  exact UInt64.toNat_mul _ _
theorem uN_shl (x : Int64) : uN (x <<< ((1 : Int32).toInt64 &&& 63)) = (2 * uN x) % 18446744073709551616 := by
  have h : (((1 : Int32).toInt64 &&& 63).toBitVec.smod 64).toNat = 1 := by decide
  show (x.toBitVec <<< (((1 : Int32).toInt64 &&& 63).toBitVec.smod 64).toNat).toNat = _
  rw [h, BitVec.toNat_shiftLeft, Nat.shiftLeft_eq, Nat.mul_comm]
  rfl
theorem uN_shr (x : Int64) (s : UInt64) : uN (x.toUInt64 >>> s).toInt64 = uN x / 2 ^ (s.toNat % 64) := by
  show (x.toUInt64 >>> s).toNat = _
  rw [UInt64.toNat_shiftRight, Nat.shiftRight_eq_div_pow]
  rfl
theorem uN_s32 (x : Int64) : uN (x.toUInt64 >>> ((32 : Int32).toInt64.toUInt64 &&& Int64.toUInt64 63)).toInt64 = uN x / 4294967296 := by
  have h : ((32 : Int32).toInt64.toUInt64 &&& Int64.toUInt64 63).toNat % 64 = 32 := by decide
  rw [uN_shr, h]
theorem uN_s63 (x : Int64) : uN (x.toUInt64 >>> ((63 : Int32).toInt64.toUInt64 &&& Int64.toUInt64 63)).toInt64 = uN x / 9223372036854775808 := by
  have h : ((63 : Int32).toInt64.toUInt64 &&& Int64.toUInt64 63).toNat % 64 = 63 := by decide
  rw [uN_shr, h]
theorem uN_lo (x : Int64) : uN (x &&& 4294967295) = uN x % 4294967296 := by
  show (x.toUInt64 &&& Int64.toUInt64 4294967295).toNat = _
  rw [UInt64.toNat_and]
  exact Nat.and_two_pow_sub_one_eq_mod _ 32
theorem uN_bit (x : Int64) : (x &&& 1) = 0 ↔ uN x % 2 = 0 := by
  have h : uN (x &&& 1) = uN x % 2 := by
    show (x.toUInt64 &&& Int64.toUInt64 1).toNat = _
    rw [UInt64.toNat_and]
    exact Nat.and_two_pow_sub_one_eq_mod _ 1
  rw [← h]
  exact ⟨fun z => by rw [z]; rfl, fun z => uN_inj (z.trans rfl)⟩
theorem uN_or {x y : Int64} (hy : uN y < 2) : uN ((x <<< ((1 : Int32).toInt64 &&& 63)) ||| y) = (2 * uN x) % 18446744073709551616 + uN y := by
  have h1 : uN ((x <<< ((1 : Int32).toInt64 &&& 63)) ||| y) = uN (x <<< ((1 : Int32).toInt64 &&& 63)) ||| uN y := UInt64.toNat_or _ _
  have h2 : (2 * uN x) % 18446744073709551616 = 2 ^ 1 * (uN x % 9223372036854775808) := by omega
  rw [h1, uN_shl, h2]
  exact (Nat.two_pow_add_eq_or_of_lt (i := 1) hy _).symm
theorem nat_xor {a : Nat} (h : a < 18446744073709551616) : a ^^^ 2 ^ 63 = (a + 9223372036854775808) % 18446744073709551616 := by
  have h1 : (a ^^^ 2 ^ 63) % 2 ^ 63 = a % 2 ^ 63 := by rw [Nat.xor_mod_two_pow, Nat.mod_self, Nat.xor_zero]
  have h2 : (a ^^^ 2 ^ 63) / 2 ^ 63 = (a / 2 ^ 63) ^^^ 1 := by rw [Nat.xor_div_two_pow, Nat.div_self (Nat.two_pow_pos 63)]
  have h3 : a / 2 ^ 63 = 0 ∨ a / 2 ^ 63 = 1 := by omega
  generalize a ^^^ 2 ^ 63 = t at h1 h2
  rcases h3 with h3 | h3
  · rw [h3] at h2
    have h2 : t / 2 ^ 63 = 1 := h2
    omega
  · rw [h3] at h2
    have h2 : t / 2 ^ 63 = 0 := h2
    omega
theorem uN_xor (x : Int64) : uN (x ^^^ (-9223372036854775808)) = (uN x + 9223372036854775808) % 18446744073709551616 := by
  rw [← nat_xor (uN_lt x)]
  exact UInt64.toNat_xor _ _
theorem uN_int (x : Int64) : x.toInt = if 2 * uN x < 18446744073709551616 then (uN x : Int) else (uN x : Int) - 18446744073709551616 := BitVec.toInt_eq_toNat_cond _
theorem uN_le (x y : Int64) : (x ^^^ (-9223372036854775808)) ≤ (y ^^^ (-9223372036854775808)) ↔ uN x ≤ uN y := by
  have hx := uN_lt x
  have hy := uN_lt y
  rw [Int64.le_iff_toInt_le, uN_int, uN_int, uN_xor, uN_xor]
  omega
theorem uN_sk (x : Int64) {k : Nat} (hk : k < 64) : uN (x.toUInt64 >>> ((nI k).toInt64.toUInt64 &&& Int64.toUInt64 63)).toInt64 = uN x / 2 ^ k := by
  have h : ((nI k).toInt64.toUInt64 &&& Int64.toUInt64 63).toNat % 64 = k := by
    rw [nI_l (by omega), UInt64.toNat_and]
    have e : (lN k).toUInt64.toNat = k % 2 ^ 64 := rfl
    have e2 : (Int64.toUInt64 63).toNat = 2 ^ 6 - 1 := by decide
    rw [e, e2, Nat.and_two_pow_sub_one_eq_mod]
    omega
  rw [uN_shr, h]
/-! ===== unsigned comparison by xor with the least ===== -/
theorem lN_bv (n : Nat) : (lN n).toBitVec = BitVec.ofNat 64 n := rfl
theorem lN_nat {n : Nat} (h : n < 2 ^ 64) : (lN n).toBitVec.toNat = n := by rw [lN_bv, BitVec.toNat_ofNat]; exact Nat.mod_eq_of_lt h
theorem lN_xor (a b : Nat) : lN a ^^^ lN b = lN (a ^^^ b) := by
  apply Int64.toBitVec_inj.mp; rw [Int64.toBitVec_xor, lN_bv, lN_bv, lN_bv]; apply BitVec.eq_of_getLsbD_eq; intro i hi; simp [BitVec.getLsbD_ofNat, Nat.testBit_xor, hi]
theorem lN_ti {m : Nat} (h : m < 2 ^ 64) : (lN m).toInt = if m < 2 ^ 63 then (m : Int) else (m : Int) - 2 ^ 64 := by
  have c := BitVec.toInt_eq_toNat_cond (lN m).toBitVec
  rw [lN_nat h] at c
  show (lN m).toBitVec.toInt = _
  rw [c]
  split <;> split <;> omega
theorem xor63 {x : Nat} (h : x < 2 ^ 63) : x ^^^ 2 ^ 63 = 2 ^ 63 + x := by
  apply Nat.eq_of_testBit_eq
  intro i
  rw [Nat.testBit_xor, Nat.testBit_two_pow]
  rcases Nat.lt_trichotomy i 63 with z | z | z
  · rw [Nat.testBit_two_pow_add_gt z, decide_eq_false (by omega)]; simp
  · subst z; rw [Nat.testBit_two_pow_add_eq]; simp
  · have hp : 2 ^ 64 ≤ 2 ^ i := Nat.pow_le_pow_right (by decide) z
    rw [Nat.testBit_lt_two_pow (show x < 2 ^ i by omega), Nat.testBit_lt_two_pow (show 2 ^ 63 + x < 2 ^ i by omega), decide_eq_false (by omega)]; rfl
theorem xorS {a : Nat} (h : a < 2 ^ 64) : (lN a ^^^ (-9223372036854775808)).toInt = (a : Int) - 2 ^ 63 := by
  rw [show (-9223372036854775808 : Int64) = lN (2 ^ 63) from by decide +kernel, lN_xor]
  rcases Nat.lt_or_ge a (2 ^ 63) with z | z
  · rw [xor63 z, lN_ti (by omega), if_neg (by omega)]; omega
  · obtain ⟨x, rfl⟩ : ∃ x, a = 2 ^ 63 + x := ⟨a - 2 ^ 63, by omega⟩
    rw [← xor63 (by omega), Nat.xor_assoc, Nat.xor_self, Nat.xor_zero, lN_ti (by omega), if_pos (by omega), xor63 (by omega)]; omega
theorem ultL {a b : Nat} (ha : a < 2 ^ 64) (hb : b < 2 ^ 64) : ((lN b ^^^ (-9223372036854775808)) ≤ (lN a ^^^ (-9223372036854775808))) ↔ b ≤ a := by
  rw [Int64.le_iff_toInt_le, xorS ha, xorS hb]; omega
/-! ===== Int64 masks of n low bits ===== -/
theorem cr_bits (W U M : BitVec 64) : ((W &&& U) &&& (U &&& (M ^^^ BitVec.allOnes 64))) = 0#64 ↔ (W &&& U) &&& M = W &&& U := by
  constructor
  · intro h
    apply BitVec.eq_of_getLsbD_eq
    intro i hi
    have e := congrArg (fun x => BitVec.getLsbD x i) h
    simp only [BitVec.getLsbD_and, BitVec.getLsbD_xor, BitVec.getLsbD_allOnes, BitVec.getLsbD_zero, hi, decide_true] at e ⊢
    revert e
    cases W.getLsbD i <;> cases U.getLsbD i <;> cases M.getLsbD i <;> decide
  · intro h
    apply BitVec.eq_of_getLsbD_eq
    intro i hi
    have e := congrArg (fun x => BitVec.getLsbD x i) h
    simp only [BitVec.getLsbD_and, BitVec.getLsbD_xor, BitVec.getLsbD_allOnes, BitVec.getLsbD_zero, hi, decide_true] at e ⊢
    revert e
    cases W.getLsbD i <;> cases U.getLsbD i <;> cases M.getLsbD i <;> decide
theorem cr_mask (w U m : Int64) (n : Nat) (hm : m.toBitVec.toNat = 2 ^ n - 1) : ((w &&& U) &&& (U &&& (m ^^^ (-1)))) = 0 ↔ (w &&& U).toBitVec.toNat < 2 ^ n := by
  have e0 : (-1 : Int64).toBitVec = BitVec.allOnes 64 := by decide
  have z0 : (0 : Int64).toBitVec = 0#64 := by decide
  rw [← Int64.toBitVec_inj, z0, Int64.toBitVec_and, Int64.toBitVec_and, Int64.toBitVec_and, Int64.toBitVec_xor, e0, cr_bits]
  generalize w.toBitVec &&& U.toBitVec = T
  rw [← BitVec.toNat_inj, BitVec.toNat_and, hm, Nat.and_two_pow_sub_one_eq_mod]
  constructor
  · intro h
    have t := Nat.mod_lt T.toNat (Nat.two_pow_pos n)
    rw [h] at t
    exact t
  · exact Nat.mod_eq_of_lt
theorem cr_shr (t : Int64) (x : UInt64) (n : Nat) (hx : x.toNat % 64 = n) : (t.toUInt64 >>> x).toInt64 = 0 ↔ t.toBitVec.toNat < 2 ^ n := by
  rw [← Int64.toBitVec_inj, ← BitVec.toNat_inj]
  show (t.toUInt64 >>> x).toNat = 0 ↔ t.toUInt64.toNat < 2 ^ n
  rw [UInt64.toNat_shiftRight, hx, Nat.shiftRight_eq_div_pow]
  constructor
  · intro h
    have d : t.toUInt64.toNat / 2 ^ n < 1 := by
      rw [h]
      decide
    have e := (Nat.div_lt_iff_lt_mul (Nat.two_pow_pos n)).mp d
    rw [Nat.one_mul] at e
    exact e
  · exact Nat.div_eq_of_lt
theorem cr_amt (s : Int64) : ∃ n, n < 64 ∧ s &&& 63 = lN n ∧ (s.toUInt64 &&& Int64.toUInt64 63).toNat % 64 = n := by
  have e : (s.toUInt64 &&& Int64.toUInt64 63).toNat = s.toUInt64.toNat % 2 ^ 6 := by
    rw [UInt64.toNat_and, show (Int64.toUInt64 63).toNat = 2 ^ 6 - 1 from by decide, Nat.and_two_pow_sub_one_eq_mod]
  refine ⟨s.toUInt64.toNat % 2 ^ 6, by omega, ?_, by omega⟩
  rw [← Int64.toBitVec_inj, ← BitVec.toNat_inj]
  show (s.toUInt64 &&& Int64.toUInt64 63).toNat = (BitVec.ofNat 64 (s.toUInt64.toNat % 2 ^ 6)).toNat
  rw [e, BitVec.toNat_ofNat]
  omega
end
section
section ZA
/-! numbers; arrays of naturals -/
def zz_n (f : Nat → Nat) : Nat → Int32 := fun j => nI (f j)
def zz_l (f : Nat → Nat) : Nat → Int64 := fun j => lN (f j)
def zz_u (f : Nat → Nat) (k v : Nat) : Nat → Nat := fun j => if j = k then v else f j
def zz_r (a : Nat → Int32) (lo n : Nat) (f : Nat → Int32) : Nat → Int32 := fun j => if lo ≤ j ∧ j < lo + n then f (j - lo) else a j
def zz_q (a : Nat → Nat) (lo n : Nat) (f : Nat → Nat) : Nat → Nat := fun j => if lo ≤ j ∧ j < lo + n then f (j - lo) else a j
def zz_up (v a : Nat) : Nat := (v + a - 1) / a * a
theorem zz_us {f : Nat → Nat} {k v : Nat} : zz_u f k v k = v := if_pos rfl
theorem zz_un {f : Nat → Nat} {k v j : Nat} (h : j ≠ k) : zz_u f k v j = f j := if_neg h
theorem zz_rd (f : Nat → Nat) (o : Nat) (h : o < 2 ^ 31) : zz_n f (nI o).toNatClampNeg = nI (f o) := by rw [nI_clamp h]; rfl
theorem zz_rl (f : Nat → Nat) (o : Nat) (h : o < 2 ^ 31) : zz_l f (nI o).toNatClampNeg = lN (f o) := by rw [nI_clamp h]; rfl
theorem zz_ra (f : Nat → Int32) (o : Nat) (h : o < 2 ^ 31) : f (nI o).toNatClampNeg = f o := by rw [nI_clamp h]
theorem zz_w0 (f : Nat → Nat) (o v : Nat) : upd (zz_n f) o (nI v) = zz_n (zz_u f o v) := by
  funext j
  by_cases e : j = o
  · subst e; rw [pk_us]; exact (congrArg nI zz_us).symm
  · rw [pk_un e]; exact (congrArg nI (zz_un e)).symm
theorem zz_wr (f : Nat → Nat) {o v : Nat} (h : o < 2 ^ 31) : upd (zz_n f) (nI o).toNatClampNeg (nI v) = zz_n (zz_u f o v) := by
  rw [nI_clamp h]; exact zz_w0 f o v
theorem zz_wl (f : Nat → Nat) {o v : Nat} (h : o < 2 ^ 31) : vp_updL (zz_l f) (nI o).toNatClampNeg (lN v) = zz_l (zz_u f o v) := by
  rw [nI_clamp h]
  funext j
  by_cases e : j = o
  · subst e; rw [pk_uLs]; exact (congrArg lN zz_us).symm
  · rw [pk_uLn e]; exact (congrArg lN (zz_un e)).symm
theorem zz_wa (f : Nat → Int32) {o : Nat} (v : Int32) (h : o < 2 ^ 31) : upd f (nI o).toNatClampNeg v = upd f o v := by
  rw [nI_clamp h]
theorem zz_r0 {a : Nat → Int32} {lo : Nat} {f : Nat → Int32} : zz_r a lo 0 f = a := by
  funext j; exact if_neg (by omega)
theorem zz_ri {a : Nat → Int32} {lo n : Nat} {f : Nat → Int32} {x : Nat} (h : x < n) : zz_r a lo n f (lo + x) = f x := by
  have e : zz_r a lo n f (lo + x) = f (lo + x - lo) := if_pos ⟨by omega, by omega⟩
  rw [e, show lo + x - lo = x by omega]
theorem zz_ro {a : Nat → Int32} {lo n : Nat} {f : Nat → Int32} {j : Nat} (h : j < lo ∨ lo + n ≤ j) : zz_r a lo n f j = a j := if_neg (by omega)
theorem zz_rs {a : Nat → Int32} {lo n : Nat} {f : Nat → Int32} : upd (zz_r a lo n f) (lo + n) (f n) = zz_r a lo (n + 1) f := by
  funext j
  by_cases e : j = lo + n
  · subst e; rw [pk_us, zz_ri (by omega)]
  · rw [pk_un e]
    by_cases h : lo ≤ j ∧ j < lo + n
    · obtain ⟨x, rfl⟩ : ∃ x, j = lo + x := ⟨j - lo, by omega⟩
      rw [zz_ri (by omega), zz_ri (by omega)]
    · rw [zz_ro (by omega), zz_ro (by omega)]
theorem zz_q0 {a : Nat → Nat} {lo : Nat} {f : Nat → Nat} : zz_q a lo 0 f = a := by
  funext j; exact if_neg (by omega)
theorem zz_qi {a : Nat → Nat} {lo n : Nat} {f : Nat → Nat} {x : Nat} (h : x < n) : zz_q a lo n f (lo + x) = f x := by
  have e : zz_q a lo n f (lo + x) = f (lo + x - lo) := if_pos ⟨by omega, by omega⟩
  rw [e, show lo + x - lo = x by omega]
theorem zz_qo {a : Nat → Nat} {lo n : Nat} {f : Nat → Nat} {j : Nat} (h : j < lo ∨ lo + n ≤ j) : zz_q a lo n f j = a j := if_neg (by omega)
theorem zz_qs {a : Nat → Nat} {lo n : Nat} {f : Nat → Nat} : zz_u (zz_q a lo n f) (lo + n) (f n) = zz_q a lo (n + 1) f := by
  funext j
  by_cases e : j = lo + n
  · subst e; rw [zz_us, zz_qi (by omega)]
  · rw [zz_un e]
    by_cases h : lo ≤ j ∧ j < lo + n
    · obtain ⟨x, rfl⟩ : ∃ x, j = lo + x := ⟨j - lo, by omega⟩
      rw [zz_qi (by omega), zz_qi (by omega)]
    · rw [zz_qo (by omega), zz_qo (by omega)]
theorem zz_m8 (o : Nat) : nI o * 8 = nI (o * 8) := pk_mul o 8
theorem zz_ix (o i : Nat) : nI o * 8 + nI i = nI (o * 8 + i) := by rw [zz_m8, nI_add]
theorem zz_i6 (o i : Nat) : nI o * 6 + nI i = nI (o * 6 + i) := by rw [show nI o * 6 = nI (o * 6) from pk_mul o 6, nI_add]
theorem zz_tp (t : Nat) : nI t * 80 + 32 = nI (t * 80 + 32) := by rw [show nI t * 80 = nI (t * 80) from pk_mul t 80]; exact nI_add (t * 80) 32
theorem zz_ib (t o x : Nat) : nI t * 64 + nI o * 8 + nI x = nI (t * 64 + o * 8 + x) := by
  rw [show nI t * 64 = nI (t * 64) from pk_mul t 64, zz_m8, nI_add, nI_add]
theorem zz_n1l : (-1 : Int32) < 0 := by decide
theorem zz_n1g : ¬ (0 : Int32) ≤ -1 := by decide
theorem zz_ne1 {a : Nat} (h : a < 2 ^ 31) : ¬ nI a = -1 := by
  intro e
  have := nI_pos (n := a) h
  rw [e] at this
  exact this zz_n1l
theorem zz_en {a n : Nat} (ha : a < 2 ^ 31) (hn : n < 2 ^ 31) (h : a ≠ n) : ¬ nI a = nI n := fun e => h ((nI_eq ha hn).mp e)
theorem zz_inj {a n : Nat} (e : nI a = nI n) (ha : a < 2 ^ 31) (hn : n < 2 ^ 31) : a = n := (nI_eq ha hn).mp e
theorem zz_gt {x : Int32} {n : Nat} (hn : n + 1 < 2 ^ 31) (h : nI (n + 1) ≤ x) : nI n < x ∧ ¬ x ≤ nI n ∧ ¬ x < 0 := by
  have h1 := Int32.le_iff_toInt_le.mp h
  rw [nI_toInt hn] at h1
  have e := nI_toInt (n := n) (by omega)
  refine ⟨Int32.lt_iff_toInt_lt.mpr (by omega), fun z => ?_, fun z => ?_⟩
  · have := Int32.le_iff_toInt_le.mp z; omega
  · have := Int32.lt_iff_toInt_lt.mp z
    have h0 : (0 : Int32).toInt = 0 := by decide
    omega
theorem zz_nle {x : Int32} {n : Nat} (hn : n < 2 ^ 31) (h : x < 0) : ¬ nI n ≤ x := by
  intro z
  have h1 := Int32.le_iff_toInt_le.mp z
  rw [nI_toInt hn] at h1
  have := Int32.lt_iff_toInt_lt.mp h
  have h0 : (0 : Int32).toInt = 0 := by decide
  omega
theorem zz_b0 : vp_nar .boolean 0 = 0 := by decide
theorem zz_b1 : vp_nar .boolean 1 = 1 := by decide
/-! up -/
theorem zz_up1 : ∀ v, v < 128 → ((nI v + nI 1) - 1) &&& (-(nI 1)) = nI (zz_up v 1) := by decide +kernel
theorem zz_up2 : ∀ v, v < 128 → ((nI v + nI 2) - 1) &&& (-(nI 2)) = nI (zz_up v 2) := by decide +kernel
theorem zz_up4 : ∀ v, v < 128 → ((nI v + nI 4) - 1) &&& (-(nI 4)) = nI (zz_up v 4) := by decide +kernel
theorem zz_upX {v a : Nat} (ha : a = 1 ∨ a = 2 ∨ a = 4) (hv : v < 128) : ((nI v + nI a) - 1) &&& (-(nI a)) = nI (zz_up v a) := by
  rcases ha with rfl | rfl | rfl
  · exact zz_up1 v hv
  · exact zz_up2 v hv
  · exact zz_up4 v hv
theorem zz_ub {v a : Nat} (ha : a = 1 ∨ a = 2 ∨ a = 4) : v ≤ zz_up v a ∧ zz_up v a ≤ v + 3 := by
  unfold zz_up
  rcases ha with rfl | rfl | rfl <;> omega
def zz_us1 (a r : Nat) : Nat := if r % a = 0 then r else r + 1
theorem zz_usA (a r : Nat) (h : r % a = 0) : zz_us1 a r = r := if_pos h
theorem zz_usB (a r : Nat) (h : r % a ≠ 0) : zz_us1 a r = r + 1 := if_neg h
theorem zz_us3 {v a : Nat} (ha : a = 1 ∨ a = 2 ∨ a = 4) : zz_us1 a (zz_us1 a (zz_us1 a v)) = zz_up v a := by
  unfold zz_up
  rcases ha with rfl | rfl | rfl
  · rw [zz_usA 1 v (by omega), zz_usA 1 v (by omega), zz_usA 1 v (by omega)]; omega
  · by_cases h : v % 2 = 0
    · rw [zz_usA 2 v h, zz_usA 2 v h, zz_usA 2 v h]; omega
    · rw [zz_usB 2 v h, zz_usA 2 (v + 1) (by omega), zz_usA 2 (v + 1) (by omega)]; omega
  · have h4 : v % 4 = 0 ∨ v % 4 = 1 ∨ v % 4 = 2 ∨ v % 4 = 3 := by omega
    rcases h4 with h | h | h | h
    · rw [zz_usA 4 v h, zz_usA 4 v h, zz_usA 4 v h]; omega
    · rw [zz_usB 4 v (by omega), zz_usB 4 (v + 1) (by omega), zz_usB 4 (v + 1 + 1) (by omega)]; omega
    · rw [zz_usB 4 v (by omega), zz_usB 4 (v + 1) (by omega), zz_usA 4 (v + 1 + 1) (by omega)]; omega
    · rw [zz_usB 4 v (by omega), zz_usA 4 (v + 1) (by omega), zz_usA 4 (v + 1) (by omega)]; omega
theorem zz_ua1 : ∀ r, r < 128 → ((nI r &&& (nI 1 - 1)) = 0 ↔ r % 1 = 0) := by decide +kernel
theorem zz_ua2 : ∀ r, r < 128 → ((nI r &&& (nI 2 - 1)) = 0 ↔ r % 2 = 0) := by decide +kernel
theorem zz_ua4 : ∀ r, r < 128 → ((nI r &&& (nI 4 - 1)) = 0 ↔ r % 4 = 0) := by decide +kernel
theorem zz_ua {r a : Nat} (ha : a = 1 ∨ a = 2 ∨ a = 4) (hr : r < 128) : ((nI r &&& (nI a - 1)) = 0 ↔ r % a = 0) := by
  rcases ha with rfl | rfl | rfl
  · exact zz_ua1 r hr
  · exact zz_ua2 r hr
  · exact zz_ua4 r hr
theorem zz_u1b (a r : Nat) : zz_us1 a r ≤ r + 1 := by unfold zz_us1; split <;> omega
/-! the mask's bits -/
theorem zz_bt1 : ∀ k, k < 32 → bt 1 k = decide (k = 0) := by decide +kernel
theorem zz_bx (x : Int32) {i : Nat} (hi : i < 32) : ((x >>> (nI i &&& 31)) &&& 1) = 1 ↔ bt x i = true := by
  constructor
  · intro h
    have h1 := congrArg (fun z => bt z 0) h
    rw [b_and, b_sshr i hi x (by omega), zz_bt1 0 (by omega), if_pos (by omega)] at h1
    simpa using h1
  · intro h
    apply b_ext
    intro k hk
    rw [b_and, zz_bt1 k hk]
    by_cases e : k = 0
    · subst e
      rw [b_sshr i hi x (by omega), if_pos (by omega), Nat.add_zero, h]; rfl
    · simp [e]
theorem zz_by (x : Int32) {i : Nat} (hi : i < 32) : (x &&& ((1 : Int32) <<< (nI i &&& 31))) = 0 ↔ bt x i = false := by
  constructor
  · intro h
    have h1 := congrArg (fun z => bt z i) h
    rw [b_and, b_shl i hi 1 hi, Nat.sub_self, zz_bt1 0 (by omega), b_0] at h1
    simpa using h1
  · intro h
    apply b_ext
    intro k hk
    rw [b_and, b_shl i hi 1 hk, b_0]
    by_cases e : k = i
    · subst e; rw [h]; rfl
    · by_cases e2 : i ≤ k
      · rw [zz_bt1 (k - i) (by omega)]
        have : ¬ k - i = 0 := by omega
        simp [this]
      · simp [e2]
end ZA
end
section
section ZR
/-! the relation -/
def zz_ch (L0 : Nat) (S : Nat → Nat) (o t : Nat) : Nat := if L0 = o ∧ t = o then 3 else if 4 ≤ S t then 2 else if t = o then 1 else 0
def zz_ba (S F M : Nat → Nat) (t o : Nat) : Nat := if 4 ≤ S o then t * 80 + 32 - F o else t * 80 + 32 + M o * 8
def zz_to (S M G D : Nat → Nat) (dt : Nat → Int32) (t o : Nat) : Prop := 4 ≤ S o ∨ (G (M o) ≤ D t ∧ dt (t * 6 + M o) ≠ -1)
def zz_W (tl : Nat) (rn : Nat → Nat) : Prop := ∀ t, tl ≤ t → t < 4 → rn t = 0
def zz_B (tl ml sl b c g k : Nat) (rn : Nat → Nat) : Prop := 2 ≤ tl ∧ tl ≤ 4 ∧ 2 ≤ ml ∧ ml ≤ 6 ∧ 8 ≤ sl ∧ sl ≤ 32 ∧ c ≤ ml ∧ b ≤ 1 ∧ g ≤ 2 * k ∧ zz_W tl rn
def zz_O (S B A N : Nat → Nat) (im : Nat → Int32) : Prop := ∀ o, o < 8 → S o ≤ 5 ∧ B o ≤ 8 ∧ (A o = 1 ∨ A o = 2 ∨ A o = 4) ∧ N o ≤ 8 ∧ ∀ x, B o ≤ x → x < 8 → im (o * 8 + x) = 0
def zz_Y (sy : Nat → Int32) : Prop := ∀ j, j < 64 → sy j = -1 ∨ ∃ p, p < 8 ∧ sy j = nI p
def zz_T (sm sn sa so : Nat → Nat) : Prop := ∀ j, j < 64 → sm j ≤ 3 ∧ sn j ≤ 7 ∧ sa j ≤ 7 ∧ so j ≤ 3
def zz_K (S N sm sn : Nat → Nat) (sy : Nat → Int32) : Prop := ∀ o, o < 8 → S o ≠ 0 → ∀ s, s < N o → (sm (o * 8 + s) = 1 ∨ sm (o * 8 + s) = 3 → sy (o * 8 + sn (o * 8 + s)) ≠ -1) ∧ (sm (o * 8 + s) = 3 → S o = 1 ∨ S o = 5)
def zz_C (cu : Int32) (S : Nat → Nat) : Prop := cu = -1 ∨ ∃ o, o < 8 ∧ cu = nI o ∧ S o = 0
def zz_N (cu : Int32) (S B A N sm sn sa so : Nat → Nat) (im sy : Nat → Int32) : Prop := zz_O S B A N im ∧ zz_Y sy ∧ zz_T sm sn sa so ∧ zz_K S N sm sn sy ∧ zz_C cu S
def zz_L (b c : Nat) (S L Ly : Nat → Nat) : Prop := (∀ i, i < c → L i < 8 ∧ 3 ≤ S (L i) ∧ Ly i = L i) ∧ (∀ i j, i < c → j < c → L i = L j → i = j) ∧ (∀ o, o < 8 → 3 ≤ S o → ∃ i, i < c ∧ L i = o) ∧ (b = 0 → c = 0) ∧ (b ≠ 0 → 0 < c ∧ S (L 0) = 5)
def zz_R (S B N sm T C R Q L F M : Nat → Nat) (tp : Nat → Int32) : Prop := ∀ o, o < 8 → 3 ≤ S o → ∀ s, s < N o → T (o * 8 + s) < 8 ∧ 3 ≤ S (T (o * 8 + s)) ∧ C (o * 8 + s) < B (T (o * 8 + s)) ∧ Q (o * 8 + s) = M (T (o * 8 + s)) ∧ tp (o * 8 + s) = nI (C (o * 8 + s)) - nI (F (T (o * 8 + s))) ∧ R (o * 8 + s) = zz_ch (L 0) S o (T (o * 8 + s)) ∧ (sm (o * 8 + s) = 1 → T (o * 8 + s) = o) ∧ (sm (o * 8 + s) = 2 → 4 ≤ S (T (o * 8 + s))) ∧ (sm (o * 8 + s) = 3 → T (o * 8 + s) = o ∧ 4 ≤ S o)
def zz_M (S M : Nat → Nat) (ow : Nat → Int32) : Prop := (∀ o, o < 8 → 3 ≤ S o → M o < 6 ∧ ow (M o) = nI o) ∧ (∀ m, m < 6 → ow m = -1 ∨ ∃ o, o < 8 ∧ 3 ≤ S o ∧ M o = m ∧ ow m = nI o)
def zz_G (g : Nat) (G D : Nat → Nat) : Prop := (∀ m, m < 6 → G m ≤ g) ∧ (∀ t, t < 4 → D t ≤ g)
def zz_F (S B F Fy : Nat → Nat) : Prop := (∀ o, o < 8 → 4 ≤ S o → Fy o = F o ∧ B o ≤ F o ∧ F o ≤ 32) ∧ (∀ o p, o < 8 → p < 8 → 4 ≤ S o → 4 ≤ S p → o ≠ p → F p + B o ≤ F o ∨ F o + B p ≤ F p)
def zz_H (b : Nat) (S N rn si : Nat → Nat) (ins pc ac ay io : Nat → Int32) : Prop := (∀ t, t < 4 → (rn t = 0 ∧ ins t = -1 ∧ pc t = -1 ∧ ac t = 0) ∨ (rn t = 1 ∧ ay t = ac t ∧ io t = ins t ∧ ((ins t = -1 ∧ pc t = -1) ∨ ∃ o, o < 8 ∧ ins t = nI o ∧ 3 ≤ S o ∧ si t < N o ∧ pc t = nI (si t)))) ∧ (b = 0 → ∀ t, t < 4 → rn t = 0)
def zz_V (S B F M G rn D : Nat → Nat) (im dt me bl : Nat → Int32) : Prop := ∀ t, t < 4 → rn t = 1 → ∀ o, o < 8 → 3 ≤ S o →
  (G (M o) ≤ D t → dt (t * 6 + M o) = -1 ∨ dt (t * 6 + M o) = nI (zz_ba S F M t o))
  ∧ (zz_to S M G D dt t o → ∀ x, x < B o → me (zz_ba S F M t o + x) = bl (t * 64 + o * 8 + x))
  ∧ (¬ zz_to S M G D dt t o → ∀ x, x < B o → im (o * 8 + x) = bl (t * 64 + o * 8 + x))
def zz_Z (b c g : Nat) (S B N sm T C R Q L F M G rn D Fy Ly si : Nat → Nat) (im tp ow ins pc ac dt me ay io bl : Nat → Int32) : Prop :=
  zz_L b c S L Ly ∧ zz_R S B N sm T C R Q L F M tp ∧ zz_M S M ow ∧ zz_G g G D ∧ zz_F S B F Fy ∧ zz_H b S N rn si ins pc ac ay io ∧ zz_V S B F M G rn D im dt me bl
/-- the relation: what both keep alike is one function; the component's state is related to the reference's by zz_N (contents) and zz_Z (what is loaded) -/
def i_Rel (k : Nat) (u : SX) (v : SY) : Prop := ∃ (tl ml sl b c g : Nat) (cu : Int32) (S B A N sm sn sa so T C R Q L F M G rn D Fy Ly si : Nat → Nat) (im sy tp ow ins pc ac dt me ay io bl : Nat → Int32),
  u = ((nI tl), (nI ml), (nI sl), cu, (nI b), (nI c), (lN g), (zz_n S), (zz_n B), (zz_n A), (zz_n N), im, sy, (zz_n sm), (zz_n sn), (zz_n sa), (zz_n so), (zz_n T), (zz_n C), (zz_n R), (zz_n Q), tp, (zz_n L), (zz_n F), (zz_n M), ow, (zz_l G), (zz_n rn), ins, pc, ac, (zz_l D), dt, me) ∧ v = ((nI c), cu, (nI b), (nI tl), (nI ml), (nI sl), (zz_n S), (zz_n B), (zz_n A), (zz_n N), (zz_n Fy), im, sy, (zz_n sm), (zz_n sn), (zz_n sa), (zz_n so), (zz_n T), (zz_n C), (zz_n Ly), (zz_n rn), ay, io, (zz_n si), bl) ∧ zz_B tl ml sl b c g k rn ∧ zz_N cu S B A N sm sn sa so im sy ∧ zz_Z b c g S B N sm T C R Q L F M G rn D Fy Ly si im tp ow ins pc ac dt me ay io bl
variable {tl ml sl b c g : Nat} {cu : Int32} {S B A N sm sn sa so T C R Q L F M G rn D Fy Ly si : Nat → Nat} {im sy tp ow ins pc ac dt me ay io bl : Nat → Int32}
theorem zz_el {k : Nat} {u : SX} {v : SY} {P : SX → SY → Prop}
    (h : ∀ (tl ml sl b c g : Nat) (cu : Int32) (S B A N sm sn sa so T C R Q L F M G rn D Fy Ly si : Nat → Nat) (im sy tp ow ins pc ac dt me ay io bl : Nat → Int32), zz_B tl ml sl b c g k rn → zz_N cu S B A N sm sn sa so im sy → zz_Z b c g S B N sm T C R Q L F M G rn D Fy Ly si im tp ow ins pc ac dt me ay io bl → P ((nI tl), (nI ml), (nI sl), cu, (nI b), (nI c), (lN g), (zz_n S), (zz_n B), (zz_n A), (zz_n N), im, sy, (zz_n sm), (zz_n sn), (zz_n sa), (zz_n so), (zz_n T), (zz_n C), (zz_n R), (zz_n Q), tp, (zz_n L), (zz_n F), (zz_n M), ow, (zz_l G), (zz_n rn), ins, pc, ac, (zz_l D), dt, me) ((nI c), cu, (nI b), (nI tl), (nI ml), (nI sl), (zz_n S), (zz_n B), (zz_n A), (zz_n N), (zz_n Fy), im, sy, (zz_n sm), (zz_n sn), (zz_n sa), (zz_n so), (zz_n T), (zz_n C), (zz_n Ly), (zz_n rn), ay, io, (zz_n si), bl)) (I : i_Rel k u v) : P u v :=
  Exists.elim I fun tl I => Exists.elim I fun ml I => Exists.elim I fun sl I => Exists.elim I fun b I => Exists.elim I fun c I => Exists.elim I fun g I => Exists.elim I fun cu I =>
  Exists.elim I fun S I => Exists.elim I fun B I => Exists.elim I fun A I => Exists.elim I fun N I => Exists.elim I fun sm I => Exists.elim I fun sn I => Exists.elim I fun sa I => Exists.elim I fun so I => Exists.elim I fun T I => Exists.elim I fun C I => Exists.elim I fun R I => Exists.elim I fun Q I => Exists.elim I fun L I => Exists.elim I fun F I => Exists.elim I fun M I => Exists.elim I fun G I => Exists.elim I fun rn I => Exists.elim I fun D I => Exists.elim I fun Fy I => Exists.elim I fun Ly I => Exists.elim I fun si I =>
  Exists.elim I fun im I => Exists.elim I fun sy I => Exists.elim I fun tp I => Exists.elim I fun ow I => Exists.elim I fun ins I => Exists.elim I fun pc I => Exists.elim I fun ac I => Exists.elim I fun dt I => Exists.elim I fun me I => Exists.elim I fun ay I => Exists.elim I fun io I => Exists.elim I fun bl I =>
  (congr (congrArg P I.1) I.2.1).mpr (h tl ml sl b c g cu S B A N sm sn sa so T C R Q L F M G rn D Fy Ly si im sy tp ow ins pc ac dt me ay io bl I.2.2.1 I.2.2.2.1 I.2.2.2.2)
theorem zz_mk {k : Nat} (h1 : zz_B tl ml sl b c g k rn) (h2 : zz_N cu S B A N sm sn sa so im sy) (h3 : zz_Z b c g S B N sm T C R Q L F M G rn D Fy Ly si im tp ow ins pc ac dt me ay io bl) : i_Rel k ((nI tl), (nI ml), (nI sl), cu, (nI b), (nI c), (lN g), (zz_n S), (zz_n B), (zz_n A), (zz_n N), im, sy, (zz_n sm), (zz_n sn), (zz_n sa), (zz_n so), (zz_n T), (zz_n C), (zz_n R), (zz_n Q), tp, (zz_n L), (zz_n F), (zz_n M), ow, (zz_l G), (zz_n rn), ins, pc, ac, (zz_l D), dt, me) ((nI c), cu, (nI b), (nI tl), (nI ml), (nI sl), (zz_n S), (zz_n B), (zz_n A), (zz_n N), (zz_n Fy), im, sy, (zz_n sm), (zz_n sn), (zz_n sa), (zz_n so), (zz_n T), (zz_n C), (zz_n Ly), (zz_n rn), ay, io, (zz_n si), bl) :=
  ⟨tl, ml, sl, b, c, g, cu, S, B, A, N, sm, sn, sa, so, T, C, R, Q, L, F, M, G, rn, D, Fy, Ly, si, im, sy, tp, ow, ins, pc, ac, dt, me, ay, io, bl, rfl, rfl, h1, h2, h3⟩
theorem zz_Bk {k k' : Nat} (h : zz_B tl ml sl b c g k rn) (hk : k ≤ k') : zz_B tl ml sl b c g k' rn := by
  obtain ⟨a1, a2, a3, a4, a5, a6, a7, a8, a9, a10⟩ := h
  exact ⟨a1, a2, a3, a4, a5, a6, a7, a8, by omega, a10⟩
theorem zz_Bt {k k' t v : Nat} (h : zz_B tl ml sl b c g k rn) (hk : k ≤ k') (ht : t < tl) : zz_B tl ml sl b c g k' (zz_u rn t v) := by
  obtain ⟨a1, a2, a3, a4, a5, a6, a7, a8, a9, a10⟩ := h
  refine ⟨a1, a2, a3, a4, a5, a6, a7, a8, by omega, fun q hq hq4 => ?_⟩
  rw [zz_un (by omega)]
  exact a10 q hq hq4
theorem i_up {k : Nat} {u : SX} {v : SY} (h : i_Rel k u v) : i_Rel (k + 5) u v := by
  refine zz_el (P := fun u v => i_Rel (k + 5) u v) ?_ h
  intro tl ml sl b c g cu S B A N sm sn sa so T C R Q L F M G rn D Fy Ly si im sy tp ow ins pc ac dt me ay io bl h1 h2 h3
  exact zz_mk (zz_Bk h1 (by omega)) h2 h3
/-! what is not loaded may change -/
theorem zz_cg {S' B' N' sm' T' C' L' F' Fy' Ly' : Nat → Nat} {im' : Nat → Int32}
    (hO : zz_O S B A N im)
    (hS : ∀ o, o < 8 → S' o = S o ∨ (S' o < 3 ∧ S o < 3))
    (hB : ∀ o, o < 8 → 3 ≤ S o → B' o = B o ∧ N' o = N o ∧ F' o = F o ∧ Fy' o = Fy o ∧ ∀ x, x < 8 → im' (o * 8 + x) = im (o * 8 + x) ∧ sm' (o * 8 + x) = sm (o * 8 + x) ∧ T' (o * 8 + x) = T (o * 8 + x) ∧ C' (o * 8 + x) = C (o * 8 + x))
    (hL : ∀ i, i < c → L' i = L i ∧ Ly' i = Ly i)
    (h : zz_Z b c g S B N sm T C R Q L F M G rn D Fy Ly si im tp ow ins pc ac dt me ay io bl) : zz_Z b c g S' B' N' sm' T' C' R Q L' F' M G rn D Fy' Ly' si im' tp ow ins pc ac dt me ay io bl := by
  obtain ⟨⟨l1, l2, l3, l4, l5⟩, hR, ⟨m1, m2⟩, hG, ⟨f1, f2⟩, ⟨t1, t2⟩, hV⟩ := h
  have s1 : ∀ o, o < 8 → 3 ≤ S' o → S' o = S o ∧ 3 ≤ S o := by
    intro o ho h3
    rcases hS o ho with e | ⟨e1, e2⟩
    · exact ⟨e, by omega⟩
    · omega
  have s2 : ∀ o, o < 8 → 3 ≤ S o → S' o = S o := by
    intro o ho h3
    rcases hS o ho with e | ⟨e1, e2⟩
    · exact e
    · omega
  refine ⟨⟨?_, ?_, ?_, l4, ?_⟩, ?_, ⟨?_, ?_⟩, hG, ⟨?_, ?_⟩, ⟨?_, t2⟩, ?_⟩
  · intro i hi
    obtain ⟨h1, h2, h3⟩ := l1 i hi
    obtain ⟨e1, e2⟩ := hL i hi
    rw [e1, e2, s2 _ h1 h2]
    exact ⟨h1, h2, h3⟩
  · intro i j hi hj e
    rw [(hL i hi).1, (hL j hj).1] at e
    exact l2 i j hi hj e
  · intro o ho h3
    obtain ⟨i, hi, e⟩ := l3 o ho (s1 o ho h3).2
    exact ⟨i, hi, by rw [(hL i hi).1]; exact e⟩
  · intro hb
    obtain ⟨h1, h2⟩ := l5 hb
    refine ⟨h1, ?_⟩
    rw [(hL 0 h1).1, s2 _ (l1 0 h1).1 (l1 0 h1).2.1]
    exact h2
  · intro o ho h3 s hs
    obtain ⟨e3, h3⟩ := s1 o ho h3
    obtain ⟨b1, b2, b3, b4, b5⟩ := hB o ho h3
    rw [b2] at hs
    have hN := (hO o ho).2.2.2.1
    obtain ⟨_, x2, x3, x4⟩ := b5 s (by omega)
    obtain ⟨r1, r2, r3, r4, r5, r6, r7, r8, r9⟩ := hR o ho h3 s hs
    obtain ⟨y1, y2, y3, y4, y5⟩ := hB _ r1 r2
    obtain ⟨i0, hi0, _⟩ := l3 o ho h3
    have e0 := (hL 0 (by omega)).1
    rw [x2, x3, x4, s2 _ r1 r2, y1, y3, e0]
    refine ⟨r1, r2, r3, r4, r5, ?_, r7, r8, ?_⟩
    · rw [r6]
      unfold zz_ch
      rw [s2 _ r1 r2]
    · rw [e3]; exact r9
  · intro o ho h3
    exact m1 o ho (s1 o ho h3).2
  · intro m hm
    rcases m2 m hm with e | ⟨o, ho, h3, e⟩
    · exact Or.inl e
    · exact Or.inr ⟨o, ho, by rw [s2 o ho h3]; exact h3, e⟩
  · intro o ho h4
    obtain ⟨e, h3⟩ := s1 o ho (by omega)
    obtain ⟨b1, b2, b3, b4, b5⟩ := hB o ho h3
    rw [b1, b3, b4]
    exact f1 o ho (by omega)
  · intro o p ho hp h4 h4' hn
    obtain ⟨e, h3⟩ := s1 o ho (by omega)
    obtain ⟨e', h3'⟩ := s1 p hp (by omega)
    obtain ⟨b1, b2, b3, b4, b5⟩ := hB o ho h3
    obtain ⟨d1, d2, d3, d4, d5⟩ := hB p hp h3'
    rw [b1, b3, d1, d3]
    exact f2 o p ho hp (by omega) (by omega) hn
  · intro t ht
    rcases t1 t ht with h | ⟨h1, h2, h3, h4⟩
    · exact Or.inl h
    · refine Or.inr ⟨h1, h2, h3, ?_⟩
      rcases h4 with h | ⟨o, ho, e, hl, h5, h6⟩
      · exact Or.inl h
      · refine Or.inr ⟨o, ho, e, ?_, ?_, h6⟩
        · rw [s2 o ho hl]; exact hl
        · rw [(hB o ho hl).2.1]; exact h5
  · intro t ht hr o ho h3
    obtain ⟨e3, h3⟩ := s1 o ho h3
    obtain ⟨b1, b2, b3, b4, b5⟩ := hB o ho h3
    obtain ⟨v1, v2, v3⟩ := hV t ht hr o ho h3
    have hB8 := (hO o ho).2.1
    have eb : zz_ba S' F' M t o = zz_ba S F M t o := by unfold zz_ba; rw [e3, b3]
    have et : zz_to S' M G D dt t o ↔ zz_to S M G D dt t o := by unfold zz_to; rw [e3]
    rw [eb, et, b1]
    refine ⟨v1, v2, fun hn x hx => ?_⟩
    rw [(b5 x (by omega)).1]
    exact v3 hn x hx
end ZR
end
section
section ZX
/-! small methods of the component -/
theorem zz_ge0 {x : Int32} {n : Nat} (hn : n < 2 ^ 31) (h : nI n ≤ x) : ¬ x < 0 := fun z => zz_nle hn z h
theorem zx_obj0 {post : Int32 → Prop} {u : SX} {x : Int32} (h : x < 0 ∨ nI 8 ≤ x) (k : post 0) : wpX_isObject post u x := by
  obtain ⟨u1, u2, u3, u4, u5, u6, u7, u8, u9, u10, u11, u12, u13, u14, u15, u16, u17, u18, u19, u20, u21, u22, u23, u24, u25, u26, u27, u28, u29, u30, u31, u32, u33, u34⟩ := u
  rcases h with h | h
  · exact br_t h k
  · exact br_f (zz_ge0 (n := 8) (by decide) h) (br_t h k)
theorem zx_obj1 {post : Int32 → Prop} {u : SX} {o : Nat} (h : o < 8) (k : post 1) : wpX_isObject post u (nI o) := by
  obtain ⟨u1, u2, u3, u4, u5, u6, u7, u8, u9, u10, u11, u12, u13, u14, u15, u16, u17, u18, u19, u20, u21, u22, u23, u24, u25, u26, u27, u28, u29, u30, u31, u32, u33, u34⟩ := u
  exact br_f (nI_pos (by omega)) (br_f (nI_ge (a := o) (b := 8) h (by decide)) k)
theorem zx_up {post : Int32 → Prop} {u : SX} {v a : Nat} (ha : a = 1 ∨ a = 2 ∨ a = 4) (hv : v < 128) (k : post (nI (zz_up v a))) : wpX_up post u (nI v) (nI a) := by
  obtain ⟨u1, u2, u3, u4, u5, u6, u7, u8, u9, u10, u11, u12, u13, u14, u15, u16, u17, u18, u19, u20, u21, u22, u23, u24, u25, u26, u27, u28, u29, u30, u31, u32, u33, u34⟩ := u
  show post (((nI v + nI a) - 1) &&& (-(nI a)))
  rw [zz_upX ha hv]
  exact k
theorem zx_tp {post : Int32 → Prop} {u : SX} {t : Nat} (k : post (nI (t * 80 + 32))) : wpX_threadPointer post u (nI t) := by
  obtain ⟨u1, u2, u3, u4, u5, u6, u7, u8, u9, u10, u11, u12, u13, u14, u15, u16, u17, u18, u19, u20, u21, u22, u23, u24, u25, u26, u27, u28, u29, u30, u31, u32, u33, u34⟩ := u
  show post (nI t * 80 + 32)
  rw [zz_tp]
  exact k
theorem zy_up_s {post : Int32 → Prop} {y1 y2 y3 y4 y5 y6 : Int32} {y7 y8 y9 y10 y11 y12 y13 y14 y15 y16 y17 y18 y19 y20 y21 y22 y23 y24 y25 : Nat → Int32} {a r i n : Nat} (ha : a = 1 ∨ a = 2 ∨ a = 4) (hr : r < 128) (hi : i < 3)
    (k : wY_up_5 post (nI a) y1 y2 y3 y4 y5 y6 y7 y8 y9 y10 y11 y12 y13 y14 y15 y16 y17 y18 y19 y20 y21 y22 y23 y24 y25 n (nI (zz_us1 a r)) (nI (i + 1))) :
    wY_up_5 post (nI a) y1 y2 y3 y4 y5 y6 y7 y8 y9 y10 y11 y12 y13 y14 y15 y16 y17 y18 y19 y20 y21 y22 y23 y24 y25 (n + 1) (nI r) (nI i) := by
  refine pk_le 3 i (fun h => absurd h (by omega)) (fun h => ?_)
  by_cases z : r % a = 0
  · rw [show zz_us1 a r = r from if_pos z] at k
    exact br_t ((zz_ua ha hr).mpr z) (nm_r (nI_1 i) k)
  · rw [show zz_us1 a r = r + 1 from if_neg z] at k
    exact br_f (fun e => z ((zz_ua ha hr).mp e)) (nm_r (nI_1 r) (nm_r (nI_1 i) k))
theorem zy_up {post : Int32 → Prop} {u : SY} {v a : Nat} (ha : a = 1 ∨ a = 2 ∨ a = 4) (hv : v < 100) (k : post (nI (zz_up v a))) : wpY_up post u (nI v) (nI a) := by
  obtain ⟨u1, u2, u3, u4, u5, u6, u7, u8, u9, u10, u11, u12, u13, u14, u15, u16, u17, u18, u19, u20, u21, u22, u23, u24, u25⟩ := u
  have b1 := zz_u1b a v
  have b2 := zz_u1b a (zz_us1 a v)
  refine ⟨4, zy_up_s (i := 0) ha (by omega) (by omega) (zy_up_s (i := 1) ha (by omega) (by omega) (zy_up_s (i := 2) ha (by omega) (by omega) ?_))⟩
  rw [zz_us3 ha]
  exact br_t (nI_le (a := 3) (b := 3) (by omega) (by decide)) k
variable {tl ml sl b c g : Nat} {cu : Int32} {S B A N sm sn sa so T C R Q L F M G rn D : Nat → Nat} {im sy tp ow ins pc ac dt me : Nat → Int32}
theorem zx_thr0 {post : Int32 → Prop} {x : Int32} (ht : tl ≤ 4) (h : x < 0 ∨ nI tl ≤ x) (k : post 0) : wpX_isThread post ((nI tl), (nI ml), (nI sl), cu, (nI b), (nI c), (lN g), (zz_n S), (zz_n B), (zz_n A), (zz_n N), im, sy, (zz_n sm), (zz_n sn), (zz_n sa), (zz_n so), (zz_n T), (zz_n C), (zz_n R), (zz_n Q), tp, (zz_n L), (zz_n F), (zz_n M), ow, (zz_l G), (zz_n rn), ins, pc, ac, (zz_l D), dt, me) x := by
  rcases h with h | h
  · exact br_t h k
  · exact br_f (zz_ge0 (n := tl) (by omega) h) (br_t h k)
theorem zx_thr1 {post : Int32 → Prop} {t : Nat} (ht : tl ≤ 4) (h : t < tl) (k : post 1) : wpX_isThread post ((nI tl), (nI ml), (nI sl), cu, (nI b), (nI c), (lN g), (zz_n S), (zz_n B), (zz_n A), (zz_n N), im, sy, (zz_n sm), (zz_n sn), (zz_n sa), (zz_n so), (zz_n T), (zz_n C), (zz_n R), (zz_n Q), tp, (zz_n L), (zz_n F), (zz_n M), ow, (zz_l G), (zz_n rn), ins, pc, ac, (zz_l D), dt, me) (nI t) :=
  br_f (nI_pos (by omega)) (br_f (nI_ge h (by omega)) k)
theorem zx_ld0 {post : Int32 → Prop} {o : Nat} (ho : o < 8) (h : S o < 3) (k : post 0) : wpX_isLoaded post ((nI tl), (nI ml), (nI sl), cu, (nI b), (nI c), (lN g), (zz_n S), (zz_n B), (zz_n A), (zz_n N), im, sy, (zz_n sm), (zz_n sn), (zz_n sa), (zz_n so), (zz_n T), (zz_n C), (zz_n R), (zz_n Q), tp, (zz_n L), (zz_n F), (zz_n M), ow, (zz_l G), (zz_n rn), ins, pc, ac, (zz_l D), dt, me) (nI o) :=
  And.intro (vp_in_nI ho (by decide)) (by rw [zz_rd S o (by omega)]; exact br_t (nI_lt (b := 3) h (by decide)) k)
theorem zx_ld1 {post : Int32 → Prop} {o : Nat} (ho : o < 8) (h : 3 ≤ S o) (h5 : S o ≤ 5) (k : post 1) : wpX_isLoaded post ((nI tl), (nI ml), (nI sl), cu, (nI b), (nI c), (lN g), (zz_n S), (zz_n B), (zz_n A), (zz_n N), im, sy, (zz_n sm), (zz_n sn), (zz_n sa), (zz_n so), (zz_n T), (zz_n C), (zz_n R), (zz_n Q), tp, (zz_n L), (zz_n F), (zz_n M), ow, (zz_l G), (zz_n rn), ins, pc, ac, (zz_l D), dt, me) (nI o) :=
  And.intro (vp_in_nI ho (by decide)) (by rw [zz_rd S o (by omega)]; exact br_f (nI_nlt (b := 3) h (by omega)) k)
theorem zx_hs0 {post : Int32 → Prop} {o : Nat} (ho : o < 8) (h : S o < 4) (k : post 0) : wpX_hasStatic post ((nI tl), (nI ml), (nI sl), cu, (nI b), (nI c), (lN g), (zz_n S), (zz_n B), (zz_n A), (zz_n N), im, sy, (zz_n sm), (zz_n sn), (zz_n sa), (zz_n so), (zz_n T), (zz_n C), (zz_n R), (zz_n Q), tp, (zz_n L), (zz_n F), (zz_n M), ow, (zz_l G), (zz_n rn), ins, pc, ac, (zz_l D), dt, me) (nI o) :=
  And.intro (vp_in_nI ho (by decide)) (by rw [zz_rd S o (by omega)]; exact br_t (nI_lt (b := 4) h (by decide)) k)
theorem zx_hs1 {post : Int32 → Prop} {o : Nat} (ho : o < 8) (h : 4 ≤ S o) (h5 : S o ≤ 5) (k : post 1) : wpX_hasStatic post ((nI tl), (nI ml), (nI sl), cu, (nI b), (nI c), (lN g), (zz_n S), (zz_n B), (zz_n A), (zz_n N), im, sy, (zz_n sm), (zz_n sn), (zz_n sa), (zz_n so), (zz_n T), (zz_n C), (zz_n R), (zz_n Q), tp, (zz_n L), (zz_n F), (zz_n M), ow, (zz_l G), (zz_n rn), ins, pc, ac, (zz_l D), dt, me) (nI o) :=
  And.intro (vp_in_nI ho (by decide)) (by rw [zz_rd S o (by omega)]; exact br_f (nI_nlt (b := 4) h (by omega)) k)
theorem zx_clr_l {post : SX → Prop} {o : Nat} (ho : o < 8) (k : post ((nI tl), (nI ml), (nI sl), cu, (nI b), (nI c), (lN g), (zz_n S), (zz_n B), (zz_n A), (zz_n N), (zz_r im (o * 8) 8 (fun _ => 0)), (zz_r sy (o * 8) 8 (fun _ => -1)), (zz_n sm), (zz_n sn), (zz_n sa), (zz_n so), (zz_n T), (zz_n C), (zz_n R), (zz_n Q), tp, (zz_n L), (zz_n F), (zz_n M), ow, (zz_l G), (zz_n rn), ins, pc, ac, (zz_l D), dt, me)) : ∀ n i, i ≤ 8 → 8 < n + i → wX_clearContents_30 post (nI o) (nI tl) (nI ml) (nI sl) cu (nI b) (nI c) (lN g) n (nI i) (zz_n S) (zz_n B) (zz_n A) (zz_n N) (zz_r im (o * 8) i (fun _ => 0)) (zz_r sy (o * 8) i (fun _ => -1)) (zz_n sm) (zz_n sn) (zz_n sa) (zz_n so) (zz_n T) (zz_n C) (zz_n R) (zz_n Q) tp (zz_n L) (zz_n F) (zz_n M) ow (zz_l G) (zz_n rn) ins pc ac (zz_l D) dt me := by
  intro n
  induction n with
  | zero => intro i h1 h2; omega
  | succ n ih =>
    intro i h1 h2
    refine pk_le 8 i (fun h => ?_) (fun h => ?_)
    · obtain rfl : i = 8 := by omega
      exact k
    · rw [zz_ix o i, nI_clamp (n := o * 8 + i) (by omega)]
      exact ⟨vp_in_nI (by omega) (by decide), nm_r zz_rs ⟨vp_in_nI (by omega) (by decide), nm_r zz_rs (nm_r (nI_1 i) (ih (i + 1) (by omega) (by omega)))⟩⟩
theorem zx_clr {post : SX → Prop} {o : Nat} (ho : o < 8) (k : post ((nI tl), (nI ml), (nI sl), cu, (nI b), (nI c), (lN g), (zz_n (zz_u S o 0)), (zz_n (zz_u B o 0)), (zz_n (zz_u A o 1)), (zz_n (zz_u N o 0)), (zz_r im (o * 8) 8 (fun _ => 0)), (zz_r sy (o * 8) 8 (fun _ => -1)), (zz_n sm), (zz_n sn), (zz_n sa), (zz_n so), (zz_n T), (zz_n C), (zz_n R), (zz_n Q), tp, (zz_n L), (zz_n F), (zz_n M), ow, (zz_l G), (zz_n rn), ins, pc, ac, (zz_l D), dt, me)) : wpX_clearContents post ((nI tl), (nI ml), (nI sl), cu, (nI b), (nI c), (lN g), (zz_n S), (zz_n B), (zz_n A), (zz_n N), im, sy, (zz_n sm), (zz_n sn), (zz_n sa), (zz_n so), (zz_n T), (zz_n C), (zz_n R), (zz_n Q), tp, (zz_n L), (zz_n F), (zz_n M), ow, (zz_l G), (zz_n rn), ins, pc, ac, (zz_l D), dt, me) (nI o) := by
  have hi : vp_in (nI o) 8 := vp_in_nI ho (by decide)
  have K := zx_clr_l ho k 9 0 (by omega) (by omega)
  simp only [zz_r0] at K
  exact And.intro hi (nm_r (zz_wr (v := 0) S (by omega)) (And.intro hi (nm_r (zz_wr (v := 0) B (by omega)) (And.intro hi (nm_r (zz_wr (v := 1) A (by omega)) (And.intro hi (nm_r (zz_wr (v := 0) N (by omega)) ⟨9, K⟩)))))))
theorem zx_stop {post : SX → Prop} {t : Nat} (ht : t < 4) (k : post ((nI tl), (nI ml), (nI sl), cu, (nI b), (nI c), (lN g), (zz_n S), (zz_n B), (zz_n A), (zz_n N), im, sy, (zz_n sm), (zz_n sn), (zz_n sa), (zz_n so), (zz_n T), (zz_n C), (zz_n R), (zz_n Q), tp, (zz_n L), (zz_n F), (zz_n M), ow, (zz_l G), (zz_n (zz_u rn t 0)), (upd ins t (-1)), (upd pc t (-1)), (upd ac t 0), (zz_l D), dt, me)) : wpX_stopThread post ((nI tl), (nI ml), (nI sl), cu, (nI b), (nI c), (lN g), (zz_n S), (zz_n B), (zz_n A), (zz_n N), im, sy, (zz_n sm), (zz_n sn), (zz_n sa), (zz_n so), (zz_n T), (zz_n C), (zz_n R), (zz_n Q), tp, (zz_n L), (zz_n F), (zz_n M), ow, (zz_l G), (zz_n rn), ins, pc, ac, (zz_l D), dt, me) (nI t) := by
  have hi : vp_in (nI t) 4 := vp_in_nI ht (by decide)
  refine And.intro hi (nm_r (e' := zz_n (zz_u rn t 0)) ?_ (And.intro hi (nm_r (zz_wa ins _ (by omega)) (And.intro hi (nm_r (zz_wa pc _ (by omega)) (And.intro hi (nm_r (zz_wa ac _ (by omega)) k)))))))
  rw [zz_b0]
  exact zz_wr (v := 0) rn (by omega)
theorem zx_cpy_l {post : SX → Prop} {o p : Nat} (ho : o < 8) (hB : B o ≤ 8) (hp : p + B o ≤ 320) (k : post ((nI tl), (nI ml), (nI sl), cu, (nI b), (nI c), (lN g), (zz_n S), (zz_n B), (zz_n A), (zz_n N), im, sy, (zz_n sm), (zz_n sn), (zz_n sa), (zz_n so), (zz_n T), (zz_n C), (zz_n R), (zz_n Q), tp, (zz_n L), (zz_n F), (zz_n M), ow, (zz_l G), (zz_n rn), ins, pc, ac, (zz_l D), dt, (zz_r me p (B o) (fun x => im (o * 8 + x))))) : ∀ n i, i ≤ B o → B o < n + i → wX_copyImage_2 post (nI o) (nI p) (nI tl) (nI ml) (nI sl) cu (nI b) (nI c) (lN g) n (nI i) (zz_n S) (zz_n B) (zz_n A) (zz_n N) im sy (zz_n sm) (zz_n sn) (zz_n sa) (zz_n so) (zz_n T) (zz_n C) (zz_n R) (zz_n Q) tp (zz_n L) (zz_n F) (zz_n M) ow (zz_l G) (zz_n rn) ins pc ac (zz_l D) dt (zz_r me p i (fun x => im (o * 8 + x))) := by
  intro n
  induction n with
  | zero => intro i h1 h2; omega
  | succ n ih =>
    intro i h1 h2
    refine And.intro (vp_in_nI ho (by decide)) ?_
    rw [zz_rd B o (by omega)]
    refine pk_le (B o) i (fun h => ?_) (fun h => ?_)
    · obtain rfl : i = B o := by omega
      exact k
    · rw [zz_ix o i, nI_add p i, nI_clamp (n := o * 8 + i) (by omega), nI_clamp (n := p + i) (by omega)]
      exact ⟨vp_in_nI (by omega) (by decide), vp_in_nI (by omega) (by decide), nm_r zz_rs (nm_r (nI_1 i) (ih (i + 1) (by omega) (by omega)))⟩
theorem zx_cpy {post : SX → Prop} {o p : Nat} (ho : o < 8) (hB : B o ≤ 8) (hp : p + B o ≤ 320) (k : post ((nI tl), (nI ml), (nI sl), cu, (nI b), (nI c), (lN g), (zz_n S), (zz_n B), (zz_n A), (zz_n N), im, sy, (zz_n sm), (zz_n sn), (zz_n sa), (zz_n so), (zz_n T), (zz_n C), (zz_n R), (zz_n Q), tp, (zz_n L), (zz_n F), (zz_n M), ow, (zz_l G), (zz_n rn), ins, pc, ac, (zz_l D), dt, (zz_r me p (B o) (fun x => im (o * 8 + x))))) : wpX_copyImage post ((nI tl), (nI ml), (nI sl), cu, (nI b), (nI c), (lN g), (zz_n S), (zz_n B), (zz_n A), (zz_n N), im, sy, (zz_n sm), (zz_n sn), (zz_n sa), (zz_n so), (zz_n T), (zz_n C), (zz_n R), (zz_n Q), tp, (zz_n L), (zz_n F), (zz_n M), ow, (zz_l G), (zz_n rn), ins, pc, ac, (zz_l D), dt, me) (nI o) (nI p) := by
  have K := zx_cpy_l ho hB hp k 9 0 (by omega) (by omega)
  simp only [zz_r0] at K
  exact ⟨9, K⟩
theorem zx_fst {post : SX → Prop} {o t : Nat} (ho : o < 8) (hB : B o ≤ F o) (hF : F o ≤ 32) (hB8 : B o ≤ 8) (ht : t < 4) (k : post ((nI tl), (nI ml), (nI sl), cu, (nI b), (nI c), (lN g), (zz_n S), (zz_n B), (zz_n A), (zz_n N), im, sy, (zz_n sm), (zz_n sn), (zz_n sa), (zz_n so), (zz_n T), (zz_n C), (zz_n R), (zz_n Q), tp, (zz_n L), (zz_n F), (zz_n M), ow, (zz_l G), (zz_n rn), ins, pc, ac, (zz_l D), dt, (zz_r me (t * 80 + 32 - F o) (B o) (fun x => im (o * 8 + x))))) : wpX_fillStatic post ((nI tl), (nI ml), (nI sl), cu, (nI b), (nI c), (lN g), (zz_n S), (zz_n B), (zz_n A), (zz_n N), im, sy, (zz_n sm), (zz_n sn), (zz_n sa), (zz_n so), (zz_n T), (zz_n C), (zz_n R), (zz_n Q), tp, (zz_n L), (zz_n F), (zz_n M), ow, (zz_l G), (zz_n rn), ins, pc, ac, (zz_l D), dt, me) (nI t) (nI o) := by
  unfold wpX_fillStatic
  refine zx_tp ?_
  refine And.intro (vp_in_nI ho (by decide)) (nm_r (e' := nI (t * 80 + 32 - F o)) ?_ (zx_cpy ho hB8 (by omega) k))
  rw [zz_rd F o (by omega)]
  exact pk_sub (by omega)
end ZX
end
section
section ZYS
/-! small methods of the reference -/
variable {tl ml sl b c : Nat} {cu : Int32} {S B A N Fy sm sn sa so T C Ly rn si : Nat → Nat} {im sy ay io bl : Nat → Int32}
theorem zy_clr_l {post : SY → Prop} {o : Nat} (ho : o < 8) (k : post ((nI c), cu, (nI b), (nI tl), (nI ml), (nI sl), (zz_n S), (zz_n B), (zz_n A), (zz_n N), (zz_n Fy), (zz_r im (o * 8) 8 (fun _ => 0)), (zz_r sy (o * 8) 8 (fun _ => -1)), (zz_n sm), (zz_n sn), (zz_n sa), (zz_n so), (zz_n T), (zz_n C), (zz_n Ly), (zz_n rn), ay, io, (zz_n si), bl)) : ∀ n i, i ≤ 8 → 8 < n + i → wY_empty_30 post (nI o) (nI c) cu (nI b) (nI tl) (nI ml) (nI sl) n (nI i) (zz_n S) (zz_n B) (zz_n A) (zz_n N) (zz_n Fy) (zz_r im (o * 8) i (fun _ => 0)) (zz_r sy (o * 8) i (fun _ => -1)) (zz_n sm) (zz_n sn) (zz_n sa) (zz_n so) (zz_n T) (zz_n C) (zz_n Ly) (zz_n rn) ay io (zz_n si) bl := by
  intro n
  induction n with
  | zero => intro i h1 h2; omega
  | succ n ih =>
    intro i h1 h2
    refine pk_le 8 i (fun h => ?_) (fun h => ?_)
    · obtain rfl : i = 8 := by omega
      exact k
    · rw [zz_ix o i, nI_clamp (n := o * 8 + i) (by omega)]
      exact ⟨vp_in_nI (by omega) (by decide), nm_r zz_rs ⟨vp_in_nI (by omega) (by decide), nm_r zz_rs (nm_r (nI_1 i) (ih (i + 1) (by omega) (by omega)))⟩⟩
theorem zy_clr {post : SY → Prop} {o : Nat} (ho : o < 8) (k : post ((nI c), cu, (nI b), (nI tl), (nI ml), (nI sl), (zz_n (zz_u S o 0)), (zz_n (zz_u B o 0)), (zz_n (zz_u A o 1)), (zz_n (zz_u N o 0)), (zz_n Fy), (zz_r im (o * 8) 8 (fun _ => 0)), (zz_r sy (o * 8) 8 (fun _ => -1)), (zz_n sm), (zz_n sn), (zz_n sa), (zz_n so), (zz_n T), (zz_n C), (zz_n Ly), (zz_n rn), ay, io, (zz_n si), bl)) : wpY_empty post ((nI c), cu, (nI b), (nI tl), (nI ml), (nI sl), (zz_n S), (zz_n B), (zz_n A), (zz_n N), (zz_n Fy), im, sy, (zz_n sm), (zz_n sn), (zz_n sa), (zz_n so), (zz_n T), (zz_n C), (zz_n Ly), (zz_n rn), ay, io, (zz_n si), bl) (nI o) := by
  have hi : vp_in (nI o) 8 := vp_in_nI ho (by decide)
  have K := zy_clr_l ho k 9 0 (by omega) (by omega)
  simp only [zz_r0] at K
  exact And.intro hi (nm_r (zz_wr (v := 0) S (by omega)) (And.intro hi (nm_r (zz_wr (v := 0) B (by omega)) (And.intro hi (nm_r (zz_wr (v := 1) A (by omega)) (And.intro hi (nm_r (zz_wr (v := 0) N (by omega)) ⟨9, K⟩)))))))
theorem zy_fil_l {post : SY → Prop} {t o : Nat} (ht : t < 4) (ho : o < 8) (k : post ((nI c), cu, (nI b), (nI tl), (nI ml), (nI sl), (zz_n S), (zz_n B), (zz_n A), (zz_n N), (zz_n Fy), im, sy, (zz_n sm), (zz_n sn), (zz_n sa), (zz_n so), (zz_n T), (zz_n C), (zz_n Ly), (zz_n rn), ay, io, (zz_n si), (zz_r bl (t * 64 + o * 8) 8 (fun x => im (o * 8 + x))))) : ∀ n i, i ≤ 8 → 8 < n + i → wY_fill_2 post (nI t) (nI o) (nI c) cu (nI b) (nI tl) (nI ml) (nI sl) n (nI i) (zz_n S) (zz_n B) (zz_n A) (zz_n N) (zz_n Fy) im sy (zz_n sm) (zz_n sn) (zz_n sa) (zz_n so) (zz_n T) (zz_n C) (zz_n Ly) (zz_n rn) ay io (zz_n si) (zz_r bl (t * 64 + o * 8) i (fun x => im (o * 8 + x))) := by
  intro n
  induction n with
  | zero => intro i h1 h2; omega
  | succ n ih =>
    intro i h1 h2
    refine pk_le 8 i (fun h => ?_) (fun h => ?_)
    · obtain rfl : i = 8 := by omega
      exact k
    · rw [zz_ib t o i, zz_ix o i, nI_clamp (n := o * 8 + i) (by omega), nI_clamp (n := t * 64 + o * 8 + i) (by omega)]
      exact ⟨vp_in_nI (by omega) (by decide), vp_in_nI (by omega) (by decide), nm_r zz_rs (nm_r (nI_1 i) (ih (i + 1) (by omega) (by omega)))⟩
theorem zy_fil {post : SY → Prop} {t o : Nat} (ht : t < 4) (ho : o < 8) (k : post ((nI c), cu, (nI b), (nI tl), (nI ml), (nI sl), (zz_n S), (zz_n B), (zz_n A), (zz_n N), (zz_n Fy), im, sy, (zz_n sm), (zz_n sn), (zz_n sa), (zz_n so), (zz_n T), (zz_n C), (zz_n Ly), (zz_n rn), ay, io, (zz_n si), (zz_r bl (t * 64 + o * 8) 8 (fun x => im (o * 8 + x))))) : wpY_fill post ((nI c), cu, (nI b), (nI tl), (nI ml), (nI sl), (zz_n S), (zz_n B), (zz_n A), (zz_n N), (zz_n Fy), im, sy, (zz_n sm), (zz_n sn), (zz_n sa), (zz_n so), (zz_n T), (zz_n C), (zz_n Ly), (zz_n rn), ay, io, (zz_n si), bl) (nI t) (nI o) := by
  have K := zy_fil_l ht ho k 9 0 (by omega) (by omega)
  simp only [zz_r0] at K
  exact ⟨9, K⟩
theorem zy_beg_l {post : SY → Prop} {t : Nat} (ht : t < 4) (hc : c ≤ 6) (hL : ∀ i, i < c → Ly i < 8)
    (k : ∀ bl', (∀ j, (j < t * 64 ∨ t * 64 + 64 ≤ j) → bl' j = bl j) → (∀ i, i < c → ∀ x, x < 8 → bl' (t * 64 + Ly i * 8 + x) = im (Ly i * 8 + x)) → post ((nI c), cu, (nI b), (nI tl), (nI ml), (nI sl), (zz_n S), (zz_n B), (zz_n A), (zz_n N), (zz_n Fy), im, sy, (zz_n sm), (zz_n sn), (zz_n sa), (zz_n so), (zz_n T), (zz_n C), (zz_n Ly), (zz_n rn), ay, io, (zz_n si), (bl'))) :
    ∀ n i bl1, i ≤ c → c < n + i → (∀ j, (j < t * 64 ∨ t * 64 + 64 ≤ j) → bl1 j = bl j) → (∀ i', i' < i → ∀ x, x < 8 → bl1 (t * 64 + Ly i' * 8 + x) = im (Ly i' * 8 + x)) → wY_begin_23 post (nI t) n (nI i) (nI c) cu (nI b) (nI tl) (nI ml) (nI sl) (zz_n S) (zz_n B) (zz_n A) (zz_n N) (zz_n Fy) im sy (zz_n sm) (zz_n sn) (zz_n sa) (zz_n so) (zz_n T) (zz_n C) (zz_n Ly) (zz_n rn) ay io (zz_n si) bl1 := by
  intro n
  induction n with
  | zero => intro i bl1 h1 h2; omega
  | succ n ih =>
    intro i bl1 h1 h2 ha hb
    refine pk_le c i (fun h => ?_) (fun h => ?_)
    · obtain rfl : i = c := by omega
      exact k bl1 ha hb
    · refine And.intro (vp_in_nI (by omega) (by decide)) ?_
      rw [zz_rd Ly i (by omega)]
      have hl := hL i h
      refine zy_fil ht hl (nm_r (nI_1 i) (ih (i + 1) _ (by omega) (by omega) ?_ ?_))
      · intro j hj
        rw [zz_ro (by omega)]
        exact ha j hj
      · intro i' hi' x hx
        have hl' := hL i' (by omega)
        by_cases e : Ly i' = Ly i
        · rw [e, zz_ri hx]
        · rw [zz_ro (by omega)]
          exact hb i' (by have : i' ≠ i := fun z => e (by rw [z]); omega) x hx
theorem zy_beg {post : SY → Prop} {t : Nat} (ht : t < 4) (hc : c ≤ 6) (hL : ∀ i, i < c → Ly i < 8)
    (k : ∀ bl', (∀ j, (j < t * 64 ∨ t * 64 + 64 ≤ j) → bl' j = bl j) → (∀ i, i < c → ∀ x, x < 8 → bl' (t * 64 + Ly i * 8 + x) = im (Ly i * 8 + x)) → post ((nI c), cu, (nI b), (nI tl), (nI ml), (nI sl), (zz_n S), (zz_n B), (zz_n A), (zz_n N), (zz_n Fy), im, sy, (zz_n sm), (zz_n sn), (zz_n sa), (zz_n so), (zz_n T), (zz_n C), (zz_n Ly), (zz_n (zz_u rn t 1)), (upd ay t 0), (upd io t (-1)), (zz_n si), (bl'))) : wpY_begin post ((nI c), cu, (nI b), (nI tl), (nI ml), (nI sl), (zz_n S), (zz_n B), (zz_n A), (zz_n N), (zz_n Fy), im, sy, (zz_n sm), (zz_n sn), (zz_n sa), (zz_n so), (zz_n T), (zz_n C), (zz_n Ly), (zz_n rn), ay, io, (zz_n si), bl) (nI t) := by
  have hi : vp_in (nI t) 4 := vp_in_nI ht (by decide)
  have K := zy_beg_l ht hc hL k (c + 1) 0 bl (by omega) (by omega) (fun j _ => rfl) (fun i' h => absurd h (by omega))
  refine And.intro hi (nm_r (e' := zz_n (zz_u rn t 1)) ?_ (And.intro hi (nm_r (zz_wa ay _ (by omega)) (And.intro hi (nm_r (zz_wa io _ (by omega)) ⟨c + 1, K⟩)))))
  rw [zz_b1]
  exact zz_wr (v := 1) rn (by omega)
end ZYS
end
section
section ZXT
/-! the component: threads, modules, relocation, vectors -/
variable {tl ml sl b c g : Nat} {cu : Int32} {S B A N sm sn sa so T C R Q L F M G rn D : Nat → Nat} {im sy tp ow ins pc ac dt me : Nat → Int32}
theorem zx_sth_l {post : SX → Prop} {t : Nat} (ht : t < 4) (hc : c ≤ 6) (hL : ∀ i, i < c → L i < 8) (hS : ∀ o, o < 8 → S o ≤ 5 ∧ B o ≤ 8)
    (hF : ∀ o, o < 8 → 4 ≤ S o → B o ≤ F o ∧ F o ≤ 32) (hD : ∀ o p, o < 8 → p < 8 → 4 ≤ S o → 4 ≤ S p → o ≠ p → F p + B o ≤ F o ∨ F o + B p ≤ F p)
    (k : ∀ me', (∀ j, (j < t * 80 ∨ t * 80 + 32 ≤ j) → me' j = me j) → (∀ i, i < c → 4 ≤ S (L i) → ∀ x, x < B (L i) → me' (t * 80 + 32 - F (L i) + x) = im (L i * 8 + x)) → post ((nI tl), (nI ml), (nI sl), cu, (nI b), (nI c), (lN g), (zz_n S), (zz_n B), (zz_n A), (zz_n N), im, sy, (zz_n sm), (zz_n sn), (zz_n sa), (zz_n so), (zz_n T), (zz_n C), (zz_n R), (zz_n Q), tp, (zz_n L), (zz_n F), (zz_n M), ow, (zz_l G), (zz_n rn), ins, pc, ac, (zz_l D), dt, (me'))) :
    ∀ n i me1, i ≤ c → c < n + i → (∀ j, (j < t * 80 ∨ t * 80 + 32 ≤ j) → me1 j = me j) → (∀ i', i' < i → 4 ≤ S (L i') → ∀ x, x < B (L i') → me1 (t * 80 + 32 - F (L i') + x) = im (L i' * 8 + x)) → wX_startThread_45 post (nI t) n (nI i) (nI tl) (nI ml) (nI sl) cu (nI b) (nI c) (lN g) (zz_n S) (zz_n B) (zz_n A) (zz_n N) im sy (zz_n sm) (zz_n sn) (zz_n sa) (zz_n so) (zz_n T) (zz_n C) (zz_n R) (zz_n Q) tp (zz_n L) (zz_n F) (zz_n M) ow (zz_l G) (zz_n rn) ins pc ac (zz_l D) dt me1 := by
  intro n
  induction n with
  | zero => intro i me1 h1 h2; omega
  | succ n ih =>
    intro i me1 h1 h2 ha hb
    refine pk_le c i (fun h => ?_) (fun h => ?_)
    · obtain rfl : i = c := by omega
      exact k me1 ha hb
    · refine And.intro (vp_in_nI (by omega) (by decide)) ?_
      rw [zz_rd L i (by omega)]
      have hl := hL i h
      obtain ⟨h5, hB8⟩ := hS (L i) hl
      by_cases h4 : 4 ≤ S (L i)
      · obtain ⟨f1, f2⟩ := hF (L i) hl h4
        refine zx_hs1 hl h4 h5 (br_f (by decide) (And.intro (vp_in_nI (by omega) (by decide)) (zx_fst hl f1 f2 hB8 ht (nm_r (nI_1 i) (ih (i + 1) _ (by omega) (by omega) ?_ ?_)))))
        · intro j hj
          rw [zz_ro (by omega)]
          exact ha j hj
        · intro i' hi' h4' x hx
          have hl' := hL i' (by omega)
          by_cases e : L i' = L i
          · rw [e] at hx ⊢
            rw [zz_ri hx]
          · have d := hD (L i') (L i) hl' hl h4' h4 e
            have f1' := hF (L i') hl' h4'
            rw [zz_ro (by omega)]
            exact hb i' (by have : i' ≠ i := fun z => e (by rw [z]); omega) h4' x hx
      · refine zx_hs0 hl (by omega) (br_t rfl (nm_r (nI_1 i) (ih (i + 1) _ (by omega) (by omega) ha ?_)))
        intro i' hi' h4' x hx
        by_cases e : i' = i
        · subst e; exact absurd h4' h4
        · exact hb i' (by omega) h4' x hx
theorem zx_sth_9 {post : SX → Prop} {t : Nat} (ht : t < 4)
    (k : wX_startThread_45 post (nI t) (c + 1) 0 (nI tl) (nI ml) (nI sl) cu (nI b) (nI c) (lN g) (zz_n S) (zz_n B) (zz_n A) (zz_n N) im sy (zz_n sm) (zz_n sn) (zz_n sa) (zz_n so) (zz_n T) (zz_n C) (zz_n R) (zz_n Q) tp (zz_n L) (zz_n F) (zz_n M) ow (zz_l G) (zz_n rn) ins pc ac (zz_l (zz_u D t g)) (zz_r dt (t * 6) 6 (fun _ => -1)) me) :
    ∀ n i, i ≤ 6 → 6 < n + i → wX_startThread_9 post (nI t) (nI tl) (nI ml) (nI sl) cu (nI b) (nI c) (lN g) n (nI i) (zz_n S) (zz_n B) (zz_n A) (zz_n N) im sy (zz_n sm) (zz_n sn) (zz_n sa) (zz_n so) (zz_n T) (zz_n C) (zz_n R) (zz_n Q) tp (zz_n L) (zz_n F) (zz_n M) ow (zz_l G) (zz_n rn) ins pc ac (zz_l D) (zz_r dt (t * 6) i (fun _ => -1)) me := by
  intro n
  induction n with
  | zero => intro i h1 h2; omega
  | succ n ih =>
    intro i h1 h2
    refine pk_le 6 i (fun h => ?_) (fun h => ?_)
    · obtain rfl : i = 6 := by omega
      exact And.intro (vp_in_nI ht (by decide)) (nm_r (zz_wl D (by omega)) ⟨c + 1, k⟩)
    · rw [zz_i6 t i, nI_clamp (n := t * 6 + i) (by omega)]
      exact ⟨vp_in_nI (by omega) (by decide), nm_r zz_rs (nm_r (nI_1 i) (ih (i + 1) (by omega) (by omega)))⟩
theorem zx_sth {post : SX → Prop} {t : Nat} (ht : t < 4) (hc : c ≤ 6) (hL : ∀ i, i < c → L i < 8) (hS : ∀ o, o < 8 → S o ≤ 5 ∧ B o ≤ 8)
    (hF : ∀ o, o < 8 → 4 ≤ S o → B o ≤ F o ∧ F o ≤ 32) (hD : ∀ o p, o < 8 → p < 8 → 4 ≤ S o → 4 ≤ S p → o ≠ p → F p + B o ≤ F o ∨ F o + B p ≤ F p)
    (k : ∀ me', (∀ j, (j < t * 80 ∨ t * 80 + 32 ≤ j) → me' j = me j) → (∀ i, i < c → 4 ≤ S (L i) → ∀ x, x < B (L i) → me' (t * 80 + 32 - F (L i) + x) = im (L i * 8 + x)) → post ((nI tl), (nI ml), (nI sl), cu, (nI b), (nI c), (lN g), (zz_n S), (zz_n B), (zz_n A), (zz_n N), im, sy, (zz_n sm), (zz_n sn), (zz_n sa), (zz_n so), (zz_n T), (zz_n C), (zz_n R), (zz_n Q), tp, (zz_n L), (zz_n F), (zz_n M), ow, (zz_l G), (zz_n (zz_u rn t 1)), ins, pc, ac, (zz_l (zz_u D t g)), (zz_r dt (t * 6) 6 (fun _ => -1)), (me'))) :
    wpX_startThread post ((nI tl), (nI ml), (nI sl), cu, (nI b), (nI c), (lN g), (zz_n S), (zz_n B), (zz_n A), (zz_n N), im, sy, (zz_n sm), (zz_n sn), (zz_n sa), (zz_n so), (zz_n T), (zz_n C), (zz_n R), (zz_n Q), tp, (zz_n L), (zz_n F), (zz_n M), ow, (zz_l G), (zz_n rn), ins, pc, ac, (zz_l D), dt, me) (nI t) := by
  have K := zx_sth_9 ht (zx_sth_l ht hc hL hS hF hD k (c + 1) 0 me (by omega) (by omega) (fun _ _ => rfl) (fun i' h => absurd h (by omega))) 7 0 (by omega) (by omega)
  simp only [zz_r0] at K
  refine And.intro (vp_in_nI ht (by decide)) (nm_r (e' := zz_n (zz_u rn t 1)) ?_ ⟨7, K⟩)
  rw [zz_b1]
  exact zz_wr (v := 1) rn (by omega)
theorem zx_free_l {post : Int32 → Prop} {m : Nat} (hm : m < 6) (e : ow m = -1) (hlt : ∀ j, j < m → 0 ≤ ow j) (k : post (nI m)) : ∀ n i, i ≤ m → m < n + i → wX_freeModule_2 post (nI tl) (nI ml) (nI sl) cu (nI b) (nI c) (lN g) (zz_n S) (zz_n B) (zz_n A) (zz_n N) im sy (zz_n sm) (zz_n sn) (zz_n sa) (zz_n so) (zz_n T) (zz_n C) (zz_n R) (zz_n Q) tp (zz_n L) (zz_n F) (zz_n M) ow (zz_l G) (zz_n rn) ins pc ac (zz_l D) dt me n (nI i) := by
  intro n
  induction n with
  | zero => intro i h1 h2; omega
  | succ n ih =>
    intro i h1 h2
    refine pk_le 6 i (fun h => absurd h (by omega)) (fun h => ?_)
    rw [zz_ra ow i (by omega)]
    refine And.intro (vp_in_nI (by omega) (by decide)) ?_
    by_cases z : i = m
    · subst z; exact br_f (by rw [e]; exact zz_n1g) k
    · exact br_t (hlt i (by omega)) (nm_r (nI_1 i) (ih (i + 1) (by omega) (by omega)))
theorem zx_inst {post : SX → Prop} {m o : Nat} (ho : o < 8) (hm : m < 6) (e : ow m = -1) (hlt : ∀ j, j < m → 0 ≤ ow j)
    (k : post ((nI tl), (nI ml), (nI sl), cu, (nI b), (nI c), (lN (g + 1)), (zz_n S), (zz_n B), (zz_n A), (zz_n N), im, sy, (zz_n sm), (zz_n sn), (zz_n sa), (zz_n so), (zz_n T), (zz_n C), (zz_n R), (zz_n Q), tp, (zz_n L), (zz_n F), (zz_n (zz_u M o m)), (upd ow m (nI o)), (zz_l (zz_u G m (g + 1))), (zz_n rn), ins, pc, ac, (zz_l D), dt, me)) : wpX_installModule post ((nI tl), (nI ml), (nI sl), cu, (nI b), (nI c), (lN g), (zz_n S), (zz_n B), (zz_n A), (zz_n N), im, sy, (zz_n sm), (zz_n sn), (zz_n sa), (zz_n so), (zz_n T), (zz_n C), (zz_n R), (zz_n Q), tp, (zz_n L), (zz_n F), (zz_n M), ow, (zz_l G), (zz_n rn), ins, pc, ac, (zz_l D), dt, me) (nI o) :=
  ⟨7, zx_free_l hm e hlt (nm_r (lN_1 g) (And.intro (vp_in_nI hm (by decide)) (nm_r (zz_wa ow _ (by omega)) (And.intro (vp_in_nI ho (by decide)) (nm_r (zz_wr M (by omega)) (And.intro (vp_in_nI hm (by decide)) (nm_r (zz_wl G (by omega)) k))))))) 7 0 (by omega) (by omega)⟩
theorem zx_cm17 {post : Int32 → Prop} {o t : Nat} (ho : o < 8) (ht : t < 8) (h5 : S t ≤ 5) (k : post (nI (if 4 ≤ S t then 2 else if t = o then 1 else 0))) : wX_cheapestModel_17 post (nI o) (nI t) (nI tl) (nI ml) (nI sl) cu (nI b) (nI c) (lN g) (zz_n S) (zz_n B) (zz_n A) (zz_n N) im sy (zz_n sm) (zz_n sn) (zz_n sa) (zz_n so) (zz_n T) (zz_n C) (zz_n R) (zz_n Q) tp (zz_n L) (zz_n F) (zz_n M) ow (zz_l G) (zz_n rn) ins pc ac (zz_l D) dt me := by
  by_cases h4 : 4 ≤ S t
  · rw [if_pos h4] at k
    exact zx_hs1 ht h4 h5 (br_f (by decide) k)
  · rw [if_neg h4] at k
    refine zx_hs0 ht (by omega) (br_t rfl (pk_eq t o (fun e => ?_) (fun e => ?_)))
    · rw [if_pos e] at k; exact k
    · rw [if_neg e] at k; exact k
theorem zx_cm {post : Int32 → Prop} {o t : Nat} (ho : o < 8) (ht : t < 8) (hl : L 0 < 8) (h5 : S t ≤ 5) (k : post (nI (zz_ch (L 0) S o t))) : wpX_cheapestModel post ((nI tl), (nI ml), (nI sl), cu, (nI b), (nI c), (lN g), (zz_n S), (zz_n B), (zz_n A), (zz_n N), im, sy, (zz_n sm), (zz_n sn), (zz_n sa), (zz_n so), (zz_n T), (zz_n C), (zz_n R), (zz_n Q), tp, (zz_n L), (zz_n F), (zz_n M), ow, (zz_l G), (zz_n rn), ins, pc, ac, (zz_l D), dt, me) (nI o) (nI t) := by
  unfold zz_ch at k
  refine pk_eq (L 0) o (fun e => pk_eq t o (fun e2 => ?_) (fun e2 => ?_)) (fun e => ?_)
  · rw [if_pos ⟨e, e2⟩] at k; exact k
  · rw [if_neg (fun z => e2 z.2)] at k; exact zx_cm17 ho ht h5 k
  · rw [if_neg (fun z => e z.1)] at k; exact zx_cm17 ho ht h5 k
theorem zx_rel_l {post : SX → Prop} {o : Nat} (ho : o < 8) (hl : L 0 < 8) (hN : N o ≤ 8) (hT : ∀ s, s < N o → T (o * 8 + s) < 8 ∧ S (T (o * 8 + s)) ≤ 5)
    (k : post ((nI tl), (nI ml), (nI sl), cu, (nI b), (nI c), (lN g), (zz_n S), (zz_n B), (zz_n A), (zz_n N), im, sy, (zz_n sm), (zz_n sn), (zz_n sa), (zz_n so), (zz_n T), (zz_n C), (zz_n (zz_q R (o * 8) (N o) (fun s => zz_ch (L 0) S o (T (o * 8 + s))))), (zz_n (zz_q Q (o * 8) (N o) (fun s => M (T (o * 8 + s))))), (zz_r tp (o * 8) (N o) (fun s => nI (C (o * 8 + s)) - nI (F (T (o * 8 + s))))), (zz_n L), (zz_n F), (zz_n M), ow, (zz_l G), (zz_n rn), ins, pc, ac, (zz_l D), dt, me)) :
    ∀ n i, i ≤ N o → N o < n + i → wX_relocate_2 post (nI o) (nI tl) (nI ml) (nI sl) cu (nI b) (nI c) (lN g) n (nI i) (zz_n S) (zz_n B) (zz_n A) (zz_n N) im sy (zz_n sm) (zz_n sn) (zz_n sa) (zz_n so) (zz_n T) (zz_n C) (zz_n (zz_q R (o * 8) i (fun s => zz_ch (L 0) S o (T (o * 8 + s))))) (zz_n (zz_q Q (o * 8) i (fun s => M (T (o * 8 + s))))) (zz_r tp (o * 8) i (fun s => nI (C (o * 8 + s)) - nI (F (T (o * 8 + s))))) (zz_n L) (zz_n F) (zz_n M) ow (zz_l G) (zz_n rn) ins pc ac (zz_l D) dt me := by
  intro n
  induction n with
  | zero => intro i h1 h2; omega
  | succ n ih =>
    intro i h1 h2
    refine And.intro (vp_in_nI ho (by decide)) ?_
    rw [zz_rd N o (by omega)]
    refine pk_le (N o) i (fun h => ?_) (fun h => ?_)
    · obtain rfl : i = N o := by omega
      exact k
    · obtain ⟨ht, h5⟩ := hT i h
      have hv : vp_in (nI (o * 8 + i)) 64 := vp_in_nI (by omega) (by decide)
      have hw : vp_in (nI (T (o * 8 + i))) 8 := vp_in_nI ht (by decide)
      refine nm_r (zz_ix o i) (And.intro hv (nm_r (zz_rd T (o * 8 + i) (by omega)) ?_))
      refine zx_cm ho ht hl h5 ?_
      refine And.intro hv (nm_r (e' := zz_n (zz_q R (o * 8) (i + 1) (fun s => zz_ch (L 0) S o (T (o * 8 + s))))) ?_ (And.intro hw (And.intro hv (nm_r (e' := zz_n (zz_q Q (o * 8) (i + 1) (fun s => M (T (o * 8 + s))))) ?_ (And.intro hv (And.intro hw (And.intro hv (nm_r (e' := zz_r tp (o * 8) (i + 1) (fun s => nI (C (o * 8 + s)) - nI (F (T (o * 8 + s))))) ?_ (nm_r (nI_1 i) (ih (i + 1) (by omega) (by omega)))))))))))
      · rw [nI_clamp (n := o * 8 + i) (by omega), zz_w0]
        exact congrArg zz_n zz_qs
      · rw [zz_rd M (T (o * 8 + i)) (by omega), nI_clamp (n := o * 8 + i) (by omega), zz_w0]
        exact congrArg zz_n zz_qs
      · rw [zz_rd C (o * 8 + i) (by omega), zz_rd F (T (o * 8 + i)) (by omega), nI_clamp (n := o * 8 + i) (by omega)]
        exact zz_rs
theorem zx_rel {post : SX → Prop} {o : Nat} (ho : o < 8) (hl : L 0 < 8) (hN : N o ≤ 8) (hT : ∀ s, s < N o → T (o * 8 + s) < 8 ∧ S (T (o * 8 + s)) ≤ 5)
    (k : post ((nI tl), (nI ml), (nI sl), cu, (nI b), (nI c), (lN g), (zz_n S), (zz_n B), (zz_n A), (zz_n N), im, sy, (zz_n sm), (zz_n sn), (zz_n sa), (zz_n so), (zz_n T), (zz_n C), (zz_n (zz_q R (o * 8) (N o) (fun s => zz_ch (L 0) S o (T (o * 8 + s))))), (zz_n (zz_q Q (o * 8) (N o) (fun s => M (T (o * 8 + s))))), (zz_r tp (o * 8) (N o) (fun s => nI (C (o * 8 + s)) - nI (F (T (o * 8 + s))))), (zz_n L), (zz_n F), (zz_n M), ow, (zz_l G), (zz_n rn), ins, pc, ac, (zz_l D), dt, me)) : wpX_relocate post ((nI tl), (nI ml), (nI sl), cu, (nI b), (nI c), (lN g), (zz_n S), (zz_n B), (zz_n A), (zz_n N), im, sy, (zz_n sm), (zz_n sn), (zz_n sa), (zz_n so), (zz_n T), (zz_n C), (zz_n R), (zz_n Q), tp, (zz_n L), (zz_n F), (zz_n M), ow, (zz_l G), (zz_n rn), ins, pc, ac, (zz_l D), dt, me) (nI o) := by
  have K := zx_rel_l ho hl hN hT k (N o + 1) 0 (by omega) (by omega)
  simp only [zz_r0, zz_q0] at K
  exact ⟨N o + 1, K⟩
/-! dynamic vectors -/
def zz_rf (dt : Nat → Int32) (G D : Nat → Nat) (t n : Nat) : Nat → Int32 := fun j => if t * 6 ≤ j ∧ j < t * 6 + n ∧ D t < G (j - t * 6) then -1 else dt j
theorem zz_rf0 {t : Nat} : zz_rf dt G D t 0 = dt := by funext j; exact if_neg (by omega)
theorem zz_rf_o {t n j : Nat} (h : j < t * 6 ∨ t * 6 + n ≤ j) : zz_rf dt G D t n j = dt j := if_neg (by omega)
theorem zz_rf_i {t n m : Nat} (h : m < n) : zz_rf dt G D t n (t * 6 + m) = if D t < G m then -1 else dt (t * 6 + m) := by
  unfold zz_rf
  rw [show t * 6 + m - t * 6 = m by omega]
  by_cases z : D t < G m
  · rw [if_pos z, if_pos ⟨by omega, by omega, z⟩]
  · rw [if_neg z, if_neg (fun y => z y.2.2)]
theorem zz_rf_1 {t n : Nat} (h : D t < G n) : upd (zz_rf dt G D t n) (t * 6 + n) (-1) = zz_rf dt G D t (n + 1) := by
  funext j
  by_cases e : j = t * 6 + n
  · subst e; rw [pk_us, zz_rf_i (by omega), if_pos h]
  · rw [pk_un e]
    by_cases h2 : t * 6 ≤ j ∧ j < t * 6 + n
    · obtain ⟨x, rfl⟩ : ∃ x, j = t * 6 + x := ⟨j - t * 6, by omega⟩
      rw [zz_rf_i (by omega), zz_rf_i (by omega)]
    · rw [zz_rf_o (by omega), zz_rf_o (by omega)]
theorem zz_rf_2 {t n : Nat} (h : G n ≤ D t) : zz_rf dt G D t n = zz_rf dt G D t (n + 1) := by
  funext j
  by_cases h2 : t * 6 ≤ j ∧ j < t * 6 + (n + 1)
  · obtain ⟨x, rfl⟩ : ∃ x, j = t * 6 + x := ⟨j - t * 6, by omega⟩
    rw [zz_rf_i (n := n + 1) (by omega)]
    by_cases e : x = n
    · subst e; rw [zz_rf_o (by omega), if_neg (by omega)]
    · rw [zz_rf_i (by omega)]
  · rw [zz_rf_o (by omega), zz_rf_o (by omega)]
theorem zx_rv_l {post : SX → Prop} {t : Nat} (ht : t < 4) (hg : g < 2 ^ 30) (hG : ∀ m, m < 6 → G m ≤ g) (hD : D t ≤ g) (k : post ((nI tl), (nI ml), (nI sl), cu, (nI b), (nI c), (lN g), (zz_n S), (zz_n B), (zz_n A), (zz_n N), im, sy, (zz_n sm), (zz_n sn), (zz_n sa), (zz_n so), (zz_n T), (zz_n C), (zz_n R), (zz_n Q), tp, (zz_n L), (zz_n F), (zz_n M), ow, (zz_l G), (zz_n rn), ins, pc, ac, (zz_l (zz_u D t g)), (zz_rf dt G D t 6), me)) : ∀ n i, i ≤ 6 → 6 < n + i → wX_refreshVector_17 post (nI t) (nI tl) (nI ml) (nI sl) cu (nI b) (nI c) (lN g) n (nI i) (zz_n S) (zz_n B) (zz_n A) (zz_n N) im sy (zz_n sm) (zz_n sn) (zz_n sa) (zz_n so) (zz_n T) (zz_n C) (zz_n R) (zz_n Q) tp (zz_n L) (zz_n F) (zz_n M) ow (zz_l G) (zz_n rn) ins pc ac (zz_l D) (zz_rf dt G D t i) me := by
  intro n
  induction n with
  | zero => intro i h1 h2; omega
  | succ n ih =>
    intro i h1 h2
    refine pk_le 6 i (fun h => ?_) (fun h => ?_)
    · obtain rfl : i = 6 := by omega
      exact And.intro (vp_in_nI ht (by decide)) (nm_r (zz_wl D (by omega)) k)
    · have hGi := hG i h
      rw [zz_rl G i (by omega), zz_rl D t (by omega), zz_i6 t i, nI_clamp (n := t * 6 + i) (by omega), lN_le (by omega) (by omega)]
      refine And.intro (vp_in_nI h (by decide)) (And.intro (vp_in_nI ht (by decide)) ?_)
      by_cases z : G i ≤ D t
      · refine br_t z (nm_r (nI_1 i) ?_)
        rw [zz_rf_2 z]
        exact ih (i + 1) (by omega) (by omega)
      · exact br_f z (And.intro (vp_in_nI (by omega) (by decide)) (nm_r (zz_rf_1 (by omega)) (nm_r (nI_1 i) (ih (i + 1) (by omega) (by omega)))))
theorem zx_rv {post : SX → Prop} {t : Nat} (ht : t < 4) (hg : g < 2 ^ 30) (hG : ∀ m, m < 6 → G m ≤ g) (hD : D t ≤ g) (k : post ((nI tl), (nI ml), (nI sl), cu, (nI b), (nI c), (lN g), (zz_n S), (zz_n B), (zz_n A), (zz_n N), im, sy, (zz_n sm), (zz_n sn), (zz_n sa), (zz_n so), (zz_n T), (zz_n C), (zz_n R), (zz_n Q), tp, (zz_n L), (zz_n F), (zz_n M), ow, (zz_l G), (zz_n rn), ins, pc, ac, (zz_l (zz_u D t g)), (zz_rf dt G D t 6), me)) : wpX_refreshVector post ((nI tl), (nI ml), (nI sl), cu, (nI b), (nI c), (lN g), (zz_n S), (zz_n B), (zz_n A), (zz_n N), im, sy, (zz_n sm), (zz_n sn), (zz_n sa), (zz_n so), (zz_n T), (zz_n C), (zz_n R), (zz_n Q), tp, (zz_n L), (zz_n F), (zz_n M), ow, (zz_l G), (zz_n rn), ins, pc, ac, (zz_l D), dt, me) (nI t) := by
  refine And.intro (vp_in_nI ht (by decide)) ?_
  rw [zz_rl D t (by omega), lN_eq (by omega) (by omega)]
  by_cases z : D t = g
  · refine br_t z ?_
    have e1 : zz_u D t g = D := by
      funext j
      by_cases e : j = t
      · subst e; rw [zz_us, z]
      · rw [zz_un e]
    have e2 : zz_rf dt G D t 6 = dt := by
      funext j
      refine if_neg (fun y => ?_)
      have := hG (j - t * 6) (by omega)
      omega
    rw [e1, e2] at k
    exact k
  · have K := zx_rv_l ht hg hG hD k 7 0 (by omega) (by omega)
    rw [zz_rf0] at K
    exact br_f z ⟨7, K⟩
end ZXT
end
section
section ZG
/-! the getters -/
variable {tl ml sl b c g : Nat} {cu : Int32} {S B A N sm sn sa so T C R Q L F M G rn D Fy Ly si : Nat → Nat} {im sy tp ow ins pc ac dt me ay io bl : Nat → Int32}
theorem zz_10 : ¬ (1 : Int32) = 0 := by decide
theorem zz_le7 {o : Nat} (h : o < 8) : nI o ≤ 7 := nI_le (b := 7) (by omega) (by decide)
theorem zz_nlt7 {o : Nat} (h : o < 8) : ¬ 7 < nI o := nI_nlt (a := 7) (by omega) (by decide)
theorem i_vc_symbolOffset {k : Nat} {u : SX} {v : SY} (I : i_Rel k u v) (hk : k + 5 ≤ 2563) (v1 : Int32) (v2 : Int32) : wpX_symbolOffset (fun r => wpY_symbolOffset (fun r' => r' = r ∧ i_Rel (k + 5) u v) v v1 v2) u v1 v2 := by
  refine zz_el (P := fun u v => wpX_symbolOffset (fun r => wpY_symbolOffset (fun r' => r' = r ∧ i_Rel (k + 5) u v) v v1 v2) u v1 v2) ?_ I
  intro tl ml sl b c g cu S B A N sm sn sa so T C R Q L F M G rn D Fy Ly si im sy tp ow ins pc ac dt me ay io bl h1 h2 h3
  have J : i_Rel (k + 5) ((nI tl), (nI ml), (nI sl), cu, (nI b), (nI c), (lN g), (zz_n S), (zz_n B), (zz_n A), (zz_n N), im, sy, (zz_n sm), (zz_n sn), (zz_n sa), (zz_n so), (zz_n T), (zz_n C), (zz_n R), (zz_n Q), tp, (zz_n L), (zz_n F), (zz_n M), ow, (zz_l G), (zz_n rn), ins, pc, ac, (zz_l D), dt, me) ((nI c), cu, (nI b), (nI tl), (nI ml), (nI sl), (zz_n S), (zz_n B), (zz_n A), (zz_n N), (zz_n Fy), im, sy, (zz_n sm), (zz_n sn), (zz_n sa), (zz_n so), (zz_n T), (zz_n C), (zz_n Ly), (zz_n rn), ay, io, (zz_n si), bl) := zz_mk (zz_Bk h1 (by omega)) h2 h3
  unfold wpX_symbolOffset
  rcases pk_ix v1 (n := 8) (by decide) with h | h | ⟨o, ho, rfl⟩
  · exact zx_obj0 (Or.inl h) (br_t rfl (br_t h ⟨rfl, J⟩))
  · exact zx_obj0 (Or.inr h) (br_t rfl (br_f (zz_ge0 (n := 8) (by decide) h) (br_t (zz_gt (n := 7) (by decide) h).1 ⟨rfl, J⟩)))
  · refine zx_obj1 ho (br_f zz_10 ?_)
    have hp : ¬ nI o < 0 := nI_pos (by omega)
    rcases pk_ix v2 (n := 8) (by decide) with h | h | ⟨n, hn, rfl⟩
    · exact br_t h (br_f hp (br_f (zz_nlt7 ho) (br_t h ⟨rfl, J⟩)))
    · have h7 := (zz_gt (n := 7) (by decide) h).2.1
      have h0 := zz_ge0 (n := 8) (by decide) h
      exact br_f h0 (br_f h7 (br_f hp (br_f (zz_nlt7 ho) (br_f h0 (br_f h7 ⟨rfl, J⟩)))))
    · have h0 : ¬ nI n < 0 := nI_pos (by omega)
      have hv : vp_in (nI o * 8 + nI n) 64 := by rw [zz_ix]; exact vp_in_nI (by omega) (by decide)
      exact br_f h0 (br_t (zz_le7 hn) (And.intro hv (br_f hp (br_f (zz_nlt7 ho) (br_f h0 (br_t (zz_le7 hn) (And.intro hv ⟨rfl, J⟩)))))))
theorem i_vc_threadInfo {k : Nat} {u : SX} {v : SY} (I : i_Rel k u v) (hk : k + 5 ≤ 2563) (v1 : Int32) (v2 : Int32) : wpX_threadInfo (fun r => wpY_threadInfo (fun r' => r' = r ∧ i_Rel (k + 5) u v) v v1 v2) u v1 v2 := by
  refine zz_el (P := fun u v => wpX_threadInfo (fun r => wpY_threadInfo (fun r' => r' = r ∧ i_Rel (k + 5) u v) v v1 v2) u v1 v2) ?_ I
  intro tl ml sl b c g cu S B A N sm sn sa so T C R Q L F M G rn D Fy Ly si im sy tp ow ins pc ac dt me ay io bl h1 h2 h3
  have J : i_Rel (k + 5) ((nI tl), (nI ml), (nI sl), cu, (nI b), (nI c), (lN g), (zz_n S), (zz_n B), (zz_n A), (zz_n N), im, sy, (zz_n sm), (zz_n sn), (zz_n sa), (zz_n so), (zz_n T), (zz_n C), (zz_n R), (zz_n Q), tp, (zz_n L), (zz_n F), (zz_n M), ow, (zz_l G), (zz_n rn), ins, pc, ac, (zz_l D), dt, me) ((nI c), cu, (nI b), (nI tl), (nI ml), (nI sl), (zz_n S), (zz_n B), (zz_n A), (zz_n N), (zz_n Fy), im, sy, (zz_n sm), (zz_n sn), (zz_n sa), (zz_n so), (zz_n T), (zz_n C), (zz_n Ly), (zz_n rn), ay, io, (zz_n si), bl) := zz_mk (zz_Bk h1 (by omega)) h2 h3
  obtain ⟨t2, t4, _⟩ := h1
  unfold wpX_threadInfo
  rcases pk_ix v1 (n := tl) (by omega) with h | h | ⟨t, ht, rfl⟩
  · exact zx_thr0 t4 (Or.inl h) (br_t rfl (br_t h ⟨rfl, J⟩))
  · exact zx_thr0 t4 (Or.inr h) (br_t rfl (br_f (zz_ge0 (n := tl) (by omega) h) (br_t h ⟨rfl, J⟩)))
  · refine zx_thr1 t4 ht (br_f zz_10 ?_)
    have hp : ¬ nI t < 0 := nI_pos (by omega)
    have hq : ¬ nI tl ≤ nI t := nI_ge ht (by omega)
    have hv : vp_in (nI t) 4 := vp_in_nI (by omega) (by decide)
    rcases pk_ix v2 (n := 4) (by decide) with h | h | ⟨w, hw, rfl⟩
    · exact br_t h (br_f hp (br_f hq (br_t h ⟨rfl, J⟩)))
    · have h7 := (zz_gt (n := 3) (by decide) h).2.1
      have h0 := zz_ge0 (n := 4) (by decide) h
      exact br_f h0 (br_f h7 (br_f hp (br_f hq (br_f h0 (br_f h7 ⟨rfl, J⟩)))))
    · have h0 : ¬ nI w < 0 := nI_pos (by omega)
      have h3' : nI w ≤ 3 := nI_le (b := 3) (by omega) (by decide)
      refine br_f h0 (br_t h3' ?_)
      have er : zz_n rn (nI t).toNatClampNeg = nI (rn t) := zz_rd rn t (by omega)
      have ei : ins (nI t).toNatClampNeg = ins t := zz_ra ins t (by omega)
      have ep : pc (nI t).toNatClampNeg = pc t := zz_ra pc t (by omega)
      have ea : ac (nI t).toNatClampNeg = ac t := zz_ra ac t (by omega)
      have eo : io (nI t).toNatClampNeg = io t := zz_ra io t (by omega)
      have ey : ay (nI t).toNatClampNeg = ay t := zz_ra ay t (by omega)
      have es : zz_n si (nI t).toNatClampNeg = nI (si t) := zz_rd si t (by omega)
      have w4 : w = 0 ∨ w = 1 ∨ w = 2 ∨ w = 3 := by omega
      rcases h3.2.2.2.2.2.1.1 t (by omega) with ⟨q1, q2, q3, q4⟩ | ⟨q1, q2, q3, q4⟩
      · have er0 : zz_n rn (nI t).toNatClampNeg = 0 := by rw [er, q1]; rfl
        rcases w4 with rfl | rfl | rfl | rfl
        · exact br_t rfl (And.intro hv (br_t er0 (br_f hp (br_f hq (br_f h0 (br_t h3' (br_t rfl (And.intro hv (br_t er0 ⟨rfl, J⟩)))))))))
        · exact br_f (by decide) (br_t rfl (And.intro hv (br_f hp (br_f hq (br_f h0 (br_t h3' (br_f (by decide) (br_f (by decide) (And.intro hv (br_t er0 ⟨by rw [ei, q2], J⟩))))))))))
        · exact br_f (by decide) (br_f (by decide) (br_t rfl (And.intro hv (br_f hp (br_f hq (br_f h0 (br_t h3' (br_f (by decide) (br_f (by decide) (And.intro hv (br_t er0 ⟨by rw [ep, q3], J⟩)))))))))))
        · exact br_f (by decide) (br_f (by decide) (br_f (by decide) (And.intro hv (br_f hp (br_f hq (br_f h0 (br_t h3' (br_f (by decide) (br_t rfl (And.intro hv (br_t er0 ⟨by rw [ea, q4], J⟩)))))))))))
      · have er0 : ¬ zz_n rn (nI t).toNatClampNeg = 0 := by rw [er, q1]; decide
        rcases w4 with rfl | rfl | rfl | rfl
        · exact br_t rfl (And.intro hv (br_f er0 (br_f hp (br_f hq (br_f h0 (br_t h3' (br_t rfl (And.intro hv (br_f er0 ⟨rfl, J⟩)))))))))
        · refine br_f (by decide) (br_t rfl (And.intro hv (br_f hp (br_f hq (br_f h0 (br_t h3' (br_f (by decide) (br_f (by decide) (And.intro hv (br_f er0 (And.intro hv ?_)))))))))))
          rw [eo, q3, ei]
          rcases q4 with ⟨z, _⟩ | ⟨o, ho, z, _⟩
          · rw [z]; exact br_f zz_n1g ⟨rfl, J⟩
          · rw [z]; exact br_t (nI_pos' (by omega)) (br_t rfl (And.intro hv ⟨rfl, J⟩))
        · refine br_f (by decide) (br_f (by decide) (br_t rfl (And.intro hv (br_f hp (br_f hq (br_f h0 (br_t h3' (br_f (by decide) (br_f (by decide) (And.intro hv (br_f er0 (And.intro hv ?_))))))))))))
          rw [eo, q3, ep, es]
          rcases q4 with ⟨z, z2⟩ | ⟨o, ho, z, z1, z2, z3⟩
          · rw [z, z2]; exact br_f zz_n1g ⟨rfl, J⟩
          · rw [z, z3]; exact br_t (nI_pos' (by omega)) (br_f (by decide) (And.intro hv ⟨rfl, J⟩))
        · exact br_f (by decide) (br_f (by decide) (br_f (by decide) (And.intro hv (br_f hp (br_f hq (br_f h0 (br_t h3' (br_f (by decide) (br_t rfl (And.intro hv (br_f er0 (And.intro hv ⟨by rw [ey, ea, q2], J⟩))))))))))))
theorem zq_pos {o : Nat} (ho : o < 8) (hc : c ≤ 6) (hL : ∀ i, i < c → L i < 8 ∧ Ly i = L i) : ∀ d i, i + d = c → ∃ r : Int32, (∀ post : Int32 → Prop, post r → wX_position_2 post (nI o) (nI tl) (nI ml) (nI sl) cu (nI b) (nI c) (lN g) (zz_n S) (zz_n B) (zz_n A) (zz_n N) im sy (zz_n sm) (zz_n sn) (zz_n sa) (zz_n so) (zz_n T) (zz_n C) (zz_n R) (zz_n Q) tp (zz_n L) (zz_n F) (zz_n M) ow (zz_l G) (zz_n rn) ins pc ac (zz_l D) dt me (d + 1) (nI i)) ∧ (∀ post : Int32 → Prop, post r → wY_objectInfo_117 post (nI o) (nI c) cu (nI b) (nI tl) (nI ml) (nI sl) (zz_n S) (zz_n B) (zz_n A) (zz_n N) (zz_n Fy) im sy (zz_n sm) (zz_n sn) (zz_n sa) (zz_n so) (zz_n T) (zz_n C) (zz_n Ly) (zz_n rn) ay io (zz_n si) bl (d + 1) (nI i)) := by
  intro d
  induction d with
  | zero =>
    intro i hi
    have h : nI c ≤ nI i := nI_le (by omega) (by omega)
    exact ⟨-1, fun _ hp => br_t h hp, fun _ hp => br_t h hp⟩
  | succ d ih =>
    intro i hi
    have h : ¬ nI c ≤ nI i := nI_ge (by omega) (by omega)
    have hv : vp_in (nI i) 8 := vp_in_nI (by omega) (by decide)
    obtain ⟨l1, l2⟩ := hL i (by omega)
    have e1 : zz_n L (nI i).toNatClampNeg = nI (L i) := zz_rd L i (by omega)
    have e2 : zz_n Ly (nI i).toNatClampNeg = nI (L i) := by rw [zz_rd Ly i (by omega), l2]
    by_cases z : L i = o
    · exact ⟨nI i, fun _ hp => br_f h (And.intro hv (br_t (by rw [e1, z]) hp)), fun _ hp => br_f h (And.intro hv (br_t (by rw [e2, z]) hp))⟩
    · obtain ⟨r, hX, hY⟩ := ih (i + 1) (by omega)
      have ne : ¬ nI (L i) = nI o := zz_en (by omega) (by omega) z
      exact ⟨r, fun post hp => br_f h (And.intro hv (br_f (by rw [e1]; exact ne) (nm_r (nI_1 i) (hX post hp)))), fun post hp => br_f h (And.intro hv (br_f (by rw [e2]; exact ne) (nm_r (nI_1 i) (hY post hp))))⟩
theorem i_vc_objectInfo {k : Nat} {u : SX} {v : SY} (I : i_Rel k u v) (hk : k + 5 ≤ 2563) (v1 : Int32) (v2 : Int32) : wpX_objectInfo (fun r => wpY_objectInfo (fun r' => r' = r ∧ i_Rel (k + 5) u v) v v1 v2) u v1 v2 := by
  refine zz_el (P := fun u v => wpX_objectInfo (fun r => wpY_objectInfo (fun r' => r' = r ∧ i_Rel (k + 5) u v) v v1 v2) u v1 v2) ?_ I
  intro tl ml sl b c g cu S B A N sm sn sa so T C R Q L F M G rn D Fy Ly si im sy tp ow ins pc ac dt me ay io bl h1 h2 h3
  have J : i_Rel (k + 5) ((nI tl), (nI ml), (nI sl), cu, (nI b), (nI c), (lN g), (zz_n S), (zz_n B), (zz_n A), (zz_n N), im, sy, (zz_n sm), (zz_n sn), (zz_n sa), (zz_n so), (zz_n T), (zz_n C), (zz_n R), (zz_n Q), tp, (zz_n L), (zz_n F), (zz_n M), ow, (zz_l G), (zz_n rn), ins, pc, ac, (zz_l D), dt, me) ((nI c), cu, (nI b), (nI tl), (nI ml), (nI sl), (zz_n S), (zz_n B), (zz_n A), (zz_n N), (zz_n Fy), im, sy, (zz_n sm), (zz_n sn), (zz_n sa), (zz_n so), (zz_n T), (zz_n C), (zz_n Ly), (zz_n rn), ay, io, (zz_n si), bl) := zz_mk (zz_Bk h1 (by omega)) h2 h3
  unfold wpX_objectInfo
  rcases pk_ix v1 (n := 8) (by decide) with h | h | ⟨o, ho, rfl⟩
  · exact zx_obj0 (Or.inl h) (br_t rfl (br_t h ⟨rfl, J⟩))
  · exact zx_obj0 (Or.inr h) (br_t rfl (br_f (zz_ge0 (n := 8) (by decide) h) (br_t (zz_gt (n := 7) (by decide) h).1 ⟨rfl, J⟩)))
  · refine zx_obj1 ho (br_f zz_10 ?_)
    have hp : ¬ nI o < 0 := nI_pos (by omega)
    have hv : vp_in (nI o) 8 := vp_in_nI ho (by decide)
    rcases pk_ix v2 (n := 7) (by decide) with h | h | ⟨w, hw, rfl⟩
    · exact br_t h (br_f hp (br_f (zz_nlt7 ho) (br_t h ⟨rfl, J⟩)))
    · have h7 := (zz_gt (n := 6) (by decide) h).2.1
      have h0 := zz_ge0 (n := 7) (by decide) h
      exact br_f h0 (br_f h7 (br_f hp (br_f (zz_nlt7 ho) (br_f h0 (br_f h7 ⟨rfl, J⟩)))))
    · have h0 : ¬ nI w < 0 := nI_pos (by omega)
      have h6 : nI w ≤ 6 := nI_le (b := 6) (by omega) (by decide)
      refine br_f h0 (br_t h6 ?_)
      have w7 : w = 0 ∨ w = 1 ∨ w = 2 ∨ w = 3 ∨ w = 4 ∨ w = 5 ∨ w = 6 := by omega
      rcases w7 with rfl | rfl | rfl | rfl | rfl | rfl | rfl
      · exact br_t rfl (And.intro hv (br_f hp (br_f (zz_nlt7 ho) (br_f h0 (br_t h6 (br_t rfl (And.intro hv ⟨rfl, J⟩)))))))
      · exact br_f (by decide) (br_t rfl (And.intro hv (br_f hp (br_f (zz_nlt7 ho) (br_f h0 (br_t h6 (br_f (by decide) (br_t rfl (And.intro hv ⟨rfl, J⟩)))))))))
      · exact br_f (by decide) (br_f (by decide) (br_t rfl (And.intro hv (br_f hp (br_f (zz_nlt7 ho) (br_f h0 (br_t h6 (br_f (by decide) (br_f (by decide) (br_t rfl (And.intro hv ⟨rfl, J⟩)))))))))))
      · exact br_f (by decide) (br_f (by decide) (br_f (by decide) (br_t rfl (And.intro hv (br_f hp (br_f (zz_nlt7 ho) (br_f h0 (br_t h6 (br_f (by decide) (br_f (by decide) (br_f (by decide) (br_t rfl (And.intro hv ⟨rfl, J⟩)))))))))))))
      · have hc : c ≤ 6 := by unfold zz_B at h1; omega
        obtain ⟨r, hX, hY⟩ := zq_pos (tl := tl) (ml := ml) (sl := sl) (b := b) (c := c) (g := g) (cu := cu) (S := S) (B := B) (A := A) (N := N) (sm := sm) (sn := sn) (sa := sa) (so := so) (T := T) (C := C) (R := R) (Q := Q) (L := L) (F := F) (M := M) (G := G) (rn := rn) (D := D) (im := im) (sy := sy) (tp := tp) (ow := ow) (ins := ins) (pc := pc) (ac := ac) (dt := dt) (me := me) (Fy := Fy) (Ly := Ly) (si := si) (ay := ay) (io := io) (bl := bl) ho hc (fun i hi => ⟨(h3.1.1 i hi).1, (h3.1.1 i hi).2.2⟩) c 0 (by omega)
        exact br_f (by decide) (br_f (by decide) (br_f (by decide) (br_f (by decide) (br_t rfl ⟨c + 1, hX _ (br_f hp (br_f (zz_nlt7 ho) (br_f h0 (br_t h6 (br_f (by decide) (br_f (by decide) (br_f (by decide) (br_f (by decide) (br_f (by decide) (br_f (by decide) ⟨c + 1, hY _ ⟨rfl, J⟩⟩))))))))))⟩))))
      · have hS5 := (h2.1 o ho).1
        have es : zz_n S (nI o).toNatClampNeg = nI (S o) := zz_rd S o (by omega)
        by_cases h4 : 4 ≤ S o
        · refine br_f (by decide) (br_f (by decide) (br_f (by decide) (br_f (by decide) (br_f (by decide) (br_t rfl (zx_hs1 ho h4 hS5 (br_f zz_10 (And.intro hv (br_f hp (br_f (zz_nlt7 ho) (br_f h0 (br_t h6 (br_f (by decide) (br_f (by decide) (br_f (by decide) (br_f (by decide) (br_t rfl (And.intro hv ?_))))))))))))))))))
          rw [es, zz_rd F o (by omega), zz_rd Fy o (by omega), (h3.2.2.2.2.1.1 o ho h4).1]
          exact br_f (nI_nlt (b := 4) h4 (by omega)) (And.intro hv ⟨rfl, J⟩)
        · refine br_f (by decide) (br_f (by decide) (br_f (by decide) (br_f (by decide) (br_f (by decide) (br_t rfl (zx_hs0 ho (by omega) (br_t rfl (br_f hp (br_f (zz_nlt7 ho) (br_f h0 (br_t h6 (br_f (by decide) (br_f (by decide) (br_f (by decide) (br_f (by decide) (br_t rfl (And.intro hv ?_)))))))))))))))))
          rw [es]
          exact br_t (nI_lt (b := 4) (by omega) (by decide)) ⟨rfl, J⟩
      · by_cases hcu : cu = nI o
        · exact br_f (by decide) (br_f (by decide) (br_f (by decide) (br_f (by decide) (br_f (by decide) (br_f (by decide) (br_t hcu (br_f hp (br_f (zz_nlt7 ho) (br_f h0 (br_t h6 (br_f (by decide) (br_f (by decide) (br_f (by decide) (br_f (by decide) (br_f (by decide) (br_t rfl (br_t hcu ⟨rfl, J⟩)))))))))))))))))
        · exact br_f (by decide) (br_f (by decide) (br_f (by decide) (br_f (by decide) (br_f (by decide) (br_f (by decide) (br_f hcu (br_f hp (br_f (zz_nlt7 ho) (br_f h0 (br_t h6 (br_f (by decide) (br_f (by decide) (br_f (by decide) (br_f (by decide) (br_f (by decide) (br_t rfl (br_f hcu ⟨rfl, J⟩)))))))))))))))))
end ZG
end
section
section ZG2
/-! siteInfo, peek -/
variable {tl ml sl b c g : Nat} {cu : Int32} {S B A N sm sn sa so T C R Q L F M G rn D Fy Ly si : Nat → Nat} {im sy tp ow ins pc ac dt me ay io bl : Nat → Int32}
theorem zy_si151 {post : Int32 → Prop} {o j : Nat} (ho : o < 8) (hj : j < 64) (hT : T j < 8) (h5 : S (T j) ≤ 5) (k : post (nI (if 4 ≤ S (T j) then 2 else if T j = o then 1 else 0))) : wY_siteInfo_151 post (nI o) (nI j) (nI c) cu (nI b) (nI tl) (nI ml) (nI sl) (zz_n S) (zz_n B) (zz_n A) (zz_n N) (zz_n Fy) im sy (zz_n sm) (zz_n sn) (zz_n sa) (zz_n so) (zz_n T) (zz_n C) (zz_n Ly) (zz_n rn) ay io (zz_n si) bl := by
  have hv : vp_in (nI j) 64 := vp_in_nI hj (by decide)
  unfold wY_siteInfo_151
  rw [zz_rd T j (by omega), zz_rd S (T j) (by omega)]
  refine And.intro hv (And.intro (vp_in_nI hT (by decide)) ?_)
  by_cases h4 : 4 ≤ S (T j)
  · rw [if_pos h4] at k
    exact br_f (nI_nlt (b := 4) h4 (by omega)) k
  · rw [if_neg h4] at k
    refine br_t (nI_lt (b := 4) (by omega) (by decide)) (And.intro hv (pk_eq (T j) o (fun e => ?_) (fun e => ?_)))
    · rw [if_pos e] at k; exact k
    · rw [if_neg e] at k; exact k
theorem i_vc_siteInfo {k : Nat} {u : SX} {v : SY} (I : i_Rel k u v) (hk : k + 5 ≤ 2563) (v1 : Int32) (v2 : Int32) (v3 : Int32) : wpX_siteInfo (fun r => wpY_siteInfo (fun r' => r' = r ∧ i_Rel (k + 5) u v) v v1 v2 v3) u v1 v2 v3 := by
  refine zz_el (P := fun u v => wpX_siteInfo (fun r => wpY_siteInfo (fun r' => r' = r ∧ i_Rel (k + 5) u v) v v1 v2 v3) u v1 v2 v3) ?_ I
  intro tl ml sl b c g cu S B A N sm sn sa so T C R Q L F M G rn D Fy Ly si im sy tp ow ins pc ac dt me ay io bl h1 h2 h3
  have J : i_Rel (k + 5) ((nI tl), (nI ml), (nI sl), cu, (nI b), (nI c), (lN g), (zz_n S), (zz_n B), (zz_n A), (zz_n N), im, sy, (zz_n sm), (zz_n sn), (zz_n sa), (zz_n so), (zz_n T), (zz_n C), (zz_n R), (zz_n Q), tp, (zz_n L), (zz_n F), (zz_n M), ow, (zz_l G), (zz_n rn), ins, pc, ac, (zz_l D), dt, me) ((nI c), cu, (nI b), (nI tl), (nI ml), (nI sl), (zz_n S), (zz_n B), (zz_n A), (zz_n N), (zz_n Fy), im, sy, (zz_n sm), (zz_n sn), (zz_n sa), (zz_n so), (zz_n T), (zz_n C), (zz_n Ly), (zz_n rn), ay, io, (zz_n si), bl) := zz_mk (zz_Bk h1 (by omega)) h2 h3
  unfold wpX_siteInfo
  rcases pk_ix v1 (n := 8) (by decide) with h | h | ⟨o, ho, rfl⟩
  · exact zx_obj0 (Or.inl h) (br_t rfl (br_t h ⟨rfl, J⟩))
  · exact zx_obj0 (Or.inr h) (br_t rfl (br_f (zz_ge0 (n := 8) (by decide) h) (br_t (zz_gt (n := 7) (by decide) h).1 ⟨rfl, J⟩)))
  · refine zx_obj1 ho (br_f zz_10 ?_)
    have hp : ¬ nI o < 0 := nI_pos (by omega)
    have h7 := zz_nlt7 ho
    have hv : vp_in (nI o) 8 := vp_in_nI ho (by decide)
    rcases pk_ix v3 (n := 4) (by decide) with h | h | ⟨w, hw, rfl⟩
    · exact br_t h (br_f hp (br_f h7 (br_t h ⟨rfl, J⟩)))
    · have h3' := (zz_gt (n := 3) (by decide) h).2.1
      have h0 := zz_ge0 (n := 4) (by decide) h
      exact br_f h0 (br_f h3' (br_f hp (br_f h7 (br_f h0 (br_f h3' ⟨rfl, J⟩)))))
    · have h0 : ¬ nI w < 0 := nI_pos (by omega)
      have hw3 : nI w ≤ 3 := nI_le (b := 3) (by omega) (by decide)
      by_cases hn : v2 < 0
      · exact br_f h0 (br_t hw3 (br_t hn (br_f hp (br_f h7 (br_f h0 (br_t hw3 (br_t hn ⟨rfl, J⟩)))))))
      · have eN : zz_n N (nI o).toNatClampNeg = nI (N o) := zz_rd N o (by omega)
        by_cases hs : v2 < zz_n N (nI o).toNatClampNeg
        · obtain ⟨s, hs31, rfl⟩ := nI_of hn
          have hN := (h2.1 o ho).2.2.2.1
          have hs' : s < N o := by rw [eN] at hs; exact (nI_ltI hs31 (by omega)).mp hs
          have hj : vp_in (nI (o * 8 + s)) 64 := vp_in_nI (by omega) (by decide)
          refine br_f h0 (br_t hw3 (br_f hn (And.intro hv (br_t hs (nm_r (zz_ix o s) ?_)))))
          have w4 : w = 0 ∨ w = 1 ∨ w = 2 ∨ w = 3 := by omega
          rcases w4 with rfl | w4
          · exact br_t rfl ⟨hj, hj, hj, hj, br_f hp (br_f h7 (br_f h0 (br_t hw3 (br_f hn (And.intro hv (br_t hs (nm_r (zz_ix o s) (br_t rfl ⟨hj, hj, hj, hj, rfl, J⟩))))))))⟩
          · have hw0 : ¬ nI w = 0 := nI_ne0 (by omega) (by omega)
            have hS5 := (h2.1 o ho).1
            have es : zz_n S (nI o).toNatClampNeg = nI (S o) := zz_rd S o (by omega)
            by_cases hl : 3 ≤ S o
            · have hl' : 3 ≤ zz_n S (nI o).toNatClampNeg := by rw [es]; exact nI_le (a := 3) hl (by omega)
              obtain ⟨r1, r2, r3, r4, r5, r6, _⟩ := h3.2.1 o ho hl s hs'
              rcases w4 with rfl | rfl | rfl
              · exact br_f hw0 (zx_ld1 ho hl hS5 (br_f zz_10 (br_t rfl (And.intro hj (br_f hp (br_f h7 (br_f h0 (br_t hw3 (br_f hn (And.intro hv (br_t hs (nm_r (zz_ix o s) (br_f hw0 (And.intro hv (br_t hl' (br_t rfl (And.intro hj ⟨rfl, J⟩)))))))))))))))))
              · exact br_f hw0 (zx_ld1 ho hl hS5 (br_f zz_10 (br_f (by decide) (br_t rfl (And.intro hj (br_f hp (br_f h7 (br_f h0 (br_t hw3 (br_f hn (And.intro hv (br_t hs (nm_r (zz_ix o s) (br_f hw0 (And.intro hv (br_t hl' (br_f (by decide) (br_t rfl (And.intro hj ⟨rfl, J⟩)))))))))))))))))))
              · refine br_f hw0 (zx_ld1 ho hl hS5 (br_f zz_10 (br_f (by decide) (br_f (by decide) (And.intro hj (br_f hp (br_f h7 (br_f h0 (br_t hw3 (br_f hn (And.intro hv (br_t hs (nm_r (zz_ix o s) (br_f hw0 (And.intro hv (br_t hl' (br_f (by decide) (br_f (by decide) ?_))))))))))))))))))
                obtain ⟨i0, hi0, _⟩ := h3.1.2.2.1 o ho hl
                have e0 : Ly 0 = L 0 := (h3.1.1 0 (by omega)).2.2
                have l0 : L 0 < 8 := (h3.1.1 0 (by omega)).1
                have hT5 := (h2.1 _ r1).1
                rw [zz_rd R (o * 8 + s) (by omega), r6]
                unfold zz_ch
                refine pk_eq (Ly 0) o (fun e => And.intro hj ?_) (fun e => ?_)
                · rw [zz_rd T (o * 8 + s) (by omega)]
                  refine pk_eq (T (o * 8 + s)) o (fun e2 => ?_) (fun e2 => zy_si151 ho (by omega) r1 hT5 ?_)
                  · rw [if_pos ⟨by omega, e2⟩]; exact ⟨rfl, J⟩
                  · rw [if_neg (c := L 0 = o ∧ T (o * 8 + s) = o) (fun z => e2 z.2)]; exact ⟨rfl, J⟩
                · refine zy_si151 ho (by omega) r1 hT5 ?_
                  rw [if_neg (c := L 0 = o ∧ T (o * 8 + s) = o) (fun z => e (by omega))]; exact ⟨rfl, J⟩
            · have hl' : ¬ 3 ≤ zz_n S (nI o).toNatClampNeg := by rw [es]; exact nI_ge (b := 3) (by omega) (by decide)
              exact br_f hw0 (zx_ld0 ho (by omega) (br_t rfl (br_f hp (br_f h7 (br_f h0 (br_t hw3 (br_f hn (And.intro hv (br_t hs (nm_r (zz_ix o s) (br_f hw0 (And.intro hv (br_f hl' ⟨rfl, J⟩)))))))))))))
        · exact br_f h0 (br_t hw3 (br_f hn (And.intro hv (br_f hs (br_f hp (br_f h7 (br_f h0 (br_t hw3 (br_f hn (And.intro hv (br_f hs ⟨rfl, J⟩)))))))))))
theorem zx_tb {post : Int32 → Prop} {t o : Nat} (ht : t < 4) (ho : o < 8) (h3 : 3 ≤ S o) (h5 : S o ≤ 5) (hm : M o < 6) (hF : 4 ≤ S o → F o ≤ 32) (hg : G (M o) < 2 ^ 30) (hd : D t < 2 ^ 30)
    (k1 : 4 ≤ S o → post (nI (t * 80 + 32 - F o))) (k2 : ¬ 4 ≤ S o → G (M o) ≤ D t → post (dt (t * 6 + M o))) (k3 : ¬ 4 ≤ S o → ¬ G (M o) ≤ D t → post (-1)) : wpX_touchedBase post ((nI tl), (nI ml), (nI sl), cu, (nI b), (nI c), (lN g), (zz_n S), (zz_n B), (zz_n A), (zz_n N), im, sy, (zz_n sm), (zz_n sn), (zz_n sa), (zz_n so), (zz_n T), (zz_n C), (zz_n R), (zz_n Q), tp, (zz_n L), (zz_n F), (zz_n M), ow, (zz_l G), (zz_n rn), ins, pc, ac, (zz_l D), dt, me) (nI t) (nI o) := by
  unfold wpX_touchedBase
  by_cases h4 : 4 ≤ S o
  · refine zx_hs1 ho h4 h5 (br_f zz_10 (zx_tp (And.intro (vp_in_nI ho (by decide)) ?_)))
    have := hF h4
    rw [zz_rd F o (by omega), pk_sub (by omega)]
    exact k1 h4
  · refine zx_hs0 ho (by omega) (br_t rfl (And.intro (vp_in_nI ho (by decide)) (nm_r (zz_rd M o (by omega)) (And.intro (vp_in_nI hm (by decide)) (And.intro (vp_in_nI ht (by decide)) ?_)))))
    rw [zz_rl G (M o) (by omega), zz_rl D t (by omega), lN_le (by omega) (by omega), zz_i6 t (M o), nI_clamp (n := t * 6 + M o) (by omega)]
    exact br_c (fun z => And.intro (vp_in_nI (by omega) (by decide)) (k2 h4 z)) (fun z => k3 h4 z)
theorem zx_pk {post : Int32 → Prop} {t o x kk : Nat} (ht : t < 4) (ho : o < 8) (h3 : 3 ≤ S o) (hx : x < B o) (hr : rn t = 1) (hk : kk ≤ 2563) (h1 : zz_B tl ml sl b c g kk rn) (hO : zz_O S B A N im) (hM : zz_M S M ow) (hG : zz_G g G D) (hF : zz_F S B F Fy) (hV : zz_V S B F M G rn D im dt me bl)
    (k : post (bl (t * 64 + o * 8 + x))) : wpX_touchedBase (fun r_114 => (((0 ≤ r_114 → (vp_in (r_114 + nI x) 320 ∧ (post (me (r_114 + nI x).toNatClampNeg)))) ∧ (¬ 0 ≤ r_114 → (vp_in ((nI o * 8) + nI x) 64 ∧ (post (im ((nI o * 8) + nI x).toNatClampNeg))))))) ((nI tl), (nI ml), (nI sl), cu, (nI b), (nI c), (lN g), (zz_n S), (zz_n B), (zz_n A), (zz_n N), im, sy, (zz_n sm), (zz_n sn), (zz_n sa), (zz_n so), (zz_n T), (zz_n C), (zz_n R), (zz_n Q), tp, (zz_n L), (zz_n F), (zz_n M), ow, (zz_l G), (zz_n rn), ins, pc, ac, (zz_l D), dt, me) (nI t) (nI o) := by
  have hS5 := (hO o ho).1
  have hB8 := (hO o ho).2.1
  have hm := (hM.1 o ho h3).1
  have g1 := hG.1 _ hm
  have g2 := hG.2 t ht
  have hg : g ≤ 2 * kk := h1.2.2.2.2.2.2.2.2.1
  obtain ⟨v1, v2, v3⟩ := hV t ht hr o ho h3
  have kim : ¬ zz_to S M G D dt t o → vp_in ((nI o * 8) + nI x) 64 ∧ (post (im ((nI o * 8) + nI x).toNatClampNeg)) := by
    intro hn
    rw [zz_ix, nI_clamp (n := o * 8 + x) (by omega), v3 hn x hx]
    exact ⟨vp_in_nI (by omega) (by decide), k⟩
  have kme : ∀ p, p + 8 ≤ 320 → zz_ba S F M t o = p → zz_to S M G D dt t o → vp_in (nI p + nI x) 320 ∧ (post (me (nI p + nI x).toNatClampNeg)) := by
    intro p hp e hn
    have := v2 hn x hx
    rw [e] at this
    rw [nI_add, nI_clamp (n := p + x) (by omega), this]
    exact ⟨vp_in_nI (by omega) (by decide), k⟩
  refine zx_tb ht ho h3 hS5 hm (fun h4 => (hF.1 o ho h4).2.2) (by omega) (by omega) (fun h4 => ?_) (fun h4 z => ?_) (fun h4 z => ?_)
  · have := hF.1 o ho h4
    exact br_t (nI_pos' (by omega)) (kme _ (by omega) (if_pos h4) (Or.inl h4))
  · have e : zz_ba S F M t o = t * 80 + 32 + M o * 8 := if_neg h4
    rcases v1 z with e1 | e1
    · rw [e1]
      exact br_f zz_n1g (kim (fun y => y.elim h4 (fun y => y.2 e1)))
    · rw [e1]
      exact br_t (nI_pos' (by omega)) (kme _ (by omega) rfl (Or.inr ⟨z, by rw [e1]; exact zz_ne1 (by omega)⟩))
  · exact br_f zz_n1g (kim (fun y => y.elim h4 (fun y => z y.1)))
theorem i_vc_peek {k : Nat} {u : SX} {v : SY} (I : i_Rel k u v) (hk : k + 5 ≤ 2563) (v1 : Int32) (v2 : Int32) (v3 : Int32) : wpX_peek (fun r => wpY_peek (fun r' => r' = r ∧ i_Rel (k + 5) u v) v v1 v2 v3) u v1 v2 v3 := by
  refine zz_el (P := fun u v => wpX_peek (fun r => wpY_peek (fun r' => r' = r ∧ i_Rel (k + 5) u v) v v1 v2 v3) u v1 v2 v3) ?_ I
  intro tl ml sl b c g cu S B A N sm sn sa so T C R Q L F M G rn D Fy Ly si im sy tp ow ins pc ac dt me ay io bl h1 h2 h3
  have J : i_Rel (k + 5) ((nI tl), (nI ml), (nI sl), cu, (nI b), (nI c), (lN g), (zz_n S), (zz_n B), (zz_n A), (zz_n N), im, sy, (zz_n sm), (zz_n sn), (zz_n sa), (zz_n so), (zz_n T), (zz_n C), (zz_n R), (zz_n Q), tp, (zz_n L), (zz_n F), (zz_n M), ow, (zz_l G), (zz_n rn), ins, pc, ac, (zz_l D), dt, me) ((nI c), cu, (nI b), (nI tl), (nI ml), (nI sl), (zz_n S), (zz_n B), (zz_n A), (zz_n N), (zz_n Fy), im, sy, (zz_n sm), (zz_n sn), (zz_n sa), (zz_n so), (zz_n T), (zz_n C), (zz_n Ly), (zz_n rn), ay, io, (zz_n si), bl) := zz_mk (zz_Bk h1 (by omega)) h2 h3
  have t2 := h1.1
  have t4 := h1.2.1
  unfold wpX_peek
  rcases pk_ix v1 (n := tl) (by omega) with h | h | ⟨t, ht, rfl⟩
  · exact zx_thr0 t4 (Or.inl h) (br_t rfl (br_t h ⟨rfl, J⟩))
  · exact zx_thr0 t4 (Or.inr h) (br_t rfl (br_f (zz_ge0 (n := tl) (by omega) h) (br_t h ⟨rfl, J⟩)))
  · refine zx_thr1 t4 ht (br_f zz_10 ?_)
    have hp : ¬ nI t < 0 := nI_pos (by omega)
    have hq : ¬ nI tl ≤ nI t := nI_ge ht (by omega)
    have hv : vp_in (nI t) 4 := vp_in_nI (by omega) (by decide)
    rcases pk_ix v2 (n := 8) (by decide) with h | h | ⟨o, ho, rfl⟩
    · exact zx_obj0 (Or.inl h) (br_t rfl (br_f hp (br_f hq (br_t h ⟨rfl, J⟩))))
    · exact zx_obj0 (Or.inr h) (br_t rfl (br_f hp (br_f hq (br_f (zz_ge0 (n := 8) (by decide) h) (br_f (zz_gt (n := 7) (by decide) h).2.1 ⟨rfl, J⟩)))))
    · refine zx_obj1 ho (br_f zz_10 ?_)
      have hp' : ¬ nI o < 0 := nI_pos (by omega)
      have hv' : vp_in (nI o) 8 := vp_in_nI ho (by decide)
      have er : zz_n rn (nI t).toNatClampNeg = nI (rn t) := zz_rd rn t (by omega)
      have es : zz_n S (nI o).toNatClampNeg = nI (S o) := zz_rd S o (by omega)
      have eb : zz_n B (nI o).toNatClampNeg = nI (B o) := zz_rd B o (by omega)
      rcases h3.2.2.2.2.2.1.1 t (by omega) with ⟨q1, _⟩ | ⟨q1, _⟩
      · have er0 : zz_n rn (nI t).toNatClampNeg = 0 := by rw [er, q1]; rfl
        exact And.intro hv (br_t er0 (br_f hp (br_f hq (br_f hp' (br_t (zz_le7 ho) (And.intro hv (br_t er0 ⟨rfl, J⟩)))))))
      · have er0 : ¬ zz_n rn (nI t).toNatClampNeg = 0 := by rw [er, q1]; decide
        refine And.intro hv (br_f er0 ?_)
        have hS5 := (h2.1 o ho).1
        have hB8 := (h2.1 o ho).2.1
        by_cases hl : 3 ≤ S o
        · have hl' : ¬ zz_n S (nI o).toNatClampNeg < 3 := by rw [es]; exact nI_nlt (b := 3) hl (by omega)
          refine zx_ld1 ho hl hS5 (br_f zz_10 ?_)
          by_cases hn : v3 < 0
          · exact br_t hn (br_f hp (br_f hq (br_f hp' (br_t (zz_le7 ho) (And.intro hv (br_f er0 (And.intro hv' (br_f hl' (br_t hn ⟨rfl, J⟩)))))))))
          · by_cases hs : v3 < zz_n B (nI o).toNatClampNeg
            · obtain ⟨x, hx31, rfl⟩ := nI_of hn
              have hx : x < B o := by rw [eb] at hs; exact (nI_ltI hx31 (by omega)).mp hs
              refine br_f hn (And.intro hv' (br_t hs ?_))
              refine zx_pk (post := fun r => wpY_peek (fun r' => r' = r ∧ i_Rel (k + 5) ((nI tl), (nI ml), (nI sl), cu, (nI b), (nI c), (lN g), (zz_n S), (zz_n B), (zz_n A), (zz_n N), im, sy, (zz_n sm), (zz_n sn), (zz_n sa), (zz_n so), (zz_n T), (zz_n C), (zz_n R), (zz_n Q), tp, (zz_n L), (zz_n F), (zz_n M), ow, (zz_l G), (zz_n rn), ins, pc, ac, (zz_l D), dt, me) ((nI c), cu, (nI b), (nI tl), (nI ml), (nI sl), (zz_n S), (zz_n B), (zz_n A), (zz_n N), (zz_n Fy), im, sy, (zz_n sm), (zz_n sn), (zz_n sa), (zz_n so), (zz_n T), (zz_n C), (zz_n Ly), (zz_n rn), ay, io, (zz_n si), bl)) ((nI c), cu, (nI b), (nI tl), (nI ml), (nI sl), (zz_n S), (zz_n B), (zz_n A), (zz_n N), (zz_n Fy), im, sy, (zz_n sm), (zz_n sn), (zz_n sa), (zz_n so), (zz_n T), (zz_n C), (zz_n Ly), (zz_n rn), ay, io, (zz_n si), bl) (nI t) (nI o) (nI x)) (A := A) (N := N) (ow := ow) (Fy := Fy) (kk := k) (by omega) ho hl hx q1 (by omega) h1 h2.1 h3.2.2.1 h3.2.2.2.1 h3.2.2.2.2.1 h3.2.2.2.2.2.2 ?_
              refine br_f hp (br_f hq (br_f hp' (br_t (zz_le7 ho) (And.intro hv (br_f er0 (And.intro hv' (br_f hl' (br_f hn (And.intro hv' (br_t hs ?_))))))))))
              rw [zz_ib t o x, nI_clamp (n := t * 64 + o * 8 + x) (by omega)]
              exact ⟨vp_in_nI (by omega) (by decide), rfl, J⟩
            · exact br_f hn (And.intro hv' (br_f hs (br_f hp (br_f hq (br_f hp' (br_t (zz_le7 ho) (And.intro hv (br_f er0 (And.intro hv' (br_f hl' (br_f hn (And.intro hv' (br_f hs ⟨rfl, J⟩)))))))))))))
        · have hl' : zz_n S (nI o).toNatClampNeg < 3 := by rw [es]; exact nI_lt (b := 3) (by omega) (by decide)
          exact zx_ld0 ho (by omega) (br_t rfl (br_f hp (br_f hq (br_f hp' (br_t (zz_le7 ho) (And.intro hv (br_f er0 (And.intro hv' (br_t hl' ⟨rfl, J⟩)))))))))
end ZG2
end
section
section ZBL
/-! open, site -/
variable {tl ml sl b c g : Nat} {cu : Int32} {S B A N sm sn sa so T C R Q L F M G rn D Fy Ly si : Nat → Nat} {im sy tp ow ins pc ac dt me ay io bl : Nat → Int32}
theorem zz_us' {f : Nat → Nat} {k v j : Nat} (h : j = k) : zz_u f k v j = v := if_pos h
theorem zp_open {o : Nat} (ho : o < 8) (h3 : S o < 3) (h2 : zz_N cu S B A N sm sn sa so im sy) (hz : zz_Z b c g S B N sm T C R Q L F M G rn D Fy Ly si im tp ow ins pc ac dt me ay io bl) :
    zz_N (nI o) (zz_u S o 0) (zz_u B o 0) (zz_u A o 1) (zz_u N o 0) sm sn sa so (zz_r im (o * 8) 8 (fun _ => 0)) (zz_r sy (o * 8) 8 (fun _ => -1))
    ∧ zz_Z b c g (zz_u S o 0) (zz_u B o 0) (zz_u N o 0) sm T C R Q L F M G rn D Fy Ly si (zz_r im (o * 8) 8 (fun _ => 0)) tp ow ins pc ac dt me ay io bl := by
  obtain ⟨hO, hY, hT, hK, hC⟩ := h2
  refine ⟨⟨?_, ?_, hT, ?_, Or.inr ⟨o, ho, rfl, zz_us⟩⟩, zz_cg (A := A) hO ?_ ?_ (fun i hi => ⟨rfl, rfl⟩) hz⟩
  · intro p hp
    by_cases e : p = o
    · subst e
      rw [zz_us, zz_us, zz_us, zz_us]
      exact ⟨by omega, by omega, Or.inl rfl, by omega, fun x _ hx => zz_ri hx⟩
    · rw [zz_un e, zz_un e, zz_un e, zz_un e]
      obtain ⟨a1, a2, a3, a4, a5⟩ := hO p hp
      exact ⟨a1, a2, a3, a4, fun x h1 hx => by rw [zz_ro (by omega)]; exact a5 x h1 hx⟩
  · intro j hj
    by_cases e : o * 8 ≤ j ∧ j < o * 8 + 8
    · obtain ⟨x, rfl⟩ : ∃ x, j = o * 8 + x := ⟨j - o * 8, by omega⟩
      exact Or.inl (zz_ri (by omega))
    · rw [zz_ro (by omega)]
      exact hY j hj
  · intro p hp hn s hs
    by_cases e : p = o
    · subst e
      rw [zz_us] at hn
      exact absurd rfl hn
    · rw [zz_un e] at hn hs
      rw [zz_un e]
      have hN := (hO p hp).2.2.2.1
      have hsn := (hT (p * 8 + s) (by omega)).2.1
      rw [zz_ro (by omega)]
      exact hK p hp hn s hs
  · intro p hp
    by_cases e : p = o
    · subst e; rw [zz_us]; omega
    · rw [zz_un e]; exact Or.inl rfl
  · intro p hp hl
    have e : p ≠ o := fun e => by subst e; omega
    rw [zz_un e, zz_un e]
    exact ⟨rfl, rfl, rfl, rfl, fun x hx => ⟨zz_ro (by omega), rfl, rfl, rfl⟩⟩
theorem i_vc_open {k : Nat} {u : SX} {v : SY} (I : i_Rel k u v) (hk : k + 5 ≤ 2563) (v1 : Int32) : wpX_open (fun r u' => wpY_open (fun r' v' => r' = r ∧ i_Rel (k + 5) u' v') v v1) u v1 := by
  refine zz_el (P := fun u v => wpX_open (fun r u' => wpY_open (fun r' v' => r' = r ∧ i_Rel (k + 5) u' v') v v1) u v1) ?_ I
  intro tl ml sl b c g cu S B A N sm sn sa so T C R Q L F M G rn D Fy Ly si im sy tp ow ins pc ac dt me ay io bl h1 h2 h3
  have J : i_Rel (k + 5) ((nI tl), (nI ml), (nI sl), cu, (nI b), (nI c), (lN g), (zz_n S), (zz_n B), (zz_n A), (zz_n N), im, sy, (zz_n sm), (zz_n sn), (zz_n sa), (zz_n so), (zz_n T), (zz_n C), (zz_n R), (zz_n Q), tp, (zz_n L), (zz_n F), (zz_n M), ow, (zz_l G), (zz_n rn), ins, pc, ac, (zz_l D), dt, me) ((nI c), cu, (nI b), (nI tl), (nI ml), (nI sl), (zz_n S), (zz_n B), (zz_n A), (zz_n N), (zz_n Fy), im, sy, (zz_n sm), (zz_n sn), (zz_n sa), (zz_n so), (zz_n T), (zz_n C), (zz_n Ly), (zz_n rn), ay, io, (zz_n si), bl) := zz_mk (zz_Bk h1 (by omega)) h2 h3
  unfold wpX_open
  rcases pk_ix v1 (n := 8) (by decide) with h | h | ⟨o, ho, rfl⟩
  · exact zx_obj0 (Or.inl h) (br_t rfl (br_t h ⟨rfl, J⟩))
  · exact zx_obj0 (Or.inr h) (br_t rfl (br_f (zz_ge0 (n := 8) (by decide) h) (br_f (zz_gt (n := 7) (by decide) h).2.1 ⟨rfl, J⟩)))
  · refine zx_obj1 ho (br_f zz_10 ?_)
    have hp : ¬ nI o < 0 := nI_pos (by omega)
    have hv : vp_in (nI o) 8 := vp_in_nI ho (by decide)
    have hS5 := (h2.1 o ho).1
    have es : zz_n S (nI o).toNatClampNeg = nI (S o) := zz_rd S o (by omega)
    by_cases hl : S o < 3
    · have hl' : zz_n S (nI o).toNatClampNeg < 3 := by rw [es]; exact nI_lt (b := 3) hl (by decide)
      obtain ⟨p1, p2⟩ := zp_open ho hl h2 h3
      exact zx_ld0 ho hl (br_t rfl (zx_clr ho (br_f hp (br_t (zz_le7 ho) (And.intro hv (br_t hl' (zy_clr ho ⟨rfl, zz_mk (zz_Bk h1 (by omega)) p1 p2⟩)))))))
    · have hl' : ¬ zz_n S (nI o).toNatClampNeg < 3 := by rw [es]; exact nI_nlt (b := 3) (by omega) (by omega)
      exact zx_ld1 ho (by omega) hS5 (br_f zz_10 (br_f hp (br_t (zz_le7 ho) (And.intro hv (br_f hl' ⟨rfl, J⟩)))))
theorem zp_site {o n a1 a2 a3 a4 : Nat} (ho : o < 8) (h0 : S o = 0) (hn : N o = n) (hn8 : n < 8) (ha1 : a1 ≤ 3) (ha2 : a2 ≤ 7) (ha3 : a3 ≤ 7) (ha4 : a4 ≤ 3) (h2 : zz_N (nI o) S B A N sm sn sa so im sy) (hz : zz_Z b c g S B N sm T C R Q L F M G rn D Fy Ly si im tp ow ins pc ac dt me ay io bl) :
    zz_N (nI o) S B A (zz_u N o (n + 1)) (zz_u sm (o * 8 + n) a1) (zz_u sn (o * 8 + n) a2) (zz_u sa (o * 8 + n) a3) (zz_u so (o * 8 + n) a4) im sy
    ∧ zz_Z b c g S B (zz_u N o (n + 1)) (zz_u sm (o * 8 + n) a1) T C R Q L F M G rn D Fy Ly si im tp ow ins pc ac dt me ay io bl := by
  obtain ⟨hO, hY, hT, hK, hC⟩ := h2
  refine ⟨⟨?_, hY, ?_, ?_, hC⟩, zz_cg (A := A) hO (fun p hp => Or.inl rfl) ?_ (fun i hi => ⟨rfl, rfl⟩) hz⟩
  · intro p hp
    obtain ⟨a1, a2, a3, a4, a5⟩ := hO p hp
    refine ⟨a1, a2, a3, ?_, a5⟩
    by_cases e : p = o
    · subst e; rw [zz_us]; omega
    · rw [zz_un e]; exact a4
  · intro j hj
    by_cases e : j = o * 8 + n
    · subst e
      rw [zz_us, zz_us, zz_us, zz_us]
      exact ⟨ha1, ha2, ha3, ha4⟩
    · rw [zz_un e, zz_un e, zz_un e, zz_un e]
      exact hT j hj
  · intro p hp hne s hs
    have e : p ≠ o := fun e => by rw [e] at hne; exact hne h0
    rw [zz_un e] at hs
    have hN := (hO p hp).2.2.2.1
    rw [zz_un (show p * 8 + s ≠ o * 8 + n by omega), zz_un (show p * 8 + s ≠ o * 8 + n by omega)]
    exact hK p hp hne s hs
  · intro p hp hl
    have e : p ≠ o := fun e => by subst e; omega
    rw [zz_un e]
    exact ⟨rfl, rfl, rfl, rfl, fun x hx => ⟨rfl, zz_un (by omega), rfl, rfl⟩⟩
theorem i_vc_site {k : Nat} {u : SX} {v : SY} (I : i_Rel k u v) (hk : k + 5 ≤ 2563) (v1 : Int32) (v2 : Int32) (v3 : Int32) (v4 : Int32) : wpX_site (fun r u' => wpY_site (fun r' v' => r' = r ∧ i_Rel (k + 5) u' v') v v1 v2 v3 v4) u v1 v2 v3 v4 := by
  refine zz_el (P := fun u v => wpX_site (fun r u' => wpY_site (fun r' v' => r' = r ∧ i_Rel (k + 5) u' v') v v1 v2 v3 v4) u v1 v2 v3 v4) ?_ I
  intro tl ml sl b c g cu S B A N sm sn sa so T C R Q L F M G rn D Fy Ly si im sy tp ow ins pc ac dt me ay io bl h1 h2 h3
  have J : i_Rel (k + 5) ((nI tl), (nI ml), (nI sl), cu, (nI b), (nI c), (lN g), (zz_n S), (zz_n B), (zz_n A), (zz_n N), im, sy, (zz_n sm), (zz_n sn), (zz_n sa), (zz_n so), (zz_n T), (zz_n C), (zz_n R), (zz_n Q), tp, (zz_n L), (zz_n F), (zz_n M), ow, (zz_l G), (zz_n rn), ins, pc, ac, (zz_l D), dt, me) ((nI c), cu, (nI b), (nI tl), (nI ml), (nI sl), (zz_n S), (zz_n B), (zz_n A), (zz_n N), (zz_n Fy), im, sy, (zz_n sm), (zz_n sn), (zz_n sa), (zz_n so), (zz_n T), (zz_n C), (zz_n Ly), (zz_n rn), ay, io, (zz_n si), bl) := zz_mk (zz_Bk h1 (by omega)) h2 h3
  rcases h2.2.2.2.2 with rfl | ⟨o, ho, rfl, h0⟩
  · exact br_f zz_n1g (br_f zz_n1g ⟨rfl, J⟩)
  · have c0 : 0 ≤ nI o := nI_pos' (by omega)
    have hv : vp_in (nI o) 8 := vp_in_nI ho (by decide)
    rcases pk_ix v1 (n := 4) (by decide) with h | h | ⟨a1, ha1, rfl⟩
    · exact br_t c0 (br_t h (br_t c0 (br_t h ⟨rfl, J⟩)))
    · have z1 := zz_ge0 (n := 4) (by decide) h
      have z2 := (zz_gt (n := 3) (by decide) h).1
      exact br_t c0 (br_f z1 (br_t z2 (br_t c0 (br_f z1 (br_t z2 ⟨rfl, J⟩)))))
    have m1 : ¬ nI a1 < 0 := nI_pos (by omega)
    have m2 : ¬ 3 < nI a1 := nI_nlt (a := 3) (by omega) (by decide)
    rcases pk_ix v2 (n := 8) (by decide) with h | h | ⟨a2, ha2, rfl⟩
    · exact br_t c0 (br_f m1 (br_f m2 (br_t h (br_t c0 (br_f m1 (br_f m2 (br_t h ⟨rfl, J⟩)))))))
    · have z1 := zz_ge0 (n := 8) (by decide) h
      have z2 := (zz_gt (n := 7) (by decide) h).2.1
      exact br_t c0 (br_f m1 (br_f m2 (br_f z1 (br_f z2 (br_t c0 (br_f m1 (br_f m2 (br_f z1 (br_f z2 ⟨rfl, J⟩)))))))))
    have m3 : ¬ nI a2 < 0 := nI_pos (by omega)
    have m4 : nI a2 ≤ 7 := zz_le7 ha2
    rcases pk_ix v3 (n := 8) (by decide) with h | h | ⟨a3, ha3, rfl⟩
    · exact br_t c0 (br_f m1 (br_f m2 (br_f m3 (br_t m4 (br_t h (br_t c0 (br_f m1 (br_f m2 (br_f m3 (br_t m4 (br_t h ⟨rfl, J⟩)))))))))))
    · have z1 := zz_ge0 (n := 8) (by decide) h
      have z2 := (zz_gt (n := 7) (by decide) h).1
      exact br_t c0 (br_f m1 (br_f m2 (br_f m3 (br_t m4 (br_f z1 (br_t z2 (br_t c0 (br_f m1 (br_f m2 (br_f m3 (br_t m4 (br_f z1 (br_t z2 ⟨rfl, J⟩)))))))))))))
    have m5 : ¬ nI a3 < 0 := nI_pos (by omega)
    have m6 : ¬ 7 < nI a3 := zz_nlt7 ha3
    rcases pk_ix v4 (n := 4) (by decide) with h | h | ⟨a4, ha4, rfl⟩
    · exact br_t c0 (br_f m1 (br_f m2 (br_f m3 (br_t m4 (br_f m5 (br_f m6 (br_t h (br_t c0 (br_f m1 (br_f m2 (br_f m3 (br_t m4 (br_f m5 (br_f m6 (br_t h ⟨rfl, J⟩)))))))))))))))
    · have z1 := zz_ge0 (n := 4) (by decide) h
      have z2 := (zz_gt (n := 3) (by decide) h).2.1
      exact br_t c0 (br_f m1 (br_f m2 (br_f m3 (br_t m4 (br_f m5 (br_f m6 (br_f z1 (br_f z2 (br_t c0 (br_f m1 (br_f m2 (br_f m3 (br_t m4 (br_f m5 (br_f m6 (br_f z1 (br_f z2 ⟨rfl, J⟩)))))))))))))))))
    have m7 : ¬ nI a4 < 0 := nI_pos (by omega)
    have m8 : nI a4 ≤ 3 := nI_le (b := 3) (by omega) (by decide)
    have hN := (h2.1 o ho).2.2.2.1
    have eN : zz_n N (nI o).toNatClampNeg = nI (N o) := zz_rd N o (by omega)
    refine br_t c0 (br_f m1 (br_f m2 (br_f m3 (br_t m4 (br_f m5 (br_f m6 (br_f m7 (br_t m8 (And.intro hv (nm_r eN ?_))))))))))
    by_cases hn : N o < 8
    · have n8 : nI (N o) < 8 := nI_lt (b := 8) hn (by decide)
      have hj : vp_in (nI (o * 8 + N o)) 64 := vp_in_nI (by omega) (by decide)
      obtain ⟨p1, p2⟩ := zp_site (n := N o) (a1 := a1) (a2 := a2) (a3 := a3) (a4 := a4) ho h0 rfl hn (by omega) (by omega) (by omega) (by omega) h2 h3
      refine br_t n8 (nm_r (zz_ix o (N o)) (And.intro hj (nm_r (zz_wr sm (by omega)) (And.intro hj (nm_r (zz_wr sn (by omega)) (And.intro hj (nm_r (zz_wr sa (by omega)) (And.intro hj (nm_r (zz_wr so (by omega)) (And.intro hv (nm_r (e' := zz_n (zz_u N o (N o + 1))) (by rw [nI_1]; exact zz_wr N (by omega)) ?_)))))))))))
      refine br_t c0 (br_f m1 (br_f m2 (br_f m3 (br_t m4 (br_f m5 (br_f m6 (br_f m7 (br_t m8 (And.intro hv (nm_r eN (br_t n8 ?_)))))))))))
      rw [zz_ix o (N o)]
      exact And.intro hj (nm_r (zz_wr sm (by omega)) (And.intro hj (nm_r (zz_wr sn (by omega)) (And.intro hj (nm_r (zz_wr sa (by omega)) (And.intro hj (nm_r (zz_wr so (by omega)) (And.intro hv (nm_r (e' := zz_n (zz_u N o (N o + 1))) (by rw [nI_1]; exact zz_wr N (by omega)) ⟨rfl, zz_mk (zz_Bk h1 (by omega)) p1 p2⟩)))))))))
    · have n8 : ¬ nI (N o) < 8 := nI_nlt (b := 8) (by omega) (by omega)
      exact br_f n8 (br_t c0 (br_f m1 (br_f m2 (br_f m3 (br_t m4 (br_f m5 (br_f m6 (br_f m7 (br_t m8 (And.intro hv (nm_r eN (br_f n8 ⟨rfl, J⟩))))))))))))
end ZBL
end
section
section ZSY
/-! symbol -/
variable {tl ml sl b c g : Nat} {cu : Int32} {S B A N sm sn sa so T C R Q L F M G rn D Fy Ly si : Nat → Nat} {im sy tp ow ins pc ac dt me ay io bl : Nat → Int32}
def zz_al (A : Nat → Nat) (o al : Nat) : Nat → Nat := if al ≤ A o then A else zz_u A o al
theorem zx_sym_l {post : Int32 → SX → Prop} {o nm z al p : Nat} {v4 : Int32} (ho : o < 8) (hn : nm < 8) (hz : p + z ≤ 8) (hA : A o ≤ 4) (hal : al ≤ 4)
    (k : post (nI p) ((nI tl), (nI ml), (nI sl), (nI o), (nI b), (nI c), (lN g), (zz_n S), (zz_n (zz_u B o (p + z))), (zz_n (zz_al A o al)), (zz_n N), (zz_r im (o * 8 + p) z (fun _ => v4)), (upd sy (o * 8 + nm) (nI p)), (zz_n sm), (zz_n sn), (zz_n sa), (zz_n so), (zz_n T), (zz_n C), (zz_n R), (zz_n Q), tp, (zz_n L), (zz_n F), (zz_n M), ow, (zz_l G), (zz_n rn), ins, pc, ac, (zz_l D), dt, me)) :
    ∀ n i, i ≤ z → z < n + i → wX_symbol_102 post (nI nm) (nI z) (nI al) v4 (nI p) (nI tl) (nI ml) (nI sl) (nI o) (nI b) (nI c) (lN g) n (nI (p + i)) (zz_n S) (zz_n B) (zz_n A) (zz_n N) (zz_r im (o * 8 + p) i (fun _ => v4)) sy (zz_n sm) (zz_n sn) (zz_n sa) (zz_n so) (zz_n T) (zz_n C) (zz_n R) (zz_n Q) tp (zz_n L) (zz_n F) (zz_n M) ow (zz_l G) (zz_n rn) ins pc ac (zz_l D) dt me := by
  intro n
  induction n with
  | zero => intro i h1 h2; omega
  | succ n ih =>
    intro i h1 h2
    have hv : vp_in (nI o) 8 := vp_in_nI ho (by decide)
    refine pk_le (p + z) (p + i) (fun h => ?_) (fun h => ?_) (hx := nI_add p z)
    · obtain rfl : i = z := by omega
      rw [zz_ix o nm, nI_clamp (n := o * 8 + nm) (by omega), nI_add p i, zz_rd A o (by omega)]
      refine ⟨vp_in_nI (by omega) (by decide), nm_e ⟨hv, nm_r (zz_wr B (by omega)) ⟨hv, pk_le al (A o) (fun h => ?_) (fun h => ⟨hv, nm_r (zz_wr A (by omega)) ?_⟩)⟩⟩⟩
      · rw [show zz_al A o al = A from if_pos h] at k
        exact k
      · rw [show zz_al A o al = zz_u A o al from if_neg (by omega)] at k
        exact k
    · have e : nI o * 8 + nI (p + i) = nI (o * 8 + p + i) := by rw [zz_ix, Nat.add_assoc]
      rw [e, nI_clamp (n := o * 8 + p + i) (by omega)]
      exact ⟨vp_in_nI (by omega) (by decide), nm_r zz_rs (nm_r (nI_1 (p + i)) (ih (i + 1) (by omega) (by omega)))⟩
theorem zy_sym_l {post : Int32 → SY → Prop} {o nm z al p : Nat} {v4 : Int32} (ho : o < 8) (hn : nm < 8) (hz : p + z ≤ 8) (hA : A o ≤ 4) (hal : al ≤ 4)
    (k : post (nI p) ((nI c), (nI o), (nI b), (nI tl), (nI ml), (nI sl), (zz_n S), (zz_n (zz_u B o (p + z))), (zz_n (zz_al A o al)), (zz_n N), (zz_n Fy), (zz_r im (o * 8 + p) z (fun _ => v4)), (upd sy (o * 8 + nm) (nI p)), (zz_n sm), (zz_n sn), (zz_n sa), (zz_n so), (zz_n T), (zz_n C), (zz_n Ly), (zz_n rn), ay, io, (zz_n si), bl)) :
    ∀ n i, i ≤ z → z < n + i → wY_symbol_109 post (nI nm) (nI z) (nI al) v4 (nI p) (nI c) (nI o) (nI b) (nI tl) (nI ml) (nI sl) n (nI (p + i)) (zz_n S) (zz_n B) (zz_n A) (zz_n N) (zz_n Fy) (zz_r im (o * 8 + p) i (fun _ => v4)) sy (zz_n sm) (zz_n sn) (zz_n sa) (zz_n so) (zz_n T) (zz_n C) (zz_n Ly) (zz_n rn) ay io (zz_n si) bl := by
  intro n
  induction n with
  | zero => intro i h1 h2; omega
  | succ n ih =>
    intro i h1 h2
    have hv : vp_in (nI o) 8 := vp_in_nI ho (by decide)
    refine pk_le (p + z) (p + i) (fun h => ?_) (fun h => ?_) (hx := nI_add p z)
    · obtain rfl : i = z := by omega
      rw [zz_ix o nm, nI_clamp (n := o * 8 + nm) (by omega), nI_add p i, zz_rd A o (by omega)]
      refine ⟨vp_in_nI (by omega) (by decide), nm_e ⟨hv, nm_r (zz_wr B (by omega)) ⟨hv, pk_le al (A o) (fun h => ?_) (fun h => ⟨hv, nm_r (zz_wr A (by omega)) ?_⟩)⟩⟩⟩
      · rw [show zz_al A o al = A from if_pos h] at k
        exact k
      · rw [show zz_al A o al = zz_u A o al from if_neg (by omega)] at k
        exact k
    · have e : nI o * 8 + nI (p + i) = nI (o * 8 + p + i) := by rw [zz_ix, Nat.add_assoc]
      rw [e, nI_clamp (n := o * 8 + p + i) (by omega)]
      exact br_t (nI_le (by omega) (by omega)) ⟨vp_in_nI (by omega) (by decide), nm_r zz_rs (nm_r (nI_1 (p + i)) (ih (i + 1) (by omega) (by omega)))⟩
theorem zy_sym_0 {post : Int32 → SY → Prop} {o nm z al p : Nat} {v4 : Int32} (ho : o < 8) (hn : nm < 8) (hz : p + z ≤ 8) (hA : A o ≤ 4) (hal : al ≤ 4) (hi : ∀ x, B o ≤ x → x < 8 → im (o * 8 + x) = 0)
    (k : post (nI p) ((nI c), (nI o), (nI b), (nI tl), (nI ml), (nI sl), (zz_n S), (zz_n (zz_u B o (p + z))), (zz_n (zz_al A o al)), (zz_n N), (zz_n Fy), (zz_r im (o * 8 + p) z (fun _ => v4)), (upd sy (o * 8 + nm) (nI p)), (zz_n sm), (zz_n sn), (zz_n sa), (zz_n so), (zz_n T), (zz_n C), (zz_n Ly), (zz_n rn), ay, io, (zz_n si), bl)) :
    ∀ n j, B o ≤ j → j ≤ p → p + z < n + j → wY_symbol_109 post (nI nm) (nI z) (nI al) v4 (nI p) (nI c) (nI o) (nI b) (nI tl) (nI ml) (nI sl) n (nI j) (zz_n S) (zz_n B) (zz_n A) (zz_n N) (zz_n Fy) im sy (zz_n sm) (zz_n sn) (zz_n sa) (zz_n so) (zz_n T) (zz_n C) (zz_n Ly) (zz_n rn) ay io (zz_n si) bl := by
  intro n
  induction n with
  | zero => intro j h0 h1 h2; omega
  | succ n ih =>
    intro j h0 h1 h2
    by_cases e : j = p
    · subst e
      have K := zy_sym_l ho hn hz hA hal k (n + 1) 0 (by omega) (by omega)
      rw [zz_r0] at K
      exact K
    · refine pk_le (p + z) j (fun h => absurd h (by omega)) (fun h => ?_) (hx := nI_add p z)
      rw [zz_ix o j, nI_clamp (n := o * 8 + j) (by omega)]
      have e0 : upd im (o * 8 + j) 0 = im := by
        funext q
        by_cases eq : q = o * 8 + j
        · subst eq; rw [pk_us, hi j h0 (by omega)]
        · rw [pk_un eq]
      exact br_f (nI_ge (by omega) (by omega)) ⟨vp_in_nI (by omega) (by decide), nm_r e0 (nm_r (nI_1 j) (ih (j + 1) (by omega) (by omega) (by omega)))⟩
theorem zp_sym {o nm z al p : Nat} {v4 : Int32} (ho : o < 8) (hS0 : S o = 0) (hn : nm < 8) (hz : p + z ≤ 8) (hp : B o ≤ p) (z1 : 1 ≤ z) (hal : al = 1 ∨ al = 2 ∨ al = 4) (h2 : zz_N (nI o) S B A N sm sn sa so im sy) (h3 : zz_Z b c g S B N sm T C R Q L F M G rn D Fy Ly si im tp ow ins pc ac dt me ay io bl) :
    zz_N (nI o) S (zz_u B o (p + z)) (zz_al A o al) N sm sn sa so (zz_r im (o * 8 + p) z (fun _ => v4)) (upd sy (o * 8 + nm) (nI p))
    ∧ zz_Z b c g S (zz_u B o (p + z)) N sm T C R Q L F M G rn D Fy Ly si (zz_r im (o * 8 + p) z (fun _ => v4)) tp ow ins pc ac dt me ay io bl := by
  obtain ⟨hO, hY, hT, hK, hC⟩ := h2
  refine ⟨⟨?_, ?_, hT, ?_, hC⟩, zz_cg (A := A) hO (fun p hp => Or.inl rfl) ?_ (fun i hi => ⟨rfl, rfl⟩) h3⟩
  · intro q hq
    obtain ⟨a1, a2, a3, a4, a5⟩ := hO q hq
    by_cases e : q = o
    · subst e
      rw [zz_us]
      refine ⟨a1, hz, ?_, a4, fun x h1 hx => ?_⟩
      · unfold zz_al
        by_cases y : al ≤ A q
        · rw [if_pos y]; exact a3
        · rw [if_neg y, zz_us]; exact hal
      · rw [zz_ro (by omega)]
        exact a5 x (by omega) hx
    · rw [zz_un e]
      refine ⟨a1, a2, ?_, a4, fun x h1 hx => ?_⟩
      · unfold zz_al
        by_cases y : al ≤ A o
        · rw [if_pos y]; exact a3
        · rw [if_neg y, zz_un e]; exact a3
      · rw [zz_ro (by omega)]
        exact a5 x h1 hx
  · intro j hj
    by_cases e : j = o * 8 + nm
    · subst e; rw [pk_us]; exact Or.inr ⟨p, by omega, rfl⟩
    · rw [pk_un e]; exact hY j hj
  · intro q hq hne s hs
    have e : q ≠ o := fun e => by subst e; exact hne hS0
    have hN := (hO q hq).2.2.2.1
    have hsn := (hT (q * 8 + s) (by omega)).2.1
    rw [pk_un (by omega)]
    exact hK q hq hne s hs
  · intro q hq hl
    have e : q ≠ o := fun e => by subst e; omega
    rw [zz_un e]
    exact ⟨rfl, rfl, rfl, rfl, fun x hx => ⟨zz_ro (by omega), rfl, rfl, rfl⟩⟩
theorem zq_sym {o nm z al k : Nat} {v4 : Int32} (ho : o < 8) (hS0 : S o = 0) (hn : nm < 8) (z1 : 1 ≤ z) (z8 : z ≤ 8) (hal : al = 1 ∨ al = 2 ∨ al = 4) (h1 : zz_B tl ml sl b c g k rn) (h2 : zz_N (nI o) S B A N sm sn sa so im sy) (h3 : zz_Z b c g S B N sm T C R Q L F M G rn D Fy Ly si im tp ow ins pc ac dt me ay io bl) :
    ∃ (r : Int32) (u' : SX) (v' : SY), i_Rel k u' v' ∧ (∀ post : Int32 → SX → Prop, post r u' → wX_symbol_50 post (nI nm) (nI z) (nI al) v4 (nI tl) (nI ml) (nI sl) (nI o) (nI b) (nI c) (lN g) (zz_n S) (zz_n B) (zz_n A) (zz_n N) im sy (zz_n sm) (zz_n sn) (zz_n sa) (zz_n so) (zz_n T) (zz_n C) (zz_n R) (zz_n Q) tp (zz_n L) (zz_n F) (zz_n M) ow (zz_l G) (zz_n rn) ins pc ac (zz_l D) dt me) ∧ (∀ post : Int32 → SY → Prop, post r v' → wY_symbol_50 post (nI nm) (nI z) (nI al) v4 (nI c) (nI o) (nI b) (nI tl) (nI ml) (nI sl) (zz_n S) (zz_n B) (zz_n A) (zz_n N) (zz_n Fy) im sy (zz_n sm) (zz_n sn) (zz_n sa) (zz_n so) (zz_n T) (zz_n C) (zz_n Ly) (zz_n rn) ay io (zz_n si) bl) := by
  have hv : vp_in (nI o) 8 := vp_in_nI ho (by decide)
  have hj : vp_in (nI o * 8 + nI nm) 64 := by rw [zz_ix]; exact vp_in_nI (by omega) (by decide)
  have ej : sy (nI o * 8 + nI nm).toNatClampNeg = sy (o * 8 + nm) := by rw [zz_ix, nI_clamp (n := o * 8 + nm) (by omega)]
  have eB : zz_n B (nI o).toNatClampNeg = nI (B o) := zz_rd B o (by omega)
  obtain ⟨a1, a2, a3, a4, a5⟩ := h2.1 o ho
  have hb := zz_ub (v := B o) hal
  rcases h2.2.1 (o * 8 + nm) (by omega) with e | ⟨p, hp, e⟩
  · have hneg : sy (nI o * 8 + nI nm).toNatClampNeg < 0 := by rw [ej, e]; exact zz_n1l
    by_cases hf : zz_up (B o) al + z ≤ 8
    · obtain ⟨p1, p2⟩ := zp_sym (v4 := v4) ho hS0 hn hf hb.1 z1 hal h2 h3
      refine ⟨nI (zz_up (B o) al), _, _, zz_mk h1 p1 p2, fun post hp => ?_, fun post hp => ?_⟩
      · refine And.intro hj (br_t hneg (And.intro hv ?_))
        rw [eB]
        refine zx_up hal (by omega) (pk_le (zz_up (B o) al + z) 8 (fun _ => ?_) (fun h => absurd h (by omega)) (hx := nI_add _ z))
        have K := zx_sym_l ho hn hf (by omega) (by omega) hp (z + 1) 0 (by omega) (by omega)
        rw [zz_r0] at K
        exact ⟨z + 1, K⟩
      · refine And.intro hj (br_t hneg (And.intro hv ?_))
        rw [eB]
        exact zy_up hal (by omega) (pk_le (zz_up (B o) al + z) 8 (fun _ => And.intro hv (nm_e ⟨20, zy_sym_0 ho hn hf (by omega) (by omega) a5 hp 20 (B o) (by omega) (by omega) (by omega)⟩)) (fun h => absurd h (by omega)) (hx := nI_add _ z))
    · refine ⟨-3, _, _, zz_mk h1 h2 h3, fun post hp => ?_, fun post hp => ?_⟩
      · refine And.intro hj (br_t hneg (And.intro hv ?_))
        rw [eB]
        exact zx_up hal (by omega) (pk_le (zz_up (B o) al + z) 8 (fun h => absurd h (by omega)) (fun _ => hp) (hx := nI_add _ z))
      · refine And.intro hj (br_t hneg (And.intro hv ?_))
        rw [eB]
        exact zy_up hal (by omega) (pk_le (zz_up (B o) al + z) 8 (fun h => absurd h (by omega)) (fun _ => hp) (hx := nI_add _ z))
  · have hneg : ¬ sy (nI o * 8 + nI nm).toNatClampNeg < 0 := by rw [ej, e]; exact nI_pos (by omega)
    exact ⟨-8, _, _, zz_mk h1 h2 h3, fun post hp => And.intro hj (br_f hneg hp), fun post hp => And.intro hj (br_f hneg hp)⟩
theorem i_vc_symbol {k : Nat} {u : SX} {v : SY} (I : i_Rel k u v) (hk : k + 5 ≤ 2563) (v1 : Int32) (v2 : Int32) (v3 : Int32) (v4 : Int32) : wpX_symbol (fun r u' => wpY_symbol (fun r' v' => r' = r ∧ i_Rel (k + 5) u' v') v v1 v2 v3 v4) u v1 v2 v3 v4 := by
  refine zz_el (P := fun u v => wpX_symbol (fun r u' => wpY_symbol (fun r' v' => r' = r ∧ i_Rel (k + 5) u' v') v v1 v2 v3 v4) u v1 v2 v3 v4) ?_ I
  intro tl ml sl b c g cu S B A N sm sn sa so T C R Q L F M G rn D Fy Ly si im sy tp ow ins pc ac dt me ay io bl h1 h2 h3
  have J : i_Rel (k + 5) ((nI tl), (nI ml), (nI sl), cu, (nI b), (nI c), (lN g), (zz_n S), (zz_n B), (zz_n A), (zz_n N), im, sy, (zz_n sm), (zz_n sn), (zz_n sa), (zz_n so), (zz_n T), (zz_n C), (zz_n R), (zz_n Q), tp, (zz_n L), (zz_n F), (zz_n M), ow, (zz_l G), (zz_n rn), ins, pc, ac, (zz_l D), dt, me) ((nI c), cu, (nI b), (nI tl), (nI ml), (nI sl), (zz_n S), (zz_n B), (zz_n A), (zz_n N), (zz_n Fy), im, sy, (zz_n sm), (zz_n sn), (zz_n sa), (zz_n so), (zz_n T), (zz_n C), (zz_n Ly), (zz_n rn), ay, io, (zz_n si), bl) := zz_mk (zz_Bk h1 (by omega)) h2 h3
  rcases h2.2.2.2.2 with rfl | ⟨o, ho, rfl, h0⟩
  · exact br_f zz_n1g (br_f zz_n1g ⟨rfl, J⟩)
  · have c0 : 0 ≤ nI o := nI_pos' (by omega)
    rcases pk_ix v1 (n := 8) (by decide) with h | h | ⟨nm, hn, rfl⟩
    · exact br_t c0 (br_t h (br_t c0 (br_t h ⟨rfl, J⟩)))
    · have z1 := zz_ge0 (n := 8) (by decide) h
      have z2 := (zz_gt (n := 7) (by decide) h).1
      exact br_t c0 (br_f z1 (br_t z2 (br_t c0 (br_f z1 (br_t z2 ⟨rfl, J⟩)))))
    have m1 : ¬ nI nm < 0 := nI_pos (by omega)
    have m2 : ¬ 7 < nI nm := zz_nlt7 hn
    by_cases m3 : v2 < 1
    · exact br_t c0 (br_f m1 (br_f m2 (br_t m3 (br_t c0 (br_f m1 (br_f m2 (br_t m3 ⟨rfl, J⟩)))))))
    by_cases m4 : v2 ≤ 8
    · obtain ⟨z, hz, rfl⟩ : ∃ z, z < 9 ∧ v2 = nI z := by
        rcases pk_ix v2 (n := 9) (by decide) with h | h | h
        · exact absurd (Int32.lt_trans h (by decide)) m3
        · exact absurd m4 (zz_gt (n := 8) (by decide) h).2.1
        · exact h
      have z1 : 1 ≤ z := by
        have := mt (fun y => nI_lt (a := z) (b := 1) y (by decide)) m3
        omega
      have go : ∀ al, (al = 1 ∨ al = 2 ∨ al = 4) → ∃ (r : Int32) (u' : SX) (v' : SY), i_Rel (k + 5) u' v' ∧ (∀ post : Int32 → SX → Prop, post r u' → wX_symbol_50 post (nI nm) (nI z) (nI al) v4 (nI tl) (nI ml) (nI sl) (nI o) (nI b) (nI c) (lN g) (zz_n S) (zz_n B) (zz_n A) (zz_n N) im sy (zz_n sm) (zz_n sn) (zz_n sa) (zz_n so) (zz_n T) (zz_n C) (zz_n R) (zz_n Q) tp (zz_n L) (zz_n F) (zz_n M) ow (zz_l G) (zz_n rn) ins pc ac (zz_l D) dt me) ∧ (∀ post : Int32 → SY → Prop, post r v' → wY_symbol_50 post (nI nm) (nI z) (nI al) v4 (nI c) (nI o) (nI b) (nI tl) (nI ml) (nI sl) (zz_n S) (zz_n B) (zz_n A) (zz_n N) (zz_n Fy) im sy (zz_n sm) (zz_n sn) (zz_n sa) (zz_n so) (zz_n T) (zz_n C) (zz_n Ly) (zz_n rn) ay io (zz_n si) bl) :=
        fun al hal => zq_sym ho h0 hn z1 (by omega) hal (zz_Bk h1 (by omega)) h2 h3
      by_cases e1 : v3 = 1
      · subst e1
        obtain ⟨r, u', v', Jr, hX, hY⟩ := go 1 (Or.inl rfl)
        exact br_t c0 (br_f m1 (br_f m2 (br_f m3 (br_t m4 (br_t rfl (hX _ (br_t c0 (br_f m1 (br_f m2 (br_f m3 (br_t m4 (br_t rfl (hY _ ⟨rfl, Jr⟩)))))))))))))
      by_cases e2 : v3 = 2
      · subst e2
        obtain ⟨r, u', v', Jr, hX, hY⟩ := go 2 (Or.inr (Or.inl rfl))
        exact br_t c0 (br_f m1 (br_f m2 (br_f m3 (br_t m4 (br_f e1 (br_t rfl (hX _ (br_t c0 (br_f m1 (br_f m2 (br_f m3 (br_t m4 (br_f e1 (br_t rfl (hY _ ⟨rfl, Jr⟩)))))))))))))))
      by_cases e4 : v3 = 4
      · subst e4
        obtain ⟨r, u', v', Jr, hX, hY⟩ := go 4 (Or.inr (Or.inr rfl))
        exact br_t c0 (br_f m1 (br_f m2 (br_f m3 (br_t m4 (br_f e1 (br_f e2 (br_t rfl (hX _ (br_t c0 (br_f m1 (br_f m2 (br_f m3 (br_t m4 (br_f e1 (br_f e2 (br_t rfl (hY _ ⟨rfl, Jr⟩)))))))))))))))))
      exact br_t c0 (br_f m1 (br_f m2 (br_f m3 (br_t m4 (br_f e1 (br_f e2 (br_f e4 (br_t c0 (br_f m1 (br_f m2 (br_f m3 (br_t m4 (br_f e1 (br_f e2 (br_f e4 ⟨rfl, J⟩)))))))))))))))
    · exact br_t c0 (br_f m1 (br_f m2 (br_f m3 (br_f m4 (br_t c0 (br_f m1 (br_f m2 (br_f m3 (br_f m4 ⟨rfl, J⟩)))))))))
end ZSY
end
section
section ZLK
/-! link -/
variable {tl ml sl b c g : Nat} {cu : Int32} {S B A N sm sn sa so T C R Q L F M G rn D Fy Ly si : Nat → Nat} {im sy tp ow ins pc ac dt me ay io bl : Nat → Int32}
theorem zq_lnk {o kd : Nat} (ho : o < 8) (hkd : kd = 1 ∨ kd = 2) (hN : N o ≤ 8) (hT : zz_T sm sn sa so) (hY : zz_Y sy) : ∀ d i, i + d = N o →
    (∃ r : Int32, (∀ post : Int32 → SX → Prop, post r ((nI tl), (nI ml), (nI sl), (nI o), (nI b), (nI c), (lN g), (zz_n S), (zz_n B), (zz_n A), (zz_n N), im, sy, (zz_n sm), (zz_n sn), (zz_n sa), (zz_n so), (zz_n T), (zz_n C), (zz_n R), (zz_n Q), tp, (zz_n L), (zz_n F), (zz_n M), ow, (zz_l G), (zz_n rn), ins, pc, ac, (zz_l D), dt, me) → wX_link_24 post (nI kd) (nI tl) (nI ml) (nI sl) (nI o) (nI b) (nI c) (lN g) (zz_n S) (zz_n B) (zz_n A) (zz_n N) im sy (zz_n sm) (zz_n sn) (zz_n sa) (zz_n so) (zz_n T) (zz_n C) (zz_n R) (zz_n Q) tp (zz_n L) (zz_n F) (zz_n M) ow (zz_l G) (zz_n rn) ins pc ac (zz_l D) dt me (d + 1) (nI i)) ∧ (∀ post : Int32 → SY → Prop, post r ((nI c), (nI o), (nI b), (nI tl), (nI ml), (nI sl), (zz_n S), (zz_n B), (zz_n A), (zz_n N), (zz_n Fy), im, sy, (zz_n sm), (zz_n sn), (zz_n sa), (zz_n so), (zz_n T), (zz_n C), (zz_n Ly), (zz_n rn), ay, io, (zz_n si), bl) → wY_link_30 post (nI kd) (nI c) (nI o) (nI b) (nI tl) (nI ml) (nI sl) (zz_n S) (zz_n B) (zz_n A) (zz_n N) (zz_n Fy) im sy (zz_n sm) (zz_n sn) (zz_n sa) (zz_n so) (zz_n T) (zz_n C) (zz_n Ly) (zz_n rn) ay io (zz_n si) bl (d + 1) (nI (o * 8 + i))))
    ∨ ((∀ s, i ≤ s → s < N o → (sm (o * 8 + s) = 1 ∨ sm (o * 8 + s) = 3 → sy (o * 8 + sn (o * 8 + s)) ≠ -1) ∧ (sm (o * 8 + s) = 3 → kd ≠ 2)) ∧ (∀ post : Int32 → SX → Prop, post 0 ((nI tl), (nI ml), (nI sl), (-1), (nI b), (nI c), (lN g), (zz_n (zz_u S o kd)), (zz_n B), (zz_n A), (zz_n N), im, sy, (zz_n sm), (zz_n sn), (zz_n sa), (zz_n so), (zz_n T), (zz_n C), (zz_n R), (zz_n Q), tp, (zz_n L), (zz_n F), (zz_n M), ow, (zz_l G), (zz_n rn), ins, pc, ac, (zz_l D), dt, me) → wX_link_24 post (nI kd) (nI tl) (nI ml) (nI sl) (nI o) (nI b) (nI c) (lN g) (zz_n S) (zz_n B) (zz_n A) (zz_n N) im sy (zz_n sm) (zz_n sn) (zz_n sa) (zz_n so) (zz_n T) (zz_n C) (zz_n R) (zz_n Q) tp (zz_n L) (zz_n F) (zz_n M) ow (zz_l G) (zz_n rn) ins pc ac (zz_l D) dt me (d + 1) (nI i)) ∧ (∀ post : Int32 → SY → Prop, post 0 ((nI c), (-1), (nI b), (nI tl), (nI ml), (nI sl), (zz_n (zz_u S o kd)), (zz_n B), (zz_n A), (zz_n N), (zz_n Fy), im, sy, (zz_n sm), (zz_n sn), (zz_n sa), (zz_n so), (zz_n T), (zz_n C), (zz_n Ly), (zz_n rn), ay, io, (zz_n si), bl) → wY_link_30 post (nI kd) (nI c) (nI o) (nI b) (nI tl) (nI ml) (nI sl) (zz_n S) (zz_n B) (zz_n A) (zz_n N) (zz_n Fy) im sy (zz_n sm) (zz_n sn) (zz_n sa) (zz_n so) (zz_n T) (zz_n C) (zz_n Ly) (zz_n rn) ay io (zz_n si) bl (d + 1) (nI (o * 8 + i)))) := by
  have hv : vp_in (nI o) 8 := vp_in_nI ho (by decide)
  have eN : zz_n N (nI o).toNatClampNeg = nI (N o) := zz_rd N o (by omega)
  have eM : nI o * 8 + zz_n N (nI o).toNatClampNeg = nI (o * 8 + N o) := by rw [eN, zz_ix]
  intro d
  induction d with
  | zero =>
    intro i hi
    refine Or.inr ⟨fun s h1 h2 => by omega, fun post hp => ?_, fun post hp => ?_⟩
    · exact And.intro hv (br_t (by rw [eN]; exact nI_le (by omega) (by omega)) (And.intro hv (nm_r (zz_wr S (by omega)) hp)))
    · exact And.intro hv (br_t (by rw [eM]; exact nI_le (by omega) (by omega)) (And.intro hv (nm_r (zz_wr S (by omega)) hp)))
  | succ d ih =>
    intro i hi
    have gX : ¬ zz_n N (nI o).toNatClampNeg ≤ nI i := by rw [eN]; exact nI_ge (by omega) (by omega)
    have gY : ¬ nI o * 8 + zz_n N (nI o).toNatClampNeg ≤ nI (o * 8 + i) := by rw [eM]; exact nI_ge (by omega) (by omega)
    obtain ⟨t1, t2, _, _⟩ := hT (o * 8 + i) (by omega)
    have ej : nI o * 8 + nI i = nI (o * 8 + i) := zz_ix o i
    have hj : vp_in (nI (o * 8 + i)) 64 := vp_in_nI (by omega) (by decide)
    have hj' : vp_in (nI o * 8 + nI i) 64 := by rw [ej]; exact hj
    have em : zz_n sm (nI (o * 8 + i)).toNatClampNeg = nI (sm (o * 8 + i)) := zz_rd sm (o * 8 + i) (by omega)
    have en : zz_n sn (nI (o * 8 + i)).toNatClampNeg = nI (sn (o * 8 + i)) := zz_rd sn (o * 8 + i) (by omega)
    have em' : zz_n sm (nI o * 8 + nI i).toNatClampNeg = nI (sm (o * 8 + i)) := by rw [ej, em]
    have en' : zz_n sn (nI o * 8 + nI i).toNatClampNeg = nI (sn (o * 8 + i)) := by rw [ej, en]
    have hq : vp_in (nI o * 8 + nI (sn (o * 8 + i))) 64 := by rw [zz_ix]; exact vp_in_nI (by omega) (by decide)
    have hq' : vp_in (nI o * 8 + zz_n sn (nI (o * 8 + i)).toNatClampNeg) 64 := by rw [en]; exact hq
    have eq : sy (nI o * 8 + nI (sn (o * 8 + i))).toNatClampNeg = sy (o * 8 + sn (o * 8 + i)) := by rw [zz_ix, nI_clamp (by omega)]
    have eq' : sy (nI o * 8 + zz_n sn (nI (o * 8 + i)).toNatClampNeg).toNatClampNeg = sy (o * 8 + sn (o * 8 + i)) := by rw [en, eq]
    by_cases b1 : sm (o * 8 + i) = 3 ∧ kd = 2
    · obtain ⟨b1, b2⟩ := b1
      subst b2
      refine Or.inl ⟨-5, fun post hp => ?_, fun post hp => ?_⟩
      · exact And.intro hv (br_f gX (And.intro hj' (nm_r em' (And.intro hj' (nm_r en' (br_t (by rw [b1]; rfl) (br_t rfl hp)))))))
      · exact And.intro hv (br_f gY (And.intro hj (br_t (by rw [em, b1]; rfl) (br_t rfl hp))))
    · -- both go on to row 81 and row 69
      have sX : ∀ post : Int32 → SX → Prop, wX_link_81 post (wX_link_24 post (nI kd) (nI tl) (nI ml) (nI sl) (nI o) (nI b) (nI c) (lN g) (zz_n S) (zz_n B) (zz_n A) (zz_n N) im sy (zz_n sm) (zz_n sn) (zz_n sa) (zz_n so) (zz_n T) (zz_n C) (zz_n R) (zz_n Q) tp (zz_n L) (zz_n F) (zz_n M) ow (zz_l G) (zz_n rn) ins pc ac (zz_l D) dt me (d + 1)) (nI kd) (nI i) (nI (sm (o * 8 + i))) (nI (sn (o * 8 + i))) (nI tl) (nI ml) (nI sl) (nI o) (nI b) (nI c) (lN g) (zz_n S) (zz_n B) (zz_n A) (zz_n N) im sy (zz_n sm) (zz_n sn) (zz_n sa) (zz_n so) (zz_n T) (zz_n C) (zz_n R) (zz_n Q) tp (zz_n L) (zz_n F) (zz_n M) ow (zz_l G) (zz_n rn) ins pc ac (zz_l D) dt me → wX_link_24 post (nI kd) (nI tl) (nI ml) (nI sl) (nI o) (nI b) (nI c) (lN g) (zz_n S) (zz_n B) (zz_n A) (zz_n N) im sy (zz_n sm) (zz_n sn) (zz_n sa) (zz_n so) (zz_n T) (zz_n C) (zz_n R) (zz_n Q) tp (zz_n L) (zz_n F) (zz_n M) ow (zz_l G) (zz_n rn) ins pc ac (zz_l D) dt me (d + 1 + 1) (nI i) := by
        intro post K
        refine And.intro hv (br_f gX (And.intro hj' (nm_r em' (And.intro hj' (nm_r en' (br_c (fun z => br_c (fun z2 => ?_) (fun _ => K)) (fun _ => K)))))))
        have y1 : sm (o * 8 + i) = 3 := zz_inj (n := 3) z (by omega) (by decide)
        have y2 : kd = 2 := zz_inj (n := 2) z2 (by omega) (by decide)
        exact absurd ⟨y1, y2⟩ b1
      have sY : ∀ post : Int32 → SY → Prop, wY_link_69 post (wY_link_30 post (nI kd) (nI c) (nI o) (nI b) (nI tl) (nI ml) (nI sl) (zz_n S) (zz_n B) (zz_n A) (zz_n N) (zz_n Fy) im sy (zz_n sm) (zz_n sn) (zz_n sa) (zz_n so) (zz_n T) (zz_n C) (zz_n Ly) (zz_n rn) ay io (zz_n si) bl (d + 1)) (nI kd) (nI (o * 8 + i)) (nI c) (nI o) (nI b) (nI tl) (nI ml) (nI sl) (zz_n S) (zz_n B) (zz_n A) (zz_n N) (zz_n Fy) im sy (zz_n sm) (zz_n sn) (zz_n sa) (zz_n so) (zz_n T) (zz_n C) (zz_n Ly) (zz_n rn) ay io (zz_n si) bl → wY_link_30 post (nI kd) (nI c) (nI o) (nI b) (nI tl) (nI ml) (nI sl) (zz_n S) (zz_n B) (zz_n A) (zz_n N) (zz_n Fy) im sy (zz_n sm) (zz_n sn) (zz_n sa) (zz_n so) (zz_n T) (zz_n C) (zz_n Ly) (zz_n rn) ay io (zz_n si) bl (d + 1 + 1) (nI (o * 8 + i)) := by
        intro post K
        refine And.intro hv (br_f gY (And.intro hj (br_c (fun z => br_c (fun z2 => ?_) (fun _ => K)) (fun _ => K))))
        rw [em] at z
        have y1 : sm (o * 8 + i) = 3 := zz_inj (n := 3) z (by omega) (by decide)
        have y2 : kd = 2 := zz_inj (n := 2) z2 (by omega) (by decide)
        exact absurd ⟨y1, y2⟩ b1
      -- the symbol's test
      have nX : ∀ post : Int32 → SX → Prop, wX_link_24 post (nI kd) (nI tl) (nI ml) (nI sl) (nI o) (nI b) (nI c) (lN g) (zz_n S) (zz_n B) (zz_n A) (zz_n N) im sy (zz_n sm) (zz_n sn) (zz_n sa) (zz_n so) (zz_n T) (zz_n C) (zz_n R) (zz_n Q) tp (zz_n L) (zz_n F) (zz_n M) ow (zz_l G) (zz_n rn) ins pc ac (zz_l D) dt me (d + 1) (nI (i + 1)) → (sm (o * 8 + i) = 1 ∨ sm (o * 8 + i) = 3 → 0 ≤ sy (o * 8 + sn (o * 8 + i))) → wX_link_24 post (nI kd) (nI tl) (nI ml) (nI sl) (nI o) (nI b) (nI c) (lN g) (zz_n S) (zz_n B) (zz_n A) (zz_n N) im sy (zz_n sm) (zz_n sn) (zz_n sa) (zz_n so) (zz_n T) (zz_n C) (zz_n R) (zz_n Q) tp (zz_n L) (zz_n F) (zz_n M) ow (zz_l G) (zz_n rn) ins pc ac (zz_l D) dt me (d + 1 + 1) (nI i) := by
        intro post K hs
        apply sX
        have h91 : (0 ≤ sy (o * 8 + sn (o * 8 + i))) → wX_link_96 post (wX_link_24 post (nI kd) (nI tl) (nI ml) (nI sl) (nI o) (nI b) (nI c) (lN g) (zz_n S) (zz_n B) (zz_n A) (zz_n N) im sy (zz_n sm) (zz_n sn) (zz_n sa) (zz_n so) (zz_n T) (zz_n C) (zz_n R) (zz_n Q) tp (zz_n L) (zz_n F) (zz_n M) ow (zz_l G) (zz_n rn) ins pc ac (zz_l D) dt me (d + 1)) (nI kd) (nI i) (nI (sn (o * 8 + i))) 1 (nI tl) (nI ml) (nI sl) (nI o) (nI b) (nI c) (lN g) (zz_n S) (zz_n B) (zz_n A) (zz_n N) im sy (zz_n sm) (zz_n sn) (zz_n sa) (zz_n so) (zz_n T) (zz_n C) (zz_n R) (zz_n Q) tp (zz_n L) (zz_n F) (zz_n M) ow (zz_l G) (zz_n rn) ins pc ac (zz_l D) dt me :=
          fun h => br_f zz_10 (And.intro hq (br_t (by rw [eq]; exact h) (nm_r (nI_1 i) K)))
        exact pk_eq (sm (o * 8 + i)) 1 (fun e => h91 (hs (Or.inl e))) (fun e1 => pk_eq (sm (o * 8 + i)) 3 (fun e => h91 (hs (Or.inr e))) (fun e3 => br_t rfl (nm_r (nI_1 i) K)))
      have nY : ∀ post : Int32 → SY → Prop, wY_link_30 post (nI kd) (nI c) (nI o) (nI b) (nI tl) (nI ml) (nI sl) (zz_n S) (zz_n B) (zz_n A) (zz_n N) (zz_n Fy) im sy (zz_n sm) (zz_n sn) (zz_n sa) (zz_n so) (zz_n T) (zz_n C) (zz_n Ly) (zz_n rn) ay io (zz_n si) bl (d + 1) (nI (o * 8 + (i + 1))) → (sm (o * 8 + i) = 1 ∨ sm (o * 8 + i) = 3 → 0 ≤ sy (o * 8 + sn (o * 8 + i))) → wY_link_30 post (nI kd) (nI c) (nI o) (nI b) (nI tl) (nI ml) (nI sl) (zz_n S) (zz_n B) (zz_n A) (zz_n N) (zz_n Fy) im sy (zz_n sm) (zz_n sn) (zz_n sa) (zz_n so) (zz_n T) (zz_n C) (zz_n Ly) (zz_n rn) ay io (zz_n si) bl (d + 1 + 1) (nI (o * 8 + i)) := by
        intro post K hs
        apply sY
        have h89 : (0 ≤ sy (o * 8 + sn (o * 8 + i))) → wY_link_89 post (wY_link_30 post (nI kd) (nI c) (nI o) (nI b) (nI tl) (nI ml) (nI sl) (zz_n S) (zz_n B) (zz_n A) (zz_n N) (zz_n Fy) im sy (zz_n sm) (zz_n sn) (zz_n sa) (zz_n so) (zz_n T) (zz_n C) (zz_n Ly) (zz_n rn) ay io (zz_n si) bl (d + 1)) (nI kd) (nI (o * 8 + i)) (nI c) (nI o) (nI b) (nI tl) (nI ml) (nI sl) (zz_n S) (zz_n B) (zz_n A) (zz_n N) (zz_n Fy) im sy (zz_n sm) (zz_n sn) (zz_n sa) (zz_n so) (zz_n T) (zz_n C) (zz_n Ly) (zz_n rn) ay io (zz_n si) bl :=
          fun h => And.intro hj (And.intro hq' (br_t (by rw [eq']; exact h) (nm_r (nI_1 (o * 8 + i)) K)))
        exact And.intro hj (pk_eq (sm (o * 8 + i)) 1 (fun e => h89 (hs (Or.inl e))) (fun e1 => And.intro hj (pk_eq (sm (o * 8 + i)) 3 (fun e => h89 (hs (Or.inr e))) (fun e3 => nm_r (nI_1 (o * 8 + i)) K) (hx := em))) (hx := em))
      by_cases b2 : (sm (o * 8 + i) = 1 ∨ sm (o * 8 + i) = 3) ∧ ¬ 0 ≤ sy (o * 8 + sn (o * 8 + i))
      · obtain ⟨b2, b3⟩ := b2
        refine Or.inl ⟨-4, fun post hp => sX post ?_, fun post hp => sY post ?_⟩
        · have h91 : wX_link_96 post (wX_link_24 post (nI kd) (nI tl) (nI ml) (nI sl) (nI o) (nI b) (nI c) (lN g) (zz_n S) (zz_n B) (zz_n A) (zz_n N) im sy (zz_n sm) (zz_n sn) (zz_n sa) (zz_n so) (zz_n T) (zz_n C) (zz_n R) (zz_n Q) tp (zz_n L) (zz_n F) (zz_n M) ow (zz_l G) (zz_n rn) ins pc ac (zz_l D) dt me (d + 1)) (nI kd) (nI i) (nI (sn (o * 8 + i))) 1 (nI tl) (nI ml) (nI sl) (nI o) (nI b) (nI c) (lN g) (zz_n S) (zz_n B) (zz_n A) (zz_n N) im sy (zz_n sm) (zz_n sn) (zz_n sa) (zz_n so) (zz_n T) (zz_n C) (zz_n R) (zz_n Q) tp (zz_n L) (zz_n F) (zz_n M) ow (zz_l G) (zz_n rn) ins pc ac (zz_l D) dt me :=
            br_f zz_10 (And.intro hq (br_f (by rw [eq]; exact b3) hp))
          rcases b2 with e | e
          · exact br_t (by rw [e]; rfl) h91
          · exact br_f (by rw [e]; decide) (br_t (by rw [e]; rfl) h91)
        · have h89 : wY_link_89 post (wY_link_30 post (nI kd) (nI c) (nI o) (nI b) (nI tl) (nI ml) (nI sl) (zz_n S) (zz_n B) (zz_n A) (zz_n N) (zz_n Fy) im sy (zz_n sm) (zz_n sn) (zz_n sa) (zz_n so) (zz_n T) (zz_n C) (zz_n Ly) (zz_n rn) ay io (zz_n si) bl (d + 1)) (nI kd) (nI (o * 8 + i)) (nI c) (nI o) (nI b) (nI tl) (nI ml) (nI sl) (zz_n S) (zz_n B) (zz_n A) (zz_n N) (zz_n Fy) im sy (zz_n sm) (zz_n sn) (zz_n sa) (zz_n so) (zz_n T) (zz_n C) (zz_n Ly) (zz_n rn) ay io (zz_n si) bl :=
            And.intro hj (And.intro hq' (br_f (by rw [eq']; exact b3) hp))
          rcases b2 with e | e
          · exact And.intro hj (br_t (by rw [em, e]; rfl) h89)
          · exact And.intro hj (br_f (by rw [em, e]; decide) (And.intro hj (br_t (by rw [em, e]; rfl) h89)))
      · have hs : sm (o * 8 + i) = 1 ∨ sm (o * 8 + i) = 3 → 0 ≤ sy (o * 8 + sn (o * 8 + i)) := by
          intro h
          by_cases y : 0 ≤ sy (o * 8 + sn (o * 8 + i))
          · exact y
          · exact absurd ⟨h, y⟩ b2
        rcases ih (i + 1) (by omega) with ⟨r, kX, kY⟩ | ⟨f1, kX, kY⟩
        · exact Or.inl ⟨r, fun post hp => nX post (kX post hp) hs, fun post hp => nY post (kY post hp) hs⟩
        · refine Or.inr ⟨fun s h1 h2 => ?_, fun post hp => nX post (kX post hp) hs, fun post hp => nY post (kY post hp) hs⟩
          by_cases e : s = i
          · subst e
            exact ⟨fun z y => zz_n1g (by rw [← y]; exact hs z), fun z y => b1 ⟨z, y⟩⟩
          · exact f1 s (by omega) h2
theorem zp_lnk {o kd : Nat} (ho : o < 8) (hS0 : S o = 0) (hkd : kd = 1 ∨ kd = 2) (hf : ∀ s, 0 ≤ s → s < N o → (sm (o * 8 + s) = 1 ∨ sm (o * 8 + s) = 3 → sy (o * 8 + sn (o * 8 + s)) ≠ -1) ∧ (sm (o * 8 + s) = 3 → kd ≠ 2)) (h2 : zz_N (nI o) S B A N sm sn sa so im sy) (h3 : zz_Z b c g S B N sm T C R Q L F M G rn D Fy Ly si im tp ow ins pc ac dt me ay io bl) :
    zz_N (-1) (zz_u S o kd) B A N sm sn sa so im sy ∧ zz_Z b c g (zz_u S o kd) B N sm T C R Q L F M G rn D Fy Ly si im tp ow ins pc ac dt me ay io bl := by
  obtain ⟨hO, hY, hT, hK, hC⟩ := h2
  refine ⟨⟨?_, hY, hT, ?_, Or.inl rfl⟩, zz_cg (A := A) hO ?_ (fun p hp hl => ⟨rfl, rfl, rfl, rfl, fun x hx => ⟨rfl, rfl, rfl, rfl⟩⟩) (fun i hi => ⟨rfl, rfl⟩) h3⟩
  · intro p hp
    obtain ⟨a1, a2⟩ := hO p hp
    refine ⟨?_, a2⟩
    by_cases e : p = o
    · subst e; rw [zz_us]; omega
    · rw [zz_un e]; exact a1
  · intro p hp hn s hs
    by_cases e : p = o
    · subst e
      rw [zz_us]
      exact ⟨(hf s (by omega) hs).1, fun z => by have := (hf s (by omega) hs).2 z; omega⟩
    · rw [zz_un e] at hn ⊢
      exact hK p hp hn s hs
  · intro p hp
    by_cases e : p = o
    · subst e; rw [zz_us]; omega
    · rw [zz_un e]; exact Or.inl rfl
theorem i_vc_link {k : Nat} {u : SX} {v : SY} (I : i_Rel k u v) (hk : k + 5 ≤ 2563) (v1 : Int32) : wpX_link (fun r u' => wpY_link (fun r' v' => r' = r ∧ i_Rel (k + 5) u' v') v v1) u v1 := by
  refine zz_el (P := fun u v => wpX_link (fun r u' => wpY_link (fun r' v' => r' = r ∧ i_Rel (k + 5) u' v') v v1) u v1) ?_ I
  intro tl ml sl b c g cu S B A N sm sn sa so T C R Q L F M G rn D Fy Ly si im sy tp ow ins pc ac dt me ay io bl h1 h2 h3
  have J : i_Rel (k + 5) ((nI tl), (nI ml), (nI sl), cu, (nI b), (nI c), (lN g), (zz_n S), (zz_n B), (zz_n A), (zz_n N), im, sy, (zz_n sm), (zz_n sn), (zz_n sa), (zz_n so), (zz_n T), (zz_n C), (zz_n R), (zz_n Q), tp, (zz_n L), (zz_n F), (zz_n M), ow, (zz_l G), (zz_n rn), ins, pc, ac, (zz_l D), dt, me) ((nI c), cu, (nI b), (nI tl), (nI ml), (nI sl), (zz_n S), (zz_n B), (zz_n A), (zz_n N), (zz_n Fy), im, sy, (zz_n sm), (zz_n sn), (zz_n sa), (zz_n so), (zz_n T), (zz_n C), (zz_n Ly), (zz_n rn), ay, io, (zz_n si), bl) := zz_mk (zz_Bk h1 (by omega)) h2 h3
  rcases h2.2.2.2.2 with rfl | ⟨o, ho, rfl, h0⟩
  · exact br_f zz_n1g (br_f zz_n1g ⟨rfl, J⟩)
  · have c0 : 0 ≤ nI o := nI_pos' (by omega)
    have hN := (h2.1 o ho).2.2.2.1
    have go : ∀ kd, (kd = 1 ∨ kd = 2) → ∃ (r : Int32) (u' : SX) (v' : SY), i_Rel (k + 5) u' v' ∧ (∀ post : Int32 → SX → Prop, post r u' → wX_link_24 post (nI kd) (nI tl) (nI ml) (nI sl) (nI o) (nI b) (nI c) (lN g) (zz_n S) (zz_n B) (zz_n A) (zz_n N) im sy (zz_n sm) (zz_n sn) (zz_n sa) (zz_n so) (zz_n T) (zz_n C) (zz_n R) (zz_n Q) tp (zz_n L) (zz_n F) (zz_n M) ow (zz_l G) (zz_n rn) ins pc ac (zz_l D) dt me (N o + 1) 0) ∧ (∀ post : Int32 → SY → Prop, post r v' → wY_link_30 post (nI kd) (nI c) (nI o) (nI b) (nI tl) (nI ml) (nI sl) (zz_n S) (zz_n B) (zz_n A) (zz_n N) (zz_n Fy) im sy (zz_n sm) (zz_n sn) (zz_n sa) (zz_n so) (zz_n T) (zz_n C) (zz_n Ly) (zz_n rn) ay io (zz_n si) bl (N o + 1) (nI (o * 8))) := by
      intro kd hkd
      rcases zq_lnk (tl := tl) (ml := ml) (sl := sl) (b := b) (c := c) (g := g) (S := S) (B := B) (A := A) (N := N) (sm := sm) (sn := sn) (sa := sa) (so := so) (T := T) (C := C) (R := R) (Q := Q) (L := L) (F := F) (M := M) (G := G) (rn := rn) (D := D) (im := im) (sy := sy) (tp := tp) (ow := ow) (ins := ins) (pc := pc) (ac := ac) (dt := dt) (me := me) (Fy := Fy) (Ly := Ly) (si := si) (ay := ay) (io := io) (bl := bl) ho hkd hN h2.2.2.1 h2.2.1 (N o) 0 (by omega) with ⟨r, kX, kY⟩ | ⟨f1, kX, kY⟩
      · exact ⟨r, _, _, J, kX, kY⟩
      · obtain ⟨p1, p2⟩ := zp_lnk ho h0 hkd f1 h2 h3
        exact ⟨0, _, _, zz_mk (zz_Bk h1 (by omega)) p1 p2, kX, kY⟩
    by_cases e1 : v1 = 1
    · subst e1
      obtain ⟨r, u', v', Jr, hX, hY⟩ := go 1 (Or.inl rfl)
      exact br_t c0 (br_t rfl ⟨N o + 1, hX _ (br_t c0 (br_t rfl (nm_r (zz_m8 o) ⟨N o + 1, hY _ ⟨rfl, Jr⟩⟩)))⟩)
    by_cases e2 : v1 = 2
    · subst e2
      obtain ⟨r, u', v', Jr, hX, hY⟩ := go 2 (Or.inr rfl)
      exact br_t c0 (br_f e1 (br_t rfl ⟨N o + 1, hX _ (br_t c0 (br_f e1 (br_t rfl (nm_r (zz_m8 o) ⟨N o + 1, hY _ ⟨rfl, Jr⟩⟩))))⟩))
    exact br_t c0 (br_f e1 (br_f e2 (br_t c0 (br_f e1 (br_f e2 ⟨rfl, J⟩)))))
end ZLK
end
section
section ZTH
/-! start, end, enter -/
variable {tl ml sl b c g : Nat} {cu : Int32} {S B A N sm sn sa so T C R Q L F M G rn D Fy Ly si : Nat → Nat} {im sy tp ow ins pc ac dt me ay io bl : Nat → Int32}
theorem zz_bb {t o : Nat} (hO : zz_O S B A N im) (hM : zz_M S M ow) (hF : zz_F S B F Fy) (ho : o < 8) (h3 : 3 ≤ S o) : t * 80 ≤ zz_ba S F M t o ∧ zz_ba S F M t o + B o ≤ t * 80 + 80 := by
  have hB := (hO o ho).2.1
  have hm := (hM.1 o ho h3).1
  unfold zz_ba
  by_cases h4 : 4 ≤ S o
  · rw [if_pos h4]
    have := hF.1 o ho h4
    omega
  · rw [if_neg h4]; omega
theorem zz_bd {t o p : Nat} (hO : zz_O S B A N im) (hM : zz_M S M ow) (hF : zz_F S B F Fy) (ho : o < 8) (h3 : 3 ≤ S o) (hp : p < 8) (h3' : 3 ≤ S p) (hn : o ≠ p) : zz_ba S F M t o + B o ≤ zz_ba S F M t p ∨ zz_ba S F M t p + B p ≤ zz_ba S F M t o := by
  have hB := (hO o ho).2.1
  have hB' := (hO p hp).2.1
  obtain ⟨m1, m2⟩ := hM.1 o ho h3
  obtain ⟨m3, m4⟩ := hM.1 p hp h3'
  have hm : M o ≠ M p := by
    intro e
    rw [e, m4] at m2
    exact hn (zz_inj m2 (by omega) (by omega)).symm
  unfold zz_ba
  by_cases h4 : 4 ≤ S o
  · have f1 := hF.1 o ho h4
    rw [if_pos h4]
    by_cases h4' : 4 ≤ S p
    · have f2 := hF.1 p hp h4'
      have f3 := hF.2 o p ho hp h4 h4' hn
      rw [if_pos h4']
      omega
    · rw [if_neg h4']; omega
  · rw [if_neg h4]
    by_cases h4' : 4 ≤ S p
    · have f2 := hF.1 p hp h4'
      rw [if_pos h4']
      omega
    · rw [if_neg h4']; omega
theorem zp_start {t : Nat} {me' bl' : Nat → Int32} (ht : t < 4) (hb : b ≠ 0) (hr : rn t = 0) (hO : zz_O S B A N im) (hz : zz_Z b c g S B N sm T C R Q L F M G rn D Fy Ly si im tp ow ins pc ac dt me ay io bl)
    (m1 : ∀ j, (j < t * 80 ∨ t * 80 + 32 ≤ j) → me' j = me j) (m2 : ∀ i, i < c → 4 ≤ S (L i) → ∀ x, x < B (L i) → me' (t * 80 + 32 - F (L i) + x) = im (L i * 8 + x))
    (b1 : ∀ j, (j < t * 64 ∨ t * 64 + 64 ≤ j) → bl' j = bl j) (b2 : ∀ i, i < c → ∀ x, x < 8 → bl' (t * 64 + Ly i * 8 + x) = im (Ly i * 8 + x)) :
    zz_Z b c g S B N sm T C R Q L F M G (zz_u rn t 1) (zz_u D t g) Fy Ly si im tp ow ins pc ac (zz_r dt (t * 6) 6 (fun _ => -1)) me' (upd ay t 0) (upd io t (-1)) bl' := by
  obtain ⟨hL, hR, hM, hG, hF, ⟨t1, t2⟩, hV⟩ := hz
  refine ⟨hL, hR, hM, ⟨hG.1, ?_⟩, hF, ⟨?_, fun h => absurd h hb⟩, ?_⟩
  · intro q hq
    by_cases e : q = t
    · rw [zz_us' e]; omega
    · rw [zz_un e]; exact hG.2 q hq
  · intro q hq
    by_cases e : q = t
    · subst e
      rcases t1 q hq with ⟨_, q2, q3, q4⟩ | ⟨q1, _⟩
      · refine Or.inr ⟨zz_us, ?_, ?_, Or.inl ⟨q2, q3⟩⟩
        · rw [pk_us, q4]
        · rw [pk_us, q2]
      · omega
    · rw [zz_un e, pk_un e, pk_un e]
      exact t1 q hq
  · intro q hq hrq o ho h3
    have hm := (hM.1 o ho h3).1
    by_cases e : q = t
    · subst e
      obtain ⟨i, hi, hLi⟩ := hL.2.2.1 o ho h3
      have hLy : Ly i = o := by rw [(hL.1 i hi).2.2]; exact hLi
      have ed : zz_r dt (q * 6) 6 (fun _ => -1) (q * 6 + M o) = -1 := zz_ri hm
      have hb8 := (hO o ho).2.1
      have eb : ∀ x, x < 8 → bl' (q * 64 + o * 8 + x) = im (o * 8 + x) := by
        intro x hx
        have := b2 i hi x hx
        rw [hLy] at this
        exact this
      refine ⟨fun _ => Or.inl ed, fun hto x hx => ?_, fun _ x hx => (eb x (by omega)).symm⟩
      have h4 : 4 ≤ S o := by
        rcases hto with h | h
        · exact h
        · exact absurd ed h.2
      have hm2 := m2 i hi (by rw [hLi]; exact h4) x (by rw [hLi]; exact hx)
      rw [hLi] at hm2
      rw [show zz_ba S F M q o = q * 80 + 32 - F o from if_pos h4, hm2, eb x (by omega)]
    · rw [zz_un e] at hrq
      obtain ⟨v1, v2, v3⟩ := hV q hq hrq o ho h3
      have ed : zz_r dt (t * 6) 6 (fun _ => -1) (q * 6 + M o) = dt (q * 6 + M o) := zz_ro (by omega)
      have eD : zz_u D t g q = D q := zz_un e
      have et : zz_to S M G (zz_u D t g) (zz_r dt (t * 6) 6 (fun _ => -1)) q o ↔ zz_to S M G D dt q o := by unfold zz_to; rw [ed, eD]
      have hbb := zz_bb (t := q) hO hM hF ho h3
      have hb8 := (hO o ho).2.1
      rw [eD, ed, et]
      refine ⟨v1, fun h x hx => ?_, fun h x hx => ?_⟩
      · rw [m1 _ (by omega), b1 _ (by omega)]; exact v2 h x hx
      · rw [b1 _ (by omega)]; exact v3 h x hx
theorem i_vc_start {k : Nat} {u : SX} {v : SY} (I : i_Rel k u v) (hk : k + 5 ≤ 2563) (v1 : Int32) : wpX_start (fun r u' => wpY_start (fun r' v' => r' = r ∧ i_Rel (k + 5) u' v') v v1) u v1 := by
  refine zz_el (P := fun u v => wpX_start (fun r u' => wpY_start (fun r' v' => r' = r ∧ i_Rel (k + 5) u' v') v v1) u v1) ?_ I
  intro tl ml sl b c g cu S B A N sm sn sa so T C R Q L F M G rn D Fy Ly si im sy tp ow ins pc ac dt me ay io bl h1 h2 h3
  have J : i_Rel (k + 5) ((nI tl), (nI ml), (nI sl), cu, (nI b), (nI c), (lN g), (zz_n S), (zz_n B), (zz_n A), (zz_n N), im, sy, (zz_n sm), (zz_n sn), (zz_n sa), (zz_n so), (zz_n T), (zz_n C), (zz_n R), (zz_n Q), tp, (zz_n L), (zz_n F), (zz_n M), ow, (zz_l G), (zz_n rn), ins, pc, ac, (zz_l D), dt, me) ((nI c), cu, (nI b), (nI tl), (nI ml), (nI sl), (zz_n S), (zz_n B), (zz_n A), (zz_n N), (zz_n Fy), im, sy, (zz_n sm), (zz_n sn), (zz_n sa), (zz_n so), (zz_n T), (zz_n C), (zz_n Ly), (zz_n rn), ay, io, (zz_n si), bl) := zz_mk (zz_Bk h1 (by omega)) h2 h3
  have t2 := h1.1
  have t4 := h1.2.1
  have hc : c ≤ 6 := by unfold zz_B at h1; omega
  have hb1 : b ≤ 1 := by unfold zz_B at h1; omega
  unfold wpX_start
  rcases pk_ix v1 (n := tl) (by omega) with h | h | ⟨t, ht, rfl⟩
  · exact zx_thr0 t4 (Or.inl h) (br_t rfl (br_t h ⟨rfl, J⟩))
  · exact zx_thr0 t4 (Or.inr h) (br_t rfl (br_f (zz_ge0 (n := tl) (by omega) h) (br_f (Int32.not_lt.mpr h) ⟨rfl, J⟩)))
  · refine zx_thr1 t4 ht (br_f zz_10 ?_)
    have hp : ¬ nI t < 0 := nI_pos (by omega)
    have hq : nI t < nI tl := nI_lt ht (by omega)
    have hv : vp_in (nI t) 4 := vp_in_nI (by omega) (by decide)
    have er : zz_n rn (nI t).toNatClampNeg = nI (rn t) := zz_rd rn t (by omega)
    by_cases hb : b = 0
    · subst hb
      exact br_t rfl (br_f hp (br_t hq (br_t rfl ⟨rfl, J⟩)))
    · have hb0 : ¬ nI b = 0 := nI_ne0 (by omega) (by omega)
      have hS : ∀ o, o < 8 → S o ≤ 5 ∧ B o ≤ 8 := fun o ho => ⟨(h2.1 o ho).1, (h2.1 o ho).2.1⟩
      rcases h3.2.2.2.2.2.1.1 t (by omega) with ⟨q1, _⟩ | ⟨q1, _⟩
      · have er0 : zz_n rn (nI t).toNatClampNeg = 0 := by rw [er, q1]; rfl
        refine br_f hb0 (And.intro hv (br_t er0 (zx_sth (by omega) hc (fun i hi => (h3.1.1 i hi).1) hS (fun o ho h4 => (h3.2.2.2.2.1.1 o ho h4).2) h3.2.2.2.2.1.2 (fun me' m1 m2 => ?_))))
        refine br_f hp (br_t hq (br_f hb0 (And.intro hv (br_t er0 (zy_beg (by omega) hc (fun i hi => by rw [(h3.1.1 i hi).2.2]; exact (h3.1.1 i hi).1) (fun bl' b1 b2 => ?_))))))
        exact ⟨rfl, zz_mk (zz_Bt h1 (by omega) ht) h2 (zp_start (A := A) (by omega) hb q1 h2.1 h3 m1 m2 b1 b2)⟩
      · have er0 : ¬ zz_n rn (nI t).toNatClampNeg = 0 := by rw [er, q1]; decide
        exact br_f hb0 (And.intro hv (br_f er0 (br_f hp (br_t hq (br_f hb0 (And.intro hv (br_f er0 ⟨rfl, J⟩)))))))
theorem zp_end {t : Nat} (ht : t < 4) (hz : zz_Z b c g S B N sm T C R Q L F M G rn D Fy Ly si im tp ow ins pc ac dt me ay io bl) :
    zz_Z b c g S B N sm T C R Q L F M G (zz_u rn t 0) D Fy Ly si im tp ow (upd ins t (-1)) (upd pc t (-1)) (upd ac t 0) dt me ay io bl := by
  obtain ⟨hL, hR, hM, hG, hF, ⟨t1, t2⟩, hV⟩ := hz
  refine ⟨hL, hR, hM, hG, hF, ⟨?_, fun h q hq => ?_⟩, ?_⟩
  · intro q hq
    by_cases e : q = t
    · subst e
      rw [zz_us, pk_us, pk_us, pk_us]
      exact Or.inl ⟨rfl, rfl, rfl, rfl⟩
    · rw [zz_un e, pk_un e, pk_un e, pk_un e]
      exact t1 q hq
  · by_cases e : q = t
    · exact zz_us' e
    · rw [zz_un e]; exact t2 h q hq
  · intro q hq hrq
    by_cases e : q = t
    · rw [zz_us' e] at hrq; omega
    · rw [zz_un e] at hrq
      exact hV q hq hrq
theorem i_vc_end {k : Nat} {u : SX} {v : SY} (I : i_Rel k u v) (hk : k + 5 ≤ 2563) (v1 : Int32) : wpX_end (fun r u' => wpY_end (fun r' v' => r' = r ∧ i_Rel (k + 5) u' v') v v1) u v1 := by
  refine zz_el (P := fun u v => wpX_end (fun r u' => wpY_end (fun r' v' => r' = r ∧ i_Rel (k + 5) u' v') v v1) u v1) ?_ I
  intro tl ml sl b c g cu S B A N sm sn sa so T C R Q L F M G rn D Fy Ly si im sy tp ow ins pc ac dt me ay io bl h1 h2 h3
  have J : i_Rel (k + 5) ((nI tl), (nI ml), (nI sl), cu, (nI b), (nI c), (lN g), (zz_n S), (zz_n B), (zz_n A), (zz_n N), im, sy, (zz_n sm), (zz_n sn), (zz_n sa), (zz_n so), (zz_n T), (zz_n C), (zz_n R), (zz_n Q), tp, (zz_n L), (zz_n F), (zz_n M), ow, (zz_l G), (zz_n rn), ins, pc, ac, (zz_l D), dt, me) ((nI c), cu, (nI b), (nI tl), (nI ml), (nI sl), (zz_n S), (zz_n B), (zz_n A), (zz_n N), (zz_n Fy), im, sy, (zz_n sm), (zz_n sn), (zz_n sa), (zz_n so), (zz_n T), (zz_n C), (zz_n Ly), (zz_n rn), ay, io, (zz_n si), bl) := zz_mk (zz_Bk h1 (by omega)) h2 h3
  have t2 := h1.1
  have t4 := h1.2.1
  unfold wpX_end
  rcases pk_ix v1 (n := tl) (by omega) with h | h | ⟨t, ht, rfl⟩
  · exact zx_thr0 t4 (Or.inl h) (br_t rfl (br_t h ⟨rfl, J⟩))
  · exact zx_thr0 t4 (Or.inr h) (br_t rfl (br_f (zz_ge0 (n := tl) (by omega) h) (br_f (Int32.not_lt.mpr h) ⟨rfl, J⟩)))
  · refine zx_thr1 t4 ht (br_f zz_10 ?_)
    have hp : ¬ nI t < 0 := nI_pos (by omega)
    have hq : nI t < nI tl := nI_lt ht (by omega)
    have hv : vp_in (nI t) 4 := vp_in_nI (by omega) (by decide)
    have er : zz_n rn (nI t).toNatClampNeg = nI (rn t) := zz_rd rn t (by omega)
    rcases h3.2.2.2.2.2.1.1 t (by omega) with ⟨q1, _⟩ | ⟨q1, _⟩
    · have er0 : zz_n rn (nI t).toNatClampNeg = 0 := by rw [er, q1]; rfl
      exact And.intro hv (br_t er0 (br_f hp (br_t hq (And.intro hv (br_t er0 ⟨rfl, J⟩)))))
    · have er0 : ¬ zz_n rn (nI t).toNatClampNeg = 0 := by rw [er, q1]; decide
      by_cases e0 : t = 0
      · subst e0
        exact And.intro hv (br_f er0 (br_t rfl (br_f hp (br_t hq (And.intro hv (br_f er0 (br_t rfl ⟨rfl, J⟩)))))))
      · have e1 : ¬ nI t = 0 := nI_ne0 (by omega) (by omega)
        refine And.intro hv (br_f er0 (br_f e1 (zx_stop (by omega) ?_)))
        refine br_f hp (br_t hq (And.intro hv (br_f er0 (br_f e1 (And.intro hv (nm_r (e' := zz_n (zz_u rn t 0)) ?_ ⟨rfl, zz_mk (zz_Bt h1 (by omega) ht) h2 (zp_end (by omega) h3)⟩))))))
        rw [zz_b0]
        exact zz_wr (v := 0) rn (by omega)
theorem zp_enter {t o s : Nat} {w : Int32} (ht : t < 4) (hr : rn t = 1) (ho : o < 8) (hl : 3 ≤ S o) (hs : s < N o) (hz : zz_Z b c g S B N sm T C R Q L F M G rn D Fy Ly si im tp ow ins pc ac dt me ay io bl) :
    zz_Z b c g S B N sm T C R Q L F M G rn D Fy Ly (zz_u si t s) im tp ow (upd ins t (nI o)) (upd pc t (nI s)) (upd ac t w) dt me (upd ay t w) (upd io t (nI o)) bl := by
  obtain ⟨hL, hR, hM, hG, hF, ⟨t1, t2⟩, hV⟩ := hz
  refine ⟨hL, hR, hM, hG, hF, ⟨?_, t2⟩, hV⟩
  intro q hq
  by_cases e : q = t
  · subst e
    rw [zz_us, pk_us, pk_us, pk_us, pk_us, pk_us]
    exact Or.inr ⟨hr, rfl, rfl, Or.inr ⟨o, ho, rfl, hl, hs, rfl⟩⟩
  · rw [zz_un e, pk_un e, pk_un e, pk_un e, pk_un e, pk_un e]
    exact t1 q hq
theorem i_vc_enter {k : Nat} {u : SX} {v : SY} (I : i_Rel k u v) (hk : k + 5 ≤ 2563) (v1 : Int32) (v2 : Int32) (v3 : Int32) (v4 : Int32) : wpX_enter (fun r u' => wpY_enter (fun r' v' => r' = r ∧ i_Rel (k + 5) u' v') v v1 v2 v3 v4) u v1 v2 v3 v4 := by
  refine zz_el (P := fun u v => wpX_enter (fun r u' => wpY_enter (fun r' v' => r' = r ∧ i_Rel (k + 5) u' v') v v1 v2 v3 v4) u v1 v2 v3 v4) ?_ I
  intro tl ml sl b c g cu S B A N sm sn sa so T C R Q L F M G rn D Fy Ly si im sy tp ow ins pc ac dt me ay io bl h1 h2 h3
  have J : i_Rel (k + 5) ((nI tl), (nI ml), (nI sl), cu, (nI b), (nI c), (lN g), (zz_n S), (zz_n B), (zz_n A), (zz_n N), im, sy, (zz_n sm), (zz_n sn), (zz_n sa), (zz_n so), (zz_n T), (zz_n C), (zz_n R), (zz_n Q), tp, (zz_n L), (zz_n F), (zz_n M), ow, (zz_l G), (zz_n rn), ins, pc, ac, (zz_l D), dt, me) ((nI c), cu, (nI b), (nI tl), (nI ml), (nI sl), (zz_n S), (zz_n B), (zz_n A), (zz_n N), (zz_n Fy), im, sy, (zz_n sm), (zz_n sn), (zz_n sa), (zz_n so), (zz_n T), (zz_n C), (zz_n Ly), (zz_n rn), ay, io, (zz_n si), bl) := zz_mk (zz_Bk h1 (by omega)) h2 h3
  have t2 := h1.1
  have t4 := h1.2.1
  unfold wpX_enter
  rcases pk_ix v1 (n := tl) (by omega) with h | h | ⟨t, ht, rfl⟩
  · exact zx_thr0 t4 (Or.inl h) (br_t rfl (br_t h ⟨rfl, J⟩))
  · exact zx_thr0 t4 (Or.inr h) (br_t rfl (br_f (zz_ge0 (n := tl) (by omega) h) (br_t h ⟨rfl, J⟩)))
  · refine zx_thr1 t4 ht (br_f zz_10 ?_)
    have hp : ¬ nI t < 0 := nI_pos (by omega)
    have hq : ¬ nI tl ≤ nI t := nI_ge ht (by omega)
    have hv : vp_in (nI t) 4 := vp_in_nI (by omega) (by decide)
    rcases pk_ix v2 (n := 8) (by decide) with h | h | ⟨o, ho, rfl⟩
    · exact zx_obj0 (Or.inl h) (br_t rfl (br_f hp (br_f hq (br_t h ⟨rfl, J⟩))))
    · exact zx_obj0 (Or.inr h) (br_t rfl (br_f hp (br_f hq (br_f (zz_ge0 (n := 8) (by decide) h) (br_f (zz_gt (n := 7) (by decide) h).2.1 ⟨rfl, J⟩)))))
    · refine zx_obj1 ho (br_f zz_10 ?_)
      have hp' : ¬ nI o < 0 := nI_pos (by omega)
      have hv' : vp_in (nI o) 8 := vp_in_nI ho (by decide)
      have er : zz_n rn (nI t).toNatClampNeg = nI (rn t) := zz_rd rn t (by omega)
      have es : zz_n S (nI o).toNatClampNeg = nI (S o) := zz_rd S o (by omega)
      have eN : zz_n N (nI o).toNatClampNeg = nI (N o) := zz_rd N o (by omega)
      have hS5 := (h2.1 o ho).1
      have hN := (h2.1 o ho).2.2.2.1
      rcases h3.2.2.2.2.2.1.1 t (by omega) with ⟨q1, _⟩ | ⟨q1, _⟩
      · have er0 : zz_n rn (nI t).toNatClampNeg = 0 := by rw [er, q1]; rfl
        exact And.intro hv (br_t er0 (br_f hp (br_f hq (br_f hp' (br_t (zz_le7 ho) (And.intro hv (br_t er0 ⟨rfl, J⟩)))))))
      · have er0 : ¬ zz_n rn (nI t).toNatClampNeg = 0 := by rw [er, q1]; decide
        refine And.intro hv (br_f er0 ?_)
        by_cases hl : 3 ≤ S o
        · have hl' : 3 ≤ zz_n S (nI o).toNatClampNeg := by rw [es]; exact nI_le (a := 3) hl (by omega)
          refine zx_ld1 ho hl hS5 (br_f zz_10 ?_)
          by_cases hn : v3 < 0
          · exact br_t hn (br_f hp (br_f hq (br_f hp' (br_t (zz_le7 ho) (And.intro hv (br_f er0 (And.intro hv' (br_t hl' (br_t hn ⟨rfl, J⟩)))))))))
          · by_cases hs : v3 < zz_n N (nI o).toNatClampNeg
            · obtain ⟨s, hs31, rfl⟩ := nI_of hn
              have hs' : s < N o := by rw [eN] at hs; exact (nI_ltI hs31 (by omega)).mp hs
              have P := zp_enter (w := v4) (by omega) q1 ho hl hs' h3
              exact br_f hn (And.intro hv' (br_t hs (And.intro hv (nm_r (zz_wa ins _ (by omega)) (And.intro hv (nm_r (zz_wa pc _ (by omega)) (And.intro hv (nm_r (zz_wa ac _ (by omega)) (br_f hp (br_f hq (br_f hp' (br_t (zz_le7 ho) (And.intro hv (br_f er0 (And.intro hv' (br_t hl' (br_f hn (And.intro hv' (br_t hs (And.intro hv (nm_r (zz_wa io _ (by omega)) (And.intro hv (nm_r (zz_wr si (by omega)) (And.intro hv (nm_r (zz_wa ay _ (by omega)) ⟨rfl, zz_mk (zz_Bk h1 (by omega)) h2 P⟩)))))))))))))))))))))))))
            · exact br_f hn (And.intro hv' (br_f hs (br_f hp (br_f hq (br_f hp' (br_t (zz_le7 ho) (And.intro hv (br_f er0 (And.intro hv' (br_t hl' (br_f hn (And.intro hv' (br_f hs ⟨rfl, J⟩)))))))))))))
        · have hl' : ¬ 3 ≤ zz_n S (nI o).toNatClampNeg := by rw [es]; exact nI_ge (b := 3) (by omega) (by decide)
          exact zx_ld0 ho (by omega) (br_t rfl (br_f hp (br_f hq (br_f hp' (br_t (zz_le7 ho) (And.intro hv (br_f er0 (And.intro hv' (br_f hl' ⟨rfl, J⟩)))))))))
end ZTH
end
section
section ZIN
/-! the constructors -/
def zz_o : Nat → Nat := fun _ => 0
def zz_oi : Nat → Int32 := fun _ => 0
def zz_iI (i : Nat) : Nat → Int32 := fun j => if j < i then -1 else 0
def zz_iA (i : Nat) : Nat → Nat := fun j => if j < i then 1 else 0
theorem zz_iI0 : zz_iI 0 = zz_oi := by funext j; exact if_neg (by omega)
theorem zz_iA0 : zz_iA 0 = zz_o := by funext j; exact if_neg (by omega)
theorem zz_iIs (i : Nat) : upd (zz_iI i) i (-1) = zz_iI (i + 1) := by
  funext j
  unfold zz_iI
  by_cases e : j = i
  · subst e; rw [pk_us, if_pos (by omega)]
  · rw [pk_un e]
    by_cases h : j < i
    · rw [if_pos h, if_pos (by omega)]
    · rw [if_neg h, if_neg (by omega)]
theorem zz_iAs (i : Nat) : zz_u (zz_iA i) i 1 = zz_iA (i + 1) := by
  funext j
  unfold zz_iA
  by_cases e : j = i
  · subst e; rw [zz_us, if_pos (by omega)]
  · rw [zz_un e]
    by_cases h : j < i
    · rw [if_pos h, if_pos (by omega)]
    · rw [if_neg h, if_neg (by omega)]
theorem zz_iIr (i : Nat) : zz_r (zz_iI (i * 8)) (i * 8) 8 (fun _ => -1) = zz_iI ((i + 1) * 8) := by
  funext j
  by_cases e : i * 8 ≤ j ∧ j < i * 8 + 8
  · obtain ⟨x, rfl⟩ : ∃ x, j = i * 8 + x := ⟨j - i * 8, by omega⟩
    rw [zz_ri (by omega)]
    exact (if_pos (by omega)).symm
  · rw [zz_ro (by omega)]
    unfold zz_iI
    by_cases h : j < i * 8
    · rw [if_pos h, if_pos (by omega)]
    · rw [if_neg h, if_neg (by omega)]
theorem zz_ou (i : Nat) : zz_u zz_o i 0 = zz_o := by
  funext j
  by_cases e : j = i
  · rw [zz_us' e]; rfl
  · rw [zz_un e]
theorem zz_oU (i : Nat) : upd zz_oi i 0 = zz_oi := by
  funext j
  by_cases e : j = i
  · subst e; rw [pk_us]; rfl
  · rw [pk_un e]
theorem zz_oR (i n : Nat) : zz_r zz_oi i n (fun _ => 0) = zz_oi := by
  funext j
  by_cases e : i ≤ j ∧ j < i + n
  · exact if_pos e
  · exact if_neg e
theorem zq_clamp (x : Int32) (lo hi : Nat) (h : lo ≤ hi) (hh : hi < 2 ^ 31) : ∃ n, lo ≤ n ∧ n ≤ hi ∧ (∀ (post : Int32 → Prop) (u : SX), post (nI n) → wpX_clamp post u x (nI lo) (nI hi)) ∧ (∀ (post : Int32 → Prop) (u : SY), post (nI n) → wpY_clamp post u x (nI lo) (nI hi)) := by
  by_cases h1 : nI lo ≤ x
  · by_cases h2 : x ≤ nI hi
    · obtain ⟨n, hn, rfl⟩ := nI_of (zz_ge0 (by omega) h1)
      refine ⟨n, (nI_leI (by omega) hn).mp h1, (nI_leI hn (by omega)).mp h2, fun post u k => ?_, fun post u k => ?_⟩
      · obtain ⟨u1, u2, u3, u4, u5, u6, u7, u8, u9, u10, u11, u12, u13, u14, u15, u16, u17, u18, u19, u20, u21, u22, u23, u24, u25, u26, u27, u28, u29, u30, u31, u32, u33, u34⟩ := u
        exact br_t h1 (br_t h2 k)
      · obtain ⟨u1, u2, u3, u4, u5, u6, u7, u8, u9, u10, u11, u12, u13, u14, u15, u16, u17, u18, u19, u20, u21, u22, u23, u24, u25⟩ := u
        exact br_t h1 (br_t h2 k)
    · refine ⟨hi, h, Nat.le_refl _, fun post u k => ?_, fun post u k => ?_⟩
      · obtain ⟨u1, u2, u3, u4, u5, u6, u7, u8, u9, u10, u11, u12, u13, u14, u15, u16, u17, u18, u19, u20, u21, u22, u23, u24, u25, u26, u27, u28, u29, u30, u31, u32, u33, u34⟩ := u
        exact br_t h1 (br_f h2 k)
      · obtain ⟨u1, u2, u3, u4, u5, u6, u7, u8, u9, u10, u11, u12, u13, u14, u15, u16, u17, u18, u19, u20, u21, u22, u23, u24, u25⟩ := u
        exact br_t h1 (br_f h2 k)
  · refine ⟨lo, Nat.le_refl _, h, fun post u k => ?_, fun post u k => ?_⟩
    · obtain ⟨u1, u2, u3, u4, u5, u6, u7, u8, u9, u10, u11, u12, u13, u14, u15, u16, u17, u18, u19, u20, u21, u22, u23, u24, u25, u26, u27, u28, u29, u30, u31, u32, u33, u34⟩ := u
      exact br_f h1 k
    · obtain ⟨u1, u2, u3, u4, u5, u6, u7, u8, u9, u10, u11, u12, u13, u14, u15, u16, u17, u18, u19, u20, u21, u22, u23, u24, u25⟩ := u
      exact br_f h1 k
variable {tl ml sl : Nat}
theorem zx_i321 {post : SX → Prop} (k : post ((nI tl), (nI ml), (nI sl), (-1), (nI 0), (nI 0), (lN 0), (zz_n zz_o), (zz_n zz_o), (zz_n (zz_iA 8)), (zz_n zz_o), zz_oi, (zz_iI 64), (zz_n zz_o), (zz_n zz_o), (zz_n zz_o), (zz_n zz_o), (zz_n zz_o), (zz_n zz_o), (zz_n zz_o), (zz_n zz_o), zz_oi, (zz_n zz_o), (zz_n zz_o), (zz_n zz_o), (zz_iI 6), (zz_l zz_o), (zz_n zz_o), (zz_iI 4), (zz_iI 4), zz_oi, (zz_l zz_o), zz_oi, zz_oi)) : ∀ n i, i ≤ 4 → 4 < n + i → wX_init_321 post n (nI i) (nI tl) (nI ml) (nI sl) (-1) (nI 0) (nI 0) (lN 0) (zz_n zz_o) (zz_n zz_o) (zz_n (zz_iA 8)) (zz_n zz_o) zz_oi (zz_iI 64) (zz_n zz_o) (zz_n zz_o) (zz_n zz_o) (zz_n zz_o) (zz_n zz_o) (zz_n zz_o) (zz_n zz_o) (zz_n zz_o) zz_oi (zz_n zz_o) (zz_n zz_o) (zz_n zz_o) (zz_iI 6) (zz_l zz_o) (zz_n zz_o) (zz_iI i) (zz_iI i) zz_oi (zz_l zz_o) zz_oi zz_oi := by
  intro n
  induction n with
  | zero => intro i h1 h2; omega
  | succ n ih =>
    intro i h1 h2
    refine pk_le 4 i (fun h => ?_) (fun h => ?_)
    · obtain rfl : i = 4 := by omega
      exact k
    · have K := ih (i + 1) (by omega) (by omega)
      refine zx_stop h (nm_r (nI_1 i) ?_)
      rw [zz_iIs, zz_oU, zz_ou]
      exact K
theorem zx_i297 {post : SX → Prop} (k : post ((nI tl), (nI ml), (nI sl), (-1), (nI 0), (nI 0), (lN 0), (zz_n zz_o), (zz_n zz_o), (zz_n (zz_iA 8)), (zz_n zz_o), zz_oi, (zz_iI 64), (zz_n zz_o), (zz_n zz_o), (zz_n zz_o), (zz_n zz_o), (zz_n zz_o), (zz_n zz_o), (zz_n zz_o), (zz_n zz_o), zz_oi, (zz_n zz_o), (zz_n zz_o), (zz_n zz_o), (zz_iI 6), (zz_l zz_o), (zz_n zz_o), (zz_iI 4), (zz_iI 4), zz_oi, (zz_l zz_o), zz_oi, zz_oi)) : ∀ n i, i ≤ 6 → 6 < n + i → wX_init_297 post (nI tl) (nI ml) (nI sl) (-1) (nI 0) (nI 0) (lN 0) n (nI i) (zz_n zz_o) (zz_n zz_o) (zz_n (zz_iA 8)) (zz_n zz_o) zz_oi (zz_iI 64) (zz_n zz_o) (zz_n zz_o) (zz_n zz_o) (zz_n zz_o) (zz_n zz_o) (zz_n zz_o) (zz_n zz_o) (zz_n zz_o) zz_oi (zz_n zz_o) (zz_n zz_o) (zz_n zz_o) (zz_iI i) (zz_l zz_o) (zz_n zz_o) zz_oi zz_oi zz_oi (zz_l zz_o) zz_oi zz_oi := by
  intro n
  induction n with
  | zero => intro i h1 h2; omega
  | succ n ih =>
    intro i h1 h2
    refine pk_le 6 i (fun h => ?_) (fun h => ?_)
    · obtain rfl : i = 6 := by omega
      have K := zx_i321 k 5 0 (by omega) (by omega)
      rw [zz_iI0] at K
      exact ⟨5, K⟩
    · refine And.intro (vp_in_nI h (by decide)) (nm_r (e' := zz_iI (i + 1)) ?_ (nm_r (nI_1 i) (ih (i + 1) (by omega) (by omega))))
      rw [nI_clamp (by omega), zz_iIs]
theorem zx_i275 {post : SX → Prop} (k : post ((nI tl), (nI ml), (nI sl), (-1), (nI 0), (nI 0), (lN 0), (zz_n zz_o), (zz_n zz_o), (zz_n (zz_iA 8)), (zz_n zz_o), zz_oi, (zz_iI 64), (zz_n zz_o), (zz_n zz_o), (zz_n zz_o), (zz_n zz_o), (zz_n zz_o), (zz_n zz_o), (zz_n zz_o), (zz_n zz_o), zz_oi, (zz_n zz_o), (zz_n zz_o), (zz_n zz_o), (zz_iI 6), (zz_l zz_o), (zz_n zz_o), (zz_iI 4), (zz_iI 4), zz_oi, (zz_l zz_o), zz_oi, zz_oi)) : ∀ n i, i ≤ 8 → 8 < n + i → wX_init_275 post n (nI i) (nI tl) (nI ml) (nI sl) (-1) (nI 0) (nI 0) (lN 0) (zz_n zz_o) (zz_n zz_o) (zz_n (zz_iA i)) (zz_n zz_o) zz_oi (zz_iI (i * 8)) (zz_n zz_o) (zz_n zz_o) (zz_n zz_o) (zz_n zz_o) (zz_n zz_o) (zz_n zz_o) (zz_n zz_o) (zz_n zz_o) zz_oi (zz_n zz_o) (zz_n zz_o) (zz_n zz_o) zz_oi (zz_l zz_o) (zz_n zz_o) zz_oi zz_oi zz_oi (zz_l zz_o) zz_oi zz_oi := by
  intro n
  induction n with
  | zero => intro i h1 h2; omega
  | succ n ih =>
    intro i h1 h2
    refine pk_le 8 i (fun h => ?_) (fun h => ?_)
    · obtain rfl : i = 8 := by omega
      have K := zx_i297 k 7 0 (by omega) (by omega)
      rw [zz_iI0] at K
      exact ⟨7, K⟩
    · have K := ih (i + 1) (by omega) (by omega)
      refine zx_clr h (nm_r (nI_1 i) ?_)
      rw [zz_iAs, zz_iIr, zz_ou, zz_oR]
      exact K
theorem zy_i207 {post : SY → Prop} (k : post ((nI 0), (-1), (nI 0), (nI tl), (nI ml), (nI sl), (zz_n zz_o), (zz_n zz_o), (zz_n (zz_iA 8)), (zz_n zz_o), (zz_n zz_o), zz_oi, (zz_iI 64), (zz_n zz_o), (zz_n zz_o), (zz_n zz_o), (zz_n zz_o), (zz_n zz_o), (zz_n zz_o), (zz_n zz_o), (zz_n zz_o), zz_oi, zz_oi, (zz_n zz_o), zz_oi)) : ∀ n i, i ≤ 8 → 8 < n + i → wY_init_207 post n (nI i) (nI 0) (-1) (nI 0) (nI tl) (nI ml) (nI sl) (zz_n zz_o) (zz_n zz_o) (zz_n (zz_iA i)) (zz_n zz_o) (zz_n zz_o) zz_oi (zz_iI (i * 8)) (zz_n zz_o) (zz_n zz_o) (zz_n zz_o) (zz_n zz_o) (zz_n zz_o) (zz_n zz_o) (zz_n zz_o) (zz_n zz_o) zz_oi zz_oi (zz_n zz_o) zz_oi := by
  intro n
  induction n with
  | zero => intro i h1 h2; omega
  | succ n ih =>
    intro i h1 h2
    refine pk_le 8 i (fun h => ?_) (fun h => ?_)
    · obtain rfl : i = 8 := by omega
      exact k
    · have K := ih (i + 1) (by omega) (by omega)
      refine zy_clr h (nm_r (nI_1 i) ?_)
      rw [zz_iAs, zz_iIr, zz_ou, zz_oR]
      exact K
theorem zp_init (t2 : 2 ≤ tl) (t4 : tl ≤ 4) (m2 : 2 ≤ ml) (m6 : ml ≤ 6) (s8 : 8 ≤ sl) (s32 : sl ≤ 32) : i_Rel 3 ((nI tl), (nI ml), (nI sl), (-1), (nI 0), (nI 0), (lN 0), (zz_n zz_o), (zz_n zz_o), (zz_n (zz_iA 8)), (zz_n zz_o), zz_oi, (zz_iI 64), (zz_n zz_o), (zz_n zz_o), (zz_n zz_o), (zz_n zz_o), (zz_n zz_o), (zz_n zz_o), (zz_n zz_o), (zz_n zz_o), zz_oi, (zz_n zz_o), (zz_n zz_o), (zz_n zz_o), (zz_iI 6), (zz_l zz_o), (zz_n zz_o), (zz_iI 4), (zz_iI 4), zz_oi, (zz_l zz_o), zz_oi, zz_oi) ((nI 0), (-1), (nI 0), (nI tl), (nI ml), (nI sl), (zz_n zz_o), (zz_n zz_o), (zz_n (zz_iA 8)), (zz_n zz_o), (zz_n zz_o), zz_oi, (zz_iI 64), (zz_n zz_o), (zz_n zz_o), (zz_n zz_o), (zz_n zz_o), (zz_n zz_o), (zz_n zz_o), (zz_n zz_o), (zz_n zz_o), zz_oi, zz_oi, (zz_n zz_o), zz_oi) := by
  refine zz_mk ⟨t2, t4, m2, m6, s8, s32, by omega, by omega, by omega, fun _ _ _ => rfl⟩ ⟨?_, ?_, ?_, ?_, Or.inl rfl⟩ ⟨⟨?_, ?_, ?_, fun _ => rfl, fun h => absurd rfl h⟩, ?_, ⟨?_, ?_⟩, ⟨fun _ _ => Nat.le_refl _, fun _ _ => Nat.le_refl _⟩, ⟨?_, ?_⟩, ⟨?_, fun _ _ _ => rfl⟩, ?_⟩
  · intro o ho
    exact ⟨Nat.zero_le _, Nat.zero_le _, Or.inl (if_pos ho), Nat.zero_le _, fun _ _ _ => rfl⟩
  · intro j hj
    exact Or.inl (if_pos hj)
  · intro j hj
    exact ⟨Nat.zero_le _, Nat.zero_le _, Nat.zero_le _, Nat.zero_le _⟩
  · intro o ho h
    exact absurd rfl h
  · intro i hi
    exact absurd hi (Nat.not_lt_zero i)
  · intro i j hi
    exact absurd hi (Nat.not_lt_zero i)
  · intro o ho h
    exact absurd (show 3 ≤ 0 from h) (by omega)
  · intro o ho h
    exact absurd (show 3 ≤ 0 from h) (by omega)
  · intro o ho h
    exact absurd (show 3 ≤ 0 from h) (by omega)
  · intro m hm
    exact Or.inl (if_pos hm)
  · intro o ho h
    exact absurd (show 4 ≤ 0 from h) (by omega)
  · intro o p ho hp h
    exact absurd (show 4 ≤ 0 from h) (by omega)
  · intro t ht
    exact Or.inl ⟨rfl, if_pos ht, if_pos ht, rfl⟩
  · intro t ht hr
    exact absurd (show 0 = 1 from hr) (by omega)
theorem i_vc0 (k0 : Int32) (k1 : Int32) (k2 : Int32) : wpX_init (fun u => wpY_init (fun v => i_Rel 3 u v) k0 k1 k2) k0 k1 k2 := by
  obtain ⟨tl, a1, a2, a3, a4⟩ := zq_clamp k0 2 4 (by omega) (by omega)
  obtain ⟨ml, b1, b2, b3, b4⟩ := zq_clamp k1 2 6 (by omega) (by omega)
  obtain ⟨sl, c1, c2, c3, c4⟩ := zq_clamp k2 8 32 (by omega) (by omega)
  have KX := fun (post : SX → Prop) k => zx_i275 (tl := tl) (ml := ml) (sl := sl) (post := post) k 9 0 (by omega) (by omega)
  have KY := fun (post : SY → Prop) k => zy_i207 (tl := tl) (ml := ml) (sl := sl) (post := post) k 9 0 (by omega) (by omega)
  simp only [zz_iA0, zz_iI0, Nat.zero_mul] at KX KY
  unfold wpX_init
  refine a3 _ _ ?_
  refine b3 _ _ ?_
  refine c3 _ _ ⟨9, KX _ ?_⟩
  unfold wpY_init
  refine a4 _ _ ?_
  refine b4 _ _ ?_
  refine c4 _ _ ⟨9, KY _ ?_⟩
  exact zp_init a1 a2 b1 b2 c1 c2
end ZIN
end
section
section ZME
/-! memory: touching a block, writing a cell; the component's addresses -/
variable {tl ml sl b c g : Nat} {cu : Int32} {S B A N sm sn sa so T C R Q L F M G rn D Fy Ly si : Nat → Nat} {im sy tp ow ins pc ac dt me ay io bl : Nat → Int32}
theorem zp_rv {t : Nat} (ht : t < 4) (hM : zz_M S M ow) (hG : zz_G g G D) (hV : zz_V S B F M G rn D im dt me bl) : zz_G g G (zz_u D t g) ∧ zz_V S B F M G rn (zz_u D t g) im (zz_rf dt G D t 6) me bl := by
  refine ⟨⟨hG.1, fun q hq => ?_⟩, fun q hq hr o ho h3 => ?_⟩
  · by_cases e : q = t
    · rw [zz_us' e]; omega
    · rw [zz_un e]; exact hG.2 q hq
  · obtain ⟨v1, v2, v3⟩ := hV q hq hr o ho h3
    have hm := (hM.1 o ho h3).1
    by_cases e : q = t
    · subst e
      have g1 := hG.1 _ hm
      have ed : zz_rf dt G D q 6 (q * 6 + M o) = if D q < G (M o) then -1 else dt (q * 6 + M o) := zz_rf_i hm
      have et : zz_to S M G (zz_u D q g) (zz_rf dt G D q 6) q o ↔ zz_to S M G D dt q o := by
        unfold zz_to
        rw [ed, zz_us]
        by_cases z : D q < G (M o)
        · rw [if_pos z]
          constructor
          · intro h
            rcases h with h | h
            · exact Or.inl h
            · exact absurd rfl h.2
          · intro h
            rcases h with h | h
            · exact Or.inl h
            · exact absurd h.1 (by omega)
        · rw [if_neg z]
          constructor
          · intro h
            rcases h with h | h
            · exact Or.inl h
            · exact Or.inr ⟨by omega, h.2⟩
          · intro h
            rcases h with h | h
            · exact Or.inl h
            · exact Or.inr ⟨by omega, h.2⟩
      rw [et]
      refine ⟨fun _ => ?_, v2, v3⟩
      rw [ed]
      by_cases z : D q < G (M o)
      · rw [if_pos z]; exact Or.inl rfl
      · rw [if_neg z]; exact v1 (by omega)
    · have ed : zz_rf dt G D t 6 (q * 6 + M o) = dt (q * 6 + M o) := zz_rf_o (by omega)
      have eD : zz_u D t g q = D q := zz_un e
      have et : zz_to S M G (zz_u D t g) (zz_rf dt G D t 6) q o ↔ zz_to S M G D dt q o := by unfold zz_to; rw [ed, eD]
      rw [et, ed, eD]
      exact ⟨v1, v2, v3⟩
theorem zp_touch {t o : Nat} {me' : Nat → Int32} (ht : t < 4) (ho : o < 8) (h3 : 3 ≤ S o) (hO : zz_O S B A N im) (hM : zz_M S M ow) (hF : zz_F S B F Fy) (hg : G (M o) ≤ D t)
    (hx : ∀ x, x < B o → me' (zz_ba S F M t o + x) = bl (t * 64 + o * 8 + x)) (hy : ∀ j, (j < zz_ba S F M t o ∨ zz_ba S F M t o + B o ≤ j) → me' j = me j) (hV : zz_V S B F M G rn D im dt me bl) :
    zz_V S B F M G rn D im (upd dt (t * 6 + M o) (nI (zz_ba S F M t o))) me' bl ∧ zz_to S M G D (upd dt (t * 6 + M o) (nI (zz_ba S F M t o))) t o := by
  obtain ⟨mo, mw⟩ := hM.1 o ho h3
  have hbo := zz_bb (t := t) hO hM hF ho h3
  have hto : zz_to S M G D (upd dt (t * 6 + M o) (nI (zz_ba S F M t o))) t o := Or.inr ⟨hg, by rw [pk_us]; exact zz_ne1 (by omega)⟩
  refine ⟨fun q hq hr p hp h3' => ?_, hto⟩
  obtain ⟨mp, mv⟩ := hM.1 p hp h3'
  obtain ⟨v1, v2, v3⟩ := hV q hq hr p hp h3'
  by_cases e : q = t ∧ p = o
  · obtain ⟨e1, e2⟩ := e
    subst e1 e2
    exact ⟨fun _ => Or.inr pk_us, fun _ => hx, fun h => absurd hto h⟩
  · have hne : q * 6 + M p ≠ t * 6 + M o := by
      intro z
      have z1 : q = t := by omega
      have z2 : M p = M o := by omega
      rw [z2, mw] at mv
      exact e ⟨z1, (zz_inj mv (by omega) (by omega)).symm⟩
    have ed : upd dt (t * 6 + M o) (nI (zz_ba S F M t o)) (q * 6 + M p) = dt (q * 6 + M p) := pk_un hne
    have et : zz_to S M G D (upd dt (t * 6 + M o) (nI (zz_ba S F M t o))) q p ↔ zz_to S M G D dt q p := by unfold zz_to; rw [ed]
    rw [et, ed]
    refine ⟨v1, fun h x hx' => ?_, v3⟩
    have hbp := zz_bb (t := q) hO hM hF hp h3'
    have : zz_ba S F M q p + x < zz_ba S F M t o ∨ zz_ba S F M t o + B o ≤ zz_ba S F M q p + x := by
      by_cases e1 : q = t
      · subst e1
        have := zz_bd (t := q) hO hM hF ho h3 hp h3' (fun z => e ⟨rfl, z.symm⟩)
        omega
      · omega
    rw [hy _ this]
    exact v2 h x hx'
theorem zp_write {t o x : Nat} {w : Int32} (ht : t < 4) (ho : o < 8) (h3 : 3 ≤ S o) (hx : x < B o) (hO : zz_O S B A N im) (hM : zz_M S M ow) (hF : zz_F S B F Fy) (hto : zz_to S M G D dt t o) (hV : zz_V S B F M G rn D im dt me bl) :
    zz_V S B F M G rn D im dt (upd me (zz_ba S F M t o + x) w) (upd bl (t * 64 + o * 8 + x) w) := by
  intro q hq hr p hp h3'
  obtain ⟨v1, v2, v3⟩ := hV q hq hr p hp h3'
  have hbo := zz_bb (t := t) hO hM hF ho h3
  have hbp := zz_bb (t := q) hO hM hF hp h3'
  have hB := (hO o ho).2.1
  have hB' := (hO p hp).2.1
  by_cases e : q = t ∧ p = o
  · obtain ⟨e1, e2⟩ := e
    subst e1 e2
    refine ⟨v1, fun h y hy => ?_, fun h => absurd hto h⟩
    by_cases z : y = x
    · subst z; rw [pk_us, pk_us]
    · rw [pk_un (by omega), pk_un (by omega)]
      exact v2 h y hy
  · have hb : ∀ y, y < B p → q * 64 + p * 8 + y ≠ t * 64 + o * 8 + x := by
      intro y hy z
      exact e ⟨by omega, by omega⟩
    refine ⟨v1, fun h y hy => ?_, fun h y hy => ?_⟩
    · have : zz_ba S F M q p + y ≠ zz_ba S F M t o + x := by
        by_cases e1 : q = t
        · subst e1
          have := zz_bd (t := q) hO hM hF ho h3 hp h3' (fun z => e ⟨rfl, z.symm⟩)
          omega
        · omega
      rw [pk_un this, pk_un (hb y hy)]
      exact v2 h y hy
    · rw [pk_un (hb y hy)]
      exact v3 h y hy
theorem zx_ft {post : Int32 → SX → Prop} {t m o : Nat} (ht : t < 4) (hm : m < 6) (ho : o < 8) (e : ow m = nI o) (h5 : S o ≤ 5) (hB : B o ≤ 8) (hF : 4 ≤ S o → F o ≤ 32)
    (k1 : 4 ≤ S o → post (nI (t * 80 + 32 - F o)) ((nI tl), (nI ml), (nI sl), cu, (nI b), (nI c), (lN g), (zz_n S), (zz_n B), (zz_n A), (zz_n N), im, sy, (zz_n sm), (zz_n sn), (zz_n sa), (zz_n so), (zz_n T), (zz_n C), (zz_n R), (zz_n Q), tp, (zz_n L), (zz_n F), (zz_n M), ow, (zz_l G), (zz_n rn), ins, pc, ac, (zz_l D), dt, me)) (k2 : ¬ 4 ≤ S o → post (nI (t * 80 + 32 + m * 8)) ((nI tl), (nI ml), (nI sl), cu, (nI b), (nI c), (lN g), (zz_n S), (zz_n B), (zz_n A), (zz_n N), im, sy, (zz_n sm), (zz_n sn), (zz_n sa), (zz_n so), (zz_n T), (zz_n C), (zz_n R), (zz_n Q), tp, (zz_n L), (zz_n F), (zz_n M), ow, (zz_l G), (zz_n rn), ins, pc, ac, (zz_l D), dt, (zz_r me (t * 80 + 32 + m * 8) (B o) (fun x => im (o * 8 + x))))) : wpX_firstTouch post ((nI tl), (nI ml), (nI sl), cu, (nI b), (nI c), (lN g), (zz_n S), (zz_n B), (zz_n A), (zz_n N), im, sy, (zz_n sm), (zz_n sn), (zz_n sa), (zz_n so), (zz_n T), (zz_n C), (zz_n R), (zz_n Q), tp, (zz_n L), (zz_n F), (zz_n M), ow, (zz_l G), (zz_n rn), ins, pc, ac, (zz_l D), dt, me) (nI t) (nI m) := by
  refine And.intro (vp_in_nI hm (by decide)) (nm_r (e' := nI o) (by rw [nI_clamp (by omega)]; exact e) ?_)
  refine zx_tp ?_
  by_cases h4 : 4 ≤ S o
  · refine zx_hs1 ho h4 h5 (br_f zz_10 (And.intro (vp_in_nI ho (by decide)) ?_))
    have := hF h4
    rw [zz_rd F o (by omega), pk_sub (by omega)]
    exact k1 h4
  · refine zx_hs0 ho (by omega) (br_t rfl (nm_r (e' := nI (t * 80 + 32 + m * 8)) (by rw [zz_m8, nI_add]) (zx_cpy ho hB (by omega) (k2 h4))))
theorem zx_mb {post : Int32 → SX → Prop} {t o : Nat} (ht : t < 4) (hr : rn t = 1) (ho : o < 8) (h3 : 3 ≤ S o) (hg : g < 2 ^ 30) (hO : zz_O S B A N im) (hM : zz_M S M ow) (hG : zz_G g G D) (hF : zz_F S B F Fy) (hV : zz_V S B F M G rn D im dt me bl)
    (k : ∀ D' dt' me', zz_G g G D' → zz_V S B F M G rn D' im dt' me' bl → zz_to S M G D' dt' t o → post (nI (zz_ba S F M t o)) ((nI tl), (nI ml), (nI sl), cu, (nI b), (nI c), (lN g), (zz_n S), (zz_n B), (zz_n A), (zz_n N), im, sy, (zz_n sm), (zz_n sn), (zz_n sa), (zz_n so), (zz_n T), (zz_n C), (zz_n R), (zz_n Q), tp, (zz_n L), (zz_n F), (zz_n M), ow, (zz_l G), (zz_n rn), ins, pc, ac, (zz_l D'), (dt'), (me'))) : wpX_moduleBase post ((nI tl), (nI ml), (nI sl), cu, (nI b), (nI c), (lN g), (zz_n S), (zz_n B), (zz_n A), (zz_n N), im, sy, (zz_n sm), (zz_n sn), (zz_n sa), (zz_n so), (zz_n T), (zz_n C), (zz_n R), (zz_n Q), tp, (zz_n L), (zz_n F), (zz_n M), ow, (zz_l G), (zz_n rn), ins, pc, ac, (zz_l D), dt, me) (nI t) (nI (M o)) := by
  obtain ⟨mo, mw⟩ := hM.1 o ho h3
  have hS5 := (hO o ho).1
  have hB8 := (hO o ho).2.1
  obtain ⟨hG', hV'⟩ := zp_rv (t := t) ht hM hG hV
  have hbb := zz_bb (t := t) hO hM hF ho h3
  have g1 : G (M o) ≤ zz_u D t g t := by rw [zz_us]; exact hG.1 _ mo
  obtain ⟨v1, v2, v3⟩ := hV' t ht hr o ho h3
  unfold wpX_moduleBase
  refine zx_rv ht hg hG.1 (hG.2 t ht) (nm_r (zz_i6 t (M o)) ?_)
  have hv : vp_in (nI (t * 6 + M o)) 24 := vp_in_nI (by omega) (by decide)
  refine And.intro hv ?_
  rw [nI_clamp (n := t * 6 + M o) (by omega)]
  rcases v1 g1 with e | e
  · refine br_f (by rw [e]; exact zz_n1g) ?_
    refine zx_ft ht mo ho mw hS5 hB8 (fun h4 => (hF.1 o ho h4).2.2) (fun h4 => ?_) (fun h4 => ?_)
    · have eb : zz_ba S F M t o = t * 80 + 32 - F o := if_pos h4
      obtain ⟨p1, p2⟩ := zp_touch (me' := me) ht ho h3 hO hM hF g1 (v2 (Or.inl h4)) (fun j _ => rfl) hV'
      refine And.intro hv (nm_e (And.intro hv ?_))
      rw [pk_us, ← eb]
      exact k _ _ _ hG' p1 p2
    · have eb : zz_ba S F M t o = t * 80 + 32 + M o * 8 := if_neg h4
      obtain ⟨p1, p2⟩ := zp_touch (me' := zz_r me (zz_ba S F M t o) (B o) (fun x => im (o * 8 + x))) ht ho h3 hO hM hF g1 (fun x hx => by rw [zz_ri hx]; exact v3 (fun z => z.elim h4 (fun z => z.2 e)) x hx) (fun j hj => zz_ro hj) hV'
      refine And.intro hv (nm_e (And.intro hv ?_))
      rw [pk_us, ← eb]
      exact k _ _ _ hG' p1 p2
  · have hto : zz_to S M G (zz_u D t g) (zz_rf dt G D t 6) t o := Or.inr ⟨g1, by rw [e]; exact zz_ne1 (by omega)⟩
    refine br_t (by rw [e]; exact nI_pos' (by omega)) (And.intro hv ?_)
    rw [e]
    exact k _ _ _ hG' hV' hto
theorem zz_tq {x y z : Nat} (h : z ≤ x) : nI x + (nI y - nI z) = nI (x - z + y) := by
  rw [← nI_add (x - z) y, ← pk_sub h]
  grind
theorem zx_adr {post : Int32 → SX → Prop} {t o s md : Nat} (ht : t < 4) (hr : rn t = 1) (ho : o < 8) (hs : o * 8 + s < 64) (hg : g < 2 ^ 30) (hO : zz_O S B A N im) (hM : zz_M S M ow) (hG : zz_G g G D) (hF : zz_F S B F Fy) (hV : zz_V S B F M G rn D im dt me bl)
    (hT : T (o * 8 + s) < 8) (hT3 : 3 ≤ S (T (o * 8 + s))) (hC : C (o * 8 + s) < B (T (o * 8 + s))) (hQ : Q (o * 8 + s) = M (T (o * 8 + s))) (htp : tp (o * 8 + s) = nI (C (o * 8 + s)) - nI (F (T (o * 8 + s))))
    (m3 : md ≤ 3) (d1 : md = 1 → T (o * 8 + s) = o) (d2 : md = 2 → 4 ≤ S (T (o * 8 + s))) (d3 : md = 3 → T (o * 8 + s) = o ∧ 4 ≤ S o)
    (k : ∀ D' dt' me', zz_G g G D' → zz_V S B F M G rn D' im dt' me' bl → zz_to S M G D' dt' t (T (o * 8 + s)) → post (nI (zz_ba S F M t (T (o * 8 + s)) + C (o * 8 + s))) ((nI tl), (nI ml), (nI sl), cu, (nI b), (nI c), (lN g), (zz_n S), (zz_n B), (zz_n A), (zz_n N), im, sy, (zz_n sm), (zz_n sn), (zz_n sa), (zz_n so), (zz_n T), (zz_n C), (zz_n R), (zz_n Q), tp, (zz_n L), (zz_n F), (zz_n M), ow, (zz_l G), (zz_n rn), ins, pc, ac, (zz_l D'), (dt'), (me'))) : wpX_address post ((nI tl), (nI ml), (nI sl), cu, (nI b), (nI c), (lN g), (zz_n S), (zz_n B), (zz_n A), (zz_n N), im, sy, (zz_n sm), (zz_n sn), (zz_n sa), (zz_n so), (zz_n T), (zz_n C), (zz_n R), (zz_n Q), tp, (zz_n L), (zz_n F), (zz_n M), ow, (zz_l G), (zz_n rn), ins, pc, ac, (zz_l D), dt, me) (nI t) (nI o) (nI (o * 8 + s)) (nI md) := by
  have hj : vp_in (nI (o * 8 + s)) 64 := vp_in_nI hs (by decide)
  have hv : vp_in (nI o) 8 := vp_in_nI ho (by decide)
  have h66 : wX_address_66 post (nI t) (nI (o * 8 + s)) (nI (M (T (o * 8 + s)))) (nI tl) (nI ml) (nI sl) cu (nI b) (nI c) (lN g) (zz_n S) (zz_n B) (zz_n A) (zz_n N) im sy (zz_n sm) (zz_n sn) (zz_n sa) (zz_n so) (zz_n T) (zz_n C) (zz_n R) (zz_n Q) tp (zz_n L) (zz_n F) (zz_n M) ow (zz_l G) (zz_n rn) ins pc ac (zz_l D) dt me := by
    unfold wX_address_66
    refine zx_mb ht hr hT hT3 hg hO hM hG hF hV (fun D' dt' me' x1 x2 x3 => And.intro hj ?_)
    rw [zz_rd C (o * 8 + s) (by omega), nI_add]
    exact k D' dt' me' x1 x2 x3
  have m4 : md = 0 ∨ md = 1 ∨ md = 2 ∨ md = 3 := by omega
  rcases m4 with rfl | rfl | rfl | rfl
  · refine br_f (by decide) (br_f (by decide) (br_f (by decide) (And.intro hj ?_)))
    rw [zz_rd Q (o * 8 + s) (by omega), hQ]
    exact h66
  · refine br_f (by decide) (br_f (by decide) (br_t rfl (And.intro hv ?_)))
    rw [zz_rd M o (by omega)]
    rw [d1 rfl] at h66
    exact h66
  · have h4 := d2 rfl
    have f1 := hF.1 _ hT h4
    refine br_f (by decide) (br_t rfl ?_)
    refine zx_tp (And.intro hj ?_)
    rw [nI_clamp (n := o * 8 + s) (by omega), htp]
    have K := k D dt me hG hV (Or.inl h4)
    rw [show zz_ba S F M t (T (o * 8 + s)) = t * 80 + 32 - F (T (o * 8 + s)) from if_pos h4] at K
    have e : nI (t * 80 + 32) + (nI (C (o * 8 + s)) - nI (F (T (o * 8 + s)))) = nI (t * 80 + 32 - F (T (o * 8 + s)) + C (o * 8 + s)) := zz_tq (by omega)
    rw [e]
    exact K
  · obtain ⟨e1, h4⟩ := d3 rfl
    rw [e1] at k
    have f1 := hF.1 _ ho h4
    refine br_t rfl ?_
    refine zx_tp (And.intro hv (And.intro hj ?_))
    rw [zz_rd F o (by omega), zz_rd C (o * 8 + s) (by omega), pk_sub (by omega), nI_add]
    have K := k D dt me hG hV (Or.inl h4)
    rw [show zz_ba S F M t o = t * 80 + 32 - F o from if_pos h4] at K
    exact K
end ZME
end
section
section ZST
/-! one step -/
variable {tl ml sl b c g : Nat} {cu : Int32} {S B A N sm sn sa so T C R Q L F M G rn D Fy Ly si : Nat → Nat} {im sy tp ow ins pc ac dt me ay io bl : Nat → Int32}
def zz_em (op : Nat) (me : Nat → Int32) (a : Nat) (v : Int32) : Nat → Int32 := if op = 1 ∨ op = 3 then upd me a v else me
def zz_ea (op : Nat) (ac : Nat → Int32) (t : Nat) (v w : Int32) : Nat → Int32 := if op = 0 ∨ op = 3 then upd ac t v else if op = 2 then upd ac t (w + v) else ac
theorem zz_ea_o {op t q : Nat} {v w : Int32} (h : q ≠ t) : zz_ea op ac t v w q = ac q := by
  unfold zz_ea
  by_cases h1 : op = 0 ∨ op = 3
  · rw [if_pos h1, pk_un h]
  · rw [if_neg h1]
    by_cases h2 : op = 2
    · rw [if_pos h2, pk_un h]
    · rw [if_neg h2]
theorem zz_ea_t {op t : Nat} {v w : Int32} (h : ay t = ac t) : zz_ea op ay t v w t = zz_ea op ac t v w t := by
  unfold zz_ea
  by_cases h1 : op = 0 ∨ op = 3
  · rw [if_pos h1, if_pos h1, pk_us, pk_us]
  · rw [if_neg h1, if_neg h1]
    by_cases h2 : op = 2
    · rw [if_pos h2, if_pos h2, pk_us, pk_us]
    · rw [if_neg h2, if_neg h2, h]
theorem zx_exe {post : SX → Prop} {t op a : Nat} (ht : t < 4) (hop : op ≤ 3) (ha : a < 320) (k : post ((nI tl), (nI ml), (nI sl), cu, (nI b), (nI c), (lN g), (zz_n S), (zz_n B), (zz_n A), (zz_n N), im, sy, (zz_n sm), (zz_n sn), (zz_n sa), (zz_n so), (zz_n T), (zz_n C), (zz_n R), (zz_n Q), tp, (zz_n L), (zz_n F), (zz_n M), ow, (zz_l G), (zz_n rn), ins, pc, (zz_ea op ac t (me a) (ac t)), (zz_l D), dt, (zz_em op me a (ac t)))) : wpX_execute post ((nI tl), (nI ml), (nI sl), cu, (nI b), (nI c), (lN g), (zz_n S), (zz_n B), (zz_n A), (zz_n N), im, sy, (zz_n sm), (zz_n sn), (zz_n sa), (zz_n so), (zz_n T), (zz_n C), (zz_n R), (zz_n Q), tp, (zz_n L), (zz_n F), (zz_n M), ow, (zz_l G), (zz_n rn), ins, pc, ac, (zz_l D), dt, me) (nI t) (nI op) (nI a) := by
  have hv : vp_in (nI t) 4 := vp_in_nI ht (by decide)
  have hw : vp_in (nI a) 320 := vp_in_nI ha (by decide)
  have m4 : op = 0 ∨ op = 1 ∨ op = 2 ∨ op = 3 := by omega
  refine And.intro hw (nm_r (zz_ra me a (by omega)) (And.intro hv (nm_r (zz_ra ac t (by omega)) ?_)))
  rcases m4 with rfl | rfl | rfl | rfl
  · rw [show zz_em 0 me a (ac t) = me from rfl, show zz_ea 0 ac t (me a) (ac t) = upd ac t (me a) from rfl] at k
    exact br_f (by decide) (br_f (by decide) (br_t rfl (And.intro hv (nm_r (zz_wa ac _ (by omega)) (br_f (by decide) k)))))
  · rw [show zz_em 1 me a (ac t) = upd me a (ac t) from rfl, show zz_ea 1 ac t (me a) (ac t) = ac from rfl] at k
    exact br_t rfl (And.intro hw (nm_r (zz_wa me _ (by omega)) (br_f (by decide) (br_f (by decide) (br_f (by decide) k)))))
  · rw [show zz_em 2 me a (ac t) = me from rfl, show zz_ea 2 ac t (me a) (ac t) = upd ac t (ac t + me a) from rfl] at k
    exact br_f (by decide) (br_f (by decide) (br_f (by decide) (br_f (by decide) (br_t rfl (And.intro hv (nm_r (zz_wa ac _ (by omega)) k))))))
  · rw [show zz_em 3 me a (ac t) = upd me a (ac t) from rfl, show zz_ea 3 ac t (me a) (ac t) = upd ac t (me a) from rfl] at k
    exact br_f (by decide) (br_t rfl (And.intro hw (nm_r (zz_wa me _ (by omega)) (br_f (by decide) (br_t rfl (And.intro hv (nm_r (zz_wa ac _ (by omega)) (br_f (by decide) k))))))))
theorem zx_s41 {post : SX → Prop} {t o s md : Nat} (ht : t < 4) (hr : rn t = 1) (ho : o < 8) (hs : o * 8 + s < 64) (hs8 : s < 8) (hp : pc t = nI s) (hN : N o ≤ 8) (hop : so (o * 8 + s) ≤ 3) (hg : g < 2 ^ 30) (hO : zz_O S B A N im) (hM : zz_M S M ow) (hG : zz_G g G D) (hF : zz_F S B F Fy) (hV : zz_V S B F M G rn D im dt me bl)
    (hT : T (o * 8 + s) < 8) (hT3 : 3 ≤ S (T (o * 8 + s))) (hC : C (o * 8 + s) < B (T (o * 8 + s))) (hQ : Q (o * 8 + s) = M (T (o * 8 + s))) (htp : tp (o * 8 + s) = nI (C (o * 8 + s)) - nI (F (T (o * 8 + s))))
    (m3 : md ≤ 3) (d1 : md = 1 → T (o * 8 + s) = o) (d2 : md = 2 → 4 ≤ S (T (o * 8 + s))) (d3 : md = 3 → T (o * 8 + s) = o ∧ 4 ≤ S o)
    (k1 : s + 1 < N o → ∀ D' dt' me', zz_G g G D' → zz_V S B F M G rn D' im dt' me' bl → zz_to S M G D' dt' t (T (o * 8 + s)) → post ((nI tl), (nI ml), (nI sl), cu, (nI b), (nI c), (lN g), (zz_n S), (zz_n B), (zz_n A), (zz_n N), im, sy, (zz_n sm), (zz_n sn), (zz_n sa), (zz_n so), (zz_n T), (zz_n C), (zz_n R), (zz_n Q), tp, (zz_n L), (zz_n F), (zz_n M), ow, (zz_l G), (zz_n rn), ins, (upd pc t (nI (s + 1))), (zz_ea (so (o * 8 + s)) ac t (me' (zz_ba S F M t (T (o * 8 + s)) + C (o * 8 + s))) (ac t)), (zz_l D'), (dt'), (zz_em (so (o * 8 + s)) me' (zz_ba S F M t (T (o * 8 + s)) + C (o * 8 + s)) (ac t))))
    (k2 : ¬ s + 1 < N o → ∀ D' dt' me', zz_G g G D' → zz_V S B F M G rn D' im dt' me' bl → zz_to S M G D' dt' t (T (o * 8 + s)) → post ((nI tl), (nI ml), (nI sl), cu, (nI b), (nI c), (lN g), (zz_n S), (zz_n B), (zz_n A), (zz_n N), im, sy, (zz_n sm), (zz_n sn), (zz_n sa), (zz_n so), (zz_n T), (zz_n C), (zz_n R), (zz_n Q), tp, (zz_n L), (zz_n F), (zz_n M), ow, (zz_l G), (zz_n rn), (upd ins t (-1)), (upd (upd pc t (nI (s + 1))) t (-1)), (zz_ea (so (o * 8 + s)) ac t (me' (zz_ba S F M t (T (o * 8 + s)) + C (o * 8 + s))) (ac t)), (zz_l D'), (dt'), (zz_em (so (o * 8 + s)) me' (zz_ba S F M t (T (o * 8 + s)) + C (o * 8 + s)) (ac t)))) :
    wX_step_41 post (nI t) (nI o) (nI (o * 8 + s)) (nI md) (nI tl) (nI ml) (nI sl) cu (nI b) (nI c) (lN g) (zz_n S) (zz_n B) (zz_n A) (zz_n N) im sy (zz_n sm) (zz_n sn) (zz_n sa) (zz_n so) (zz_n T) (zz_n C) (zz_n R) (zz_n Q) tp (zz_n L) (zz_n F) (zz_n M) ow (zz_l G) (zz_n rn) ins pc ac (zz_l D) dt me := by
  have hj : vp_in (nI (o * 8 + s)) 64 := vp_in_nI hs (by decide)
  have hv : vp_in (nI t) 4 := vp_in_nI ht (by decide)
  have hw : vp_in (nI o) 8 := vp_in_nI ho (by decide)
  have hbb := zz_bb (t := t) hO hM hF hT hT3
  unfold wX_step_41
  refine zx_adr ht hr ho hs hg hO hM hG hF hV hT hT3 hC hQ htp m3 d1 d2 d3 (fun D' dt' me' x1 x2 x3 => And.intro hj ?_)
  rw [zz_rd so (o * 8 + s) (by omega)]
  refine zx_exe ht hop (by omega) (And.intro hv (And.intro hv (nm_r (e' := upd pc t (nI (s + 1))) (by rw [nI_clamp (by omega), hp, nI_1]) (And.intro hv (And.intro hw ?_)))))
  rw [nI_clamp (n := t) (by omega), pk_us, zz_rd N o (by omega)]
  refine pk_lt (s + 1) (N o) (fun h => k1 h D' dt' me' x1 x2 x3) (fun h => And.intro hv (nm_e (And.intro hv (nm_e (k2 (by omega) D' dt' me' x1 x2 x3)))))
theorem zy_131 {post : SY → Prop} {t o s : Nat} (ht : t < 4) (ho : o < 8) (hi : io t = nI o) (hs : si t = s) (hs8 : s < 8) (hN : N o ≤ 8) (k1 : s + 1 < N o → post ((nI c), cu, (nI b), (nI tl), (nI ml), (nI sl), (zz_n S), (zz_n B), (zz_n A), (zz_n N), (zz_n Fy), im, sy, (zz_n sm), (zz_n sn), (zz_n sa), (zz_n so), (zz_n T), (zz_n C), (zz_n Ly), (zz_n rn), ay, io, (zz_n (zz_u si t (s + 1))), bl)) (k2 : ¬ s + 1 < N o → post ((nI c), cu, (nI b), (nI tl), (nI ml), (nI sl), (zz_n S), (zz_n B), (zz_n A), (zz_n N), (zz_n Fy), im, sy, (zz_n sm), (zz_n sn), (zz_n sa), (zz_n so), (zz_n T), (zz_n C), (zz_n Ly), (zz_n rn), ay, (upd io t (-1)), (zz_n (zz_u si t (s + 1))), bl)) : wY_step_131 post (nI t) (nI c) cu (nI b) (nI tl) (nI ml) (nI sl) (zz_n S) (zz_n B) (zz_n A) (zz_n N) (zz_n Fy) im sy (zz_n sm) (zz_n sn) (zz_n sa) (zz_n so) (zz_n T) (zz_n C) (zz_n Ly) (zz_n rn) ay io (zz_n si) bl := by
  have hv : vp_in (nI t) 4 := vp_in_nI ht (by decide)
  have hw : vp_in (nI o) 8 := vp_in_nI ho (by decide)
  refine And.intro hv (And.intro hv (nm_r (e' := zz_n (zz_u si t (s + 1))) (by rw [zz_rd si t (by omega), hs, nI_1, nI_clamp (by omega), zz_w0]) ?_))
  rw [zz_rd (zz_u si t (s + 1)) t (by omega), zz_us, nI_clamp (n := t) (by omega), hi, zz_rd N o (by omega)]
  exact And.intro hv (And.intro hv (And.intro hw (pk_lt (s + 1) (N o) (fun h => k1 h) (fun h => And.intro hv (nm_e (k2 (by omega)))))))
theorem zy_stp {post : SY → Prop} {t o s : Nat} (ht : t < 4) (ho : o < 8) (hj : o * 8 + s < 64) (hi : io t = nI o) (hs : si t = s) (hs8 : s < 8) (hN : N o ≤ 8) (hop : so (o * 8 + s) ≤ 3) (hT : T (o * 8 + s) < 8) (hC : C (o * 8 + s) < 8)
    (k1 : s + 1 < N o → post ((nI c), cu, (nI b), (nI tl), (nI ml), (nI sl), (zz_n S), (zz_n B), (zz_n A), (zz_n N), (zz_n Fy), im, sy, (zz_n sm), (zz_n sn), (zz_n sa), (zz_n so), (zz_n T), (zz_n C), (zz_n Ly), (zz_n rn), (zz_ea (so (o * 8 + s)) ay t (bl (t * 64 + T (o * 8 + s) * 8 + C (o * 8 + s))) (ay t)), io, (zz_n (zz_u si t (s + 1))), (zz_em (so (o * 8 + s)) bl (t * 64 + T (o * 8 + s) * 8 + C (o * 8 + s)) (ay t))))
    (k2 : ¬ s + 1 < N o → post ((nI c), cu, (nI b), (nI tl), (nI ml), (nI sl), (zz_n S), (zz_n B), (zz_n A), (zz_n N), (zz_n Fy), im, sy, (zz_n sm), (zz_n sn), (zz_n sa), (zz_n so), (zz_n T), (zz_n C), (zz_n Ly), (zz_n rn), (zz_ea (so (o * 8 + s)) ay t (bl (t * 64 + T (o * 8 + s) * 8 + C (o * 8 + s))) (ay t)), (upd io t (-1)), (zz_n (zz_u si t (s + 1))), (zz_em (so (o * 8 + s)) bl (t * 64 + T (o * 8 + s) * 8 + C (o * 8 + s)) (ay t)))) :
    wpY_step post ((nI c), cu, (nI b), (nI tl), (nI ml), (nI sl), (zz_n S), (zz_n B), (zz_n A), (zz_n N), (zz_n Fy), im, sy, (zz_n sm), (zz_n sn), (zz_n sa), (zz_n so), (zz_n T), (zz_n C), (zz_n Ly), (zz_n rn), ay, io, (zz_n si), bl) (nI t) := by
  have hv : vp_in (nI t) 4 := vp_in_nI ht (by decide)
  have hx : vp_in (nI (o * 8 + s)) 64 := vp_in_nI hj (by decide)
  have hb : vp_in (nI (t * 64 + T (o * 8 + s) * 8 + C (o * 8 + s))) 256 := vp_in_nI (by omega) (by decide)
  refine And.intro hv (And.intro hv (nm_r (e' := nI (o * 8 + s)) (by rw [zz_rd si t (by omega), zz_ra io t (by omega), hi, hs, zz_ix]) (And.intro hx (And.intro hx (nm_r (e' := nI (t * 64 + T (o * 8 + s) * 8 + C (o * 8 + s))) (by rw [zz_rd T (o * 8 + s) (by omega), zz_rd C (o * 8 + s) (by omega), zz_ib]) (And.intro hb (nm_r (zz_ra bl _ (by omega)) (And.intro hv (nm_r (zz_ra ay t (by omega)) (And.intro hx ?_))))))))))
  generalize hop' : so (o * 8 + s) = op at *
  have eo : zz_n so (nI (o * 8 + s)).toNatClampNeg = nI op := by rw [zz_rd so (o * 8 + s) (by omega), hop']
  have m4 : op = 0 ∨ op = 1 ∨ op = 2 ∨ op = 3 := by omega
  rcases m4 with rfl | rfl | rfl | rfl
  · exact br_t (by rw [eo]; rfl) (And.intro hv (nm_r (zz_wa ay _ (by omega)) (And.intro hx (br_f (by rw [eo]; decide) (And.intro hx (br_f (by rw [eo]; decide) (And.intro hx (br_f (by rw [eo]; decide) (zy_131 ht ho hi hs hs8 hN k1 k2)))))))))
  · exact br_f (by rw [eo]; decide) (And.intro hx (br_f (by rw [eo]; decide) (And.intro hx (br_f (by rw [eo]; decide) (And.intro hx (br_t (by rw [eo]; rfl) (And.intro hb (nm_r (zz_wa bl _ (by omega)) (zy_131 ht ho hi hs hs8 hN k1 k2)))))))))
  · exact br_f (by rw [eo]; decide) (And.intro hx (br_f (by rw [eo]; decide) (And.intro hx (br_t (by rw [eo]; rfl) (And.intro hv (nm_r (zz_wa ay _ (by omega)) (And.intro hx (br_f (by rw [eo]; decide) (And.intro hx (br_f (by rw [eo]; decide) (zy_131 ht ho hi hs hs8 hN k1 k2)))))))))))
  · exact br_f (by rw [eo]; decide) (And.intro hx (br_t (by rw [eo]; rfl) (And.intro hv (nm_r (zz_wa ay _ (by omega)) (And.intro hx (br_f (by rw [eo]; decide) (And.intro hx (br_f (by rw [eo]; decide) (And.intro hx (br_t (by rw [eo]; rfl) (And.intro hb (nm_r (zz_wa bl _ (by omega)) (zy_131 ht ho hi hs hs8 hN k1 k2)))))))))))))
theorem zp_stp {t o s op x : Nat} {D' : Nat → Nat} {dt' me' : Nat → Int32} {v : Int32} (ht : t < 4) (hr : rn t = 1) (ho : o < 8) (hl : 3 ≤ S o) (hx : x < B o) (hO : zz_O S B A N im) (hz : zz_Z b c g S B N sm T C R Q L F M G rn D Fy Ly si im tp ow ins pc ac dt me ay io bl) (hG' : zz_G g G D') (hV' : zz_V S B F M G rn D' im dt' me' bl) (hto : zz_to S M G D' dt' t o)
    (p : Nat) (hp : p < 8) (hlp : 3 ≤ S p) (hip : ins t = nI p) (hya : ay t = ac t) (hio : io t = ins t) :
    (s + 1 < N p → zz_Z b c g S B N sm T C R Q L F M G rn D' Fy Ly (zz_u si t (s + 1)) im tp ow ins (upd pc t (nI (s + 1))) (zz_ea op ac t v (ac t)) dt' (zz_em op me' (zz_ba S F M t o + x) (ac t)) (zz_ea op ay t v (ay t)) io (zz_em op bl (t * 64 + o * 8 + x) (ay t)))
    ∧ (zz_Z b c g S B N sm T C R Q L F M G rn D' Fy Ly (zz_u si t (s + 1)) im tp ow (upd ins t (-1)) (upd (upd pc t (nI (s + 1))) t (-1)) (zz_ea op ac t v (ac t)) dt' (zz_em op me' (zz_ba S F M t o + x) (ac t)) (zz_ea op ay t v (ay t)) (upd io t (-1)) (zz_em op bl (t * 64 + o * 8 + x) (ay t))) := by
  obtain ⟨hL, hR, hM, hG, hF, ⟨t1, t2⟩, hV⟩ := hz
  have hV2 : zz_V S B F M G rn D' im dt' (zz_em op me' (zz_ba S F M t o + x) (ac t)) (zz_em op bl (t * 64 + o * 8 + x) (ay t)) := by
    unfold zz_em
    by_cases h1 : op = 1 ∨ op = 3
    · rw [if_pos h1, if_pos h1, hya]
      exact zp_write ht ho hl hx hO hM hF hto hV'
    · rw [if_neg h1, if_neg h1]
      exact hV'
  rw [hya] at hV2 ⊢
  refine ⟨fun hs => ⟨hL, hR, hM, hG', hF, ⟨fun q hq => ?_, t2⟩, hV2⟩, ⟨hL, hR, hM, hG', hF, ⟨fun q hq => ?_, t2⟩, hV2⟩⟩
  · by_cases e : q = t
    · subst e
      refine Or.inr ⟨hr, zz_ea_t hya, hio, Or.inr ⟨p, hp, hip, hlp, ?_, ?_⟩⟩
      · rw [zz_us]; exact hs
      · rw [zz_us, pk_us]
    · rw [zz_un e, pk_un e, zz_ea_o e, zz_ea_o e]
      exact t1 q hq
  · by_cases e : q = t
    · subst e
      refine Or.inr ⟨hr, zz_ea_t hya, ?_, Or.inl ⟨pk_us, pk_us⟩⟩
      rw [pk_us, pk_us]
    · rw [zz_un e, pk_un e, pk_un e, pk_un e, pk_un e, zz_ea_o e, zz_ea_o e]
      exact t1 q hq
end ZST
end
section
section ZRU
/-! run -/
variable {tl ml sl b c g : Nat} {cu : Int32} {S B A N sm sn sa so T C R Q L F M G rn D Fy Ly si : Nat → Nat} {im sy tp ow ins pc ac dt me ay io bl : Nat → Int32}
theorem zz_ch1 {L0 o t : Nat} (h : zz_ch L0 S o t = 1) : t = o := by
  unfold zz_ch at h
  by_cases h1 : L0 = o ∧ t = o
  · exact h1.2
  · rw [if_neg h1] at h
    by_cases h2 : 4 ≤ S t
    · rw [if_pos h2] at h; omega
    · rw [if_neg h2] at h
      by_cases h3 : t = o
      · exact h3
      · rw [if_neg h3] at h; omega
theorem zz_ch2 {L0 o t : Nat} (h : zz_ch L0 S o t = 2) : 4 ≤ S t := by
  unfold zz_ch at h
  by_cases h1 : L0 = o ∧ t = o
  · rw [if_pos h1] at h; omega
  · rw [if_neg h1] at h
    by_cases h2 : 4 ≤ S t
    · exact h2
    · rw [if_neg h2] at h
      by_cases h3 : t = o
      · rw [if_pos h3] at h; omega
      · rw [if_neg h3] at h; omega
theorem zz_ch3 {L0 o t : Nat} (h : zz_ch L0 S o t = 3) : t = o ∧ L0 = o := by
  unfold zz_ch at h
  by_cases h1 : L0 = o ∧ t = o
  · exact ⟨h1.2, h1.1⟩
  · rw [if_neg h1] at h
    by_cases h2 : 4 ≤ S t
    · rw [if_pos h2] at h; omega
    · rw [if_neg h2] at h
      by_cases h3 : t = o
      · rw [if_pos h3] at h; omega
      · rw [if_neg h3] at h; omega
theorem zz_chl {L0 o t : Nat} : zz_ch L0 S o t ≤ 3 := by
  unfold zz_ch
  by_cases h1 : L0 = o ∧ t = o
  · rw [if_pos h1]; omega
  · rw [if_neg h1]
    by_cases h2 : 4 ≤ S t
    · rw [if_pos h2]; omega
    · rw [if_neg h2]
      by_cases h3 : t = o
      · rw [if_pos h3]; omega
      · rw [if_neg h3]; omega
theorem zq_step {post : SX → Prop} {t k : Nat} {via : Int32} (ht : t < 4) (hr : rn t = 1) (hin : ¬ ins t < 0) (h1 : zz_B tl ml sl b c g k rn) (hk : k ≤ 2563) (h2 : zz_N cu S B A N sm sn sa so im sy) (hz : zz_Z b c g S B N sm T C R Q L F M G rn D Fy Ly si im tp ow ins pc ac dt me ay io bl)
    (kk : ∀ (D' si' : Nat → Nat) (ins' pc' ac' dt' me' ay' io' bl' : Nat → Int32), zz_Z b c g S B N sm T C R Q L F M G rn D' Fy Ly si' im tp ow ins' pc' ac' dt' me' ay' io' bl' → (∀ postY : SY → Prop, postY ((nI c), cu, (nI b), (nI tl), (nI ml), (nI sl), (zz_n S), (zz_n B), (zz_n A), (zz_n N), (zz_n Fy), im, sy, (zz_n sm), (zz_n sn), (zz_n sa), (zz_n so), (zz_n T), (zz_n C), (zz_n Ly), (zz_n rn), (ay'), (io'), (zz_n si'), (bl')) → wpY_step postY ((nI c), cu, (nI b), (nI tl), (nI ml), (nI sl), (zz_n S), (zz_n B), (zz_n A), (zz_n N), (zz_n Fy), im, sy, (zz_n sm), (zz_n sn), (zz_n sa), (zz_n so), (zz_n T), (zz_n C), (zz_n Ly), (zz_n rn), ay, io, (zz_n si), bl) (nI t)) → post ((nI tl), (nI ml), (nI sl), cu, (nI b), (nI c), (lN g), (zz_n S), (zz_n B), (zz_n A), (zz_n N), im, sy, (zz_n sm), (zz_n sn), (zz_n sa), (zz_n so), (zz_n T), (zz_n C), (zz_n R), (zz_n Q), tp, (zz_n L), (zz_n F), (zz_n M), ow, (zz_l G), (zz_n rn), (ins'), (pc'), (ac'), (zz_l D'), (dt'), (me'))) : wpX_step post ((nI tl), (nI ml), (nI sl), cu, (nI b), (nI c), (lN g), (zz_n S), (zz_n B), (zz_n A), (zz_n N), im, sy, (zz_n sm), (zz_n sn), (zz_n sa), (zz_n so), (zz_n T), (zz_n C), (zz_n R), (zz_n Q), tp, (zz_n L), (zz_n F), (zz_n M), ow, (zz_l G), (zz_n rn), ins, pc, ac, (zz_l D), dt, me) (nI t) via := by
  have hg : g < 2 ^ 30 := by unfold zz_B at h1; omega
  obtain ⟨hO, hY, hT, hK, hC⟩ := h2
  obtain ⟨hL, hR, hM, hG, hF, hH, hV⟩ := id hz
  rcases hH.1 t ht with ⟨q1, _⟩ | ⟨_, q2, q3, q4⟩
  · omega
  rcases q4 with ⟨z, _⟩ | ⟨o, ho, hio, hl, hs, hp⟩
  · rw [z] at hin; exact absurd zz_n1l hin
  have hN := (hO o ho).2.2.2.1
  obtain ⟨r1, r2, r3, r4, r5, r6, r7, r8, r9⟩ := hR o ho hl (si t) hs
  obtain ⟨t1, _, _, t4⟩ := hT (o * 8 + si t) (by omega)
  have hBT := (hO _ r1).2.1
  obtain ⟨i0, hi0, _⟩ := hL.2.2.1 o ho hl
  have hb : b ≠ 0 := fun z => by have := hL.2.2.2.1 z; omega
  obtain ⟨hc0, hL0⟩ := hL.2.2.2.2 hb
  have hv : vp_in (nI t) 4 := vp_in_nI ht (by decide)
  have hj : vp_in (nI (o * 8 + si t)) 64 := vp_in_nI (by omega) (by decide)
  have main : ∀ md, md ≤ 3 → (md = 1 → T (o * 8 + si t) = o) → (md = 2 → 4 ≤ S (T (o * 8 + si t))) → (md = 3 → T (o * 8 + si t) = o ∧ 4 ≤ S o) → wX_step_41 post (nI t) (nI o) (nI (o * 8 + si t)) (nI md) (nI tl) (nI ml) (nI sl) cu (nI b) (nI c) (lN g) (zz_n S) (zz_n B) (zz_n A) (zz_n N) im sy (zz_n sm) (zz_n sn) (zz_n sa) (zz_n so) (zz_n T) (zz_n C) (zz_n R) (zz_n Q) tp (zz_n L) (zz_n F) (zz_n M) ow (zz_l G) (zz_n rn) ins pc ac (zz_l D) dt me := by
    intro md m3 d1 d2 d3
    refine zx_s41 ht hr ho (by omega) (by omega) hp hN t4 hg hO hM hG hF hV r1 r2 r3 r4 r5 m3 d1 d2 d3 (fun hn D' dt' me' x1 x2 x3 => ?_) (fun hn D' dt' me' x1 x2 x3 => ?_)
    · have ev := (x2 t ht hr _ r1 r2).2.1 x3 _ r3
      have P := (zp_stp (op := so (o * 8 + si t)) (s := si t) (v := me' (zz_ba S F M t (T (o * 8 + si t)) + C (o * 8 + si t))) ht hr r1 r2 r3 hO hz x1 x2 x3 o ho hl hio q2 q3).1 hn
      refine kk _ _ _ _ _ _ _ _ _ _ P (fun postY hY => ?_)
      refine zy_stp ht ho (by omega) (by rw [q3]; exact hio) rfl (by omega) hN t4 r1 (by omega) (fun _ => ?_) (fun z => absurd hn z)
      rw [← ev]
      exact hY
    · have ev := (x2 t ht hr _ r1 r2).2.1 x3 _ r3
      have P := (zp_stp (op := so (o * 8 + si t)) (s := si t) (v := me' (zz_ba S F M t (T (o * 8 + si t)) + C (o * 8 + si t))) ht hr r1 r2 r3 hO hz x1 x2 x3 o ho hl hio q2 q3).2
      refine kk _ _ _ _ _ _ _ _ _ _ P (fun postY hY => ?_)
      refine zy_stp ht ho (by omega) (by rw [q3]; exact hio) rfl (by omega) hN t4 r1 (by omega) (fun z => absurd z hn) (fun _ => ?_)
      rw [← ev]
      exact hY
  refine And.intro hv (nm_r (e' := nI o) (by rw [zz_ra ins t (by omega)]; exact hio) (And.intro hv (nm_r (e' := nI (o * 8 + si t)) (by rw [zz_ra pc t (by omega), hp, zz_ix]) (br_c (fun _ => And.intro hj ?_) (fun _ => And.intro hj ?_)))))
  · rw [zz_rd sm (o * 8 + si t) (by omega)]
    exact main _ t1 r7 r8 r9
  · rw [zz_rd R (o * 8 + si t) (by omega), r6]
    refine main _ zz_chl zz_ch1 zz_ch2 (fun h => ?_)
    obtain ⟨y1, y2⟩ := zz_ch3 h
    rw [y2] at hL0
    exact ⟨y1, by omega⟩
theorem zq_r26 {post : Int32 → SX → Prop} {x1 x3 x4 x6 : Int32} {k : Nat} (h1 : zz_B tl ml sl b c g k rn) (hk : k ≤ 2563) (h2 : zz_N cu S B A N sm sn sa so im sy) : ∀ d t, t + d = tl → ∀ (D si : Nat → Nat) (ins pc ac dt me ay io bl : Nat → Int32) (x5 : Int32) (J16 : Int32 → Int32 → Int32 → Int32 → Int32 → Int32 → Int32 → Int32 → Int64 → (Nat → Int32) → (Nat → Int32) → (Nat → Int32) → (Nat → Int32) → (Nat → Int32) → (Nat → Int32) → (Nat → Int32) → (Nat → Int32) → (Nat → Int32) → (Nat → Int32) → (Nat → Int32) → (Nat → Int32) → (Nat → Int32) → (Nat → Int32) → (Nat → Int32) → (Nat → Int32) → (Nat → Int32) → (Nat → Int32) → (Nat → Int32) → (Nat → Int64) → (Nat → Int32) → (Nat → Int32) → (Nat → Int32) → (Nat → Int32) → (Nat → Int64) → (Nat → Int32) → (Nat → Int32) → Prop), zz_Z b c g S B N sm T C R Q L F M G rn D Fy Ly si im tp ow ins pc ac dt me ay io bl →
    (∀ x5' : Int32, ∀ (D' si' : Nat → Nat) (ins' pc' ac' dt' me' ay' io' bl' : Nat → Int32), zz_Z b c g S B N sm T C R Q L F M G rn D' Fy Ly si' im tp ow ins' pc' ac' dt' me' ay' io' bl' → (∀ (postY : Int32 → SY → Prop) (JY : Int32 → Int32 → Int32 → Int32 → Int32 → Int32 → Int32 → Int32 → (Nat → Int32) → (Nat → Int32) → (Nat → Int32) → (Nat → Int32) → (Nat → Int32) → (Nat → Int32) → (Nat → Int32) → (Nat → Int32) → (Nat → Int32) → (Nat → Int32) → (Nat → Int32) → (Nat → Int32) → (Nat → Int32) → (Nat → Int32) → (Nat → Int32) → (Nat → Int32) → (Nat → Int32) → (Nat → Int32) → (Nat → Int32) → Prop), JY x5' (x6 + 1) (nI c) cu (nI b) (nI tl) (nI ml) (nI sl) (zz_n S) (zz_n B) (zz_n A) (zz_n N) (zz_n Fy) im sy (zz_n sm) (zz_n sn) (zz_n sa) (zz_n so) (zz_n T) (zz_n C) (zz_n Ly) (zz_n rn) (ay') (io') (zz_n si') (bl') → wY_run_26 postY JY x1 x4 x6 (d + 1) x5 (nI t) (nI c) cu (nI b) (nI tl) (nI ml) (nI sl) (zz_n S) (zz_n B) (zz_n A) (zz_n N) (zz_n Fy) im sy (zz_n sm) (zz_n sn) (zz_n sa) (zz_n so) (zz_n T) (zz_n C) (zz_n Ly) (zz_n rn) ay io (zz_n si) bl) → J16 x5' (x6 + 1) (nI tl) (nI ml) (nI sl) cu (nI b) (nI c) (lN g) (zz_n S) (zz_n B) (zz_n A) (zz_n N) im sy (zz_n sm) (zz_n sn) (zz_n sa) (zz_n so) (zz_n T) (zz_n C) (zz_n R) (zz_n Q) tp (zz_n L) (zz_n F) (zz_n M) ow (zz_l G) (zz_n rn) (ins') (pc') (ac') (zz_l D') (dt') (me')) →
    wX_run_26 post J16 x1 x3 x4 x6 (d + 1) x5 (nI t) (nI tl) (nI ml) (nI sl) cu (nI b) (nI c) (lN g) (zz_n S) (zz_n B) (zz_n A) (zz_n N) im sy (zz_n sm) (zz_n sn) (zz_n sa) (zz_n so) (zz_n T) (zz_n C) (zz_n R) (zz_n Q) tp (zz_n L) (zz_n F) (zz_n M) ow (zz_l G) (zz_n rn) ins pc ac (zz_l D) dt me := by
  have t4 := h1.2.1
  intro d
  induction d with
  | zero =>
    intro t hd D si ins pc ac dt me ay io bl x5 J16 hz kk
    have hge : nI tl ≤ nI t := nI_le (by omega) (by omega)
    exact br_t hge (nm_e (kk x5 _ _ _ _ _ _ _ _ _ _ hz (fun postY JY h => br_t hge (nm_e h))))
  | succ d ih =>
    intro t hd D si ins pc ac dt me ay io bl x5 J16 hz kk
    have hge : ¬ nI tl ≤ nI t := nI_ge (by omega) (by omega)
    have hv : vp_in (nI t) 4 := vp_in_nI (by omega) (by decide)
    have er : zz_n rn (nI t).toNatClampNeg = nI (rn t) := zz_rd rn t (by omega)
    have ei : ins (nI t).toNatClampNeg = ins t := zz_ra ins t (by omega)
    have eo : io (nI t).toNatClampNeg = io t := zz_ra io t (by omega)
    by_cases hb : bt x1 t = true
    · have bX := (zz_bx x1 (i := t) (by omega)).mpr hb
      have bY : ¬ (x1 &&& ((1 : Int32) <<< (nI t &&& 31))) = 0 := fun z => by have := (zz_by x1 (i := t) (by omega)).mp z; rw [hb] at this; exact absurd this (by decide)
      rcases hz.2.2.2.2.2.1.1 t (by omega) with ⟨q1, _⟩ | ⟨q1, q2, q3, q4⟩
      · have er0 : zz_n rn (nI t).toNatClampNeg = 0 := by rw [er, q1]; rfl
        refine br_f hge (br_t bX (br_f zz_10 (And.intro hv (br_t er0 (nm_r (nI_1 t) ?_)))))
        refine ih (t + 1) (by omega) D si ins pc ac dt me ay io bl x5 J16 hz (fun x5' D' si' ins' pc' ac' dt' me' ay' io' bl' hz' hY => kk x5' D' si' ins' pc' ac' dt' me' ay' io' bl' hz' (fun postY JY h => ?_))
        exact br_f hge (br_f bY (And.intro hv (br_t er0 (nm_r (nI_1 t) (hY postY JY h)))))
      · have er0 : ¬ zz_n rn (nI t).toNatClampNeg = 0 := by rw [er, q1]; decide
        by_cases hin : ins t < 0
        · refine br_f hge (br_t bX (br_f zz_10 (And.intro hv (br_f er0 (And.intro hv (br_t (by rw [ei]; exact hin) (nm_r (nI_1 t) ?_)))))))
          refine ih (t + 1) (by omega) D si ins pc ac dt me ay io bl x5 J16 hz (fun x5' D' si' ins' pc' ac' dt' me' ay' io' bl' hz' hY => kk x5' D' si' ins' pc' ac' dt' me' ay' io' bl' hz' (fun postY JY h => ?_))
          exact br_f hge (br_f bY (And.intro hv (br_f er0 (And.intro hv (br_t (by rw [eo, q3]; exact hin) (nm_r (nI_1 t) (hY postY JY h)))))))
        · refine br_f hge (br_t bX (br_f zz_10 (And.intro hv (br_f er0 (And.intro hv (br_f (by rw [ei]; exact hin) ?_))))))
          refine zq_step (by omega) q1 hin h1 hk h2 hz (fun D' si' ins' pc' ac' dt' me' ay' io' bl' hz' hY => nm_e (nm_r (nI_1 t) ?_))
          refine ih (t + 1) (by omega) D' si' ins' pc' ac' dt' me' ay' io' bl' (x5 + 1) J16 hz' (fun x5'' D'' si'' ins'' pc'' ac'' dt'' me'' ay'' io'' bl'' hz'' hY' => kk x5'' D'' si'' ins'' pc'' ac'' dt'' me'' ay'' io'' bl'' hz'' (fun postY JY h => ?_))
          exact br_f hge (br_f bY (And.intro hv (br_f er0 (And.intro hv (br_f (by rw [eo, q3]; exact hin) (hY _ (nm_e (nm_r (nI_1 t) (hY' postY JY h)))))))))
    · have hb' : bt x1 t = false := by revert hb; cases bt x1 t <;> decide
      have bX : ¬ ((x1 >>> (nI t &&& 31)) &&& 1) = 1 := fun z => hb ((zz_bx x1 (i := t) (by omega)).mp z)
      have bY := (zz_by x1 (i := t) (by omega)).mpr hb'
      refine br_f hge (br_f bX (br_t rfl (nm_r (nI_1 t) ?_)))
      refine ih (t + 1) (by omega) D si ins pc ac dt me ay io bl x5 J16 hz (fun x5' D' si' ins' pc' ac' dt' me' ay' io' bl' hz' hY => kk x5' D' si' ins' pc' ac' dt' me' ay' io' bl' hz' (fun postY JY h => ?_))
      exact br_f hge (br_t bY (nm_r (nI_1 t) (hY postY JY h)))
theorem zq_r16 {post : Int32 → SX → Prop} {x1 x3 : Int32} {k lim : Nat} (hlim : lim ≤ 16) (h1 : zz_B tl ml sl b c g k rn) (hk : k ≤ 2563) (h2 : zz_N cu S B A N sm sn sa so im sy) : ∀ d i, i + d = lim → ∀ (D si : Nat → Nat) (ins pc ac dt me ay io bl : Nat → Int32) (x5 : Int32), zz_Z b c g S B N sm T C R Q L F M G rn D Fy Ly si im tp ow ins pc ac dt me ay io bl →
    (∀ x5' : Int32, ∀ (D' si' : Nat → Nat) (ins' pc' ac' dt' me' ay' io' bl' : Nat → Int32), zz_Z b c g S B N sm T C R Q L F M G rn D' Fy Ly si' im tp ow ins' pc' ac' dt' me' ay' io' bl' → (∀ (postY : Int32 → SY → Prop), postY x5' ((nI c), cu, (nI b), (nI tl), (nI ml), (nI sl), (zz_n S), (zz_n B), (zz_n A), (zz_n N), (zz_n Fy), im, sy, (zz_n sm), (zz_n sn), (zz_n sa), (zz_n so), (zz_n T), (zz_n C), (zz_n Ly), (zz_n rn), (ay'), (io'), (zz_n si'), (bl')) → wY_run_16 postY x1 (nI lim) (d + 1) x5 (nI i) (nI c) cu (nI b) (nI tl) (nI ml) (nI sl) (zz_n S) (zz_n B) (zz_n A) (zz_n N) (zz_n Fy) im sy (zz_n sm) (zz_n sn) (zz_n sa) (zz_n so) (zz_n T) (zz_n C) (zz_n Ly) (zz_n rn) ay io (zz_n si) bl) → post x5' ((nI tl), (nI ml), (nI sl), cu, (nI b), (nI c), (lN g), (zz_n S), (zz_n B), (zz_n A), (zz_n N), im, sy, (zz_n sm), (zz_n sn), (zz_n sa), (zz_n so), (zz_n T), (zz_n C), (zz_n R), (zz_n Q), tp, (zz_n L), (zz_n F), (zz_n M), ow, (zz_l G), (zz_n rn), (ins'), (pc'), (ac'), (zz_l D'), (dt'), (me'))) →
    wX_run_16 post x1 x3 (nI lim) (d + 1) x5 (nI i) (nI tl) (nI ml) (nI sl) cu (nI b) (nI c) (lN g) (zz_n S) (zz_n B) (zz_n A) (zz_n N) im sy (zz_n sm) (zz_n sn) (zz_n sa) (zz_n so) (zz_n T) (zz_n C) (zz_n R) (zz_n Q) tp (zz_n L) (zz_n F) (zz_n M) ow (zz_l G) (zz_n rn) ins pc ac (zz_l D) dt me := by
  intro d
  induction d with
  | zero =>
    intro i hd D si ins pc ac dt me ay io bl x5 hz kk
    have hge : nI lim ≤ nI i := nI_le (by omega) (by omega)
    exact br_t hge (kk x5 _ _ _ _ _ _ _ _ _ _ hz (fun postY h => br_t hge h))
  | succ d ih =>
    intro i hd D si ins pc ac dt me ay io bl x5 hz kk
    have hge : ¬ nI lim ≤ nI i := nI_ge (by omega) (by omega)
    refine br_f hge ⟨tl + 1, ?_⟩
    refine zq_r26 h1 hk h2 tl 0 (by omega) D si ins pc ac dt me ay io bl x5 _ hz (fun x5' D' si' ins' pc' ac' dt' me' ay' io' bl' hz' hY => ?_)
    rw [nI_1]
    refine ih (i + 1) (by omega) D' si' ins' pc' ac' dt' me' ay' io' bl' x5' hz' (fun x5'' D'' si'' ins'' pc'' ac'' dt'' me'' ay'' io'' bl'' hz'' hY' => kk x5'' D'' si'' ins'' pc'' ac'' dt'' me'' ay'' io'' bl'' hz'' (fun postY h => ?_))
    refine br_f hge ⟨tl + 1, hY _ _ ?_⟩
    rw [nI_1]
    exact hY' postY h
theorem i_vc_run {k : Nat} {u : SX} {v : SY} (I : i_Rel k u v) (hk : k + 5 ≤ 2563) (v1 : Int32) (v2 : Int32) (v3 : Int32) : wpX_run (fun r u' => wpY_run (fun r' v' => r' = r ∧ i_Rel (k + 5) u' v') v v1 v2 v3) u v1 v2 v3 := by
  refine zz_el (P := fun u v => wpX_run (fun r u' => wpY_run (fun r' v' => r' = r ∧ i_Rel (k + 5) u' v') v v1 v2 v3) u v1 v2 v3) ?_ I
  intro tl ml sl b c g cu S B A N sm sn sa so T C R Q L F M G rn D Fy Ly si im sy tp ow ins pc ac dt me ay io bl h1 h2 h3
  obtain ⟨lim, _, l16, cX, cY⟩ := zq_clamp v2 0 16 (by omega) (by omega)
  unfold wpX_run
  refine cX _ _ ⟨lim + 1, ?_⟩
  refine zq_r16 l16 h1 (by omega) h2 lim 0 (by omega) D si ins pc ac dt me ay io bl 0 h3 (fun x5' D' si' ins' pc' ac' dt' me' ay' io' bl' hz' hY => ?_)
  unfold wpY_run
  refine cY _ _ ⟨lim + 1, hY _ ?_⟩
  exact ⟨rfl, zz_mk (zz_Bk h1 (by omega)) h2 hz'⟩
end ZRU
end
section
section ZUN
/-! unload -/
variable {tl ml sl b c g : Nat} {cu : Int32} {S B A N sm sn sa so T C R Q L F M G rn D Fy Ly si : Nat → Nat} {im sy tp ow ins pc ac dt me ay io bl : Nat → Int32}
def zz_sh (L : Nat → Nat) (p i : Nat) : Nat → Nat := fun j => if p ≤ j ∧ j + 1 < i then L (j + 1) else L j
def zz_sk (p i : Nat) : Nat := if p ≤ i then i + 1 else i
theorem zz_sh1 (p : Nat) : zz_sh L p (p + 1) = L := by funext j; exact if_neg (by omega)
theorem zz_shs {p i : Nat} (h : p < i) : zz_u (zz_sh L p i) (i - 1) (L i) = zz_sh L p (i + 1) := by
  funext j
  unfold zz_sh
  by_cases e : j = i - 1
  · rw [zz_us' e, if_pos (by omega), show j + 1 = i by omega]
  · rw [zz_un e]
    by_cases h2 : p ≤ j ∧ j + 1 < i
    · rw [if_pos h2, if_pos (by omega)]
    · rw [if_neg h2, if_neg (by omega)]
theorem zz_shi {p i : Nat} : zz_sh L p i i = L i := if_neg (by omega)
theorem zz_she {p i : Nat} (h : i < c - 1) : zz_sh L p c i = L (zz_sk p i) := by
  unfold zz_sh zz_sk
  by_cases h2 : p ≤ i
  · rw [if_pos ⟨h2, by omega⟩, if_pos h2]
  · rw [if_neg (by omega), if_neg h2]
theorem zz_skn (p i : Nat) : zz_sk p i ≠ p ∧ i ≤ zz_sk p i ∧ zz_sk p i ≤ i + 1 ∧ (i < p → zz_sk p i = i) ∧ (p ≤ i → zz_sk p i = i + 1) := by
  unfold zz_sk
  by_cases h2 : p ≤ i
  · rw [if_pos h2]; omega
  · rw [if_neg h2]; omega
theorem zp_unl {o p : Nat} (ho : o < 8) (hl : 3 ≤ S o) (h5 : S o ≠ 5) (hp : p < c) (hLp : L p = o) (hocc : ∀ t, t < 4 → rn t = 1 → ins t ≠ nI o) (href : ∀ q, q < 8 → q ≠ o → 3 ≤ S q → ∀ s, s < N q → T (q * 8 + s) ≠ o) (hz : zz_Z b c g S B N sm T C R Q L F M G rn D Fy Ly si im tp ow ins pc ac dt me ay io bl) :
    zz_Z b (c - 1) g (zz_u S o 2) B N sm T C R Q (zz_sh L p c) F M G rn D Fy (zz_sh Ly p c) si im tp (upd ow (M o) (-1)) ins pc ac dt me ay io bl := by
  obtain ⟨⟨l1, l2, l3, l4, l5⟩, hR, ⟨m1, m2⟩, hG, ⟨f1, f2⟩, ⟨t1, t2⟩, hV⟩ := hz
  have so2 : ∀ q, 3 ≤ zz_u S o 2 q → q ≠ o ∧ zz_u S o 2 q = S q := by
    intro q h
    by_cases e : q = o
    · rw [zz_us' e] at h; omega
    · exact ⟨e, zz_un e⟩
  have sne : ∀ q, q ≠ o → zz_u S o 2 q = S q := fun q e => zz_un e
  have hb : b ≠ 0 := fun z => by have := l4 z; omega
  obtain ⟨c0, s5⟩ := l5 hb
  have hp0 : p ≠ 0 := fun z => by subst z; rw [hLp] at s5; exact h5 s5
  have ne : ∀ i, i < c → i ≠ p → L i ≠ o := fun i hi hn e => hn (l2 i p hi hp (by rw [e, hLp]))
  have e0 : zz_sh L p c 0 = L 0 := by
    rw [zz_she (by omega), (zz_skn p 0).2.2.2.1 (by omega)]
  refine ⟨⟨?_, ?_, ?_, fun z => absurd z hb, fun _ => ⟨by omega, ?_⟩⟩, ?_, ⟨?_, ?_⟩, hG, ⟨?_, ?_⟩, ⟨?_, t2⟩, ?_⟩
  · intro i hi
    obtain ⟨k1, k2, k3, k4, k5⟩ := zz_skn p i
    rw [zz_she hi, zz_she hi]
    obtain ⟨a1, a2, a3⟩ := l1 (zz_sk p i) (by omega)
    rw [sne _ (ne _ (by omega) k1)]
    exact ⟨a1, a2, a3⟩
  · intro i j hi hj e
    rw [zz_she hi, zz_she hj] at e
    have a := zz_skn p i
    have a' := zz_skn p j
    have := l2 _ _ (by omega) (by omega) e
    omega
  · intro q hq h3
    obtain ⟨e, eq⟩ := so2 q h3
    obtain ⟨i, hi, hLi⟩ := l3 q hq (by omega)
    have hip : i ≠ p := fun z => by subst z; exact e (hLi.symm.trans hLp)
    by_cases y : i < p
    · refine ⟨i, by omega, ?_⟩
      rw [zz_she (by omega), (zz_skn p i).2.2.2.1 y]
      exact hLi
    · refine ⟨i - 1, by omega, ?_⟩
      rw [zz_she (by omega), (zz_skn p (i - 1)).2.2.2.2 (by omega), show i - 1 + 1 = i by omega]
      exact hLi
  · rw [e0, sne _ (ne 0 c0 (fun z => hp0 z.symm))]
    exact s5
  · intro q hq h3 s hs
    obtain ⟨e, eq⟩ := so2 q h3
    obtain ⟨r1, r2, r3, r4, r5, r6, r7, r8, r9⟩ := hR q hq (by omega) s hs
    have hTn := href q hq e (by omega) s hs
    rw [sne _ hTn, e0, eq]
    refine ⟨r1, r2, r3, r4, r5, ?_, r7, r8, r9⟩
    rw [r6]
    unfold zz_ch
    rw [sne _ hTn]
  · intro q hq h3
    obtain ⟨e, eq⟩ := so2 q h3
    obtain ⟨a1, a2⟩ := m1 q hq (by omega)
    obtain ⟨b1, b2⟩ := m1 o ho hl
    have : M q ≠ M o := fun z => by
      rw [z, b2] at a2
      exact e (zz_inj a2 (by omega) (by omega)).symm
    rw [pk_un this]
    exact ⟨a1, a2⟩
  · intro m hm
    by_cases e : m = M o
    · subst e; exact Or.inl pk_us
    · rw [pk_un e]
      rcases m2 m hm with h | ⟨q, hq, h3, hMq, how⟩
      · exact Or.inl h
      · have hqo : q ≠ o := fun z => by subst z; exact e hMq.symm
        exact Or.inr ⟨q, hq, by rw [sne q hqo]; exact h3, hMq, how⟩
  · intro q hq h4
    obtain ⟨e, eq⟩ := so2 q (by omega)
    exact f1 q hq (by omega)
  · intro q q' hq hq' h4 h4' hn
    obtain ⟨e, eq⟩ := so2 q (by omega)
    obtain ⟨e', eq'⟩ := so2 q' (by omega)
    exact f2 q q' hq hq' (by omega) (by omega) hn
  · intro t ht
    rcases t1 t ht with h | ⟨h1, h2, h3, h4⟩
    · exact Or.inl h
    · refine Or.inr ⟨h1, h2, h3, ?_⟩
      rcases h4 with h | ⟨q, hq, e, hlq, h6⟩
      · exact Or.inl h
      · have hqo : q ≠ o := fun z => by subst z; exact hocc t ht h1 e
        exact Or.inr ⟨q, hq, e, by rw [sne q hqo]; exact hlq, h6⟩
  · intro t ht hr q hq h3
    obtain ⟨e, eq⟩ := so2 q h3
    have := hV t ht hr q hq (by omega)
    have eb : zz_ba (zz_u S o 2) F M t q = zz_ba S F M t q := by unfold zz_ba; rw [eq]
    have et : zz_to (zz_u S o 2) M G D dt t q ↔ zz_to S M G D dt t q := by unfold zz_to; rw [eq]
    rw [eb, et]
    exact this
theorem zp_unN {o : Nat} (ho : o < 8) (hl : S o = 3 ∨ S o = 4) (h2 : zz_N cu S B A N sm sn sa so im sy) : zz_N cu (zz_u S o 2) B A N sm sn sa so im sy := by
  obtain ⟨hO, hY, hT, hK, hC⟩ := h2
  refine ⟨?_, hY, hT, ?_, ?_⟩
  · intro p hp
    obtain ⟨a1, a2⟩ := hO p hp
    refine ⟨?_, a2⟩
    by_cases e : p = o
    · rw [zz_us' e]; omega
    · rw [zz_un e]; exact a1
  · intro p hp hn s hs
    by_cases e : p = o
    · subst e
      have := hK p hp (by omega) s hs
      exact ⟨this.1, fun z => by have := this.2 z; omega⟩
    · rw [zz_un e] at hn ⊢
      exact hK p hp hn s hs
  · rcases hC with h | ⟨p, hp, e, h0⟩
    · exact Or.inl h
    · exact Or.inr ⟨p, hp, e, by rw [zz_un (fun z => by subst z; omega)]; exact h0⟩
theorem zq_occ {o : Nat} (ho : o < 8) (htl : tl ≤ 4) (hz : zz_Z b c g S B N sm T C R Q L F M G rn D Fy Ly si im tp ow ins pc ac dt me ay io bl) : ∀ d t, t + d = tl →
    ((∀ post : Int32 → Prop, post 1 → wX_isOccupied_2 post (nI o) (nI tl) (nI ml) (nI sl) cu (nI b) (nI c) (lN g) (zz_n S) (zz_n B) (zz_n A) (zz_n N) im sy (zz_n sm) (zz_n sn) (zz_n sa) (zz_n so) (zz_n T) (zz_n C) (zz_n R) (zz_n Q) tp (zz_n L) (zz_n F) (zz_n M) ow (zz_l G) (zz_n rn) ins pc ac (zz_l D) dt me (d + 1) (nI t)) ∧ (∀ post : Int32 → SY → Prop, post (-8) ((nI c), cu, (nI b), (nI tl), (nI ml), (nI sl), (zz_n S), (zz_n B), (zz_n A), (zz_n N), (zz_n Fy), im, sy, (zz_n sm), (zz_n sn), (zz_n sa), (zz_n so), (zz_n T), (zz_n C), (zz_n Ly), (zz_n rn), ay, io, (zz_n si), bl) → wY_unload_37 post (nI o) (nI c) cu (nI b) (nI tl) (nI ml) (nI sl) (zz_n S) (zz_n B) (zz_n A) (zz_n N) (zz_n Fy) im sy (zz_n sm) (zz_n sn) (zz_n sa) (zz_n so) (zz_n T) (zz_n C) (zz_n Ly) (zz_n rn) ay io (zz_n si) bl (d + 1) (nI t)))
    ∨ ((∀ q, t ≤ q → q < tl → rn q = 1 → ins q ≠ nI o) ∧ (∀ post : Int32 → Prop, post 0 → wX_isOccupied_2 post (nI o) (nI tl) (nI ml) (nI sl) cu (nI b) (nI c) (lN g) (zz_n S) (zz_n B) (zz_n A) (zz_n N) im sy (zz_n sm) (zz_n sn) (zz_n sa) (zz_n so) (zz_n T) (zz_n C) (zz_n R) (zz_n Q) tp (zz_n L) (zz_n F) (zz_n M) ow (zz_l G) (zz_n rn) ins pc ac (zz_l D) dt me (d + 1) (nI t)) ∧ (∀ post : Int32 → SY → Prop, (∃ n75, wY_unload_75 post (nI o) (nI c) cu (nI b) (nI tl) (nI ml) (nI sl) (zz_n S) (zz_n B) (zz_n A) (zz_n N) (zz_n Fy) im sy (zz_n sm) (zz_n sn) (zz_n sa) (zz_n so) (zz_n T) (zz_n C) (zz_n Ly) (zz_n rn) ay io (zz_n si) bl n75 0) → wY_unload_37 post (nI o) (nI c) cu (nI b) (nI tl) (nI ml) (nI sl) (zz_n S) (zz_n B) (zz_n A) (zz_n N) (zz_n Fy) im sy (zz_n sm) (zz_n sn) (zz_n sa) (zz_n so) (zz_n T) (zz_n C) (zz_n Ly) (zz_n rn) ay io (zz_n si) bl (d + 1) (nI t))) := by
  intro d
  induction d with
  | zero =>
    intro t hd
    have hge : nI tl ≤ nI t := nI_le (by omega) (by omega)
    exact Or.inr ⟨fun q h1 h2 => by omega, fun post h => br_t hge h, fun post h => br_t hge h⟩
  | succ d ih =>
    intro t hd
    have hge : ¬ nI tl ≤ nI t := nI_ge (by omega) (by omega)
    have hv : vp_in (nI t) 4 := vp_in_nI (by omega) (by decide)
    have er : zz_n rn (nI t).toNatClampNeg = nI (rn t) := zz_rd rn t (by omega)
    have ei : ins (nI t).toNatClampNeg = ins t := zz_ra ins t (by omega)
    have eo : io (nI t).toNatClampNeg = io t := zz_ra io t (by omega)
    rcases hz.2.2.2.2.2.1.1 t (by omega) with ⟨q1, _⟩ | ⟨q1, q2, q3, q4⟩
    · have er0 : zz_n rn (nI t).toNatClampNeg = 0 := by rw [er, q1]; rfl
      rcases ih (t + 1) (by omega) with ⟨kX, kY⟩ | ⟨f, kX, kY⟩
      · exact Or.inl ⟨fun post h => br_f hge (And.intro hv (br_t er0 (nm_r (nI_1 t) (kX post h)))), fun post h => br_f hge (And.intro hv (br_t er0 (nm_r (nI_1 t) (kY post h))))⟩
      · refine Or.inr ⟨fun q h1 h2 h3 => ?_, fun post h => br_f hge (And.intro hv (br_t er0 (nm_r (nI_1 t) (kX post h)))), fun post h => br_f hge (And.intro hv (br_t er0 (nm_r (nI_1 t) (kY post h))))⟩
        by_cases e : q = t
        · subst e; omega
        · exact f q (by omega) h2 h3
    · have er0 : ¬ zz_n rn (nI t).toNatClampNeg = 0 := by rw [er, q1]; decide
      by_cases hi : ins t = nI o
      · have h1 : ins (nI t).toNatClampNeg = nI o := by rw [ei]; exact hi
        have h2 : io (nI t).toNatClampNeg = nI o := by rw [eo, q3]; exact hi
        exact Or.inl ⟨fun post h => br_f hge (And.intro hv (br_f er0 (And.intro hv (br_t h1 h)))), fun post h => br_f hge (And.intro hv (br_f er0 (And.intro hv (br_t h2 h))))⟩
      · have h1 : ¬ ins (nI t).toNatClampNeg = nI o := by rw [ei]; exact hi
        have h2 : ¬ io (nI t).toNatClampNeg = nI o := by rw [eo, q3]; exact hi
        rcases ih (t + 1) (by omega) with ⟨kX, kY⟩ | ⟨f, kX, kY⟩
        · exact Or.inl ⟨fun post h => br_f hge (And.intro hv (br_f er0 (And.intro hv (br_f h1 (nm_r (nI_1 t) (kX post h)))))), fun post h => br_f hge (And.intro hv (br_f er0 (And.intro hv (br_f h2 (nm_r (nI_1 t) (kY post h))))))⟩
        · refine Or.inr ⟨fun q y1 y2 y3 => ?_, fun post h => br_f hge (And.intro hv (br_f er0 (And.intro hv (br_f h1 (nm_r (nI_1 t) (kX post h)))))), fun post h => br_f hge (And.intro hv (br_f er0 (And.intro hv (br_f h2 (nm_r (nI_1 t) (kY post h))))))⟩
          by_cases e : q = t
          · subst e; exact hi
          · exact f q (by omega) y2 y3
theorem zx_ref20 {post : Int32 → Prop} {J2 : Int32 → Prop} {o i p : Nat} (ho : o < 8) (hp : p < 8) (hN : N p ≤ 8) (hT : ∀ s, s < N p → T (p * 8 + s) < 8) :
    ∀ d s, s + d = N p → ((p ≠ o ∧ ∃ s', s ≤ s' ∧ s' < N p ∧ T (p * 8 + s') = o) → post 1) → (¬ (p ≠ o ∧ ∃ s', s ≤ s' ∧ s' < N p ∧ T (p * 8 + s') = o) → J2 (nI (i + 1))) → wX_isReferenced_20 post J2 (nI o) (nI i) (nI p) (nI tl) (nI ml) (nI sl) cu (nI b) (nI c) (lN g) (zz_n S) (zz_n B) (zz_n A) (zz_n N) im sy (zz_n sm) (zz_n sn) (zz_n sa) (zz_n so) (zz_n T) (zz_n C) (zz_n R) (zz_n Q) tp (zz_n L) (zz_n F) (zz_n M) ow (zz_l G) (zz_n rn) ins pc ac (zz_l D) dt me (d + 1) (nI s) := by
  have hv : vp_in (nI p) 8 := vp_in_nI hp (by decide)
  have eN : zz_n N (nI p).toNatClampNeg = nI (N p) := zz_rd N p (by omega)
  intro d
  induction d with
  | zero =>
    intro s hd k1 k2
    refine And.intro hv (br_t (by rw [eN]; exact nI_le (by omega) (by omega)) (nm_r (nI_1 i) (k2 ?_)))
    intro ⟨_, s', h1, h2, _⟩
    omega
  | succ d ih =>
    intro s hd k1 k2
    refine And.intro hv (br_f (by rw [eN]; exact nI_ge (by omega) (by omega)) ?_)
    refine pk_eq p o (fun e => nm_r (nI_1 s) (ih (s + 1) (by omega) (fun h => absurd e h.1) (fun _ => k2 (fun h => absurd e h.1)))) (fun e => ?_)
    have ht := hT s (by omega)
    rw [zz_ix p s, zz_rd T (p * 8 + s) (by omega)]
    refine And.intro (vp_in_nI (by omega) (by decide)) (pk_eq (T (p * 8 + s)) o (fun z => k1 ⟨e, s, by omega, by omega, z⟩) (fun z => nm_r (nI_1 s) (ih (s + 1) (by omega) ?_ ?_)))
    · intro ⟨y1, s', y2, y3, y4⟩
      exact k1 ⟨y1, s', by omega, y3, y4⟩
    · intro h
      refine k2 (fun ⟨y1, s', y2, y3, y4⟩ => h ⟨y1, s', ?_, y3, y4⟩)
      have : s' ≠ s := fun q => by subst q; exact z y4
      omega
theorem zx_ref2 {post : Int32 → Prop} {o : Nat} (ho : o < 8) (hc : c ≤ 6) (hL : ∀ i, i < c → L i < 8 ∧ N (L i) ≤ 8 ∧ ∀ s, s < N (L i) → T (L i * 8 + s) < 8) :
    ∀ d i, i + d = c → ((∃ i', i ≤ i' ∧ i' < c ∧ L i' ≠ o ∧ ∃ s, s < N (L i') ∧ T (L i' * 8 + s) = o) → post 1) → (¬ (∃ i', i ≤ i' ∧ i' < c ∧ L i' ≠ o ∧ ∃ s, s < N (L i') ∧ T (L i' * 8 + s) = o) → post 0) → wX_isReferenced_2 post (nI o) (nI tl) (nI ml) (nI sl) cu (nI b) (nI c) (lN g) (zz_n S) (zz_n B) (zz_n A) (zz_n N) im sy (zz_n sm) (zz_n sn) (zz_n sa) (zz_n so) (zz_n T) (zz_n C) (zz_n R) (zz_n Q) tp (zz_n L) (zz_n F) (zz_n M) ow (zz_l G) (zz_n rn) ins pc ac (zz_l D) dt me (d + 1) (nI i) := by
  intro d
  induction d with
  | zero =>
    intro i hd k1 k2
    exact br_t (nI_le (by omega) (by omega)) (k2 (fun ⟨i', h1, h2, _⟩ => by omega))
  | succ d ih =>
    intro i hd k1 k2
    obtain ⟨h8, hN, hT⟩ := hL i (by omega)
    refine br_f (nI_ge (by omega) (by omega)) (And.intro (vp_in_nI (by omega) (by decide)) (nm_r (zz_rd L i (by omega)) ⟨N (L i) + 1, zx_ref20 ho h8 hN hT (N (L i)) 0 (by omega) ?_ ?_⟩))
    · intro ⟨y1, s', _, y2, y3⟩
      exact k1 ⟨i, by omega, by omega, y1, s', y2, y3⟩
    · intro h
      refine ih (i + 1) (by omega) (fun ⟨i', y1, y2⟩ => k1 ⟨i', by omega, y2⟩) (fun h' => k2 (fun ⟨i', y1, y2, y3, s, y4, y5⟩ => ?_))
      by_cases e : i' = i
      · subst e; exact h ⟨y3, s, by omega, y4, y5⟩
      · exact h' ⟨i', by omega, y2, y3, s, y4, y5⟩
theorem zy_98 {post : Int32 → SY → Prop} {J75 : Int32 → Prop} {o p : Nat} (ho : o < 8) (hp : p < 8) (hN : N p ≤ 8) (hT : ∀ s, s < N p → T (p * 8 + s) < 8) :
    ∀ d s, s + d = N p → ((∃ s', s ≤ s' ∧ s' < N p ∧ T (p * 8 + s') = o) → post (-8) ((nI c), cu, (nI b), (nI tl), (nI ml), (nI sl), (zz_n S), (zz_n B), (zz_n A), (zz_n N), (zz_n Fy), im, sy, (zz_n sm), (zz_n sn), (zz_n sa), (zz_n so), (zz_n T), (zz_n C), (zz_n Ly), (zz_n rn), ay, io, (zz_n si), bl)) → (¬ (∃ s', s ≤ s' ∧ s' < N p ∧ T (p * 8 + s') = o) → J75 (nI (p + 1))) → wY_unload_98 post J75 (nI o) (nI p) (nI c) cu (nI b) (nI tl) (nI ml) (nI sl) (zz_n S) (zz_n B) (zz_n A) (zz_n N) (zz_n Fy) im sy (zz_n sm) (zz_n sn) (zz_n sa) (zz_n so) (zz_n T) (zz_n C) (zz_n Ly) (zz_n rn) ay io (zz_n si) bl (d + 1) (nI s) := by
  have hv : vp_in (nI p) 8 := vp_in_nI hp (by decide)
  have eN : zz_n N (nI p).toNatClampNeg = nI (N p) := zz_rd N p (by omega)
  intro d
  induction d with
  | zero =>
    intro s hd k1 k2
    refine And.intro hv (br_t (by rw [eN]; exact nI_le (by omega) (by omega)) (nm_r (nI_1 p) (k2 ?_)))
    intro ⟨s', h1, h2, _⟩
    omega
  | succ d ih =>
    intro s hd k1 k2
    refine And.intro hv (br_f (by rw [eN]; exact nI_ge (by omega) (by omega)) ?_)
    have ht := hT s (by omega)
    rw [zz_ix p s, zz_rd T (p * 8 + s) (by omega)]
    refine And.intro (vp_in_nI (by omega) (by decide)) (pk_eq (T (p * 8 + s)) o (fun z => k1 ⟨s, by omega, by omega, z⟩) (fun z => nm_r (nI_1 s) (ih (s + 1) (by omega) ?_ ?_)))
    · intro ⟨s', y2, y3, y4⟩
      exact k1 ⟨s', by omega, y3, y4⟩
    · intro h
      refine k2 (fun ⟨s', y2, y3, y4⟩ => h ⟨s', ?_, y3, y4⟩)
      have : s' ≠ s := fun q => by subst q; exact z y4
      omega
theorem zy_75 {post : Int32 → SY → Prop} {o : Nat} (ho : o < 8) (hS : ∀ p, p < 8 → S p ≤ 5) (hL : ∀ p, p < 8 → 3 ≤ S p → N p ≤ 8 ∧ ∀ s, s < N p → T (p * 8 + s) < 8) :
    ∀ d p, p + d = 8 → ((∃ q, p ≤ q ∧ q < 8 ∧ q ≠ o ∧ 3 ≤ S q ∧ ∃ s, s < N q ∧ T (q * 8 + s) = o) → post (-8) ((nI c), cu, (nI b), (nI tl), (nI ml), (nI sl), (zz_n S), (zz_n B), (zz_n A), (zz_n N), (zz_n Fy), im, sy, (zz_n sm), (zz_n sn), (zz_n sa), (zz_n so), (zz_n T), (zz_n C), (zz_n Ly), (zz_n rn), ay, io, (zz_n si), bl)) → (¬ (∃ q, p ≤ q ∧ q < 8 ∧ q ≠ o ∧ 3 ≤ S q ∧ ∃ s, s < N q ∧ T (q * 8 + s) = o) → ∃ n142, wY_unload_142 post (nI o) (nI c) cu (nI b) (nI tl) (nI ml) (nI sl) n142 0 0 (zz_n S) (zz_n B) (zz_n A) (zz_n N) (zz_n Fy) im sy (zz_n sm) (zz_n sn) (zz_n sa) (zz_n so) (zz_n T) (zz_n C) (zz_n Ly) (zz_n rn) ay io (zz_n si) bl) → wY_unload_75 post (nI o) (nI c) cu (nI b) (nI tl) (nI ml) (nI sl) (zz_n S) (zz_n B) (zz_n A) (zz_n N) (zz_n Fy) im sy (zz_n sm) (zz_n sn) (zz_n sa) (zz_n so) (zz_n T) (zz_n C) (zz_n Ly) (zz_n rn) ay io (zz_n si) bl (d + 1) (nI p) := by
  intro d
  induction d with
  | zero =>
    intro p hd k1 k2
    exact br_t (nI_le (a := 8) (by omega) (by omega)) (k2 (fun ⟨q, h1, h2, _⟩ => by omega))
  | succ d ih =>
    intro p hd k1 k2
    have hS5 := hS p (by omega)
    have nx : (¬ (p ≠ o ∧ 3 ≤ S p ∧ ∃ s, s < N p ∧ T (p * 8 + s) = o)) → wY_unload_75 post (nI o) (nI c) cu (nI b) (nI tl) (nI ml) (nI sl) (zz_n S) (zz_n B) (zz_n A) (zz_n N) (zz_n Fy) im sy (zz_n sm) (zz_n sn) (zz_n sa) (zz_n so) (zz_n T) (zz_n C) (zz_n Ly) (zz_n rn) ay io (zz_n si) bl (d + 1) (nI (p + 1)) := by
      intro h
      refine ih (p + 1) (by omega) (fun ⟨q, y1, y2⟩ => k1 ⟨q, by omega, y2⟩) (fun h' => k2 (fun ⟨q, y1, y2, y3, y4, y5⟩ => ?_))
      by_cases e : q = p
      · subst e; exact h ⟨y3, y4, y5⟩
      · exact h' ⟨q, by omega, y2, y3, y4, y5⟩
    refine br_f (nI_ge (b := 8) (by omega) (by decide)) (pk_eq p o (fun e => nm_r (nI_1 p) (nx (fun h => h.1 e))) (fun e => And.intro (vp_in_nI (by omega) (by decide)) ?_))
    rw [zz_rd S p (by omega)]
    refine pk_lt (S p) 3 (fun h => nm_r (nI_1 p) (nx (fun h' => by omega))) (fun h => ?_)
    obtain ⟨hN, hT⟩ := hL p (by omega) h
    refine ⟨N p + 1, zy_98 ho (by omega) hN hT (N p) 0 (by omega) ?_ ?_⟩
    · intro ⟨s, y1, y2, y3⟩
      exact k1 ⟨p, by omega, by omega, e, h, s, y2, y3⟩
    · intro h'
      exact nx (fun ⟨_, _, s, y2, y3⟩ => h' ⟨s, by omega, y2, y3⟩)
theorem zx_u56b {post : Int32 → SX → Prop} {o p : Nat} (ho : o < 8) (hc : c ≤ 6) (hL : ∀ i, i < c → L i < 8 ∧ (i ≠ p → L i ≠ o)) (hM : M o < 6)
    (k : post 0 ((nI tl), (nI ml), (nI sl), cu, (nI b), (nI (c - 1)), (lN g), (zz_n (zz_u S o 2)), (zz_n B), (zz_n A), (zz_n N), im, sy, (zz_n sm), (zz_n sn), (zz_n sa), (zz_n so), (zz_n T), (zz_n C), (zz_n R), (zz_n Q), tp, (zz_n (zz_sh L p c)), (zz_n F), (zz_n M), (upd ow (M o) (-1)), (zz_l G), (zz_n rn), ins, pc, ac, (zz_l D), dt, me)) :
    ∀ d i, i + d = c → p < i → wX_unload_56 post (nI o) (nI tl) (nI ml) (nI sl) cu (nI b) (nI c) (lN g) (d + 1) (nI (i - 1)) (nI i) (zz_n S) (zz_n B) (zz_n A) (zz_n N) im sy (zz_n sm) (zz_n sn) (zz_n sa) (zz_n so) (zz_n T) (zz_n C) (zz_n R) (zz_n Q) tp (zz_n (zz_sh L p i)) (zz_n F) (zz_n M) ow (zz_l G) (zz_n rn) ins pc ac (zz_l D) dt me := by
  have hv : vp_in (nI o) 8 := vp_in_nI ho (by decide)
  intro d
  induction d with
  | zero =>
    intro i hd hi
    obtain rfl : i = c := by omega
    refine br_t (nI_le (by omega) (by omega)) (And.intro hv ?_)
    rw [zz_rd M o (by omega), nI_clamp (n := M o) (by omega)]
    exact And.intro (vp_in_nI hM (by decide)) (nm_e (And.intro hv (nm_r (zz_wr (v := 2) S (by omega)) k)))
  | succ d ih =>
    intro i hd hi
    obtain ⟨l1, l2⟩ := hL i (by omega)
    have hw : vp_in (nI i) 8 := vp_in_nI (by omega) (by decide)
    refine br_f (nI_ge (by omega) (by omega)) (And.intro hw ?_)
    rw [zz_rd (zz_sh L p i) i (by omega), zz_shi]
    refine br_f (zz_en (by omega) (by omega) (l2 (by omega))) (And.intro hw (And.intro (vp_in_nI (by omega) (by decide)) (nm_r (e' := zz_n (zz_sh L p (i + 1))) ?_ (nm_r (e' := nI (i + 1 - 1)) ?_ (nm_r (nI_1 i) (ih (i + 1) (by omega) (by omega)))))))
    · rw [nI_clamp (by omega), zz_w0, zz_shs hi]
    · rw [nI_1]; exact congrArg nI (by omega)
theorem zx_u56a {post : Int32 → SX → Prop} {o p : Nat} (ho : o < 8) (hc : c ≤ 6) (hp : p < c) (hLp : L p = o) (hL : ∀ i, i < c → L i < 8 ∧ (i ≠ p → L i ≠ o)) (hM : M o < 6)
    (k : post 0 ((nI tl), (nI ml), (nI sl), cu, (nI b), (nI (c - 1)), (lN g), (zz_n (zz_u S o 2)), (zz_n B), (zz_n A), (zz_n N), im, sy, (zz_n sm), (zz_n sn), (zz_n sa), (zz_n so), (zz_n T), (zz_n C), (zz_n R), (zz_n Q), tp, (zz_n (zz_sh L p c)), (zz_n F), (zz_n M), (upd ow (M o) (-1)), (zz_l G), (zz_n rn), ins, pc, ac, (zz_l D), dt, me)) :
    ∀ d i, i + d = p → wX_unload_56 post (nI o) (nI tl) (nI ml) (nI sl) cu (nI b) (nI c) (lN g) (d + (c - p) + 1) (nI i) (nI i) (zz_n S) (zz_n B) (zz_n A) (zz_n N) im sy (zz_n sm) (zz_n sn) (zz_n sa) (zz_n so) (zz_n T) (zz_n C) (zz_n R) (zz_n Q) tp (zz_n L) (zz_n F) (zz_n M) ow (zz_l G) (zz_n rn) ins pc ac (zz_l D) dt me := by
  intro d
  induction d with
  | zero =>
    intro i hd
    obtain rfl : i = p := by omega
    refine br_f (nI_ge (by omega) (by omega)) (And.intro (vp_in_nI (by omega) (by decide)) ?_)
    rw [zz_rd L i (by omega), hLp]
    refine br_t rfl (nm_r (nI_1 i) ?_)
    have K := zx_u56b ho hc hL hM k (c - (i + 1)) (i + 1) (by omega) (by omega)
    rw [zz_sh1] at K
    rw [show 0 + (c - i) = c - (i + 1) + 1 by omega]
    exact K
  | succ d ih =>
    intro i hd
    obtain ⟨l1, l2⟩ := hL i (by omega)
    have hw : vp_in (nI i) 8 := vp_in_nI (by omega) (by decide)
    rw [show d + 1 + (c - p) + 1 = (d + (c - p) + 1) + 1 by omega]
    refine br_f (nI_ge (by omega) (by omega)) (And.intro hw ?_)
    rw [zz_rd L i (by omega)]
    refine br_f (zz_en (by omega) (by omega) (l2 (by omega))) (And.intro hw (And.intro hw (nm_r (e' := zz_n L) ?_ (nm_r (nI_1 i) (nm_r (nI_1 i) (ih (i + 1) (by omega)))))))
    rw [nI_clamp (by omega), zz_w0]
    congr 1
    funext j
    by_cases e : j = i
    · subst e; rw [zz_us]
    · rw [zz_un e]
theorem zy_142b {post : Int32 → SY → Prop} {o p : Nat} (ho : o < 8) (hc : c ≤ 6) (hL : ∀ i, i < c → Ly i < 8 ∧ (i ≠ p → Ly i ≠ o))
    (k : post 0 ((nI (c - 1)), cu, (nI b), (nI tl), (nI ml), (nI sl), (zz_n (zz_u S o 2)), (zz_n B), (zz_n A), (zz_n N), (zz_n Fy), im, sy, (zz_n sm), (zz_n sn), (zz_n sa), (zz_n so), (zz_n T), (zz_n C), (zz_n (zz_sh Ly p c)), (zz_n rn), ay, io, (zz_n si), bl)) :
    ∀ d i, i + d = c → p < i → wY_unload_142 post (nI o) (nI c) cu (nI b) (nI tl) (nI ml) (nI sl) (d + 1) (nI (i - 1)) (nI i) (zz_n S) (zz_n B) (zz_n A) (zz_n N) (zz_n Fy) im sy (zz_n sm) (zz_n sn) (zz_n sa) (zz_n so) (zz_n T) (zz_n C) (zz_n (zz_sh Ly p i)) (zz_n rn) ay io (zz_n si) bl := by
  have hv : vp_in (nI o) 8 := vp_in_nI ho (by decide)
  intro d
  induction d with
  | zero =>
    intro i hd hi
    obtain rfl : i = c := by omega
    exact br_t (nI_le (by omega) (by omega)) (And.intro hv (nm_r (zz_wr (v := 2) S (by omega)) k))
  | succ d ih =>
    intro i hd hi
    obtain ⟨l1, l2⟩ := hL i (by omega)
    have hw : vp_in (nI i) 8 := vp_in_nI (by omega) (by decide)
    refine br_f (nI_ge (by omega) (by omega)) (And.intro hw ?_)
    rw [zz_rd (zz_sh Ly p i) i (by omega), zz_shi]
    refine br_f (zz_en (by omega) (by omega) (l2 (by omega))) (And.intro hw (And.intro (vp_in_nI (by omega) (by decide)) (nm_r (e' := zz_n (zz_sh Ly p (i + 1))) ?_ (nm_r (e' := nI (i + 1 - 1)) ?_ (nm_r (nI_1 i) (ih (i + 1) (by omega) (by omega)))))))
    · rw [nI_clamp (by omega), zz_w0, zz_shs hi]
    · rw [nI_1]; exact congrArg nI (by omega)
theorem zy_142a {post : Int32 → SY → Prop} {o p : Nat} (ho : o < 8) (hc : c ≤ 6) (hp : p < c) (hLp : Ly p = o) (hL : ∀ i, i < c → Ly i < 8 ∧ (i ≠ p → Ly i ≠ o))
    (k : post 0 ((nI (c - 1)), cu, (nI b), (nI tl), (nI ml), (nI sl), (zz_n (zz_u S o 2)), (zz_n B), (zz_n A), (zz_n N), (zz_n Fy), im, sy, (zz_n sm), (zz_n sn), (zz_n sa), (zz_n so), (zz_n T), (zz_n C), (zz_n (zz_sh Ly p c)), (zz_n rn), ay, io, (zz_n si), bl)) :
    ∀ d i, i + d = p → wY_unload_142 post (nI o) (nI c) cu (nI b) (nI tl) (nI ml) (nI sl) (d + (c - p) + 1) (nI i) (nI i) (zz_n S) (zz_n B) (zz_n A) (zz_n N) (zz_n Fy) im sy (zz_n sm) (zz_n sn) (zz_n sa) (zz_n so) (zz_n T) (zz_n C) (zz_n Ly) (zz_n rn) ay io (zz_n si) bl := by
  intro d
  induction d with
  | zero =>
    intro i hd
    obtain rfl : i = p := by omega
    refine br_f (nI_ge (by omega) (by omega)) (And.intro (vp_in_nI (by omega) (by decide)) ?_)
    rw [zz_rd Ly i (by omega), hLp]
    refine br_t rfl (nm_r (nI_1 i) ?_)
    have K := zy_142b ho hc hL k (c - (i + 1)) (i + 1) (by omega) (by omega)
    rw [zz_sh1] at K
    rw [show 0 + (c - i) = c - (i + 1) + 1 by omega]
    exact K
  | succ d ih =>
    intro i hd
    obtain ⟨l1, l2⟩ := hL i (by omega)
    have hw : vp_in (nI i) 8 := vp_in_nI (by omega) (by decide)
    rw [show d + 1 + (c - p) + 1 = (d + (c - p) + 1) + 1 by omega]
    refine br_f (nI_ge (by omega) (by omega)) (And.intro hw ?_)
    rw [zz_rd Ly i (by omega)]
    refine br_f (zz_en (by omega) (by omega) (l2 (by omega))) (And.intro hw (And.intro hw (nm_r (e' := zz_n Ly) ?_ (nm_r (nI_1 i) (nm_r (nI_1 i) (ih (i + 1) (by omega)))))))
    rw [nI_clamp (by omega), zz_w0]
    congr 1
    funext j
    by_cases e : j = i
    · subst e; rw [zz_us]
    · rw [zz_un e]
theorem zq_unl {o k : Nat} (ho : o < 8) (hl : S o = 3 ∨ S o = 4) (h1 : zz_B tl ml sl b c g k rn) (h2 : zz_N cu S B A N sm sn sa so im sy) (h3 : zz_Z b c g S B N sm T C R Q L F M G rn D Fy Ly si im tp ow ins pc ac dt me ay io bl) :
    ∃ (r : Int32) (u' : SX) (v' : SY), i_Rel k u' v' ∧ (∀ post : Int32 → SX → Prop, post r u' → wX_unload_33 post (nI o) (nI tl) (nI ml) (nI sl) cu (nI b) (nI c) (lN g) (zz_n S) (zz_n B) (zz_n A) (zz_n N) im sy (zz_n sm) (zz_n sn) (zz_n sa) (zz_n so) (zz_n T) (zz_n C) (zz_n R) (zz_n Q) tp (zz_n L) (zz_n F) (zz_n M) ow (zz_l G) (zz_n rn) ins pc ac (zz_l D) dt me) ∧ (∀ post : Int32 → SY → Prop, post r v' → wY_unload_37 post (nI o) (nI c) cu (nI b) (nI tl) (nI ml) (nI sl) (zz_n S) (zz_n B) (zz_n A) (zz_n N) (zz_n Fy) im sy (zz_n sm) (zz_n sn) (zz_n sa) (zz_n so) (zz_n T) (zz_n C) (zz_n Ly) (zz_n rn) ay io (zz_n si) bl (tl + 1) 0) := by
  have htl := h1.2.1
  have hc : c ≤ 6 := by unfold zz_B at h1; omega
  have J : i_Rel k ((nI tl), (nI ml), (nI sl), cu, (nI b), (nI c), (lN g), (zz_n S), (zz_n B), (zz_n A), (zz_n N), im, sy, (zz_n sm), (zz_n sn), (zz_n sa), (zz_n so), (zz_n T), (zz_n C), (zz_n R), (zz_n Q), tp, (zz_n L), (zz_n F), (zz_n M), ow, (zz_l G), (zz_n rn), ins, pc, ac, (zz_l D), dt, me) ((nI c), cu, (nI b), (nI tl), (nI ml), (nI sl), (zz_n S), (zz_n B), (zz_n A), (zz_n N), (zz_n Fy), im, sy, (zz_n sm), (zz_n sn), (zz_n sa), (zz_n so), (zz_n T), (zz_n C), (zz_n Ly), (zz_n rn), ay, io, (zz_n si), bl) := zz_mk h1 h2 h3
  have hRT : ∀ p, p < 8 → 3 ≤ S p → N p ≤ 8 ∧ ∀ s, s < N p → T (p * 8 + s) < 8 := fun p hp h => ⟨(h2.1 p hp).2.2.2.1, fun s hs => (h3.2.1 p hp h s hs).1⟩
  have hLx : ∀ i, i < c → L i < 8 ∧ N (L i) ≤ 8 ∧ ∀ s, s < N (L i) → T (L i * 8 + s) < 8 := fun i hi => ⟨(h3.1.1 i hi).1, hRT _ (h3.1.1 i hi).1 (h3.1.1 i hi).2.1⟩
  rcases zq_occ (tl := tl) (ml := ml) (sl := sl) (b := b) (c := c) (g := g) (cu := cu) (S := S) (B := B) (A := A) (N := N) (sm := sm) (sn := sn) (sa := sa) (so := so) (T := T) (C := C) (R := R) (Q := Q) (L := L) (F := F) (M := M) (G := G) (rn := rn) (D := D) (im := im) (sy := sy) (tp := tp) (ow := ow) (ins := ins) (pc := pc) (ac := ac) (dt := dt) (me := me) (Fy := Fy) (Ly := Ly) (si := si) (ay := ay) (io := io) (bl := bl) ho htl h3 tl 0 (by omega) with ⟨kX, kY⟩ | ⟨f, kX, kY⟩
  · exact ⟨-8, _, _, J, fun post h => ⟨tl + 1, kX _ (br_f zz_10 h)⟩, fun post h => kY _ h⟩
  · by_cases href : ∃ q, 0 ≤ q ∧ q < 8 ∧ q ≠ o ∧ 3 ≤ S q ∧ ∃ s, s < N q ∧ T (q * 8 + s) = o
    · refine ⟨-8, _, _, J, fun post h => ⟨tl + 1, kX _ (br_t rfl ?_)⟩, fun post h => kY _ ⟨9, ?_⟩⟩
      · refine ⟨c + 1, zx_ref2 ho hc hLx c 0 (by omega) (fun _ => br_f zz_10 h) (fun hn => ?_)⟩
        obtain ⟨q, _, y2, y3, y4, s, y5, y6⟩ := href
        obtain ⟨i, hi, hLi⟩ := h3.1.2.2.1 q y2 y4
        subst hLi
        exact absurd ⟨i, by omega, hi, y3, s, y5, y6⟩ hn
      · exact zy_75 ho (fun p hp => (h2.1 p hp).1) hRT 8 0 (by omega) (fun _ => h) (fun hn => absurd href hn)
    · obtain ⟨p, hp, hLp⟩ := h3.1.2.2.1 o ho (by omega)
      have hLn : ∀ i, i < c → L i < 8 ∧ (i ≠ p → L i ≠ o) := fun i hi => ⟨(h3.1.1 i hi).1, fun hn e => hn (h3.1.2.1 i p hi hp (by rw [e, hLp]))⟩
      have hLny : ∀ i, i < c → Ly i < 8 ∧ (i ≠ p → Ly i ≠ o) := fun i hi => by rw [(h3.1.1 i hi).2.2]; exact hLn i hi
      have hLpy : Ly p = o := by rw [(h3.1.1 p hp).2.2]; exact hLp
      have hM := (h3.2.2.1.1 o ho (by omega)).1
      have hocc : ∀ t, t < 4 → rn t = 1 → ins t ≠ nI o := by
        intro t ht hr
        by_cases e : t < tl
        · exact f t (by omega) e hr
        · have hw : zz_W tl rn := h1.2.2.2.2.2.2.2.2.2
          have := hw t (by omega) ht
          omega
      have P := zp_unl ho (by omega) (by omega) hp hLp hocc (fun q hq hn h3' s hs e => href ⟨q, by omega, hq, hn, h3', s, hs, e⟩) h3
      have PN := zp_unN ho hl h2
      have PB : zz_B tl ml sl b (c - 1) g k rn := by
        obtain ⟨a1, a2, a3, a4, a5, a6, a7, a8, a9, a10⟩ := h1
        exact ⟨a1, a2, a3, a4, a5, a6, by omega, a8, a9, a10⟩
      refine ⟨0, _, _, zz_mk PB PN P, fun post h => ⟨tl + 1, kX _ (br_t rfl ?_)⟩, fun post h => kY _ ⟨9, ?_⟩⟩
      · refine ⟨c + 1, zx_ref2 ho hc hLx c 0 (by omega) (fun ⟨i, _, y2, y3, s, y4, y5⟩ => ?_) (fun _ => br_t rfl ⟨p + (c - p) + 1, ?_⟩)⟩
        · exact absurd ⟨L i, by omega, (hLx i y2).1, y3, (h3.1.1 i y2).2.1, s, y4, y5⟩ href
        · exact zx_u56a ho hc hp hLp hLn hM h p 0 (by omega)
      · exact zy_75 ho (fun p hp => (h2.1 p hp).1) hRT 8 0 (by omega) (fun h' => absurd h' href) (fun _ => ⟨p + (c - p) + 1, zy_142a ho hc hp hLpy hLny h p 0 (by omega)⟩)
theorem i_vc_unload {k : Nat} {u : SX} {v : SY} (I : i_Rel k u v) (hk : k + 5 ≤ 2563) (v1 : Int32) : wpX_unload (fun r u' => wpY_unload (fun r' v' => r' = r ∧ i_Rel (k + 5) u' v') v v1) u v1 := by
  refine zz_el (P := fun u v => wpX_unload (fun r u' => wpY_unload (fun r' v' => r' = r ∧ i_Rel (k + 5) u' v') v v1) u v1) ?_ I
  intro tl ml sl b c g cu S B A N sm sn sa so T C R Q L F M G rn D Fy Ly si im sy tp ow ins pc ac dt me ay io bl h1 h2 h3
  have J : i_Rel (k + 5) ((nI tl), (nI ml), (nI sl), cu, (nI b), (nI c), (lN g), (zz_n S), (zz_n B), (zz_n A), (zz_n N), im, sy, (zz_n sm), (zz_n sn), (zz_n sa), (zz_n so), (zz_n T), (zz_n C), (zz_n R), (zz_n Q), tp, (zz_n L), (zz_n F), (zz_n M), ow, (zz_l G), (zz_n rn), ins, pc, ac, (zz_l D), dt, me) ((nI c), cu, (nI b), (nI tl), (nI ml), (nI sl), (zz_n S), (zz_n B), (zz_n A), (zz_n N), (zz_n Fy), im, sy, (zz_n sm), (zz_n sn), (zz_n sa), (zz_n so), (zz_n T), (zz_n C), (zz_n Ly), (zz_n rn), ay, io, (zz_n si), bl) := zz_mk (zz_Bk h1 (by omega)) h2 h3
  unfold wpX_unload
  rcases pk_ix v1 (n := 8) (by decide) with h | h | ⟨o, ho, rfl⟩
  · exact zx_obj0 (Or.inl h) (br_t rfl (br_t h ⟨rfl, J⟩))
  · exact zx_obj0 (Or.inr h) (br_t rfl (br_f (zz_ge0 (n := 8) (by decide) h) (br_f (zz_gt (n := 7) (by decide) h).2.1 ⟨rfl, J⟩)))
  · refine zx_obj1 ho (br_f zz_10 ?_)
    have hp : ¬ nI o < 0 := nI_pos (by omega)
    have hv : vp_in (nI o) 8 := vp_in_nI ho (by decide)
    have hS5 := (h2.1 o ho).1
    have es : zz_n S (nI o).toNatClampNeg = nI (S o) := zz_rd S o (by omega)
    by_cases e3 : S o = 3
    · have e3' : zz_n S (nI o).toNatClampNeg = 3 := by rw [es, e3]; rfl
      obtain ⟨r, u', v', Jr, hX, hY⟩ := zq_unl ho (Or.inl e3) (zz_Bk (k' := k + 5) h1 (by omega)) h2 h3
      exact And.intro hv (br_t e3' (hX _ (br_f hp (br_t (zz_le7 ho) (And.intro hv (br_t e3' ⟨tl + 1, hY _ ⟨rfl, Jr⟩⟩))))))
    · have e3' : ¬ zz_n S (nI o).toNatClampNeg = 3 := by rw [es]; exact zz_en (n := 3) (by omega) (by decide) e3
      by_cases e4 : S o = 4
      · have e4' : zz_n S (nI o).toNatClampNeg = 4 := by rw [es, e4]; rfl
        obtain ⟨r, u', v', Jr, hX, hY⟩ := zq_unl ho (Or.inr e4) (zz_Bk (k' := k + 5) h1 (by omega)) h2 h3
        exact And.intro hv (br_f e3' (And.intro hv (br_t e4' (hX _ (br_f hp (br_t (zz_le7 ho) (And.intro hv (br_f e3' (And.intro hv (br_t e4' ⟨tl + 1, hY _ ⟨rfl, Jr⟩⟩))))))))))
      · have e4' : ¬ zz_n S (nI o).toNatClampNeg = 4 := by rw [es]; exact zz_en (n := 4) (by omega) (by decide) e4
        exact And.intro hv (br_f e3' (And.intro hv (br_f e4' (br_f hp (br_t (zz_le7 ho) (And.intro hv (br_f e3' (And.intro hv (br_f e4' ⟨rfl, J⟩)))))))))
end ZUN
end
section
section ZBD
/-! binding: both sides in lockstep -/
variable {tl ml sl b c g : Nat} {cu : Int32} {S B A N sm sn sa so T C R Q L F M G rn D Fy Ly si : Nat → Nat} {im sy tp ow ins pc ac dt me ay io bl : Nat → Int32}
/-- what a bound site knows -/
def zz_ok (len : Nat) (S B L sm sn T C : Nat → Nat) (sy : Nat → Int32) (o j : Nat) : Prop := T j < 8 ∧ ((∃ i, i < len ∧ L i = T j) ∨ T j = o) ∧ C j < B (T j) ∧ (sm j = 1 → T j = o) ∧ (sm j = 2 → T j = o ∨ S (T j) ≠ 3) ∧ (sm j = 3 → 0 < len → sy (L 0 * 8 + sn j) ≠ -1 → T j = L 0)
theorem zq_find {len nm j : Nat} {x1 : Int32} (hlen : len ≤ 8) (hL : ∀ i, i < len → L i < 8 ∧ Ly i = L i) (hY : zz_Y sy) (hj : j < 64) (hnm : sn j = nm) (hn8 : nm < 8) : ∀ d i, i + d = len →
    (∃ i' p, i ≤ i' ∧ i' < len ∧ p < 8 ∧ sy (L i' * 8 + nm) = nI p ∧ (∀ i'', i ≤ i'' → i'' < i' → sy (L i'' * 8 + nm) = -1) ∧ (∀ post : Int32 → Prop, post (nI (L i')) → wX_findDefiner_2 post (nI nm) (nI len) (nI tl) (nI ml) (nI sl) cu (nI b) (nI c) (lN g) (zz_n S) (zz_n B) (zz_n A) (zz_n N) im sy (zz_n sm) (zz_n sn) (zz_n sa) (zz_n so) (zz_n T) (zz_n C) (zz_n R) (zz_n Q) tp (zz_n L) (zz_n F) (zz_n M) ow (zz_l G) (zz_n rn) ins pc ac (zz_l D) dt me (d + 1) (nI i)) ∧ (∀ (postY : Int32 → SY → Prop) (J5 : Int32 → (Nat → Int32) → (Nat → Int32) → (Nat → Int32) → (Nat → Int32) → (Nat → Int32) → (Nat → Int32) → (Nat → Int32) → (Nat → Int32) → (Nat → Int32) → (Nat → Int32) → (Nat → Int32) → (Nat → Int32) → (Nat → Int32) → (Nat → Int32) → (Nat → Int32) → (Nat → Int32) → (Nat → Int32) → (Nat → Int32) → (Nat → Int32) → Prop), wY_bind_91 postY J5 x1 (nI len) (nI j) (nI (L i')) (nI c) cu (nI b) (nI tl) (nI ml) (nI sl) (zz_n S) (zz_n B) (zz_n A) (zz_n N) (zz_n Fy) im sy (zz_n sm) (zz_n sn) (zz_n sa) (zz_n so) (zz_n T) (zz_n C) (zz_n Ly) (zz_n rn) ay io (zz_n si) bl → wY_bind_40 postY J5 x1 (nI len) (nI j) (nI c) cu (nI b) (nI tl) (nI ml) (nI sl) (zz_n S) (zz_n B) (zz_n A) (zz_n N) (zz_n Fy) im sy (zz_n sm) (zz_n sn) (zz_n sa) (zz_n so) (zz_n T) (zz_n C) (zz_n Ly) (zz_n rn) ay io (zz_n si) bl (d + 2) (-1) (nI i)))
    ∨ ((∀ post : Int32 → Prop, post (-1) → wX_findDefiner_2 post (nI nm) (nI len) (nI tl) (nI ml) (nI sl) cu (nI b) (nI c) (lN g) (zz_n S) (zz_n B) (zz_n A) (zz_n N) im sy (zz_n sm) (zz_n sn) (zz_n sa) (zz_n so) (zz_n T) (zz_n C) (zz_n R) (zz_n Q) tp (zz_n L) (zz_n F) (zz_n M) ow (zz_l G) (zz_n rn) ins pc ac (zz_l D) dt me (d + 1) (nI i)) ∧ (∀ (postY : Int32 → SY → Prop) (J5 : Int32 → (Nat → Int32) → (Nat → Int32) → (Nat → Int32) → (Nat → Int32) → (Nat → Int32) → (Nat → Int32) → (Nat → Int32) → (Nat → Int32) → (Nat → Int32) → (Nat → Int32) → (Nat → Int32) → (Nat → Int32) → (Nat → Int32) → (Nat → Int32) → (Nat → Int32) → (Nat → Int32) → (Nat → Int32) → (Nat → Int32) → (Nat → Int32) → Prop), wY_bind_91 postY J5 x1 (nI len) (nI j) (-1) (nI c) cu (nI b) (nI tl) (nI ml) (nI sl) (zz_n S) (zz_n B) (zz_n A) (zz_n N) (zz_n Fy) im sy (zz_n sm) (zz_n sn) (zz_n sa) (zz_n so) (zz_n T) (zz_n C) (zz_n Ly) (zz_n rn) ay io (zz_n si) bl → wY_bind_40 postY J5 x1 (nI len) (nI j) (nI c) cu (nI b) (nI tl) (nI ml) (nI sl) (zz_n S) (zz_n B) (zz_n A) (zz_n N) (zz_n Fy) im sy (zz_n sm) (zz_n sn) (zz_n sa) (zz_n so) (zz_n T) (zz_n C) (zz_n Ly) (zz_n rn) ay io (zz_n si) bl (d + 2) (-1) (nI i))) := by
  intro d
  induction d with
  | zero =>
    intro i hd
    have hge : nI len ≤ nI i := nI_le (by omega) (by omega)
    exact Or.inr ⟨fun post h => br_t hge h, fun postY J5 h => br_t hge h⟩
  | succ d ih =>
    intro i hd
    have hge : ¬ nI len ≤ nI i := nI_ge (by omega) (by omega)
    obtain ⟨l1, l2⟩ := hL i (by omega)
    have hv : vp_in (nI i) 8 := vp_in_nI (by omega) (by decide)
    have hw : vp_in (nI j) 64 := vp_in_nI hj (by decide)
    have eX : zz_n L (nI i).toNatClampNeg * 8 + nI nm = nI (L i * 8 + nm) := by rw [zz_rd L i (by omega), zz_ix]
    have eY : zz_n Ly (nI i).toNatClampNeg * 8 + zz_n sn (nI j).toNatClampNeg = nI (L i * 8 + nm) := by rw [zz_rd Ly i (by omega), zz_rd sn j (by omega), l2, hnm, zz_ix]
    have hx : vp_in (nI (L i * 8 + nm)) 64 := vp_in_nI (by omega) (by decide)
    have ec : sy (nI (L i * 8 + nm)).toNatClampNeg = sy (L i * 8 + nm) := zz_ra sy (L i * 8 + nm) (by omega)
    have eLi : zz_n L (nI i).toNatClampNeg = nI (L i) := zz_rd L i (by omega)
    have eLy : zz_n Ly (nI i).toNatClampNeg = nI (L i) := by rw [zz_rd Ly i (by omega), l2]
    rcases hY (L i * 8 + nm) (by omega) with e | ⟨p, hp, e⟩
    · have sX : ∀ post : Int32 → Prop, wX_findDefiner_2 post (nI nm) (nI len) (nI tl) (nI ml) (nI sl) cu (nI b) (nI c) (lN g) (zz_n S) (zz_n B) (zz_n A) (zz_n N) im sy (zz_n sm) (zz_n sn) (zz_n sa) (zz_n so) (zz_n T) (zz_n C) (zz_n R) (zz_n Q) tp (zz_n L) (zz_n F) (zz_n M) ow (zz_l G) (zz_n rn) ins pc ac (zz_l D) dt me (d + 1) (nI (i + 1)) → wX_findDefiner_2 post (nI nm) (nI len) (nI tl) (nI ml) (nI sl) cu (nI b) (nI c) (lN g) (zz_n S) (zz_n B) (zz_n A) (zz_n N) im sy (zz_n sm) (zz_n sn) (zz_n sa) (zz_n so) (zz_n T) (zz_n C) (zz_n R) (zz_n Q) tp (zz_n L) (zz_n F) (zz_n M) ow (zz_l G) (zz_n rn) ins pc ac (zz_l D) dt me (d + 1 + 1) (nI i) := by
        intro post h
        refine br_f hge (And.intro hv ?_)
        rw [eX, ec, e]
        exact And.intro hx (br_t zz_n1l (nm_r (nI_1 i) h))
      have sY : ∀ (postY : Int32 → SY → Prop) (J5 : Int32 → (Nat → Int32) → (Nat → Int32) → (Nat → Int32) → (Nat → Int32) → (Nat → Int32) → (Nat → Int32) → (Nat → Int32) → (Nat → Int32) → (Nat → Int32) → (Nat → Int32) → (Nat → Int32) → (Nat → Int32) → (Nat → Int32) → (Nat → Int32) → (Nat → Int32) → (Nat → Int32) → (Nat → Int32) → (Nat → Int32) → (Nat → Int32) → Prop), wY_bind_40 postY J5 x1 (nI len) (nI j) (nI c) cu (nI b) (nI tl) (nI ml) (nI sl) (zz_n S) (zz_n B) (zz_n A) (zz_n N) (zz_n Fy) im sy (zz_n sm) (zz_n sn) (zz_n sa) (zz_n so) (zz_n T) (zz_n C) (zz_n Ly) (zz_n rn) ay io (zz_n si) bl (d + 2) (-1) (nI (i + 1)) → wY_bind_40 postY J5 x1 (nI len) (nI j) (nI c) cu (nI b) (nI tl) (nI ml) (nI sl) (zz_n S) (zz_n B) (zz_n A) (zz_n N) (zz_n Fy) im sy (zz_n sm) (zz_n sn) (zz_n sa) (zz_n so) (zz_n T) (zz_n C) (zz_n Ly) (zz_n rn) ay io (zz_n si) bl (d + 1 + 2) (-1) (nI i) := by
        intro postY J5 h
        refine br_f hge (br_f zz_n1g (And.intro hv (And.intro hw ?_)))
        rw [eY, ec, e]
        exact And.intro hx (br_t zz_n1l (nm_r (nI_1 i) h))
      rcases ih (i + 1) (by omega) with ⟨i', p, y1, y2, y3, y4, y5, kX, kY⟩ | ⟨kX, kY⟩
      · refine Or.inl ⟨i', p, by omega, y2, y3, y4, fun i'' z1 z2 => ?_, fun post h => sX post (kX post h), fun postY J5 h => sY postY J5 (kY postY J5 h)⟩
        by_cases q : i'' = i
        · subst q; exact e
        · exact y5 i'' (by omega) z2
      · exact Or.inr ⟨fun post h => sX post (kX post h), fun postY J5 h => sY postY J5 (kY postY J5 h)⟩
    · have hng : ¬ nI p < 0 := nI_pos (by omega)
      refine Or.inl ⟨i, p, by omega, by omega, hp, e, fun i'' z1 z2 => by omega, fun post h => ?_, fun postY J5 h => ?_⟩
      · refine br_f hge (And.intro hv ?_)
        rw [eX, ec, e, eLi]
        exact And.intro hx (br_f hng (And.intro hv h))
      · refine br_f hge (br_f zz_n1g (And.intro hv (And.intro hw ?_)))
        rw [eY, ec, e]
        refine And.intro hx (br_f hng (And.intro hv (nm_r eLy (nm_r (nI_1 i) ?_))))
        exact br_c (fun _ => h) (fun _ => br_t (nI_pos' (by omega)) h)
theorem zq_30 {o j t p : Nat} (ho : o < 8) (hj : j < 64) (ht : t < 8) (hp : p < 8) (hsy : sy (t * 8 + sn j) = nI p) (hO : zz_O S B A N im) (hT : zz_T sm sn sa so) :
    (∃ code : Int32, code ≠ 0 ∧ (∀ post : Int32 → SX → Prop, post code ((nI tl), (nI ml), (nI sl), cu, (nI b), (nI c), (lN g), (zz_n S), (zz_n B), (zz_n A), (zz_n N), im, sy, (zz_n sm), (zz_n sn), (zz_n sa), (zz_n so), (zz_n T), (zz_n C), (zz_n R), (zz_n Q), tp, (zz_n L), (zz_n F), (zz_n M), ow, (zz_l G), (zz_n rn), ins, pc, ac, (zz_l D), dt, me) → wX_bindSite_30 post (nI o) (nI j) (nI (sn j)) (nI t) (nI tl) (nI ml) (nI sl) cu (nI b) (nI c) (lN g) (zz_n S) (zz_n B) (zz_n A) (zz_n N) im sy (zz_n sm) (zz_n sn) (zz_n sa) (zz_n so) (zz_n T) (zz_n C) (zz_n R) (zz_n Q) tp (zz_n L) (zz_n F) (zz_n M) ow (zz_l G) (zz_n rn) ins pc ac (zz_l D) dt me) ∧ (∀ (postY : Int32 → SY → Prop) (J5 : Int32 → (Nat → Int32) → (Nat → Int32) → (Nat → Int32) → (Nat → Int32) → (Nat → Int32) → (Nat → Int32) → (Nat → Int32) → (Nat → Int32) → (Nat → Int32) → (Nat → Int32) → (Nat → Int32) → (Nat → Int32) → (Nat → Int32) → (Nat → Int32) → (Nat → Int32) → (Nat → Int32) → (Nat → Int32) → (Nat → Int32) → (Nat → Int32) → Prop) (x2 : Int32), postY code ((nI c), cu, (nI b), (nI tl), (nI ml), (nI sl), (zz_n S), (zz_n B), (zz_n A), (zz_n N), (zz_n Fy), im, sy, (zz_n sm), (zz_n sn), (zz_n sa), (zz_n so), (zz_n T), (zz_n C), (zz_n Ly), (zz_n rn), ay, io, (zz_n si), bl) → wY_bind_91 postY J5 (nI o) x2 (nI j) (nI t) (nI c) cu (nI b) (nI tl) (nI ml) (nI sl) (zz_n S) (zz_n B) (zz_n A) (zz_n N) (zz_n Fy) im sy (zz_n sm) (zz_n sn) (zz_n sa) (zz_n so) (zz_n T) (zz_n C) (zz_n Ly) (zz_n rn) ay io (zz_n si) bl))
    ∨ (p + sa j < B t ∧ (sm j = 2 → t = o ∨ S t ≠ 3) ∧ (∀ post : Int32 → SX → Prop, post 0 ((nI tl), (nI ml), (nI sl), cu, (nI b), (nI c), (lN g), (zz_n S), (zz_n B), (zz_n A), (zz_n N), im, sy, (zz_n sm), (zz_n sn), (zz_n sa), (zz_n so), (zz_n (zz_u T j t)), (zz_n (zz_u C j (p + sa j))), (zz_n R), (zz_n Q), tp, (zz_n L), (zz_n F), (zz_n M), ow, (zz_l G), (zz_n rn), ins, pc, ac, (zz_l D), dt, me) → wX_bindSite_30 post (nI o) (nI j) (nI (sn j)) (nI t) (nI tl) (nI ml) (nI sl) cu (nI b) (nI c) (lN g) (zz_n S) (zz_n B) (zz_n A) (zz_n N) im sy (zz_n sm) (zz_n sn) (zz_n sa) (zz_n so) (zz_n T) (zz_n C) (zz_n R) (zz_n Q) tp (zz_n L) (zz_n F) (zz_n M) ow (zz_l G) (zz_n rn) ins pc ac (zz_l D) dt me) ∧ (∀ (postY : Int32 → SY → Prop) (J5 : Int32 → (Nat → Int32) → (Nat → Int32) → (Nat → Int32) → (Nat → Int32) → (Nat → Int32) → (Nat → Int32) → (Nat → Int32) → (Nat → Int32) → (Nat → Int32) → (Nat → Int32) → (Nat → Int32) → (Nat → Int32) → (Nat → Int32) → (Nat → Int32) → (Nat → Int32) → (Nat → Int32) → (Nat → Int32) → (Nat → Int32) → (Nat → Int32) → Prop) (x2 : Int32), J5 (nI (j + 1)) (zz_n S) (zz_n B) (zz_n A) (zz_n N) (zz_n Fy) im sy (zz_n sm) (zz_n sn) (zz_n sa) (zz_n so) (zz_n (zz_u T j t)) (zz_n (zz_u C j (p + sa j))) (zz_n Ly) (zz_n rn) ay io (zz_n si) bl → wY_bind_91 postY J5 (nI o) x2 (nI j) (nI t) (nI c) cu (nI b) (nI tl) (nI ml) (nI sl) (zz_n S) (zz_n B) (zz_n A) (zz_n N) (zz_n Fy) im sy (zz_n sm) (zz_n sn) (zz_n sa) (zz_n so) (zz_n T) (zz_n C) (zz_n Ly) (zz_n rn) ay io (zz_n si) bl)) := by
  obtain ⟨t1, t2, t3, t4⟩ := hT j hj
  have hS5 := (hO t ht).1
  have hB8 := (hO t ht).2.1
  have h0 : 0 ≤ nI t := nI_pos' (by omega)
  have hw : vp_in (nI j) 64 := vp_in_nI hj (by decide)
  have hv : vp_in (nI t) 8 := vp_in_nI ht (by decide)
  have em : zz_n sm (nI j).toNatClampNeg = nI (sm j) := zz_rd sm j (by omega)
  have es : zz_n S (nI t).toNatClampNeg = nI (S t) := zz_rd S t (by omega)
  have en : zz_n sn (nI j).toNatClampNeg = nI (sn j) := zz_rd sn j (by omega)
  have hx : vp_in (nI t * 8 + nI (sn j)) 64 := by rw [zz_ix]; exact vp_in_nI (by omega) (by decide)
  have hx' : vp_in (nI t * 8 + zz_n sn (nI j).toNatClampNeg) 64 := by rw [en]; exact hx
  have ea : sy (nI t * 8 + nI (sn j)).toNatClampNeg + zz_n sa (nI j).toNatClampNeg = nI (p + sa j) := by
    rw [zz_ix, nI_clamp (by omega), hsy, zz_rd sa j (by omega), nI_add]
  have ea' : sy (nI t * 8 + zz_n sn (nI j).toNatClampNeg).toNatClampNeg + zz_n sa (nI j).toNatClampNeg = nI (p + sa j) := by rw [en, ea]
  have eB : zz_n B (nI t).toNatClampNeg = nI (B t) := zz_rd B t (by omega)
  by_cases bad : sm j = 2 ∧ t ≠ o ∧ S t = 3
  · obtain ⟨b1, b2, b3⟩ := bad
    have c1 : zz_n sm (nI j).toNatClampNeg = 2 := by rw [em, b1]; rfl
    have c2 : ¬ nI t = nI o := zz_en (by omega) (by omega) b2
    have c3 : zz_n S (nI t).toNatClampNeg = 3 := by rw [es, b3]; rfl
    exact Or.inl ⟨-5, by decide, fun post h => br_t h0 (And.intro hw (br_t c1 (br_f c2 (And.intro hv (br_t c3 h))))), fun postY J5 x2 h => br_t h0 (And.intro hw (br_t c1 (br_f c2 (And.intro hv (br_t c3 h)))))⟩
  · have gX : ∀ post : Int32 → SX → Prop, wX_bindSite_68 post (nI j) (nI (sn j)) (nI t) (nI tl) (nI ml) (nI sl) cu (nI b) (nI c) (lN g) (zz_n S) (zz_n B) (zz_n A) (zz_n N) im sy (zz_n sm) (zz_n sn) (zz_n sa) (zz_n so) (zz_n T) (zz_n C) (zz_n R) (zz_n Q) tp (zz_n L) (zz_n F) (zz_n M) ow (zz_l G) (zz_n rn) ins pc ac (zz_l D) dt me → wX_bindSite_30 post (nI o) (nI j) (nI (sn j)) (nI t) (nI tl) (nI ml) (nI sl) cu (nI b) (nI c) (lN g) (zz_n S) (zz_n B) (zz_n A) (zz_n N) im sy (zz_n sm) (zz_n sn) (zz_n sa) (zz_n so) (zz_n T) (zz_n C) (zz_n R) (zz_n Q) tp (zz_n L) (zz_n F) (zz_n M) ow (zz_l G) (zz_n rn) ins pc ac (zz_l D) dt me := by
      intro post h
      refine br_t h0 (And.intro hw (br_c (fun z1 => br_c (fun _ => h) (fun z2 => And.intro hv (br_c (fun z3 => ?_) (fun _ => h)))) (fun _ => h)))
      rw [em] at z1
      rw [es] at z3
      exact absurd ⟨zz_inj (n := 2) z1 (by omega) (by decide), fun e => z2 (by rw [e]), zz_inj (n := 3) z3 (by omega) (by decide)⟩ bad
    have gY : ∀ (postY : Int32 → SY → Prop) (J5 : Int32 → (Nat → Int32) → (Nat → Int32) → (Nat → Int32) → (Nat → Int32) → (Nat → Int32) → (Nat → Int32) → (Nat → Int32) → (Nat → Int32) → (Nat → Int32) → (Nat → Int32) → (Nat → Int32) → (Nat → Int32) → (Nat → Int32) → (Nat → Int32) → (Nat → Int32) → (Nat → Int32) → (Nat → Int32) → (Nat → Int32) → (Nat → Int32) → Prop) (x2 : Int32), wY_bind_129 postY J5 (nI o) x2 (nI j) (nI t) (nI c) cu (nI b) (nI tl) (nI ml) (nI sl) (zz_n S) (zz_n B) (zz_n A) (zz_n N) (zz_n Fy) im sy (zz_n sm) (zz_n sn) (zz_n sa) (zz_n so) (zz_n T) (zz_n C) (zz_n Ly) (zz_n rn) ay io (zz_n si) bl → wY_bind_91 postY J5 (nI o) x2 (nI j) (nI t) (nI c) cu (nI b) (nI tl) (nI ml) (nI sl) (zz_n S) (zz_n B) (zz_n A) (zz_n N) (zz_n Fy) im sy (zz_n sm) (zz_n sn) (zz_n sa) (zz_n so) (zz_n T) (zz_n C) (zz_n Ly) (zz_n rn) ay io (zz_n si) bl := by
      intro postY J5 x2 h
      refine br_t h0 (And.intro hw (br_c (fun z1 => br_c (fun _ => h) (fun z2 => And.intro hv (br_c (fun z3 => ?_) (fun _ => h)))) (fun _ => h)))
      rw [em] at z1
      rw [es] at z3
      exact absurd ⟨zz_inj (n := 2) z1 (by omega) (by decide), fun e => z2 (by rw [e]), zz_inj (n := 3) z3 (by omega) (by decide)⟩ bad
    by_cases hc : p + sa j < B t
    · have hc' : nI (p + sa j) < zz_n B (nI t).toNatClampNeg := by rw [eB]; exact nI_lt hc (by omega)
      refine Or.inr ⟨hc, fun z => ?_, fun post h => gX post ?_, fun postY J5 x2 h => gY postY J5 x2 ?_⟩
      · by_cases e1 : t = o
        · exact Or.inl e1
        · exact Or.inr (fun e2 => bad ⟨z, e1, e2⟩)
      · exact And.intro hx (And.intro hw (nm_r ea (And.intro hv (br_t hc' (And.intro hw (nm_r (zz_wr T (by omega)) (And.intro hw (nm_r (zz_wr C (by omega)) h))))))))
      · exact And.intro hw (And.intro hx' (And.intro hw (nm_r ea' (And.intro hv (br_t hc' (And.intro hw (nm_r (zz_wr T (by omega)) (And.intro hw (nm_r (zz_wr C (by omega)) (nm_r (nI_1 j) h))))))))))
    · have hc' : ¬ nI (p + sa j) < zz_n B (nI t).toNatClampNeg := by rw [eB]; exact nI_nlt (by omega) (by omega)
      refine Or.inl ⟨-6, by decide, fun post h => gX post ?_, fun postY J5 x2 h => gY postY J5 x2 ?_⟩
      · exact And.intro hx (And.intro hw (nm_r ea (And.intro hv (br_f hc' h))))
      · exact And.intro hw (And.intro hx' (And.intro hw (nm_r ea' (And.intro hv (br_f hc' h)))))
theorem zq_bs {len o s : Nat} (ho : o < 8) (hlen : len ≤ 8) (hs : s < N o) (hL : ∀ i, i < len → L i < 8 ∧ Ly i = L i) (hO : zz_O S B A N im) (hY : zz_Y sy) (hT : zz_T sm sn sa so) (hK : sm (o * 8 + s) = 1 → sy (o * 8 + sn (o * 8 + s)) ≠ -1) :
    (∃ code : Int32, code ≠ 0 ∧ (∀ post : Int32 → SX → Prop, post code ((nI tl), (nI ml), (nI sl), cu, (nI b), (nI c), (lN g), (zz_n S), (zz_n B), (zz_n A), (zz_n N), im, sy, (zz_n sm), (zz_n sn), (zz_n sa), (zz_n so), (zz_n T), (zz_n C), (zz_n R), (zz_n Q), tp, (zz_n L), (zz_n F), (zz_n M), ow, (zz_l G), (zz_n rn), ins, pc, ac, (zz_l D), dt, me) → wpX_bindSite post ((nI tl), (nI ml), (nI sl), cu, (nI b), (nI c), (lN g), (zz_n S), (zz_n B), (zz_n A), (zz_n N), im, sy, (zz_n sm), (zz_n sn), (zz_n sa), (zz_n so), (zz_n T), (zz_n C), (zz_n R), (zz_n Q), tp, (zz_n L), (zz_n F), (zz_n M), ow, (zz_l G), (zz_n rn), ins, pc, ac, (zz_l D), dt, me) (nI o) (nI (o * 8 + s)) (nI len)) ∧ (∀ (postY : Int32 → SY → Prop) (n : Nat), postY code ((nI c), cu, (nI b), (nI tl), (nI ml), (nI sl), (zz_n S), (zz_n B), (zz_n A), (zz_n N), (zz_n Fy), im, sy, (zz_n sm), (zz_n sn), (zz_n sa), (zz_n so), (zz_n T), (zz_n C), (zz_n Ly), (zz_n rn), ay, io, (zz_n si), bl) → wY_bind_5 postY (nI o) (nI len) (nI c) cu (nI b) (nI tl) (nI ml) (nI sl) (n + 1) (nI (o * 8 + s)) (zz_n S) (zz_n B) (zz_n A) (zz_n N) (zz_n Fy) im sy (zz_n sm) (zz_n sn) (zz_n sa) (zz_n so) (zz_n T) (zz_n C) (zz_n Ly) (zz_n rn) ay io (zz_n si) bl))
    ∨ (∃ t cc, zz_ok len S B L sm sn (zz_u T (o * 8 + s) t) (zz_u C (o * 8 + s) cc) sy o (o * 8 + s) ∧ (∀ post : Int32 → SX → Prop, post 0 ((nI tl), (nI ml), (nI sl), cu, (nI b), (nI c), (lN g), (zz_n S), (zz_n B), (zz_n A), (zz_n N), im, sy, (zz_n sm), (zz_n sn), (zz_n sa), (zz_n so), (zz_n (zz_u T (o * 8 + s) t)), (zz_n (zz_u C (o * 8 + s) cc)), (zz_n R), (zz_n Q), tp, (zz_n L), (zz_n F), (zz_n M), ow, (zz_l G), (zz_n rn), ins, pc, ac, (zz_l D), dt, me) → wpX_bindSite post ((nI tl), (nI ml), (nI sl), cu, (nI b), (nI c), (lN g), (zz_n S), (zz_n B), (zz_n A), (zz_n N), im, sy, (zz_n sm), (zz_n sn), (zz_n sa), (zz_n so), (zz_n T), (zz_n C), (zz_n R), (zz_n Q), tp, (zz_n L), (zz_n F), (zz_n M), ow, (zz_l G), (zz_n rn), ins, pc, ac, (zz_l D), dt, me) (nI o) (nI (o * 8 + s)) (nI len)) ∧ (∀ (postY : Int32 → SY → Prop) (n : Nat), wY_bind_5 postY (nI o) (nI len) (nI c) cu (nI b) (nI tl) (nI ml) (nI sl) n (nI (o * 8 + s + 1)) (zz_n S) (zz_n B) (zz_n A) (zz_n N) (zz_n Fy) im sy (zz_n sm) (zz_n sn) (zz_n sa) (zz_n so) (zz_n (zz_u T (o * 8 + s) t)) (zz_n (zz_u C (o * 8 + s) cc)) (zz_n Ly) (zz_n rn) ay io (zz_n si) bl → wY_bind_5 postY (nI o) (nI len) (nI c) cu (nI b) (nI tl) (nI ml) (nI sl) (n + 1) (nI (o * 8 + s)) (zz_n S) (zz_n B) (zz_n A) (zz_n N) (zz_n Fy) im sy (zz_n sm) (zz_n sn) (zz_n sa) (zz_n so) (zz_n T) (zz_n C) (zz_n Ly) (zz_n rn) ay io (zz_n si) bl)) := by
  have hN := (hO o ho).2.2.2.1
  have hj : o * 8 + s < 64 := by omega
  obtain ⟨t1, t2, t3, t4⟩ := hT (o * 8 + s) hj
  have hw : vp_in (nI (o * 8 + s)) 64 := vp_in_nI hj (by decide)
  have hv : vp_in (nI o) 8 := vp_in_nI ho (by decide)
  have eM : nI o * 8 + zz_n N (nI o).toNatClampNeg = nI (o * 8 + N o) := by rw [zz_rd N o (by omega), zz_ix]
  have gY : ¬ nI o * 8 + zz_n N (nI o).toNatClampNeg ≤ nI (o * 8 + s) := by rw [eM]; exact nI_ge (by omega) (by omega)
  have em : zz_n sm (nI (o * 8 + s)).toNatClampNeg = nI (sm (o * 8 + s)) := zz_rd sm (o * 8 + s) (by omega)
  have en : zz_n sn (nI (o * 8 + s)).toNatClampNeg = nI (sn (o * 8 + s)) := zz_rd sn (o * 8 + s) (by omega)
  by_cases m1 : sm (o * 8 + s) = 1
  · have m1' : zz_n sm (nI (o * 8 + s)).toNatClampNeg = 1 := by rw [em, m1]; rfl
    obtain ⟨p, hp, e⟩ : ∃ p, p < 8 ∧ sy (o * 8 + sn (o * 8 + s)) = nI p := by
      rcases hY (o * 8 + sn (o * 8 + s)) (by omega) with e | e
      · exact absurd e (hK m1)
      · exact e
    have fY : ∀ (postY : Int32 → SY → Prop) (n : Nat), wY_bind_91 postY (wY_bind_5 postY (nI o) (nI len) (nI c) cu (nI b) (nI tl) (nI ml) (nI sl) n) (nI o) (nI len) (nI (o * 8 + s)) (nI o) (nI c) cu (nI b) (nI tl) (nI ml) (nI sl) (zz_n S) (zz_n B) (zz_n A) (zz_n N) (zz_n Fy) im sy (zz_n sm) (zz_n sn) (zz_n sa) (zz_n so) (zz_n T) (zz_n C) (zz_n Ly) (zz_n rn) ay io (zz_n si) bl → wY_bind_5 postY (nI o) (nI len) (nI c) cu (nI b) (nI tl) (nI ml) (nI sl) (n + 1) (nI (o * 8 + s)) (zz_n S) (zz_n B) (zz_n A) (zz_n N) (zz_n Fy) im sy (zz_n sm) (zz_n sn) (zz_n sa) (zz_n so) (zz_n T) (zz_n C) (zz_n Ly) (zz_n rn) ay io (zz_n si) bl := by
      intro postY n h
      exact And.intro hv (br_f gY (And.intro hw (br_t m1' ⟨1, br_c (fun _ => h) (fun _ => br_t (nI_pos' (by omega)) h)⟩)))
    rcases zq_30 (tl := tl) (ml := ml) (sl := sl) (b := b) (c := c) (g := g) (cu := cu) (S := S) (B := B) (A := A) (N := N) (sm := sm) (sn := sn) (sa := sa) (so := so) (R := R) (Q := Q) (L := L) (F := F) (M := M) (G := G) (rn := rn) (D := D) (im := im) (sy := sy) (tp := tp) (ow := ow) (ins := ins) (pc := pc) (ac := ac) (dt := dt) (me := me) (Fy := Fy) (Ly := Ly) (si := si) (ay := ay) (io := io) (bl := bl) (T := T) (C := C) ho hj ho hp e hO hT with ⟨code, hc, kX, kY⟩ | ⟨y1, y2, kX, kY⟩
    · exact Or.inl ⟨code, hc, fun post h => And.intro hw (nm_r en (And.intro hw (br_t m1' (kX post h)))), fun postY n h => fY postY n (kY postY _ _ h)⟩
    · refine Or.inr ⟨o, p + sa (o * 8 + s), ?_, fun post h => And.intro hw (nm_r en (And.intro hw (br_t m1' (kX post h)))), fun postY n h => fY postY n (kY postY _ _ h)⟩
      unfold zz_ok
      rw [zz_us, zz_us]
      exact ⟨ho, Or.inr rfl, y1, fun _ => rfl, fun _ => Or.inl rfl, fun z => by omega⟩
  · have m1' : ¬ zz_n sm (nI (o * 8 + s)).toNatClampNeg = 1 := by rw [em]; exact zz_en (n := 1) (by omega) (by decide) m1
    rcases zq_find (tl := tl) (ml := ml) (sl := sl) (b := b) (c := c) (g := g) (cu := cu) (S := S) (B := B) (A := A) (N := N) (sm := sm) (sn := sn) (sa := sa) (so := so) (T := T) (C := C) (R := R) (Q := Q) (L := L) (F := F) (M := M) (G := G) (rn := rn) (D := D) (im := im) (sy := sy) (tp := tp) (ow := ow) (ins := ins) (pc := pc) (ac := ac) (dt := dt) (me := me) (Fy := Fy) (Ly := Ly) (si := si) (ay := ay) (io := io) (bl := bl) (len := len) (nm := sn (o * 8 + s)) (j := o * 8 + s) (x1 := nI o) hlen hL hY hj rfl (by omega) len 0 (by omega) with ⟨i', p, y1, y2, y3, y4, y5, fX, fY⟩ | ⟨fX, fY⟩
    · obtain ⟨l1, l2⟩ := hL i' y2
      rcases zq_30 (tl := tl) (ml := ml) (sl := sl) (b := b) (c := c) (g := g) (cu := cu) (S := S) (B := B) (A := A) (N := N) (sm := sm) (sn := sn) (sa := sa) (so := so) (R := R) (Q := Q) (L := L) (F := F) (M := M) (G := G) (rn := rn) (D := D) (im := im) (sy := sy) (tp := tp) (ow := ow) (ins := ins) (pc := pc) (ac := ac) (dt := dt) (me := me) (Fy := Fy) (Ly := Ly) (si := si) (ay := ay) (io := io) (bl := bl) (T := T) (C := C) ho hj l1 y3 y4 hO hT with ⟨code, hc, kX, kY⟩ | ⟨z1, z2, kX, kY⟩
      · exact Or.inl ⟨code, hc, fun post h => And.intro hw (nm_r en (And.intro hw (br_f m1' ⟨len + 1, fX _ (kX post h)⟩))), fun postY n h => And.intro hv (br_f gY (And.intro hw (br_f m1' ⟨len + 2, fY _ _ (kY postY _ _ h)⟩)))⟩
      · refine Or.inr ⟨L i', p + sa (o * 8 + s), ?_, fun post h => And.intro hw (nm_r en (And.intro hw (br_f m1' ⟨len + 1, fX _ (kX post h)⟩))), fun postY n h => And.intro hv (br_f gY (And.intro hw (br_f m1' ⟨len + 2, fY _ _ (kY postY _ _ h)⟩)))⟩
        unfold zz_ok
        rw [zz_us, zz_us]
        refine ⟨l1, Or.inl ⟨i', y2, rfl⟩, z1, fun z => absurd z m1, z2, fun q1 q2 q3 => ?_⟩
        by_cases e0 : i' = 0
        · rw [e0]
        · exact absurd (y5 0 (by omega) (by omega)) q3
    · exact Or.inl ⟨-4, by decide, fun post h => And.intro hw (nm_r en (And.intro hw (br_f m1' ⟨len + 1, fX _ (br_f zz_n1g h)⟩))), fun postY n h => And.intro hv (br_f gY (And.intro hw (br_f m1' ⟨len + 2, fY _ _ (br_f zz_n1g h)⟩)))⟩
theorem zq_bo {len o : Nat} (ho : o < 8) (hlen : len ≤ 8) (hL : ∀ i, i < len → L i < 8 ∧ Ly i = L i) (hO : zz_O S B A N im) (hY : zz_Y sy) (hT : zz_T sm sn sa so) (hK : ∀ s, s < N o → sm (o * 8 + s) = 1 → sy (o * 8 + sn (o * 8 + s)) ≠ -1) :
    ∀ d s, s + d = N o → ∀ T C : Nat → Nat, ∃ (code : Int32) (T' C' : Nat → Nat), (∀ j, (j < o * 8 + s ∨ o * 8 + N o ≤ j) → T' j = T j ∧ C' j = C j) ∧ (code = 0 → ∀ s', s ≤ s' → s' < N o → zz_ok len S B L sm sn T' C' sy o (o * 8 + s'))
      ∧ (∀ post : Int32 → SX → Prop, post code ((nI tl), (nI ml), (nI sl), cu, (nI b), (nI c), (lN g), (zz_n S), (zz_n B), (zz_n A), (zz_n N), im, sy, (zz_n sm), (zz_n sn), (zz_n sa), (zz_n so), (zz_n T'), (zz_n C'), (zz_n R), (zz_n Q), tp, (zz_n L), (zz_n F), (zz_n M), ow, (zz_l G), (zz_n rn), ins, pc, ac, (zz_l D), dt, me) → wX_bindObject_5 post (nI o) (nI len) (d + 1) 0 (nI s) (nI tl) (nI ml) (nI sl) cu (nI b) (nI c) (lN g) (zz_n S) (zz_n B) (zz_n A) (zz_n N) im sy (zz_n sm) (zz_n sn) (zz_n sa) (zz_n so) (zz_n T) (zz_n C) (zz_n R) (zz_n Q) tp (zz_n L) (zz_n F) (zz_n M) ow (zz_l G) (zz_n rn) ins pc ac (zz_l D) dt me) ∧ (∀ postY : Int32 → SY → Prop, postY code ((nI c), cu, (nI b), (nI tl), (nI ml), (nI sl), (zz_n S), (zz_n B), (zz_n A), (zz_n N), (zz_n Fy), im, sy, (zz_n sm), (zz_n sn), (zz_n sa), (zz_n so), (zz_n T'), (zz_n C'), (zz_n Ly), (zz_n rn), ay, io, (zz_n si), bl) → wY_bind_5 postY (nI o) (nI len) (nI c) cu (nI b) (nI tl) (nI ml) (nI sl) (d + 1) (nI (o * 8 + s)) (zz_n S) (zz_n B) (zz_n A) (zz_n N) (zz_n Fy) im sy (zz_n sm) (zz_n sn) (zz_n sa) (zz_n so) (zz_n T) (zz_n C) (zz_n Ly) (zz_n rn) ay io (zz_n si) bl) := by
  have hN := (hO o ho).2.2.2.1
  have hv : vp_in (nI o) 8 := vp_in_nI ho (by decide)
  have eN : zz_n N (nI o).toNatClampNeg = nI (N o) := zz_rd N o (by omega)
  have eM : nI o * 8 + zz_n N (nI o).toNatClampNeg = nI (o * 8 + N o) := by rw [eN, zz_ix]
  intro d
  induction d with
  | zero =>
    intro s hd T C
    refine ⟨0, T, C, fun j _ => ⟨rfl, rfl⟩, fun _ s' h1 h2 => by omega, fun post h => ?_, fun postY h => ?_⟩
    · exact And.intro hv (br_t (by rw [eN]; exact nI_le (by omega) (by omega)) h)
    · exact And.intro hv (br_t (by rw [eM]; exact nI_le (by omega) (by omega)) h)
  | succ d ih =>
    intro s hd T C
    have gX : ¬ zz_n N (nI o).toNatClampNeg ≤ nI s := by rw [eN]; exact nI_ge (by omega) (by omega)
    rcases zq_bs (tl := tl) (ml := ml) (sl := sl) (b := b) (c := c) (g := g) (cu := cu) (S := S) (B := B) (A := A) (N := N) (sm := sm) (sn := sn) (sa := sa) (so := so) (T := T) (C := C) (R := R) (Q := Q) (L := L) (F := F) (M := M) (G := G) (rn := rn) (D := D) (im := im) (sy := sy) (tp := tp) (ow := ow) (ins := ins) (pc := pc) (ac := ac) (dt := dt) (me := me) (Fy := Fy) (Ly := Ly) (si := si) (ay := ay) (io := io) (bl := bl) (len := len) (o := o) (s := s) ho hlen (by omega) hL hO hY hT (hK s (by omega)) with ⟨code, hc, kX, kY⟩ | ⟨t, cc, hk, kX, kY⟩
    · refine ⟨code, T, C, fun j _ => ⟨rfl, rfl⟩, fun z => absurd z hc, fun post h => ?_, fun postY h => kY postY _ h⟩
      refine And.intro hv (br_f gX (br_t rfl ?_))
      rw [zz_ix o s]
      refine kX _ (nm_r (nI_1 s) (And.intro hv (br_c (fun _ => h) (fun _ => br_f hc h))))
    · obtain ⟨code, T', C', f1, f2, lX, lY⟩ := ih (s + 1) (by omega) (zz_u T (o * 8 + s) t) (zz_u C (o * 8 + s) cc)
      refine ⟨code, T', C', fun j hj => ?_, fun z s' h1 h2 => ?_, fun post h => ?_, fun postY h => kY postY _ (lY postY h)⟩
      · obtain ⟨e1, e2⟩ := f1 j (by omega)
        rw [e1, e2, zz_un (by omega), zz_un (by omega)]
        exact ⟨rfl, rfl⟩
      · by_cases e : s' = s
        · subst e
          obtain ⟨e1, e2⟩ := f1 (o * 8 + s') (by omega)
          unfold zz_ok at hk ⊢
          rw [e1, e2]
          exact hk
        · exact f2 z s' (by omega) h2
      · refine And.intro hv (br_f gX (br_t rfl ?_))
        rw [zz_ix o s]
        exact kX _ (nm_r (nI_1 s) (lX post h))
end ZBD
end
section
section ZLO
/-! load: the pieces -/
variable {tl ml sl b c g : Nat} {cu : Int32} {S B A N sm sn sa so T C R Q L F M G rn D Fy Ly si : Nat → Nat} {im sy tp ow ins pc ac dt me ay io bl : Nat → Int32}
theorem zz_pg : ∀ (n : Nat) (f : Nat → Nat), (∀ i, i ≤ n → f i < n) → ∃ i j, i < j ∧ j ≤ n ∧ f i = f j := by
  intro n
  induction n with
  | zero => intro f h; exact absurd (h 0 (by omega)) (by omega)
  | succ n ih =>
    intro f h
    by_cases hx : ∃ i, i ≤ n ∧ f i = f (n + 1)
    · obtain ⟨i, hi, e⟩ := hx
      exact ⟨i, n + 1, by omega, by omega, e⟩
    · have hv := h (n + 1) (by omega)
      obtain ⟨i, j, h1, h2, h3⟩ := ih (fun i => if f i = n then f (n + 1) else f i) (fun i hi => by
        have hi' := h i (by omega)
        have hn : f i ≠ f (n + 1) := fun e => hx ⟨i, hi, e⟩
        show (if f i = n then f (n + 1) else f i) < n
        by_cases z : f i = n
        · rw [if_pos z]; omega
        · rw [if_neg z]; omega)
      refine ⟨i, j, h1, by omega, ?_⟩
      have a1 : f i ≠ f (n + 1) := fun e => hx ⟨i, by omega, e⟩
      have a2 : f j ≠ f (n + 1) := fun e => hx ⟨j, by omega, e⟩
      have h3' : (if f i = n then f (n + 1) else f i) = (if f j = n then f (n + 1) else f j) := h3
      by_cases z1 : f i = n
      · by_cases z2 : f j = n
        · omega
        · rw [if_pos z1, if_neg z2] at h3'; omega
      · by_cases z2 : f j = n
        · rw [if_neg z1, if_pos z2] at h3'; omega
        · rw [if_neg z1, if_neg z2] at h3'; exact h3'
theorem zp_free (hc : c < 6) (hL : zz_L b c S L Ly) (hM : zz_M S M ow) : ∃ m, m < 6 ∧ ow m = -1 ∧ ∀ j, j < m → 0 ≤ ow j := by
  have hex : ∃ m, m < 6 ∧ ow m = -1 := by
    by_cases h : ∃ m, m < 6 ∧ ow m = -1
    · exact h
    · have hh : ∀ m, ∃ i, m < 6 → i < c ∧ M (L i) = m := by
        intro m
        by_cases hm : m < 6
        · rcases hM.2 m hm with e | ⟨o, ho, h3, e, _⟩
          · exact absurd ⟨m, hm, e⟩ h
          · obtain ⟨i, hi, hLi⟩ := hL.2.2.1 o ho h3
            exact ⟨i, fun _ => ⟨hi, by rw [hLi]; exact e⟩⟩
        · exact ⟨0, fun z => absurd z hm⟩
      obtain ⟨f, hf⟩ := Classical.axiomOfChoice hh
      obtain ⟨i, j, h1, h2, h3⟩ := zz_pg 5 f (fun i hi => by have := hf i (by omega); omega)
      have e1 := (hf i (by omega)).2
      have e2 := (hf j (by omega)).2
      rw [h3, e2] at e1
      omega
  obtain ⟨m, ⟨hm, e⟩, hl⟩ := pk_least (fun m => m < 6 ∧ ow m = -1) hex
  refine ⟨m, hm, e, fun j hj => ?_⟩
  rcases hM.2 j (by omega) with z | ⟨o, ho, _, _, z⟩
  · exact absurd ⟨by omega, z⟩ (hl j hj)
  · rw [z]; exact nI_pos' (by omega)
theorem zx_ns {post : Int32 → Prop} {o : Nat} (ho : o < 8) (hN : N o ≤ 8) (hT : ∀ s, s < N o → T (o * 8 + s) < 8 ∧ sm (o * 8 + s) ≤ 3) :
    ∀ d s, s + d = N o → ((∃ s', s ≤ s' ∧ s' < N o ∧ sm (o * 8 + s') = 2 ∧ T (o * 8 + s') = o) → post 1) → (¬ (∃ s', s ≤ s' ∧ s' < N o ∧ sm (o * 8 + s') = 2 ∧ T (o * 8 + s') = o) → post 0) → wX_needsStatic_2 post (nI o) (nI tl) (nI ml) (nI sl) cu (nI b) (nI c) (lN g) (zz_n S) (zz_n B) (zz_n A) (zz_n N) im sy (zz_n sm) (zz_n sn) (zz_n sa) (zz_n so) (zz_n T) (zz_n C) (zz_n R) (zz_n Q) tp (zz_n L) (zz_n F) (zz_n M) ow (zz_l G) (zz_n rn) ins pc ac (zz_l D) dt me (d + 1) (nI s) := by
  have hv : vp_in (nI o) 8 := vp_in_nI ho (by decide)
  have eN : zz_n N (nI o).toNatClampNeg = nI (N o) := zz_rd N o (by omega)
  intro d
  induction d with
  | zero =>
    intro s hd k1 k2
    exact And.intro hv (br_t (by rw [eN]; exact nI_le (by omega) (by omega)) (k2 (fun ⟨s', h1, h2, _⟩ => by omega)))
  | succ d ih =>
    intro s hd k1 k2
    refine And.intro hv (br_f (by rw [eN]; exact nI_ge (by omega) (by omega)) ?_)
    obtain ⟨ht, hm⟩ := hT s (by omega)
    have hw : vp_in (nI (o * 8 + s)) 64 := vp_in_nI (by omega) (by decide)
    have nx : ¬ (sm (o * 8 + s) = 2 ∧ T (o * 8 + s) = o) → wX_needsStatic_2 post (nI o) (nI tl) (nI ml) (nI sl) cu (nI b) (nI c) (lN g) (zz_n S) (zz_n B) (zz_n A) (zz_n N) im sy (zz_n sm) (zz_n sn) (zz_n sa) (zz_n so) (zz_n T) (zz_n C) (zz_n R) (zz_n Q) tp (zz_n L) (zz_n F) (zz_n M) ow (zz_l G) (zz_n rn) ins pc ac (zz_l D) dt me (d + 1) (nI (s + 1)) := by
      intro h
      refine ih (s + 1) (by omega) (fun ⟨s', y1, y2⟩ => k1 ⟨s', by omega, y2⟩) (fun h' => k2 (fun ⟨s', y1, y2, y3, y4⟩ => ?_))
      by_cases e : s' = s
      · subst e; exact h ⟨y3, y4⟩
      · exact h' ⟨s', by omega, y2, y3, y4⟩
    rw [zz_ix o s, zz_rd sm (o * 8 + s) (by omega), zz_rd T (o * 8 + s) (by omega)]
    exact And.intro hw (pk_eq (sm (o * 8 + s)) 2 (fun e => And.intro hw (pk_eq (T (o * 8 + s)) o (fun e2 => k1 ⟨s, by omega, by omega, e, e2⟩) (fun e2 => nm_r (nI_1 s) (nx (fun z => e2 z.2))))) (fun e => nm_r (nI_1 s) (nx (fun z => e z.1))))
theorem zy_82 {post : Int32 → SY → Prop} {o : Nat} (ho : o < 8) (hN : N o ≤ 8) (hT : ∀ s, s < N o → T (o * 8 + s) < 8 ∧ sm (o * 8 + s) ≤ 3) :
    ∀ d s v, s + d = N o → (v = 3 ∨ v = 4) → ((v = 4 ∨ ∃ s', s ≤ s' ∧ s' < N o ∧ sm (o * 8 + s') = 2 ∧ T (o * 8 + s') = o) → ∃ n139, wY_load_139 post (nI o) (nI 4) (nI c) cu (nI b) (nI tl) (nI ml) (nI sl) (zz_n S) (zz_n B) (zz_n A) (zz_n N) (zz_n Fy) im sy (zz_n sm) (zz_n sn) (zz_n sa) (zz_n so) (zz_n T) (zz_n C) (zz_n Ly) (zz_n rn) ay io (zz_n si) bl n139 0 0) → (¬ (v = 4 ∨ ∃ s', s ≤ s' ∧ s' < N o ∧ sm (o * 8 + s') = 2 ∧ T (o * 8 + s') = o) → wY_load_225 post (nI o) (nI 3) (nI c) cu (nI b) (nI tl) (nI ml) (nI sl) (zz_n S) (zz_n B) (zz_n A) (zz_n N) (zz_n Fy) im sy (zz_n sm) (zz_n sn) (zz_n sa) (zz_n so) (zz_n T) (zz_n C) (zz_n Ly) (zz_n rn) ay io (zz_n si) bl) → wY_load_82 post (nI o) (nI c) cu (nI b) (nI tl) (nI ml) (nI sl) (zz_n S) (zz_n B) (zz_n A) (zz_n N) (zz_n Fy) im sy (zz_n sm) (zz_n sn) (zz_n sa) (zz_n so) (zz_n T) (zz_n C) (zz_n Ly) (zz_n rn) ay io (zz_n si) bl (d + 1) (nI v) (nI (o * 8 + s)) := by
  have hv : vp_in (nI o) 8 := vp_in_nI ho (by decide)
  have eM : nI o * 8 + zz_n N (nI o).toNatClampNeg = nI (o * 8 + N o) := by rw [zz_rd N o (by omega), zz_ix]
  intro d
  induction d with
  | zero =>
    intro s v hd hvv k1 k2
    refine And.intro hv (br_t (by rw [eM]; exact nI_le (by omega) (by omega)) ?_)
    rcases hvv with rfl | rfl
    · exact br_f (by decide) (k2 (fun h => h.elim (by omega) (fun ⟨s', h1, h2, _⟩ => by omega)))
    · exact br_t rfl (k1 (Or.inl rfl))
  | succ d ih =>
    intro s v hd hvv k1 k2
    refine And.intro hv (br_f (by rw [eM]; exact nI_ge (by omega) (by omega)) ?_)
    obtain ⟨ht, hm⟩ := hT s (by omega)
    have hw : vp_in (nI (o * 8 + s)) 64 := vp_in_nI (by omega) (by decide)
    have nx : ¬ (sm (o * 8 + s) = 2 ∧ T (o * 8 + s) = o) → wY_load_82 post (nI o) (nI c) cu (nI b) (nI tl) (nI ml) (nI sl) (zz_n S) (zz_n B) (zz_n A) (zz_n N) (zz_n Fy) im sy (zz_n sm) (zz_n sn) (zz_n sa) (zz_n so) (zz_n T) (zz_n C) (zz_n Ly) (zz_n rn) ay io (zz_n si) bl (d + 1) (nI v) (nI (o * 8 + s + 1)) := by
      intro h
      refine ih (s + 1) v (by omega) hvv ?_ ?_
      · intro h'
        refine k1 (h'.elim Or.inl (fun ⟨s', y1, y2⟩ => Or.inr ⟨s', by omega, y2⟩))
      · intro h'
        refine k2 (fun h'' => h' (h''.elim Or.inl (fun ⟨s', y1, y2, y3, y4⟩ => Or.inr ⟨s', ?_, y2, y3, y4⟩)))
        have : s' ≠ s := fun q => by subst q; exact h ⟨y3, y4⟩
        omega
    rw [zz_rd sm (o * 8 + s) (by omega), zz_rd T (o * 8 + s) (by omega)]
    refine And.intro hw (pk_eq (sm (o * 8 + s)) 2 (fun e => And.intro hw (pk_eq (T (o * 8 + s)) o (fun e2 => nm_r (nI_1 (o * 8 + s)) ?_) (fun e2 => nm_r (nI_1 (o * 8 + s)) (nx (fun z => e2 z.2))))) (fun e => nm_r (nI_1 (o * 8 + s)) (nx (fun z => e z.1))))
    exact ih (s + 1) 4 (by omega) (Or.inr rfl) (fun _ => k1 (Or.inr ⟨s, by omega, by omega, e, e2⟩)) (fun h' => absurd (Or.inl rfl) h')
def zz_top (S F : Nat → Nat) (m : Nat) : Prop := (∀ o, o < 8 → 4 ≤ S o → F o ≤ m) ∧ (m = 0 ∨ ∃ o, o < 8 ∧ 4 ≤ S o ∧ F o = m)
theorem zz_topu {m m' : Nat} (h : zz_top S F m) (h' : zz_top S F m') : m = m' := by
  obtain ⟨a1, a2⟩ := h
  obtain ⟨b1, b2⟩ := h'
  have x1 : m ≤ m' := by
    rcases a2 with e | ⟨o, ho, h4, e⟩
    · omega
    · have := b1 o ho h4; omega
  have x2 : m' ≤ m := by
    rcases b2 with e | ⟨o, ho, h4, e⟩
    · omega
    · have := a1 o ho h4; omega
  omega
theorem zx_top {post : Int32 → Prop} (hc : c ≤ 6) (hL : zz_L b c S L Ly) (hS : ∀ o, o < 8 → S o ≤ 5) (hF : ∀ o, o < 8 → 4 ≤ S o → F o ≤ 32) (k : ∀ m, m ≤ 32 → zz_top S F m → post (nI m)) :
    ∀ d i m, i + d = c → m ≤ 32 → (∀ i', i' < i → 4 ≤ S (L i') → F (L i') ≤ m) → (m = 0 ∨ ∃ o, o < 8 ∧ 4 ≤ S o ∧ F o = m) → wX_top_4 post (nI tl) (nI ml) (nI sl) cu (nI b) (nI c) (lN g) (zz_n S) (zz_n B) (zz_n A) (zz_n N) im sy (zz_n sm) (zz_n sn) (zz_n sa) (zz_n so) (zz_n T) (zz_n C) (zz_n R) (zz_n Q) tp (zz_n L) (zz_n F) (zz_n M) ow (zz_l G) (zz_n rn) ins pc ac (zz_l D) dt me (d + 1) (nI m) (nI i) := by
  intro d
  induction d with
  | zero =>
    intro i m hd hm h1 h2
    refine br_t (nI_le (by omega) (by omega)) (k m hm ⟨fun o ho h4 => ?_, h2⟩)
    obtain ⟨i', hi, e⟩ := hL.2.2.1 o ho (by omega)
    subst e
    exact h1 i' (by omega) h4
  | succ d ih =>
    intro i m hd hm h1 h2
    obtain ⟨l1, l2, l3⟩ := hL.1 i (by omega)
    have hv : vp_in (nI (L i)) 8 := vp_in_nI l1 (by decide)
    refine br_f (nI_ge (by omega) (by omega)) (And.intro (vp_in_nI (by omega) (by decide)) (nm_r (zz_rd L i (by omega)) ?_))
    by_cases h4 : 4 ≤ S (L i)
    · refine zx_hs1 l1 h4 (hS _ l1) (br_f zz_10 (And.intro hv ?_))
      have hf := hF _ l1 h4
      rw [zz_rd F (L i) (by omega)]
      refine pk_le (F (L i)) m (fun h => nm_r (nI_1 i) (ih (i + 1) m (by omega) hm (fun i' hi' h4' => ?_) h2)) (fun h => And.intro hv (nm_e (nm_r (nI_1 i) (ih (i + 1) (F (L i)) (by omega) hf (fun i' hi' h4' => ?_) (Or.inr ⟨L i, l1, h4, rfl⟩)))))
      · by_cases e : i' = i
        · subst e; exact h
        · exact h1 i' (by omega) h4'
      · by_cases e : i' = i
        · subst e; exact Nat.le_refl _
        · have := h1 i' (by omega) h4'; omega
    · refine zx_hs0 l1 (by omega) (br_t rfl (nm_r (nI_1 i) (ih (i + 1) m (by omega) hm (fun i' hi' h4' => ?_) h2)))
      by_cases e : i' = i
      · subst e; exact absurd h4' h4
      · exact h1 i' (by omega) h4'
theorem zy_139 {post : Int32 → SY → Prop} {x1 x3 : Int32} (hS : ∀ o, o < 8 → S o ≤ 5) (hF : ∀ o, o < 8 → 4 ≤ S o → Fy o = F o ∧ F o ≤ 32) (k : ∀ m, m ≤ 32 → zz_top S F m → wY_load_139 post x1 x3 (nI c) cu (nI b) (nI tl) (nI ml) (nI sl) (zz_n S) (zz_n B) (zz_n A) (zz_n N) (zz_n Fy) im sy (zz_n sm) (zz_n sn) (zz_n sa) (zz_n so) (zz_n T) (zz_n C) (zz_n Ly) (zz_n rn) ay io (zz_n si) bl 1 (nI m) (nI 8)) :
    ∀ d i m, i + d = 8 → m ≤ 32 → (∀ o, o < i → 4 ≤ S o → F o ≤ m) → (m = 0 ∨ ∃ o, o < 8 ∧ 4 ≤ S o ∧ F o = m) → wY_load_139 post x1 x3 (nI c) cu (nI b) (nI tl) (nI ml) (nI sl) (zz_n S) (zz_n B) (zz_n A) (zz_n N) (zz_n Fy) im sy (zz_n sm) (zz_n sn) (zz_n sa) (zz_n so) (zz_n T) (zz_n C) (zz_n Ly) (zz_n rn) ay io (zz_n si) bl (d + 1) (nI m) (nI i) := by
  intro d
  induction d with
  | zero =>
    intro i m hd hm h1 h2
    obtain rfl : i = 8 := by omega
    exact k m hm ⟨h1, h2⟩
  | succ d ih =>
    intro i m hd hm h1 h2
    have hv : vp_in (nI i) 8 := vp_in_nI (by omega) (by decide)
    have hS5 := hS i (by omega)
    refine br_f (nI_ge (b := 8) (by omega) (by decide)) (And.intro hv ?_)
    rw [zz_rd S i (by omega), zz_rd Fy i (by omega)]
    refine pk_lt (S i) 4 (fun h => nm_r (nI_1 i) (ih (i + 1) m (by omega) hm (fun o ho h4 => ?_) h2)) (fun h => And.intro hv ?_)
    · by_cases e : o = i
      · subst e; omega
      · exact h1 o (by omega) h4
    · obtain ⟨f1, f2⟩ := hF i (by omega) h
      rw [f1]
      refine pk_le (F i) m (fun h' => nm_r (nI_1 i) (ih (i + 1) m (by omega) hm (fun o ho h4 => ?_) h2)) (fun h' => And.intro hv (nm_e (nm_r (nI_1 i) (ih (i + 1) (F i) (by omega) f2 (fun o ho h4 => ?_) (Or.inr ⟨i, by omega, h, rfl⟩)))))
      · by_cases e : o = i
        · subst e; exact h'
        · exact h1 o (by omega) h4
      · by_cases e : o = i
        · subst e; exact Nat.le_refl _
        · have := h1 o (by omega) h4; omega
theorem zx_cl37s {post : SX → Prop} {o x : Nat} (ho : o < 8) (htl : tl ≤ 4) (hB : B o ≤ 8) (hx : F o = x) (hx1 : B o ≤ x) (hx2 : x ≤ 32) (hr : ∀ t, t < 4 → rn t = 0 ∨ rn t = 1)
    (k : ∀ me', (∀ q, q < tl → rn q = 1 → ∀ y, y < B o → me' (q * 80 + 32 - x + y) = im (o * 8 + y)) → (∀ j, (∀ q, q < 4 → j < q * 80 + 32 - x ∨ q * 80 + 32 - x + B o ≤ j) → me' j = me j) → post ((nI tl), (nI ml), (nI sl), cu, (nI b), (nI c), (lN g), (zz_n S), (zz_n B), (zz_n A), (zz_n N), im, sy, (zz_n sm), (zz_n sn), (zz_n sa), (zz_n so), (zz_n T), (zz_n C), (zz_n R), (zz_n Q), tp, (zz_n L), (zz_n F), (zz_n M), ow, (zz_l G), (zz_n rn), ins, pc, ac, (zz_l D), dt, (me'))) :
    ∀ d t me1, t + d = tl → (∀ q, q < t → rn q = 1 → ∀ y, y < B o → me1 (q * 80 + 32 - x + y) = im (o * 8 + y)) → (∀ j, (∀ q, q < 4 → j < q * 80 + 32 - x ∨ q * 80 + 32 - x + B o ≤ j) → me1 j = me j) → wX_completeLoad_37 post (nI o) (nI 4) (d + 1) (nI t) (nI tl) (nI ml) (nI sl) cu (nI b) (nI c) (lN g) (zz_n S) (zz_n B) (zz_n A) (zz_n N) im sy (zz_n sm) (zz_n sn) (zz_n sa) (zz_n so) (zz_n T) (zz_n C) (zz_n R) (zz_n Q) tp (zz_n L) (zz_n F) (zz_n M) ow (zz_l G) (zz_n rn) ins pc ac (zz_l D) dt me1 := by
  intro d
  induction d with
  | zero =>
    intro t me1 hd h1 h2
    exact br_t (nI_le (by omega) (by omega)) (k me1 (fun q hq => h1 q (by omega)) h2)
  | succ d ih =>
    intro t me1 hd h1 h2
    refine br_f (nI_ge (by omega) (by omega)) (And.intro (vp_in_nI (by omega) (by decide)) ?_)
    rw [zz_rd rn t (by omega)]
    rcases hr t (by omega) with e | e
    · rw [e]
      refine br_t rfl (nm_r (nI_1 t) (ih (t + 1) me1 (by omega) (fun q hq hrq => ?_) h2))
      by_cases z : q = t
      · subst z; omega
      · exact h1 q (by omega) hrq
    · rw [e]
      refine br_f (by decide) (br_t rfl (zx_fst ho (by omega) (by omega) hB (by omega) (nm_r (nI_1 t) ?_)))
      rw [hx]
      refine ih (t + 1) _ (by omega) (fun q hq hrq y hy => ?_) (fun j hj => ?_)
      · by_cases z : q = t
        · subst z; exact zz_ri hy
        · rw [zz_ro (by omega)]
          exact h1 q (by omega) hrq y hy
      · rw [zz_ro (hj t (by omega))]
        exact h2 j hj
theorem zx_cl37d {post : SX → Prop} {o : Nat} (htl : tl ≤ 4) (hr : ∀ t, t < 4 → rn t = 0 ∨ rn t = 1) (k : post ((nI tl), (nI ml), (nI sl), cu, (nI b), (nI c), (lN g), (zz_n S), (zz_n B), (zz_n A), (zz_n N), im, sy, (zz_n sm), (zz_n sn), (zz_n sa), (zz_n so), (zz_n T), (zz_n C), (zz_n R), (zz_n Q), tp, (zz_n L), (zz_n F), (zz_n M), ow, (zz_l G), (zz_n rn), ins, pc, ac, (zz_l D), dt, me)) : ∀ d t, t + d = tl → wX_completeLoad_37 post (nI o) (nI 3) (d + 1) (nI t) (nI tl) (nI ml) (nI sl) cu (nI b) (nI c) (lN g) (zz_n S) (zz_n B) (zz_n A) (zz_n N) im sy (zz_n sm) (zz_n sn) (zz_n sa) (zz_n so) (zz_n T) (zz_n C) (zz_n R) (zz_n Q) tp (zz_n L) (zz_n F) (zz_n M) ow (zz_l G) (zz_n rn) ins pc ac (zz_l D) dt me := by
  intro d
  induction d with
  | zero =>
    intro t hd
    exact br_t (nI_le (by omega) (by omega)) k
  | succ d ih =>
    intro t hd
    refine br_f (nI_ge (by omega) (by omega)) (And.intro (vp_in_nI (by omega) (by decide)) ?_)
    rw [zz_rd rn t (by omega)]
    rcases hr t (by omega) with e | e
    · rw [e]
      exact br_t rfl (nm_r (nI_1 t) (ih (t + 1) (by omega)))
    · rw [e]
      exact br_f (by decide) (br_f (by decide) (nm_r (nI_1 t) (ih (t + 1) (by omega))))
theorem zx_cls {post : SX → Prop} {o x m : Nat} (ho : o < 8) (htl : tl ≤ 4) (hB : B o ≤ 8) (hN : N o ≤ 8) (hL0 : L 0 < 8) (hm : m < 6) (e : ow m = -1) (hlt : ∀ j, j < m → 0 ≤ ow j) (hT : ∀ s, s < N o → T (o * 8 + s) < 8) (hS : ∀ p, p < 8 → S p ≤ 5) (hx1 : B o ≤ x) (hx2 : x ≤ 32) (hr : ∀ t, t < 4 → rn t = 0 ∨ rn t = 1) (st : Nat) (hst : st = 4)
    (k : ∀ me', (∀ q, q < tl → rn q = 1 → ∀ y, y < B o → me' (q * 80 + 32 - x + y) = im (o * 8 + y)) → (∀ j, (∀ q, q < 4 → j < q * 80 + 32 - x ∨ q * 80 + 32 - x + B o ≤ j) → me' j = me j) → post ((nI tl), (nI ml), (nI sl), cu, (nI b), (nI (c + 1)), (lN (g + 1)), (zz_n (zz_u S o st)), (zz_n B), (zz_n A), (zz_n N), im, sy, (zz_n sm), (zz_n sn), (zz_n sa), (zz_n so), (zz_n T), (zz_n C), (zz_n (zz_q R (o * 8) (N o) (fun s => zz_ch (L 0) (zz_u S o st) o (T (o * 8 + s))))), (zz_n (zz_q Q (o * 8) (N o) (fun s => zz_u M o m (T (o * 8 + s))))), (zz_r tp (o * 8) (N o) (fun s => nI (C (o * 8 + s)) - nI (zz_u F o x (T (o * 8 + s))))), (zz_n L), (zz_n (zz_u F o x)), (zz_n (zz_u M o m)), (upd ow m (nI o)), (zz_l (zz_u G m (g + 1))), (zz_n rn), ins, pc, ac, (zz_l D), dt, (me'))) :
    wpX_completeLoad post ((nI tl), (nI ml), (nI sl), cu, (nI b), (nI c), (lN g), (zz_n S), (zz_n B), (zz_n A), (zz_n N), im, sy, (zz_n sm), (zz_n sn), (zz_n sa), (zz_n so), (zz_n T), (zz_n C), (zz_n R), (zz_n Q), tp, (zz_n L), (zz_n F), (zz_n M), ow, (zz_l G), (zz_n rn), ins, pc, ac, (zz_l D), dt, me) (nI o) (nI st) (nI x) := by
  have hv : vp_in (nI o) 8 := vp_in_nI ho (by decide)
  unfold wpX_completeLoad
  refine And.intro hv (nm_r (zz_wr S (by omega)) (And.intro hv (nm_r (zz_wr F (by omega)) (nm_r (nI_1 c) ?_))))
  refine zx_inst ho hm e hlt ?_
  refine zx_rel ho hL0 hN (fun s hs => ⟨hT s hs, ?_⟩) ?_
  · by_cases z : T (o * 8 + s) = o
    · rw [zz_us' z]; omega
    · rw [zz_un z]; exact hS _ (hT s hs)
  · subst hst
    exact ⟨tl + 1, zx_cl37s ho htl hB zz_us hx1 hx2 hr k tl 0 me (by omega) (fun q hq => by omega) (fun j _ => rfl)⟩
theorem zx_cld {post : SX → Prop} {o x m : Nat} (ho : o < 8) (htl : tl ≤ 4) (hN : N o ≤ 8) (hL0 : L 0 < 8) (hm : m < 6) (e : ow m = -1) (hlt : ∀ j, j < m → 0 ≤ ow j) (hT : ∀ s, s < N o → T (o * 8 + s) < 8) (hS : ∀ p, p < 8 → S p ≤ 5) (hr : ∀ t, t < 4 → rn t = 0 ∨ rn t = 1) (st : Nat) (hst : st = 3)
    (k : post ((nI tl), (nI ml), (nI sl), cu, (nI b), (nI (c + 1)), (lN (g + 1)), (zz_n (zz_u S o st)), (zz_n B), (zz_n A), (zz_n N), im, sy, (zz_n sm), (zz_n sn), (zz_n sa), (zz_n so), (zz_n T), (zz_n C), (zz_n (zz_q R (o * 8) (N o) (fun s => zz_ch (L 0) (zz_u S o st) o (T (o * 8 + s))))), (zz_n (zz_q Q (o * 8) (N o) (fun s => zz_u M o m (T (o * 8 + s))))), (zz_r tp (o * 8) (N o) (fun s => nI (C (o * 8 + s)) - nI (zz_u F o x (T (o * 8 + s))))), (zz_n L), (zz_n (zz_u F o x)), (zz_n (zz_u M o m)), (upd ow m (nI o)), (zz_l (zz_u G m (g + 1))), (zz_n rn), ins, pc, ac, (zz_l D), dt, me)) : wpX_completeLoad post ((nI tl), (nI ml), (nI sl), cu, (nI b), (nI c), (lN g), (zz_n S), (zz_n B), (zz_n A), (zz_n N), im, sy, (zz_n sm), (zz_n sn), (zz_n sa), (zz_n so), (zz_n T), (zz_n C), (zz_n R), (zz_n Q), tp, (zz_n L), (zz_n F), (zz_n M), ow, (zz_l G), (zz_n rn), ins, pc, ac, (zz_l D), dt, me) (nI o) (nI st) (nI x) := by
  have hv : vp_in (nI o) 8 := vp_in_nI ho (by decide)
  unfold wpX_completeLoad
  refine And.intro hv (nm_r (zz_wr S (by omega)) (And.intro hv (nm_r (zz_wr F (by omega)) (nm_r (nI_1 c) ?_))))
  refine zx_inst ho hm e hlt ?_
  refine zx_rel ho hL0 hN (fun s hs => ⟨hT s hs, ?_⟩) ?_
  · by_cases z : T (o * 8 + s) = o
    · rw [zz_us' z]; omega
    · rw [zz_un z]; exact hS _ (hT s hs)
  · subst hst
    exact ⟨tl + 1, zx_cl37d htl hr k tl 0 (by omega)⟩
theorem zy_245 {post : Int32 → SY → Prop} {o : Nat} (ho : o < 8) (htl : tl ≤ 4) (hr : ∀ t, t < 4 → rn t = 0 ∨ rn t = 1)
    (k : ∀ bl', (∀ q, q < tl → rn q = 1 → ∀ y, y < 8 → bl' (q * 64 + o * 8 + y) = im (o * 8 + y)) → (∀ j, (∀ q, q < 4 → j < q * 64 + o * 8 ∨ q * 64 + o * 8 + 8 ≤ j) → bl' j = bl j) → post 0 ((nI c), cu, (nI b), (nI tl), (nI ml), (nI sl), (zz_n S), (zz_n B), (zz_n A), (zz_n N), (zz_n Fy), im, sy, (zz_n sm), (zz_n sn), (zz_n sa), (zz_n so), (zz_n T), (zz_n C), (zz_n Ly), (zz_n rn), ay, io, (zz_n si), (bl'))) :
    ∀ d t bl1, t + d = tl → (∀ q, q < t → rn q = 1 → ∀ y, y < 8 → bl1 (q * 64 + o * 8 + y) = im (o * 8 + y)) → (∀ j, (∀ q, q < 4 → j < q * 64 + o * 8 ∨ q * 64 + o * 8 + 8 ≤ j) → bl1 j = bl j) → wY_load_245 post (nI o) (d + 1) (nI t) (nI c) cu (nI b) (nI tl) (nI ml) (nI sl) (zz_n S) (zz_n B) (zz_n A) (zz_n N) (zz_n Fy) im sy (zz_n sm) (zz_n sn) (zz_n sa) (zz_n so) (zz_n T) (zz_n C) (zz_n Ly) (zz_n rn) ay io (zz_n si) bl1 := by
  intro d
  induction d with
  | zero =>
    intro t bl1 hd h1 h2
    exact br_t (nI_le (by omega) (by omega)) (k bl1 (fun q hq => h1 q (by omega)) h2)
  | succ d ih =>
    intro t bl1 hd h1 h2
    refine br_f (nI_ge (by omega) (by omega)) (And.intro (vp_in_nI (by omega) (by decide)) ?_)
    rw [zz_rd rn t (by omega)]
    rcases hr t (by omega) with e | e
    · rw [e]
      refine br_t rfl (nm_r (nI_1 t) (ih (t + 1) bl1 (by omega) (fun q hq hrq => ?_) h2))
      by_cases z : q = t
      · subst z; omega
      · exact h1 q (by omega) hrq
    · rw [e]
      refine br_f (by decide) (zy_fil (by omega) ho (nm_r (nI_1 t) ?_))
      refine ih (t + 1) _ (by omega) (fun q hq hrq y hy => ?_) (fun j hj => ?_)
      · by_cases z : q = t
        · subst z; exact zz_ri hy
        · rw [zz_ro (by omega)]
          exact h1 q (by omega) hrq y hy
      · rw [zz_ro (hj t (by omega))]
        exact h2 j hj
theorem zy_225 {post : Int32 → SY → Prop} {o st : Nat} (ho : o < 8) (htl : tl ≤ 4) (hr : ∀ t, t < 4 → rn t = 0 ∨ rn t = 1)
    (k : ∀ bl', (∀ q, q < tl → rn q = 1 → ∀ y, y < 8 → bl' (q * 64 + o * 8 + y) = im (o * 8 + y)) → (∀ j, (∀ q, q < 4 → j < q * 64 + o * 8 ∨ q * 64 + o * 8 + 8 ≤ j) → bl' j = bl j) → post 0 ((nI (c + 1)), cu, (nI b), (nI tl), (nI ml), (nI sl), (zz_n (zz_u S o st)), (zz_n B), (zz_n A), (zz_n N), (zz_n Fy), im, sy, (zz_n sm), (zz_n sn), (zz_n sa), (zz_n so), (zz_n T), (zz_n C), (zz_n Ly), (zz_n rn), ay, io, (zz_n si), (bl'))) :
    wY_load_225 post (nI o) (nI st) (nI c) cu (nI b) (nI tl) (nI ml) (nI sl) (zz_n S) (zz_n B) (zz_n A) (zz_n N) (zz_n Fy) im sy (zz_n sm) (zz_n sn) (zz_n sa) (zz_n so) (zz_n T) (zz_n C) (zz_n Ly) (zz_n rn) ay io (zz_n si) bl :=
  And.intro (vp_in_nI ho (by decide)) (nm_r (zz_wr S (by omega)) (nm_r (nI_1 c) ⟨tl + 1, zy_245 ho htl hr k tl 0 bl (by omega) (fun q hq => by omega) (fun j _ => rfl)⟩))
end ZLO
end
section
section ZL2
/-! load: the law, the method -/
variable {tl ml sl b c g : Nat} {cu : Int32} {S B A N sm sn sa so T C R Q L F M G rn D Fy Ly si : Nat → Nat} {im sy tp ow ins pc ac dt me ay io bl : Nat → Int32}
theorem zp_load {o st x m : Nat} {T2 C2 Fy2 : Nat → Nat} {me' bl' : Nat → Int32} (ho : o < 8) (hS2 : S o = 2) (hst : st = 3 ∨ st = 4) (hb : b ≠ 0) (hm : m < 6) (hm1 : ow m = -1) (hO : zz_O S B A N im) (hK : zz_K S N sm sn sy) (hw : zz_W tl rn)
    (f1 : ∀ j, (j < o * 8 + 0 ∨ o * 8 + N o ≤ j) → T2 j = T j ∧ C2 j = C j) (f2 : ∀ s', 0 ≤ s' → s' < N o → zz_ok (c + 1) S B (zz_u L c o) sm sn T2 C2 sy o (o * 8 + s'))
    (d3 : st = 3 → ¬ ∃ s', 0 ≤ s' ∧ s' < N o ∧ sm (o * 8 + s') = 2 ∧ T2 (o * 8 + s') = o)
    (d4 : st = 4 → B o ≤ x ∧ x ≤ 32 ∧ (∀ p, p < 8 → 4 ≤ S p → F p + B o ≤ x) ∧ Fy2 o = x) (hFy : ∀ p, p ≠ o → Fy2 p = Fy p)
    (m4 : st = 4 → ∀ q, q < tl → rn q = 1 → ∀ y, y < B o → me' (q * 80 + 32 - x + y) = im (o * 8 + y)) (m5 : ∀ j, (st = 4 → ∀ q, q < 4 → j < q * 80 + 32 - x ∨ q * 80 + 32 - x + B o ≤ j) → me' j = me j)
    (b1 : ∀ q, q < tl → rn q = 1 → ∀ y, y < 8 → bl' (q * 64 + o * 8 + y) = im (o * 8 + y)) (b2 : ∀ j, (∀ q, q < 4 → j < q * 64 + o * 8 ∨ q * 64 + o * 8 + 8 ≤ j) → bl' j = bl j) (hz : zz_Z b c g S B N sm T C R Q L F M G rn D Fy Ly si im tp ow ins pc ac dt me ay io bl) :
    zz_Z b (c + 1) (g + 1) (zz_u S o st) B N sm T2 C2 (zz_q R (o * 8) (N o) (fun s => zz_ch (zz_u L c o 0) (zz_u S o st) o (T2 (o * 8 + s)))) (zz_q Q (o * 8) (N o) (fun s => zz_u M o m (T2 (o * 8 + s)))) (zz_u L c o) (zz_u F o x) (zz_u M o m) (zz_u G m (g + 1)) rn D Fy2 (zz_u Ly c o) si im (zz_r tp (o * 8) (N o) (fun s => nI (C2 (o * 8 + s)) - nI (zz_u F o x (T2 (o * 8 + s))))) (upd ow m (nI o)) ins pc ac dt me' ay io bl' := by
  obtain ⟨⟨l1, l2, l3, l4, l5⟩, hR, hM, hG, hF, ⟨t1, t2⟩, hV⟩ := hz
  obtain ⟨m1, m2⟩ := id hM
  obtain ⟨f3, f4⟩ := id hF
  have sn : ∀ p, p ≠ o → zz_u S o st p = S p := fun p e => zz_un e
  have so' : zz_u S o st o = st := zz_us
  have lo : ∀ p, 3 ≤ S p → p ≠ o := fun p h e => by subst e; omega
  have hLo : ∀ i, i < c → L i ≠ o := fun i hi => lo _ (l1 i hi).2.1
  have hNo := (hO o ho).2.2.2.1
  have hBo := (hO o ho).2.1
  obtain ⟨c0, s5⟩ := l5 hb
  have e0 : zz_u L c o 0 = L 0 := zz_un (by omega)
  have ld : ∀ p, p < 8 → 3 ≤ zz_u S o st p → p ≠ o → 3 ≤ S p := fun p _ h e => by rw [sn p e] at h; exact h
  have mne : ∀ p, p < 8 → 3 ≤ S p → M p ≠ m := fun p hp h e => by
    have := (m1 p hp h).2
    rw [e, hm1] at this
    exact zz_ne1 (a := p) (by omega) this.symm
  refine ⟨⟨?_, ?_, ?_, fun z => absurd z hb, fun _ => ⟨by omega, ?_⟩⟩, ?_, ⟨?_, ?_⟩, ⟨?_, ?_⟩, ⟨?_, ?_⟩, ⟨?_, t2⟩, ?_⟩
  · intro i hi
    by_cases e : i = c
    · rw [zz_us' e, zz_us' e, so']
      exact ⟨ho, by omega, rfl⟩
    · rw [zz_un e, zz_un e, sn _ (hLo i (by omega))]
      exact l1 i (by omega)
  · intro i j hi hj e
    by_cases ei : i = c
    · by_cases ej : j = c
      · omega
      · rw [zz_us' ei, zz_un ej] at e
        exact absurd e.symm (hLo j (by omega))
    · by_cases ej : j = c
      · rw [zz_un ei, zz_us' ej] at e
        exact absurd e (hLo i (by omega))
      · rw [zz_un ei, zz_un ej] at e
        exact l2 i j (by omega) (by omega) e
  · intro q hq h3
    by_cases e : q = o
    · exact ⟨c, by omega, by rw [zz_us]; exact e.symm⟩
    · obtain ⟨i, hi, hLi⟩ := l3 q hq (ld q hq h3 e)
      exact ⟨i, by omega, by rw [zz_un (by omega)]; exact hLi⟩
  · rw [e0, sn _ (hLo 0 c0)]
    exact s5
  · intro p hp h3 s hs
    by_cases e : p = o
    · subst e
      obtain ⟨k1, k2, k3, k4, k5, k6⟩ := f2 s (by omega) hs
      have hl : T2 (p * 8 + s) ≠ p → 3 ≤ S (T2 (p * 8 + s)) := by
        intro hne
        rcases k2 with ⟨i, hi, e⟩ | e
        · by_cases ei : i = c
          · rw [zz_us' ei] at e
            exact absurd e.symm hne
          · rw [zz_un ei] at e
            rw [← e]
            exact (l1 i (by omega)).2.1
        · exact absurd e hne
      refine ⟨k1, ?_, k3, zz_qi hs, zz_ri hs, zz_qi hs, k4, ?_, ?_⟩
      · by_cases y : T2 (p * 8 + s) = p
        · rw [zz_us' y]; omega
        · rw [sn _ y]; exact hl y
      · intro z
        by_cases y : T2 (p * 8 + s) = p
        · rw [zz_us' y]
          rcases hst with h | h
          · exact absurd ⟨s, by omega, hs, z, y⟩ (d3 h)
          · omega
        · rw [sn _ y]
          have := hl y
          rcases k5 z with h | h
          · exact absurd h y
          · omega
      · intro z
        have := (hK p hp (by omega) s hs).2 z
        omega
    · have h3' := ld p hp h3 e
      have hNp := (hO p hp).2.2.2.1
      obtain ⟨r1, r2, r3, r4, r5, r6, r7, r8, r9⟩ := hR p hp h3' s hs
      obtain ⟨e1, e2⟩ := f1 (p * 8 + s) (by omega)
      have ht := lo _ r2
      rw [e1, e2, zz_qo (by omega), zz_qo (by omega), zz_ro (by omega), zz_un ht, zz_un ht, zz_un ht, e0, sn p e]
      refine ⟨r1, r2, r3, r4, r5, ?_, r7, r8, r9⟩
      rw [r6]
      unfold zz_ch
      rw [sn _ ht]
  · intro p hp h3
    by_cases e : p = o
    · subst e
      rw [zz_us, pk_us]
      exact ⟨hm, rfl⟩
    · have h3' := ld p hp h3 e
      rw [zz_un e, pk_un (mne p hp h3')]
      exact m1 p hp h3'
  · intro q hq
    by_cases e : q = m
    · subst e
      exact Or.inr ⟨o, ho, by rw [so']; omega, zz_us, pk_us⟩
    · rw [pk_un e]
      rcases m2 q hq with h | ⟨p, hp, h3, h4, h5⟩
      · exact Or.inl h
      · exact Or.inr ⟨p, hp, by rw [sn p (lo p h3)]; exact h3, by rw [zz_un (lo p h3)]; exact h4, h5⟩
  · intro q hq
    by_cases e : q = m
    · rw [zz_us' e]; omega
    · rw [zz_un e]
      have := hG.1 q hq
      omega
  · intro q hq
    have := hG.2 q hq
    omega
  · intro p hp h4
    by_cases e : p = o
    · subst e
      rw [so'] at h4
      obtain ⟨x1, x2, x3, x4⟩ := d4 (by omega)
      rw [zz_us]
      exact ⟨x4, x1, x2⟩
    · rw [sn p e] at h4
      rw [zz_un e, hFy p e]
      exact f3 p hp h4
  · intro p q hp hq h4 h4' hn
    by_cases e : p = o
    · subst e
      rw [so'] at h4
      obtain ⟨x1, x2, x3, x4⟩ := d4 (by omega)
      have hq' : q ≠ p := fun z => hn z.symm
      rw [sn q hq'] at h4'
      rw [zz_us, zz_un hq']
      exact Or.inl (x3 q hq h4')
    · rw [sn p e] at h4
      rw [zz_un e]
      by_cases e' : q = o
      · subst e'
        rw [so'] at h4'
        obtain ⟨x1, x2, x3, x4⟩ := d4 (by omega)
        rw [zz_us]
        exact Or.inr (x3 p hp h4)
      · rw [sn q e'] at h4'
        rw [zz_un e']
        exact f4 p q hp hq h4 h4' hn
  · intro t ht
    rcases t1 t ht with h | ⟨h1, h2, h3, h4⟩
    · exact Or.inl h
    · refine Or.inr ⟨h1, h2, h3, ?_⟩
      rcases h4 with h | ⟨q, hq, e, hlq, h6⟩
      · exact Or.inl h
      · exact Or.inr ⟨q, hq, e, by rw [sn q (lo q hlq)]; exact hlq, h6⟩
  · intro t ht hr p hp h3
    have htl : t < tl := by
      by_cases y : t < tl
      · exact y
      · have := hw t (by omega) ht
        omega
    have hDt := hG.2 t ht
    by_cases e : p = o
    · subst e
      rw [zz_us, zz_us]
      refine ⟨fun z => by omega, fun hto y hy => ?_, fun _ y hy => (b1 t htl hr y (by omega)).symm⟩
      have h4 : 4 ≤ zz_u S p st p := by
        rcases hto with h | h
        · exact h
        · rw [zz_us, zz_us] at h; omega
      rw [so'] at h4
      rw [b1 t htl hr y (by omega)]
      have eb : zz_ba (zz_u S p st) (zz_u F p x) (zz_u M p m) t p = t * 80 + 32 - x := by
        unfold zz_ba
        rw [so', if_pos h4, zz_us]
      rw [eb]
      exact m4 (by omega) t htl hr y hy
    · have h3' := ld p hp h3 e
      obtain ⟨v1, v2, v3⟩ := hV t ht hr p hp h3'
      have eM : zz_u M o m p = M p := zz_un e
      have eG : zz_u G m (g + 1) (M p) = G (M p) := zz_un (mne p hp h3')
      have eb : zz_ba (zz_u S o st) (zz_u F o x) (zz_u M o m) t p = zz_ba S F M t p := by
        unfold zz_ba
        rw [sn p e, zz_un e, eM]
      have et : zz_to (zz_u S o st) (zz_u M o m) (zz_u G m (g + 1)) D dt t p ↔ zz_to S M G D dt t p := by
        unfold zz_to
        rw [sn p e, eM, eG]
      have hBp := (hO p hp).2.1
      rw [eM, eG, eb, et]
      refine ⟨v1, fun h y hy => ?_, fun h y hy => ?_⟩
      · rw [b2 _ (fun q hq => by omega)]
        rw [m5 _ ?_]
        · exact v2 h y hy
        · intro h4 q hq
          obtain ⟨x1, x2, x3, x4⟩ := d4 h4
          have hbb := zz_bb (t := t) hO hM hF hp h3'
          by_cases eq : q = t
          · subst eq
            by_cases h4p : 4 ≤ S p
            · have ef : zz_ba S F M q p = q * 80 + 32 - F p := if_pos h4p
              have := x3 p hp h4p
              have := f3 p hp h4p
              omega
            · have ef : zz_ba S F M q p = q * 80 + 32 + M p * 8 := if_neg h4p
              omega
          · omega
      · rw [b2 _ (fun q hq => by omega)]
        exact v3 h y hy
theorem zp_ldN {o st : Nat} (ho : o < 8) (hS2 : S o = 2) (hst : st = 3 ∨ st = 4) (h2 : zz_N cu S B A N sm sn sa so im sy) : zz_N cu (zz_u S o st) B A N sm sn sa so im sy := by
  obtain ⟨hO, hY, hT, hK, hC⟩ := h2
  refine ⟨?_, hY, hT, ?_, ?_⟩
  · intro p hp
    obtain ⟨a1, a2⟩ := hO p hp
    refine ⟨?_, a2⟩
    by_cases e : p = o
    · rw [zz_us' e]; omega
    · rw [zz_un e]; exact a1
  · intro p hp hn s hs
    by_cases e : p = o
    · subst e
      have := hK p hp (by omega) s hs
      exact ⟨this.1, fun z => by have := this.2 z; omega⟩
    · rw [zz_un e] at hn ⊢
      exact hK p hp hn s hs
  · rcases hC with h | ⟨p, hp, e, h0⟩
    · exact Or.inl h
    · exact Or.inr ⟨p, hp, e, by rw [zz_un (fun z => by subst z; omega)]; exact h0⟩
theorem zp_ldF {o : Nat} {T2 C2 : Nat → Nat} (ho : o < 8) (hS2 : S o = 2) (hO : zz_O S B A N im) (f1 : ∀ j, (j < o * 8 + 0 ∨ o * 8 + N o ≤ j) → T2 j = T j ∧ C2 j = C j) (hz : zz_Z b c g S B N sm T C R Q L F M G rn D Fy Ly si im tp ow ins pc ac dt me ay io bl) :
    zz_Z b c g S B N sm T2 C2 R Q (zz_u L c o) F M G rn D Fy (zz_u Ly c o) si im tp ow ins pc ac dt me ay io bl := by
  refine zz_cg (A := A) hO (fun p hp => Or.inl rfl) (fun p hp hl => ⟨rfl, rfl, rfl, rfl, fun x hx => ⟨rfl, rfl, ?_⟩⟩) (fun i hi => ⟨zz_un (by omega), zz_un (by omega)⟩) hz
  have hNo := (hO o ho).2.2.2.1
  have hne : p ≠ o := fun e => by subst e; omega
  exact f1 (p * 8 + x) (by omega)
theorem i_vc_load {k : Nat} {u : SX} {v : SY} (I : i_Rel k u v) (hk : k + 5 ≤ 2563) (v1 : Int32) : wpX_load (fun r u' => wpY_load (fun r' v' => r' = r ∧ i_Rel (k + 5) u' v') v v1) u v1 := by
  refine zz_el (P := fun u v => wpX_load (fun r u' => wpY_load (fun r' v' => r' = r ∧ i_Rel (k + 5) u' v') v v1) u v1) ?_ I
  intro tl ml sl b c g cu S B A N sm sn sa so T C R Q L F M G rn D Fy Ly si im sy tp ow ins pc ac dt me ay io bl h1 h2 h3
  have J : i_Rel (k + 5) ((nI tl), (nI ml), (nI sl), cu, (nI b), (nI c), (lN g), (zz_n S), (zz_n B), (zz_n A), (zz_n N), im, sy, (zz_n sm), (zz_n sn), (zz_n sa), (zz_n so), (zz_n T), (zz_n C), (zz_n R), (zz_n Q), tp, (zz_n L), (zz_n F), (zz_n M), ow, (zz_l G), (zz_n rn), ins, pc, ac, (zz_l D), dt, me) ((nI c), cu, (nI b), (nI tl), (nI ml), (nI sl), (zz_n S), (zz_n B), (zz_n A), (zz_n N), (zz_n Fy), im, sy, (zz_n sm), (zz_n sn), (zz_n sa), (zz_n so), (zz_n T), (zz_n C), (zz_n Ly), (zz_n rn), ay, io, (zz_n si), bl) := zz_mk (zz_Bk h1 (by omega)) h2 h3
  have htl := h1.2.1
  have hcm : c ≤ ml ∧ ml ≤ 6 ∧ sl ≤ 32 ∧ b ≤ 1 := by unfold zz_B at h1; omega
  have hw : zz_W tl rn := h1.2.2.2.2.2.2.2.2.2
  unfold wpX_load
  rcases pk_ix v1 (n := 8) (by decide) with h | h | ⟨o, ho, rfl⟩
  · exact zx_obj0 (Or.inl h) (br_t rfl (br_t h ⟨rfl, J⟩))
  · exact zx_obj0 (Or.inr h) (br_t rfl (br_f (zz_ge0 (n := 8) (by decide) h) (br_f (zz_gt (n := 7) (by decide) h).2.1 ⟨rfl, J⟩)))
  refine zx_obj1 ho (br_f zz_10 ?_)
  have hp : ¬ nI o < 0 := nI_pos (by omega)
  have hv : vp_in (nI o) 8 := vp_in_nI ho (by decide)
  obtain ⟨hS5, hB8, hA, hN8, _⟩ := h2.1 o ho
  have es : zz_n S (nI o).toNatClampNeg = nI (S o) := zz_rd S o (by omega)
  by_cases hb : b = 0
  · subst hb
    exact br_t rfl (br_f hp (br_t (zz_le7 ho) (br_t rfl ⟨rfl, J⟩)))
  have hb0 : ¬ nI b = 0 := nI_ne0 (by omega) (by omega)
  by_cases hS2 : S o = 2
  rotate_left
  · have e2 : ¬ zz_n S (nI o).toNatClampNeg = 2 := by rw [es]; exact zz_en (n := 2) (by omega) (by decide) hS2
    exact br_f hb0 (And.intro hv (br_f e2 (br_f hp (br_t (zz_le7 ho) (br_f hb0 (And.intro hv (br_f e2 ⟨rfl, J⟩)))))))
  have e2 : zz_n S (nI o).toNatClampNeg = 2 := by rw [es, hS2]; rfl
  by_cases hcl : c < ml
  rotate_left
  · have hc' : ¬ nI c < nI ml := nI_nlt (by omega) (by omega)
    exact br_f hb0 (And.intro hv (br_t e2 (br_f hc' (br_f hp (br_t (zz_le7 ho) (br_f hb0 (And.intro hv (br_t e2 (br_f hc' ⟨rfl, J⟩)))))))))
  have hc' : nI c < nI ml := nI_lt hcl (by omega)
  have hvc : vp_in (nI c) 8 := vp_in_nI (by omega) (by decide)
  obtain ⟨hO, hY, hT, hK, hC⟩ := id h2
  have hLn : ∀ i, i < c + 1 → zz_u L c o i < 8 ∧ zz_u Ly c o i = zz_u L c o i := by
    intro i hi
    by_cases e : i = c
    · rw [zz_us' e, zz_us' e]; exact ⟨ho, rfl⟩
    · rw [zz_un e, zz_un e]
      exact ⟨(h3.1.1 i (by omega)).1, (h3.1.1 i (by omega)).2.2⟩
  obtain ⟨code, T2, C2, f1, f2, lX, lY⟩ := zq_bo (tl := tl) (ml := ml) (sl := sl) (b := b) (c := c) (g := g) (cu := cu) (S := S) (B := B) (A := A) (N := N) (sm := sm) (sn := sn) (sa := sa) (so := so) (T := T) (C := C) (R := R) (Q := Q) (L := (zz_u L c o)) (F := F) (M := M) (G := G) (rn := rn) (D := D) (im := im) (sy := sy) (tp := tp) (ow := ow) (ins := ins) (pc := pc) (ac := ac) (dt := dt) (me := me) (Ly := zz_u Ly c o) (Fy := Fy) (si := si) (ay := ay) (io := io) (bl := bl) (len := c + 1) ho (by omega) hLn hO hY hT (fun s hs z => (hK o ho (by omega) s hs).1 (Or.inl z)) (N o) 0 (by omega)
  have JF := zp_ldF ho hS2 hO f1 h3
  have fY : ∀ postY : Int32 → SY → Prop, (code = 0 → ∃ n82, wY_load_82 postY (nI o) (nI c) cu (nI b) (nI tl) (nI ml) (nI sl) (zz_n S) (zz_n B) (zz_n A) (zz_n N) (zz_n Fy) im sy (zz_n sm) (zz_n sn) (zz_n sa) (zz_n so) (zz_n T2) (zz_n C2) (zz_n (zz_u Ly c o)) (zz_n rn) ay io (zz_n si) bl n82 3 (nI (o * 8))) → (code ≠ 0 → postY code ((nI c), cu, (nI b), (nI tl), (nI ml), (nI sl), (zz_n S), (zz_n B), (zz_n A), (zz_n N), (zz_n Fy), im, sy, (zz_n sm), (zz_n sn), (zz_n sa), (zz_n so), (zz_n T2), (zz_n C2), (zz_n (zz_u Ly c o)), (zz_n rn), ay, io, (zz_n si), bl)) → wpY_load postY ((nI c), cu, (nI b), (nI tl), (nI ml), (nI sl), (zz_n S), (zz_n B), (zz_n A), (zz_n N), (zz_n Fy), im, sy, (zz_n sm), (zz_n sn), (zz_n sa), (zz_n so), (zz_n T), (zz_n C), (zz_n Ly), (zz_n rn), ay, io, (zz_n si), bl) (nI o) := by
    intro postY q1 q2
    refine br_f hp (br_t (zz_le7 ho) (br_f hb0 (And.intro hv (br_t e2 (br_t hc' (And.intro hvc (nm_r (zz_wr Ly (by omega)) ?_)))))))
    rw [nI_1 c]
    refine nm_r (zz_m8 o) ⟨N o + 1, lY _ ?_⟩
    exact br_c (fun z => nm_r (zz_m8 o) (q1 z)) (fun z => q2 z)
  refine br_f hb0 (And.intro hv (br_t e2 (br_t hc' (And.intro hvc (nm_r (zz_wr L (by omega)) ?_)))))
  rw [nI_1 c]
  refine ⟨N o + 1, lX _ ?_⟩
  by_cases hcode : code = 0
  rotate_left
  · exact br_f hcode (fY _ (fun z => absurd z hcode) (fun _ => ⟨rfl, zz_mk (zz_Bk h1 (by omega)) h2 JF⟩))
  have hT2 : ∀ s, s < N o → T2 (o * 8 + s) < 8 ∧ sm (o * 8 + s) ≤ 3 := fun s hs => ⟨(f2 hcode s (by omega) hs).1, (hT (o * 8 + s) (by omega)).1⟩
  have hr : ∀ t, t < 4 → rn t = 0 ∨ rn t = 1 := fun t ht => (h3.2.2.2.2.2.1.1 t ht).elim (fun q => Or.inl q.1) (fun q => Or.inr q.1)
  have hL0 : zz_u L c o 0 < 8 := (hLn 0 (by omega)).1
  have hS8 : ∀ p, p < 8 → S p ≤ 5 := fun p hp => (hO p hp).1
  obtain ⟨m, hm, hm1, hlt⟩ := zp_free (by omega) h3.1 h3.2.2.1
  have PB : zz_B tl ml sl b (c + 1) (g + 1) (k + 5) rn := by
    obtain ⟨a1, a2, a3, a4, a5, a6, a7, a8, a9, a10⟩ := h1
    exact ⟨a1, a2, a3, a4, a5, a6, by omega, a8, by omega, a10⟩
  refine br_t hcode ⟨N o + 1, zx_ns ho hN8 hT2 (N o) 0 (by omega) (fun hns => br_f zz_10 ?_) (fun hns => br_t rfl ?_)⟩
  · -- static
    refine ⟨c + 1, ?_⟩
    refine zx_top (Ly := zz_u Ly c o) (by omega) ?_ hS8 (fun p hp h4 => (h3.2.2.2.2.1.1 p hp h4).2.2) (fun x0 hx0 htop => ?_) c 0 0 (by omega) (by omega) (fun i' hi' => by omega) (Or.inl rfl)
    · exact JF.1
    · refine And.intro hv (And.intro hv ?_)
      rw [zz_rd B o (by omega), zz_rd A o (by omega), nI_add]
      have hub := zz_ub (v := x0 + B o) hA
      have gY : ∀ (postY : Int32 → SY → Prop), (zz_up (x0 + B o) (A o) ≤ sl → wY_load_225 postY (nI o) (nI 4) (nI c) cu (nI b) (nI tl) (nI ml) (nI sl) (zz_n S) (zz_n B) (zz_n A) (zz_n N) (zz_n (zz_u Fy o (zz_up (x0 + B o) (A o)))) im sy (zz_n sm) (zz_n sn) (zz_n sa) (zz_n so) (zz_n T2) (zz_n C2) (zz_n (zz_u Ly c o)) (zz_n rn) ay io (zz_n si) bl) → (¬ zz_up (x0 + B o) (A o) ≤ sl → postY (-7) ((nI c), cu, (nI b), (nI tl), (nI ml), (nI sl), (zz_n S), (zz_n B), (zz_n A), (zz_n N), (zz_n Fy), im, sy, (zz_n sm), (zz_n sn), (zz_n sa), (zz_n so), (zz_n T2), (zz_n C2), (zz_n (zz_u Ly c o)), (zz_n rn), ay, io, (zz_n si), bl)) → wpY_load postY ((nI c), cu, (nI b), (nI tl), (nI ml), (nI sl), (zz_n S), (zz_n B), (zz_n A), (zz_n N), (zz_n Fy), im, sy, (zz_n sm), (zz_n sn), (zz_n sa), (zz_n so), (zz_n T), (zz_n C), (zz_n Ly), (zz_n rn), ay, io, (zz_n si), bl) (nI o) := by
        intro postY q1 q2
        refine fY postY (fun _ => ⟨N o + 1, ?_⟩) (fun z => absurd hcode z)
        refine zy_82 ho hN8 hT2 (N o) 0 3 (by omega) (Or.inl rfl) (fun _ => ⟨9, ?_⟩) (fun z => absurd (Or.inr hns) z)
        refine zy_139 (F := F) hS8 (fun p hp h4 => ⟨(h3.2.2.2.2.1.1 p hp h4).1, (h3.2.2.2.2.1.1 p hp h4).2.2⟩) (fun x1 hx1 htop1 => ?_) 8 0 0 (by omega) (by omega) (fun i' hi' => by omega) (Or.inl rfl)
        have ex : x1 = x0 := zz_topu htop1 htop
        subst ex
        refine br_t (nI_le (a := 8) (b := 8) (by omega) (by decide)) (And.intro hv (And.intro hv ?_))
        rw [zz_rd B o (by omega), zz_rd A o (by omega), nI_add]
        refine zy_up hA (by omega) (pk_le (zz_up (x1 + B o) (A o)) sl (fun z => And.intro hv (nm_r (zz_wr Fy (by omega)) (q1 z))) (fun z => q2 (by omega)))
      refine zx_up hA (by omega) (pk_le (zz_up (x0 + B o) (A o)) sl (fun hfit => ?_) (fun hfit => ?_))
      · refine zx_cls ho htl hB8 hN8 hL0 hm hm1 hlt (fun s hs => (hT2 s hs).1) hS8 (by omega) (by omega) hr 4 rfl (fun me' x1 x2 => ?_)
        refine gY _ (fun _ => zy_225 ho htl hr (fun bl' y1 y2 => ⟨rfl, zz_mk PB (zp_ldN ho hS2 (Or.inr rfl) h2) ?_⟩)) (fun z => absurd hfit z)
        exact zp_load (A := A) ho hS2 (Or.inr rfl) hb hm hm1 hO hK hw f1 (f2 hcode) (fun z => by omega) (fun _ => ⟨by omega, by omega, fun p hp h4 => by have := htop.1 p hp h4; omega, zz_us⟩) (fun p e => zz_un e) (fun _ => x1) (fun j hj => x2 j (hj rfl)) y1 y2 h3
      · exact gY _ (fun z => by omega) (fun _ => ⟨rfl, zz_mk (zz_Bk h1 (by omega)) h2 JF⟩)
  · -- dynamic
    refine zx_cld (x := 0) ho htl hN8 hL0 hm hm1 hlt (fun s hs => (hT2 s hs).1) hS8 hr 3 rfl ?_
    refine fY _ (fun _ => ⟨N o + 1, ?_⟩) (fun z => absurd hcode z)
    refine zy_82 ho hN8 hT2 (N o) 0 3 (by omega) (Or.inl rfl) (fun z => absurd (z.elim (fun q => by omega) id) hns) (fun _ => ?_)
    refine zy_225 ho htl hr (fun bl' y1 y2 => ⟨rfl, zz_mk PB (zp_ldN ho hS2 (Or.inl rfl) h2) ?_⟩)
    exact zp_load (A := A) ho hS2 (Or.inl rfl) hb hm hm1 hO hK hw f1 (f2 hcode) (fun _ => hns) (fun z => by omega) (fun p e => rfl) (fun z => by omega) (fun j hj => rfl) y1 y2 h3
end ZL2
end
section
section ZB1
/-! boot: listing, checking, binding, placing -/
variable {tl ml sl b c g : Nat} {cu : Int32} {S B A N sm sn sa so T C R Q L F M G rn D Fy Ly si : Nat → Nat} {im sy tp ow ins pc ac dt me ay io bl : Nat → Int32}
theorem zq_list {e : Nat} {x2 : Int32} (he : e < 8) (hS : ∀ p, p < 8 → S p ≤ 5) : ∀ d i, i + d = 8 → ∀ (n : Nat) (L Ly : Nat → Nat), 1 ≤ n → n ≤ i + 1 → (e < i → n ≤ i) → L 0 = e → (∀ k, 1 ≤ k → k < n → L k < i ∧ L k ≠ e) → (∀ a a', 1 ≤ a → a < a' → a' < n → L a < L a') → (∀ k, k < n → Ly k = L k) →
    ∃ (n' : Nat) (L' : Nat → Nat), n ≤ n' ∧ n' ≤ 8 ∧ L' 0 = e ∧ (∀ k, 1 ≤ k → k < n' → L' k < 8 ∧ L' k ≠ e) ∧ (∀ a a', 1 ≤ a → a < a' → a' < n' → L' a < L' a') ∧ (∀ k, k < n → L' k = L k)
      ∧ (∀ post : Int32 → SX → Prop, post (nI n') ((nI tl), (nI ml), (nI sl), cu, (nI b), (nI c), (lN g), (zz_n S), (zz_n B), (zz_n A), (zz_n N), im, sy, (zz_n sm), (zz_n sn), (zz_n sa), (zz_n so), (zz_n T), (zz_n C), (zz_n R), (zz_n Q), tp, (zz_n L'), (zz_n F), (zz_n M), ow, (zz_l G), (zz_n rn), ins, pc, ac, (zz_l D), dt, me) → wX_listStartup_12 post (nI e) x2 (nI tl) (nI ml) (nI sl) cu (nI b) (nI c) (lN g) (d + 1) (nI n) (nI i) (zz_n S) (zz_n B) (zz_n A) (zz_n N) im sy (zz_n sm) (zz_n sn) (zz_n sa) (zz_n so) (zz_n T) (zz_n C) (zz_n R) (zz_n Q) tp (zz_n L) (zz_n F) (zz_n M) ow (zz_l G) (zz_n rn) ins pc ac (zz_l D) dt me)
      ∧ (((∀ k, n ≤ k → k < n' → S (L' k) = 2) ∧ ∃ Ly' : Nat → Nat, (∀ k, k < n' → Ly' k = L' k) ∧ ∀ postY : Int32 → SY → Prop, wY_boot_47 postY (nI e) x2 (nI c) cu (nI b) (nI tl) (nI ml) (nI sl) 1 (nI n') (nI 8) (zz_n S) (zz_n B) (zz_n A) (zz_n N) (zz_n Fy) im sy (zz_n sm) (zz_n sn) (zz_n sa) (zz_n so) (zz_n T) (zz_n C) (zz_n Ly') (zz_n rn) ay io (zz_n si) bl → wY_boot_47 postY (nI e) x2 (nI c) cu (nI b) (nI tl) (nI ml) (nI sl) (d + 1) (nI n) (nI i) (zz_n S) (zz_n B) (zz_n A) (zz_n N) (zz_n Fy) im sy (zz_n sm) (zz_n sn) (zz_n sa) (zz_n so) (zz_n T) (zz_n C) (zz_n Ly) (zz_n rn) ay io (zz_n si) bl)
        ∨ ((∃ k, n ≤ k ∧ k < n' ∧ S (L' k) ≠ 2) ∧ ∃ Ly' : Nat → Nat, ∀ postY : Int32 → SY → Prop, postY (-2) ((nI c), cu, (nI b), (nI tl), (nI ml), (nI sl), (zz_n S), (zz_n B), (zz_n A), (zz_n N), (zz_n Fy), im, sy, (zz_n sm), (zz_n sn), (zz_n sa), (zz_n so), (zz_n T), (zz_n C), (zz_n Ly'), (zz_n rn), ay, io, (zz_n si), bl) → wY_boot_47 postY (nI e) x2 (nI c) cu (nI b) (nI tl) (nI ml) (nI sl) (d + 1) (nI n) (nI i) (zz_n S) (zz_n B) (zz_n A) (zz_n N) (zz_n Fy) im sy (zz_n sm) (zz_n sn) (zz_n sa) (zz_n so) (zz_n T) (zz_n C) (zz_n Ly) (zz_n rn) ay io (zz_n si) bl)) := by
  intro d
  induction d with
  | zero =>
    intro i hd n L Ly n1 n2 n3 l0 l1 l2 l3
    obtain rfl : i = 8 := by omega
    refine ⟨n, L, by omega, ?_, l0, l1, l2, fun k _ => rfl, fun post h => br_t (nI_le (a := 8) (b := 8) (by omega) (by decide)) h, Or.inl ⟨fun k h1 h2 => by omega, Ly, l3, fun postY h => h⟩⟩
    have := n3 he
    omega
  | succ d ih =>
    intro i hd n L Ly n1 n2 n3 l0 l1 l2 l3
    have h8 : ¬ (8 : Int32) ≤ nI i := nI_ge (b := 8) (by omega) (by decide)
    by_cases ei : i = e
    · have ee : nI i = nI e := by rw [ei]
      obtain ⟨n', L', r1, r2, r3, r4, r5, r6, kX, kY⟩ := ih (i + 1) (by omega) n L Ly n1 (by omega) (by omega) l0 (fun k a b => ⟨by have := (l1 k a b).1; omega, (l1 k a b).2⟩) l2 l3
      refine ⟨n', L', r1, r2, r3, r4, r5, r6, fun post h => br_f h8 (br_t ee (nm_r (nI_1 i) (kX post h))), ?_⟩
      rcases kY with ⟨y1, Ly', y2, y3⟩ | ⟨y1, Ly', y3⟩
      · exact Or.inl ⟨y1, Ly', y2, fun postY h => br_f h8 (br_t ee (nm_r (nI_1 i) (y3 postY h)))⟩
      · exact Or.inr ⟨y1, Ly', fun postY h => br_f h8 (br_t ee (nm_r (nI_1 i) (y3 postY h)))⟩
    · have ee : ¬ nI i = nI e := zz_en (by omega) (by omega) ei
      by_cases hb : bt x2 i = true
      · have bX := (zz_bx x2 (i := i) (by omega)).mpr hb
        have bY : ¬ (x2 &&& ((1 : Int32) <<< (nI i &&& 31))) = 0 := fun z => by have := (zz_by x2 (i := i) (by omega)).mp z; rw [hb] at this; exact absurd this (by decide)
        have hn : n < 8 := by
          by_cases z : e < i
          · have := n3 z; omega
          · omega
        have hv : vp_in (nI n) 8 := vp_in_nI hn (by decide)
        have hw : vp_in (nI i) 8 := vp_in_nI (by omega) (by decide)
        have es : zz_n S (nI i).toNatClampNeg = nI (S i) := zz_rd S i (by omega)
        have hS5 := hS i (by omega)
        obtain ⟨n', L', r1, r2, r3, r4, r5, r6, kX, kY⟩ := ih (i + 1) (by omega) (n + 1) (zz_u L n i) (zz_u Ly n i) (by omega) (by omega) (fun z => by have := n3 (by omega); omega) (by rw [zz_un (by omega)]; exact l0)
          (fun k a b => by
            by_cases z : k = n
            · rw [zz_us' z]; exact ⟨by omega, ei⟩
            · rw [zz_un z]; exact ⟨by have := (l1 k a (by omega)).1; omega, (l1 k a (by omega)).2⟩)
          (fun a a' x1 x2 x3 => by
            by_cases z : a' = n
            · rw [zz_us' z, zz_un (show a ≠ n by omega)]
              exact (l1 a x1 (by omega)).1
            · rw [zz_un z, zz_un (show a ≠ n by omega)]
              exact l2 a a' x1 x2 (by omega))
          (fun k hk => by
            by_cases z : k = n
            · rw [zz_us' z, zz_us' z]
            · rw [zz_un z, zz_un z]; exact l3 k (by omega))
        have eLn : L' n = i := by rw [r6 n (by omega), zz_us]
        refine ⟨n', L', by omega, r2, r3, r4, r5, fun k hk => by rw [r6 k (by omega), zz_un (by omega)], fun post h => br_f h8 (br_f ee (br_t bX (And.intro hv (nm_r (zz_wr L (by omega)) (nm_r (nI_1 n) (nm_r (nI_1 i) (kX post h))))))), ?_⟩
        by_cases hS2 : S i = 2
        · have e2 : zz_n S (nI i).toNatClampNeg = 2 := by rw [es, hS2]; rfl
          rcases kY with ⟨y1, Ly', y2, y3⟩ | ⟨⟨k, y0, y1, y2⟩, Ly', y3⟩
          · refine Or.inl ⟨fun k a b => ?_, Ly', y2, fun postY h => br_f h8 (br_f ee (br_f bY (And.intro hw (br_t e2 (And.intro hv (nm_r (zz_wr Ly (by omega)) (nm_r (nI_1 n) (nm_r (nI_1 i) (y3 postY h)))))))))⟩
            by_cases z : k = n
            · rw [z, eLn]; exact hS2
            · exact y1 k (by omega) b
          · exact Or.inr ⟨⟨k, by omega, y1, y2⟩, Ly', fun postY h => br_f h8 (br_f ee (br_f bY (And.intro hw (br_t e2 (And.intro hv (nm_r (zz_wr Ly (by omega)) (nm_r (nI_1 n) (nm_r (nI_1 i) (y3 postY h)))))))))⟩
        · have e2 : ¬ zz_n S (nI i).toNatClampNeg = 2 := by rw [es]; exact zz_en (n := 2) (by omega) (by decide) hS2
          exact Or.inr ⟨⟨n, by omega, by omega, by rw [eLn]; exact hS2⟩, Ly, fun postY h => br_f h8 (br_f ee (br_f bY (And.intro hw (br_f e2 h))))⟩
      · have hb' : bt x2 i = false := by revert hb; cases bt x2 i <;> decide
        have bX : ¬ ((x2 >>> (nI i &&& 31)) &&& 1) = 1 := fun z => hb ((zz_bx x2 (i := i) (by omega)).mp z)
        have bY := (zz_by x2 (i := i) (by omega)).mpr hb'
        obtain ⟨n', L', r1, r2, r3, r4, r5, r6, kX, kY⟩ := ih (i + 1) (by omega) n L Ly n1 (by omega) (fun z => by have := n3 (by omega); omega) l0 (fun k a b => ⟨by have := (l1 k a b).1; omega, (l1 k a b).2⟩) l2 l3
        refine ⟨n', L', r1, r2, r3, r4, r5, r6, fun post h => br_f h8 (br_f ee (br_f bX (nm_r (nI_1 i) (kX post h)))), ?_⟩
        rcases kY with ⟨y1, Ly', y2, y3⟩ | ⟨y1, Ly', y3⟩
        · exact Or.inl ⟨y1, Ly', y2, fun postY h => br_f h8 (br_f ee (br_t bY (nm_r (nI_1 i) (y3 postY h))))⟩
        · exact Or.inr ⟨y1, Ly', fun postY h => br_f h8 (br_f ee (br_t bY (nm_r (nI_1 i) (y3 postY h))))⟩
theorem zx_43 {post : Int32 → SX → Prop} {n : Nat} (hn : n ≤ 8) (hL : ∀ i, i < n → L i < 8) (hS : ∀ p, p < 8 → S p ≤ 5) : ∀ d i, i + d = n → ((∀ k, i ≤ k → k < n → S (L k) = 2) → wX_boot_43 post (nI n) (nI tl) (nI ml) (nI sl) cu (nI b) (nI c) (lN g) (zz_n S) (zz_n B) (zz_n A) (zz_n N) im sy (zz_n sm) (zz_n sn) (zz_n sa) (zz_n so) (zz_n T) (zz_n C) (zz_n R) (zz_n Q) tp (zz_n L) (zz_n F) (zz_n M) ow (zz_l G) (zz_n rn) ins pc ac (zz_l D) dt me 1 (nI n)) → ((∃ k, i ≤ k ∧ k < n ∧ S (L k) ≠ 2) → post (-2) ((nI tl), (nI ml), (nI sl), cu, (nI b), (nI c), (lN g), (zz_n S), (zz_n B), (zz_n A), (zz_n N), im, sy, (zz_n sm), (zz_n sn), (zz_n sa), (zz_n so), (zz_n T), (zz_n C), (zz_n R), (zz_n Q), tp, (zz_n L), (zz_n F), (zz_n M), ow, (zz_l G), (zz_n rn), ins, pc, ac, (zz_l D), dt, me)) → wX_boot_43 post (nI n) (nI tl) (nI ml) (nI sl) cu (nI b) (nI c) (lN g) (zz_n S) (zz_n B) (zz_n A) (zz_n N) im sy (zz_n sm) (zz_n sn) (zz_n sa) (zz_n so) (zz_n T) (zz_n C) (zz_n R) (zz_n Q) tp (zz_n L) (zz_n F) (zz_n M) ow (zz_l G) (zz_n rn) ins pc ac (zz_l D) dt me (d + 1) (nI i) := by
  intro d
  induction d with
  | zero =>
    intro i hd k1 k2
    obtain rfl : i = n := by omega
    exact k1 (fun k a b => by omega)
  | succ d ih =>
    intro i hd k1 k2
    have hl := hL i (by omega)
    have hS5 := hS _ hl
    refine br_f (nI_ge (by omega) (by omega)) (And.intro (vp_in_nI (by omega) (by decide)) ?_)
    rw [zz_rd L i (by omega), zz_rd S (L i) (by omega)]
    refine And.intro (vp_in_nI hl (by decide)) (pk_eq (S (L i)) 2 (fun e => nm_r (nI_1 i) (ih (i + 1) (by omega) (fun h => k1 (fun k a b => ?_)) (fun ⟨k, a, b, h⟩ => k2 ⟨k, by omega, b, h⟩))) (fun e => k2 ⟨i, by omega, by omega, e⟩))
    by_cases z : k = i
    · rw [z]; exact e
    · exact h k (by omega) b
theorem zq_88 {n : Nat} (hn : n ≤ 8) (hL : ∀ i, i < n → L i < 8 ∧ Ly i = L i) (hinj : ∀ i j, i < n → j < n → L i = L j → i = j) (hO : zz_O S B A N im) (hY : zz_Y sy) (hT : zz_T sm sn sa so) (hK : ∀ i, i < n → ∀ s, s < N (L i) → sm (L i * 8 + s) = 1 → sy (L i * 8 + sn (L i * 8 + s)) ≠ -1) :
    ∀ d i, i + d = n → ∀ T C : Nat → Nat, (∀ i', i' < i → ∀ s, s < N (L i') → zz_ok n S B L sm sn T C sy (L i') (L i' * 8 + s)) → ∃ (code : Int32) (T' C' : Nat → Nat), (code = 0 → ∀ i', i' < n → ∀ s, s < N (L i') → zz_ok n S B L sm sn T' C' sy (L i') (L i' * 8 + s))
      ∧ (∀ post : Int32 → SX → Prop, (code = 0 → wX_boot_88 post (nI n) 1 (nI n) (nI tl) (nI ml) (nI sl) cu (nI b) (nI c) (lN g) (zz_n S) (zz_n B) (zz_n A) (zz_n N) im sy (zz_n sm) (zz_n sn) (zz_n sa) (zz_n so) (zz_n T') (zz_n C') (zz_n R) (zz_n Q) tp (zz_n L) (zz_n F) (zz_n M) ow (zz_l G) (zz_n rn) ins pc ac (zz_l D) dt me) → (code ≠ 0 → post code ((nI tl), (nI ml), (nI sl), cu, (nI b), (nI c), (lN g), (zz_n S), (zz_n B), (zz_n A), (zz_n N), im, sy, (zz_n sm), (zz_n sn), (zz_n sa), (zz_n so), (zz_n T'), (zz_n C'), (zz_n R), (zz_n Q), tp, (zz_n L), (zz_n F), (zz_n M), ow, (zz_l G), (zz_n rn), ins, pc, ac, (zz_l D), dt, me)) → wX_boot_88 post (nI n) (d + 1) (nI i) (nI tl) (nI ml) (nI sl) cu (nI b) (nI c) (lN g) (zz_n S) (zz_n B) (zz_n A) (zz_n N) im sy (zz_n sm) (zz_n sn) (zz_n sa) (zz_n so) (zz_n T) (zz_n C) (zz_n R) (zz_n Q) tp (zz_n L) (zz_n F) (zz_n M) ow (zz_l G) (zz_n rn) ins pc ac (zz_l D) dt me)
      ∧ (∀ postY : Int32 → SY → Prop, (code = 0 → wY_boot_114 postY (nI n) 1 (nI n) (nI c) cu (nI b) (nI tl) (nI ml) (nI sl) (zz_n S) (zz_n B) (zz_n A) (zz_n N) (zz_n Fy) im sy (zz_n sm) (zz_n sn) (zz_n sa) (zz_n so) (zz_n T') (zz_n C') (zz_n Ly) (zz_n rn) ay io (zz_n si) bl) → (code ≠ 0 → postY code ((nI c), cu, (nI b), (nI tl), (nI ml), (nI sl), (zz_n S), (zz_n B), (zz_n A), (zz_n N), (zz_n Fy), im, sy, (zz_n sm), (zz_n sn), (zz_n sa), (zz_n so), (zz_n T'), (zz_n C'), (zz_n Ly), (zz_n rn), ay, io, (zz_n si), bl)) → wY_boot_114 postY (nI n) (d + 1) (nI i) (nI c) cu (nI b) (nI tl) (nI ml) (nI sl) (zz_n S) (zz_n B) (zz_n A) (zz_n N) (zz_n Fy) im sy (zz_n sm) (zz_n sn) (zz_n sa) (zz_n so) (zz_n T) (zz_n C) (zz_n Ly) (zz_n rn) ay io (zz_n si) bl) := by
  intro d
  induction d with
  | zero =>
    intro i hd T C hok
    obtain rfl : i = n := by omega
    exact ⟨0, T, C, fun _ => hok, fun post h _ => h rfl, fun postY h _ => h rfl⟩
  | succ d ih =>
    intro i hd T C hok
    obtain ⟨l1, l2⟩ := hL i (by omega)
    have hge : ¬ nI n ≤ nI i := nI_ge (by omega) (by omega)
    have hv : vp_in (nI i) 8 := vp_in_nI (by omega) (by decide)
    have hNi := (hO _ l1).2.2.2.1
    obtain ⟨code, T1, C1, f1, f2, lX, lY⟩ := zq_bo (tl := tl) (ml := ml) (sl := sl) (b := b) (c := c) (g := g) (cu := cu) (S := S) (B := B) (A := A) (N := N) (sm := sm) (sn := sn) (sa := sa) (so := so) (T := T) (C := C) (R := R) (Q := Q) (L := L) (F := F) (M := M) (G := G) (rn := rn) (D := D) (im := im) (sy := sy) (tp := tp) (ow := ow) (ins := ins) (pc := pc) (ac := ac) (dt := dt) (me := me) (Fy := Fy) (Ly := Ly) (si := si) (ay := ay) (io := io) (bl := bl) (len := n) (o := L i) l1 hn hL hO hY hT (fun s hs => hK i (by omega) s hs) (N (L i)) 0 (by omega)
    have sX : ∀ post : Int32 → SX → Prop, (code = 0 → wX_boot_88 post (nI n) (d + 1) (nI (i + 1)) (nI tl) (nI ml) (nI sl) cu (nI b) (nI c) (lN g) (zz_n S) (zz_n B) (zz_n A) (zz_n N) im sy (zz_n sm) (zz_n sn) (zz_n sa) (zz_n so) (zz_n T1) (zz_n C1) (zz_n R) (zz_n Q) tp (zz_n L) (zz_n F) (zz_n M) ow (zz_l G) (zz_n rn) ins pc ac (zz_l D) dt me) → (code ≠ 0 → post code ((nI tl), (nI ml), (nI sl), cu, (nI b), (nI c), (lN g), (zz_n S), (zz_n B), (zz_n A), (zz_n N), im, sy, (zz_n sm), (zz_n sn), (zz_n sa), (zz_n so), (zz_n T1), (zz_n C1), (zz_n R), (zz_n Q), tp, (zz_n L), (zz_n F), (zz_n M), ow, (zz_l G), (zz_n rn), ins, pc, ac, (zz_l D), dt, me)) → wX_boot_88 post (nI n) (d + 1 + 1) (nI i) (nI tl) (nI ml) (nI sl) cu (nI b) (nI c) (lN g) (zz_n S) (zz_n B) (zz_n A) (zz_n N) im sy (zz_n sm) (zz_n sn) (zz_n sa) (zz_n so) (zz_n T) (zz_n C) (zz_n R) (zz_n Q) tp (zz_n L) (zz_n F) (zz_n M) ow (zz_l G) (zz_n rn) ins pc ac (zz_l D) dt me := by
      intro post q1 q2
      refine br_f hge (And.intro hv ?_)
      rw [zz_rd L i (by omega)]
      exact ⟨N (L i) + 1, lX _ (br_c (fun z => nm_r (nI_1 i) (q1 z)) (fun z => q2 z))⟩
    have sY : ∀ postY : Int32 → SY → Prop, (code = 0 → wY_boot_114 postY (nI n) (d + 1) (nI (i + 1)) (nI c) cu (nI b) (nI tl) (nI ml) (nI sl) (zz_n S) (zz_n B) (zz_n A) (zz_n N) (zz_n Fy) im sy (zz_n sm) (zz_n sn) (zz_n sa) (zz_n so) (zz_n T1) (zz_n C1) (zz_n Ly) (zz_n rn) ay io (zz_n si) bl) → (code ≠ 0 → postY code ((nI c), cu, (nI b), (nI tl), (nI ml), (nI sl), (zz_n S), (zz_n B), (zz_n A), (zz_n N), (zz_n Fy), im, sy, (zz_n sm), (zz_n sn), (zz_n sa), (zz_n so), (zz_n T1), (zz_n C1), (zz_n Ly), (zz_n rn), ay, io, (zz_n si), bl)) → wY_boot_114 postY (nI n) (d + 1 + 1) (nI i) (nI c) cu (nI b) (nI tl) (nI ml) (nI sl) (zz_n S) (zz_n B) (zz_n A) (zz_n N) (zz_n Fy) im sy (zz_n sm) (zz_n sn) (zz_n sa) (zz_n so) (zz_n T) (zz_n C) (zz_n Ly) (zz_n rn) ay io (zz_n si) bl := by
      intro postY q1 q2
      refine br_f hge (And.intro hv ?_)
      rw [zz_rd Ly i (by omega), l2]
      refine nm_r (zz_m8 (L i)) ⟨N (L i) + 1, lY _ ?_⟩
      exact br_c (fun z => nm_r (nI_1 i) (q1 z)) (fun z => q2 z)
    by_cases hc : code = 0
    · obtain ⟨code', T', C', g1, g2, g3⟩ := ih (i + 1) (by omega) T1 C1 (fun i' hi' s hs => by
        by_cases z : i' = i
        · subst z
          exact f2 hc s (by omega) hs
        · have hne : L i' ≠ L i := fun y => z (hinj i' i (by omega) (by omega) y)
          have hN' := (hO _ (hL i' (by omega)).1).2.2.2.1
          obtain ⟨e1, e2⟩ := f1 (L i' * 8 + s) (by omega)
          have := hok i' (by omega) s hs
          unfold zz_ok at this ⊢
          rw [e1, e2]
          exact this)
      exact ⟨code', T', C', g1, fun post q1 q2 => sX post (fun _ => g2 post q1 q2) (fun z => absurd hc z), fun postY q1 q2 => sY postY (fun _ => g3 postY q1 q2) (fun z => absurd hc z)⟩
    · exact ⟨code, T1, C1, fun z => absurd z hc, fun post q1 q2 => sX post (fun z => absurd z hc) q2, fun postY q1 q2 => sY postY (fun z => absurd z hc) q2⟩
theorem zq_plc {n : Nat} (hn : n ≤ 6) (hL : ∀ i, i < n → L i < 8 ∧ Ly i = L i) (hinj : ∀ i j, i < n → j < n → L i = L j → i = j) (hO : zz_O S B A N im) :
    ∀ d i, i + d = n → ∀ (x0 : Nat) (F Fy : Nat → Nat), x0 ≤ 11 * i → (∀ k, k < i → Fy (L k) = F (L k) ∧ B (L k) ≤ F (L k) ∧ F (L k) ≤ x0) → (∀ k l, k < l → l < i → F (L k) + B (L l) ≤ F (L l)) →
    ∃ (x : Nat) (F' Fy' : Nat → Nat), x ≤ 11 * n ∧ (∀ k, k < n → Fy' (L k) = F' (L k) ∧ B (L k) ≤ F' (L k) ∧ F' (L k) ≤ x) ∧ (∀ k l, k < l → l < n → F' (L k) + B (L l) ≤ F' (L l))
      ∧ (∀ post : Int32 → SX → Prop, post (nI x) ((nI tl), (nI ml), (nI sl), cu, (nI b), (nI c), (lN g), (zz_n S), (zz_n B), (zz_n A), (zz_n N), im, sy, (zz_n sm), (zz_n sn), (zz_n sa), (zz_n so), (zz_n T), (zz_n C), (zz_n R), (zz_n Q), tp, (zz_n L), (zz_n F'), (zz_n M), ow, (zz_l G), (zz_n rn), ins, pc, ac, (zz_l D), dt, me) → wX_placeStartup_4 post (nI n) (nI tl) (nI ml) (nI sl) cu (nI b) (nI c) (lN g) (d + 1) (nI x0) (nI i) (zz_n S) (zz_n B) (zz_n A) (zz_n N) im sy (zz_n sm) (zz_n sn) (zz_n sa) (zz_n so) (zz_n T) (zz_n C) (zz_n R) (zz_n Q) tp (zz_n L) (zz_n F) (zz_n M) ow (zz_l G) (zz_n rn) ins pc ac (zz_l D) dt me)
      ∧ (∀ postY : Int32 → SY → Prop, wY_boot_154 postY (nI n) (nI c) cu (nI b) (nI tl) (nI ml) (nI sl) 1 (nI x) (nI n) (zz_n S) (zz_n B) (zz_n A) (zz_n N) (zz_n Fy') im sy (zz_n sm) (zz_n sn) (zz_n sa) (zz_n so) (zz_n T) (zz_n C) (zz_n Ly) (zz_n rn) ay io (zz_n si) bl → wY_boot_154 postY (nI n) (nI c) cu (nI b) (nI tl) (nI ml) (nI sl) (d + 1) (nI x0) (nI i) (zz_n S) (zz_n B) (zz_n A) (zz_n N) (zz_n Fy) im sy (zz_n sm) (zz_n sn) (zz_n sa) (zz_n so) (zz_n T) (zz_n C) (zz_n Ly) (zz_n rn) ay io (zz_n si) bl) := by
  intro d
  induction d with
  | zero =>
    intro i hd x0 F Fy h0 h1 h2
    obtain rfl : i = n := by omega
    exact ⟨x0, F, Fy, h0, h1, h2, fun post h => br_t (nI_le (by omega) (by omega)) h, fun postY h => h⟩
  | succ d ih =>
    intro i hd x0 F Fy h0 h1 h2
    obtain ⟨l1, l2⟩ := hL i (by omega)
    obtain ⟨_, b8, hA, _, _⟩ := hO _ l1
    have hub := zz_ub (v := x0 + B (L i)) hA
    have hge : ¬ nI n ≤ nI i := nI_ge (by omega) (by omega)
    have hv : vp_in (nI i) 8 := vp_in_nI (by omega) (by decide)
    have hw : vp_in (nI (L i)) 8 := vp_in_nI l1 (by decide)
    have hne : ∀ k, k < i → L k ≠ L i := fun k hk y => by have := hinj k i (by omega) (by omega) y; omega
    obtain ⟨x, F', Fy', g0, g1, g2, kX, kY⟩ := ih (i + 1) (by omega) (zz_up (x0 + B (L i)) (A (L i))) (zz_u F (L i) (zz_up (x0 + B (L i)) (A (L i)))) (zz_u Fy (L i) (zz_up (x0 + B (L i)) (A (L i)))) (by omega)
      (fun k hk => by
        by_cases z : k = i
        · subst z
          rw [zz_us, zz_us]
          exact ⟨rfl, by omega, by omega⟩
        · have := h1 k (by omega)
          rw [zz_un (hne k (by omega)), zz_un (hne k (by omega))]
          exact ⟨this.1, this.2.1, by omega⟩)
      (fun k l hkl hl => by
        by_cases z : l = i
        · subst z
          have := h1 k hkl
          rw [zz_us, zz_un (hne k hkl)]
          omega
        · rw [zz_un (hne k (by omega)), zz_un (hne l (by omega))]
          exact h2 k l hkl (by omega))
    refine ⟨x, F', Fy', g0, g1, g2, fun post h => ?_, fun postY h => ?_⟩
    · refine br_f hge (And.intro hv (nm_r (zz_rd L i (by omega)) (And.intro hw (And.intro hw ?_))))
      rw [zz_rd B (L i) (by omega), zz_rd A (L i) (by omega), nI_add]
      exact zx_up hA (by omega) (And.intro hw (nm_r (zz_wr F (by omega)) (nm_r (nI_1 i) (kX post h))))
    · refine br_f hge (And.intro hv ?_)
      rw [zz_rd Ly i (by omega), l2, zz_rd B (L i) (by omega), zz_rd A (L i) (by omega), nI_add]
      exact And.intro hw (And.intro hv (And.intro hw (zy_up hA (by omega) (And.intro hv (And.intro hw (nm_r (zz_wr Fy (by omega)) (nm_r (nI_1 i) (kY postY h))))))))
end ZB1
end
section
section ZB2
/-! boot: completing -/
variable {tl ml sl b c g : Nat} {cu : Int32} {S B A N sm sn sa so T C R Q L F M G rn D Fy Ly si : Nat → Nat} {im sy tp ow ins pc ac dt me ay io bl : Nat → Int32}
def zz_s5 (S L : Nat → Nat) : Nat → Nat → Nat
  | 0 => S
  | i + 1 => zz_u (zz_s5 S L i) (L i) 5
theorem zz_s5i : ∀ n k, k < n → zz_s5 S L n (L k) = 5 := by
  intro n
  induction n with
  | zero => intro k h; omega
  | succ n ih =>
    intro k h
    show zz_u (zz_s5 S L n) (L n) 5 (L k) = 5
    by_cases e : L k = L n
    · exact zz_us' e
    · rw [zz_un e]
      refine ih k ?_
      by_cases y : k = n
      · subst y; exact absurd rfl e
      · omega
theorem zz_s5o {p : Nat} : ∀ n, (∀ k, k < n → L k ≠ p) → zz_s5 S L n p = S p := by
  intro n
  induction n with
  | zero => intro _; rfl
  | succ n ih =>
    intro h
    show zz_u (zz_s5 S L n) (L n) 5 p = S p
    rw [zz_un (fun y => h n (by omega) y.symm)]
    exact ih (fun k hk => h k (by omega))
theorem zz_s5c {L' : Nat → Nat} : ∀ n, (∀ k, k < n → L' k = L k) → zz_s5 S L' n = zz_s5 S L n := by
  intro n
  induction n with
  | zero => intro _; rfl
  | succ n ih =>
    intro h
    show zz_u (zz_s5 S L' n) (L' n) 5 = zz_u (zz_s5 S L n) (L n) 5
    rw [ih (fun k hk => h k (by omega)), h n (by omega)]
theorem zx_cb2 {post : SX → Prop} {n : Nat} (hn : n ≤ 6) (hL : ∀ i, i < n → L i < 8) (hinj : ∀ i j, i < n → j < n → L i = L j → i = j)
    (k : ∀ (M' G' : Nat → Nat) (ow' : Nat → Int32), (∀ k, k < n → M' (L k) = k ∧ ow' k = nI (L k)) → (∀ m, n ≤ m → m < 6 → ow' m = -1) → (∀ m, m < 6 → G' m ≤ g + n) → ∃ n42, wX_completeBoot_42 post (nI n) n42 0 (nI tl) (nI ml) (nI sl) cu (nI b) (nI n) (lN (g + n)) (zz_n (zz_s5 S L n)) (zz_n B) (zz_n A) (zz_n N) im sy (zz_n sm) (zz_n sn) (zz_n sa) (zz_n so) (zz_n T) (zz_n C) (zz_n R) (zz_n Q) tp (zz_n L) (zz_n F) (zz_n M') (ow') (zz_l G') (zz_n rn) ins pc ac (zz_l D) dt me) :
    ∀ d i, i + d = n → ∀ (M1 G1 : Nat → Nat) (ow1 : Nat → Int32), (∀ k, k < i → M1 (L k) = k ∧ ow1 k = nI (L k)) → (∀ m, i ≤ m → m < 6 → ow1 m = -1) → (∀ m, m < 6 → G1 m ≤ g + i) → wX_completeBoot_2 post (nI n) (d + 1) (nI i) (nI tl) (nI ml) (nI sl) cu (nI b) (nI c) (lN (g + i)) (zz_n (zz_s5 S L i)) (zz_n B) (zz_n A) (zz_n N) im sy (zz_n sm) (zz_n sn) (zz_n sa) (zz_n so) (zz_n T) (zz_n C) (zz_n R) (zz_n Q) tp (zz_n L) (zz_n F) (zz_n M1) ow1 (zz_l G1) (zz_n rn) ins pc ac (zz_l D) dt me := by
  intro d
  induction d with
  | zero =>
    intro i hd M1 G1 ow1 h1 h2 h3
    obtain rfl : i = n := by omega
    exact br_t (nI_le (by omega) (by omega)) (k M1 G1 ow1 h1 h2 h3)
  | succ d ih =>
    intro i hd M1 G1 ow1 h1 h2 h3
    have hl := hL i (by omega)
    have hv : vp_in (nI i) 8 := vp_in_nI (by omega) (by decide)
    refine br_f (nI_ge (by omega) (by omega)) (And.intro hv ?_)
    rw [zz_rd L i (by omega)]
    refine And.intro (vp_in_nI hl (by decide)) (nm_r (e' := zz_n (zz_s5 S L (i + 1))) (zz_wr (v := 5) (zz_s5 S L i) (by omega)) (And.intro hv ?_))
    refine zx_inst hl (by omega) (h2 i (by omega) (by omega)) (fun j hj => by rw [(h1 j hj).2]; exact nI_pos' (by have := hL j (by omega); omega)) (nm_r (nI_1 i) ?_)
    refine ih (i + 1) (by omega) (zz_u M1 (L i) i) (zz_u G1 i (g + i + 1)) (upd ow1 i (nI (L i))) (fun k hk => ?_) (fun m hm hm6 => ?_) (fun m hm => ?_)
    · by_cases z : k = i
      · subst z; exact ⟨zz_us, pk_us⟩
      · have hne : L k ≠ L i := fun y => z (hinj k i (by omega) (by omega) y)
        rw [zz_un hne, pk_un z]
        exact h1 k (by omega)
    · rw [pk_un (by omega)]
      exact h2 m (by omega) hm6
    · by_cases z : m = i
      · rw [zz_us' z]; omega
      · rw [zz_un z]
        have := h3 m hm
        omega
theorem zx_cb42 {post : SX → Prop} {n : Nat} (hn : n ≤ 6) (n0 : 0 < n) (hL : ∀ i, i < n → L i < 8 ∧ N (L i) ≤ 8 ∧ ∀ s, s < N (L i) → T (L i * 8 + s) < 8 ∧ S (T (L i * 8 + s)) ≤ 5) (hinj : ∀ i j, i < n → j < n → L i = L j → i = j)
    (k : ∀ (R' Q' : Nat → Nat) (tp' : Nat → Int32), (∀ k, k < n → ∀ s, s < N (L k) → R' (L k * 8 + s) = zz_ch (L 0) S (L k) (T (L k * 8 + s)) ∧ Q' (L k * 8 + s) = M (T (L k * 8 + s)) ∧ tp' (L k * 8 + s) = nI (C (L k * 8 + s)) - nI (F (T (L k * 8 + s)))) → wX_completeBoot_42 post (nI n) 1 (nI n) (nI tl) (nI ml) (nI sl) cu (nI b) (nI c) (lN g) (zz_n S) (zz_n B) (zz_n A) (zz_n N) im sy (zz_n sm) (zz_n sn) (zz_n sa) (zz_n so) (zz_n T) (zz_n C) (zz_n R') (zz_n Q') (tp') (zz_n L) (zz_n F) (zz_n M) ow (zz_l G) (zz_n rn) ins pc ac (zz_l D) dt me) :
    ∀ d i, i + d = n → ∀ (R1 Q1 : Nat → Nat) (tp1 : Nat → Int32), (∀ k, k < i → ∀ s, s < N (L k) → R1 (L k * 8 + s) = zz_ch (L 0) S (L k) (T (L k * 8 + s)) ∧ Q1 (L k * 8 + s) = M (T (L k * 8 + s)) ∧ tp1 (L k * 8 + s) = nI (C (L k * 8 + s)) - nI (F (T (L k * 8 + s)))) → wX_completeBoot_42 post (nI n) (d + 1) (nI i) (nI tl) (nI ml) (nI sl) cu (nI b) (nI c) (lN g) (zz_n S) (zz_n B) (zz_n A) (zz_n N) im sy (zz_n sm) (zz_n sn) (zz_n sa) (zz_n so) (zz_n T) (zz_n C) (zz_n R1) (zz_n Q1) tp1 (zz_n L) (zz_n F) (zz_n M) ow (zz_l G) (zz_n rn) ins pc ac (zz_l D) dt me := by
  intro d
  induction d with
  | zero =>
    intro i hd R1 Q1 tp1 h1
    obtain rfl : i = n := by omega
    exact k R1 Q1 tp1 h1
  | succ d ih =>
    intro i hd R1 Q1 tp1 h1
    obtain ⟨l1, l2, l3⟩ := hL i (by omega)
    refine br_f (nI_ge (by omega) (by omega)) (And.intro (vp_in_nI (by omega) (by decide)) ?_)
    rw [zz_rd L i (by omega)]
    refine zx_rel l1 (hL 0 n0).1 l2 l3 (nm_r (nI_1 i) ?_)
    refine ih (i + 1) (by omega) _ _ _ (fun k hk s hs => ?_)
    by_cases z : k = i
    · subst z
      exact ⟨zz_qi hs, zz_qi hs, zz_ri hs⟩
    · have hne : L k ≠ L i := fun y => z (hinj k i (by omega) (by omega) y)
      have := (hL k (by omega)).2.1
      rw [zz_qo (by omega), zz_qo (by omega), zz_ro (by omega)]
      exact h1 k (by omega) s hs
theorem zy_228 {post : Int32 → SY → Prop} {n : Nat} (hn : n ≤ 6) (hL : ∀ i, i < n → Ly i < 8) (k : wY_boot_228 post (nI n) (nI c) cu (nI b) (nI tl) (nI ml) (nI sl) 1 (nI n) (zz_n (zz_s5 S Ly n)) (zz_n B) (zz_n A) (zz_n N) (zz_n Fy) im sy (zz_n sm) (zz_n sn) (zz_n sa) (zz_n so) (zz_n T) (zz_n C) (zz_n Ly) (zz_n rn) ay io (zz_n si) bl) :
    ∀ d i, i + d = n → wY_boot_228 post (nI n) (nI c) cu (nI b) (nI tl) (nI ml) (nI sl) (d + 1) (nI i) (zz_n (zz_s5 S Ly i)) (zz_n B) (zz_n A) (zz_n N) (zz_n Fy) im sy (zz_n sm) (zz_n sn) (zz_n sa) (zz_n so) (zz_n T) (zz_n C) (zz_n Ly) (zz_n rn) ay io (zz_n si) bl := by
  intro d
  induction d with
  | zero =>
    intro i hd
    obtain rfl : i = n := by omega
    exact k
  | succ d ih =>
    intro i hd
    have hl := hL i (by omega)
    refine br_f (nI_ge (by omega) (by omega)) (And.intro (vp_in_nI (by omega) (by decide)) ?_)
    rw [zz_rd Ly i (by omega)]
    exact And.intro (vp_in_nI hl (by decide)) (nm_r (e' := zz_n (zz_s5 S Ly (i + 1))) (zz_wr (v := 5) (zz_s5 S Ly i) (by omega)) (nm_r (nI_1 i) (ih (i + 1) (by omega))))
theorem zp_btF {T2 C2 L2 Ly2 F2 Fy2 : Nat → Nat} (hb : b = 0) (hO : zz_O S B A N im) (hz : zz_Z b c g S B N sm T C R Q L F M G rn D Fy Ly si im tp ow ins pc ac dt me ay io bl) : zz_Z b c g S B N sm T2 C2 R Q L2 F2 M G rn D Fy2 Ly2 si im tp ow ins pc ac dt me ay io bl := by
  have hc : c = 0 := hz.1.2.2.2.1 hb
  refine zz_cg (A := A) hO (fun p hp => Or.inl rfl) (fun p hp hl => ?_) (fun i hi => by omega) hz
  obtain ⟨i, hi, _⟩ := hz.1.2.2.1 p hp hl
  omega
theorem zp_boot {n e x : Nat} {T2 C2 R' Q' L2 F2 M' G' Fy2 Ly2 : Nat → Nat} {tp' ow' : Nat → Int32} (hb : b = 0) (n1 : 1 ≤ n) (n6 : n ≤ 6) (he : L2 0 = e) (he8 : e < 8) (hSe : S e = 1)
    (hL : ∀ k, 1 ≤ k → k < n → L2 k < 8 ∧ L2 k ≠ e) (hinj : ∀ i j, i < n → j < n → L2 i = L2 j → i = j) (hS2 : ∀ k, 1 ≤ k → k < n → S (L2 k) = 2) (hLy : ∀ k, k < n → Ly2 k = L2 k)
    (hok : ∀ i, i < n → ∀ s, s < N (L2 i) → zz_ok n S B L2 sm sn T2 C2 sy (L2 i) (L2 i * 8 + s))
    (hx : x ≤ 32) (hF1 : ∀ k, k < n → Fy2 (L2 k) = F2 (L2 k) ∧ B (L2 k) ≤ F2 (L2 k) ∧ F2 (L2 k) ≤ x) (hF2 : ∀ k l, k < l → l < n → F2 (L2 k) + B (L2 l) ≤ F2 (L2 l))
    (hM1 : ∀ k, k < n → M' (L2 k) = k ∧ ow' k = nI (L2 k)) (hM2 : ∀ m, n ≤ m → m < 6 → ow' m = -1) (hG : ∀ m, m < 6 → G' m ≤ g + n)
    (hR : ∀ k, k < n → ∀ s, s < N (L2 k) → R' (L2 k * 8 + s) = zz_ch (L2 0) (zz_s5 S L2 n) (L2 k) (T2 (L2 k * 8 + s)) ∧ Q' (L2 k * 8 + s) = M' (T2 (L2 k * 8 + s)) ∧ tp' (L2 k * 8 + s) = nI (C2 (L2 k * 8 + s)) - nI (F2 (T2 (L2 k * 8 + s))))
    (h2 : zz_N cu S B A N sm sn sa so im sy) (hz : zz_Z b c g S B N sm T C R Q L F M G rn D Fy Ly si im tp ow ins pc ac dt me ay io bl) :
    zz_N cu (zz_s5 S L2 n) B A N sm sn sa so im sy ∧ zz_Z 1 n (g + n) (zz_s5 S L2 n) B N sm T2 C2 R' Q' L2 F2 M' G' rn D Fy2 Ly2 si im tp' ow' ins pc ac dt me ay io bl := by
  obtain ⟨hO, hY, hT, hK, hC⟩ := h2
  have hc : c = 0 := hz.1.2.2.2.1 hb
  have hnl : ∀ p, p < 8 → S p < 3 := by
    intro p hp
    by_cases h : S p < 3
    · exact h
    · obtain ⟨i, hi, _⟩ := hz.1.2.2.1 p hp (by omega)
      omega
  have hL8 : ∀ k, k < n → L2 k < 8 := by
    intro k hk
    by_cases z : k = 0
    · subst z; omega
    · exact (hL k (by omega) hk).1
  have hSk : ∀ k, k < n → S (L2 k) = 1 ∨ S (L2 k) = 2 := by
    intro k hk
    by_cases z : k = 0
    · subst z; rw [he]; exact Or.inl hSe
    · exact Or.inr (hS2 k (by omega) hk)
  have s5 : ∀ k, k < n → zz_s5 S L2 n (L2 k) = 5 := fun k hk => zz_s5i n k hk
  have sc : ∀ p, p < 8 → (∃ k, k < n ∧ L2 k = p ∧ zz_s5 S L2 n p = 5) ∨ ((∀ k, k < n → L2 k ≠ p) ∧ zz_s5 S L2 n p = S p) := by
    intro p hp
    by_cases h : ∃ k, k < n ∧ L2 k = p
    · obtain ⟨k, hk, e⟩ := h
      exact Or.inl ⟨k, hk, e, by rw [← e]; exact s5 k hk⟩
    · have h' : ∀ k, k < n → L2 k ≠ p := fun k hk e => h ⟨k, hk, e⟩
      exact Or.inr ⟨h', zz_s5o n h'⟩
  have sl : ∀ p, p < 8 → 3 ≤ zz_s5 S L2 n p → ∃ k, k < n ∧ L2 k = p := by
    intro p hp h
    rcases sc p hp with ⟨k, hk, e, _⟩ | ⟨_, e⟩
    · exact ⟨k, hk, e⟩
    · have := hnl p hp; omega
  have hr0 : ∀ t, t < 4 → rn t = 0 := hz.2.2.2.2.2.1.2 hb
  refine ⟨⟨?_, hY, hT, ?_, ?_⟩, ⟨?_, hinj, ?_, fun z => absurd z (by omega), fun _ => ⟨by omega, s5 0 (by omega)⟩⟩, ?_, ⟨?_, ?_⟩, ⟨hG, ?_⟩, ⟨?_, ?_⟩, ⟨?_, fun z => absurd z (by omega)⟩, ?_⟩
  · intro p hp
    obtain ⟨a1, a2⟩ := hO p hp
    refine ⟨?_, a2⟩
    rcases sc p hp with ⟨_, _, _, e⟩ | ⟨_, e⟩
    · omega
    · omega
  · intro p hp hne s hs
    rcases sc p hp with ⟨k, hk, e, e5⟩ | ⟨_, e⟩
    · have := hSk k hk
      rw [e] at this
      exact ⟨(hK p hp (by omega) s hs).1, fun _ => Or.inr e5⟩
    · rw [e] at hne ⊢
      exact hK p hp hne s hs
  · rcases hC with h | ⟨p, hp, e, h0⟩
    · exact Or.inl h
    · refine Or.inr ⟨p, hp, e, ?_⟩
      rcases sc p hp with ⟨k, hk, e', _⟩ | ⟨_, e'⟩
      · have := hSk k hk
        rw [e'] at this
        omega
      · omega
  · intro i hi
    exact ⟨hL8 i hi, by rw [s5 i hi]; omega, hLy i hi⟩
  · intro p hp h3
    exact sl p hp h3
  · intro p hp h3 s hs
    obtain ⟨k, hk, e⟩ := sl p hp h3
    subst e
    obtain ⟨k1, k2, k3, k4, k5, k6⟩ := hok k hk s hs
    obtain ⟨r1, r2, r3⟩ := hR k hk s hs
    have hT5 : zz_s5 S L2 n (T2 (L2 k * 8 + s)) = 5 := by
      rcases k2 with ⟨i, hi, e⟩ | e
      · rw [← e]; exact s5 i hi
      · rw [e]; exact s5 k hk
    refine ⟨k1, by omega, k3, r2, r3, r1, k4, fun _ => by omega, fun z => ⟨?_, by rw [s5 k hk]; omega⟩⟩
    have q := hK (L2 k) hp (by have := hSk k hk; omega) s hs
    have k0 : k = 0 := by
      by_cases y : k = 0
      · exact y
      · have a1 := hS2 k (by omega) hk
        have a2 := q.2 z
        omega
    subst k0
    exact k6 z (by omega) (q.1 (Or.inr z))
  · intro p hp h3
    obtain ⟨k, hk, e⟩ := sl p hp h3
    subst e
    obtain ⟨a1, a2⟩ := hM1 k hk
    rw [a1]
    exact ⟨by omega, a2⟩
  · intro m hm
    by_cases y : m < n
    · exact Or.inr ⟨L2 m, hL8 m y, by rw [s5 m y]; omega, (hM1 m y).1, (hM1 m y).2⟩
    · exact Or.inl (hM2 m (by omega) hm)
  · intro t ht
    have := hz.2.2.2.1.2 t ht
    omega
  · intro p hp h4
    obtain ⟨k, hk, e⟩ := sl p hp (by omega)
    subst e
    obtain ⟨a1, a2, a3⟩ := hF1 k hk
    exact ⟨a1, a2, by omega⟩
  · intro p q hp hq h4 h4' hne
    obtain ⟨i, hi, e⟩ := sl p hp (by omega)
    obtain ⟨j, hj, e'⟩ := sl q hq (by omega)
    subst e e'
    by_cases y : i < j
    · exact Or.inr (hF2 i j y hj)
    · have : i ≠ j := fun z => by subst z; exact hne rfl
      exact Or.inl (hF2 j i (by omega) hi)
  · intro t ht
    have h0 := hr0 t ht
    rcases hz.2.2.2.2.2.1.1 t ht with h | ⟨h, _⟩
    · exact Or.inl h
    · omega
  · intro t ht hr
    have := hr0 t ht
    omega
theorem i_vc_boot {k : Nat} {u : SX} {v : SY} (I : i_Rel k u v) (hk : k + 5 ≤ 2563) (v1 : Int32) (v2 : Int32) : wpX_boot (fun r u' => wpY_boot (fun r' v' => r' = r ∧ i_Rel (k + 5) u' v') v v1 v2) u v1 v2 := by
  refine zz_el (P := fun u v => wpX_boot (fun r u' => wpY_boot (fun r' v' => r' = r ∧ i_Rel (k + 5) u' v') v v1 v2) u v1 v2) ?_ I
  intro tl ml sl b c g cu S B A N sm sn sa so T C R Q L F M G rn D Fy Ly si im sy tp ow ins pc ac dt me ay io bl h1 h2 h3
  have J : i_Rel (k + 5) ((nI tl), (nI ml), (nI sl), cu, (nI b), (nI c), (lN g), (zz_n S), (zz_n B), (zz_n A), (zz_n N), im, sy, (zz_n sm), (zz_n sn), (zz_n sa), (zz_n so), (zz_n T), (zz_n C), (zz_n R), (zz_n Q), tp, (zz_n L), (zz_n F), (zz_n M), ow, (zz_l G), (zz_n rn), ins, pc, ac, (zz_l D), dt, me) ((nI c), cu, (nI b), (nI tl), (nI ml), (nI sl), (zz_n S), (zz_n B), (zz_n A), (zz_n N), (zz_n Fy), im, sy, (zz_n sm), (zz_n sn), (zz_n sa), (zz_n so), (zz_n T), (zz_n C), (zz_n Ly), (zz_n rn), ay, io, (zz_n si), bl) := zz_mk (zz_Bk h1 (by omega)) h2 h3
  have hcm : 2 ≤ tl ∧ c ≤ ml ∧ ml ≤ 6 ∧ sl ≤ 32 ∧ b ≤ 1 := by unfold zz_B at h1; omega
  by_cases hb : b = 0
  rotate_left
  · have hb0 : ¬ nI b = 0 := nI_ne0 (by omega) (by omega)
    exact br_f hb0 (br_f hb0 ⟨rfl, J⟩)
  have hb0 : nI b = 0 := by rw [hb]; rfl
  refine br_t hb0 ?_
  rcases pk_ix v1 (n := 8) (by decide) with h | h | ⟨e, he, rfl⟩
  · exact zx_obj0 (Or.inl h) (br_t rfl (br_t hb0 (br_t h ⟨rfl, J⟩)))
  · exact zx_obj0 (Or.inr h) (br_t rfl (br_t hb0 (br_f (zz_ge0 (n := 8) (by decide) h) (br_f (zz_gt (n := 7) (by decide) h).2.1 ⟨rfl, J⟩))))
  refine zx_obj1 he (br_f zz_10 ?_)
  have hp : ¬ nI e < 0 := nI_pos (by omega)
  have hv : vp_in (nI e) 8 := vp_in_nI he (by decide)
  have hS8 : ∀ p, p < 8 → S p ≤ 5 := fun p hp => (h2.1 p hp).1
  have hS5 := hS8 e he
  have es : zz_n S (nI e).toNatClampNeg = nI (S e) := zz_rd S e (by omega)
  by_cases hS1 : S e = 1
  rotate_left
  · have e1 : ¬ zz_n S (nI e).toNatClampNeg = 1 := by rw [es]; exact zz_en (n := 1) (by omega) (by decide) hS1
    exact And.intro hv (br_f e1 (br_t hb0 (br_f hp (br_t (zz_le7 he) (And.intro hv (br_f e1 ⟨rfl, J⟩))))))
  have e1 : zz_n S (nI e).toNatClampNeg = 1 := by rw [es, hS1]; rfl
  obtain ⟨hO, hY, hT, hK, hC⟩ := id h2
  have J2 : ∀ (T2 C2 L2 Ly2 F2 Fy2 : Nat → Nat), i_Rel (k + 5) ((nI tl), (nI ml), (nI sl), cu, (nI b), (nI c), (lN g), (zz_n S), (zz_n B), (zz_n A), (zz_n N), im, sy, (zz_n sm), (zz_n sn), (zz_n sa), (zz_n so), (zz_n T2), (zz_n C2), (zz_n R), (zz_n Q), tp, (zz_n L2), (zz_n F2), (zz_n M), ow, (zz_l G), (zz_n rn), ins, pc, ac, (zz_l D), dt, me) ((nI c), cu, (nI b), (nI tl), (nI ml), (nI sl), (zz_n S), (zz_n B), (zz_n A), (zz_n N), (zz_n Fy2), im, sy, (zz_n sm), (zz_n sn), (zz_n sa), (zz_n so), (zz_n T2), (zz_n C2), (zz_n Ly2), (zz_n rn), ay, io, (zz_n si), bl) := fun T2 C2 L2 Ly2 F2 Fy2 => zz_mk (zz_Bk h1 (by omega)) h2 (zp_btF (A := A) hb hO h3)
  obtain ⟨n, L2, r1, r2, r3, r4, r5, _, kX, kY⟩ := zq_list (tl := tl) (ml := ml) (sl := sl) (b := b) (c := c) (g := g) (cu := cu) (S := S) (B := B) (A := A) (N := N) (sm := sm) (sn := sn) (sa := sa) (so := so) (T := T) (C := C) (R := R) (Q := Q) (L := (zz_u L 0 e)) (F := F) (M := M) (G := G) (rn := rn) (D := D) (im := im) (sy := sy) (tp := tp) (ow := ow) (ins := ins) (pc := pc) (ac := ac) (dt := dt) (me := me) (Fy := Fy) (Ly := (zz_u Ly 0 e)) (si := si) (ay := ay) (io := io) (bl := bl) (e := e) (x2 := v2) he hS8 8 0 (by omega) (n := 1) (by omega) (by omega) (by omega) zz_us (fun k a b => by omega) (fun a a' x y z => by omega) (fun k hk => by rw [show k = 0 by omega, zz_us, zz_us])
  have hL8 : ∀ i, i < n → L2 i < 8 := by
    intro i hi
    by_cases z : i = 0
    · subst z; omega
    · exact (r4 i (by omega) hi).1
  have hinj : ∀ i j, i < n → j < n → L2 i = L2 j → i = j := by
    intro i j hi hj ee
    by_cases zi : i = 0
    · by_cases zj : j = 0
      · omega
      · subst zi; rw [r3] at ee; exact absurd ee.symm (r4 j (by omega) hj).2
    · by_cases zj : j = 0
      · subst zj; rw [r3] at ee; exact absurd ee (r4 i (by omega) hi).2
      · by_cases y : i < j
        · have := r5 i j (by omega) y hj; omega
        · by_cases y2 : j < i
          · have := r5 j i (by omega) y2 hi; omega
          · omega
  -- the reference's way to its listing
  have fY : ∀ postY : Int32 → SY → Prop, wY_boot_47 postY (nI e) v2 (nI c) cu (nI b) (nI tl) (nI ml) (nI sl) 9 (nI 1) (nI 0) (zz_n S) (zz_n B) (zz_n A) (zz_n N) (zz_n Fy) im sy (zz_n sm) (zz_n sn) (zz_n sa) (zz_n so) (zz_n T) (zz_n C) (zz_n (zz_u Ly 0 e)) (zz_n rn) ay io (zz_n si) bl → wpY_boot postY ((nI c), cu, (nI b), (nI tl), (nI ml), (nI sl), (zz_n S), (zz_n B), (zz_n A), (zz_n N), (zz_n Fy), im, sy, (zz_n sm), (zz_n sn), (zz_n sa), (zz_n so), (zz_n T), (zz_n C), (zz_n Ly), (zz_n rn), ay, io, (zz_n si), bl) (nI e) v2 := by
    intro postY h
    exact br_t hb0 (br_f hp (br_t (zz_le7 he) (And.intro hv (br_t e1 (nm_r (zz_w0 Ly 0 e) ⟨9, h⟩)))))
  refine And.intro hv (br_t e1 (nm_r (zz_w0 L 0 e) ⟨9, kX _ ⟨n, ?_⟩⟩))
  rcases kY with ⟨y1, Ly2, y2, gY⟩ | ⟨⟨k0, y0, y1, y2⟩, Ly2, gY⟩
  rotate_left
  · obtain ⟨n', rfl⟩ : ∃ n', n = n' + 1 := ⟨n - 1, by omega⟩
    exact zx_43 r2 hL8 hS8 n' 1 (by omega) (fun h => absurd (h k0 y0 y1) y2) (fun _ => fY _ (gY _ ⟨rfl, J2 T C L2 Ly2 F Fy⟩))
  have gY' : ∀ postY : Int32 → SY → Prop, wY_boot_47 postY (nI e) v2 (nI c) cu (nI b) (nI tl) (nI ml) (nI sl) 1 (nI n) (nI 8) (zz_n S) (zz_n B) (zz_n A) (zz_n N) (zz_n Fy) im sy (zz_n sm) (zz_n sn) (zz_n sa) (zz_n so) (zz_n T) (zz_n C) (zz_n Ly2) (zz_n rn) ay io (zz_n si) bl → wpY_boot postY ((nI c), cu, (nI b), (nI tl), (nI ml), (nI sl), (zz_n S), (zz_n B), (zz_n A), (zz_n N), (zz_n Fy), im, sy, (zz_n sm), (zz_n sn), (zz_n sa), (zz_n so), (zz_n T), (zz_n C), (zz_n Ly), (zz_n rn), ay, io, (zz_n si), bl) (nI e) v2 := fun postY h => fY postY (gY postY h)
  obtain ⟨n', rfl⟩ : ∃ n', n = n' + 1 := ⟨n - 1, by omega⟩
  refine zx_43 r2 hL8 hS8 n' 1 (by omega) (fun _ => ?_) (fun ⟨k0, a, b', h⟩ => absurd (y1 k0 a b') h)
  refine br_t (nI_le (by omega) (by omega)) (pk_le (n' + 1) ml (fun hfit => ?_) (fun hfit => ?_))
  rotate_left
  · exact gY' _ (br_t (nI_le (a := 8) (b := 8) (by omega) (by decide)) (br_f (nI_ge hfit (by omega)) ⟨rfl, J2 T C L2 Ly2 F Fy⟩))
  have hLy : ∀ i, i < n' + 1 → L2 i < 8 ∧ Ly2 i = L2 i := fun i hi => ⟨hL8 i hi, y2 i hi⟩
  have hSk : ∀ i, i < n' + 1 → S (L2 i) ≠ 0 := by
    intro i hi
    by_cases z : i = 0
    · subst z; rw [r3]; omega
    · have := y1 i (by omega) hi; omega
  obtain ⟨code, T2, C2, w1, wX, wY⟩ := zq_88 (tl := tl) (ml := ml) (sl := sl) (b := b) (c := c) (g := g) (cu := cu) (S := S) (B := B) (A := A) (N := N) (sm := sm) (sn := sn) (sa := sa) (so := so) (T := T) (C := C) (R := R) (Q := Q) (L := L2) (F := F) (M := M) (G := G) (rn := rn) (D := D) (im := im) (sy := sy) (tp := tp) (ow := ow) (ins := ins) (pc := pc) (ac := ac) (dt := dt) (me := me) (Fy := Fy) (Ly := Ly2) (si := si) (ay := ay) (io := io) (bl := bl) (n := n' + 1) r2 hLy hinj hO hY hT (fun i hi s hs z => (hK _ (hL8 i hi) (hSk i hi) s hs).1 (Or.inl z)) (n' + 1) 0 (by omega) (fun i' hi' => by omega)
  have gY2 : ∀ postY : Int32 → SY → Prop, wY_boot_114 postY (nI (n' + 1)) (n' + 1 + 1) (nI 0) (nI c) cu (nI b) (nI tl) (nI ml) (nI sl) (zz_n S) (zz_n B) (zz_n A) (zz_n N) (zz_n Fy) im sy (zz_n sm) (zz_n sn) (zz_n sa) (zz_n so) (zz_n T) (zz_n C) (zz_n Ly2) (zz_n rn) ay io (zz_n si) bl → wpY_boot postY ((nI c), cu, (nI b), (nI tl), (nI ml), (nI sl), (zz_n S), (zz_n B), (zz_n A), (zz_n N), (zz_n Fy), im, sy, (zz_n sm), (zz_n sn), (zz_n sa), (zz_n so), (zz_n T), (zz_n C), (zz_n Ly), (zz_n rn), ay, io, (zz_n si), bl) (nI e) v2 := by
    intro postY h
    exact gY' postY (br_t (nI_le (a := 8) (b := 8) (by omega) (by decide)) (br_t (nI_le hfit (by omega)) ⟨n' + 1 + 1, h⟩))
  refine ⟨n' + 1 + 1, wX _ (fun hcode => ?_) (fun hcode => ?_)⟩
  rotate_left
  · exact gY2 _ (wY _ (fun z => absurd z hcode) (fun _ => ⟨rfl, J2 T2 C2 L2 Ly2 F Fy⟩))
  have gY3 : ∀ postY : Int32 → SY → Prop, wY_boot_154 postY (nI (n' + 1)) (nI c) cu (nI b) (nI tl) (nI ml) (nI sl) (n' + 1 + 1) (nI 0) (nI 0) (zz_n S) (zz_n B) (zz_n A) (zz_n N) (zz_n Fy) im sy (zz_n sm) (zz_n sn) (zz_n sa) (zz_n so) (zz_n T2) (zz_n C2) (zz_n Ly2) (zz_n rn) ay io (zz_n si) bl → wpY_boot postY ((nI c), cu, (nI b), (nI tl), (nI ml), (nI sl), (zz_n S), (zz_n B), (zz_n A), (zz_n N), (zz_n Fy), im, sy, (zz_n sm), (zz_n sn), (zz_n sa), (zz_n so), (zz_n T), (zz_n C), (zz_n Ly), (zz_n rn), ay, io, (zz_n si), bl) (nI e) v2 := by
    intro postY h
    exact gY2 postY (wY postY (fun _ => br_t (nI_le (by omega) (by omega)) ⟨n' + 1 + 1, h⟩) (fun z => absurd hcode z))
  refine br_t (nI_le (by omega) (by omega)) ?_
  obtain ⟨x, F2, Fy2, x0, x1, x2, pX, pY⟩ := zq_plc (tl := tl) (ml := ml) (sl := sl) (b := b) (c := c) (g := g) (cu := cu) (S := S) (B := B) (A := A) (N := N) (sm := sm) (sn := sn) (sa := sa) (so := so) (T := T2) (C := C2) (R := R) (Q := Q) (L := L2) (F := F) (M := M) (G := G) (rn := rn) (D := D) (im := im) (sy := sy) (tp := tp) (ow := ow) (ins := ins) (pc := pc) (ac := ac) (dt := dt) (me := me) (Fy := Fy) (Ly := Ly2) (si := si) (ay := ay) (io := io) (bl := bl) (n := n' + 1) (by omega) hLy hinj hO (n' + 1) 0 (by omega) (x0 := 0) (by omega) (fun k hk => by omega) (fun k l hk hl => by omega)
  refine ⟨n' + 1 + 1, pX _ (pk_le x sl (fun hfx => ?_) (fun hfx => ?_))⟩
  rotate_left
  · exact gY3 _ (pY _ (br_t (nI_le (by omega) (by omega)) (br_f (nI_ge hfx (by omega)) ⟨rfl, J2 T2 C2 L2 Ly2 F2 Fy2⟩)))
  have gY4 : ∀ postY : Int32 → SY → Prop, wY_boot_228 postY (nI (n' + 1)) (nI c) cu (nI b) (nI tl) (nI ml) (nI sl) 1 (nI (n' + 1)) (zz_n (zz_s5 S Ly2 (n' + 1))) (zz_n B) (zz_n A) (zz_n N) (zz_n Fy2) im sy (zz_n sm) (zz_n sn) (zz_n sa) (zz_n so) (zz_n T2) (zz_n C2) (zz_n Ly2) (zz_n rn) ay io (zz_n si) bl → wpY_boot postY ((nI c), cu, (nI b), (nI tl), (nI ml), (nI sl), (zz_n S), (zz_n B), (zz_n A), (zz_n N), (zz_n Fy), im, sy, (zz_n sm), (zz_n sn), (zz_n sa), (zz_n so), (zz_n T), (zz_n C), (zz_n Ly), (zz_n rn), ay, io, (zz_n si), bl) (nI e) v2 := by
    intro postY h
    exact gY3 postY (pY postY (br_t (nI_le (by omega) (by omega)) (br_t (nI_le hfx (by omega)) ⟨n' + 1 + 1, zy_228 (by omega) (fun i hi => by rw [y2 i hi]; exact hL8 i hi) h (n' + 1) 0 (by omega)⟩)))
  have hc0 : c = 0 := h3.1.2.2.2.1 hb
  have how : ∀ m, 0 ≤ m → m < 6 → ow m = -1 := by
    intro m _ hm
    rcases h3.2.2.1.2 m hm with z | ⟨p, hp, h3', _⟩
    · exact z
    · obtain ⟨i, hi, _⟩ := h3.1.2.2.1 p hp h3'
      omega
  refine ⟨n' + 1 + 1, ?_⟩
  refine zx_cb2 (g := g) (by omega) hL8 hinj (fun M' G' ow' q1 q2 q3 => ⟨n' + 1 + 1, ?_⟩) (n' + 1) 0 (by omega) M G ow (fun k hk => by omega) how (fun m hm => h3.2.2.2.1.1 m hm)
  have hs5 : ∀ p, p < 8 → zz_s5 S L2 (n' + 1) p ≤ 5 := by
    intro p hp
    by_cases z : ∃ i, i < n' + 1 ∧ L2 i = p
    · obtain ⟨i, hi, ee⟩ := z
      rw [← ee, zz_s5i (n' + 1) i hi]
      omega
    · rw [zz_s5o (n' + 1) (fun i hi ee => z ⟨i, hi, ee⟩)]
      exact hS8 p hp
  refine zx_cb42 (by omega) (by omega) (fun i hi => ⟨hL8 i hi, (hO _ (hL8 i hi)).2.2.2.1, fun s hs => ⟨(w1 hcode i hi s hs).1, hs5 _ (w1 hcode i hi s hs).1⟩⟩) hinj (fun R' Q' tp' q4 => ?_) (n' + 1) 0 (by omega) R Q tp (fun k hk => by omega)
  obtain ⟨PN, PZ⟩ := zp_boot (x := x) (n := n' + 1) hb (by omega) (by omega) r3 he hS1 r4 hinj y1 (fun i hi => y2 i hi) (w1 hcode) (by omega) x1 x2 q1 q2 q3 q4 h2 h3
  have hO' := PN.1
  refine br_t (nI_le (by omega) (by omega)) ?_
  refine zx_sth (b := 1) (t := 0) (by omega) (by omega) hL8 (fun o ho => ⟨(hO' o ho).1, (hO' o ho).2.1⟩) (fun o ho h4 => (PZ.2.2.2.2.1.1 o ho h4).2) PZ.2.2.2.2.1.2 (fun me' m1 m2 => ?_)
  refine gY4 _ (br_t (nI_le (by omega) (by omega)) ?_)
  rw [zz_s5c (L := L2) (n' + 1) (fun i hi => y2 i hi)]
  refine zy_beg (b := 1) (t := 0) (by omega) (by omega) (fun i hi => by rw [y2 i hi]; exact hL8 i hi) (fun bl' b1 b2 => ?_)
  have PB : zz_B tl ml sl 1 (n' + 1) (g + (n' + 1)) (k + 5) (zz_u rn 0 1) := by
    obtain ⟨a1, a2, a3, a4, a5, a6, a7, a8, a9, a10⟩ := h1
    refine ⟨a1, a2, a3, a4, a5, a6, hfit, by omega, by omega, fun q hq hq4 => ?_⟩
    rw [zz_un (by omega)]
    exact a10 q hq hq4
  exact ⟨rfl, zz_mk PB PN (zp_start (A := A) (by omega) (by omega) (h3.2.2.2.2.2.1.2 hb 0 (by omega)) hO' PZ m1 m2 b1 b2)⟩
end ZB2
end
