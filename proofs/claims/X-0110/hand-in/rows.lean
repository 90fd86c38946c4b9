section
/-! pure rows to paste: stores, nI and lN arithmetic, masks, shifts, narrowing, branches by naturals (pk_le, pk_lt, pk_eq), loops (lp1 .. lp16: the measure of the state; rp1 ..: recursion), negatives. Take what you need -/
theorem pk_us {f : Nat → Int32} {k : Nat} {x : Int32} : upd f k x k = x := if_pos rfl
theorem pk_un {f : Nat → Int32} {k j : Nat} {x : Int32} (h : j ≠ k) : upd f k x j = f j := if_neg h
theorem pk_uLs {f : Nat → Int64} {k : Nat} {x : Int64} : vp_updL f k x k = x := if_pos rfl
theorem pk_uLn {f : Nat → Int64} {k j : Nat} {x : Int64} (h : j ≠ k) : vp_updL f k x j = f j := if_neg h
theorem pk_sub {a b : Nat} (h : b ≤ a) : nI a - nI b = nI (a - b) := by
  obtain ⟨c, rfl⟩ : ∃ c, a = c + b := ⟨a - b, by omega⟩
  rw [← nI_add, Int32.add_sub_cancel, Nat.add_sub_cancel]
theorem pk_m1 (n : Nat) : nI (n + 1) + (-1) = nI n := by
  rw [← nI_1, Int32.add_assoc, show (1 : Int32) + (-1) = 0 from rfl, Int32.add_zero]
theorem pk_mul (a b : Nat) : nI a * nI b = nI (a * b) := (Int32.ofNat_mul a b).symm
theorem pk_div {a d : Nat} (ha : a < 2 ^ 31) (h0 : 0 < d) (hd : d < 2 ^ 31) : nI a / nI d = nI (a / d) := by
  apply Int32.toInt_inj.mp
  rw [lg_idiv_nonneg (by rw [nI_toInt ha]; omega) (by rw [nI_toInt hd]; omega), nI_toInt ha, nI_toInt hd, nI_toInt (Nat.lt_of_le_of_lt (Nat.div_le_self a d) ha)]
  first | rfl | exact (Int.natCast_ediv _ _).symm
theorem pk_rem {a d : Nat} (ha : a < 2 ^ 31) (h0 : 0 < d) (hd : d < 2 ^ 31) : nI a - nI a / nI d * nI d = nI (a % d) := by
  rw [pk_div ha h0 hd, pk_mul, pk_sub (Nat.div_mul_le_self a d)]
  exact congrArg nI (by have := Nat.div_add_mod' a d; omega)
theorem pk_sub_toInt {a b : Nat} (ha : a < 2 ^ 30) (hb : b < 2 ^ 30) : (nI a - nI b).toInt = (a : Int) - b := by
  rw [Int32.toInt_sub, nI_toInt (by omega), nI_toInt (by omega)]
  exact Int.bmod_eq_of_le (by omega) (by omega)
theorem pk_sneg {a b : Nat} (hb : b < 2 ^ 30) (h : a < b) : nI a - nI b < 0 := by
  rw [Int32.lt_iff_toInt_lt, pk_sub_toInt (by omega) hb, show (0 : Int32).toInt = 0 from by decide]
  omega
theorem pk_ix (x : Int32) {n : Nat} (hn : n < 2 ^ 31) : x < 0 ∨ nI n ≤ x ∨ ∃ j : Nat, j < n ∧ x = nI j := by
  by_cases h : x < 0
  · exact Or.inl h
  · obtain ⟨j, hj, rfl⟩ := nI_of h
    by_cases h2 : j < n
    · exact Or.inr (Or.inr ⟨j, h2, rfl⟩)
    · exact Or.inr (Or.inl (nI_le (by omega) hj))
theorem pk_le {x y : Int32} {A B : Prop} (a b : Nat) (f : a ≤ b → A) (g : b < a → B) (hx : x = nI a := by rfl) (hy : y = nI b := by rfl) (ha : a < 2 ^ 31 := by omega) (hb : b < 2 ^ 31 := by omega) : (x ≤ y → A) ∧ (¬ x ≤ y → B) := by
  subst hx hy
  rw [nI_leI ha hb]
  exact ⟨f, fun z => g (by omega)⟩
theorem pk_lt {x y : Int32} {A B : Prop} (a b : Nat) (f : a < b → A) (g : b ≤ a → B) (hx : x = nI a := by rfl) (hy : y = nI b := by rfl) (ha : a < 2 ^ 31 := by omega) (hb : b < 2 ^ 31 := by omega) : (x < y → A) ∧ (¬ x < y → B) := by
  subst hx hy
  rw [nI_ltI ha hb]
  exact ⟨f, fun z => g (by omega)⟩
theorem pk_eq {x y : Int32} {A B : Prop} (a b : Nat) (f : a = b → A) (g : a ≠ b → B) (hx : x = nI a := by rfl) (hy : y = nI b := by rfl) (ha : a < 2 ^ 31 := by omega) (hb : b < 2 ^ 31 := by omega) : (x = y → A) ∧ (¬ x = y → B) := by
  subst hx hy
  rw [nI_eq ha hb]
  exact ⟨f, g⟩
theorem pk_in {x : Int32} (n N : Nat) (h : n < N) (hx : x = nI n := by rfl) (hN : N < 2 ^ 31 := by omega) : vp_in x N := by
  subst hx
  exact vp_in_nI h hN
theorem pk_cl {x : Int32} (n : Nat) (hx : x = nI n := by rfl) (h : n < 2 ^ 31 := by omega) : x.toNatClampNeg = n := by
  subst hx
  exact nI_clamp h
theorem pk_tn {n : Nat} (h : n < 2 ^ 32) : (nI n).toBitVec.toNat = n := Nat.mod_eq_of_lt h
theorem pk_and (x : Int32) {m : Int32} (k : Nat) (hm : m.toBitVec.toNat = 2 ^ k - 1) : x &&& m = nI (x.toBitVec.toNat % 2 ^ k) := by
  apply Int32.toBitVec_inj.mp
  apply BitVec.eq_of_toNat_eq
  rw [Int32.toBitVec_and, BitVec.toNat_and, hm, Nat.and_two_pow_sub_one_eq_mod]
  show _ = (BitVec.ofNat 32 _).toNat
  rw [BitVec.toNat_ofNat]
  exact (Nat.mod_eq_of_lt (Nat.lt_of_le_of_lt (Nat.mod_le _ _) x.toBitVec.isLt)).symm
theorem pk_andN {n : Nat} (h : n < 2 ^ 32) {m : Int32} (k : Nat) (hm : m.toBitVec.toNat = 2 ^ k - 1) : nI n &&& m = nI (n % 2 ^ k) := by
  rw [pk_and _ k hm, pk_tn h]
theorem pk_andE (x : Int32) {m : Int32} (k : Nat) (hm : m.toBitVec.toNat = 2 ^ k - 1) : ∃ j : Nat, j < 2 ^ k ∧ x &&& m = nI j := ⟨_, Nat.mod_lt _ (Nat.two_pow_pos k), pk_and x k hm⟩
theorem pk_andIn (x : Int32) {m : Int32} (k : Nat) (hm : m.toBitVec.toNat = 2 ^ k - 1) (hk : k ≤ 30) : vp_in (x &&& m) (2 ^ k) := by
  obtain ⟨j, hj, e⟩ := pk_andE x k hm
  rw [e]
  exact vp_in_nI hj (Nat.lt_of_le_of_lt (Nat.pow_le_pow_right (by decide) hk) (by decide))
theorem pk_shl (a s : Int32) (k : Nat) (hs : (s.toBitVec.smod 32).toNat = k) : (a <<< s).toBitVec.toNat = a.toBitVec.toNat * 2 ^ k % 2 ^ 32 := by
  show (a.toBitVec <<< (s.toBitVec.smod 32).toNat).toNat = _
  rw [hs, BitVec.toNat_shiftLeft, Nat.shiftLeft_eq]
theorem pk_shlN {n : Nat} (s : Int32) (k : Nat) (hs : (s.toBitVec.smod 32).toNat = k) (h : n * 2 ^ k < 2 ^ 32) : nI n <<< s = nI (n * 2 ^ k) := by
  apply Int32.toBitVec_inj.mp
  apply BitVec.eq_of_toNat_eq
  have hn : n < 2 ^ 32 := Nat.lt_of_le_of_lt (Nat.le_mul_of_pos_right n (Nat.two_pow_pos k)) h
  rw [pk_shl _ _ k hs, pk_tn hn, pk_tn h, Nat.mod_eq_of_lt h]
theorem pk_shr (a s : Int32) (k : Nat) (hs : (s.toBitVec.smod 32).toNat = k) : (a >>> s).toInt = a.toInt >>> k := by
  show (a.toBitVec.sshiftRight (s.toBitVec.smod 32).toNat).toInt = _
  rw [hs, BitVec.toInt_sshiftRight]
  rfl
theorem pk_shrN {n : Nat} (h : n < 2 ^ 31) (s : Int32) (k : Nat) (hs : (s.toBitVec.smod 32).toNat = k) : nI n >>> s = nI (n / 2 ^ k) := by
  apply Int32.toInt_inj.mp
  have h2 : n / 2 ^ k ≤ n := Nat.div_le_self _ _
  rw [pk_shr _ _ k hs, nI_toInt h, nI_toInt (by omega), Int.shiftRight_eq_div_pow]
  rfl
theorem pk_ushr (x s : Int32) (k : Nat) (hs : ((s.toUInt32 &&& Int32.toUInt32 31).toBitVec % 32).toNat = k) : (x.toUInt32 >>> (s.toUInt32 &&& Int32.toUInt32 31)).toInt32.toBitVec.toNat = x.toBitVec.toNat / 2 ^ k := by
  have e : (x.toUInt32 >>> (s.toUInt32 &&& Int32.toUInt32 31)).toInt32.toBitVec = x.toBitVec >>> k := by
    rw [← hs]
    exact UInt32.toBitVec_shiftRight _ _
  rw [e, BitVec.toNat_ushiftRight, Nat.shiftRight_eq_div_pow]
theorem pk_ushrN {n : Nat} (hn : n < 2 ^ 32) (s : Int32) (k : Nat) (hs : ((s.toUInt32 &&& Int32.toUInt32 31).toBitVec % 32).toNat = k) : ((nI n).toUInt32 >>> (s.toUInt32 &&& Int32.toUInt32 31)).toInt32 = nI (n / 2 ^ k) := by
  apply Int32.toBitVec_inj.mp
  apply BitVec.eq_of_toNat_eq
  rw [pk_ushr _ s k hs, pk_tn hn, pk_tn (Nat.lt_of_le_of_lt (Nat.div_le_self _ _) hn)]
theorem pk_nb (z : Int32) : narrow .byte (.int z.toInt8.toInt32) = .int z.toInt8.toInt32 := congrArg Value.int (by simp)
theorem pk_ns (z : Int32) : narrow .short (.int z.toInt16.toInt32) = .int z.toInt16.toInt32 := congrArg Value.int (by simp)
theorem pk_fb (r : Int32) : fits .byte (.int r.toInt8.toInt32) = true := by
  have ⟨a, b⟩ := lg_i2b_range r
  have h1 : (-128 : Int32).toInt = -128 := by decide
  have h2 : (127 : Int32).toInt = 127 := by decide
  simp only [fits, Bool.and_eq_true, decide_eq_true_eq, Int32.le_iff_toInt_le, h1, h2]
  omega
theorem pk_fs (r : Int32) : fits .short (.int r.toInt16.toInt32) = true := by
  have ⟨a, b⟩ := lg_i2s_range r
  have h1 : (-32768 : Int32).toInt = -32768 := by decide
  have h2 : (32767 : Int32).toInt = 32767 := by decide
  simp only [fits, Bool.and_eq_true, decide_eq_true_eq, Int32.le_iff_toInt_le, h1, h2]
  omega
theorem pk_charN {q : Nat} (hq : q < 65536) : narrow .char (.int (nI q)) = .int (nI q) ∧ fits .char (.int (nI q)) = true := by
  constructor
  · have e : (nI q).toUInt32.toUInt16.toUInt32.toInt32 = nI q := by
      apply Int32.toBitVec_inj.mp
      apply BitVec.eq_of_toNat_eq
      show (nI q).toUInt32.toUInt16.toUInt32.toNat = q % 2 ^ 32
      rw [UInt16.toNat_toUInt32, UInt32.toNat_toUInt16, show (nI q).toUInt32.toNat = q % 2 ^ 32 from rfl]
      omega
    exact congrArg Value.int e
  · have a : (0 : Int32) ≤ nI q := nI_pos' (by omega)
    have b : nI q ≤ 65535 := nI_le (b := 65535) (by omega) (by decide)
    show (decide ((0 : Int32) ≤ nI q) && decide (nI q ≤ 65535)) = true
    rw [decide_eq_true a, decide_eq_true b]
    rfl
theorem pk_char (x : Int32) : (x.toUInt32 % 65536).toInt32 = nI (x.toBitVec.toNat % 65536) := by
  apply Int32.toBitVec_inj.mp
  apply BitVec.eq_of_toNat_eq
  rw [pk_tn (by omega)]
  show (x.toUInt32 % 65536).toNat = _
  rw [UInt32.toNat_mod]
  rfl
theorem pk_nc (x : Int32) : narrow .char (.int (x.toUInt32 % 65536).toInt32) = .int (x.toUInt32 % 65536).toInt32 := by
  rw [pk_char]
  exact (pk_charN (Nat.mod_lt _ (by decide))).1
theorem pk_fc (x : Int32) : fits .char (.int (x.toUInt32 % 65536).toInt32) = true := by
  rw [pk_char]
  exact (pk_charN (Nat.mod_lt _ (by decide))).2
theorem pk_vb (z : Int32) : vp_nar .byte z.toInt8.toInt32 = z.toInt8.toInt32 := by rw [vp_nar_byte]; simp
theorem pk_vs (z : Int32) : vp_nar .short z.toInt16.toInt32 = z.toInt16.toInt32 := by rw [vp_nar_short]; simp
theorem pk_vc (z : Int32) : vp_nar .char (z.toUInt32 % 65536).toInt32 = (z.toUInt32 % 65536).toInt32 := Value.int.inj (pk_nc z)
theorem pk_lT {n : Nat} (h : n < 2 ^ 63) : (lN n).toInt = (n : Int) := lg_ofNat_toInt h
theorem pk_lLT {a b : Nat} (ha : a < 2 ^ 63) (hb : b < 2 ^ 63) : lN a < lN b ↔ a < b := by
  rw [Int64.lt_iff_toInt_lt, pk_lT ha, pk_lT hb]; omega
theorem pk_lLE {a b : Nat} (ha : a < 2 ^ 63) (hb : b < 2 ^ 63) : lN a ≤ lN b ↔ a ≤ b := by
  rw [Int64.le_iff_toInt_le, pk_lT ha, pk_lT hb]; omega
theorem pk_lEQ {a b : Nat} (ha : a < 2 ^ 63) (hb : b < 2 ^ 63) : lN a = lN b ↔ a = b := by
  rw [← Int64.toInt_inj, pk_lT ha, pk_lT hb]; omega
theorem pk_lOf {x : Int64} (h : ¬ x < 0) : ∃ k : Nat, k < 2 ^ 63 ∧ x = lN k := by
  rw [Int64.lt_iff_toInt_lt] at h
  have h0 : (0 : Int64).toInt = 0 := by decide
  have hx := Int64.toInt_lt x
  refine ⟨x.toInt.toNat, by omega, Int64.toInt_inj.mp ?_⟩
  rw [pk_lT (by omega)]
  omega
theorem pk_lDiv {a b : Nat} (ha : a < 2 ^ 63) (h0 : 0 < b) (hb : b < 2 ^ 63) : lN a / lN b = lN (a / b) := by
  apply Int64.toInt_inj.mp
  rw [lg_ldiv_nonneg (by rw [pk_lT ha]; omega) (by rw [pk_lT hb]; omega), pk_lT ha, pk_lT hb, pk_lT (Nat.lt_of_le_of_lt (Nat.div_le_self a b) ha)]
  rfl
theorem pk_lRem {a b : Nat} (ha : a < 2 ^ 63) (h0 : 0 < b) (hb : b < 2 ^ 63) : lN a - lN a / lN b * lN b = lN (a % b) := by
  rw [pk_lDiv ha h0 hb, lN_mul, lN_sub (Nat.div_mul_le_self a b)]
  exact congrArg lN (by have := Nat.div_add_mod' a b; omega)
theorem pk_loop {σ : Type} (W : Nat → Nat → σ → Prop) (I : Nat → σ → Prop) (e i0 : Nat) (s : σ) (hi : i0 ≤ e) (h0 : I i0 s) (hx : ∀ n s, I e s → W (n + 1) e s)
    (hs : ∀ n i s, i < e → I i s → (∀ s', I (i + 1) s' → W n (i + 1) s') → W (n + 1) i s) : ∃ n, W n i0 s :=
  ⟨e + 1, loop_i W I e hx hs (e + 1) i0 s hi (by omega) h0⟩
theorem pk_loopD {σ : Type} (W : Nat → Nat → σ → Prop) (I : Nat → σ → Prop) (hx : ∀ n s, I 0 s → W (n + 1) 0 s)
    (hs : ∀ n i s, I (i + 1) s → (∀ s', I i s' → W n i s') → W (n + 1) (i + 1) s) : ∀ (e : Nat) (s : σ), I e s → W (e + 1) e s := by
  intro e
  induction e with
  | zero => exact fun s h => hx 0 s h
  | succ e ih => exact fun s h => hs (e + 1) e s h (fun s' h' => ih s' h')
theorem lp1 {A1 : Type} (W : Nat → A1 → Prop) (I : A1 → Prop) (μ : A1 → Nat) (hs : ∀ (n : Nat) (a1 : A1), I a1 → (∀ (b1 : A1), I b1 → μ b1 < μ a1 → W n b1) → W (n + 1) a1) (a1 : A1) (h : I a1) : ∃ n, W n a1 :=
  loop_m (σ := A1) (fun n s => W n s) (fun s => I s) (fun s => μ s) (fun n s hI hk => hs n s hI (fun b1 h9 hm => hk b1 h9 hm)) a1 h
theorem lp2 {A1 A2 : Type} (W : Nat → A1 → A2 → Prop) (I : A1 → A2 → Prop) (μ : A1 → A2 → Nat) (hs : ∀ (n : Nat) (a1 : A1) (a2 : A2), I a1 a2 → (∀ (b1 : A1) (b2 : A2), I b1 b2 → μ b1 b2 < μ a1 a2 → W n b1 b2) → W (n + 1) a1 a2) (a1 : A1) (a2 : A2) (h : I a1 a2) : ∃ n, W n a1 a2 :=
  loop_m (σ := A1 × A2) (fun n s => W n s.1 s.2) (fun s => I s.1 s.2) (fun s => μ s.1 s.2) (fun n s hI hk => hs n s.1 s.2 hI (fun b1 b2 h9 hm => hk (b1, b2) h9 hm)) (a1, a2) h
theorem lp3 {A1 A2 A3 : Type} (W : Nat → A1 → A2 → A3 → Prop) (I : A1 → A2 → A3 → Prop) (μ : A1 → A2 → A3 → Nat) (hs : ∀ (n : Nat) (a1 : A1) (a2 : A2) (a3 : A3), I a1 a2 a3 → (∀ (b1 : A1) (b2 : A2) (b3 : A3), I b1 b2 b3 → μ b1 b2 b3 < μ a1 a2 a3 → W n b1 b2 b3) → W (n + 1) a1 a2 a3) (a1 : A1) (a2 : A2) (a3 : A3) (h : I a1 a2 a3) : ∃ n, W n a1 a2 a3 :=
  loop_m (σ := A1 × A2 × A3) (fun n s => W n s.1 s.2.1 s.2.2) (fun s => I s.1 s.2.1 s.2.2) (fun s => μ s.1 s.2.1 s.2.2) (fun n s hI hk => hs n s.1 s.2.1 s.2.2 hI (fun b1 b2 b3 h9 hm => hk (b1, b2, b3) h9 hm)) (a1, a2, a3) h
theorem lp4 {A1 A2 A3 A4 : Type} (W : Nat → A1 → A2 → A3 → A4 → Prop) (I : A1 → A2 → A3 → A4 → Prop) (μ : A1 → A2 → A3 → A4 → Nat) (hs : ∀ (n : Nat) (a1 : A1) (a2 : A2) (a3 : A3) (a4 : A4), I a1 a2 a3 a4 → (∀ (b1 : A1) (b2 : A2) (b3 : A3) (b4 : A4), I b1 b2 b3 b4 → μ b1 b2 b3 b4 < μ a1 a2 a3 a4 → W n b1 b2 b3 b4) → W (n + 1) a1 a2 a3 a4) (a1 : A1) (a2 : A2) (a3 : A3) (a4 : A4) (h : I a1 a2 a3 a4) : ∃ n, W n a1 a2 a3 a4 :=
  loop_m (σ := A1 × A2 × A3 × A4) (fun n s => W n s.1 s.2.1 s.2.2.1 s.2.2.2) (fun s => I s.1 s.2.1 s.2.2.1 s.2.2.2) (fun s => μ s.1 s.2.1 s.2.2.1 s.2.2.2) (fun n s hI hk => hs n s.1 s.2.1 s.2.2.1 s.2.2.2 hI (fun b1 b2 b3 b4 h9 hm => hk (b1, b2, b3, b4) h9 hm)) (a1, a2, a3, a4) h
theorem lp5 {A1 A2 A3 A4 A5 : Type} (W : Nat → A1 → A2 → A3 → A4 → A5 → Prop) (I : A1 → A2 → A3 → A4 → A5 → Prop) (μ : A1 → A2 → A3 → A4 → A5 → Nat) (hs : ∀ (n : Nat) (a1 : A1) (a2 : A2) (a3 : A3) (a4 : A4) (a5 : A5), I a1 a2 a3 a4 a5 → (∀ (b1 : A1) (b2 : A2) (b3 : A3) (b4 : A4) (b5 : A5), I b1 b2 b3 b4 b5 → μ b1 b2 b3 b4 b5 < μ a1 a2 a3 a4 a5 → W n b1 b2 b3 b4 b5) → W (n + 1) a1 a2 a3 a4 a5) (a1 : A1) (a2 : A2) (a3 : A3) (a4 : A4) (a5 : A5) (h : I a1 a2 a3 a4 a5) : ∃ n, W n a1 a2 a3 a4 a5 :=
  loop_m (σ := A1 × A2 × A3 × A4 × A5) (fun n s => W n s.1 s.2.1 s.2.2.1 s.2.2.2.1 s.2.2.2.2) (fun s => I s.1 s.2.1 s.2.2.1 s.2.2.2.1 s.2.2.2.2) (fun s => μ s.1 s.2.1 s.2.2.1 s.2.2.2.1 s.2.2.2.2) (fun n s hI hk => hs n s.1 s.2.1 s.2.2.1 s.2.2.2.1 s.2.2.2.2 hI (fun b1 b2 b3 b4 b5 h9 hm => hk (b1, b2, b3, b4, b5) h9 hm)) (a1, a2, a3, a4, a5) h
theorem lp6 {A1 A2 A3 A4 A5 A6 : Type} (W : Nat → A1 → A2 → A3 → A4 → A5 → A6 → Prop) (I : A1 → A2 → A3 → A4 → A5 → A6 → Prop) (μ : A1 → A2 → A3 → A4 → A5 → A6 → Nat) (hs : ∀ (n : Nat) (a1 : A1) (a2 : A2) (a3 : A3) (a4 : A4) (a5 : A5) (a6 : A6), I a1 a2 a3 a4 a5 a6 → (∀ (b1 : A1) (b2 : A2) (b3 : A3) (b4 : A4) (b5 : A5) (b6 : A6), I b1 b2 b3 b4 b5 b6 → μ b1 b2 b3 b4 b5 b6 < μ a1 a2 a3 a4 a5 a6 → W n b1 b2 b3 b4 b5 b6) → W (n + 1) a1 a2 a3 a4 a5 a6) (a1 : A1) (a2 : A2) (a3 : A3) (a4 : A4) (a5 : A5) (a6 : A6) (h : I a1 a2 a3 a4 a5 a6) : ∃ n, W n a1 a2 a3 a4 a5 a6 :=
  loop_m (σ := A1 × A2 × A3 × A4 × A5 × A6) (fun n s => W n s.1 s.2.1 s.2.2.1 s.2.2.2.1 s.2.2.2.2.1 s.2.2.2.2.2) (fun s => I s.1 s.2.1 s.2.2.1 s.2.2.2.1 s.2.2.2.2.1 s.2.2.2.2.2) (fun s => μ s.1 s.2.1 s.2.2.1 s.2.2.2.1 s.2.2.2.2.1 s.2.2.2.2.2) (fun n s hI hk => hs n s.1 s.2.1 s.2.2.1 s.2.2.2.1 s.2.2.2.2.1 s.2.2.2.2.2 hI (fun b1 b2 b3 b4 b5 b6 h9 hm => hk (b1, b2, b3, b4, b5, b6) h9 hm)) (a1, a2, a3, a4, a5, a6) h
theorem lp7 {A1 A2 A3 A4 A5 A6 A7 : Type} (W : Nat → A1 → A2 → A3 → A4 → A5 → A6 → A7 → Prop) (I : A1 → A2 → A3 → A4 → A5 → A6 → A7 → Prop) (μ : A1 → A2 → A3 → A4 → A5 → A6 → A7 → Nat) (hs : ∀ (n : Nat) (a1 : A1) (a2 : A2) (a3 : A3) (a4 : A4) (a5 : A5) (a6 : A6) (a7 : A7), I a1 a2 a3 a4 a5 a6 a7 → (∀ (b1 : A1) (b2 : A2) (b3 : A3) (b4 : A4) (b5 : A5) (b6 : A6) (b7 : A7), I b1 b2 b3 b4 b5 b6 b7 → μ b1 b2 b3 b4 b5 b6 b7 < μ a1 a2 a3 a4 a5 a6 a7 → W n b1 b2 b3 b4 b5 b6 b7) → W (n + 1) a1 a2 a3 a4 a5 a6 a7) (a1 : A1) (a2 : A2) (a3 : A3) (a4 : A4) (a5 : A5) (a6 : A6) (a7 : A7) (h : I a1 a2 a3 a4 a5 a6 a7) : ∃ n, W n a1 a2 a3 a4 a5 a6 a7 :=
  loop_m (σ := A1 × A2 × A3 × A4 × A5 × A6 × A7) (fun n s => W n s.1 s.2.1 s.2.2.1 s.2.2.2.1 s.2.2.2.2.1 s.2.2.2.2.2.1 s.2.2.2.2.2.2) (fun s => I s.1 s.2.1 s.2.2.1 s.2.2.2.1 s.2.2.2.2.1 s.2.2.2.2.2.1 s.2.2.2.2.2.2) (fun s => μ s.1 s.2.1 s.2.2.1 s.2.2.2.1 s.2.2.2.2.1 s.2.2.2.2.2.1 s.2.2.2.2.2.2) (fun n s hI hk => hs n s.1 s.2.1 s.2.2.1 s.2.2.2.1 s.2.2.2.2.1 s.2.2.2.2.2.1 s.2.2.2.2.2.2 hI (fun b1 b2 b3 b4 b5 b6 b7 h9 hm => hk (b1, b2, b3, b4, b5, b6, b7) h9 hm)) (a1, a2, a3, a4, a5, a6, a7) h
theorem lp8 {A1 A2 A3 A4 A5 A6 A7 A8 : Type} (W : Nat → A1 → A2 → A3 → A4 → A5 → A6 → A7 → A8 → Prop) (I : A1 → A2 → A3 → A4 → A5 → A6 → A7 → A8 → Prop) (μ : A1 → A2 → A3 → A4 → A5 → A6 → A7 → A8 → Nat) (hs : ∀ (n : Nat) (a1 : A1) (a2 : A2) (a3 : A3) (a4 : A4) (a5 : A5) (a6 : A6) (a7 : A7) (a8 : A8), I a1 a2 a3 a4 a5 a6 a7 a8 → (∀ (b1 : A1) (b2 : A2) (b3 : A3) (b4 : A4) (b5 : A5) (b6 : A6) (b7 : A7) (b8 : A8), I b1 b2 b3 b4 b5 b6 b7 b8 → μ b1 b2 b3 b4 b5 b6 b7 b8 < μ a1 a2 a3 a4 a5 a6 a7 a8 → W n b1 b2 b3 b4 b5 b6 b7 b8) → W (n + 1) a1 a2 a3 a4 a5 a6 a7 a8) (a1 : A1) (a2 : A2) (a3 : A3) (a4 : A4) (a5 : A5) (a6 : A6) (a7 : A7) (a8 : A8) (h : I a1 a2 a3 a4 a5 a6 a7 a8) : ∃ n, W n a1 a2 a3 a4 a5 a6 a7 a8 :=
  loop_m (σ := A1 × A2 × A3 × A4 × A5 × A6 × A7 × A8) (fun n s => W n s.1 s.2.1 s.2.2.1 s.2.2.2.1 s.2.2.2.2.1 s.2.2.2.2.2.1 s.2.2.2.2.2.2.1 s.2.2.2.2.2.2.2) (fun s => I s.1 s.2.1 s.2.2.1 s.2.2.2.1 s.2.2.2.2.1 s.2.2.2.2.2.1 s.2.2.2.2.2.2.1 s.2.2.2.2.2.2.2) (fun s => μ s.1 s.2.1 s.2.2.1 s.2.2.2.1 s.2.2.2.2.1 s.2.2.2.2.2.1 s.2.2.2.2.2.2.1 s.2.2.2.2.2.2.2) (fun n s hI hk => hs n s.1 s.2.1 s.2.2.1 s.2.2.2.1 s.2.2.2.2.1 s.2.2.2.2.2.1 s.2.2.2.2.2.2.1 s.2.2.2.2.2.2.2 hI (fun b1 b2 b3 b4 b5 b6 b7 b8 h9 hm => hk (b1, b2, b3, b4, b5, b6, b7, b8) h9 hm)) (a1, a2, a3, a4, a5, a6, a7, a8) h
theorem lp9 {A1 A2 A3 A4 A5 A6 A7 A8 A9 : Type} (W : Nat → A1 → A2 → A3 → A4 → A5 → A6 → A7 → A8 → A9 → Prop) (I : A1 → A2 → A3 → A4 → A5 → A6 → A7 → A8 → A9 → Prop) (μ : A1 → A2 → A3 → A4 → A5 → A6 → A7 → A8 → A9 → Nat) (hs : ∀ (n : Nat) (a1 : A1) (a2 : A2) (a3 : A3) (a4 : A4) (a5 : A5) (a6 : A6) (a7 : A7) (a8 : A8) (a9 : A9), I a1 a2 a3 a4 a5 a6 a7 a8 a9 → (∀ (b1 : A1) (b2 : A2) (b3 : A3) (b4 : A4) (b5 : A5) (b6 : A6) (b7 : A7) (b8 : A8) (b9 : A9), I b1 b2 b3 b4 b5 b6 b7 b8 b9 → μ b1 b2 b3 b4 b5 b6 b7 b8 b9 < μ a1 a2 a3 a4 a5 a6 a7 a8 a9 → W n b1 b2 b3 b4 b5 b6 b7 b8 b9) → W (n + 1) a1 a2 a3 a4 a5 a6 a7 a8 a9) (a1 : A1) (a2 : A2) (a3 : A3) (a4 : A4) (a5 : A5) (a6 : A6) (a7 : A7) (a8 : A8) (a9 : A9) (h : I a1 a2 a3 a4 a5 a6 a7 a8 a9) : ∃ n, W n a1 a2 a3 a4 a5 a6 a7 a8 a9 :=
  loop_m (σ := A1 × A2 × A3 × A4 × A5 × A6 × A7 × A8 × A9) (fun n s => W n s.1 s.2.1 s.2.2.1 s.2.2.2.1 s.2.2.2.2.1 s.2.2.2.2.2.1 s.2.2.2.2.2.2.1 s.2.2.2.2.2.2.2.1 s.2.2.2.2.2.2.2.2) (fun s => I s.1 s.2.1 s.2.2.1 s.2.2.2.1 s.2.2.2.2.1 s.2.2.2.2.2.1 s.2.2.2.2.2.2.1 s.2.2.2.2.2.2.2.1 s.2.2.2.2.2.2.2.2) (fun s => μ s.1 s.2.1 s.2.2.1 s.2.2.2.1 s.2.2.2.2.1 s.2.2.2.2.2.1 s.2.2.2.2.2.2.1 s.2.2.2.2.2.2.2.1 s.2.2.2.2.2.2.2.2) (fun n s hI hk => hs n s.1 s.2.1 s.2.2.1 s.2.2.2.1 s.2.2.2.2.1 s.2.2.2.2.2.1 s.2.2.2.2.2.2.1 s.2.2.2.2.2.2.2.1 s.2.2.2.2.2.2.2.2 hI (fun b1 b2 b3 b4 b5 b6 b7 b8 b9 h9 hm => hk (b1, b2, b3, b4, b5, b6, b7, b8, b9) h9 hm)) (a1, a2, a3, a4, a5, a6, a7, a8, a9) h
theorem lp10 {A1 A2 A3 A4 A5 A6 A7 A8 A9 A10 : Type} (W : Nat → A1 → A2 → A3 → A4 → A5 → A6 → A7 → A8 → A9 → A10 → Prop) (I : A1 → A2 → A3 → A4 → A5 → A6 → A7 → A8 → A9 → A10 → Prop) (μ : A1 → A2 → A3 → A4 → A5 → A6 → A7 → A8 → A9 → A10 → Nat) (hs : ∀ (n : Nat) (a1 : A1) (a2 : A2) (a3 : A3) (a4 : A4) (a5 : A5) (a6 : A6) (a7 : A7) (a8 : A8) (a9 : A9) (a10 : A10), I a1 a2 a3 a4 a5 a6 a7 a8 a9 a10 → (∀ (b1 : A1) (b2 : A2) (b3 : A3) (b4 : A4) (b5 : A5) (b6 : A6) (b7 : A7) (b8 : A8) (b9 : A9) (b10 : A10), I b1 b2 b3 b4 b5 b6 b7 b8 b9 b10 → μ b1 b2 b3 b4 b5 b6 b7 b8 b9 b10 < μ a1 a2 a3 a4 a5 a6 a7 a8 a9 a10 → W n b1 b2 b3 b4 b5 b6 b7 b8 b9 b10) → W (n + 1) a1 a2 a3 a4 a5 a6 a7 a8 a9 a10) (a1 : A1) (a2 : A2) (a3 : A3) (a4 : A4) (a5 : A5) (a6 : A6) (a7 : A7) (a8 : A8) (a9 : A9) (a10 : A10) (h : I a1 a2 a3 a4 a5 a6 a7 a8 a9 a10) : ∃ n, W n a1 a2 a3 a4 a5 a6 a7 a8 a9 a10 :=
  loop_m (σ := A1 × A2 × A3 × A4 × A5 × A6 × A7 × A8 × A9 × A10) (fun n s => W n s.1 s.2.1 s.2.2.1 s.2.2.2.1 s.2.2.2.2.1 s.2.2.2.2.2.1 s.2.2.2.2.2.2.1 s.2.2.2.2.2.2.2.1 s.2.2.2.2.2.2.2.2.1 s.2.2.2.2.2.2.2.2.2) (fun s => I s.1 s.2.1 s.2.2.1 s.2.2.2.1 s.2.2.2.2.1 s.2.2.2.2.2.1 s.2.2.2.2.2.2.1 s.2.2.2.2.2.2.2.1 s.2.2.2.2.2.2.2.2.1 s.2.2.2.2.2.2.2.2.2) (fun s => μ s.1 s.2.1 s.2.2.1 s.2.2.2.1 s.2.2.2.2.1 s.2.2.2.2.2.1 s.2.2.2.2.2.2.1 s.2.2.2.2.2.2.2.1 s.2.2.2.2.2.2.2.2.1 s.2.2.2.2.2.2.2.2.2) (fun n s hI hk => hs n s.1 s.2.1 s.2.2.1 s.2.2.2.1 s.2.2.2.2.1 s.2.2.2.2.2.1 s.2.2.2.2.2.2.1 s.2.2.2.2.2.2.2.1 s.2.2.2.2.2.2.2.2.1 s.2.2.2.2.2.2.2.2.2 hI (fun b1 b2 b3 b4 b5 b6 b7 b8 b9 b10 h9 hm => hk (b1, b2, b3, b4, b5, b6, b7, b8, b9, b10) h9 hm)) (a1, a2, a3, a4, a5, a6, a7, a8, a9, a10) h
theorem lp11 {A1 A2 A3 A4 A5 A6 A7 A8 A9 A10 A11 : Type} (W : Nat → A1 → A2 → A3 → A4 → A5 → A6 → A7 → A8 → A9 → A10 → A11 → Prop) (I : A1 → A2 → A3 → A4 → A5 → A6 → A7 → A8 → A9 → A10 → A11 → Prop) (μ : A1 → A2 → A3 → A4 → A5 → A6 → A7 → A8 → A9 → A10 → A11 → Nat) (hs : ∀ (n : Nat) (a1 : A1) (a2 : A2) (a3 : A3) (a4 : A4) (a5 : A5) (a6 : A6) (a7 : A7) (a8 : A8) (a9 : A9) (a10 : A10) (a11 : A11), I a1 a2 a3 a4 a5 a6 a7 a8 a9 a10 a11 → (∀ (b1 : A1) (b2 : A2) (b3 : A3) (b4 : A4) (b5 : A5) (b6 : A6) (b7 : A7) (b8 : A8) (b9 : A9) (b10 : A10) (b11 : A11), I b1 b2 b3 b4 b5 b6 b7 b8 b9 b10 b11 → μ b1 b2 b3 b4 b5 b6 b7 b8 b9 b10 b11 < μ a1 a2 a3 a4 a5 a6 a7 a8 a9 a10 a11 → W n b1 b2 b3 b4 b5 b6 b7 b8 b9 b10 b11) → W (n + 1) a1 a2 a3 a4 a5 a6 a7 a8 a9 a10 a11) (a1 : A1) (a2 : A2) (a3 : A3) (a4 : A4) (a5 : A5) (a6 : A6) (a7 : A7) (a8 : A8) (a9 : A9) (a10 : A10) (a11 : A11) (h : I a1 a2 a3 a4 a5 a6 a7 a8 a9 a10 a11) : ∃ n, W n a1 a2 a3 a4 a5 a6 a7 a8 a9 a10 a11 :=
  loop_m (σ := A1 × A2 × A3 × A4 × A5 × A6 × A7 × A8 × A9 × A10 × A11) (fun n s => W n s.1 s.2.1 s.2.2.1 s.2.2.2.1 s.2.2.2.2.1 s.2.2.2.2.2.1 s.2.2.2.2.2.2.1 s.2.2.2.2.2.2.2.1 s.2.2.2.2.2.2.2.2.1 s.2.2.2.2.2.2.2.2.2.1 s.2.2.2.2.2.2.2.2.2.2) (fun s => I s.1 s.2.1 s.2.2.1 s.2.2.2.1 s.2.2.2.2.1 s.2.2.2.2.2.1 s.2.2.2.2.2.2.1 s.2.2.2.2.2.2.2.1 s.2.2.2.2.2.2.2.2.1 s.2.2.2.2.2.2.2.2.2.1 s.2.2.2.2.2.2.2.2.2.2) (fun s => μ s.1 s.2.1 s.2.2.1 s.2.2.2.1 s.2.2.2.2.1 s.2.2.2.2.2.1 s.2.2.2.2.2.2.1 s.2.2.2.2.2.2.2.1 s.2.2.2.2.2.2.2.2.1 s.2.2.2.2.2.2.2.2.2.1 s.2.2.2.2.2.2.2.2.2.2) (fun n s hI hk => hs n s.1 s.2.1 s.2.2.1 s.2.2.2.1 s.2.2.2.2.1 s.2.2.2.2.2.1 s.2.2.2.2.2.2.1 s.2.2.2.2.2.2.2.1 s.2.2.2.2.2.2.2.2.1 s.2.2.2.2.2.2.2.2.2.1 s.2.2.2.2.2.2.2.2.2.2 hI (fun b1 b2 b3 b4 b5 b6 b7 b8 b9 b10 b11 h9 hm => hk (b1, b2, b3, b4, b5, b6, b7, b8, b9, b10, b11) h9 hm)) (a1, a2, a3, a4, a5, a6, a7, a8, a9, a10, a11) h
theorem lp12 {A1 A2 A3 A4 A5 A6 A7 A8 A9 A10 A11 A12 : Type} (W : Nat → A1 → A2 → A3 → A4 → A5 → A6 → A7 → A8 → A9 → A10 → A11 → A12 → Prop) (I : A1 → A2 → A3 → A4 → A5 → A6 → A7 → A8 → A9 → A10 → A11 → A12 → Prop) (μ : A1 → A2 → A3 → A4 → A5 → A6 → A7 → A8 → A9 → A10 → A11 → A12 → Nat) (hs : ∀ (n : Nat) (a1 : A1) (a2 : A2) (a3 : A3) (a4 : A4) (a5 : A5) (a6 : A6) (a7 : A7) (a8 : A8) (a9 : A9) (a10 : A10) (a11 : A11) (a12 : A12), I a1 a2 a3 a4 a5 a6 a7 a8 a9 a10 a11 a12 → (∀ (b1 : A1) (b2 : A2) (b3 : A3) (b4 : A4) (b5 : A5) (b6 : A6) (b7 : A7) (b8 : A8) (b9 : A9) (b10 : A10) (b11 : A11) (b12 : A12), I b1 b2 b3 b4 b5 b6 b7 b8 b9 b10 b11 b12 → μ b1 b2 b3 b4 b5 b6 b7 b8 b9 b10 b11 b12 < μ a1 a2 a3 a4 a5 a6 a7 a8 a9 a10 a11 a12 → W n b1 b2 b3 b4 b5 b6 b7 b8 b9 b10 b11 b12) → W (n + 1) a1 a2 a3 a4 a5 a6 a7 a8 a9 a10 a11 a12) (a1 : A1) (a2 : A2) (a3 : A3) (a4 : A4) (a5 : A5) (a6 : A6) (a7 : A7) (a8 : A8) (a9 : A9) (a10 : A10) (a11 : A11) (a12 : A12) (h : I a1 a2 a3 a4 a5 a6 a7 a8 a9 a10 a11 a12) : ∃ n, W n a1 a2 a3 a4 a5 a6 a7 a8 a9 a10 a11 a12 :=
  loop_m (σ := A1 × A2 × A3 × A4 × A5 × A6 × A7 × A8 × A9 × A10 × A11 × A12) (fun n s => W n s.1 s.2.1 s.2.2.1 s.2.2.2.1 s.2.2.2.2.1 s.2.2.2.2.2.1 s.2.2.2.2.2.2.1 s.2.2.2.2.2.2.2.1 s.2.2.2.2.2.2.2.2.1 s.2.2.2.2.2.2.2.2.2.1 s.2.2.2.2.2.2.2.2.2.2.1 s.2.2.2.2.2.2.2.2.2.2.2) (fun s => I s.1 s.2.1 s.2.2.1 s.2.2.2.1 s.2.2.2.2.1 s.2.2.2.2.2.1 s.2.2.2.2.2.2.1 s.2.2.2.2.2.2.2.1 s.2.2.2.2.2.2.2.2.1 s.2.2.2.2.2.2.2.2.2.1 s.2.2.2.2.2.2.2.2.2.2.1 s.2.2.2.2.2.2.2.2.2.2.2) (fun s => μ s.1 s.2.1 s.2.2.1 s.2.2.2.1 s.2.2.2.2.1 s.2.2.2.2.2.1 s.2.2.2.2.2.2.1 s.2.2.2.2.2.2.2.1 s.2.2.2.2.2.2.2.2.1 s.2.2.2.2.2.2.2.2.2.1 s.2.2.2.2.2.2.2.2.2.2.1 s.2.2.2.2.2.2.2.2.2.2.2) (fun n s hI hk => hs n s.1 s.2.1 s.2.2.1 s.2.2.2.1 s.2.2.2.2.1 s.2.2.2.2.2.1 s.2.2.2.2.2.2.1 s.2.2.2.2.2.2.2.1 s.2.2.2.2.2.2.2.2.1 s.2.2.2.2.2.2.2.2.2.1 s.2.2.2.2.2.2.2.2.2.2.1 s.2.2.2.2.2.2.2.2.2.2.2 hI (fun b1 b2 b3 b4 b5 b6 b7 b8 b9 b10 b11 b12 h9 hm => hk (b1, b2, b3, b4, b5, b6, b7, b8, b9, b10, b11, b12) h9 hm)) (a1, a2, a3, a4, a5, a6, a7, a8, a9, a10, a11, a12) h
theorem lp13 {A1 A2 A3 A4 A5 A6 A7 A8 A9 A10 A11 A12 A13 : Type} (W : Nat → A1 → A2 → A3 → A4 → A5 → A6 → A7 → A8 → A9 → A10 → A11 → A12 → A13 → Prop) (I : A1 → A2 → A3 → A4 → A5 → A6 → A7 → A8 → A9 → A10 → A11 → A12 → A13 → Prop) (μ : A1 → A2 → A3 → A4 → A5 → A6 → A7 → A8 → A9 → A10 → A11 → A12 → A13 → Nat) (hs : ∀ (n : Nat) (a1 : A1) (a2 : A2) (a3 : A3) (a4 : A4) (a5 : A5) (a6 : A6) (a7 : A7) (a8 : A8) (a9 : A9) (a10 : A10) (a11 : A11) (a12 : A12) (a13 : A13), I a1 a2 a3 a4 a5 a6 a7 a8 a9 a10 a11 a12 a13 → (∀ (b1 : A1) (b2 : A2) (b3 : A3) (b4 : A4) (b5 : A5) (b6 : A6) (b7 : A7) (b8 : A8) (b9 : A9) (b10 : A10) (b11 : A11) (b12 : A12) (b13 : A13), I b1 b2 b3 b4 b5 b6 b7 b8 b9 b10 b11 b12 b13 → μ b1 b2 b3 b4 b5 b6 b7 b8 b9 b10 b11 b12 b13 < μ a1 a2 a3 a4 a5 a6 a7 a8 a9 a10 a11 a12 a13 → W n b1 b2 b3 b4 b5 b6 b7 b8 b9 b10 b11 b12 b13) → W (n + 1) a1 a2 a3 a4 a5 a6 a7 a8 a9 a10 a11 a12 a13) (a1 : A1) (a2 : A2) (a3 : A3) (a4 : A4) (a5 : A5) (a6 : A6) (a7 : A7) (a8 : A8) (a9 : A9) (a10 : A10) (a11 : A11) (a12 : A12) (a13 : A13) (h : I a1 a2 a3 a4 a5 a6 a7 a8 a9 a10 a11 a12 a13) : ∃ n, W n a1 a2 a3 a4 a5 a6 a7 a8 a9 a10 a11 a12 a13 :=
  loop_m (σ := A1 × A2 × A3 × A4 × A5 × A6 × A7 × A8 × A9 × A10 × A11 × A12 × A13) (fun n s => W n s.1 s.2.1 s.2.2.1 s.2.2.2.1 s.2.2.2.2.1 s.2.2.2.2.2.1 s.2.2.2.2.2.2.1 s.2.2.2.2.2.2.2.1 s.2.2.2.2.2.2.2.2.1 s.2.2.2.2.2.2.2.2.2.1 s.2.2.2.2.2.2.2.2.2.2.1 s.2.2.2.2.2.2.2.2.2.2.2.1 s.2.2.2.2.2.2.2.2.2.2.2.2) (fun s => I s.1 s.2.1 s.2.2.1 s.2.2.2.1 s.2.2.2.2.1 s.2.2.2.2.2.1 s.2.2.2.2.2.2.1 s.2.2.2.2.2.2.2.1 s.2.2.2.2.2.2.2.2.1 s.2.2.2.2.2.2.2.2.2.1 s.2.2.2.2.2.2.2.2.2.2.1 s.2.2.2.2.2.2.2.2.2.2.2.1 s.2.2.2.2.2.2.2.2.2.2.2.2) (fun s => μ s.1 s.2.1 s.2.2.1 s.2.2.2.1 s.2.2.2.2.1 s.2.2.2.2.2.1 s.2.2.2.2.2.2.1 s.2.2.2.2.2.2.2.1 s.2.2.2.2.2.2.2.2.1 s.2.2.2.2.2.2.2.2.2.1 s.2.2.2.2.2.2.2.2.2.2.1 s.2.2.2.2.2.2.2.2.2.2.2.1 s.2.2.2.2.2.2.2.2.2.2.2.2) (fun n s hI hk => hs n s.1 s.2.1 s.2.2.1 s.2.2.2.1 s.2.2.2.2.1 s.2.2.2.2.2.1 s.2.2.2.2.2.2.1 s.2.2.2.2.2.2.2.1 s.2.2.2.2.2.2.2.2.1 s.2.2.2.2.2.2.2.2.2.1 s.2.2.2.2.2.2.2.2.2.2.1 s.2.2.2.2.2.2.2.2.2.2.2.1 s.2.2.2.2.2.2.2.2.2.2.2.2 hI (fun b1 b2 b3 b4 b5 b6 b7 b8 b9 b10 b11 b12 b13 h9 hm => hk (b1, b2, b3, b4, b5, b6, b7, b8, b9, b10, b11, b12, b13) h9 hm)) (a1, a2, a3, a4, a5, a6, a7, a8, a9, a10, a11, a12, a13) h
theorem lp14 {A1 A2 A3 A4 A5 A6 A7 A8 A9 A10 A11 A12 A13 A14 : Type} (W : Nat → A1 → A2 → A3 → A4 → A5 → A6 → A7 → A8 → A9 → A10 → A11 → A12 → A13 → A14 → Prop) (I : A1 → A2 → A3 → A4 → A5 → A6 → A7 → A8 → A9 → A10 → A11 → A12 → A13 → A14 → Prop) (μ : A1 → A2 → A3 → A4 → A5 → A6 → A7 → A8 → A9 → A10 → A11 → A12 → A13 → A14 → Nat) (hs : ∀ (n : Nat) (a1 : A1) (a2 : A2) (a3 : A3) (a4 : A4) (a5 : A5) (a6 : A6) (a7 : A7) (a8 : A8) (a9 : A9) (a10 : A10) (a11 : A11) (a12 : A12) (a13 : A13) (a14 : A14), I a1 a2 a3 a4 a5 a6 a7 a8 a9 a10 a11 a12 a13 a14 → (∀ (b1 : A1) (b2 : A2) (b3 : A3) (b4 : A4) (b5 : A5) (b6 : A6) (b7 : A7) (b8 : A8) (b9 : A9) (b10 : A10) (b11 : A11) (b12 : A12) (b13 : A13) (b14 : A14), I b1 b2 b3 b4 b5 b6 b7 b8 b9 b10 b11 b12 b13 b14 → μ b1 b2 b3 b4 b5 b6 b7 b8 b9 b10 b11 b12 b13 b14 < μ a1 a2 a3 a4 a5 a6 a7 a8 a9 a10 a11 a12 a13 a14 → W n b1 b2 b3 b4 b5 b6 b7 b8 b9 b10 b11 b12 b13 b14) → W (n + 1) a1 a2 a3 a4 a5 a6 a7 a8 a9 a10 a11 a12 a13 a14) (a1 : A1) (a2 : A2) (a3 : A3) (a4 : A4) (a5 : A5) (a6 : A6) (a7 : A7) (a8 : A8) (a9 : A9) (a10 : A10) (a11 : A11) (a12 : A12) (a13 : A13) (a14 : A14) (h : I a1 a2 a3 a4 a5 a6 a7 a8 a9 a10 a11 a12 a13 a14) : ∃ n, W n a1 a2 a3 a4 a5 a6 a7 a8 a9 a10 a11 a12 a13 a14 :=
  loop_m (σ := A1 × A2 × A3 × A4 × A5 × A6 × A7 × A8 × A9 × A10 × A11 × A12 × A13 × A14) (fun n s => W n s.1 s.2.1 s.2.2.1 s.2.2.2.1 s.2.2.2.2.1 s.2.2.2.2.2.1 s.2.2.2.2.2.2.1 s.2.2.2.2.2.2.2.1 s.2.2.2.2.2.2.2.2.1 s.2.2.2.2.2.2.2.2.2.1 s.2.2.2.2.2.2.2.2.2.2.1 s.2.2.2.2.2.2.2.2.2.2.2.1 s.2.2.2.2.2.2.2.2.2.2.2.2.1 s.2.2.2.2.2.2.2.2.2.2.2.2.2) (fun s => I s.1 s.2.1 s.2.2.1 s.2.2.2.1 s.2.2.2.2.1 s.2.2.2.2.2.1 s.2.2.2.2.2.2.1 s.2.2.2.2.2.2.2.1 s.2.2.2.2.2.2.2.2.1 s.2.2.2.2.2.2.2.2.2.1 s.2.2.2.2.2.2.2.2.2.2.1 s.2.2.2.2.2.2.2.2.2.2.2.1 s.2.2.2.2.2.2.2.2.2.2.2.2.1 s.2.2.2.2.2.2.2.2.2.2.2.2.2) (fun s => μ s.1 s.2.1 s.2.2.1 s.2.2.2.1 s.2.2.2.2.1 s.2.2.2.2.2.1 s.2.2.2.2.2.2.1 s.2.2.2.2.2.2.2.1 s.2.2.2.2.2.2.2.2.1 s.2.2.2.2.2.2.2.2.2.1 s.2.2.2.2.2.2.2.2.2.2.1 s.2.2.2.2.2.2.2.2.2.2.2.1 s.2.2.2.2.2.2.2.2.2.2.2.2.1 s.2.2.2.2.2.2.2.2.2.2.2.2.2) (fun n s hI hk => hs n s.1 s.2.1 s.2.2.1 s.2.2.2.1 s.2.2.2.2.1 s.2.2.2.2.2.1 s.2.2.2.2.2.2.1 s.2.2.2.2.2.2.2.1 s.2.2.2.2.2.2.2.2.1 s.2.2.2.2.2.2.2.2.2.1 s.2.2.2.2.2.2.2.2.2.2.1 s.2.2.2.2.2.2.2.2.2.2.2.1 s.2.2.2.2.2.2.2.2.2.2.2.2.1 s.2.2.2.2.2.2.2.2.2.2.2.2.2 hI (fun b1 b2 b3 b4 b5 b6 b7 b8 b9 b10 b11 b12 b13 b14 h9 hm => hk (b1, b2, b3, b4, b5, b6, b7, b8, b9, b10, b11, b12, b13, b14) h9 hm)) (a1, a2, a3, a4, a5, a6, a7, a8, a9, a10, a11, a12, a13, a14) h
theorem lp15 {A1 A2 A3 A4 A5 A6 A7 A8 A9 A10 A11 A12 A13 A14 A15 : Type} (W : Nat → A1 → A2 → A3 → A4 → A5 → A6 → A7 → A8 → A9 → A10 → A11 → A12 → A13 → A14 → A15 → Prop) (I : A1 → A2 → A3 → A4 → A5 → A6 → A7 → A8 → A9 → A10 → A11 → A12 → A13 → A14 → A15 → Prop) (μ : A1 → A2 → A3 → A4 → A5 → A6 → A7 → A8 → A9 → A10 → A11 → A12 → A13 → A14 → A15 → Nat) (hs : ∀ (n : Nat) (a1 : A1) (a2 : A2) (a3 : A3) (a4 : A4) (a5 : A5) (a6 : A6) (a7 : A7) (a8 : A8) (a9 : A9) (a10 : A10) (a11 : A11) (a12 : A12) (a13 : A13) (a14 : A14) (a15 : A15), I a1 a2 a3 a4 a5 a6 a7 a8 a9 a10 a11 a12 a13 a14 a15 → (∀ (b1 : A1) (b2 : A2) (b3 : A3) (b4 : A4) (b5 : A5) (b6 : A6) (b7 : A7) (b8 : A8) (b9 : A9) (b10 : A10) (b11 : A11) (b12 : A12) (b13 : A13) (b14 : A14) (b15 : A15), I b1 b2 b3 b4 b5 b6 b7 b8 b9 b10 b11 b12 b13 b14 b15 → μ b1 b2 b3 b4 b5 b6 b7 b8 b9 b10 b11 b12 b13 b14 b15 < μ a1 a2 a3 a4 a5 a6 a7 a8 a9 a10 a11 a12 a13 a14 a15 → W n b1 b2 b3 b4 b5 b6 b7 b8 b9 b10 b11 b12 b13 b14 b15) → W (n + 1) a1 a2 a3 a4 a5 a6 a7 a8 a9 a10 a11 a12 a13 a14 a15) (a1 : A1) (a2 : A2) (a3 : A3) (a4 : A4) (a5 : A5) (a6 : A6) (a7 : A7) (a8 : A8) (a9 : A9) (a10 : A10) (a11 : A11) (a12 : A12) (a13 : A13) (a14 : A14) (a15 : A15) (h : I a1 a2 a3 a4 a5 a6 a7 a8 a9 a10 a11 a12 a13 a14 a15) : ∃ n, W n a1 a2 a3 a4 a5 a6 a7 a8 a9 a10 a11 a12 a13 a14 a15 :=
  loop_m (σ := A1 × A2 × A3 × A4 × A5 × A6 × A7 × A8 × A9 × A10 × A11 × A12 × A13 × A14 × A15) (fun n s => W n s.1 s.2.1 s.2.2.1 s.2.2.2.1 s.2.2.2.2.1 s.2.2.2.2.2.1 s.2.2.2.2.2.2.1 s.2.2.2.2.2.2.2.1 s.2.2.2.2.2.2.2.2.1 s.2.2.2.2.2.2.2.2.2.1 s.2.2.2.2.2.2.2.2.2.2.1 s.2.2.2.2.2.2.2.2.2.2.2.1 s.2.2.2.2.2.2.2.2.2.2.2.2.1 s.2.2.2.2.2.2.2.2.2.2.2.2.2.1 s.2.2.2.2.2.2.2.2.2.2.2.2.2.2) (fun s => I s.1 s.2.1 s.2.2.1 s.2.2.2.1 s.2.2.2.2.1 s.2.2.2.2.2.1 s.2.2.2.2.2.2.1 s.2.2.2.2.2.2.2.1 s.2.2.2.2.2.2.2.2.1 s.2.2.2.2.2.2.2.2.2.1 s.2.2.2.2.2.2.2.2.2.2.1 s.2.2.2.2.2.2.2.2.2.2.2.1 s.2.2.2.2.2.2.2.2.2.2.2.2.1 s.2.2.2.2.2.2.2.2.2.2.2.2.2.1 s.2.2.2.2.2.2.2.2.2.2.2.2.2.2) (fun s => μ s.1 s.2.1 s.2.2.1 s.2.2.2.1 s.2.2.2.2.1 s.2.2.2.2.2.1 s.2.2.2.2.2.2.1 s.2.2.2.2.2.2.2.1 s.2.2.2.2.2.2.2.2.1 s.2.2.2.2.2.2.2.2.2.1 s.2.2.2.2.2.2.2.2.2.2.1 s.2.2.2.2.2.2.2.2.2.2.2.1 s.2.2.2.2.2.2.2.2.2.2.2.2.1 s.2.2.2.2.2.2.2.2.2.2.2.2.2.1 s.2.2.2.2.2.2.2.2.2.2.2.2.2.2) (fun n s hI hk => hs n s.1 s.2.1 s.2.2.1 s.2.2.2.1 s.2.2.2.2.1 s.2.2.2.2.2.1 s.2.2.2.2.2.2.1 s.2.2.2.2.2.2.2.1 s.2.2.2.2.2.2.2.2.1 s.2.2.2.2.2.2.2.2.2.1 s.2.2.2.2.2.2.2.2.2.2.1 s.2.2.2.2.2.2.2.2.2.2.2.1 s.2.2.2.2.2.2.2.2.2.2.2.2.1 s.2.2.2.2.2.2.2.2.2.2.2.2.2.1 s.2.2.2.2.2.2.2.2.2.2.2.2.2.2 hI (fun b1 b2 b3 b4 b5 b6 b7 b8 b9 b10 b11 b12 b13 b14 b15 h9 hm => hk (b1, b2, b3, b4, b5, b6, b7, b8, b9, b10, b11, b12, b13, b14, b15) h9 hm)) (a1, a2, a3, a4, a5, a6, a7, a8, a9, a10, a11, a12, a13, a14, a15) h
theorem lp16 {A1 A2 A3 A4 A5 A6 A7 A8 A9 A10 A11 A12 A13 A14 A15 A16 : Type} (W : Nat → A1 → A2 → A3 → A4 → A5 → A6 → A7 → A8 → A9 → A10 → A11 → A12 → A13 → A14 → A15 → A16 → Prop) (I : A1 → A2 → A3 → A4 → A5 → A6 → A7 → A8 → A9 → A10 → A11 → A12 → A13 → A14 → A15 → A16 → Prop) (μ : A1 → A2 → A3 → A4 → A5 → A6 → A7 → A8 → A9 → A10 → A11 → A12 → A13 → A14 → A15 → A16 → Nat) (hs : ∀ (n : Nat) (a1 : A1) (a2 : A2) (a3 : A3) (a4 : A4) (a5 : A5) (a6 : A6) (a7 : A7) (a8 : A8) (a9 : A9) (a10 : A10) (a11 : A11) (a12 : A12) (a13 : A13) (a14 : A14) (a15 : A15) (a16 : A16), I a1 a2 a3 a4 a5 a6 a7 a8 a9 a10 a11 a12 a13 a14 a15 a16 → (∀ (b1 : A1) (b2 : A2) (b3 : A3) (b4 : A4) (b5 : A5) (b6 : A6) (b7 : A7) (b8 : A8) (b9 : A9) (b10 : A10) (b11 : A11) (b12 : A12) (b13 : A13) (b14 : A14) (b15 : A15) (b16 : A16), I b1 b2 b3 b4 b5 b6 b7 b8 b9 b10 b11 b12 b13 b14 b15 b16 → μ b1 b2 b3 b4 b5 b6 b7 b8 b9 b10 b11 b12 b13 b14 b15 b16 < μ a1 a2 a3 a4 a5 a6 a7 a8 a9 a10 a11 a12 a13 a14 a15 a16 → W n b1 b2 b3 b4 b5 b6 b7 b8 b9 b10 b11 b12 b13 b14 b15 b16) → W (n + 1) a1 a2 a3 a4 a5 a6 a7 a8 a9 a10 a11 a12 a13 a14 a15 a16) (a1 : A1) (a2 : A2) (a3 : A3) (a4 : A4) (a5 : A5) (a6 : A6) (a7 : A7) (a8 : A8) (a9 : A9) (a10 : A10) (a11 : A11) (a12 : A12) (a13 : A13) (a14 : A14) (a15 : A15) (a16 : A16) (h : I a1 a2 a3 a4 a5 a6 a7 a8 a9 a10 a11 a12 a13 a14 a15 a16) : ∃ n, W n a1 a2 a3 a4 a5 a6 a7 a8 a9 a10 a11 a12 a13 a14 a15 a16 :=
  loop_m (σ := A1 × A2 × A3 × A4 × A5 × A6 × A7 × A8 × A9 × A10 × A11 × A12 × A13 × A14 × A15 × A16) (fun n s => W n s.1 s.2.1 s.2.2.1 s.2.2.2.1 s.2.2.2.2.1 s.2.2.2.2.2.1 s.2.2.2.2.2.2.1 s.2.2.2.2.2.2.2.1 s.2.2.2.2.2.2.2.2.1 s.2.2.2.2.2.2.2.2.2.1 s.2.2.2.2.2.2.2.2.2.2.1 s.2.2.2.2.2.2.2.2.2.2.2.1 s.2.2.2.2.2.2.2.2.2.2.2.2.1 s.2.2.2.2.2.2.2.2.2.2.2.2.2.1 s.2.2.2.2.2.2.2.2.2.2.2.2.2.2.1 s.2.2.2.2.2.2.2.2.2.2.2.2.2.2.2) (fun s => I s.1 s.2.1 s.2.2.1 s.2.2.2.1 s.2.2.2.2.1 s.2.2.2.2.2.1 s.2.2.2.2.2.2.1 s.2.2.2.2.2.2.2.1 s.2.2.2.2.2.2.2.2.1 s.2.2.2.2.2.2.2.2.2.1 s.2.2.2.2.2.2.2.2.2.2.1 s.2.2.2.2.2.2.2.2.2.2.2.1 s.2.2.2.2.2.2.2.2.2.2.2.2.1 s.2.2.2.2.2.2.2.2.2.2.2.2.2.1 s.2.2.2.2.2.2.2.2.2.2.2.2.2.2.1 s.2.2.2.2.2.2.2.2.2.2.2.2.2.2.2) (fun s => μ s.1 s.2.1 s.2.2.1 s.2.2.2.1 s.2.2.2.2.1 s.2.2.2.2.2.1 s.2.2.2.2.2.2.1 s.2.2.2.2.2.2.2.1 s.2.2.2.2.2.2.2.2.1 s.2.2.2.2.2.2.2.2.2.1 s.2.2.2.2.2.2.2.2.2.2.1 s.2.2.2.2.2.2.2.2.2.2.2.1 s.2.2.2.2.2.2.2.2.2.2.2.2.1 s.2.2.2.2.2.2.2.2.2.2.2.2.2.1 s.2.2.2.2.2.2.2.2.2.2.2.2.2.2.1 s.2.2.2.2.2.2.2.2.2.2.2.2.2.2.2) (fun n s hI hk => hs n s.1 s.2.1 s.2.2.1 s.2.2.2.1 s.2.2.2.2.1 s.2.2.2.2.2.1 s.2.2.2.2.2.2.1 s.2.2.2.2.2.2.2.1 s.2.2.2.2.2.2.2.2.1 s.2.2.2.2.2.2.2.2.2.1 s.2.2.2.2.2.2.2.2.2.2.1 s.2.2.2.2.2.2.2.2.2.2.2.1 s.2.2.2.2.2.2.2.2.2.2.2.2.1 s.2.2.2.2.2.2.2.2.2.2.2.2.2.1 s.2.2.2.2.2.2.2.2.2.2.2.2.2.2.1 s.2.2.2.2.2.2.2.2.2.2.2.2.2.2.2 hI (fun b1 b2 b3 b4 b5 b6 b7 b8 b9 b10 b11 b12 b13 b14 b15 b16 h9 hm => hk (b1, b2, b3, b4, b5, b6, b7, b8, b9, b10, b11, b12, b13, b14, b15, b16) h9 hm)) (a1, a2, a3, a4, a5, a6, a7, a8, a9, a10, a11, a12, a13, a14, a15, a16) h
theorem pk_least (P : Nat → Prop) (h : ∃ k, P k) : ∃ k, P k ∧ ∀ j, j < k → ¬ P j := by
  obtain ⟨k, hk⟩ := h
  induction k using Nat.strongRecOn with
  | ind k ih =>
    by_cases e : ∃ j, j < k ∧ P j
    · obtain ⟨j, hj, pj⟩ := e
      exact ih j hj pj
    · exact ⟨k, hk, fun j hj pj => e ⟨j, hj, pj⟩⟩
theorem rp1 {ρ A1 : Type} (W : Nat → (ρ → Prop) → A1 → Prop) (ok : A1 → Prop) (μ : A1 → Nat) (val : A1 → ρ)
    (hs : ∀ (d : Nat) (post : ρ → Prop) (a1 : A1), ok a1 → post (val a1) → (∀ (post' : ρ → Prop) (b1 : A1), ok b1 → μ b1 < μ a1 → post' (val b1) → W d post' b1) → W (d + 1) post a1) :
    ∀ (d : Nat) (post : ρ → Prop) (a1 : A1), ok a1 → μ a1 < d → post (val a1) → W d post a1 := by
  intro d
  induction d with
  | zero => intro post a1 _ h; omega
  | succ d ih =>
    intro post a1 ho hm hp
    exact hs d post a1 ho hp (fun post' b1 ho' hm' hp' => ih post' b1 ho' (by omega) hp')
theorem rp2 {ρ A1 A2 : Type} (W : Nat → (ρ → Prop) → A1 → A2 → Prop) (ok : A1 → A2 → Prop) (μ : A1 → A2 → Nat) (val : A1 → A2 → ρ)
    (hs : ∀ (d : Nat) (post : ρ → Prop) (a1 : A1) (a2 : A2), ok a1 a2 → post (val a1 a2) → (∀ (post' : ρ → Prop) (b1 : A1) (b2 : A2), ok b1 b2 → μ b1 b2 < μ a1 a2 → post' (val b1 b2) → W d post' b1 b2) → W (d + 1) post a1 a2) :
    ∀ (d : Nat) (post : ρ → Prop) (a1 : A1) (a2 : A2), ok a1 a2 → μ a1 a2 < d → post (val a1 a2) → W d post a1 a2 := by
  intro d
  induction d with
  | zero => intro post a1 a2 _ h; omega
  | succ d ih =>
    intro post a1 a2 ho hm hp
    exact hs d post a1 a2 ho hp (fun post' b1 b2 ho' hm' hp' => ih post' b1 b2 ho' (by omega) hp')
theorem rp3 {ρ A1 A2 A3 : Type} (W : Nat → (ρ → Prop) → A1 → A2 → A3 → Prop) (ok : A1 → A2 → A3 → Prop) (μ : A1 → A2 → A3 → Nat) (val : A1 → A2 → A3 → ρ)
    (hs : ∀ (d : Nat) (post : ρ → Prop) (a1 : A1) (a2 : A2) (a3 : A3), ok a1 a2 a3 → post (val a1 a2 a3) → (∀ (post' : ρ → Prop) (b1 : A1) (b2 : A2) (b3 : A3), ok b1 b2 b3 → μ b1 b2 b3 < μ a1 a2 a3 → post' (val b1 b2 b3) → W d post' b1 b2 b3) → W (d + 1) post a1 a2 a3) :
    ∀ (d : Nat) (post : ρ → Prop) (a1 : A1) (a2 : A2) (a3 : A3), ok a1 a2 a3 → μ a1 a2 a3 < d → post (val a1 a2 a3) → W d post a1 a2 a3 := by
  intro d
  induction d with
  | zero => intro post a1 a2 a3 _ h; omega
  | succ d ih =>
    intro post a1 a2 a3 ho hm hp
    exact hs d post a1 a2 a3 ho hp (fun post' b1 b2 b3 ho' hm' hp' => ih post' b1 b2 b3 ho' (by omega) hp')
theorem rp4 {ρ A1 A2 A3 A4 : Type} (W : Nat → (ρ → Prop) → A1 → A2 → A3 → A4 → Prop) (ok : A1 → A2 → A3 → A4 → Prop) (μ : A1 → A2 → A3 → A4 → Nat) (val : A1 → A2 → A3 → A4 → ρ)
    (hs : ∀ (d : Nat) (post : ρ → Prop) (a1 : A1) (a2 : A2) (a3 : A3) (a4 : A4), ok a1 a2 a3 a4 → post (val a1 a2 a3 a4) → (∀ (post' : ρ → Prop) (b1 : A1) (b2 : A2) (b3 : A3) (b4 : A4), ok b1 b2 b3 b4 → μ b1 b2 b3 b4 < μ a1 a2 a3 a4 → post' (val b1 b2 b3 b4) → W d post' b1 b2 b3 b4) → W (d + 1) post a1 a2 a3 a4) :
    ∀ (d : Nat) (post : ρ → Prop) (a1 : A1) (a2 : A2) (a3 : A3) (a4 : A4), ok a1 a2 a3 a4 → μ a1 a2 a3 a4 < d → post (val a1 a2 a3 a4) → W d post a1 a2 a3 a4 := by
  intro d
  induction d with
  | zero => intro post a1 a2 a3 a4 _ h; omega
  | succ d ih =>
    intro post a1 a2 a3 a4 ho hm hp
    exact hs d post a1 a2 a3 a4 ho hp (fun post' b1 b2 b3 b4 ho' hm' hp' => ih post' b1 b2 b3 b4 ho' (by omega) hp')
theorem rp5 {ρ A1 A2 A3 A4 A5 : Type} (W : Nat → (ρ → Prop) → A1 → A2 → A3 → A4 → A5 → Prop) (ok : A1 → A2 → A3 → A4 → A5 → Prop) (μ : A1 → A2 → A3 → A4 → A5 → Nat) (val : A1 → A2 → A3 → A4 → A5 → ρ)
    (hs : ∀ (d : Nat) (post : ρ → Prop) (a1 : A1) (a2 : A2) (a3 : A3) (a4 : A4) (a5 : A5), ok a1 a2 a3 a4 a5 → post (val a1 a2 a3 a4 a5) → (∀ (post' : ρ → Prop) (b1 : A1) (b2 : A2) (b3 : A3) (b4 : A4) (b5 : A5), ok b1 b2 b3 b4 b5 → μ b1 b2 b3 b4 b5 < μ a1 a2 a3 a4 a5 → post' (val b1 b2 b3 b4 b5) → W d post' b1 b2 b3 b4 b5) → W (d + 1) post a1 a2 a3 a4 a5) :
    ∀ (d : Nat) (post : ρ → Prop) (a1 : A1) (a2 : A2) (a3 : A3) (a4 : A4) (a5 : A5), ok a1 a2 a3 a4 a5 → μ a1 a2 a3 a4 a5 < d → post (val a1 a2 a3 a4 a5) → W d post a1 a2 a3 a4 a5 := by
  intro d
  induction d with
  | zero => intro post a1 a2 a3 a4 a5 _ h; omega
  | succ d ih =>
    intro post a1 a2 a3 a4 a5 ho hm hp
    exact hs d post a1 a2 a3 a4 a5 ho hp (fun post' b1 b2 b3 b4 b5 ho' hm' hp' => ih post' b1 b2 b3 b4 b5 ho' (by omega) hp')
theorem rp6 {ρ A1 A2 A3 A4 A5 A6 : Type} (W : Nat → (ρ → Prop) → A1 → A2 → A3 → A4 → A5 → A6 → Prop) (ok : A1 → A2 → A3 → A4 → A5 → A6 → Prop) (μ : A1 → A2 → A3 → A4 → A5 → A6 → Nat) (val : A1 → A2 → A3 → A4 → A5 → A6 → ρ)
    (hs : ∀ (d : Nat) (post : ρ → Prop) (a1 : A1) (a2 : A2) (a3 : A3) (a4 : A4) (a5 : A5) (a6 : A6), ok a1 a2 a3 a4 a5 a6 → post (val a1 a2 a3 a4 a5 a6) → (∀ (post' : ρ → Prop) (b1 : A1) (b2 : A2) (b3 : A3) (b4 : A4) (b5 : A5) (b6 : A6), ok b1 b2 b3 b4 b5 b6 → μ b1 b2 b3 b4 b5 b6 < μ a1 a2 a3 a4 a5 a6 → post' (val b1 b2 b3 b4 b5 b6) → W d post' b1 b2 b3 b4 b5 b6) → W (d + 1) post a1 a2 a3 a4 a5 a6) :
    ∀ (d : Nat) (post : ρ → Prop) (a1 : A1) (a2 : A2) (a3 : A3) (a4 : A4) (a5 : A5) (a6 : A6), ok a1 a2 a3 a4 a5 a6 → μ a1 a2 a3 a4 a5 a6 < d → post (val a1 a2 a3 a4 a5 a6) → W d post a1 a2 a3 a4 a5 a6 := by
  intro d
  induction d with
  | zero => intro post a1 a2 a3 a4 a5 a6 _ h; omega
  | succ d ih =>
    intro post a1 a2 a3 a4 a5 a6 ho hm hp
    exact hs d post a1 a2 a3 a4 a5 a6 ho hp (fun post' b1 b2 b3 b4 b5 b6 ho' hm' hp' => ih post' b1 b2 b3 b4 b5 b6 ho' (by omega) hp')
theorem rec_p {σ ρ : Type} (W : Nat → (ρ → Prop) → σ → Prop) (ok : σ → Prop) (μ : σ → Nat) (val : σ → ρ)
    (hs : ∀ d s post, ok s → post (val s) → (∀ s' post', ok s' → μ s' < μ s → post' (val s') → W d post' s') → W (d + 1) post s) :
    ∀ d s post, ok s → μ s < d → post (val s) → W d post s := by
  intro d
  induction d with
  | zero => intro s post _ h; omega
  | succ d ih =>
    intro s post ho hm hp
    exact hs d s post ho hp (fun s' post' ho' hm' hp' => ih s' post' ho' (by omega) hp')
theorem rec_q {σ ρ : Type} (W : Nat → (ρ → Prop) → σ → Prop) (ok : σ → Prop) (μ : σ → Nat) (Q : σ → ρ → Prop)
    (hs : ∀ d s post, ok s → (∀ r, Q s r → post r) → (∀ s' post', ok s' → μ s' < μ s → (∀ r, Q s' r → post' r) → W d post' s') → W (d + 1) post s) :
    ∀ d s post, ok s → μ s < d → (∀ r, Q s r → post r) → W d post s := by
  intro d
  induction d with
  | zero => intro s post _ h; omega
  | succ d ih =>
    intro s post ho hm hp
    exact hs d s post ho hp (fun s' post' ho' hm' hp' => ih s' post' ho' (by omega) hp')
def bx_sum (f : Nat → Int32) : Nat → Int32
  | 0 => 0
  | n + 1 => bx_sum f n + f n
theorem ek_u {A : Prop} {B : Nat → Prop} {k N : Nat} (hk : k < N) (h : B k) : (some k = none → A) ∧ (∀ y : Nat, some k = some y → (y < N ∧ B y)) :=
  ⟨fun z => absurd z (Option.some_ne_none k), fun _ e => (by cases e; exact ⟨hk, h⟩)⟩
theorem ek_nu {A : Prop} {B : Nat → Prop} (h : A) : ((none : Option Nat) = none → A) ∧ (∀ y : Nat, (none : Option Nat) = some y → B y) :=
  ⟨fun _ => h, fun _ e => (by cases e)⟩
theorem ek_if {c d A B : Prop} (e : c ↔ d) (f : d → A) (g : ¬ d → B) : (c → A) ∧ (¬ c → B) :=
  ⟨fun z => f (e.mp z), fun z => g (fun y => z (e.mpr y))⟩
theorem ek_v {α : Sort _} {P : α → Prop} {a b : α} (e : a = b) (h : P b) : P a := e ▸ h
theorem co_some {x : Option Nat} {A : Prop} {B : Nat → Prop} (i : Nat) (h : B i) (hx : x = some i := by rfl) : (x = none → A) ∧ (∀ y : Nat, x = some y → B y) := by
  subst hx
  exact ⟨fun e => (nomatch e), fun y e => Option.some.inj e ▸ h⟩
theorem co_none {x : Option Nat} {A : Prop} {B : Nat → Prop} (h : A) (hx : x = none := by rfl) : (x = none → A) ∧ (∀ y : Nat, x = some y → B y) := by
  subst hx
  exact ⟨fun _ => h, fun y e => (nomatch e)⟩
theorem co_any {x : Option Nat} {A : Prop} {B : Nat → Prop} (hn : x = none → A) (hs : ∀ i : Nat, x = some i → B i) : (x = none → A) ∧ (∀ y : Nat, x = some y → B y) := ⟨hn, hs⟩
theorem co_2 {P : Nat → Prop} (h0 : P 0) (h1 : P 1) {i : Nat} (hi : i < 2) : P i :=
  match i, hi with
  | 0, _ => h0
  | 1, _ => h1
theorem co_3 {P : Nat → Prop} (h0 : P 0) (h1 : P 1) (h2 : P 2) {i : Nat} (hi : i < 3) : P i :=
  match i, hi with
  | 0, _ => h0
  | 1, _ => h1
  | 2, _ => h2
theorem co_4 {P : Nat → Prop} (h0 : P 0) (h1 : P 1) (h2 : P 2) (h3 : P 3) {i : Nat} (hi : i < 4) : P i :=
  match i, hi with
  | 0, _ => h0
  | 1, _ => h1
  | 2, _ => h2
  | 3, _ => h3
theorem co_dec {N : Nat} {P : Nat → Prop} [DecidablePred P] (h : (List.range N).all (fun i => decide (P i)) = true) {i : Nat} (hi : i < N) : P i := by
  have := List.all_eq_true.mp h i (List.mem_range.mpr hi)
  exact of_decide_eq_true this
theorem co_tab {α : Type} {l : List α} {d : α} {P : α → Prop} (h : ∀ a, a ∈ l → P a) {i : Nat} (hi : i < l.length) : P (l.getD i d) := by
  rw [List.getD_eq_getElem?_getD, List.getElem?_eq_getElem hi]
  exact h _ (List.getElem_mem hi)
theorem pk_mu {x : Int32} {L : Nat} (h0 : ¬ x < 0) (h : ¬ nI L ≤ x) (hL : L < 2 ^ 31) : ∃ j : Nat, j < L ∧ x = nI j ∧ x + 1 = nI (j + 1) ∧ x.toNatClampNeg = j ∧ L - (x + 1).toNatClampNeg < L - x.toNatClampNeg := by
  obtain ⟨j, hj, rfl⟩ := nI_of h0
  have hl : j < L := Nat.not_le.mp fun q => h (nI_le q hj)
  refine ⟨j, hl, rfl, nI_1 j, nI_clamp hj, ?_⟩
  rw [nI_1, nI_clamp (by omega), nI_clamp hj]
  omega
theorem op_s {α : Type} {r : Option α} {A : Prop} {B : α → Prop} {y : α} (h : r = some y) (b : B y) : (r = none → A) ∧ ∀ z, r = some z → B z :=
  ⟨fun e => (by rw [h] at e; cases e), fun z e => (by rw [h] at e; cases e; exact b)⟩
def l_holds {α : Type} (a : Nat → Option Nat) (LP : List Nat) (p : Nat → α) (c : Nat) (b : Nat → α) : Prop :=
  ∀ j, j < c → ∃ y, a j = some y ∧ y ∈ LP ∧ p y = b j
theorem l_holds_0 {α : Type} {a : Nat → Option Nat} {LP : List Nat} {p b : Nat → α} : l_holds a LP p 0 b := fun j h => absurd h (Nat.not_lt_zero j)
theorem l_in_new (LP : List Nat) (q : Nat) : q ∈ LP ++ [q] := List.mem_append.mpr (Or.inr (List.mem_singleton.mpr rfl))
def l_sum (b : Nat → Int32) : Nat → Int32
  | 0 => 0
  | k + 1 => l_sum b k + b k
theorem sb_shr0 (x : Int32) : x >>> ((0 : Int32) &&& 31) = x := by
  rw [show ((0 : Int32) &&& 31) = 0 by decide]
  simp
theorem sb_shl0 (x : Int32) : x <<< ((0 : Int32) &&& 31) = x := by
  rw [show ((0 : Int32) &&& 31) = 0 by decide]
  simp
theorem sb_cl0 : (0 : Int32).toNatClampNeg = 0 := by decide
theorem sb_m1 {p : Nat} (h : 0 < p) : nI p + (-1) = nI (p - 1) := by
  obtain ⟨q, rfl⟩ : ∃ q, p = q + 1 := ⟨p - 1, by omega⟩
  exact pk_m1 q
def sb_b (c : Nat) : Int32 := (nI c).toInt8.toInt32
theorem sb_byte : ∀ c, c < 256 → sb_b c &&& 255 = nI c ∧ ((nI c).toUInt32 % 65536).toInt32 = nI c ∧ nI c ≤ 255 := by decide +kernel
def sb_Fit (a : Nat → Int32) : Prop := ∀ j, fits .byte (.int (a j)) = true
def sb_Lat (t : Nat → Nat) (n : Nat) (a : Nat → Int32) : Prop := ∀ j, j < n → t j < 256 ∧ a j = sb_b (t j)
theorem sb_fitB (c : Nat) : fits .byte (.int (sb_b c)) = true := pk_fb _
theorem sb_fit0 : sb_Fit (fun _ => 0) := fun _ => by
  show fits .byte (.int 0) = true
  decide
theorem sb_fitU {a : Nat → Int32} {k : Nat} {x : Int32} (h : sb_Fit a) (hx : fits .byte (.int x) = true) : sb_Fit (upd a k x) := by
  intro j
  by_cases e : j = k
  · subst e
    rw [pk_us]
    exact hx
  · rw [pk_un e]
    exact h j
def sb_cat (t : Nat → Nat) (n : Nat) (s : Nat → Nat) : Nat → Nat := fun j => if j < n then t j else s (j - n)
theorem sb_cat_lo {t s : Nat → Nat} {n j : Nat} (h : j < n) : sb_cat t n s j = t j := if_pos h
theorem sb_cat_hi {t s : Nat → Nat} {n j : Nat} : sb_cat t n s (n + j) = s j := by
  show (if n + j < n then t (n + j) else s (n + j - n)) = s j
  rw [if_neg (by omega), Nat.add_sub_cancel_left]
theorem sb_latPut {t s : Nat → Nat} {n w : Nat} {a a' : Nat → Int32} (h : sb_Lat t n a) (hk : ∀ j, j < n → a' j = a j) (hs : ∀ i, i < w → s i < 256 ∧ a' (n + i) = sb_b (s i)) : sb_Lat (sb_cat t n s) (n + w) a' := by
  intro j hj
  by_cases e : j < n
  · rw [sb_cat_lo e, hk j e]
    exact h j e
  · obtain ⟨i, rfl⟩ : ∃ i, j = n + i := ⟨j - n, by omega⟩
    rw [sb_cat_hi]
    exact hs i (by omega)
theorem sb_latKeep {t : Nat → Nat} {n : Nat} {a a' : Nat → Int32} (h : sb_Lat t n a) (hk : ∀ j, j < n → a' j = a j) : sb_Lat t n a' := fun j hj => by
  rw [hk j hj]
  exact h j hj
def sb_cap (q m : Nat) : Nat := if q ≤ m then m else if 2 * m + 2 < q then q else 2 * m + 2
def sb_Room (q m mc ms : Nat) : Prop := q ≤ m ∨ (1 ≤ mc ∧ sb_cap q m ≤ ms ∧ sb_cap q m ≤ 65536)
theorem sb_cap_ge (q m : Nat) : q ≤ sb_cap q m := by
  unfold sb_cap
  split
  · omega
  · split <;> omega
theorem sb_cap_gem (q m : Nat) : m ≤ sb_cap q m := by
  unfold sb_cap
  split
  · omega
  · split <;> omega
theorem sb_cap_le {q m mc ms : Nat} (hm : m ≤ 65536) (hr : sb_Room q m mc ms) : sb_cap q m ≤ 65536 := by
  rcases hr with h | h
  · rw [sb_cap, if_pos h]
    exact hm
  · exact h.2.2
theorem sb_at {P : Int32 → Prop} {x y : Int32} (e : x = y) (h : P y) : P x := e ▸ h
def sb_dg (w : Nat) : Nat := if w < 10 then 1 else if w < 100 then 2 else if w < 1000 then 3 else if w < 10000 then 4 else if w < 100000 then 5 else if w < 1000000 then 6 else if w < 10000000 then 7 else if w < 100000000 then 8 else if w < 1000000000 then 9 else 10
def sb_dec (v : Nat) : Nat → Nat := fun i => 48 + v / 10 ^ (sb_dg v - 1 - i) % 10
theorem sb_dg_in (w : Nat) : 1 ≤ sb_dg w ∧ sb_dg w ≤ 10 := by
  unfold sb_dg
  constructor <;> (repeat' split) <;> omega
theorem sb_dg100 {w : Nat} (h : 100 ≤ w) (hw : w < 2 ^ 31) : sb_dg w = sb_dg (w / 100) + 2 := by
  rw [sb_dg, sb_dg, if_neg (show ¬ w < 10 by omega), if_neg (show ¬ w < 100 by omega)]
  by_cases h3 : w < 1000
  · rw [if_pos h3, if_pos (show w / 100 < 10 by omega)]
  rw [if_neg h3, if_neg (show ¬ w / 100 < 10 by omega)]
  by_cases h4 : w < 10000
  · rw [if_pos h4, if_pos (show w / 100 < 100 by omega)]
  rw [if_neg h4, if_neg (show ¬ w / 100 < 100 by omega)]
  by_cases h5 : w < 100000
  · rw [if_pos h5, if_pos (show w / 100 < 1000 by omega)]
  rw [if_neg h5, if_neg (show ¬ w / 100 < 1000 by omega)]
  by_cases h6 : w < 1000000
  · rw [if_pos h6, if_pos (show w / 100 < 10000 by omega)]
  rw [if_neg h6, if_neg (show ¬ w / 100 < 10000 by omega)]
  by_cases h7 : w < 10000000
  · rw [if_pos h7, if_pos (show w / 100 < 100000 by omega)]
  rw [if_neg h7, if_neg (show ¬ w / 100 < 100000 by omega)]
  by_cases h8 : w < 100000000
  · rw [if_pos h8, if_pos (show w / 100 < 1000000 by omega)]
  rw [if_neg h8, if_neg (show ¬ w / 100 < 1000000 by omega)]
  by_cases h9 : w < 1000000000
  · rw [if_pos h9, if_pos (show w / 100 < 10000000 by omega)]
  rw [if_neg h9, if_neg (show ¬ w / 100 < 10000000 by omega)]
  rw [if_pos (show w / 100 < 100000000 by omega)]
theorem sb_negT {w : Nat} (h : w < 2 ^ 31) : (-nI w).toInt = -(w : Int) := by
  rw [Int32.toInt_neg, nI_toInt h]
  exact Int.bmod_eq_of_le (by omega) (by omega)
theorem sb_nle {a b : Nat} (ha : a < 2 ^ 31) (hb : b < 2 ^ 31) : -nI a ≤ -nI b ↔ b ≤ a := by
  rw [Int32.le_iff_toInt_le, sb_negT ha, sb_negT hb]
  omega
theorem sb_nlt {a b : Nat} (ha : a < 2 ^ 31) (hb : b < 2 ^ 31) : -nI a < -nI b ↔ b < a := by
  rw [Int32.lt_iff_toInt_lt, sb_negT ha, sb_negT hb]
  omega
theorem sb_cmp {A B : Prop} {x : Int32} (v c : Nat) (f : c ≤ v → A) (g : v < c → B) (hv : v < 2 ^ 31) (hx : x = -nI c := by rfl) (hc : c < 2 ^ 31 := by omega) : (-nI v ≤ x → A) ∧ (¬ -nI v ≤ x → B) := by
  subst hx
  rw [sb_nle hv hc]
  exact ⟨f, fun z => g (by omega)⟩
theorem sb_ndiv {w : Nat} (hw : w < 2 ^ 31) : (-nI w) / 100 = -nI (w / 100) := by
  apply Int32.toInt_inj.mp
  have h100 : (100 : Int32).toInt = 100 := by decide
  rw [Int32.toInt_div, sb_negT hw, h100, sb_negT (by omega), Int.neg_tdiv, Int.tdiv_eq_ediv_of_nonneg (by omega), Int.bmod_eq_of_le (by omega) (by omega)]
  omega
theorem sb_nrem {w : Nat} (hw : w < 2 ^ 31) : (-nI (w / 100)) * 100 - (-nI w) = nI (w % 100) := by
  have h := pk_rem (a := w) (d := 100) hw (by decide) (by decide)
  rw [pk_div hw (by decide) (by decide)] at h
  rw [← h]
  show (-nI (w / 100)) * nI 100 - (-nI w) = nI w - nI (w / 100) * nI 100
  rw [Int32.neg_mul, Int32.sub_neg, Int32.add_comm, ← Int32.sub_eq_add_neg]
end
section
/-! rows on bits, shifts and unsigned numbers, to paste: each family out of a closed proof of our own, whole with what it rests on; each by itself clean at Lean in its own claim (generation 39, form 5). Take a family whole -/
/-! ===== Int32 by its bits: bt x i ===== -/
def bt (x : Int32) (i : Nat) : Bool := x.toBitVec.getLsbD i
theorem b_ext {x y : Int32} (h : ∀ i, i < 32 → bt x i = bt y i) : x = y := Int32.toBitVec_inj.mp (BitVec.eq_of_getLsbD_eq (fun i hi => h i hi))
theorem b_or (x y : Int32) (i : Nat) : bt (x ||| y) i = (bt x i || bt y i) := by unfold bt; rw [Int32.toBitVec_or, BitVec.getLsbD_or]
theorem b_and (x y : Int32) (i : Nat) : bt (x &&& y) i = (bt x i && bt y i) := by unfold bt; rw [Int32.toBitVec_and, BitVec.getLsbD_and]
theorem b_xor (x y : Int32) (i : Nat) : bt (x ^^^ y) i = (bt x i ^^ bt y i) := by unfold bt; rw [Int32.toBitVec_xor, BitVec.getLsbD_xor]
theorem b_big {x : Int32} {i : Nat} (h : 32 ≤ i) : bt x i = false := BitVec.getLsbD_of_ge _ _ h
theorem b_255 (i : Nat) : bt 255 i = decide (i < 8) := by
  rcases Nat.lt_or_ge i 32 with h | h
  · exact (by decide +kernel : ∀ i, i < 32 → bt 255 i = decide (i < 8)) i h
  · rw [b_big h, decide_eq_false (by omega)]
theorem b_65535 (i : Nat) : bt 65535 i = decide (i < 16) := by
  rcases Nat.lt_or_ge i 32 with h | h
  · exact (by decide +kernel : ∀ i, i < 32 → bt 65535 i = decide (i < 16)) i h
  · rw [b_big h, decide_eq_false (by omega)]
theorem b_m1 : ∀ i, i < 32 → bt (-1) i = true := by decide +kernel
theorem b_0 (i : Nat) : bt 0 i = false := BitVec.getLsbD_zero
theorem s_l : ∀ n, n < 32 → ((nI n &&& 31).toBitVec.smod 32).toNat = n := by decide +kernel
theorem s_u : ∀ n, n < 32 → (((nI n).toUInt32 &&& Int32.toUInt32 31).toBitVec % 32).toNat = n := by decide +kernel
theorem b_shl (n : Nat) (hn : n < 32) (x : Int32) {i : Nat} (hi : i < 32) : bt (x <<< (nI n &&& 31)) i = (decide (n ≤ i) && bt x (i - n)) := by
  unfold bt
  rw [Int32.toBitVec_shiftLeft]
  show (x.toBitVec <<< ((nI n &&& 31).toBitVec.smod 32).toNat).getLsbD i = _
  rw [s_l n hn, BitVec.getLsbD_shiftLeft]
  rcases Nat.lt_or_ge i n with h | h
  · simp [h, Nat.not_le.mpr h]
  · simp [hi, h, Nat.not_lt.mpr h]
theorem b_ushr (n : Nat) (hn : n < 32) (x : Int32) (i : Nat) : bt ((x.toUInt32 >>> ((nI n).toUInt32 &&& Int32.toUInt32 31)).toInt32) i = bt x (n + i) := by
  show (x.toUInt32 >>> ((nI n).toUInt32 &&& Int32.toUInt32 31)).toBitVec.getLsbD i = x.toUInt32.toBitVec.getLsbD (n + i)
  rw [UInt32.toBitVec_shiftRight]
  show (x.toUInt32.toBitVec >>> (((nI n).toUInt32 &&& Int32.toUInt32 31).toBitVec % 32).toNat).getLsbD i = _
  rw [s_u n hn, BitVec.getLsbD_ushiftRight]
theorem b_sshr (n : Nat) (hn : n < 32) (x : Int32) {i : Nat} (hi : i < 32) : bt (x >>> (nI n &&& 31)) i = if n + i < 32 then bt x (n + i) else bt x 31 := by
  unfold bt
  rw [Int32.toBitVec_shiftRight]
  show (x.toBitVec.sshiftRight ((nI n &&& 31).toBitVec.smod 32).toNat).getLsbD i = _
  rw [s_l n hn, BitVec.getLsbD_sshiftRight, BitVec.msb_eq_getLsbD_last]
  simp [hi]
theorem b_shl8 (x : Int32) {i : Nat} (hi : i < 32) : bt (x <<< ((8 : Int32) &&& 31)) i = (decide (8 ≤ i) && bt x (i - 8)) := b_shl 8 (by omega) x hi
theorem b_shl16 (x : Int32) {i : Nat} (hi : i < 32) : bt (x <<< ((16 : Int32) &&& 31)) i = (decide (16 ≤ i) && bt x (i - 16)) := b_shl 16 (by omega) x hi
theorem b_shl24 (x : Int32) {i : Nat} (hi : i < 32) : bt (x <<< ((24 : Int32) &&& 31)) i = (decide (24 ≤ i) && bt x (i - 24)) := b_shl 24 (by omega) x hi
theorem b_sshr8 (x : Int32) {i : Nat} (hi : i < 32) : bt (x >>> ((8 : Int32) &&& 31)) i = if 8 + i < 32 then bt x (8 + i) else bt x 31 := b_sshr 8 (by omega) x hi
/-! ===== nI under and, xor, >>>, one bit, 65535 ===== -/
theorem nx_and (a b : Nat) : nI a &&& nI b = nI (a &&& b) := by
  apply Int32.toBitVec_inj.1
  show BitVec.ofNat 32 a &&& BitVec.ofNat 32 b = BitVec.ofNat 32 (a &&& b)
  apply BitVec.eq_of_getLsbD_eq
  intro i hi
  simp [hi]
theorem nx_xor (a b : Nat) : nI a ^^^ nI b = nI (a ^^^ b) := by
  apply Int32.toBitVec_inj.1
  show BitVec.ofNat 32 a ^^^ BitVec.ofNat 32 b = BitVec.ofNat 32 (a ^^^ b)
  apply BitVec.eq_of_getLsbD_eq
  intro i hi
  simp [hi]
theorem nx_cnt : ∀ j : Fin 32, (UInt32.ofNat j.val &&& Int32.toUInt32 31).toNat % 32 = j.val := by decide +kernel
theorem nx_ush {k j : Nat} (hk : k < 65536) (hj : j < 32) : ((nI k).toUInt32 >>> ((nI j).toUInt32 &&& Int32.toUInt32 31)).toInt32 = nI (k >>> j) := by
  have hs : k >>> j ≤ k := by
    rw [Nat.shiftRight_eq_div_pow]
    exact Nat.div_le_self _ _
  have e2 : UInt32.ofNat k >>> (UInt32.ofNat j &&& Int32.toUInt32 31) = UInt32.ofNat (k >>> j) := by
    apply UInt32.toNat_inj.1
    have h1 : (UInt32.ofNat k).toNat = k := Nat.mod_eq_of_lt (by omega)
    have h2 : (UInt32.ofNat (k >>> j)).toNat = k >>> j := Nat.mod_eq_of_lt (by omega)
    rw [UInt32.toNat_shiftRight, nx_cnt ⟨j, hj⟩, h1, h2]
  show (UInt32.ofNat k >>> (UInt32.ofNat j &&& Int32.toUInt32 31)).toInt32 = _
  rw [e2]
  rfl
theorem nx_bit {k j : Nat} (hk : k < 65536) (hj : j < 16) : (((nI k).toUInt32 >>> ((nI j).toUInt32 &&& Int32.toUInt32 31)).toInt32 &&& 1) = 0 ↔ k.testBit j = false := by
  rw [nx_ush hk (by omega)]
  show nI (k >>> j) &&& nI 1 = 0 ↔ _
  rw [nx_and, Nat.and_one_is_mod, ← nI_0, nI_eq (by omega) (by omega), Nat.testBit_eq_decide_div_mod_eq, Nat.shiftRight_eq_div_pow, decide_eq_false_iff_not]
  generalize k / 2 ^ j = z
  omega
theorem nx_mod (k : Nat) : nI k &&& 65535 = nI (k % 65536) := by
  show nI k &&& nI 65535 = _
  rw [nx_and, show (65535 : Nat) = 2 ^ 16 - 1 from rfl, Nat.and_two_pow_sub_one_eq_mod]
theorem nx_m16 {k : Nat} (h : k < 65536) : nI k &&& 65535 = nI k := by rw [nx_mod, Nat.mod_eq_of_lt h]
theorem nx_mask (x : Int32) : ∃ k, k < 65536 ∧ x &&& 65535 = nI k := by
  have e : x = nI x.toBitVec.toNat := by
    apply Int32.toBitVec_inj.1
    show x.toBitVec = BitVec.ofNat 32 x.toBitVec.toNat
    simp
  refine ⟨x.toBitVec.toNat % 65536, Nat.mod_lt _ (by omega), ?_⟩
  rw [← nx_mod, ← e]
/-! ===== Int32 as a set of bits: test, set ===== -/
def nf_M (m : Int32) : Nat := 4294967296 - m.toBitVec.toNat
theorem nf_sh : ∀ l, l < 32 → ((1 : Int32) <<< (nI l &&& 31)).toBitVec = BitVec.twoPow 32 l := by decide +kernel
theorem nf_sl : ∀ l, l < 32 → (((nI l).toUInt32 &&& Int32.toUInt32 31).toBitVec % 32).toNat = l := by decide +kernel
theorem nf_tp : ∀ l, l < 32 → BitVec.twoPow 32 l ≠ 0#32 := by decide +kernel
theorem nf_bit (m : Int32) (l : Nat) (hl : l < 32) : ((m.toUInt32 >>> ((nI l).toUInt32 &&& Int32.toUInt32 31)).toInt32 &&& 1) = 0 ↔ (m &&& ((1 : Int32) <<< (nI l &&& 31))) = 0 := by
  have e : ((m.toUInt32 >>> ((nI l).toUInt32 &&& Int32.toUInt32 31)).toInt32).toBitVec = m.toBitVec >>> l := by
    show m.toBitVec >>> (((nI l).toUInt32 &&& Int32.toUInt32 31).toBitVec % 32) = m.toBitVec >>> l
    rw [BitVec.ushiftRight_eq', nf_sl l hl]
  rw [← Int32.toBitVec_inj, ← Int32.toBitVec_inj, Int32.toBitVec_and, Int32.toBitVec_and, nf_sh l hl, e, BitVec.and_twoPow]
  show (m.toBitVec >>> l &&& 1#32) = 0#32 ↔ _ = 0#32
  rw [BitVec.and_one_eq_setWidth_ofBool_getLsbD, BitVec.getLsbD_ushiftRight, Nat.add_zero]
  cases hb : m.toBitVec.getLsbD l
  · exact ⟨fun _ => by simp, fun _ => by decide⟩
  · exact ⟨fun z => absurd z (by decide), fun z => absurd ((if_pos rfl).symm.trans z) (nf_tp l hl)⟩
theorem nf_gr (m k : Int32) (h : m &&& k = 0) (hk : k ≠ 0) : nf_M (m ||| k) < nf_M m := by
  have hm := m.toBitVec.isLt
  have hm' := (m ||| k).toBitVec.isLt
  have h1 : m.toBitVec.toNat ≤ (m ||| k).toBitVec.toNat := by
    rw [Int32.toBitVec_or, BitVec.toNat_or]
    exact Nat.left_le_or
  have h2 : m.toBitVec.toNat ≠ (m ||| k).toBitVec.toNat := by
    intro e
    have e2 : m = m ||| k := Int32.toBitVec_inj.mp (BitVec.eq_of_toNat_eq e)
    apply hk
    apply Int32.toBitVec_inj.mp
    show k.toBitVec = 0#32
    apply BitVec.eq_of_getLsbD_eq
    intro i hi
    have a : m.toBitVec.getLsbD i = (m.toBitVec.getLsbD i || k.toBitVec.getLsbD i) := by rw [← BitVec.getLsbD_or, ← Int32.toBitVec_or, ← e2]
    have b : (m.toBitVec.getLsbD i && k.toBitVec.getLsbD i) = false := by
      rw [← BitVec.getLsbD_and, ← Int32.toBitVec_and, h]
      exact BitVec.getLsbD_zero
    rw [BitVec.getLsbD_zero]
    revert a b
    cases m.toBitVec.getLsbD i <;> cases k.toBitVec.getLsbD i <;> simp
  unfold nf_M
  omega
/-! ===== a byte read unsigned ===== -/
theorem bp_b (x : Int32) : x.toInt8.toInt32 &&& 255 = x &&& 255 := by
  apply Int32.toBitVec_inj.mp
  rw [Int32.toBitVec_and, Int32.toBitVec_and, Int8.toBitVec_toInt32, Int32.toBitVec_toInt8]
  apply BitVec.eq_of_getLsbD_eq
  intro i hi
  rw [BitVec.getLsbD_and, BitVec.getLsbD_and]
  have hm : ∀ i < 32, 8 ≤ i → (255 : Int32).toBitVec.getLsbD i = false := by decide
  rcases Nat.lt_or_ge i 8 with z | z
  · rw [BitVec.getLsbD_signExtend, BitVec.getLsbD_signExtend, if_pos z, if_pos hi]
    simp only [z, hi, decide_true, Bool.true_and]
  · rw [hm i hi z]; simp
/-! ===== the char cast and 65535 ===== -/
theorem em_w (v : Int32) : ∃ w : Nat, w < 65536 ∧ (v.toUInt32 % 65536).toInt32 = nI w ∧ v &&& 65535 = nI w := by
  have hr := lw_u16_r v
  have h0 : (0 : Int32).toInt = 0 := by decide
  obtain ⟨w, h1, h2⟩ := nI_of (x := lw_u16 v) (by rw [Int32.lt_iff_toInt_lt]; omega)
  have h3 : (v.toUInt32 % 65536).toInt32 = nI w := h2
  rw [h2, nI_toInt h1] at hr
  exact ⟨w, by omega, h3, by rw [← lg_i2c_mask, ← lg_i2c_nf, h3]⟩
/-! ===== Int64 as a set of bits: test, set, clear ===== -/
theorem ts_nf {x : Bool} (h : ¬ x = false) : x = true := by cases x <;> first | rfl | exact absurd rfl h
theorem ts_nt {x : Bool} (h : ¬ x = true) : x = false := by cases x <;> first | rfl | exact absurd rfl h
theorem ts_bit {w : Int64} {s : UInt64} {j : Nat} (hj : j < 64) (hs : s.toNat = j) : ((w.toUInt64 >>> s).toInt64 &&& 1) = 0 ↔ w.toBitVec.getLsbD j = false := by
  have e : (w.toUInt64 >>> s).toInt64.toBitVec = w.toBitVec >>> j := by
    apply BitVec.eq_of_toNat_eq
    show (w.toUInt64 >>> s).toNat = _
    rw [UInt64.toNat_shiftRight, hs, Nat.mod_eq_of_lt hj, BitVec.toNat_ushiftRight]
    rfl
  rw [← Int64.toBitVec_inj, Int64.toBitVec_and, e]
  show w.toBitVec >>> j &&& 1#64 = 0#64 ↔ _
  constructor
  · intro h
    have t := congrArg (fun x => x.getLsbD 0) h
    simpa using t
  · intro h
    apply BitVec.eq_of_getLsbD_eq
    intro i hi
    cases i with
    | zero => simp [h]
    | succ i => simp
theorem ts_or {w m : Int64} {j : Nat} (hj : j < 64) (hm : m.toBitVec = BitVec.twoPow 64 j) : (w ||| m) = w ↔ w.toBitVec.getLsbD j = true := by
  rw [← Int64.toBitVec_inj, Int64.toBitVec_or, hm]
  constructor
  · intro h
    have t := congrArg (fun x => x.getLsbD j) h
    simp only [BitVec.getLsbD_or, BitVec.getLsbD_twoPow] at t
    simpa [hj] using t.symm
  · intro h
    apply BitVec.eq_of_getLsbD_eq
    intro i hi
    rw [BitVec.getLsbD_or, BitVec.getLsbD_twoPow]
    by_cases e : j = i
    · subst e; rw [h, Bool.true_or]
    · simp [e]
theorem ts_and {w m : Int64} {j : Nat} (hj : j < 64) (hm : m.toBitVec = BitVec.twoPow 64 j) : (w &&& (m ^^^ (-1))) = w ↔ w.toBitVec.getLsbD j = false := by
  have ha : (-1 : Int64).toBitVec = BitVec.allOnes 64 := by decide
  rw [← Int64.toBitVec_inj, Int64.toBitVec_and, Int64.toBitVec_xor, hm, ha]
  constructor
  · intro h
    have t := congrArg (fun x => x.getLsbD j) h
    simp only [BitVec.getLsbD_and, BitVec.getLsbD_xor, BitVec.getLsbD_twoPow, BitVec.getLsbD_allOnes] at t
    simpa [hj] using t.symm
  · intro h
    apply BitVec.eq_of_getLsbD_eq
    intro i hi
    rw [BitVec.getLsbD_and, BitVec.getLsbD_xor, BitVec.getLsbD_twoPow, BitVec.getLsbD_allOnes]
    by_cases e : j = i
    · subst e; rw [h, Bool.false_and]
    · simp [e, hi]
/-! ===== lN n to 2^64: shifts, and, or, masks, one bit ===== -/
theorem wb_tb (n : Nat) : (lN n).toBitVec = BitVec.ofNat 64 n := rfl
theorem wb_inj {a b : Int64} (h : a.toBitVec = b.toBitVec) : a = b := Int64.toBitVec_inj.mp h
theorem wb_tn {n : Nat} (h : n < 2 ^ 64) : (lN n).toBitVec.toNat = n := by rw [wb_tb, BitVec.toNat_ofNat, Nat.mod_eq_of_lt h]
theorem wb_of (x : Int64) : ∃ n, n < 2 ^ 64 ∧ x = lN n := ⟨x.toBitVec.toNat, x.toBitVec.isLt, wb_inj (by rw [wb_tb]; simp)⟩
theorem wb_of32 (x : Int32) : ∃ n, n < 2 ^ 32 ∧ x = nI n := ⟨x.toBitVec.toNat, x.toBitVec.isLt, Int32.toBitVec_inj.mp (by show _ = BitVec.ofNat 32 _; simp)⟩
theorem wb_c : ∀ k, k < 64 → ((nI k).toInt64 &&& 63) = lN k := by decide +kernel
theorem wb_cu : ∀ k, k < 64 → ((nI k).toInt64.toUInt64 &&& Int64.toUInt64 63) = UInt64.ofNat k := by decide +kernel
theorem wb_sm : ∀ k, k < 64 → (BitVec.ofNat 64 k).smod 64 = BitVec.ofNat 64 k := by decide +kernel
theorem wb_pw {a b : Nat} (h : a ≤ b) : 2 ^ b = 2 ^ a * 2 ^ (b - a) := by rw [← Nat.pow_add]; congr 1; omega
theorem wb_lt2 {a b : Nat} (h : a < b) : 2 ^ a < 2 ^ b := Nat.pow_lt_pow_right (by decide) h
theorem wb_mod (n : Nat) : lN n = lN (n % 2 ^ 64) := wb_inj (by rw [wb_tb, wb_tb]; apply BitVec.eq_of_toNat_eq; rw [BitVec.toNat_ofNat, BitVec.toNat_ofNat, Nat.mod_mod])
theorem wb_shr {n k : Nat} (hn : n < 2 ^ 64) (hk : k < 64) : ((lN n).toUInt64 >>> ((nI k).toInt64.toUInt64 &&& Int64.toUInt64 63)).toInt64 = lN (n / 2 ^ k) := by
  rw [wb_cu k hk]
  apply wb_inj
  apply BitVec.eq_of_toNat_eq
  show ((lN n).toUInt64 >>> UInt64.ofNat k).toNat = (BitVec.ofNat 64 _).toNat
  have h1 : (UInt64.ofNat k).toNat = k := by
    show (BitVec.ofNat 64 k).toNat = k
    rw [BitVec.toNat_ofNat, Nat.mod_eq_of_lt (by omega)]
  have h2 : (lN n).toUInt64.toNat = n := wb_tn hn
  rw [UInt64.toNat_shiftRight, h1, h2, Nat.mod_eq_of_lt hk, Nat.shiftRight_eq_div_pow, BitVec.toNat_ofNat, Nat.mod_eq_of_lt (Nat.lt_of_le_of_lt (Nat.div_le_self _ _) hn)]
theorem wb_shl (n : Nat) {k : Nat} (hk : k < 64) : lN n <<< ((nI k).toInt64 &&& 63) = lN (n * 2 ^ k) := by
  rw [wb_c k hk]
  apply wb_inj
  rw [Int64.toBitVec_shiftLeft, wb_tb, wb_tb, wb_tb, wb_sm k hk]
  apply BitVec.eq_of_toNat_eq
  rw [BitVec.shiftLeft_eq', BitVec.toNat_shiftLeft, BitVec.toNat_ofNat, BitVec.toNat_ofNat, BitVec.toNat_ofNat, Nat.mod_eq_of_lt (show k < 2 ^ 64 by omega), Nat.shiftLeft_eq, Nat.mul_mod, Nat.mod_mod, ← Nat.mul_mod]
theorem wb_and {a b : Nat} (ha : a < 2 ^ 64) (hb : b < 2 ^ 64) : lN a &&& lN b = lN (a &&& b) := by
  apply wb_inj
  rw [Int64.toBitVec_and, wb_tb, wb_tb, wb_tb]
  apply BitVec.eq_of_toNat_eq
  rw [BitVec.toNat_and, BitVec.toNat_ofNat, BitVec.toNat_ofNat, BitVec.toNat_ofNat, Nat.mod_eq_of_lt ha, Nat.mod_eq_of_lt hb, Nat.mod_eq_of_lt (Nat.and_lt_two_pow _ hb)]
theorem wb_or {a b : Nat} (ha : a < 2 ^ 64) (hb : b < 2 ^ 64) : lN a ||| lN b = lN (a ||| b) := by
  apply wb_inj
  rw [Int64.toBitVec_or, wb_tb, wb_tb, wb_tb]
  apply BitVec.eq_of_toNat_eq
  rw [BitVec.toNat_or, BitVec.toNat_ofNat, BitVec.toNat_ofNat, BitVec.toNat_ofNat, Nat.mod_eq_of_lt ha, Nat.mod_eq_of_lt hb, Nat.mod_eq_of_lt (Nat.or_lt_two_pow ha hb)]
theorem wb_mask {n k : Nat} (hn : n < 2 ^ 64) (hk : k < 64) : lN n &&& lN (2 ^ k - 1) = lN (n % 2 ^ k) := by
  rw [wb_and hn (by have := wb_lt2 hk; omega), Nat.and_two_pow_sub_one_eq_mod]
theorem wb_a1 {n : Nat} (hn : n < 2 ^ 64) : lN n &&& 1 = lN (n % 2) := wb_mask (k := 1) hn (by decide)
theorem wb_bit {n k : Nat} (hn : n < 2 ^ 64) (hk : k < 64) : ((lN n).toUInt64 >>> ((nI k).toInt64.toUInt64 &&& Int64.toUInt64 63)).toInt64 &&& 1 = lN (n / 2 ^ k % 2) := by
  rw [wb_shr hn hk, wb_a1 (Nat.lt_of_le_of_lt (Nat.div_le_self _ _) hn)]
theorem wb_xor {q k : Nat} (hk : k < 63) (h : 2 ^ k ≤ q) (h2 : q < 2 ^ (k + 1)) : lN q ^^^ lN (2 ^ k) = lN (q - 2 ^ k) := by
  obtain ⟨r, rfl⟩ : ∃ r, q = 2 ^ k + r := ⟨q - 2 ^ k, by omega⟩
  have hr : r < 2 ^ k := by rw [Nat.pow_succ] at h2; omega
  have hx : (2 ^ k + r) ^^^ 2 ^ k = r := by
    apply Nat.eq_of_testBit_eq
    intro i
    rw [Nat.testBit_xor, Nat.testBit_two_pow]
    rcases Nat.lt_trichotomy i k with h | h | h
    · rw [Nat.testBit_two_pow_add_gt h]
      simp [show ¬ k = i by omega]
    · subst h
      rw [Nat.testBit_two_pow_add_eq]
      simp
    · have a1 : 2 ^ (k + 1) ≤ 2 ^ i := Nat.pow_le_pow_right (by decide) h
      rw [Nat.testBit_lt_two_pow (show 2 ^ k + r < 2 ^ i by omega), Nat.testBit_lt_two_pow (show r < 2 ^ i by omega)]
      simp [show ¬ k = i by omega]
  have b1 := wb_lt2 (show k + 1 < 64 by omega)
  have b2 := wb_lt2 (show k < 64 by omega)
  apply wb_inj
  rw [Int64.toBitVec_xor, wb_tb, wb_tb, wb_tb]
  apply BitVec.eq_of_toNat_eq
  rw [BitVec.toNat_xor, BitVec.toNat_ofNat, BitVec.toNat_ofNat, BitVec.toNat_ofNat, Nat.mod_eq_of_lt (by omega : 2 ^ k + r < 2 ^ 64), Nat.mod_eq_of_lt b2, hx, Nat.add_sub_cancel_left, Nat.mod_eq_of_lt (by omega)]
/-! ===== lN: masks, 'or' of parts that don't overlap is a sum ===== -/
theorem u_tn {n : Nat} (h : n < 2 ^ 64) : (UInt64.ofNat n).toNat = n := Nat.mod_eq_of_lt h
theorem g_and {a b c : Nat} (ha : a < 2 ^ 64) (hb : b < 2 ^ 64) (hc : a &&& b = c) : lN a &&& lN b = lN c := by
  subst hc
  have h : UInt64.ofNat a &&& UInt64.ofNat b = UInt64.ofNat (a &&& b) := UInt64.toNat_inj.mp (by rw [UInt64.toNat_and, u_tn ha, u_tn hb, u_tn (Nat.and_lt_two_pow a hb)])
  have h2 := congrArg UInt64.toInt64 h
  exact h2
theorem g_and1 {a : Nat} (ha : a < 2 ^ 64) : lN a &&& 1 = lN (a % 2) := g_and (b := 1) ha (by decide) (Nat.and_two_pow_sub_one_eq_mod a 1)
theorem g_mask {a s p : Nat} (hp : 2 ^ s = p) (hs : s < 64) (ha : a < 2 ^ 64) : lN a &&& lN (p - 1) = lN (a % p) := by
  subst hp
  have := Nat.pow_lt_pow_right (show 1 < 2 by decide) hs
  exact g_and ha (by omega) (Nat.and_two_pow_sub_one_eq_mod a s)
theorem g_or {k p a b : Nat} (hp : 2 ^ k = p) (ha : a < p) (h : b * p + a < 2 ^ 64) : lN (b * p) ||| lN a = lN (b * p + a) := by
  subst hp
  have h1 : b * 2 ^ k ||| a = b * 2 ^ k + a := by rw [← Nat.shiftLeft_eq, Nat.shiftLeft_add_eq_or_of_lt ha]
  have h3 : UInt64.ofNat (b * 2 ^ k) ||| UInt64.ofNat a = UInt64.ofNat (b * 2 ^ k + a) := UInt64.toNat_inj.mp (by rw [UInt64.toNat_or, u_tn (by omega), u_tn (by omega), u_tn h, h1])
  have h2 := congrArg UInt64.toInt64 h3
  exact h2
theorem g_or' {k p a b : Nat} (hp : 2 ^ k = p) (ha : a < p) (h : a + b * p < 2 ^ 64) : lN a ||| lN (b * p) = lN (a + b * p) := by
  rw [Int64.or_comm, g_or hp ha (by omega), Nat.add_comm]
theorem g_ushr {a k p : Nat} {y : UInt64} (hy : y = UInt64.ofNat k) (hk : k < 64) (hp : 2 ^ k = p) (ha : a < 2 ^ 64) : ((lN a).toUInt64 >>> y).toInt64 = lN (a / p) := by
  subst hy hp
  have h : UInt64.ofNat a >>> UInt64.ofNat k = UInt64.ofNat (a / 2 ^ k) := UInt64.toNat_inj.mp (by rw [UInt64.toNat_shiftRight, u_tn ha, u_tn (by omega), u_tn (Nat.lt_of_le_of_lt (Nat.div_le_self _ _) ha), Nat.mod_eq_of_lt hk, Nat.shiftRight_eq_div_pow])
  have h2 := congrArg UInt64.toInt64 h
  exact h2
theorem g_shl {a k p : Nat} {y : Int64} (hy : y.toBitVec.smod 64 = BitVec.ofNat 64 k) (hk : k < 64) (hp : 2 ^ k = p) (ha : a < 2 ^ 64) : lN a <<< y = lN (a * p) := by
  subst hp
  apply Int64.toBitVec_inj.mp
  rw [Int64.toBitVec_shiftLeft, hy]
  apply BitVec.eq_of_toNat_eq
  have hb : (lN a).toBitVec.toNat = a := Nat.mod_eq_of_lt ha
  have hk' : (BitVec.ofNat 64 k).toNat = k := Nat.mod_eq_of_lt (by omega)
  have h : ((lN a).toBitVec <<< BitVec.ofNat 64 k).toNat = (a * 2 ^ k) % 2 ^ 64 := by simp only [BitVec.shiftLeft_eq', BitVec.toNat_shiftLeft, hb, hk', Nat.shiftLeft_eq]
  exact h
/-! ===== lN to 2^62 under >> and >>> ===== -/
theorem pf_lI {a : Nat} (h : a < 2 ^ 63) : (lN a).toInt = (a : Int) := lg_ofNat_toInt h
theorem pf_shr {a d : Nat} {D : Int64} (hD : (D.toBitVec.smod 64).toNat = d) (h : a < 2 ^ 62) : lN a >>> D = lN (a / 2 ^ d) := by
  have hd : a / 2 ^ d ≤ a := Nat.div_le_self _ _
  apply Int64.toInt_inj.mp
  have e : (lN a >>> D).toInt = (lN a).toInt >>> d := by
    rw [← hD]
    exact BitVec.toInt_sshiftRight ..
  rw [e, Int.shiftRight_eq_div_pow, pf_lI (by omega), pf_lI (by omega)]
  rfl
theorem pf_ushr {a d : Nat} {D : UInt64} (hD : D.toNat % 64 = d) (h : a < 2 ^ 62) : ((lN a).toUInt64 >>> D).toInt64 = lN (a / 2 ^ d) := by
  have hd : a / 2 ^ d ≤ a := Nat.div_le_self _ _
  have e : (lN a).toUInt64 >>> D = UInt64.ofNat (a / 2 ^ d) := UInt64.toNat_inj.mp (by
    rw [UInt64.toNat_shiftRight, hD, Nat.shiftRight_eq_div_pow, UInt64.toNat_ofNat']
    show (UInt64.ofNat a).toNat / 2 ^ d = _
    rw [UInt64.toNat_ofNat', Nat.mod_eq_of_lt (by omega), Nat.mod_eq_of_lt (by omega)])
  rw [e]
  rfl
theorem pf_andw (x : Int64) : ∃ m, m < 2 ^ 32 ∧ x &&& 4294967295 = lN m := ⟨x.toBitVec.toNat % 2 ^ 32, Nat.mod_lt _ (by decide), Int64.toBitVec_inj.mp (BitVec.eq_of_toNat_eq (by
  show (x.toBitVec &&& 4294967295#64).toNat = (BitVec.ofNat 64 (x.toBitVec.toNat % 2 ^ 32)).toNat
  rw [BitVec.toNat_and, show (4294967295#64).toNat = 2 ^ 32 - 1 from by decide, Nat.and_two_pow_sub_one_eq_mod, BitVec.toNat_ofNat]
  omega))⟩
/-! ===== Int64 as an unsigned number: uN x ===== -/
def uN (x : Int64) : Nat := x.toUInt64.toNat
theorem uN_lt (x : Int64) : uN x < 18446744073709551616 := x.toUInt64.toNat_lt
theorem uN_inj {x y : Int64} (h : uN x = uN y) : x = y := congrArg UInt64.toInt64 (UInt64.toNat_inj.mp h)
theorem uN_add (x y : Int64) : uN (x + y) = (uN x + uN y) % 18446744073709551616 := by
  show (x.toUInt64 + y.toUInt64).toNat = _
  exact UInt64.toNat_add _ _
theorem uN_mul (x y : Int64) : uN (x * y) = (uN x * uN y) % 18446744073709551616 := by
  show (x.toUInt64 * y.toUInt64).toNat = _
  exact UInt64.toNat_mul _ _
theorem uN_shl (x : Int64) : uN (x <<< ((1 : Int32).toInt64 &&& 63)) = (2 * uN x) % 18446744073709551616 := by
  have h : (((1 : Int32).toInt64 &&& 63).toBitVec.smod 64).toNat = 1 := by decide
  show (x.toBitVec <<< (((1 : Int32).toInt64 &&& 63).toBitVec.smod 64).toNat).toNat = _
  rw [h, BitVec.toNat_shiftLeft, Nat.shiftLeft_eq, Nat.mul_comm]
  rfl
theorem uN_shr (x : Int64) (s : UInt64) : uN (x.toUInt64 >>> s).toInt64 = uN x / 2 ^ (s.toNat % 64) := by
  show (x.toUInt64 >>> s).toNat = _
  rw [UInt64.toNat_shiftRight, Nat.shiftRight_eq_div_pow]
  rfl
theorem uN_s32 (x : Int64) : uN (x.toUInt64 >>> ((32 : Int32).toInt64.toUInt64 &&& Int64.toUInt64 63)).toInt64 = uN x / 4294967296 := by
  have h : ((32 : Int32).toInt64.toUInt64 &&& Int64.toUInt64 63).toNat % 64 = 32 := by decide
  rw [uN_shr, h]
theorem uN_s63 (x : Int64) : uN (x.toUInt64 >>> ((63 : Int32).toInt64.toUInt64 &&& Int64.toUInt64 63)).toInt64 = uN x / 9223372036854775808 := by
  have h : ((63 : Int32).toInt64.toUInt64 &&& Int64.toUInt64 63).toNat % 64 = 63 := by decide
  rw [uN_shr, h]
theorem uN_lo (x : Int64) : uN (x &&& 4294967295) = uN x % 4294967296 := by
  show (x.toUInt64 &&& Int64.toUInt64 4294967295).toNat = _
  rw [UInt64.toNat_and]
  exact Nat.and_two_pow_sub_one_eq_mod _ 32
theorem uN_bit (x : Int64) : (x &&& 1) = 0 ↔ uN x % 2 = 0 := by
  have h : uN (x &&& 1) = uN x % 2 := by
    show (x.toUInt64 &&& Int64.toUInt64 1).toNat = _
    rw [UInt64.toNat_and]
    exact Nat.and_two_pow_sub_one_eq_mod _ 1
  rw [← h]
  exact ⟨fun z => by rw [z]; rfl, fun z => uN_inj (z.trans rfl)⟩
theorem uN_or {x y : Int64} (hy : uN y < 2) : uN ((x <<< ((1 : Int32).toInt64 &&& 63)) ||| y) = (2 * uN x) % 18446744073709551616 + uN y := by
  have h1 : uN ((x <<< ((1 : Int32).toInt64 &&& 63)) ||| y) = uN (x <<< ((1 : Int32).toInt64 &&& 63)) ||| uN y := UInt64.toNat_or _ _
  have h2 : (2 * uN x) % 18446744073709551616 = 2 ^ 1 * (uN x % 9223372036854775808) := by omega
  rw [h1, uN_shl, h2]
  exact (Nat.two_pow_add_eq_or_of_lt (i := 1) hy _).symm
theorem nat_xor {a : Nat} (h : a < 18446744073709551616) : a ^^^ 2 ^ 63 = (a + 9223372036854775808) % 18446744073709551616 := by
  have h1 : (a ^^^ 2 ^ 63) % 2 ^ 63 = a % 2 ^ 63 := by rw [Nat.xor_mod_two_pow, Nat.mod_self, Nat.xor_zero]
  have h2 : (a ^^^ 2 ^ 63) / 2 ^ 63 = (a / 2 ^ 63) ^^^ 1 := by rw [Nat.xor_div_two_pow, Nat.div_self (Nat.two_pow_pos 63)]
  have h3 : a / 2 ^ 63 = 0 ∨ a / 2 ^ 63 = 1 := by omega
  generalize a ^^^ 2 ^ 63 = t at h1 h2
  rcases h3 with h3 | h3
  · rw [h3] at h2
    have h2 : t / 2 ^ 63 = 1 := h2
    omega
  · rw [h3] at h2
    have h2 : t / 2 ^ 63 = 0 := h2
    omega
theorem uN_xor (x : Int64) : uN (x ^^^ (-9223372036854775808)) = (uN x + 9223372036854775808) % 18446744073709551616 := by
  rw [← nat_xor (uN_lt x)]
  exact UInt64.toNat_xor _ _
theorem uN_int (x : Int64) : x.toInt = if 2 * uN x < 18446744073709551616 then (uN x : Int) else (uN x : Int) - 18446744073709551616 := BitVec.toInt_eq_toNat_cond _
theorem uN_le (x y : Int64) : (x ^^^ (-9223372036854775808)) ≤ (y ^^^ (-9223372036854775808)) ↔ uN x ≤ uN y := by
  have hx := uN_lt x
  have hy := uN_lt y
  rw [Int64.le_iff_toInt_le, uN_int, uN_int, uN_xor, uN_xor]
  omega
theorem uN_sk (x : Int64) {k : Nat} (hk : k < 64) : uN (x.toUInt64 >>> ((nI k).toInt64.toUInt64 &&& Int64.toUInt64 63)).toInt64 = uN x / 2 ^ k := by
  have h : ((nI k).toInt64.toUInt64 &&& Int64.toUInt64 63).toNat % 64 = k := by
    rw [nI_l (by omega), UInt64.toNat_and]
    have e : (lN k).toUInt64.toNat = k % 2 ^ 64 := rfl
    have e2 : (Int64.toUInt64 63).toNat = 2 ^ 6 - 1 := by decide
    rw [e, e2, Nat.and_two_pow_sub_one_eq_mod]
    omega
  rw [uN_shr, h]
/-! ===== unsigned comparison by xor with the least ===== -/
theorem lN_bv (n : Nat) : (lN n).toBitVec = BitVec.ofNat 64 n := rfl
theorem lN_nat {n : Nat} (h : n < 2 ^ 64) : (lN n).toBitVec.toNat = n := by rw [lN_bv, BitVec.toNat_ofNat]; exact Nat.mod_eq_of_lt h
theorem lN_xor (a b : Nat) : lN a ^^^ lN b = lN (a ^^^ b) := by
  apply Int64.toBitVec_inj.mp; rw [Int64.toBitVec_xor, lN_bv, lN_bv, lN_bv]; apply BitVec.eq_of_getLsbD_eq; intro i hi; simp [BitVec.getLsbD_ofNat, Nat.testBit_xor, hi]
theorem lN_ti {m : Nat} (h : m < 2 ^ 64) : (lN m).toInt = if m < 2 ^ 63 then (m : Int) else (m : Int) - 2 ^ 64 := by
  have c := BitVec.toInt_eq_toNat_cond (lN m).toBitVec
  rw [lN_nat h] at c
  show (lN m).toBitVec.toInt = _
  rw [c]
  split <;> split <;> omega
theorem xor63 {x : Nat} (h : x < 2 ^ 63) : x ^^^ 2 ^ 63 = 2 ^ 63 + x := by
  apply Nat.eq_of_testBit_eq
  intro i
  rw [Nat.testBit_xor, Nat.testBit_two_pow]
  rcases Nat.lt_trichotomy i 63 with z | z | z
  · rw [Nat.testBit_two_pow_add_gt z, decide_eq_false (by omega)]; simp
  · subst z; rw [Nat.testBit_two_pow_add_eq]; simp
  · have hp : 2 ^ 64 ≤ 2 ^ i := Nat.pow_le_pow_right (by decide) z
    rw [Nat.testBit_lt_two_pow (show x < 2 ^ i by omega), Nat.testBit_lt_two_pow (show 2 ^ 63 + x < 2 ^ i by omega), decide_eq_false (by omega)]; rfl
theorem xorS {a : Nat} (h : a < 2 ^ 64) : (lN a ^^^ (-9223372036854775808)).toInt = (a : Int) - 2 ^ 63 := by
  rw [show (-9223372036854775808 : Int64) = lN (2 ^ 63) from by decide +kernel, lN_xor]
  rcases Nat.lt_or_ge a (2 ^ 63) with z | z
  · rw [xor63 z, lN_ti (by omega), if_neg (by omega)]; omega
  · obtain ⟨x, rfl⟩ : ∃ x, a = 2 ^ 63 + x := ⟨a - 2 ^ 63, by omega⟩
    rw [← xor63 (by omega), Nat.xor_assoc, Nat.xor_self, Nat.xor_zero, lN_ti (by omega), if_pos (by omega), xor63 (by omega)]; omega
theorem ultL {a b : Nat} (ha : a < 2 ^ 64) (hb : b < 2 ^ 64) : ((lN b ^^^ (-9223372036854775808)) ≤ (lN a ^^^ (-9223372036854775808))) ↔ b ≤ a := by
  rw [Int64.le_iff_toInt_le, xorS ha, xorS hb]; omega
/-! ===== Int64 masks of n low bits ===== -/
theorem cr_bits (W U M : BitVec 64) : ((W &&& U) &&& (U &&& (M ^^^ BitVec.allOnes 64))) = 0#64 ↔ (W &&& U) &&& M = W &&& U := by
  constructor
  · intro h
    apply BitVec.eq_of_getLsbD_eq
    intro i hi
    have e := congrArg (fun x => BitVec.getLsbD x i) h
    simp only [BitVec.getLsbD_and, BitVec.getLsbD_xor, BitVec.getLsbD_allOnes, BitVec.getLsbD_zero, hi, decide_true] at e ⊢
    revert e
    cases W.getLsbD i <;> cases U.getLsbD i <;> cases M.getLsbD i <;> decide
  · intro h
    apply BitVec.eq_of_getLsbD_eq
    intro i hi
    have e := congrArg (fun x => BitVec.getLsbD x i) h
    simp only [BitVec.getLsbD_and, BitVec.getLsbD_xor, BitVec.getLsbD_allOnes, BitVec.getLsbD_zero, hi, decide_true] at e ⊢
    revert e
    cases W.getLsbD i <;> cases U.getLsbD i <;> cases M.getLsbD i <;> decide
theorem cr_mask (w U m : Int64) (n : Nat) (hm : m.toBitVec.toNat = 2 ^ n - 1) : ((w &&& U) &&& (U &&& (m ^^^ (-1)))) = 0 ↔ (w &&& U).toBitVec.toNat < 2 ^ n := by
  have e0 : (-1 : Int64).toBitVec = BitVec.allOnes 64 := by decide
  have z0 : (0 : Int64).toBitVec = 0#64 := by decide
  rw [← Int64.toBitVec_inj, z0, Int64.toBitVec_and, Int64.toBitVec_and, Int64.toBitVec_and, Int64.toBitVec_xor, e0, cr_bits]
  generalize w.toBitVec &&& U.toBitVec = T
  rw [← BitVec.toNat_inj, BitVec.toNat_and, hm, Nat.and_two_pow_sub_one_eq_mod]
  constructor
  · intro h
    have t := Nat.mod_lt T.toNat (Nat.two_pow_pos n)
    rw [h] at t
    exact t
  · exact Nat.mod_eq_of_lt
theorem cr_shr (t : Int64) (x : UInt64) (n : Nat) (hx : x.toNat % 64 = n) : (t.toUInt64 >>> x).toInt64 = 0 ↔ t.toBitVec.toNat < 2 ^ n := by
  rw [← Int64.toBitVec_inj, ← BitVec.toNat_inj]
  show (t.toUInt64 >>> x).toNat = 0 ↔ t.toUInt64.toNat < 2 ^ n
  rw [UInt64.toNat_shiftRight, hx, Nat.shiftRight_eq_div_pow]
  constructor
  · intro h
    have d : t.toUInt64.toNat / 2 ^ n < 1 := by
      rw [h]
      decide
    have e := (Nat.div_lt_iff_lt_mul (Nat.two_pow_pos n)).mp d
    rw [Nat.one_mul] at e
    exact e
  · exact Nat.div_eq_of_lt
theorem cr_amt (s : Int64) : ∃ n, n < 64 ∧ s &&& 63 = lN n ∧ (s.toUInt64 &&& Int64.toUInt64 63).toNat % 64 = n := by
  have e : (s.toUInt64 &&& Int64.toUInt64 63).toNat = s.toUInt64.toNat % 2 ^ 6 := by
    rw [UInt64.toNat_and, show (Int64.toUInt64 63).toNat = 2 ^ 6 - 1 from by decide, Nat.and_two_pow_sub_one_eq_mod]
  refine ⟨s.toUInt64.toNat % 2 ^ 6, by omega, ?_, by omega⟩
  rw [← Int64.toBitVec_inj, ← BitVec.toNat_inj]
  show (s.toUInt64 &&& Int64.toUInt64 63).toNat = (BitVec.ofNat 64 (s.toUInt64.toNat % 2 ^ 6)).toNat
  rw [e, BitVec.toNat_ofNat]
  omega
end
section
/-! ===== Int64 as a set of cells: mb_b m i; counting: mb_c p n ===== -/
def mb_b (m : Int64) (i : Nat) : Bool := m.toBitVec.getLsbD i
theorem mb_ext {x y : Int64} (h : ∀ i, i < 64 → mb_b x i = mb_b y i) : x = y := Int64.toBitVec_inj.mp (BitVec.eq_of_getLsbD_eq (fun i hi => h i hi))
theorem mb_or (x y : Int64) (i : Nat) : mb_b (x ||| y) i = (mb_b x i || mb_b y i) := by unfold mb_b; rw [Int64.toBitVec_or, BitVec.getLsbD_or]
theorem mb_and (x y : Int64) (i : Nat) : mb_b (x &&& y) i = (mb_b x i && mb_b y i) := by unfold mb_b; rw [Int64.toBitVec_and, BitVec.getLsbD_and]
theorem mb_xor (x y : Int64) (i : Nat) : mb_b (x ^^^ y) i = (mb_b x i ^^ mb_b y i) := by unfold mb_b; rw [Int64.toBitVec_xor, BitVec.getLsbD_xor]
theorem mb_big {x : Int64} {i : Nat} (h : 64 ≤ i) : mb_b x i = false := BitVec.getLsbD_of_ge _ _ h
theorem mb_lt {x : Int64} {i : Nat} (h : mb_b x i = true) : i < 64 := by
  rcases Nat.lt_or_ge i 64 with z | z
  · exact z
  · rw [mb_big z] at h; exact absurd h (by decide)
theorem mb_m1 : ∀ i, i < 64 → mb_b (-1) i = true := by decide +kernel
theorem mb_0 (i : Nat) : mb_b 0 i = false := BitVec.getLsbD_zero
theorem mb_not (x : Int64) {i : Nat} (h : i < 64) : mb_b (x ^^^ (-1)) i = !(mb_b x i) := by
  rw [mb_xor, mb_m1 i h]; cases mb_b x i <;> rfl
theorem mb_one1 : ∀ c, c < 64 → ((1 : Int64) <<< ((nI c).toInt64 &&& 63)).toBitVec = BitVec.twoPow 64 c := by decide +kernel
theorem mb_one {c : Nat} (hc : c < 64) (i : Nat) : mb_b ((1 : Int64) <<< ((nI c).toInt64 &&& 63)) i = decide (i = c) := by
  unfold mb_b
  rw [mb_one1 c hc, BitVec.getLsbD_twoPow]
  rcases Nat.lt_or_ge i 64 with z | z
  · by_cases e : i = c
    · simp [e, hc]
    · simp [e, hc]; omega
  · have : ¬ i = c := by omega
    simp [this]; omega
theorem mb_nlN (n i : Nat) (hn : n < 2 ^ 64) : mb_b (lN n) i = n.testBit i := by
  show (BitVec.ofNat 64 n).getLsbD i = _
  unfold BitVec.getLsbD
  rw [BitVec.toNat_ofNat, Nat.mod_eq_of_lt hn]
theorem mb_set {w : Int64} {c : Nat} (hc : c < 64) : (((w.toUInt64 >>> ((nI c).toInt64.toUInt64 &&& Int64.toUInt64 63)).toInt64) &&& 1) = 0 ↔ mb_b w c = false := by
  rw [wb_cu c hc]
  exact ts_bit hc (by show (BitVec.ofNat 64 c).toNat = c; rw [BitVec.toNat_ofNat, Nat.mod_eq_of_lt (by omega)])
theorem mb_eq0 {m : Int64} : m = 0 ↔ ∀ i, i < 64 → mb_b m i = false :=
  ⟨fun h i _ => by rw [h, mb_0], fun h => mb_ext fun i hi => by rw [h i hi, mb_0]⟩
theorem mb_ne0 {m : Int64} (h : ¬ m = 0) : ∃ i, i < 64 ∧ mb_b m i = true := by
  apply Classical.byContradiction
  intro z
  exact h (mb_eq0.mpr fun i hi => by
    cases e : mb_b m i
    · rfl
    · exact absurd ⟨i, hi, e⟩ z)
/-! counting -/
def mb_c (p : Nat → Bool) : Nat → Nat
  | 0 => 0
  | n + 1 => mb_c p n + (if p n then 1 else 0)
theorem mb_c_eq {p q : Nat → Bool} : ∀ {n : Nat}, (∀ i, i < n → p i = q i) → mb_c p n = mb_c q n
  | 0, _ => rfl
  | n + 1, h => by
    show mb_c p n + _ = mb_c q n + _
    rw [mb_c_eq (fun i hi => h i (by omega)), h n (by omega)]
theorem mb_c_le (p : Nat → Bool) : ∀ n, mb_c p n ≤ n
  | 0 => Nat.le_refl _
  | n + 1 => by
    have := mb_c_le p n
    show mb_c p n + _ ≤ _
    split <;> omega
theorem mb_c_add (p : Nat → Bool) (a : Nat) : ∀ b, mb_c p (a + b) = mb_c p a + mb_c (fun i => p (a + i)) b
  | 0 => rfl
  | b + 1 => by
    show mb_c p (a + b) + _ = mb_c p a + (mb_c (fun i => p (a + i)) b + _)
    rw [mb_c_add p a b, Nat.add_assoc]
    rfl
theorem mb_c_0 {p : Nat → Bool} : ∀ {n : Nat}, (∀ i, i < n → p i = false) → mb_c p n = 0
  | 0, _ => rfl
  | n + 1, h => by
    show mb_c p n + _ = 0
    rw [mb_c_0 (fun i hi => h i (by omega)), h n (by omega)]; rfl
theorem mb_c_mono {p q : Nat → Bool} : ∀ {n : Nat}, (∀ i, i < n → p i = true → q i = true) → mb_c p n ≤ mb_c q n
  | 0, _ => Nat.le_refl _
  | n + 1, h => by
    have a := mb_c_mono (p := p) (q := q) (n := n) (fun i hi => h i (by omega))
    show mb_c p n + _ ≤ mb_c q n + _
    by_cases e : p n = true
    · rw [if_pos e, if_pos (h n (by omega) e)]; omega
    · rw [if_neg e]; omega
theorem mb_c_monoN (p : Nat → Bool) {a b : Nat} (h : a ≤ b) : mb_c p a ≤ mb_c p b := by
  obtain ⟨d, rfl⟩ : ∃ d, b = a + d := ⟨b - a, by omega⟩
  rw [mb_c_add]; omega
theorem mb_c_pos {p : Nat → Bool} {n i : Nat} (hi : i < n) (h : p i = true) : 1 ≤ mb_c p n := by
  have := mb_c_monoN p (show i + 1 ≤ n by omega)
  have e : mb_c p (i + 1) = mb_c p i + (if p i then 1 else 0) := rfl
  rw [if_pos h] at e; omega
theorem mb_c_eq0 {p : Nat → Bool} {n : Nat} (h : mb_c p n = 0) : ∀ i, i < n → p i = false := by
  intro i hi
  cases e : p i
  · rfl
  · have := mb_c_pos hi e; omega
theorem mb_c_lt {p q : Nat → Bool} {n a : Nat} (h : ∀ i, i < n → p i = true → q i = true) (ha : a < n) (hp : p a = false) (hq : q a = true) : mb_c p n < mb_c q n := by
  obtain ⟨d, rfl⟩ : ∃ d, n = (a + 1) + d := ⟨n - (a + 1), by omega⟩
  rw [mb_c_add p, mb_c_add q]
  have h1 := mb_c_mono (p := p) (q := q) (n := a) (fun i hi => h i (by omega))
  have h2 := mb_c_mono (p := fun i => p (a + 1 + i)) (q := fun i => q (a + 1 + i)) (n := d) (fun i hi => h _ (by omega))
  have e1 : mb_c p (a + 1) = mb_c p a + (if p a then 1 else 0) := rfl
  have e2 : mb_c q (a + 1) = mb_c q a + (if q a then 1 else 0) := rfl
  rw [hp] at e1; rw [hq] at e2
  simp only [Bool.false_eq_true, if_false, if_true] at e1 e2
  omega
theorem mb_c_full {p : Nat → Bool} {n : Nat} : mb_c p n = n ↔ ∀ i, i < n → p i = true := by
  constructor
  · intro h i hi
    cases e : p i
    · have := mb_c_lt (p := p) (q := fun _ => true) (n := n) (a := i) (fun _ _ _ => rfl) hi e rfl
      have := mb_c_le (fun _ => true) n
      omega
    · rfl
  · intro h
    have e : mb_c p n = mb_c (fun _ => true) n := mb_c_eq h
    rw [e]
    clear e h
    induction n with
    | zero => rfl
    | succ n ih => show mb_c _ n + 1 = _; rw [ih]
theorem mb_c_or {p q : Nat → Bool} : ∀ {n : Nat}, (∀ i, i < n → ¬ (p i = true ∧ q i = true)) → mb_c (fun i => p i || q i) n = mb_c p n + mb_c q n
  | 0, _ => rfl
  | n + 1, h => by
    have a := mb_c_or (p := p) (q := q) (n := n) (fun i hi => h i (by omega))
    have b := h n (by omega)
    show mb_c _ n + _ = (mb_c p n + _) + (mb_c q n + _)
    rw [a]
    cases e1 : p n <;> cases e2 : q n <;> simp [e1, e2] at b ⊢ <;> omega
theorem mb_c_split (p q : Nat → Bool) : ∀ n : Nat, mb_c p n = mb_c (fun i => p i && q i) n + mb_c (fun i => p i && !(q i)) n
  | 0 => rfl
  | n + 1 => by
    have a := mb_c_split p q n
    show mb_c p n + _ = (mb_c _ n + _) + (mb_c _ n + _)
    rw [a]
    cases e1 : p n <;> cases e2 : q n <;> simp [e1, e2] <;> omega
theorem mb_c_64 {p : Nat → Bool} {n : Nat} (hn : n ≤ 64) (h : ∀ i, n ≤ i → p i = false) : mb_c p 64 = mb_c p n := by
  obtain ⟨d, e⟩ : ∃ d, 64 = n + d := ⟨64 - n, by omega⟩
  rw [e, mb_c_add, mb_c_0 (p := fun i => p (n + i)) (fun i _ => h _ (by omega)), Nat.add_zero]
end
section
/-! ===== bitCount by bytes ===== -/
def mc_v : List Nat → Nat
  | [] => 0
  | b :: L => 256 * mc_v L + b
def mc_m (d : Nat) : Nat → Nat
  | 0 => 0
  | k + 1 => 256 * mc_m d k + d
theorem mc_and {a c m d : Nat} (hc : c < 256) (hd : d < 256) : (256 * a + c) &&& (256 * m + d) = 256 * (a &&& m) + (c &&& d) := by
  apply Nat.eq_of_testBit_eq
  intro i
  have hcd : (c &&& d) < 2 ^ 8 := Nat.lt_of_le_of_lt Nat.and_le_left hc
  rw [Nat.testBit_and, show (256 : Nat) = 2 ^ 8 from rfl, Nat.testBit_two_pow_mul_add a (i := 8) hc, Nat.testBit_two_pow_mul_add m (i := 8) hd, Nat.testBit_two_pow_mul_add (a &&& m) (i := 8) hcd]
  split
  · rw [Nat.testBit_and]
  · rw [Nat.testBit_and]
def mc_f1 (b : Nat) : Nat := b - (b / 2 &&& 85)
def mc_f2 (b : Nat) : Nat := (b &&& 51) + (b / 4 &&& 51)
def mc_f3 (b : Nat) : Nat := (b + b / 16) &&& 15
def mc_ok (b : Nat) : Bool := decide (mc_f1 b < 256) && decide (mc_f2 (mc_f1 b) < 256) && decide (mc_f2 (mc_f1 b) % 16 ≤ 4) && decide (mc_f2 (mc_f1 b) / 16 ≤ 4) && decide (mc_f3 (mc_f2 (mc_f1 b)) = mb_c (fun i => b.testBit i) 8)
theorem mc_tab : ∀ b, b < 256 → mc_ok b = true := by decide +kernel
theorem mc_t1 : ∀ r, r < 2 → ∀ b, b < 256 → (128 * r + b / 2) &&& 85 = b / 2 &&& 85 := by decide +kernel
theorem mc_t2 : ∀ r, r < 4 → ∀ b, b < 256 → (64 * r + b / 4) &&& 51 = b / 4 &&& 51 := by decide +kernel
theorem mc_t3 : ∀ r, r < 5 → ∀ h, h < 5 → ∀ l, l < 5 → (16 * r + ((16 * h + l) + (16 * h + l) / 16)) &&& 15 = ((16 * h + l) + (16 * h + l) / 16) &&& 15 := by decide +kernel
theorem mc_s1 : ∀ L : List Nat, (∀ b, b ∈ L → b < 256) → mc_v L - (mc_v L / 2 &&& mc_m 85 L.length) = mc_v (L.map mc_f1)
  | [], _ => rfl
  | b :: L, h => by
    have ih := mc_s1 L (fun x hx => h x (List.mem_cons_of_mem _ hx))
    have hb := h b (List.mem_cons_self)
    have hq : (mc_v L / 2 &&& mc_m 85 L.length) ≤ mc_v L := Nat.le_trans Nat.and_le_left (Nat.div_le_self _ _)
    have h2 : (b / 2 &&& 85) ≤ b := Nat.le_trans Nat.and_le_left (Nat.div_le_self _ _)
    show (256 * mc_v L + b) - ((256 * mc_v L + b) / 2 &&& (256 * mc_m 85 L.length + 85)) = 256 * mc_v (L.map mc_f1) + (b - (b / 2 &&& 85))
    have e : (256 * mc_v L + b) / 2 = 256 * (mc_v L / 2) + (128 * (mc_v L % 2) + b / 2) := by omega
    rw [e, mc_and (by omega) (by omega), mc_t1 _ (by omega) b hb, ← ih]
    generalize (mc_v L / 2 &&& mc_m 85 L.length) = y at *
    generalize (b / 2 &&& 85) = z at *
    omega
theorem mc_s2 : ∀ L : List Nat, (∀ b, b ∈ L → b < 256) → (mc_v L &&& mc_m 51 L.length) + (mc_v L / 4 &&& mc_m 51 L.length) = mc_v (L.map mc_f2)
  | [], _ => rfl
  | b :: L, h => by
    have ih := mc_s2 L (fun x hx => h x (List.mem_cons_of_mem _ hx))
    have hb := h b (List.mem_cons_self)
    show ((256 * mc_v L + b) &&& (256 * mc_m 51 L.length + 51)) + ((256 * mc_v L + b) / 4 &&& (256 * mc_m 51 L.length + 51)) = 256 * mc_v (L.map mc_f2) + ((b &&& 51) + (b / 4 &&& 51))
    have e : (256 * mc_v L + b) / 4 = 256 * (mc_v L / 4) + (64 * (mc_v L % 4) + b / 4) := by omega
    rw [e, mc_and hb (by omega), mc_and (by omega) (by omega), mc_t2 _ (by omega) b hb, ← ih]
    omega
def mc_P (b : Nat) : Prop := b < 256 ∧ b % 16 ≤ 4 ∧ b / 16 ≤ 4
theorem mc_s3 : ∀ L : List Nat, (∀ b, b ∈ L → mc_P b) → (mc_v L + mc_v L / 16) &&& mc_m 15 L.length = mc_v (L.map mc_f3)
  | [], _ => rfl
  | b :: L, h => by
    have ih := mc_s3 L (fun x hx => h x (List.mem_cons_of_mem _ hx))
    obtain ⟨hb, h1, h2⟩ := h b (List.mem_cons_self)
    have hq : mc_v L % 16 ≤ 4 := by
      cases L with
      | nil => show 0 % 16 ≤ 4; omega
      | cons c K =>
        have := (h c (by simp)).2.1
        show (256 * mc_v K + c) % 16 ≤ 4
        omega
    show ((256 * mc_v L + b) + (256 * mc_v L + b) / 16) &&& (256 * mc_m 15 L.length + 15) = 256 * mc_v (L.map mc_f3) + ((b + b / 16) &&& 15)
    have e : (256 * mc_v L + b) + (256 * mc_v L + b) / 16 = 256 * (mc_v L + mc_v L / 16) + (16 * (mc_v L % 16) + (b + b / 16)) := by omega
    have t := mc_t3 (mc_v L % 16) (by omega) (b / 16) (by omega) (b % 16) (by omega)
    rw [show 16 * (b / 16) + b % 16 = b by omega] at t
    rw [e, mc_and (by omega) (by omega), t, ih]
theorem mc_cnt : ∀ L : List Nat, (∀ b, b ∈ L → b < 256) → mb_c (fun i => (mc_v L).testBit i) (8 * L.length) = (L.map (fun b => mb_c (fun i => b.testBit i) 8)).sum
  | [], _ => rfl
  | b :: L, h => by
    have ih := mc_cnt L (fun x hx => h x (List.mem_cons_of_mem _ hx))
    have hb := h b (List.mem_cons_self)
    rw [show 8 * (b :: L).length = 8 + 8 * L.length by simp only [List.length_cons]; omega, mb_c_add, List.map_cons, List.sum_cons, ← ih]
    have e : ∀ i, (mc_v (b :: L)).testBit i = if i < 8 then b.testBit i else (mc_v L).testBit (i - 8) := fun i => Nat.testBit_two_pow_mul_add (mc_v L) (i := 8) hb i
    congr 1
    · exact mb_c_eq fun i hi => by rw [e i, if_pos hi]
    · exact mb_c_eq fun i hi => by
        show (mc_v (b :: L)).testBit (8 + i) = _
        rw [e, if_neg (by omega), Nat.add_sub_cancel_left]
theorem mc_bytes : ∀ k x : Nat, x < 256 ^ k → ∃ L : List Nat, L.length = k ∧ (∀ b, b ∈ L → b < 256) ∧ x = mc_v L
  | 0, x, h => ⟨[], rfl, fun _ hb => absurd hb (by simp), show x = 0 from Nat.lt_one_iff.mp h⟩
  | k + 1, x, h => by
    rw [Nat.pow_succ] at h
    obtain ⟨L, h1, h2, h3⟩ := mc_bytes k (x / 256) (Nat.div_lt_of_lt_mul (by rw [Nat.mul_comm]; exact h))
    refine ⟨(x % 256) :: L, by simp [h1], fun b hb => ?_, ?_⟩
    · rcases List.mem_cons.mp hb with e | e
      · rw [e]; omega
      · exact h2 b e
    · show x = 256 * mc_v L + x % 256
      rw [← h3]; omega
theorem mc_top {c0 c1 c2 c3 c4 c5 c6 c7 : Nat} (h0 : c0 ≤ 8) (h1 : c1 ≤ 8) (h2 : c2 ≤ 8) (h3 : c3 ≤ 8) (h4 : c4 ≤ 8) (h5 : c5 ≤ 8) (h6 : c6 ≤ 8) (h7 : c7 ≤ 8) :
    mc_v [c0, c1, c2, c3, c4, c5, c6, c7] * 72340172838076673 % 18446744073709551616 / 72057594037927936 = c0 + (c1 + (c2 + (c3 + (c4 + (c5 + (c6 + (c7 + 0))))))) := by
  have e : mc_v [c0, c1, c2, c3, c4, c5, c6, c7] * 72340172838076673 = 18446744073709551616 * ((c1 + c2 + c3 + c4 + c5 + c6 + c7) + 256 * (c2 + c3 + c4 + c5 + c6 + c7) + 65536 * (c3 + c4 + c5 + c6 + c7) + 16777216 * (c4 + c5 + c6 + c7) + 4294967296 * (c5 + c6 + c7) + 1099511627776 * (c6 + c7) + 281474976710656 * c7)
      + (72057594037927936 * (c0 + c1 + c2 + c3 + c4 + c5 + c6 + c7) + (c0 + 256 * (c0 + c1) + 65536 * (c0 + c1 + c2) + 16777216 * (c0 + c1 + c2 + c3) + 4294967296 * (c0 + c1 + c2 + c3 + c4) + 1099511627776 * (c0 + c1 + c2 + c3 + c4 + c5) + 281474976710656 * (c0 + c1 + c2 + c3 + c4 + c5 + c6))) := by
    simp only [mc_v]
    omega
  have l : c0 + 256 * (c0 + c1) + 65536 * (c0 + c1 + c2) + 16777216 * (c0 + c1 + c2 + c3) + 4294967296 * (c0 + c1 + c2 + c3 + c4) + 1099511627776 * (c0 + c1 + c2 + c3 + c4 + c5) + 281474976710656 * (c0 + c1 + c2 + c3 + c4 + c5 + c6) < 72057594037927936 := by omega
  rw [e, Nat.mul_add_mod]
  generalize c0 + 256 * (c0 + c1) + 65536 * (c0 + c1 + c2) + 16777216 * (c0 + c1 + c2 + c3) + 4294967296 * (c0 + c1 + c2 + c3 + c4) + 1099511627776 * (c0 + c1 + c2 + c3 + c4 + c5) + 281474976710656 * (c0 + c1 + c2 + c3 + c4 + c5 + c6) = lo at l ⊢
  rw [Nat.mod_eq_of_lt (by omega), Nat.mul_add_div (by decide), Nat.div_eq_of_lt l]
  omega
/-- the swar count of a natural number -/
def mc_pop (n : Nat) : Nat :=
  ((((n - (n / 2 &&& 6148914691236517205)) &&& 3689348814741910323) + ((n - (n / 2 &&& 6148914691236517205)) / 4 &&& 3689348814741910323)) + (((n - (n / 2 &&& 6148914691236517205)) &&& 3689348814741910323) + ((n - (n / 2 &&& 6148914691236517205)) / 4 &&& 3689348814741910323)) / 16 &&& 1085102592571150095) * 72340172838076673 % 18446744073709551616 / 72057594037927936
theorem mc_okE {b : Nat} (h : b < 256) : mc_f1 b < 256 ∧ mc_P (mc_f2 (mc_f1 b)) ∧ mc_f3 (mc_f2 (mc_f1 b)) = mb_c (fun i => b.testBit i) 8 := by
  have t := mc_tab b h
  simp only [mc_ok, Bool.and_eq_true, decide_eq_true_eq] at t
  obtain ⟨⟨⟨⟨t1, t2⟩, t3⟩, t4⟩, t5⟩ := t
  exact ⟨t1, ⟨t2, t3, t4⟩, t5⟩
theorem mc_popE {n : Nat} (hn : n < 18446744073709551616) : mc_pop n = mb_c (fun i => n.testBit i) 64 := by
  obtain ⟨L, hl, hb, rfl⟩ := mc_bytes 8 n hn
  have s1 := mc_s1 L hb
  have s2 := mc_s2 (L.map mc_f1) (fun b h => by
    obtain ⟨x, hx, rfl⟩ := List.mem_map.mp h
    exact (mc_okE (hb x hx)).1)
  have s3 := mc_s3 ((L.map mc_f1).map mc_f2) (fun b h => by
    obtain ⟨y, hy, rfl⟩ := List.mem_map.mp h
    obtain ⟨x, hx, rfl⟩ := List.mem_map.mp hy
    exact (mc_okE (hb x hx)).2.1)
  have c := mc_cnt L hb
  rw [List.length_map, hl] at s2
  rw [List.length_map, List.length_map, hl] at s3
  rw [hl] at s1 c
  rw [show 8 * 8 = 64 from rfl] at c
  rw [show mc_m 85 8 = 6148914691236517205 from rfl] at s1
  rw [show mc_m 51 8 = 3689348814741910323 from rfl] at s2
  rw [show mc_m 15 8 = 1085102592571150095 from rfl] at s3
  unfold mc_pop
  rw [s1, s2, s3, c]
  have e : ((L.map mc_f1).map mc_f2).map mc_f3 = L.map (fun b => mb_c (fun i => b.testBit i) 8) := by
    rw [List.map_map, List.map_map]
    apply List.map_congr_left
    intro b h
    exact (mc_okE (hb b h)).2.2
  rw [e]
  clear s1 s2 s3 c e
  match L, hl with
  | [b0, b1, b2, b3, b4, b5, b6, b7], _ =>
    show mc_v [mb_c (fun i => b0.testBit i) 8, mb_c (fun i => b1.testBit i) 8, mb_c (fun i => b2.testBit i) 8, mb_c (fun i => b3.testBit i) 8, mb_c (fun i => b4.testBit i) 8, mb_c (fun i => b5.testBit i) 8, mb_c (fun i => b6.testBit i) 8, mb_c (fun i => b7.testBit i) 8] * 72340172838076673 % 18446744073709551616 / 72057594037927936 = _
    exact mc_top (mb_c_le _ 8) (mb_c_le _ 8) (mb_c_le _ 8) (mb_c_le _ 8) (mb_c_le _ 8) (mb_c_le _ 8) (mb_c_le _ 8) (mb_c_le _ 8)
/-- the number of cells of a set -/
def mb_pc (m : Int64) : Nat := mb_c (mb_b m) 64
theorem mb_pc_le (m : Int64) : mb_pc m ≤ 64 := mb_c_le _ _
theorem mx_bitCount {post : Int32 → Prop} {u : SX} {p : Int64} (h : post (nI (mb_pc p))) : wpX_bitCount post u p := by
  obtain ⟨n, hn, rfl⟩ := wb_of p
  have hn' : n < 18446744073709551616 := hn
  obtain ⟨_, _, _, _, _, _, _, _, _, _, _, _, _, _, _, _, _, _, _, _, _, _, _, _⟩ := u
  have hp : mb_pc (lN n) = mc_pop n := by
    rw [mc_popE hn']
    exact mb_c_eq fun i _ => mb_nlN n i hn
  rw [hp] at h
  have l1 : (n / 2 &&& 6148914691236517205) ≤ n := Nat.le_trans Nat.and_le_left (Nat.div_le_self _ _)
  unfold mc_pop at h
  generalize e1 : n - (n / 2 &&& 6148914691236517205) = a1 at h
  have b1 : a1 < 2 ^ 64 := by omega
  have r3 : (a1 &&& 3689348814741910323) ≤ 3689348814741910323 := Nat.and_le_right
  have r4 : (a1 / 4 &&& 3689348814741910323) ≤ 3689348814741910323 := Nat.and_le_right
  generalize e2 : (a1 &&& 3689348814741910323) + (a1 / 4 &&& 3689348814741910323) = a2 at h
  have b2 : a2 + a2 / 16 < 2 ^ 64 := by omega
  generalize e3 : (a2 + a2 / 16 &&& 1085102592571150095) = a3 at h
  unfold wpX_bitCount
  refine nm_r (e' := lN a1) ?_ (nm_r (e' := lN a2) ?_ (nm_r (e' := lN a3) ?_ ?_))
  · have s : ((lN n).toUInt64 >>> ((1 : Int32).toInt64.toUInt64 &&& Int64.toUInt64 63)).toInt64 = lN (n / 2) := wb_shr (k := 1) hn (by decide)
    rw [s, show (6148914691236517205 : Int64) = lN 6148914691236517205 from rfl, wb_and (by omega) (by decide), lN_sub l1, e1]
  · have s : ((lN a1).toUInt64 >>> ((2 : Int32).toInt64.toUInt64 &&& Int64.toUInt64 63)).toInt64 = lN (a1 / 4) := wb_shr (k := 2) b1 (by decide)
    rw [s, show (3689348814741910323 : Int64) = lN 3689348814741910323 from rfl, wb_and b1 (by decide), wb_and (by omega) (by decide), lN_add, e2]
  · have s : ((lN a2).toUInt64 >>> ((4 : Int32).toInt64.toUInt64 &&& Int64.toUInt64 63)).toInt64 = lN (a2 / 16) := wb_shr (k := 4) (by omega) (by decide)
    rw [s, lN_add, show (1085102592571150095 : Int64) = lN 1085102592571150095 from rfl, wb_and b2 (by decide), e3]
  · have s : ((lN (a3 * 72340172838076673 % 18446744073709551616)).toUInt64 >>> ((56 : Int32).toInt64.toUInt64 &&& Int64.toUInt64 63)).toInt64 = lN (a3 * 72340172838076673 % 18446744073709551616 / 72057594037927936) := wb_shr (k := 56) (by omega) (by decide)
    have m : lN a3 * 72340172838076673 = lN (a3 * 72340172838076673 % 18446744073709551616) := by
      rw [show (72340172838076673 : Int64) = lN 72340172838076673 from rfl, lN_mul]
      exact wb_mod _
    rw [m, s, lN_i]
    exact h
/-! the lowest bit -/
theorem mc_low {m : Int64} (h : ¬ m = 0) : ∃ j, j < 64 ∧ mb_b m j = true ∧ (m &&& (-m)) = (1 : Int64) <<< ((nI j).toInt64 &&& 63) ∧ mb_pc ((m &&& (-m)) - 1) = j := by
  obtain ⟨j, ⟨hj, hb⟩, hl⟩ := pk_least (fun i => i < 64 ∧ mb_b m i = true) (mb_ne0 h)
  have e : (m &&& (-m)) = (1 : Int64) <<< ((nI j).toInt64 &&& 63) := by
    apply mb_ext
    intro i hi
    rw [mb_one hj, mb_and]
    unfold mb_b at *
    rw [Int64.toBitVec_neg, BitVec.getLsbD_neg]
    by_cases q : i = j
    · subst q
      have z : ¬ ∃ k, k < i ∧ m.toBitVec.getLsbD k = true := fun ⟨k, hk, hb'⟩ => hl k hk ⟨by omega, hb'⟩
      rw [hb, decide_eq_false z, decide_eq_true hi, decide_eq_true rfl]; rfl
    · rw [decide_eq_false q]
      rcases Nat.lt_or_ge i j with z | z
      · have : m.toBitVec.getLsbD i = false := by
          cases e : m.toBitVec.getLsbD i
          · rfl
          · exact absurd ⟨hi, e⟩ (hl i z)
        rw [this]; rfl
      · have z : ∃ k, k < i ∧ m.toBitVec.getLsbD k = true := ⟨j, by omega, hb⟩
        rw [decide_eq_true z, decide_eq_true hi]
        cases m.toBitVec.getLsbD i <;> rfl
  refine ⟨j, hj, hb, e, ?_⟩
  have p : 2 ^ j < 2 ^ 64 := Nat.pow_lt_pow_right (by decide) hj
  have q : 1 ≤ 2 ^ j := Nat.one_le_two_pow
  have e2 : (1 : Int64) <<< ((nI j).toInt64 &&& 63) - 1 = lN (2 ^ j - 1) := by
    rw [show (1 : Int64) = lN 1 from rfl, wb_shl 1 hj, Nat.one_mul, lN_sub q]
  rw [e, e2]
  unfold mb_pc
  rw [mb_c_eq (q := fun i => decide (i < j)) (fun i _ => by rw [mb_nlN _ _ (by omega), Nat.testBit_two_pow_sub_one]), mb_c_64 (n := j) (by omega) (fun i hi => decide_eq_false (by omega))]
  exact mb_c_full.mpr fun i hi => decide_eq_true hi
end
section
/-! ===== sums, binomials ===== -/
def mp_s (f : Nat → Nat) : Nat → Nat
  | 0 => 0
  | n + 1 => mp_s f n + f n
theorem mp_s_eq {f g : Nat → Nat} : ∀ {n : Nat}, (∀ i, i < n → f i = g i) → mp_s f n = mp_s g n
  | 0, _ => rfl
  | n + 1, h => by
    show mp_s f n + f n = mp_s g n + g n
    rw [mp_s_eq (fun i hi => h i (by omega)), h n (by omega)]
theorem mp_s_add (f g : Nat → Nat) : ∀ n : Nat, mp_s (fun i => f i + g i) n = mp_s f n + mp_s g n
  | 0 => rfl
  | n + 1 => by
    show mp_s _ n + (f n + g n) = (mp_s f n + f n) + (mp_s g n + g n)
    rw [mp_s_add f g n]; omega
theorem mp_s_mul (a : Nat) (f : Nat → Nat) : ∀ n : Nat, mp_s (fun i => a * f i) n = a * mp_s f n
  | 0 => rfl
  | n + 1 => by
    show mp_s _ n + a * f n = a * (mp_s f n + f n)
    rw [mp_s_mul a f n, Nat.mul_add]
theorem mp_s_0 {f : Nat → Nat} : ∀ {n : Nat}, (∀ i, i < n → f i = 0) → mp_s f n = 0
  | 0, _ => rfl
  | n + 1, h => by
    show mp_s f n + f n = 0
    rw [mp_s_0 (fun i hi => h i (by omega)), h n (by omega)]
theorem mp_s_le {f g : Nat → Nat} : ∀ {n : Nat}, (∀ i, i < n → f i ≤ g i) → mp_s f n ≤ mp_s g n
  | 0, _ => Nat.le_refl _
  | n + 1, h => by
    have a := mp_s_le (f := f) (g := g) (n := n) (fun i hi => h i (by omega))
    have b := h n (by omega)
    show mp_s f n + f n ≤ mp_s g n + g n
    omega
theorem mp_s_app (f : Nat → Nat) (a : Nat) : ∀ b : Nat, mp_s f (a + b) = mp_s f a + mp_s (fun i => f (a + i)) b
  | 0 => rfl
  | b + 1 => by
    show mp_s f (a + b) + f (a + b) = mp_s f a + (mp_s (fun i => f (a + i)) b + f (a + b))
    rw [mp_s_app f a b]; omega
theorem mp_s_hd (f : Nat → Nat) (n : Nat) : mp_s f (n + 1) = f 0 + mp_s (fun i => f (i + 1)) n := by
  rw [Nat.add_comm n 1, mp_s_app f 1 n]
  have e : mp_s (fun i => f (1 + i)) n = mp_s (fun i => f (i + 1)) n := mp_s_eq fun i _ => by rw [Nat.add_comm]
  rw [e]
  show 0 + f 0 + _ = _
  omega
theorem mp_s_comm (f : Nat → Nat → Nat) (b : Nat) : ∀ a : Nat, mp_s (fun i => mp_s (fun j => f i j) b) a = mp_s (fun j => mp_s (fun i => f i j) a) b
  | 0 => (mp_s_0 fun _ _ => rfl).symm
  | a + 1 => by
    show mp_s (fun i => mp_s (fun j => f i j) b) a + mp_s (fun j => f a j) b = mp_s (fun j => mp_s (fun i => f i j) a + f a j) b
    rw [mp_s_add, mp_s_comm f b a]
theorem mp_s_const (c : Nat) : ∀ n : Nat, mp_s (fun _ => c) n = n * c
  | 0 => by show 0 = _; omega
  | n + 1 => by
    show mp_s _ n + c = _
    rw [mp_s_const c n, Nat.succ_mul]
theorem mp_s_mem {f : Nat → Nat} {n i : Nat} (h : i < n) : f i ≤ mp_s f n := by
  obtain ⟨d, rfl⟩ : ∃ d, n = (i + 1) + d := ⟨n - (i + 1), by omega⟩
  rw [mp_s_app]
  have : mp_s f (i + 1) = mp_s f i + f i := rfl
  omega
theorem mp_s_one {f : Nat → Nat} {n k : Nat} (hk : k < n) (h : ∀ i, i < n → i ≠ k → f i = 0) : mp_s f n = f k := by
  obtain ⟨d, rfl⟩ : ∃ d, n = (k + 1) + d := ⟨n - (k + 1), by omega⟩
  rw [mp_s_app, mp_s_0 (f := fun i => f (k + 1 + i)) (fun i hi => h _ (by omega) (by omega))]
  show mp_s f k + f k + 0 = f k
  rw [mp_s_0 (f := f) (n := k) (fun i hi => h i (by omega) (by omega))]
  omega
theorem mp_s_upd {f g : Nat → Nat} {n k x : Nat} (hk : k < n) (h : ∀ i, i < n → i ≠ k → g i = f i) (hx : g k = f k + x) : mp_s g n = mp_s f n + x := by
  have e : mp_s g n = mp_s (fun i => f i + (if i = k then x else 0)) n := mp_s_eq fun i hi => by
    by_cases z : i = k
    · rw [if_pos z, z, hx]
    · rw [if_neg z, h i hi z]; omega
  rw [e, mp_s_add, mp_s_one (f := fun i => if i = k then x else 0) hk (fun i _ z => if_neg z), if_pos rfl]
theorem mp_s_monoN (f : Nat → Nat) {a b : Nat} (h : a ≤ b) : mp_s f a ≤ mp_s f b := by
  obtain ⟨d, rfl⟩ : ∃ d, b = a + d := ⟨b - a, by omega⟩
  rw [mp_s_app]; omega
theorem mp_s_cnt (p : Nat → Bool) : ∀ n : Nat, mp_s (fun i => if p i then 1 else 0) n = mb_c p n
  | 0 => rfl
  | n + 1 => by
    show mp_s _ n + _ = mb_c p n + _
    rw [mp_s_cnt p n]
/-- along an injection -/
theorem mp_s_inj (o : Nat → Nat) (G : Nat) : ∀ (P : Nat) (f : Nat → Nat), (∀ p, p < P → o p < G) → (∀ p q, p < P → q < P → o p = o q → p = q) → mp_s (fun p => f (o p)) P ≤ mp_s f G
  | 0, f, _, _ => Nat.zero_le _
  | P + 1, f, h1, h2 => by
    have ih := mp_s_inj o G P (fun i => if i = o P then 0 else f i) (fun p hp => h1 p (by omega)) (fun p q hp hq => h2 p q (by omega) (by omega))
    have e : mp_s (fun p => (fun i => if i = o P then 0 else f i) (o p)) P = mp_s (fun p => f (o p)) P := mp_s_eq fun p hp => by
      show (if o p = o P then 0 else f (o p)) = f (o p)
      rw [if_neg (fun z => by have := h2 p P (by omega) (by omega) z; omega)]
    rw [e] at ih
    have u : mp_s f G = mp_s (fun i => if i = o P then 0 else f i) G + f (o P) := mp_s_upd (k := o P) (h1 P (by omega)) (fun i _ z => by rw [if_neg z]) (by rw [if_pos rfl]; omega)
    show mp_s (fun p => f (o p)) P + f (o P) ≤ _
    omega
/-! binomials -/
def mp_C : Nat → Nat → Nat
  | _, 0 => 1
  | 0, _ + 1 => 0
  | n + 1, k + 1 => mp_C n k + mp_C n (k + 1)
theorem mp_C_0 (n : Nat) : mp_C n 0 = 1 := by cases n <;> rfl
theorem mp_C_s (n k : Nat) : mp_C (n + 1) (k + 1) = mp_C n k + mp_C n (k + 1) := rfl
theorem mp_C_gt : ∀ n k : Nat, n < k → mp_C n k = 0
  | _, 0, h => by omega
  | 0, _ + 1, _ => rfl
  | n + 1, k + 1, h => by rw [mp_C_s, mp_C_gt n k (by omega), mp_C_gt n (k + 1) (by omega)]
theorem mp_C_pos : ∀ n k : Nat, k ≤ n → 1 ≤ mp_C n k
  | _, 0, _ => by rw [mp_C_0]; exact Nat.le_refl _
  | 0, k + 1, h => by omega
  | n + 1, k + 1, h => by have := mp_C_pos n k (by omega); rw [mp_C_s]; omega
theorem mp_C_le : ∀ n k : Nat, mp_C (n + 1) k ≤ 2 ^ n
  | n, 0 => by rw [mp_C_0]; exact Nat.one_le_two_pow
  | 0, k + 1 => by
    rw [mp_C_s]
    cases k with
    | zero => decide
    | succ k => show 0 + 0 ≤ _; omega
  | n + 1, k + 1 => by
    have a := mp_C_le n k
    have b := mp_C_le n (k + 1)
    rw [mp_C_s, Nat.pow_succ]; omega
def mp_ch (n k : Int) : Nat := if 0 ≤ k ∧ k ≤ n then mp_C n.toNat k.toNat else 0
theorem mp_ch_t {n k : Nat} (h : k ≤ n) : mp_ch (n : Int) (k : Int) = mp_C n k := by
  unfold mp_ch
  rw [if_pos ⟨by omega, by omega⟩]; rfl
theorem mp_ch_f {n k : Int} (h : ¬ (0 ≤ k ∧ k ≤ n)) : mp_ch n k = 0 := if_neg h
theorem mp_ch_le (n : Nat) (k : Int) : mp_ch (n + 1 : Nat) k ≤ 2 ^ n := by
  unfold mp_ch
  split
  · exact mp_C_le n _
  · exact Nat.zero_le _
theorem mp_ch_le0 (k : Int) : mp_ch 0 k ≤ 1 := by
  unfold mp_ch
  split
  · rename_i h
    have : k = 0 := by omega
    subst this; exact Nat.le_refl _
  · exact Nat.zero_le _
/-- shifted: value at j is f (j - 1) -/
def mp_sh (f : Nat → Nat) : Nat → Nat
  | 0 => 0
  | j + 1 => f j
def mp_Cm (n : Nat) : Nat → Nat := mp_sh (mp_C (n - 1))
theorem mp_Cm_s {m : Nat} (h : 1 ≤ m) (j : Nat) : mp_Cm (m + 1) j = 1 * mp_Cm m j + mp_sh (mp_Cm m) j := by
  obtain ⟨k, rfl⟩ : ∃ k, m = k + 1 := ⟨m - 1, by omega⟩
  unfold mp_Cm
  rw [Nat.add_sub_cancel, Nat.add_sub_cancel, Nat.one_mul]
  match j with
  | 0 => rfl
  | 1 => show mp_C (k + 1) 0 = mp_C k 0 + 0; rw [mp_C_0, mp_C_0]
  | j + 2 => show mp_C (k + 1) (j + 1) = mp_C k (j + 1) + mp_C k j; rw [mp_C_s]; omega
theorem mp_C_sh (n j : Nat) : mp_C (n + 1) j = 1 * mp_C n j + mp_sh (mp_C n) j := by
  match j with
  | 0 => show mp_C (n + 1) 0 = 1 * mp_C n 0 + 0; rw [mp_C_0, mp_C_0]
  | j + 1 => show mp_C (n + 1) (j + 1) = 1 * mp_C n (j + 1) + mp_C n j; rw [mp_C_s]; omega
theorem mp_Cm_gt {n j : Nat} (h1 : 1 ≤ n) (h : n < j) : mp_Cm n j = 0 := by
  match j with
  | 0 => rfl
  | j + 1 => exact mp_C_gt _ _ (by omega)
end
section
/-! ===== sums over subsets of the edge, regrouped =====
  eg: the edge cells by number; a: 1, or 0 for a cell that has to be mined; kv: what a cell adds to the counts;
  cg: a cell's group; kg: what one mine of a group adds; od: the groups by position -/
def mp_SU (a : Nat → Nat) (kv : Nat → Nat → Nat) (eg : Nat → Nat) (Φ : (Nat → Nat) → Nat) : Nat → (Nat → Nat) → Nat
  | 0, v => Φ v
  | n + 1, v => a (eg n) * mp_SU a kv eg Φ n v + mp_SU a kv eg Φ n (fun c => v c + kv (eg n) c)
def mp_w (a cg eg : Nat → Nat) : Nat → Nat → Nat → Nat
  | 0, _, j => if j = 0 then 1 else 0
  | n + 1, g, j => if cg (eg n) = g then a (eg n) * mp_w a cg eg n g j + mp_sh (mp_w a cg eg n g) j else mp_w a cg eg n g j
def mp_NS (w : Nat → Nat → Nat) (od : Nat → Nat) (kg : Nat → Nat → Nat) (Φ : (Nat → Nat) → Nat) : Nat → Nat → (Nat → Nat) → Nat
  | 0, _, v => Φ v
  | d + 1, p, v => mp_s (fun j => w (od p) j * mp_NS w od kg Φ d (p + 1) (fun c => v c + j * kg (od p) c)) 13
theorem mp_w_0 (a cg eg : Nat → Nat) : ∀ (n g j : Nat), n < j → mp_w a cg eg n g j = 0
  | 0, _, j, h => if_neg (by omega)
  | n + 1, g, j, h => by
    show (if cg (eg n) = g then _ else _) = 0
    rw [mp_w_0 a cg eg n g j (by omega)]
    split
    · match j, h with
      | j + 1, h =>
        show a (eg n) * 0 + mp_w a cg eg n g j = 0
        rw [mp_w_0 a cg eg n g j (by omega)]; omega
    · rfl
theorem mp_NS_w {w w' : Nat → Nat → Nat} {od : Nat → Nat} {kg : Nat → Nat → Nat} {Φ : (Nat → Nat) → Nat} : ∀ (d p : Nat) (v : Nat → Nat), (∀ q, p ≤ q → q < p + d → ∀ j, j < 13 → w (od q) j = w' (od q) j) → mp_NS w od kg Φ d p v = mp_NS w' od kg Φ d p v
  | 0, _, _, _ => rfl
  | d + 1, p, v, h => mp_s_eq fun j hj => by
    rw [h p (by omega) (by omega) j hj, mp_NS_w d (p + 1) _ (fun q h1 h2 => h q (by omega) (by omega))]
theorem mp_NS_0 {a cg eg od : Nat → Nat} {kg : Nat → Nat → Nat} {Φ : (Nat → Nat) → Nat} : ∀ (d p : Nat) (v : Nat → Nat), mp_NS (mp_w a cg eg 0) od kg Φ d p v = Φ v
  | 0, _, _ => rfl
  | d + 1, p, v => by
    show mp_s (fun j => (if j = 0 then 1 else 0) * _) 13 = _
    rw [mp_s_one (k := 0) (by omega) (fun i _ h => by rw [if_neg h, Nat.zero_mul]), if_pos rfl, Nat.one_mul]
    rw [mp_NS_0 d (p + 1)]
    congr 1; funext c; omega
theorem mp_s_bump {w R : Nat → Nat} {a m : Nat} (hw : w m = 0) : mp_s (fun j => (a * w j + mp_sh w j) * R j) (m + 1) = a * mp_s (fun j => w j * R j) (m + 1) + mp_s (fun j => w j * R (j + 1)) (m + 1) := by
  have l : mp_s (fun j => (a * w j + mp_sh w j) * R j) (m + 1) = mp_s (fun j => a * (w j * R j) + mp_sh w j * R j) (m + 1) := mp_s_eq fun j _ => by
    rw [Nat.add_mul, Nat.mul_assoc]
  rw [l, mp_s_add, mp_s_mul]
  congr 1
  rw [mp_s_hd]
  show 0 * R 0 + mp_s (fun j => w j * R (j + 1)) m = mp_s (fun j => w j * R (j + 1)) m + w m * R (m + 1)
  rw [hw, Nat.zero_mul, Nat.zero_mul, Nat.add_zero, Nat.zero_add]
theorem mp_NS_s {w : Nat → Nat → Nat} {od : Nat → Nat} {kg : Nat → Nat → Nat} {Φ : (Nat → Nat) → Nat} (d p : Nat) (v : Nat → Nat) : mp_NS w od kg Φ (d + 1) p v = mp_s (fun j => w (od p) j * mp_NS w od kg Φ d (p + 1) (fun c => v c + j * kg (od p) c)) (12 + 1) := rfl
theorem mp_bump {a cg eg od : Nat → Nat} {kg : Nat → Nat → Nat} {Φ : (Nat → Nat) → Nat} {n : Nat} (hn : n < 12) : ∀ (d p : Nat) (v : Nat → Nat), (∀ q q', p ≤ q → q < p + d → p ≤ q' → q' < p + d → od q = od q' → q = q') → (∃ q, p ≤ q ∧ q < p + d ∧ od q = cg (eg n)) →
    mp_NS (mp_w a cg eg (n + 1)) od kg Φ d p v = a (eg n) * mp_NS (mp_w a cg eg n) od kg Φ d p v + mp_NS (mp_w a cg eg n) od kg Φ d p (fun c => v c + kg (cg (eg n)) c)
  | 0, p, v, _, h => by obtain ⟨q, h1, h2, _⟩ := h; omega
  | d + 1, p, v, hi, h => by
    rw [mp_NS_s, mp_NS_s, mp_NS_s]
    by_cases e : od p = cg (eg n)
    · have hw : ∀ j, mp_w a cg eg (n + 1) (od p) j = a (eg n) * mp_w a cg eg n (od p) j + mp_sh (mp_w a cg eg n (od p)) j := fun j => if_pos e.symm
      have hr : ∀ u, mp_NS (mp_w a cg eg (n + 1)) od kg Φ d (p + 1) u = mp_NS (mp_w a cg eg n) od kg Φ d (p + 1) u := fun u => mp_NS_w d (p + 1) u fun q h1 h2 j _ => if_neg fun z => by
        have := hi p q (by omega) (by omega) (by omega) (by omega) (e.trans z); omega
      have l : mp_s (fun j => mp_w a cg eg (n + 1) (od p) j * mp_NS (mp_w a cg eg (n + 1)) od kg Φ d (p + 1) (fun c => v c + j * kg (od p) c)) (12 + 1) = mp_s (fun j => (a (eg n) * mp_w a cg eg n (od p) j + mp_sh (mp_w a cg eg n (od p)) j) * (fun j => mp_NS (mp_w a cg eg n) od kg Φ d (p + 1) (fun c => v c + j * kg (od p) c)) j) (12 + 1) := mp_s_eq fun j _ => by
        rw [hw, hr]
      rw [l, mp_s_bump (mp_w_0 a cg eg n (od p) 12 hn)]
      congr 1
      apply mp_s_eq
      intro j _
      show _ * mp_NS (mp_w a cg eg n) od kg Φ d (p + 1) (fun c => v c + (j + 1) * kg (od p) c) = _
      congr 2
      funext c
      rw [← e, Nat.succ_mul]; omega
    · have hw : ∀ j, mp_w a cg eg (n + 1) (od p) j = mp_w a cg eg n (od p) j := fun j => if_neg fun z => e z.symm
      obtain ⟨q, h1, h2, h3⟩ := h
      have hq : p ≠ q := fun z => e (by rw [z]; exact h3)
      have ih := fun u => mp_bump (a := a) (cg := cg) (eg := eg) (od := od) (kg := kg) (Φ := Φ) hn d (p + 1) u (fun x y a1 a2 a3 a4 => hi x y (by omega) (by omega) (by omega) (by omega)) ⟨q, by omega, by omega, h3⟩
      have l : mp_s (fun j => mp_w a cg eg (n + 1) (od p) j * mp_NS (mp_w a cg eg (n + 1)) od kg Φ d (p + 1) (fun c => v c + j * kg (od p) c)) (12 + 1) = mp_s (fun j => a (eg n) * (mp_w a cg eg n (od p) j * mp_NS (mp_w a cg eg n) od kg Φ d (p + 1) (fun c => v c + j * kg (od p) c)) + mp_w a cg eg n (od p) j * mp_NS (mp_w a cg eg n) od kg Φ d (p + 1) (fun c => (v c + kg (cg (eg n)) c) + j * kg (od p) c)) (12 + 1) := mp_s_eq fun j _ => by
        have f : (fun c => v c + j * kg (od p) c + kg (cg (eg n)) c) = (fun c => (v c + kg (cg (eg n)) c) + j * kg (od p) c) := by funext c; omega
        rw [hw, ih, Nat.mul_add, Nat.mul_left_comm, f]
      rw [l, mp_s_add, mp_s_mul]
/-- subset sums regrouped by position -/
theorem mp_regroup {a cg eg od : Nat → Nat} {kv kg : Nat → Nat → Nat} {Φ : (Nat → Nat) → Nat} {P : Nat} (hi : ∀ q q', q < P → q' < P → od q = od q' → q = q') : ∀ (n : Nat) (v : Nat → Nat), n ≤ 12 → (∀ i, i < n → ∃ q, q < P ∧ od q = cg (eg i)) → (∀ i, i < n → ∀ c, kv (eg i) c = kg (cg (eg i)) c) →
    mp_SU a kv eg Φ n v = mp_NS (mp_w a cg eg n) od kg Φ P 0 v
  | 0, v, _, _, _ => (mp_NS_0 P 0 v).symm
  | n + 1, v, hn, h1, h2 => by
    obtain ⟨q, hq, e⟩ := h1 n (by omega)
    rw [mp_bump (by omega) P 0 v (fun x y _ a2 _ a4 => hi x y (by omega) (by omega)) ⟨q, by omega, by omega, e⟩]
    show a (eg n) * mp_SU a kv eg Φ n v + mp_SU a kv eg Φ n (fun c => v c + kv (eg n) c) = _
    have ih := fun u => mp_regroup (a := a) (kv := kv) (Φ := Φ) hi n u (by omega) (fun i hi => h1 i (by omega)) (fun i hi => h2 i (by omega))
    rw [ih, ih]
    congr 3
    funext c
    rw [h2 n (by omega) c]
/-! the weights in closed form -/
theorem mp_w_one {a cg eg : Nat → Nat} (g : Nat) : ∀ (n : Nat) (j : Nat), (∀ i, i < n → cg (eg i) = g → a (eg i) = 1) → mp_w a cg eg n g j = mp_C (mb_c (fun i => decide (cg (eg i) = g)) n) j
  | 0, j, _ => by
    show (if j = 0 then 1 else 0) = mp_C 0 j
    match j with
    | 0 => rfl
    | j + 1 => rfl
  | n + 1, j, h => by
    have ih : mp_w a cg eg n g = mp_C (mb_c (fun i => decide (cg (eg i) = g)) n) := by
      funext j
      exact mp_w_one g n j (fun i hi => h i (by omega))
    show (if cg (eg n) = g then a (eg n) * mp_w a cg eg n g j + mp_sh (mp_w a cg eg n g) j else mp_w a cg eg n g j) = mp_C (mb_c _ n + _) j
    rw [ih]
    by_cases e : cg (eg n) = g
    · rw [if_pos e, if_pos (decide_eq_true e), h n (by omega) e, mp_C_sh]
    · rw [if_neg e, if_neg (by simp [e]), Nat.add_zero]
theorem mp_w_two {a cg eg : Nat → Nat} {k : Nat} (g : Nat) : ∀ (n : Nat) (j : Nat), k < n → cg (eg k) = g → a (eg k) = 0 → (∀ i, i < n → i ≠ k → cg (eg i) = g → a (eg i) = 1) → mp_w a cg eg n g j = mp_Cm (mb_c (fun i => decide (cg (eg i) = g)) n) j
  | 0, j, h, _, _, _ => by omega
  | n + 1, j, hk, hg, h0, h => by
    show (if cg (eg n) = g then a (eg n) * mp_w a cg eg n g j + mp_sh (mp_w a cg eg n g) j else mp_w a cg eg n g j) = mp_Cm (mb_c _ n + _) j
    by_cases z : k = n
    · subst z
      have ih : mp_w a cg eg k g = mp_C (mb_c (fun i => decide (cg (eg i) = g)) k) := by
        funext j
        exact mp_w_one g k j (fun i hi => h i (by omega) (by omega))
      rw [if_pos hg, if_pos (decide_eq_true hg), h0, ih, Nat.zero_mul, Nat.zero_add]
      rfl
    · have ih : mp_w a cg eg n g = mp_Cm (mb_c (fun i => decide (cg (eg i) = g)) n) := by
        funext j
        exact mp_w_two g n j (by omega) hg h0 (fun i hi => h i (by omega))
      rw [ih]
      by_cases e : cg (eg n) = g
      · have c1 : 1 ≤ mb_c (fun i => decide (cg (eg i) = g)) n := mb_c_pos (i := k) (by omega) (decide_eq_true hg)
        rw [if_pos e, if_pos (decide_eq_true e), h n (by omega) (fun y => z y.symm) e, mp_Cm_s c1]
      · rw [if_neg e, if_neg (by simp [e]), Nat.add_zero]
/-! sums over the numbers below 2^n -/
def mp_ia (a eg : Nat → Nat) (s : Nat) : Nat → Nat
  | 0 => 1
  | n + 1 => (if s.testBit n then 1 else a (eg n)) * mp_ia a eg s n
def mp_sv (kv : Nat → Nat → Nat) (eg : Nat → Nat) (s : Nat) (c : Nat) : Nat → Nat
  | 0 => 0
  | n + 1 => mp_sv kv eg s c n + (if s.testBit n then kv (eg n) c else 0)
theorem mp_ia_eq {a eg : Nat → Nat} {s t : Nat} : ∀ n, (∀ i, i < n → s.testBit i = t.testBit i) → mp_ia a eg s n = mp_ia a eg t n
  | 0, _ => rfl
  | n + 1, h => by
    show (if s.testBit n then 1 else a (eg n)) * _ = (if t.testBit n then 1 else a (eg n)) * _
    rw [mp_ia_eq n (fun i hi => h i (by omega)), h n (by omega)]
theorem mp_sv_eq {kv : Nat → Nat → Nat} {eg : Nat → Nat} {s t c : Nat} : ∀ n, (∀ i, i < n → s.testBit i = t.testBit i) → mp_sv kv eg s c n = mp_sv kv eg t c n
  | 0, _ => rfl
  | n + 1, h => by
    show _ + (if s.testBit n then kv (eg n) c else 0) = _ + (if t.testBit n then kv (eg n) c else 0)
    rw [mp_sv_eq n (fun i hi => h i (by omega)), h n (by omega)]
theorem mp_sets {a eg : Nat → Nat} {kv : Nat → Nat → Nat} {Φ : (Nat → Nat) → Nat} : ∀ (n : Nat) (v : Nat → Nat), mp_s (fun s => mp_ia a eg s n * Φ (fun c => v c + mp_sv kv eg s c n)) (2 ^ n) = mp_SU a kv eg Φ n v
  | 0, v => by
    show 0 + 1 * Φ (fun c => v c + 0) = Φ v
    have e : (fun c => v c + 0) = v := rfl
    rw [e]; omega
  | n + 1, v => by
    show _ = a (eg n) * mp_SU a kv eg Φ n v + mp_SU a kv eg Φ n (fun c => v c + kv (eg n) c)
    rw [Nat.pow_succ, Nat.mul_two, mp_s_app, ← mp_sets n v, ← mp_sets n (fun c => v c + kv (eg n) c), ← mp_s_mul]
    congr 1
    · apply mp_s_eq
      intro s hs
      have hb : s.testBit n = false := Nat.testBit_lt_two_pow hs
      show (if s.testBit n then 1 else a (eg n)) * mp_ia a eg s n * Φ (fun c => v c + (mp_sv kv eg s c n + (if s.testBit n then kv (eg n) c else 0))) = _
      rw [hb]
      simp only [Bool.false_eq_true, if_false, Nat.add_zero]
      rw [Nat.mul_assoc]
    · apply mp_s_eq
      intro s hs
      have hb : (2 ^ n + s).testBit n = true := by rw [Nat.testBit_two_pow_add_eq, Nat.testBit_lt_two_pow hs]; rfl
      have hl : ∀ i, i < n → (2 ^ n + s).testBit i = s.testBit i := fun i hi => Nat.testBit_two_pow_add_gt hi s
      show (if (2 ^ n + s).testBit n then 1 else a (eg n)) * mp_ia a eg (2 ^ n + s) n * Φ (fun c => v c + (mp_sv kv eg (2 ^ n + s) c n + (if (2 ^ n + s).testBit n then kv (eg n) c else 0))) = _
      rw [hb, mp_ia_eq n hl]
      simp only [if_true, Nat.one_mul]
      congr 2
      funext c
      rw [mp_sv_eq n hl]; omega
theorem mp_ia_one {a eg : Nat → Nat} {s : Nat} : ∀ n, (∀ i, i < n → a (eg i) = 1) → mp_ia a eg s n = 1
  | 0, _ => rfl
  | n + 1, h => by
    show (if s.testBit n then 1 else a (eg n)) * _ = 1
    rw [mp_ia_one n (fun i hi => h i (by omega)), h n (by omega)]; split <;> rfl
theorem mp_ia_two {a eg : Nat → Nat} {s k : Nat} : ∀ n, k < n → a (eg k) = 0 → (∀ i, i < n → i ≠ k → a (eg i) = 1) → mp_ia a eg s n = if s.testBit k then 1 else 0
  | 0, h, _, _ => by omega
  | n + 1, hk, h0, h => by
    show (if s.testBit n then 1 else a (eg n)) * _ = _
    by_cases z : k = n
    · subst z
      rw [mp_ia_one k (fun i hi => h i (by omega) (by omega)), h0, Nat.mul_one]
    · rw [mp_ia_two n (by omega) h0 (fun i hi => h i (by omega)), h n (by omega) (fun y => z y.symm)]
      split <;> simp
theorem mp_sv_c {eg : Nat → Nat} {kb : Nat → Nat → Bool} {s c : Nat} : ∀ n, mp_sv (fun e c => if kb e c then 1 else 0) eg s c n = mb_c (fun i => s.testBit i && kb (eg i) c) n
  | 0 => rfl
  | n + 1 => by
    show mp_sv _ eg s c n + _ = mb_c _ n + _
    rw [mp_sv_c n]
    congr 1
    cases h1 : s.testBit n <;> cases h2 : kb (eg n) c <;> simp [h1, h2]
end
section
/-! ===== pruned sums, component by component ===== -/
noncomputable def mp_i (P : Prop) (x : Nat) : Nat := @ite Nat P (Classical.propDecidable P) x 0
theorem mp_i_t {P : Prop} {x : Nat} (h : P) : mp_i P x = x := by unfold mp_i; rw [if_pos h]
theorem mp_i_f {P : Prop} {x : Nat} (h : ¬ P) : mp_i P x = 0 := by unfold mp_i; rw [if_neg h]
theorem mp_i_0 {P : Prop} : mp_i P 0 = 0 := by
  rcases Classical.em P with h | h
  · exact mp_i_t h
  · exact mp_i_f h
theorem mp_i_iff {P Q : Prop} {x : Nat} (h : P ↔ Q) : mp_i P x = mp_i Q x := by
  rcases Classical.em P with p | p
  · rw [mp_i_t p, mp_i_t (h.mp p)]
  · rw [mp_i_f p, mp_i_f (fun q => p (h.mpr q))]
theorem mp_i_le {P : Prop} {x : Nat} : mp_i P x ≤ x := by
  rcases Classical.em P with h | h
  · rw [mp_i_t h]; exact Nat.le_refl _
  · rw [mp_i_f h]; exact Nat.zero_le _
/-- a full layout of the edge: all open cells see their number -/
noncomputable def mp_F (N : Nat) (op : Nat → Bool) (num : Nat → Nat) (F : Nat → Nat) (v : Nat → Nat) : Nat := mp_i (∀ c, c < N → op c = true → v c = num c) (F (v 64))
def mp_room (sz od : Nat → Nat) (kg : Nat → Nat → Nat) (c : Nat) : Nat → Nat → Nat
  | 0, _ => 0
  | d + 1, p => kg (od p) c * sz (od p) + mp_room sz od kg c d (p + 1)
def mp_fit (N : Nat) (num sz od : Nat → Nat) (kg : Nat → Nat → Nat) (d p : Nat) (v : Nat → Nat) : Prop := ∀ c, c < N → kg (od p) c ≠ 0 → v c ≤ num c ∧ num c ≤ v c + mp_room sz od kg c d (p + 1)
noncomputable def mp_PE (N : Nat) (num sz : Nat → Nat) (kg : Nat → Nat → Nat) (od : Nat → Nat) (w : Nat → Nat → Nat) (G : Nat → Nat) : Nat → Nat → (Nat → Nat) → Nat
  | 0, _, v => G (v 64)
  | d + 1, p, v => mp_s (fun j => mp_i (mp_fit N num sz od kg d p (fun c => v c + j * kg (od p) c)) (w (od p) j * mp_PE N num sz kg od w G d (p + 1) (fun c => v c + j * kg (od p) c))) 13
theorem mp_room_0 {sz od : Nat → Nat} {kg : Nat → Nat → Nat} {c : Nat} : ∀ d p, (∀ q, p ≤ q → q < p + d → kg (od q) c = 0) → mp_room sz od kg c d p = 0
  | 0, _, _ => rfl
  | d + 1, p, h => by
    show kg (od p) c * _ + _ = 0
    rw [h p (by omega) (by omega), mp_room_0 d (p + 1) (fun q h1 h2 => h q (by omega) (by omega)), Nat.zero_mul]
theorem mp_room_eq {sz od od' : Nat → Nat} {kg : Nat → Nat → Nat} {c : Nat} : ∀ d p, (∀ q, p ≤ q → q < p + d → od q = od' q) → mp_room sz od kg c d p = mp_room sz od' kg c d p
  | 0, _, _ => rfl
  | d + 1, p, h => by
    show kg (od p) c * sz (od p) + _ = kg (od' p) c * sz (od' p) + _
    rw [h p (by omega) (by omega), mp_room_eq d (p + 1) (fun q h1 h2 => h q (by omega) (by omega))]
theorem mp_PE_congr {N : Nat} (hN : N ≤ 64) {num sz : Nat → Nat} {kg : Nat → Nat → Nat} {od od' : Nat → Nat} {w w' : Nat → Nat → Nat} {G G' : Nat → Nat} : ∀ (d p : Nat) (v v' : Nat → Nat), (∀ q, p ≤ q → q < p + d → od q = od' q ∧ ∀ j, j < 13 → w (od q) j = w' (od q) j) →
    (∀ c, c < N → (∃ q, p ≤ q ∧ q < p + d ∧ kg (od q) c ≠ 0) → v c = v' c) → (∀ t, G (v 64 + t) = G' (v' 64 + t)) → mp_PE N num sz kg od w G d p v = mp_PE N num sz kg od' w' G' d p v'
  | 0, p, v, v', _, _, h => h 0
  | d + 1, p, v, v', h1, h2, h3 => by
    obtain ⟨e1, e2⟩ := h1 p (by omega) (by omega)
    apply mp_s_eq
    intro j hj
    have ih := mp_PE_congr (num := num) (sz := sz) (kg := kg) (G := G) (G' := G') hN d (p + 1) (fun c => v c + j * kg (od p) c) (fun c => v' c + j * kg (od' p) c) (fun q a1 a2 => h1 q (by omega) (by omega)) (fun c hc ⟨q, a1, a2, a3⟩ => by
        show v c + _ = v' c + _
        rw [h2 c hc ⟨q, by omega, by omega, a3⟩, e1]) (fun t => by
        show G (v 64 + j * kg (od p) 64 + t) = G' (v' 64 + j * kg (od' p) 64 + t)
        rw [Nat.add_assoc, Nat.add_assoc, h3, e1])
    have f : mp_fit N num sz od kg d p (fun c => v c + j * kg (od p) c) ↔ mp_fit N num sz od' kg d p (fun c => v' c + j * kg (od' p) c) := by
      have er : ∀ c, mp_room sz od kg c d (p + 1) = mp_room sz od' kg c d (p + 1) := fun c => mp_room_eq d (p + 1) (fun q a1 a2 => (h1 q (by omega) (by omega)).1)
      constructor
      · intro z c hc hk
        rw [← e1] at hk
        have x : v c + j * kg (od p) c ≤ num c ∧ num c ≤ v c + j * kg (od p) c + mp_room sz od kg c d (p + 1) := z c hc hk
        rw [h2 c hc ⟨p, by omega, by omega, hk⟩, er, e1] at x
        exact x
      · intro z c hc hk
        have y := hk
        rw [e1] at y
        have x : v' c + j * kg (od' p) c ≤ num c ∧ num c ≤ v' c + j * kg (od' p) c + mp_room sz od' kg c d (p + 1) := z c hc y
        rw [← h2 c hc ⟨p, by omega, by omega, hk⟩, ← er, ← e1] at x
        exact x
    rw [ih, e2 j hj, mp_i_iff f, e1]
theorem mp_zero {sz od : Nat → Nat} {kg : Nat → Nat → Nat} {w : Nat → Nat → Nat} {num : Nat → Nat} {Λ : (Nat → Nat) → Nat} {c P : Nat} (hL : ∀ v, v c ≠ num c → Λ v = 0) (hw : ∀ q, q < P → ∀ j, sz (od q) < j → w (od q) j = 0) :
    ∀ (d p : Nat) (v : Nat → Nat), p + d ≤ P → (num c < v c ∨ v c + mp_room sz od kg c d p < num c) → mp_NS w od kg Λ d p v = 0
  | 0, p, v, _, h => hL v (by
      have e : mp_room sz od kg c 0 p = 0 := rfl
      rw [e] at h; omega)
  | d + 1, p, v, hp, h => mp_s_0 fun j _ => by
    rcases Nat.lt_or_ge (sz (od p)) j with z | z
    · rw [hw p (by omega) j z, Nat.zero_mul]
    · have e : mp_room sz od kg c (d + 1) p = kg (od p) c * sz (od p) + mp_room sz od kg c d (p + 1) := rfl
      have l : j * kg (od p) c ≤ kg (od p) c * sz (od p) := by rw [Nat.mul_comm]; exact Nat.mul_le_mul_left _ z
      rw [mp_zero hL hw d (p + 1) _ (by omega) (by
        show num c < v c + j * kg (od p) c ∨ v c + j * kg (od p) c + mp_room sz od kg c d (p + 1) < num c
        rw [e] at h
        omega), Nat.mul_zero]
theorem mp_prune {N : Nat} (hN : N ≤ 64) {sz od : Nat → Nat} {kg : Nat → Nat → Nat} {w : Nat → Nat → Nat} {num : Nat → Nat} {Λ : (Nat → Nat) → Nat} {G : Nat → Nat} {R : Nat → Prop} {Q : (Nat → Nat) → Prop} {first last : Nat}
    (hk : ∀ q, first ≤ q → q < last → ∀ c, c < N → kg (od q) c ≠ 0 → R c)
    (h0 : ∀ c, R c → ∀ v, v c ≠ num c → Λ v = 0) (h1 : ∀ v, Q v → (∀ c, R c → v c = num c) → Λ v = G (v 64))
    (hR : ∀ c, R c → c < N) (hQ : ∀ v q j, first ≤ q → q < last → Q v → Q (fun c => v c + j * kg (od q) c)) (hw : ∀ q, q < last → ∀ j, sz (od q) < j → w (od q) j = 0) :
    ∀ (d p : Nat) (v : Nat → Nat), first ≤ p → p + d = last → Q v → (∀ c, R c → (∀ q, p ≤ q → q < last → kg (od q) c = 0) → v c = num c) → mp_NS w od kg Λ d p v = mp_PE N num sz kg od w G d p v
  | 0, p, v, _, hp, q, hf => h1 v q fun c hc => hf c hc fun x a1 a2 => by omega
  | d + 1, p, v, hf, hp, q, hv => mp_s_eq fun j hj => by
    rcases Nat.lt_or_ge (sz (od p)) j with z | z
    · rw [hw p (by omega) j z, Nat.zero_mul, Nat.zero_mul, mp_i_0]
    · rcases Classical.em (mp_fit N num sz od kg d p (fun c => v c + j * kg (od p) c)) with y | y
      · rw [mp_i_t y, mp_prune hN hk h0 h1 hR hQ hw d (p + 1) _ (by omega) (by omega) (hQ v p j hf (by omega) q) (fun c hc hz => ?_)]
        by_cases k : kg (od p) c = 0
        · show v c + j * kg (od p) c = num c
          rw [k, Nat.mul_zero, Nat.add_zero]
          exact hv c hc fun x a1 a2 => by
            by_cases e : x = p
            · rw [e]; exact k
            · exact hz x (by omega) a2
        · have t : v c + j * kg (od p) c ≤ num c ∧ num c ≤ v c + j * kg (od p) c + mp_room sz od kg c d (p + 1) := y c (hR c hc) k
          rw [mp_room_0 d (p + 1) (fun x a1 a2 => hz x (by omega) (by omega))] at t
          show v c + j * kg (od p) c = num c
          omega
      · rw [mp_i_f y]
        have : ∃ c, c < N ∧ kg (od p) c ≠ 0 ∧ ¬ (v c + j * kg (od p) c ≤ num c ∧ num c ≤ v c + j * kg (od p) c + mp_room sz od kg c d (p + 1)) := by
          apply Classical.byContradiction
          intro x
          exact y fun c hc hk => Classical.byContradiction fun n => x ⟨c, hc, hk, n⟩
        obtain ⟨c, hc, hk', hn⟩ := this
        rw [mp_zero (P := last) (h0 c (hk p hf (by omega) c hc hk')) hw d (p + 1) _ (by omega) (by
          show num c < v c + j * kg (od p) c ∨ v c + j * kg (od p) c + mp_room sz od kg c d (p + 1) < num c
          omega), Nat.mul_zero]
theorem mp_NS_app {w : Nat → Nat → Nat} {od : Nat → Nat} {kg : Nat → Nat → Nat} {Φ : (Nat → Nat) → Nat} (d2 : Nat) : ∀ (d p : Nat) (v : Nat → Nat), mp_NS w od kg Φ (d + d2) p v = mp_NS w od kg (fun u => mp_NS w od kg Φ d2 (p + d) u) d p v
  | 0, p, v => by rw [Nat.zero_add]; rfl
  | d + 1, p, v => by
    rw [show d + 1 + d2 = (d + d2) + 1 by omega]
    apply mp_s_eq
    intro j _
    rw [mp_NS_app d2 d (p + 1), show p + 1 + d = p + (d + 1) by omega]
theorem mp_blocks {N : Nat} (hN : N ≤ 64) {sz od : Nat → Nat} {kg : Nat → Nat → Nat} {w : Nat → Nat → Nat} {num : Nat → Nat} {op : Nat → Bool} {F : Nat → Nat} {b : Nat → Nat} {C P : Nat} {TT : Nat → Nat → Nat}
    (hC : b C = P) (hm : ∀ i, i < C → b i ≤ b (i + 1) ∧ b (i + 1) ≤ P)
    (hd : ∀ i, i < C → ∀ q, b i ≤ q → q < b (i + 1) → ∀ q', b (i + 1) ≤ q' → q' < P → ∀ c, c < N → kg (od q) c ≠ 0 → kg (od q') c = 0)
    (ho : ∀ q, q < P → ∀ c, c < N → kg (od q) c ≠ 0 → op c = true)
    (hw : ∀ q, q < P → ∀ j, sz (od q) < j → w (od q) j = 0)
    (hT : ∀ x, TT C x = F x) (hS : ∀ i, i < C → ∀ x, TT i x = mp_PE N num sz kg od w (fun t => TT (i + 1) (x + t)) (b (i + 1) - b i) (b i) (fun _ => 0)) :
    ∀ (k i : Nat) (v : Nat → Nat), i + k = C → (∀ c, c < N → (∃ q, b i ≤ q ∧ q < P ∧ kg (od q) c ≠ 0) → v c = 0) → (∀ c, c < N → op c = true → (∀ q, b i ≤ q → q < P → kg (od q) c = 0) → v c = num c) →
      mp_NS w od kg (mp_F N op num F) (P - b i) (b i) v = TT i (v 64)
  | 0, i, v, hi, _, h2 => by
    have : i = C := by omega
    subst this
    rw [hC, Nat.sub_self, hT]
    exact mp_i_t fun c hc ho => h2 c hc ho fun q a1 a2 => by omega
  | k + 1, i, v, hi, h1, h2 => by
    obtain ⟨m1, m2⟩ := hm i (by omega)
    have e : P - b i = (b (i + 1) - b i) + (P - b (i + 1)) := by omega
    rw [e, mp_NS_app]
    have e2 : b i + (b (i + 1) - b i) = b (i + 1) := by omega
    rw [e2]
    have pr := mp_prune (N := N) hN (sz := sz) (od := od) (kg := kg) (w := w) (num := num) (Λ := fun u => mp_NS w od kg (mp_F N op num F) (P - b (i + 1)) (b (i + 1)) u) (G := TT (i + 1))
      (R := fun c => c < N ∧ ∃ q, b i ≤ q ∧ q < b (i + 1) ∧ kg (od q) c ≠ 0) (Q := fun u => ∀ c, c < N → (¬ ∃ q, b i ≤ q ∧ q < b (i + 1) ∧ kg (od q) c ≠ 0) → u c = v c) (first := b i) (last := b (i + 1))
      (fun q a1 a2 c hc hk => ⟨hc, q, a1, a2, hk⟩)
      (fun c ⟨hc, q, a1, a2, a3⟩ u hu => mp_zero (P := P) (sz := sz) (num := num) (c := c) (fun u' hu' => mp_i_f fun z => hu' (z c hc (ho q (by omega) c hc a3))) hw _ _ u (by omega) (by
        rw [mp_room_0 _ _ (fun q' b1 b2 => hd i (by omega) q a1 a2 q' b1 (by omega) c hc a3)]; omega))
      (fun u hq hu => mp_blocks hN hC hm hd ho hw hT hS k (i + 1) u (by omega)
        (fun c hc ⟨q', b1, b2, b3⟩ => by
          rw [hq c hc (fun ⟨q, a1, a2, a3⟩ => b3 (hd i (by omega) q a1 a2 q' b1 b2 c hc a3))]
          exact h1 c hc ⟨q', by omega, b2, b3⟩)
        (fun c hc hop hz => by
          rcases Classical.em (∃ q, b i ≤ q ∧ q < b (i + 1) ∧ kg (od q) c ≠ 0) with z | z
          · exact hu c ⟨hc, z⟩
          · rw [hq c hc z]
            exact h2 c hc hop fun q a1 a2 => by
              rcases Nat.lt_or_ge q (b (i + 1)) with y | y
              · exact Classical.byContradiction fun n => z ⟨q, a1, y, n⟩
              · exact hz q y a2))
      (fun c hc => hc.1)
      (fun u q j a1 a2 hu c hc hn => by
        show u c + j * kg (od q) c = v c
        rw [hu c hc hn]
        have : kg (od q) c = 0 := Classical.byContradiction fun n => hn ⟨q, a1, a2, n⟩
        rw [this, Nat.mul_zero, Nat.add_zero])
      (fun q a j hj => hw q (by omega) j hj)
      (b (i + 1) - b i) (b i) v (Nat.le_refl _) (by omega) (fun _ _ _ => rfl)
      (fun c ⟨hc, q, a1, a2, a3⟩ hz => absurd (hz q a1 a2) a3)
    rw [pr, hS i (by omega)]
    exact mp_PE_congr hN _ _ _ _ (fun q _ _ => ⟨rfl, fun _ _ => rfl⟩) (fun c hc ⟨q, a1, a2, a3⟩ => h1 c hc ⟨q, a1, by omega, a3⟩) (fun t => by
      show TT (i + 1) (v 64 + t) = TT (i + 1) (v 64 + (0 + t))
      rw [Nat.zero_add])
end
section
/-! ===== rows of 13 counts as functionals; their joins ===== -/
def mp_J (x : Nat → Nat) (G : Nat → Nat) : Nat := mp_s (fun t => x t * G t) 13
def mp_T (h : Nat → Nat) (r : Nat) (G : Nat → Nat) : Nat → Nat := fun x => mp_s (fun t => h (r * 13 + t) * G (x + t)) 13
theorem mp_T_comm (h : Nat → Nat) (r r' : Nat) (G : Nat → Nat) : mp_T h r (mp_T h r' G) = mp_T h r' (mp_T h r G) := by
  funext x
  show mp_s (fun t => h (r * 13 + t) * mp_s (fun t' => h (r' * 13 + t') * G (x + t + t')) 13) 13 = mp_s (fun t' => h (r' * 13 + t') * mp_s (fun t => h (r * 13 + t) * G (x + t' + t)) 13) 13
  have a : mp_s (fun t => h (r * 13 + t) * mp_s (fun t' => h (r' * 13 + t') * G (x + t + t')) 13) 13 = mp_s (fun t => mp_s (fun t' => h (r * 13 + t) * (h (r' * 13 + t') * G (x + t + t'))) 13) 13 := mp_s_eq fun t _ => (mp_s_mul _ _ _).symm
  have b : mp_s (fun t' => h (r' * 13 + t') * mp_s (fun t => h (r * 13 + t) * G (x + t' + t)) 13) 13 = mp_s (fun t' => mp_s (fun t => h (r' * 13 + t') * (h (r * 13 + t) * G (x + t' + t))) 13) 13 := mp_s_eq fun t _ => (mp_s_mul _ _ _).symm
  rw [a, b, mp_s_comm]
  apply mp_s_eq
  intro t' _
  apply mp_s_eq
  intro t _
  rw [Nat.mul_left_comm, show x + t + t' = x + t' + t by omega]
theorem mp_T_van {h : Nat → Nat} {r : Nat} {G : Nat → Nat} (hG : ∀ t, 13 ≤ t → G t = 0) : ∀ t, 13 ≤ t → mp_T h r G t = 0 := fun t ht => mp_s_0 fun m _ => by rw [hG (t + m) (by omega), Nat.mul_zero]
theorem mp_s_rev (f : Nat → Nat) : ∀ n, mp_s f (n + 1) = mp_s (fun i => f (n - i)) (n + 1)
  | 0 => rfl
  | n + 1 => by
    rw [mp_s_hd (fun i => f (n + 1 - i))]
    show mp_s f (n + 1) + f (n + 1) = f (n + 1) + mp_s (fun i => f (n + 1 - (i + 1))) (n + 1)
    have e : mp_s (fun i => f (n + 1 - (i + 1))) (n + 1) = mp_s (fun i => f (n - i)) (n + 1) := mp_s_eq fun i _ => by rw [show n + 1 - (i + 1) = n - i by omega]
    rw [e, ← mp_s_rev f n, Nat.add_comm]
theorem mp_diag (K : Nat → Nat → Nat) : ∀ n, mp_s (fun t => mp_s (fun m => K (t - m) m) (t + 1)) n = mp_s (fun a => mp_s (fun m => K a m) (n - a)) n
  | 0 => rfl
  | n + 1 => by
    show mp_s (fun t => mp_s (fun m => K (t - m) m) (t + 1)) n + mp_s (fun m => K (n - m) m) (n + 1) = mp_s (fun a => mp_s (fun m => K a m) (n + 1 - a)) n + mp_s (fun m => K n m) (n + 1 - n)
    rw [mp_diag K n]
    have e : mp_s (fun a => mp_s (fun m => K a m) (n + 1 - a)) n = mp_s (fun a => mp_s (fun m => K a m) (n - a) + K a (n - a)) n := mp_s_eq fun a ha => by
      rw [show n + 1 - a = (n - a) + 1 by omega]; rfl
    have f : mp_s (fun m => K (n - m) m) (n + 1) = mp_s (fun a => K a (n - a)) (n + 1) := by
      rw [mp_s_rev]
      exact mp_s_eq fun i hi => by rw [show n - (n - i) = i by omega]
    rw [e, mp_s_add, f, show n + 1 - n = 1 by omega]
    show _ + (mp_s (fun a => K a (n - a)) n + K n (n - n)) = _ + (0 + K n 0)
    rw [Nat.sub_self]; omega
theorem mp_mul {x x' h : Nat → Nat} {r : Nat} {G : Nat → Nat} (hG : ∀ t, 13 ≤ t → G t = 0) (hx : ∀ t, t < 13 → x' t = mp_s (fun m => x (t - m) * h (r * 13 + m)) (t + 1)) : mp_J x' G = mp_J x (mp_T h r G) := by
  have a : mp_J x' G = mp_s (fun t => mp_s (fun m => (fun a m => x a * h (r * 13 + m) * G (a + m)) (t - m) m) (t + 1)) 13 := mp_s_eq fun t ht => by
    rw [hx t ht, Nat.mul_comm, ← mp_s_mul]
    apply mp_s_eq
    intro m hm
    show _ = x (t - m) * h (r * 13 + m) * G (t - m + m)
    rw [show t - m + m = t by omega, Nat.mul_comm]
  refine a.trans ((mp_diag (fun a m => x a * h (r * 13 + m) * G (a + m)) 13).trans ?_)
  apply mp_s_eq
  intro a ha
  show mp_s (fun m => x a * h (r * 13 + m) * G (a + m)) (13 - a) = x a * mp_s (fun t => h (r * 13 + t) * G (a + t)) 13
  have e : mp_s (fun t => h (r * 13 + t) * G (a + t)) 13 = mp_s (fun t => h (r * 13 + t) * G (a + t)) (13 - a) := by
    have s : 13 = (13 - a) + a := by omega
    have z : mp_s (fun t => h (r * 13 + t) * G (a + t)) ((13 - a) + a) = mp_s (fun t => h (r * 13 + t) * G (a + t)) (13 - a) := by
      rw [mp_s_app, mp_s_0 (n := a) (fun i _ => by rw [hG _ (by omega), Nat.mul_zero]), Nat.add_zero]
    rw [← s] at z
    exact z
  rw [e, ← mp_s_mul]
  exact mp_s_eq fun m _ => by rw [Nat.mul_assoc]
/-- the joins of all rows, of all but one -/
def mp_TS (h : Nat → Nat) (ρ : Nat → Nat) : Nat → (Nat → Nat) → Nat → Nat
  | 0, G => G
  | i + 1, G => mp_TS h ρ i (mp_T h (ρ i) G)
def mp_TK (h : Nat → Nat) (k : Nat) : Nat → (Nat → Nat) → Nat → Nat
  | 0, G => G
  | i + 1, G => mp_TK h k i (if i = k then G else mp_T h i G)
theorem mp_TS_lo {h : Nat → Nat} {k r : Nat} : ∀ (i : Nat) (G : Nat → Nat), i ≤ k → mp_TK h k i G = mp_TS h (fun i => if i = k then r else i) i G
  | 0, _, _ => rfl
  | i + 1, G, hi => by
    show mp_TK h k i (if i = k then G else mp_T h i G) = mp_TS h _ i (mp_T h (if i = k then r else i) G)
    rw [if_neg (by omega), if_neg (by omega)]
    exact mp_TS_lo i _ (by omega)
theorem mp_TS_hi {h : Nat → Nat} {k r : Nat} : ∀ (i : Nat) (G : Nat → Nat), k < i → mp_TK h k i (mp_T h r G) = mp_TS h (fun i => if i = k then r else i) i G
  | 0, _, hi => by omega
  | i + 1, G, hi => by
    show mp_TK h k i (if i = k then mp_T h r G else mp_T h i (mp_T h r G)) = mp_TS h _ i (mp_T h (if i = k then r else i) G)
    by_cases e : i = k
    · rw [if_pos e, if_pos e]
      exact mp_TS_lo i _ (by omega)
    · rw [if_neg e, if_neg e, mp_T_comm]
      exact mp_TS_hi i _ (by omega)
theorem mp_TK_no {h : Nat → Nat} {k : Nat} : ∀ (i : Nat) (G : Nat → Nat), i ≤ k → mp_TK h k i G = mp_TS h (fun i => i) i G
  | 0, _, _ => rfl
  | i + 1, G, hi => by
    show mp_TK h k i (if i = k then G else mp_T h i G) = mp_TS h _ i (mp_T h i G)
    rw [if_neg (by omega)]
    exact mp_TK_no i _ (by omega)
theorem mp_TS_TT {h : Nat → Nat} {ρ : Nat → Nat} {C : Nat} {TT : Nat → Nat → Nat} (hS : ∀ i, i < C → TT i = mp_T h (ρ i) (TT (i + 1))) : ∀ i, i ≤ C → mp_TS h ρ i (TT i) = TT 0
  | 0, _ => rfl
  | i + 1, hi => by
    show mp_TS h ρ i (mp_T h (ρ i) (TT (i + 1))) = _
    rw [← hS i (by omega)]
    exact mp_TS_TT hS i (by omega)
/-- from the top: F, then the rows C - 1, C - 2 .. -/
def mp_TD (h : Nat → Nat) (ρ : Nat → Nat) (C : Nat) (F : Nat → Nat) : Nat → Nat → Nat
  | 0 => F
  | k + 1 => mp_T h (ρ (C - (k + 1))) (mp_TD h ρ C F k)
/-- weights of a histogram's row -/
def mp_wt (sz : Nat → Nat) (r g j : Nat) : Nat := if r = 12 + g then mp_Cm (sz g) j else mp_C (sz g) j
theorem mp_wt_0 {sz : Nat → Nat} {r g j : Nat} (h1 : 1 ≤ sz g) (h : sz g < j) : mp_wt sz r g j = 0 := by
  unfold mp_wt
  split
  · exact mp_Cm_gt h1 h
  · exact mp_C_gt _ _ h
/-- what solving all components leaves: positions, blocks, rows -/
def mp_Sol (N : Nat) (op : Nat → Bool) (num sz : Nat → Nat) (kg : Nat → Nat → Nat) (h od b : Nat → Nat) (C P : Nat) : Prop :=
  (∀ q q', q < P → q' < P → od q = od q' → q = q') ∧ b 0 = 0 ∧ b C = P ∧ (∀ i, i < C → b i ≤ b (i + 1) ∧ b (i + 1) ≤ P)
  ∧ (∀ i, i < C → ∀ q, b i ≤ q → q < b (i + 1) → ∀ q', b (i + 1) ≤ q' → q' < P → ∀ c, c < N → kg (od q) c ≠ 0 → kg (od q') c = 0)
  ∧ (∀ q, q < P → ∀ c, c < N → kg (od q) c ≠ 0 → op c = true) ∧ (∀ q, q < P → 1 ≤ sz (od q))
  ∧ (∀ c, c < N → op c = true → (∀ q, q < P → kg (od q) c = 0) → num c = 0)
  ∧ C ≤ 12
  ∧ (∀ i, i < C → ∀ r, (r = i ∨ ∃ q, b i ≤ q ∧ q < b (i + 1) ∧ r = 12 + od q) → ∀ G, mp_s (fun t => h (r * 13 + t) * G t) 13 = mp_PE N num sz kg od (mp_wt sz r) G (b (i + 1) - b i) (b i) (fun _ => 0))
theorem mp_solve {N : Nat} (hN : N ≤ 64) {op : Nat → Bool} {num sz : Nat → Nat} {kg : Nat → Nat → Nat} {h od b : Nat → Nat} {C P : Nat} (S : mp_Sol N op num sz kg h od b C P) {F : Nat → Nat} {w : Nat → Nat → Nat} {ρ : Nat → Nat}
    (hρ : ∀ i, i < C → ρ i = i ∨ ∃ q, b i ≤ q ∧ q < b (i + 1) ∧ ρ i = 12 + od q) (hw : ∀ i, i < C → ∀ q, b i ≤ q → q < b (i + 1) → ∀ j, w (od q) j = mp_wt sz (ρ i) (od q) j) (hw0 : ∀ q, q < P → ∀ j, sz (od q) < j → w (od q) j = 0) :
    mp_NS w od kg (mp_F N op num F) P 0 (fun _ => 0) = mp_TS h ρ C F 0 := by
  obtain ⟨s1, s2, s3, s4, s5, s6, s7, s8, _, s9⟩ := S
  have hTT : ∀ i, i < C → mp_TD h ρ C F (C - i) = mp_T h (ρ i) (mp_TD h ρ C F (C - (i + 1))) := fun i hi => by
    rw [show C - i = (C - (i + 1)) + 1 by omega]
    show mp_T h (ρ (C - (C - (i + 1) + 1))) _ = _
    rw [show C - (C - (i + 1) + 1) = i by omega]
  have B := mp_blocks hN (sz := sz) (od := od) (kg := kg) (w := w) (num := num) (op := op) (F := F) (b := b) (C := C) (P := P) (TT := fun i => mp_TD h ρ C F (C - i)) s3 s4 s5 s6 hw0
    (fun x => by rw [Nat.sub_self]; rfl)
    (fun i hi x => by
      show mp_TD h ρ C F (C - i) x = _
      rw [hTT i hi]
      have z := s9 i hi (ρ i) (hρ i hi) (fun t => mp_TD h ρ C F (C - (i + 1)) (x + t))
      refine z.trans ?_
      exact mp_PE_congr hN _ _ _ _ (fun q a1 a2 => ⟨rfl, fun j _ => (hw i hi q a1 (by have := s4 i hi; omega) j).symm⟩) (fun _ _ _ => rfl) (fun _ => rfl))
    C 0 (fun _ => 0) (by omega) (fun _ _ _ => rfl) (fun c hc ho hz => (s8 c hc ho fun q hq => hz q (by omega) hq).symm)
  rw [s2, Nat.sub_zero, Nat.sub_zero] at B
  rw [B]
  have := mp_TS_TT (h := h) (ρ := ρ) (C := C) (TT := fun i => mp_TD h ρ C F (C - i)) hTT C (Nat.le_refl _)
  show mp_TD h ρ C F C 0 = _
  rw [Nat.sub_zero, Nat.sub_self] at this
  rw [← this]
  rfl
/-- the sum over all subsets -/
theorem mp_total {N : Nat} (hN : N ≤ 64) {op : Nat → Bool} {num sz : Nat → Nat} {kg kv : Nat → Nat → Nat} {h od b cg eg : Nat → Nat} {C P n : Nat} (S : mp_Sol N op num sz kg h od b C P) (F : Nat → Nat) (hn : n ≤ 12)
    (h1 : ∀ i, i < n → ∃ q, q < P ∧ od q = cg (eg i)) (h2 : ∀ i, i < n → ∀ c, kv (eg i) c = kg (cg (eg i)) c) (h3 : ∀ q, q < P → sz (od q) = mb_c (fun i => decide (cg (eg i) = od q)) n) :
    mp_SU (fun _ => 1) kv eg (mp_F N op num F) n (fun _ => 0) = mp_TS h (fun i => i) C F 0 := by
  rw [mp_regroup S.1 n _ hn h1 h2]
  have hc := S.2.2.2.2.2.2.2.2.1
  have hx : ∀ q, q < P → ∀ j, mp_w (fun _ => 1) cg eg n (od q) j = mp_C (sz (od q)) j := fun q hq j => by
    rw [mp_w_one (od q) n j (fun _ _ _ => rfl), h3 q hq]
  exact mp_solve hN S (fun i hi => Or.inl rfl) (fun i hi q a1 a2 j => by
    have := S.2.2.2.1 i hi
    rw [hx q (by omega) j]
    unfold mp_wt
    rw [if_neg (by omega)]) (fun q hq j hj => by rw [hx q hq j, mp_C_gt _ _ hj])
/-- the sum over the subsets that hold edge cell k -/
theorem mp_held {N : Nat} (hN : N ≤ 64) {op : Nat → Bool} {num sz : Nat → Nat} {kg kv : Nat → Nat → Nat} {h od b cg eg : Nat → Nat} {C P n k i0 q0 : Nat} (S : mp_Sol N op num sz kg h od b C P) (F : Nat → Nat) (hn : n ≤ 12)
    (h1 : ∀ i, i < n → ∃ q, q < P ∧ od q = cg (eg i)) (h2 : ∀ i, i < n → ∀ c, kv (eg i) c = kg (cg (eg i)) c) (h3 : ∀ q, q < P → sz (od q) = mb_c (fun i => decide (cg (eg i) = od q)) n)
    (hi : ∀ i j, i < n → j < n → eg i = eg j → i = j) (hk : k < n) (hi0 : i0 < C) (hq0 : b i0 ≤ q0 ∧ q0 < b (i0 + 1)) (hg : od q0 = cg (eg k)) :
    mp_SU (fun e => if e = eg k then 0 else 1) kv eg (mp_F N op num F) n (fun _ => 0) = mp_TK h i0 C (mp_T h (12 + od q0) F) 0 := by
  rw [mp_regroup S.1 n _ hn h1 h2, mp_TS_hi (k := i0) C F hi0]
  have hc := S.2.2.2.2.2.2.2.2.1
  have hb := S.2.2.2.1
  have hP : q0 < P := by have := hb i0 hi0; omega
  have hx : ∀ q, q < P → ∀ j, mp_w (fun e => if e = eg k then 0 else 1) cg eg n (od q) j = mp_wt sz (12 + od q0) (od q) j := fun q hq j => by
    unfold mp_wt
    by_cases e : od q0 = od q
    · rw [if_pos (by rw [e]), mp_w_two (a := fun e => if e = eg k then 0 else 1) (cg := cg) (eg := eg) (k := k) (od q) n j hk (by rw [← hg, e]) (if_pos rfl) (fun i hi' ne _ => if_neg fun z => ne (hi i k hi' hk z)), h3 q hq]
    · rw [if_neg (by omega), mp_w_one (a := fun e => if e = eg k then 0 else 1) (cg := cg) (eg := eg) (od q) n j (fun i hi' hz => if_neg fun z => e (by rw [hg, ← hz, z])), h3 q hq]
  refine mp_solve hN S (fun i hi => ?_) (fun i hi q a1 a2 j => ?_) (fun q hq j hj => ?_)
  · by_cases e : i = i0
    · right; exact ⟨q0, by rw [e]; exact hq0.1, by rw [e]; exact hq0.2, if_pos e⟩
    · left; exact if_neg e
  · have := hb i hi
    rw [hx q (by omega) j]
    by_cases e : i = i0
    · rw [if_pos e]
    · rw [if_neg e]
      unfold mp_wt
      rw [if_neg (c := i = 12 + od q) (by omega), if_neg]
      intro z
      have y := S.1 q0 q hP (by omega) (by omega)
      subst y
      rcases Nat.lt_or_ge i i0 with z | z
      · have m : ∀ d i, i + d ≤ C → b i ≤ b (i + d) := by
          intro d
          induction d with
          | zero => intro i _; exact Nat.le_refl _
          | succ d ih => intro i hi; have := ih i (by omega); have := (hb (i + d) (by omega)).1; rw [← Nat.add_assoc]; omega
        have := m (i0 - (i + 1)) (i + 1) (by omega)
        rw [show i + 1 + (i0 - (i + 1)) = i0 by omega] at this
        omega
      · have m : ∀ d i, i + d ≤ C → b i ≤ b (i + d) := by
          intro d
          induction d with
          | zero => intro i _; exact Nat.le_refl _
          | succ d ih => intro i hi; have := ih i (by omega); have := (hb (i + d) (by omega)).1; rw [← Nat.add_assoc]; omega
        have := m (i - (i0 + 1)) (i0 + 1) (by omega)
        rw [show i0 + 1 + (i - (i0 + 1)) = i by omega] at this
        omega
  · rw [hx q hq j]
    exact mp_wt_0 (S.2.2.2.2.2.2.1 q hq) hj
end
section
/-! ===== the board; the small methods of both sides ===== -/
def mg_nb (wd N a b : Nat) : Bool := decide (a < N) && decide (b < N) && decide (a ≠ b) && decide (a % wd ≤ b % wd + 1) && decide (b % wd ≤ a % wd + 1) && decide (a / wd ≤ b / wd + 1) && decide (b / wd ≤ a / wd + 1)
theorem mg_nb_iff {wd N a b : Nat} : mg_nb wd N a b = true ↔ a < N ∧ b < N ∧ a ≠ b ∧ a % wd ≤ b % wd + 1 ∧ b % wd ≤ a % wd + 1 ∧ a / wd ≤ b / wd + 1 ∧ b / wd ≤ a / wd + 1 := by
  unfold mg_nb
  simp only [Bool.and_eq_true, decide_eq_true_eq, and_assoc]
theorem mg_nb_symm (wd N a b : Nat) : mg_nb wd N a b = mg_nb wd N b a := by
  rw [Bool.eq_iff_iff, mg_nb_iff, mg_nb_iff]
  constructor
  · rintro ⟨h1, h2, h3, h4, h5, h6, h7⟩; exact ⟨h2, h1, fun e => h3 e.symm, h5, h4, h7, h6⟩
  · rintro ⟨h1, h2, h3, h4, h5, h6, h7⟩; exact ⟨h2, h1, fun e => h3 e.symm, h5, h4, h7, h6⟩
theorem mg_nb_irr (wd N a : Nat) : mg_nb wd N a a = false := by
  cases e : mg_nb wd N a a
  · rfl
  · exact absurd rfl (mg_nb_iff.mp e).2.2.1
/-- sizes -/
def mg_D (wd hd N : Nat) : Prop := 1 ≤ wd ∧ wd ≤ 8 ∧ 1 ≤ hd ∧ hd ≤ 8 ∧ N = wd * hd
theorem mg_N64 {wd hd N : Nat} (h : mg_D wd hd N) : N ≤ 64 := by
  obtain ⟨_, h1, _, h2, rfl⟩ := h
  exact Nat.mul_le_mul h1 h2
theorem mg_ix {wd hd N x y : Nat} (h : mg_D wd hd N) (hx : x < wd) (hy : y < hd) : y * wd + x < N := by
  obtain ⟨_, _, _, _, rfl⟩ := h
  have := Nat.mul_le_mul_right wd (show y + 1 ≤ hd by omega)
  rw [Nat.succ_mul, Nat.mul_comm hd] at this
  omega
def mg_BX (wd hd N : Nat) (bd : Int64) (nr bn : Nat → Int64) : Prop :=
  mg_D wd hd N ∧ (∀ i, mb_b bd i = decide (i < N)) ∧ (∀ c, c < N → ∀ i, mb_b (nr c) i = mg_nb wd N c i) ∧ (∀ n k, n ≤ 64 → k ≤ 64 → bn (n * 65 + k) = lN (mp_C n k))
def mg_BY (wd hd N : Nat) (cl ro : Nat → Int32) : Prop :=
  mg_D wd hd N ∧ ∀ c, c < N → cl c = nI (c % wd) ∧ ro c = nI (c / wd)
def mg_in (wd hd : Nat) (p q : Int32) : Prop := ∃ x y, x < wd ∧ y < hd ∧ p = nI x ∧ q = nI y
section
variable {wd hd N : Nat} {bd : Int64} {ph : Int32} {M O F B : Int64} {gc cc : Int32} {tw fw : Int64} {nr bn : Nat → Int64} {cg gs gp : Nat → Int32} {gk gw : Nat → Int64} {od ch : Nat → Int32} {hst jo : Nat → Int64}
variable {post : Int32 → Prop}
theorem mx_on_t (D : mg_D wd hd N) {x y : Nat} (hx : x < wd) (hy : y < hd) (h : post 1) : wpX_onBoard post (nI wd, nI hd, nI N, bd, ph, M, O, F, B, gc, cc, tw, fw, nr, bn, cg, gs, gp, gk, gw, od, ch, hst, jo) (nI x) (nI y) := by
  obtain ⟨_, _, _, _, _⟩ := D
  exact br_f (nI_pos (by omega)) (br_f (nI_ge hx (by omega)) (br_f (nI_pos (by omega)) (br_f (nI_ge hy (by omega)) h)))
theorem mx_on_f (D : mg_D wd hd N) {p q : Int32} (hn : ¬ mg_in wd hd p q) (h : post 0) : wpX_onBoard post (nI wd, nI hd, nI N, bd, ph, M, O, F, B, gc, cc, tw, fw, nr, bn, cg, gs, gp, gk, gw, od, ch, hst, jo) p q := by
  obtain ⟨_, _, _, _, _⟩ := D
  refine br_c (fun _ => h) fun h1 => br_c (fun _ => h) fun h2 => br_c (fun _ => h) fun h3 => br_c (fun _ => h) fun h4 => ?_
  obtain ⟨x, hx, rfl⟩ := nI_of h1
  obtain ⟨y, hy, rfl⟩ := nI_of h3
  rw [nI_leI (by omega) hx] at h2
  rw [nI_leI (by omega) hy] at h4
  exact absurd ⟨x, y, by omega, by omega, rfl, rfl⟩ hn
theorem mx_index {x y : Nat} (h : post (nI (y * wd + x))) : wpX_indexOf post (nI wd, nI hd, nI N, bd, ph, M, O, F, B, gc, cc, tw, fw, nr, bn, cg, gs, gp, gk, gw, od, ch, hst, jo) (nI x) (nI y) := by
  show post (nI y * nI wd + nI x)
  rw [pk_mul, nI_add]; exact h
theorem mx_isSet {u : SX} {m : Int64} {c : Nat} (hc : c < 64) (h1 : mb_b m c = true → post 1) (h0 : mb_b m c = false → post 0) : wpX_isSet post u m (nI c) := by
  obtain ⟨_, _, _, _, _, _, _, _, _, _, _, _, _, _, _, _, _, _, _, _, _, _, _, _⟩ := u
  refine br_c (fun z => h0 ((mb_set hc).mp z)) (fun z => h1 ?_)
  cases e : mb_b m c
  · exact absurd ((mb_set hc).mpr e) z
  · rfl
theorem mx_isSetB {A A' : Prop} {u : SX} {m : Int64} {c : Nat} (hc : c < 64) (h0 : mb_b m c = false → A) (h1 : mb_b m c = true → A') : wpX_isSet (fun r => (r = 0 → A) ∧ (¬ r = 0 → A')) u m (nI c) :=
  mx_isSet hc (fun e => br_f (by decide) (h1 e)) (fun e => br_t rfl (h0 e))
theorem mx_number (X : mg_BX wd hd N bd nr bn) {c : Nat} (hc : c < N) (h : post (nI (mb_c (fun b => mb_b M b && mg_nb wd N b c) N))) : wpX_number post (nI wd, nI hd, nI N, bd, ph, M, O, F, B, gc, cc, tw, fw, nr, bn, cg, gs, gp, gk, gw, od, ch, hst, jo) (nI c) := by
  have hN := mg_N64 X.1
  refine And.intro (vp_in_nI (by omega) (by omega)) (mx_bitCount ?_)
  rw [nI_clamp (by omega)]
  have e : mb_pc (nr c &&& M) = mb_c (fun b => mb_b M b && mg_nb wd N b c) N := by
    have e1 : mb_c (mb_b (nr c &&& M)) 64 = mb_c (fun b => mb_b M b && mg_nb wd N b c) 64 := mb_c_eq fun i _ => by
      rw [mb_and, X.2.2.1 c hc i, mg_nb_symm, Bool.and_comm]
    show mb_c _ 64 = _
    rw [e1]
    refine mb_c_64 hN fun i hi => ?_
    have z : mg_nb wd N i c = false := by
      cases e : mg_nb wd N i c
      · rfl
      · have := (mg_nb_iff.mp e).1; omega
    rw [z, Bool.and_false]
  rw [e]; exact h
end
section
variable {wd hd N : Nat}
variable {yp : Int32} {tt : Int64} {cl ro mi co mq eg nu : Nat → Int32} {ho pa : Nat → Int64}
variable {post : Int32 → Prop}
theorem my_off_t (D : mg_D wd hd N) {x y : Nat} (hx : x < wd) (hy : y < hd) (h : post 0) : wpY_off post (nI wd, nI hd, nI N, yp, tt, cl, ro, mi, co, mq, eg, nu, ho, pa) (nI x) (nI y) := by
  obtain ⟨_, _, _, _, _⟩ := D
  exact br_f (nI_pos (by omega)) (br_f (nI_ge hx (by omega)) (br_f (nI_pos (by omega)) (br_t (nI_lt hy (by omega)) h)))
theorem my_off_f (D : mg_D wd hd N) {p q : Int32} (hn : ¬ mg_in wd hd p q) (h : post 1) : wpY_off post (nI wd, nI hd, nI N, yp, tt, cl, ro, mi, co, mq, eg, nu, ho, pa) p q := by
  obtain ⟨_, _, _, _, _⟩ := D
  refine br_c (fun _ => h) fun h1 => br_c (fun _ => h) fun h2 => br_c (fun _ => h) fun h3 => br_c (fun h4 => ?_) fun _ => h
  obtain ⟨x, hx, rfl⟩ := nI_of h1
  obtain ⟨y, hy, rfl⟩ := nI_of h3
  rw [nI_leI (by omega) hx] at h2
  rw [nI_ltI hy (by omega)] at h4
  exact absurd ⟨x, y, by omega, h4, rfl, rfl⟩ hn
theorem mg_cmp {a b : Nat} (ha : a < 100) (hb : b < 100) : (nI a - nI b < (-1) ↔ a + 1 < b) ∧ ((1 : Int32) < nI a - nI b ↔ b + 1 < a) := by
  constructor
  · rw [Int32.lt_iff_toInt_lt, pk_sub_toInt (by omega) (by omega), show (-1 : Int32).toInt = -1 from by decide]; omega
  · rw [Int32.lt_iff_toInt_lt, pk_sub_toInt (by omega) (by omega), show (1 : Int32).toInt = 1 from by decide]; omega
theorem my_near (Yb : mg_BY wd hd N cl ro) {a b : Nat} (ha : a < N) (hb : b < N) (h1 : mg_nb wd N a b = true → post 1) (h0 : mg_nb wd N a b = false → post 0) : wpY_near post (nI wd, nI hd, nI N, yp, tt, cl, ro, mi, co, mq, eg, nu, ho, pa) (nI a) (nI b) := by
  have hN := mg_N64 Yb.1
  obtain ⟨⟨d1, d2, d3, d4, dN⟩, hB⟩ := Yb
  have va : vp_in (nI a) 64 := vp_in_nI (by omega) (by omega)
  have vb : vp_in (nI b) 64 := vp_in_nI (by omega) (by omega)
  have m1 : a % wd < 8 := Nat.lt_of_lt_of_le (Nat.mod_lt _ (by omega)) d2
  have m2 : b % wd < 8 := Nat.lt_of_lt_of_le (Nat.mod_lt _ (by omega)) d2
  have m3 : a / wd < 100 := Nat.lt_of_le_of_lt (Nat.div_le_self _ _) (by omega)
  have m4 : b / wd < 100 := Nat.lt_of_le_of_lt (Nat.div_le_self _ _) (by omega)
  have hf : ∀ P : Prop, (mg_nb wd N a b = true → ¬ P) → P → post 0 := fun P z p => h0 (by
    cases e : mg_nb wd N a b
    · rfl
    · exact absurd p (z e))
  refine And.intro va (And.intro vb (nm_r (e' := nI (a % wd) - nI (b % wd)) ?_ (And.intro va (And.intro vb (nm_r (e' := nI (a / wd) - nI (b / wd)) ?_ ?_)))))
  · rw [nI_clamp (by omega), nI_clamp (by omega), (hB a ha).1, (hB b hb).1]
  · rw [nI_clamp (by omega), nI_clamp (by omega), (hB a ha).2, (hB b hb).2]
  · refine br_c (fun z => hf _ (fun t => ?_) z) fun z1 => br_c (fun z => hf _ (fun t => ?_) z) fun z2 => br_c (fun z => hf _ (fun t => ?_) z) fun z3 => br_c (fun z => hf _ (fun t => ?_) z) fun z4 => br_c (fun z => hf _ (fun t => ?_) z) fun z5 => h1 ?_
    · rw [nI_eq (by omega) (by omega)]; exact (mg_nb_iff.mp t).2.2.1
    · rw [(mg_cmp (by omega) (by omega)).1]; have := mg_nb_iff.mp t; omega
    · rw [(mg_cmp (by omega) (by omega)).2]; have := mg_nb_iff.mp t; omega
    · rw [(mg_cmp (by omega) (by omega)).1]; have := mg_nb_iff.mp t; omega
    · rw [(mg_cmp (by omega) (by omega)).2]; have := mg_nb_iff.mp t; omega
    · rw [nI_eq (by omega) (by omega)] at z1
      rw [(mg_cmp (by omega) (by omega)).1] at z2 z4
      rw [(mg_cmp (by omega) (by omega)).2] at z3 z5
      exact mg_nb_iff.mpr ⟨ha, hb, z1, by omega, by omega, by omega, by omega⟩
theorem my_nearB {A A' : Prop} (Yb : mg_BY wd hd N cl ro) {a b : Nat} (ha : a < N) (hb : b < N) (h0 : mg_nb wd N a b = false → A) (h1 : mg_nb wd N a b = true → A') : wpY_near (fun r => (r = 0 → A) ∧ (¬ r = 0 → A')) (nI wd, nI hd, nI N, yp, tt, cl, ro, mi, co, mq, eg, nu, ho, pa) (nI a) (nI b) :=
  my_near Yb ha hb (fun e => br_f (by decide) (h1 e)) (fun e => br_t rfl (h0 e))
/-! what Y's mined and cond arrays hold -/
def mg_mi (N : Nat) (M : Int64) (mi : Nat → Int32) : Prop := ∀ c, c < N → mi c = if mb_b M c then 1 else 0
def mg_cv (O F B : Int64) (c : Nat) : Int32 := if mb_b O c then 12 else if mb_b B c then 11 else if mb_b F c then 10 else 9
def mg_co (N : Nat) (O F B : Int64) (co : Nat → Int32) : Prop := ∀ c, c < N → co c = mg_cv O F B c
def mg_num (wd N : Nat) (M : Int64) (c : Nat) : Nat := mb_c (fun b => mb_b M b && mg_nb wd N b c) N
theorem mg_mi0 {N : Nat} {M : Int64} {mi : Nat → Int32} (h : mg_mi N M mi) {c : Nat} (hc : c < N) : mi c = 0 ↔ mb_b M c = false := by
  rw [h c hc]
  cases mb_b M c <;> decide
theorem my_number_l {M : Int64} (Yb : mg_BY wd hd N cl ro) (hm : mg_mi N M mi) {c : Nat} (hc : c < N) (h : post (nI (mg_num wd N M c))) : ∀ k i n : Nat, i + k = N → k < n → wY_number_4 post (nI c) (nI wd) (nI hd) (nI N) yp tt cl ro mi co mq eg nu ho pa n (nI (mb_c (fun b => mb_b M b && mg_nb wd N b c) i)) (nI i)
  | 0, i, n, hi, hn => by
    obtain ⟨m, rfl⟩ : ∃ m, n = m + 1 := ⟨n - 1, by omega⟩
    have : i = N := by omega
    subst this
    exact br_t (nI_le (Nat.le_refl _) (by have := mg_N64 Yb.1; omega)) h
  | k + 1, i, n, hi, hn => by
    obtain ⟨m, rfl⟩ : ∃ m, n = m + 1 := ⟨n - 1, by omega⟩
    have hN := mg_N64 Yb.1
    have ih := my_number_l Yb hm hc h k (i + 1) m (by omega) (by omega)
    have e : mb_c (fun b => mb_b M b && mg_nb wd N b c) (i + 1) = mb_c (fun b => mb_b M b && mg_nb wd N b c) i + (if (mb_b M i && mg_nb wd N i c) then 1 else 0) := rfl
    have cl' : (nI i).toNatClampNeg = i := nI_clamp (by omega)
    refine br_f (nI_ge (by omega) (by omega)) (And.intro (vp_in_nI (by omega) (by omega)) (br_c (fun z => ?_) (fun z => ?_)))
    · rw [cl', mg_mi0 hm (by omega)] at z
      rw [e, z, Bool.false_and, if_neg (by decide), Nat.add_zero] at ih
      exact nm_r (nI_1 i) ih
    · rw [cl', mg_mi0 hm (by omega)] at z
      have z' : mb_b M i = true := by cases q : mb_b M i <;> simp_all
      refine my_nearB Yb (by omega) hc (fun t => ?_) (fun t => ?_)
      · rw [e, t, Bool.and_false, if_neg (by decide), Nat.add_zero] at ih
        exact nm_r (nI_1 i) ih
      · rw [e, t, z', Bool.and_self, if_pos rfl] at ih
        exact nm_r (nI_1 _) (nm_r (nI_1 i) ih)
theorem my_number {M : Int64} (Yb : mg_BY wd hd N cl ro) (hm : mg_mi N M mi) {c : Nat} (hc : c < N) (h : post (nI (mg_num wd N M c))) : wpY_number post (nI wd, nI hd, nI N, yp, tt, cl, ro, mi, co, mq, eg, nu, ho, pa) (nI c) :=
  ⟨N + 1, my_number_l Yb hm hc h N 0 (N + 1) (by omega) (by omega)⟩
theorem my_mineCount_l {M : Int64} (hN : N ≤ 64) (hm : mg_mi N M mi) (h : post (nI (mb_c (mb_b M) N))) : ∀ k i n : Nat, i + k = N → k < n → wY_mineCount_4 post (nI wd) (nI hd) (nI N) yp tt cl ro mi co mq eg nu ho pa n (nI (mb_c (mb_b M) i)) (nI i)
  | 0, i, n, hi, hn => by
    obtain ⟨m, rfl⟩ : ∃ m, n = m + 1 := ⟨n - 1, by omega⟩
    have : i = N := by omega
    subst this
    exact br_t (nI_le (Nat.le_refl _) (by omega)) h
  | k + 1, i, n, hi, hn => by
    obtain ⟨m, rfl⟩ : ∃ m, n = m + 1 := ⟨n - 1, by omega⟩
    have ih := my_mineCount_l hN hm h k (i + 1) m (by omega) (by omega)
    have e : mb_c (mb_b M) (i + 1) = mb_c (mb_b M) i + (if mb_b M i then 1 else 0) := rfl
    have cl' : (nI i).toNatClampNeg = i := nI_clamp (by omega)
    refine br_f (nI_ge (by omega) (by omega)) (And.intro (vp_in_nI (by omega) (by omega)) (br_c (fun z => ?_) (fun z => ?_)))
    · rw [cl', mg_mi0 hm (by omega)] at z
      rw [e, z, if_neg (by decide), Nat.add_zero] at ih
      exact nm_r (nI_1 i) ih
    · rw [cl', mg_mi0 hm (by omega)] at z
      have z' : mb_b M i = true := by cases q : mb_b M i <;> simp_all
      rw [e, z', if_pos rfl] at ih
      exact nm_r (nI_1 _) (nm_r (nI_1 i) ih)
theorem my_mineCount {M : Int64} (hN : N ≤ 64) (hm : mg_mi N M mi) (h : post (nI (mb_c (mb_b M) N))) : wpY_mineCount post (nI wd, nI hd, nI N, yp, tt, cl, ro, mi, co, mq, eg, nu, ho, pa) :=
  ⟨N + 1, my_mineCount_l hN hm h N 0 (N + 1) (by omega) (by omega)⟩
theorem my_condCount_l {x : Int32} (hN : N ≤ 64) (h : post (nI (mb_c (fun c => decide (co c = x)) N))) : ∀ k i n : Nat, i + k = N → k < n → wY_condCount_4 post x (nI wd) (nI hd) (nI N) yp tt cl ro mi co mq eg nu ho pa n (nI (mb_c (fun c => decide (co c = x)) i)) (nI i)
  | 0, i, n, hi, hn => by
    obtain ⟨m, rfl⟩ : ∃ m, n = m + 1 := ⟨n - 1, by omega⟩
    have : i = N := by omega
    subst this
    exact br_t (nI_le (Nat.le_refl _) (by omega)) h
  | k + 1, i, n, hi, hn => by
    obtain ⟨m, rfl⟩ : ∃ m, n = m + 1 := ⟨n - 1, by omega⟩
    have ih := my_condCount_l (x := x) hN h k (i + 1) m (by omega) (by omega)
    have e : mb_c (fun c => decide (co c = x)) (i + 1) = mb_c (fun c => decide (co c = x)) i + (if decide (co i = x) then 1 else 0) := rfl
    have cl' : (nI i).toNatClampNeg = i := nI_clamp (by omega)
    refine br_f (nI_ge (by omega) (by omega)) (And.intro (vp_in_nI (by omega) (by omega)) (br_c (fun z => ?_) (fun z => ?_)))
    · rw [cl'] at z
      rw [e, if_pos (decide_eq_true z)] at ih
      exact nm_r (nI_1 _) (nm_r (nI_1 i) ih)
    · rw [cl'] at z
      rw [e, if_neg (by simp [z]), Nat.add_zero] at ih
      exact nm_r (nI_1 i) ih
theorem my_condCount {x : Int32} (hN : N ≤ 64) (h : post (nI (mb_c (fun c => decide (co c = x)) N))) : wpY_condCount post (nI wd, nI hd, nI N, yp, tt, cl, ro, mi, co, mq, eg, nu, ho, pa) x :=
  ⟨N + 1, my_condCount_l hN h N 0 (N + 1) (by omega) (by omega)⟩
end
end
section
/-! ===== hidden cells, edge cells ===== -/
theorem mb_f {x : Bool} (h : ¬ x = true) : x = false := by cases x <;> simp_all
theorem mb_t {x : Bool} (h : ¬ x = false) : x = true := by cases x <;> simp_all
def mg_h (N : Nat) (O B : Int64) (c : Nat) : Bool := decide (c < N) && !(mb_b O c) && !(mb_b B c)
def mg_t (wd N : Nat) (O : Int64) (c i : Nat) : Bool := decide (0 < mb_c (fun b => mb_b O b && mg_nb wd N b c) i)
def mg_e (wd N : Nat) (O B : Int64) (c : Nat) : Bool := mg_h N O B c && mg_t wd N O c N
theorem mg_h_iff {N : Nat} {O B : Int64} {c : Nat} : mg_h N O B c = true ↔ c < N ∧ mb_b O c = false ∧ mb_b B c = false := by
  unfold mg_h
  simp only [Bool.and_eq_true, decide_eq_true_eq, Bool.not_eq_true', and_assoc]
theorem mg_t_s (wd N : Nat) (O : Int64) (c i : Nat) : mg_t wd N O c (i + 1) = (mg_t wd N O c i || (mb_b O i && mg_nb wd N i c)) := by
  unfold mg_t
  show decide (0 < mb_c (fun b => mb_b O b && mg_nb wd N b c) i + (if (mb_b O i && mg_nb wd N i c) = true then 1 else 0)) = _
  by_cases e : (mb_b O i && mg_nb wd N i c) = true
  · rw [if_pos e, e, Bool.or_true, decide_eq_true (by omega)]
  · rw [if_neg e, mb_f e, Bool.or_false, Nat.add_zero]
theorem mg_t_iff {wd N : Nat} {O : Int64} {c i : Nat} : mg_t wd N O c i = true ↔ ∃ b, b < i ∧ mb_b O b = true ∧ mg_nb wd N b c = true := by
  induction i with
  | zero =>
    constructor
    · intro h; exact absurd h (by simp [mg_t, mb_c])
    · rintro ⟨b, hb, _⟩; omega
  | succ i ih =>
    rw [mg_t_s, Bool.or_eq_true, ih, Bool.and_eq_true]
    constructor
    · rintro (⟨b, h1, h2⟩ | h)
      · exact ⟨b, by omega, h2⟩
      · exact ⟨i, by omega, h⟩
    · rintro ⟨b, h1, h2⟩
      by_cases e : b = i
      · subst e; exact Or.inr h2
      · exact Or.inl ⟨b, by omega, h2⟩
theorem mg_e_lt {wd N : Nat} {O B : Int64} {c : Nat} (h : mg_e wd N O B c = true) : c < N := by
  unfold mg_e at h
  rw [Bool.and_eq_true] at h
  exact (mg_h_iff.mp h.1).1
theorem mg_cv12 {O F B : Int64} {c : Nat} : mg_cv O F B c = 12 ↔ mb_b O c = true := by
  unfold mg_cv
  cases mb_b O c <;> cases mb_b B c <;> cases mb_b F c <;> decide
theorem mg_cv9 {O F B : Int64} {c : Nat} : mg_cv O F B c = 9 ↔ mb_b O c = false ∧ mb_b B c = false ∧ mb_b F c = false := by
  unfold mg_cv
  cases mb_b O c <;> cases mb_b B c <;> cases mb_b F c <;> decide
theorem mg_cv10 {O F B : Int64} {c : Nat} : mg_cv O F B c = 10 ↔ mb_b O c = false ∧ mb_b B c = false ∧ mb_b F c = true := by
  unfold mg_cv
  cases mb_b O c <;> cases mb_b B c <;> cases mb_b F c <;> decide
section
variable {wd hd N : Nat} {bd : Int64} {ph : Int32} {M O F B : Int64} {gc cc : Int32} {tw fw : Int64} {nr bn : Nat → Int64} {cg gs gp : Nat → Int32} {gk gw : Nat → Int64} {od ch : Nat → Int32} {hst jo : Nat → Int64}
theorem mx_hidden {post : Int64 → Prop} (X : mg_BX wd hd N bd nr bn) (h : ∀ R, (∀ c, mb_b R c = mg_h N O B c) → post R) : wpX_hidden post (nI wd, nI hd, nI N, bd, ph, M, O, F, B, gc, cc, tw, fw, nr, bn, cg, gs, gp, gk, gw, od, ch, hst, jo) := by
  refine h _ fun c => ?_
  rw [mb_and, X.2.1]
  unfold mg_h
  rcases Nat.lt_or_ge c 64 with z | z
  · rw [mb_not _ z, mb_or]
    cases decide (c < N) <;> cases mb_b O c <;> cases mb_b B c <;> rfl
  · have := mg_N64 X.1
    rw [decide_eq_false (by omega)]; rfl
theorem mx_edge_l {post : Int64 → Prop} (X : mg_BX wd hd N bd nr bn) (h : ∀ R, (∀ c, mb_b R c = mg_e wd N O B c) → post R) : ∀ (k i n : Nat) (R : Int64), i + k = N → k < n → (∀ c, mb_b R c = mg_t wd N O c i) → wX_edgeCells_4 post (nI wd) (nI hd) (nI N) bd ph M O F B gc cc tw fw nr bn cg gs gp gk gw od ch hst jo n R (nI i)
  | 0, i, n, R, hi, hn, hR => by
    obtain ⟨m, rfl⟩ : ∃ m, n = m + 1 := ⟨n - 1, by omega⟩
    have : i = N := by omega
    subst this
    have hN := mg_N64 X.1
    refine br_t (nI_le (Nat.le_refl _) (by omega)) (mx_hidden X fun R' hR' => h _ fun c => ?_)
    rw [mb_and, hR, hR', Bool.and_comm]; rfl
  | k + 1, i, n, R, hi, hn, hR => by
    obtain ⟨m, rfl⟩ : ∃ m, n = m + 1 := ⟨n - 1, by omega⟩
    have hN := mg_N64 X.1
    refine br_f (nI_ge (by omega) (by omega)) (mx_isSetB (by omega) (fun z => ?_) (fun z => ?_))
    · refine nm_r (nI_1 i) (mx_edge_l X h k (i + 1) m R (by omega) (by omega) fun c => ?_)
      rw [mg_t_s, z, Bool.false_and, Bool.or_false, hR]
    · refine And.intro (vp_in_nI (by omega) (by omega)) (nm_e (nm_r (nI_1 i) (mx_edge_l X h k (i + 1) m _ (by omega) (by omega) fun c => ?_)))
      rw [mg_t_s, z, Bool.true_and, mb_or, hR, nI_clamp (by omega), X.2.2.1 i (by omega)]
theorem mx_edge {post : Int64 → Prop} (X : mg_BX wd hd N bd nr bn) (h : ∀ R, (∀ c, mb_b R c = mg_e wd N O B c) → post R) : wpX_edgeCells post (nI wd, nI hd, nI N, bd, ph, M, O, F, B, gc, cc, tw, fw, nr, bn, cg, gs, gp, gk, gw, od, ch, hst, jo) :=
  ⟨N + 1, mx_edge_l X h N 0 (N + 1) 0 (by omega) (by omega) fun c => by rw [mb_0]; rfl⟩
end
section
variable {wd hd N : Nat}
variable {yp : Int32} {tt : Int64} {cl ro mi co mq eg nu : Nat → Int32} {ho pa : Nat → Int64}
variable {O F B : Int64}
theorem my_hidden {post : Int32 → Prop} (hN : N ≤ 64) (hc : mg_co N O F B co) {c : Nat} (h : c < N) (h1 : mg_h N O B c = true → post 1) (h0 : mg_h N O B c = false → post 0) : wpY_hidden post (nI wd, nI hd, nI N, yp, tt, cl, ro, mi, co, mq, eg, nu, ho, pa) (nI c) := by
  have v : vp_in (nI c) 64 := vp_in_nI (by omega) (by omega)
  have e : (nI c).toNatClampNeg = c := nI_clamp (by omega)
  refine And.intro v (br_c (fun z => ?_) (fun z1 => And.intro v (br_c (fun z => ?_) (fun z2 => ?_))))
  · rw [e, hc c h, mg_cv9] at z
    exact h1 (mg_h_iff.mpr ⟨h, z.1, z.2.1⟩)
  · rw [e, hc c h, mg_cv10] at z
    exact h1 (mg_h_iff.mpr ⟨h, z.1, z.2.1⟩)
  · rw [e, hc c h] at z1 z2
    refine h0 (mb_f fun t => ?_)
    obtain ⟨_, t1, t2⟩ := mg_h_iff.mp t
    cases q : mb_b F c
    · exact z1 (mg_cv9.mpr ⟨t1, t2, q⟩)
    · exact z2 (mg_cv10.mpr ⟨t1, t2, q⟩)
theorem my_hiddenB {A A' : Prop} (hN : N ≤ 64) (hc : mg_co N O F B co) {c : Nat} (h : c < N) (h0 : mg_h N O B c = false → A) (h1 : mg_h N O B c = true → A') : wpY_hidden (fun r => (r = 0 → A) ∧ (¬ r = 0 → A')) (nI wd, nI hd, nI N, yp, tt, cl, ro, mi, co, mq, eg, nu, ho, pa) (nI c) :=
  my_hidden hN hc h (fun e => br_f (by decide) (h1 e)) (fun e => br_t rfl (h0 e))
theorem my_isEdge_l {post : Int32 → Prop} (Yb : mg_BY wd hd N cl ro) (hc : mg_co N O F B co) {c : Nat} (h : c < N) (h1 : mg_t wd N O c N = true → post 1) (h0 : mg_t wd N O c N = false → post 0) : ∀ (k i n : Nat), i + k = N → k < n → mg_t wd N O c i = false → wY_isEdge_12 post (nI c) (nI wd) (nI hd) (nI N) yp tt cl ro mi co mq eg nu ho pa n (nI i)
  | 0, i, n, hi, hn, ht => by
    obtain ⟨m, rfl⟩ : ∃ m, n = m + 1 := ⟨n - 1, by omega⟩
    have : i = N := by omega
    subst this
    exact br_t (nI_le (Nat.le_refl _) (by have := mg_N64 Yb.1; omega)) (h0 ht)
  | k + 1, i, n, hi, hn, ht => by
    obtain ⟨m, rfl⟩ : ∃ m, n = m + 1 := ⟨n - 1, by omega⟩
    have hN := mg_N64 Yb.1
    have e : (nI i).toNatClampNeg = i := nI_clamp (by omega)
    refine br_f (nI_ge (by omega) (by omega)) (And.intro (vp_in_nI (by omega) (by omega)) (br_c (fun z => ?_) (fun z => ?_)))
    · rw [e, hc i (by omega), mg_cv12] at z
      refine my_nearB Yb (by omega) h (fun t => ?_) (fun t => ?_)
      · refine nm_r (nI_1 i) (my_isEdge_l Yb hc h h1 h0 k (i + 1) m (by omega) (by omega) ?_)
        rw [mg_t_s, t, Bool.and_false, ht]; rfl
      · exact h1 (mg_t_iff.mpr ⟨i, by omega, z, t⟩)
    · rw [e, hc i (by omega), mg_cv12] at z
      refine nm_r (nI_1 i) (my_isEdge_l Yb hc h h1 h0 k (i + 1) m (by omega) (by omega) ?_)
      rw [mg_t_s, mb_f z, Bool.false_and, ht]; rfl
theorem my_isEdge {post : Int32 → Prop} (Yb : mg_BY wd hd N cl ro) (hc : mg_co N O F B co) {c : Nat} (h : c < N) (h1 : mg_e wd N O B c = true → post 1) (h0 : mg_e wd N O B c = false → post 0) : wpY_isEdge post (nI wd, nI hd, nI N, yp, tt, cl, ro, mi, co, mq, eg, nu, ho, pa) (nI c) := by
  unfold wpY_isEdge
  refine my_hiddenB (mg_N64 Yb.1) hc h (fun z => h0 ?_) (fun z => ⟨N + 1, my_isEdge_l Yb hc h (fun t => h1 ?_) (fun t => h0 ?_) N 0 (N + 1) (by omega) (by omega) rfl⟩)
  · unfold mg_e; rw [z]; rfl
  · unfold mg_e; rw [z, t]; rfl
  · unfold mg_e; rw [z, t]; rfl
theorem my_isEdgeB {A A' : Prop} (Yb : mg_BY wd hd N cl ro) (hc : mg_co N O F B co) {c : Nat} (h : c < N) (h0 : mg_e wd N O B c = false → A) (h1 : mg_e wd N O B c = true → A') : wpY_isEdge (fun r => (r = 0 → A) ∧ (¬ r = 0 → A')) (nI wd, nI hd, nI N, yp, tt, cl, ro, mi, co, mq, eg, nu, ho, pa) (nI c) :=
  my_isEdge Yb hc h (fun e => br_f (by decide) (h1 e)) (fun e => br_t rfl (h0 e))
end
/-! the edge cells in order: number i below c is mg_g .. i -/
def mg_l (ed : Nat → Bool) : Nat → List Nat
  | 0 => []
  | c + 1 => if ed c then mg_l ed c ++ [c] else mg_l ed c
theorem mg_l_len (ed : Nat → Bool) : ∀ c, (mg_l ed c).length = mb_c ed c
  | 0 => rfl
  | c + 1 => by
    show (if ed c then mg_l ed c ++ [c] else mg_l ed c).length = mb_c ed c + _
    cases ed c
    · simp [mg_l_len ed c]
    · simp [mg_l_len ed c]
def mg_g (ed : Nat → Bool) (c i : Nat) : Nat := (mg_l ed c).getD i 0
theorem mg_g_s {ed : Nat → Bool} {c i : Nat} (h : i < mb_c ed c) : mg_g ed (c + 1) i = mg_g ed c i := by
  unfold mg_g
  show (if ed c then mg_l ed c ++ [c] else mg_l ed c).getD i 0 = _
  rw [← mg_l_len] at h
  cases ed c
  · rfl
  · simp [List.getD_eq_getElem?_getD, List.getElem?_append_left h]
theorem mg_g_n {ed : Nat → Bool} {c : Nat} (h : ed c = true) : mg_g ed (c + 1) (mb_c ed c) = c := by
  unfold mg_g
  show (if ed c then mg_l ed c ++ [c] else mg_l ed c).getD _ 0 = _
  rw [h, if_pos rfl, ← mg_l_len]
  simp [List.getD_eq_getElem?_getD]
theorem mg_g_in {ed : Nat → Bool} : ∀ {c i : Nat}, i < mb_c ed c → mg_g ed c i < c ∧ ed (mg_g ed c i) = true
  | 0, i, h => by exact absurd h (Nat.not_lt_zero _)
  | c + 1, i, h => by
    by_cases z : i < mb_c ed c
    · rw [mg_g_s z]
      have := mg_g_in z
      exact ⟨by omega, this.2⟩
    · have e : mb_c ed (c + 1) = mb_c ed c + (if ed c then 1 else 0) := rfl
      cases q : ed c
      · rw [q] at e; simp at e; omega
      · rw [q] at e; simp at e
        have : i = mb_c ed c := by omega
        subst this
        rw [mg_g_n q]; exact ⟨by omega, q⟩
theorem mg_g_inj {ed : Nat → Bool} : ∀ {c i j : Nat}, i < mb_c ed c → j < mb_c ed c → mg_g ed c i = mg_g ed c j → i = j
  | 0, i, j, h, _, _ => absurd h (Nat.not_lt_zero _)
  | c + 1, i, j, hi, hj, he => by
    have e : mb_c ed (c + 1) = mb_c ed c + (if ed c then 1 else 0) := rfl
    by_cases zi : i < mb_c ed c
    · by_cases zj : j < mb_c ed c
      · rw [mg_g_s zi, mg_g_s zj] at he
        exact mg_g_inj zi zj he
      · cases q : ed c
        · rw [q] at e; simp at e; omega
        · rw [q] at e; simp at e
          have : j = mb_c ed c := by omega
          subst this
          rw [mg_g_s zi, mg_g_n q] at he
          have := (mg_g_in zi).1; omega
    · by_cases zj : j < mb_c ed c
      · cases q : ed c
        · rw [q] at e; simp at e; omega
        · rw [q] at e; simp at e
          have : i = mb_c ed c := by omega
          subst this
          rw [mg_g_s zj, mg_g_n q] at he
          have := (mg_g_in zj).1; omega
      · cases q : ed c
        · rw [q] at e; simp at e; omega
        · rw [q] at e; simp at e; omega
theorem mg_g_cnt {ed : Nat → Bool} (p : Nat → Bool) : ∀ c : Nat, mb_c (fun x => ed x && p x) c = mb_c (fun i => p (mg_g ed c i)) (mb_c ed c)
  | 0 => rfl
  | c + 1 => by
    have ih := mg_g_cnt (ed := ed) p c
    have e : mb_c ed (c + 1) = mb_c ed c + (if ed c then 1 else 0) := rfl
    show mb_c (fun x => ed x && p x) c + (if (ed c && p c) then 1 else 0) = _
    rw [ih, e]
    cases q : ed c
    · simp only [Bool.false_eq_true, if_false, Nat.add_zero, Bool.false_and]
      exact mb_c_eq fun i hi => by rw [mg_g_s hi]
    · simp only [if_true, Bool.true_and]
      show _ = mb_c _ (mb_c ed c) + (if p (mg_g ed (c + 1) (mb_c ed c)) = true then 1 else 0)
      rw [mg_g_n q]
      congr 1
      exact mb_c_eq fun i hi => by rw [mg_g_s hi]
theorem mg_g_ex {ed : Nat → Bool} : ∀ {c x : Nat}, x < c → ed x = true → ∃ i, i < mb_c ed c ∧ mg_g ed c i = x
  | 0, x, h, _ => by omega
  | c + 1, x, h, hx => by
    have e : mb_c ed (c + 1) = mb_c ed c + (if ed c then 1 else 0) := rfl
    by_cases z : x < c
    · obtain ⟨i, h1, h2⟩ := mg_g_ex z hx
      exact ⟨i, by omega, by rw [mg_g_s h1, h2]⟩
    · have : x = c := by omega
      subst this
      rw [hx, if_pos rfl] at e
      exact ⟨mb_c ed x, by omega, mg_g_n hx⟩
section
variable {wd hd N : Nat}
variable {yp : Int32} {tt : Int64} {cl ro mi co mq eg nu : Nat → Int32} {ho pa : Nat → Int64}
variable {O F B : Int64}
theorem my_list_l {post : Int32 → SY → Prop} (Yb : mg_BY wd hd N cl ro) (hc : mg_co N O F B co) (h : ∀ eg, (∀ i, i < mb_c (mg_e wd N O B) N → eg i = nI (mg_g (mg_e wd N O B) N i)) → post (nI (mb_c (mg_e wd N O B) N)) (nI wd, nI hd, nI N, yp, tt, cl, ro, mi, co, mq, eg, nu, ho, pa)) : ∀ (k i n : Nat) (eg : Nat → Int32), i + k = N → k < n → (∀ j, j < mb_c (mg_e wd N O B) i → eg j = nI (mg_g (mg_e wd N O B) i j)) → wY_listEdge_4 post (nI wd) (nI hd) (nI N) yp tt n (nI (mb_c (mg_e wd N O B) i)) (nI i) cl ro mi co mq eg nu ho pa
  | 0, i, n, eg, hi, hn, he => by
    obtain ⟨m, rfl⟩ : ∃ m, n = m + 1 := ⟨n - 1, by omega⟩
    have : i = N := by omega
    subst this
    exact br_t (nI_le (Nat.le_refl _) (by have := mg_N64 Yb.1; omega)) (h eg he)
  | k + 1, i, n, eg, hi, hn, he => by
    obtain ⟨m, rfl⟩ : ∃ m, n = m + 1 := ⟨n - 1, by omega⟩
    have hN := mg_N64 Yb.1
    have e : mb_c (mg_e wd N O B) (i + 1) = mb_c (mg_e wd N O B) i + (if mg_e wd N O B i then 1 else 0) := rfl
    have b := mb_c_le (mg_e wd N O B) i
    refine br_f (nI_ge (by omega) (by omega)) (my_isEdgeB Yb hc (by omega) (fun z => ?_) (fun z => ?_))
    · have ih := my_list_l Yb hc h k (i + 1) m eg (by omega) (by omega)
      rw [e, z, if_neg (by decide), Nat.add_zero] at ih
      exact nm_r (nI_1 i) (ih fun j hj => by rw [he j hj, mg_g_s hj])
    · have ih := my_list_l Yb hc h k (i + 1) m (upd eg (mb_c (mg_e wd N O B) i) (nI i)) (by omega) (by omega)
      rw [e, z, if_pos rfl] at ih
      refine And.intro (vp_in_nI (by omega) (by omega)) (nm_r (e' := upd eg (mb_c (mg_e wd N O B) i) (nI i)) (by rw [nI_clamp (by omega)]) (nm_r (nI_1 _) (nm_r (nI_1 i) (ih fun j hj => ?_))))
      by_cases q : j = mb_c (mg_e wd N O B) i
      · subst q
        rw [pk_us, mg_g_n z]
      · rw [pk_un q, he j (by omega), mg_g_s (by omega)]
theorem my_list {post : Int32 → SY → Prop} (Yb : mg_BY wd hd N cl ro) (hc : mg_co N O F B co) (h : ∀ eg, (∀ i, i < mb_c (mg_e wd N O B) N → eg i = nI (mg_g (mg_e wd N O B) N i)) → post (nI (mb_c (mg_e wd N O B) N)) (nI wd, nI hd, nI N, yp, tt, cl, ro, mi, co, mq, eg, nu, ho, pa)) : wpY_listEdge post (nI wd, nI hd, nI N, yp, tt, cl, ro, mi, co, mq, eg, nu, ho, pa) :=
  ⟨N + 1, my_list_l Yb hc h N 0 (N + 1) eg (by omega) (by omega) fun j hj => absurd hj (Nat.not_lt_zero _)⟩
end
end
section
/-! ===== the relation ===== -/
def mr_I (wd hd N : Nat) (bd : Int64) (ph : Int32) (M O F B : Int64) (nr bn : Nat → Int64) (cl ro mi co : Nat → Int32) : Prop :=
  mg_BX wd hd N bd nr bn ∧ mg_BY wd hd N cl ro ∧ mg_mi N M mi ∧ mg_co N O F B co
  ∧ (∀ i, mb_b M i = true → i < N) ∧ (∀ i, mb_b O i = true → i < N) ∧ (∀ i, mb_b F i = true → i < N) ∧ (∀ i, mb_b B i = true → i < N)
  ∧ (∀ i, ¬ (mb_b O i = true ∧ mb_b F i = true)) ∧ (∀ i, ¬ (mb_b O i = true ∧ mb_b B i = true)) ∧ (∀ i, ¬ (mb_b F i = true ∧ mb_b B i = true))
  ∧ (ph = 0 → O = 0 ∧ F = 0 ∧ B = 0) ∧ (ph = 1 → B = 0 ∧ ∀ i, ¬ (mb_b O i = true ∧ mb_b M i = true))
/-- near equality: sizes, phase, masks against arrays -/
def i_Rel (k : Nat) (u : SX) (v : SY) : Prop :=
  match u with
  | (f_width, f_height, f_cells, f_board, f_phase, f_mines, f_opened, f_flagged, f_blown, _, _, _, _, a_near, a_binomial, _, _, _, _, _, _, _, _, _) =>
    match v with
    | (f_w, f_h, f_size, f_phase', _, a_col, a_row, a_mined, a_cond, _, _, _, _, _) =>
      ∃ wd hd N : Nat, f_width = nI wd ∧ f_height = nI hd ∧ f_cells = nI N ∧ f_w = nI wd ∧ f_h = nI hd ∧ f_size = nI N ∧ f_phase' = f_phase
        ∧ mr_I wd hd N f_board f_phase f_mines f_opened f_flagged f_blown a_near a_binomial a_col a_row a_mined a_cond
theorem i_up {k : Nat} {u : SX} {v : SY} (h : i_Rel k u v) : i_Rel (k + 3) u v := h
section
variable {wd hd N : Nat} {bd : Int64} {ph : Int32} {M O F B : Int64} {gc cc : Int32} {tw fw : Int64} {nr bn : Nat → Int64} {cg gs gp : Nat → Int32} {gk gw : Nat → Int64} {od ch : Nat → Int32} {hst jo : Nat → Int64}
variable {yp : Int32} {tt : Int64} {cl ro mi co mq eg nu : Nat → Int32} {ho pa : Nat → Int64}
theorem mr_mk {k : Nat} (h : mr_I wd hd N bd ph M O F B nr bn cl ro mi co) : i_Rel k (nI wd, nI hd, nI N, bd, ph, M, O, F, B, gc, cc, tw, fw, nr, bn, cg, gs, gp, gk, gw, od, ch, hst, jo) (nI wd, nI hd, nI N, ph, tt, cl, ro, mi, co, mq, eg, nu, ho, pa) := ⟨wd, hd, N, rfl, rfl, rfl, rfl, rfl, rfl, rfl, h⟩
end
theorem mr_el {k : Nat} {P : SX → SY → Prop} (h : ∀ (wd hd N : Nat) (bd : Int64) (ph : Int32) (M O F B : Int64) (gc cc : Int32) (tw fw : Int64) (nr bn : Nat → Int64) (cg gs gp : Nat → Int32) (gk gw : Nat → Int64) (od ch : Nat → Int32) (hst jo : Nat → Int64) (tt : Int64) (cl ro mi co mq eg nu : Nat → Int32) (ho pa : Nat → Int64),
      mr_I wd hd N bd ph M O F B nr bn cl ro mi co → P (nI wd, nI hd, nI N, bd, ph, M, O, F, B, gc, cc, tw, fw, nr, bn, cg, gs, gp, gk, gw, od, ch, hst, jo) (nI wd, nI hd, nI N, ph, tt, cl, ro, mi, co, mq, eg, nu, ho, pa)) {u : SX} {v : SY} (I : i_Rel k u v) : P u v := by
  obtain ⟨_, _, _, _, _, _, _, _, _, _, _, _, _, _, _, _, _, _, _, _, _, _, _, _⟩ := u
  obtain ⟨_, _, _, _, _, _, _, _, _, _, _, _, _, _⟩ := v
  obtain ⟨wd, hd, N, rfl, rfl, rfl, rfl, rfl, rfl, rfl, hI⟩ := I
  exact h _ _ _ _ _ _ _ _ _ _ _ _ _ _ _ _ _ _ _ _ _ _ _ _ _ _ _ _ _ _ _ _ _ _ hI
theorem mb_set1 {w : Int64} {c : Nat} (hc : c < 64) : (((w.toUInt64 >>> ((nI c).toInt64.toUInt64 &&& Int64.toUInt64 63)).toInt64) &&& 1) = 1 ↔ mb_b w c = true := by
  obtain ⟨n, hn, rfl⟩ := wb_of w
  have s := mb_set (w := lN n) hc
  rw [wb_bit hn hc] at s ⊢
  have : n / 2 ^ c % 2 = 0 ∨ n / 2 ^ c % 2 = 1 := by omega
  rcases this with e | e
  · rw [e] at s ⊢
    have := s.mp rfl
    rw [this]
    constructor
    · intro z; exact absurd z (by decide)
    · intro z; exact absurd z (by decide)
  · rw [e] at s ⊢
    constructor
    · intro _
      exact mb_t fun z => absurd (s.mpr z) (by decide)
    · intro _; rfl
theorem mg_pcN {N : Nat} {M : Int64} (hN : N ≤ 64) (h : ∀ i, mb_b M i = true → i < N) : mb_pc M = mb_c (mb_b M) N :=
  mb_c_64 hN fun i hi => mb_f fun z => by have := h i z; omega
theorem vn_b1 : vp_nar .boolean 1 = 1 := rfl
theorem vn_b0 : vp_nar .boolean 0 = 0 := rfl
section
variable {wd hd N : Nat}
variable {yp : Int32} {tt : Int64} {cl ro mi co mq eg nu : Nat → Int32} {ho pa : Nat → Int64}
theorem my_lay_l {post : Int32 → SY → Prop} {a0 M : Int64} (hN : N ≤ 64) (hM : ∀ c, c < N → mb_b M c = mb_b a0 c) (h : ∀ mi, mg_mi N M mi → post (nI (mb_c (mb_b M) N)) (nI wd, nI hd, nI N, yp, tt, cl, ro, mi, co, mq, eg, nu, ho, pa)) : ∀ (k i n : Nat) (mi : Nat → Int32), i + k = N → k < n → (∀ c, c < i → mi c = if mb_b M c then 1 else 0) → wY_lay_12 post a0 (nI wd) (nI hd) (nI N) yp tt n (nI i) cl ro mi co mq eg nu ho pa
  | 0, i, n, mi, hi, hn, hm => by
    obtain ⟨m, rfl⟩ : ∃ m, n = m + 1 := ⟨n - 1, by omega⟩
    have : i = N := by omega
    subst this
    exact br_t (nI_le (Nat.le_refl _) (by omega)) (my_mineCount hN hm (h mi hm))
  | k + 1, i, n, mi, hi, hn, hm => by
    obtain ⟨m, rfl⟩ : ∃ m, n = m + 1 := ⟨n - 1, by omega⟩
    have v : vp_in (nI i) 64 := vp_in_nI (by omega) (by omega)
    have e : (nI i).toNatClampNeg = i := nI_clamp (by omega)
    refine br_f (nI_ge (by omega) (by omega)) (br_c (fun z => And.intro v (nm_r (e' := upd mi i 1) (by rw [e]; rfl) (nm_r (nI_1 i) (my_lay_l hN hM h k (i + 1) m _ (by omega) (by omega) fun c hc => ?_)))) (fun z => And.intro v (nm_r (e' := upd mi i 0) (by rw [e]; rfl) (nm_r (nI_1 i) (my_lay_l hN hM h k (i + 1) m _ (by omega) (by omega) fun c hc => ?_)))))
    · rw [mb_set1 (by omega)] at z
      by_cases q : c = i
      · subst q; rw [pk_us, hM c (by omega), z]; rfl
      · rw [pk_un q]; exact hm c (by omega)
    · rw [mb_set1 (by omega)] at z
      by_cases q : c = i
      · subst q; rw [pk_us, hM c (by omega), mb_f z]; rfl
      · rw [pk_un q]; exact hm c (by omega)
theorem my_again_l {post : Int32 → SY → Prop} {x : Int32} (hN : N ≤ 64) (h : ∀ co, (∀ c, c < N → co c = 9) → post x (nI wd, nI hd, nI N, 0, tt, cl, ro, mi, co, mq, eg, nu, ho, pa)) : ∀ (k i n : Nat) (co : Nat → Int32), i + k = N → k < n → (∀ c, c < i → co c = 9) → wY_again_17 post x (nI wd) (nI hd) (nI N) yp tt n (nI i) cl ro mi co mq eg nu ho pa
  | 0, i, n, co, hi, hn, hm => by
    obtain ⟨m, rfl⟩ : ∃ m, n = m + 1 := ⟨n - 1, by omega⟩
    have : i = N := by omega
    subst this
    exact br_t (nI_le (Nat.le_refl _) (by omega)) (h co hm)
  | k + 1, i, n, co, hi, hn, hm => by
    obtain ⟨m, rfl⟩ : ∃ m, n = m + 1 := ⟨n - 1, by omega⟩
    refine br_f (nI_ge (by omega) (by omega)) (And.intro (vp_in_nI (by omega) (by omega)) (nm_r (e' := upd co i 9) (by rw [nI_clamp (by omega)]) (nm_r (nI_1 i) (my_again_l hN h k (i + 1) m _ (by omega) (by omega) fun c hc => ?_))))
    by_cases q : c = i
    · subst q; rw [pk_us]
    · rw [pk_un q]; exact hm c (by omega)
end
section
variable {wd hd N : Nat} {bd : Int64} {ph : Int32} {M O F B : Int64} {gc cc : Int32} {tw fw : Int64} {nr bn : Nat → Int64} {cg gs gp : Nat → Int32} {gk gw : Nat → Int64} {od ch : Nat → Int32} {hst jo : Nat → Int64}
variable {yp : Int32} {tt : Int64} {cl ro mi co mq eg nu : Nat → Int32} {ho pa : Nat → Int64}
variable {k : Nat}
theorem mv_lay (I : mr_I wd hd N bd ph M O F B nr bn cl ro mi co) (a0 : Int64) : wpX_lay (fun r u' => wpY_lay (fun r' v' => r' = r ∧ i_Rel (k + 3) u' v') (nI wd, nI hd, nI N, ph, tt, cl, ro, mi, co, mq, eg, nu, ho, pa) a0) (nI wd, nI hd, nI N, bd, ph, M, O, F, B, gc, cc, tw, fw, nr, bn, cg, gs, gp, gk, gw, od, ch, hst, jo) a0 := by
  obtain ⟨hX, hY, hm, hc, i1, i2, i3, i4, i5, i6, i7, i8, i9⟩ := I
  have hN := mg_N64 hX.1
  by_cases p : ph = 0
  · subst p
    have b1 : ∀ i, mb_b (a0 &&& bd) i = true → i < N := fun i hi => by
      rw [mb_and, hX.2.1, Bool.and_eq_true, decide_eq_true_eq] at hi; exact hi.2
    refine br_t rfl (nm_e (mx_bitCount (br_t rfl ⟨N + 1, my_lay_l (M := a0 &&& bd) hN (fun c h => ?_) (fun mi' hm' => ⟨?_, mr_mk ⟨hX, hY, hm', hc, b1, i2, i3, i4, i5, i6, i7, i8, fun z => absurd z (by decide)⟩⟩) N 0 (N + 1) mi (by omega) (by omega) (fun c h => by omega)⟩)))
    · rw [mb_and, hX.2.1, decide_eq_true h, Bool.and_true]
    · rw [mg_pcN hN b1]
  · exact br_f p (br_f p ⟨rfl, mr_mk ⟨hX, hY, hm, hc, i1, i2, i3, i4, i5, i6, i7, i8, i9⟩⟩)
theorem mv_start (I : mr_I wd hd N bd ph M O F B nr bn cl ro mi co) : wpX_start (fun r u' => wpY_start (fun r' v' => r' = r ∧ i_Rel (k + 3) u' v') (nI wd, nI hd, nI N, ph, tt, cl, ro, mi, co, mq, eg, nu, ho, pa)) (nI wd, nI hd, nI N, bd, ph, M, O, F, B, gc, cc, tw, fw, nr, bn, cg, gs, gp, gk, gw, od, ch, hst, jo) := by
  have I0 := I
  obtain ⟨hX, hY, hm, hc, i1, i2, i3, i4, i5, i6, i7, i8, i9⟩ := I
  have hN := mg_N64 hX.1
  by_cases p : ph = 0
  · subst p
    obtain ⟨o1, o2, o3⟩ := i8 rfl
    have q : M = bd ↔ mb_c (mb_b M) N = N := by
      rw [mb_c_full]
      constructor
      · intro e i hi; rw [e, hX.2.1]; exact decide_eq_true hi
      · intro e
        apply mb_ext
        intro i _
        rw [hX.2.1]
        by_cases z : i < N
        · rw [e i z, decide_eq_true z]
        · rw [decide_eq_false z]; exact mb_f fun t => z (i1 i t)
    have l := mb_c_le (mb_b M) N
    refine br_t rfl (br_c (fun z => br_t rfl (my_mineCount hN hm (br_t (by rw [q.mp z]) ⟨rfl, mr_mk I0⟩))) (fun z => mx_bitCount (br_t rfl (my_mineCount hN hm (br_f (fun y => z (q.mpr ((nI_eq (by omega) (by omega)).mp y))) (my_mineCount hN hm ⟨?_, mr_mk ⟨hX, hY, hm, hc, i1, i2, i3, i4, i5, i6, i7, fun y => absurd y (by decide), fun _ => ⟨o3, fun i => ?_⟩⟩⟩))))))
    · rw [mg_pcN hN i1]
    · rw [o1, mb_0]; exact fun y => absurd y.1 (by decide)
  · exact br_f p (br_f p ⟨rfl, mr_mk I0⟩)
theorem mv_again (I : mr_I wd hd N bd ph M O F B nr bn cl ro mi co) : wpX_again (fun r u' => wpY_again (fun r' v' => r' = r ∧ i_Rel (k + 3) u' v') (nI wd, nI hd, nI N, ph, tt, cl, ro, mi, co, mq, eg, nu, ho, pa)) (nI wd, nI hd, nI N, bd, ph, M, O, F, B, gc, cc, tw, fw, nr, bn, cg, gs, gp, gk, gw, od, ch, hst, jo) := by
  have I0 := I
  obtain ⟨hX, hY, hm, hc, i1, i2, i3, i4, i5, i6, i7, i8, i9⟩ := I
  have hN := mg_N64 hX.1
  by_cases p : ph = 0
  · exact br_t p (br_t p ⟨rfl, mr_mk I0⟩)
  · have z : ∀ i, mb_b 0 i = true → i < N := fun i h => by rw [mb_0] at h; exact absurd h (by decide)
    have z2 : ∀ i, ¬ (mb_b 0 i = true ∧ mb_b 0 i = true) := fun i h => by rw [mb_0] at h; exact absurd h.1 (by decide)
    refine br_f p (br_f p ⟨N + 1, my_again_l hN (fun co' hc' => ⟨rfl, mr_mk ⟨hX, hY, hm, fun c h => ?_, i1, z, z, z, z2, z2, z2, fun _ => ⟨rfl, rfl, rfl⟩, fun y => absurd y (by decide)⟩⟩) N 0 (N + 1) co (by omega) (by omega) (fun c h => by omega)⟩)
    rw [hc' c h]
    exact (mg_cv9.mpr ⟨mb_0 c, mb_0 c, mb_0 c⟩).symm
theorem mv_mineAt (I : mr_I wd hd N bd ph M O F B nr bn cl ro mi co) (p q : Int32) : wpX_mineAt (fun r => wpY_mineAt (fun r' => r' = r ∧ i_Rel (k + 3) (nI wd, nI hd, nI N, bd, ph, M, O, F, B, gc, cc, tw, fw, nr, bn, cg, gs, gp, gk, gw, od, ch, hst, jo) (nI wd, nI hd, nI N, ph, tt, cl, ro, mi, co, mq, eg, nu, ho, pa)) (nI wd, nI hd, nI N, ph, tt, cl, ro, mi, co, mq, eg, nu, ho, pa) p q) (nI wd, nI hd, nI N, bd, ph, M, O, F, B, gc, cc, tw, fw, nr, bn, cg, gs, gp, gk, gw, od, ch, hst, jo) p q := by
  have I0 := I
  obtain ⟨hX, hY, hm, hc, i1, i2, i3, i4, i5, i6, i7, i8, i9⟩ := I
  have hN := mg_N64 hX.1
  unfold wpX_mineAt wpY_mineAt
  rcases Classical.em (mg_in wd hd p q) with ⟨x, y, hx, hy, rfl, rfl⟩ | z
  · have hi := mg_ix hX.1 hx hy
    have ei : nI y * nI wd + nI x = nI (y * wd + x) := by rw [pk_mul, nI_add]
    have v : vp_in (nI y * nI wd + nI x) 64 := by rw [ei]; exact vp_in_nI (by omega) (by omega)
    have ea : mi (nI y * nI wd + nI x).toNatClampNeg = 0 ↔ mb_b M (y * wd + x) = false := by rw [ei, nI_clamp (by omega)]; exact mg_mi0 hm hi
    refine mx_on_t hX.1 hx hy (br_f (by decide) (mx_index (mx_isSetB (by omega) (fun z => ?_) (fun z => ?_))))
    · exact my_off_t hX.1 hx hy (br_t rfl (And.intro v (br_t (ea.mpr z) ⟨rfl, mr_mk I0⟩)))
    · exact my_off_t hX.1 hx hy (br_t rfl (And.intro v (br_f (fun t => by rw [ea.mp t] at z; exact absurd z (by decide)) ⟨rfl, mr_mk I0⟩)))
  · exact mx_on_f hX.1 z (br_t rfl (my_off_f hX.1 z (br_f (by decide) ⟨rfl, mr_mk I0⟩)))
theorem mv_view (I : mr_I wd hd N bd ph M O F B nr bn cl ro mi co) (p q : Int32) : wpX_view (fun r => wpY_view (fun r' => r' = r ∧ i_Rel (k + 3) (nI wd, nI hd, nI N, bd, ph, M, O, F, B, gc, cc, tw, fw, nr, bn, cg, gs, gp, gk, gw, od, ch, hst, jo) (nI wd, nI hd, nI N, ph, tt, cl, ro, mi, co, mq, eg, nu, ho, pa)) (nI wd, nI hd, nI N, ph, tt, cl, ro, mi, co, mq, eg, nu, ho, pa) p q) (nI wd, nI hd, nI N, bd, ph, M, O, F, B, gc, cc, tw, fw, nr, bn, cg, gs, gp, gk, gw, od, ch, hst, jo) p q := by
  have I0 := I
  obtain ⟨hX, hY, hm, hc, i1, i2, i3, i4, i5, i6, i7, i8, i9⟩ := I
  have hN := mg_N64 hX.1
  unfold wpX_view wpY_view
  rcases Classical.em (mg_in wd hd p q) with ⟨x, y, hx, hy, rfl, rfl⟩ | z
  · have hi := mg_ix hX.1 hx hy
    have ei : nI y * nI wd + nI x = nI (y * wd + x) := by rw [pk_mul, nI_add]
    have v : vp_in (nI (y * wd + x)) 64 := vp_in_nI (by omega) (by omega)
    have e : co (nI (y * wd + x)).toNatClampNeg = mg_cv O F B (y * wd + x) := by rw [nI_clamp (by omega)]; exact hc _ hi
    refine mx_on_t hX.1 hx hy (br_f (by decide) (mx_index (mx_isSetB (by omega) (fun z1 => mx_isSetB (by omega) (fun z2 => mx_isSetB (by omega) (fun z3 => ?_) (fun z3 => ?_)) (fun z2 => ?_)) (fun z1 => ?_))))
    · have g := mg_cv9.mpr ⟨z1, z2, z3⟩
      refine my_off_t hX.1 hx hy (br_t rfl (nm_r ei (And.intro v (br_f ?_ (And.intro v ⟨?_, mr_mk I0⟩)))))
      · rw [e, g]; decide
      · rw [e, g]
    · have g := mg_cv10.mpr ⟨z1, z2, z3⟩
      refine my_off_t hX.1 hx hy (br_t rfl (nm_r ei (And.intro v (br_f ?_ (And.intro v ⟨?_, mr_mk I0⟩)))))
      · rw [e, g]; decide
      · rw [e, g]
    · have g : mg_cv O F B (y * wd + x) = 11 := by unfold mg_cv; rw [z1, z2]; rfl
      refine my_off_t hX.1 hx hy (br_t rfl (nm_r ei (And.intro v (br_f ?_ (And.intro v ⟨?_, mr_mk I0⟩)))))
      · rw [e, g]; decide
      · rw [e, g]
    · have g := mg_cv12 (F := F) (B := B).mpr z1
      refine mx_number hX hi (my_off_t hX.1 hx hy (br_t rfl (nm_r ei (And.intro v (br_t ?_ (my_number hY hm hi ⟨rfl, mr_mk I0⟩))))))
      rw [e, g]
  · exact mx_on_f hX.1 z (br_t rfl (my_off_f hX.1 z (br_f (by decide) ⟨rfl, mr_mk I0⟩)))
theorem mx_ref {post : Int32 → Prop} (hX : mg_BX wd hd N bd nr bn) {p q : Int32} (h1 : ¬ ph = 1 → post (-2)) (h2 : ph = 1 → ¬ mg_in wd hd p q → post (-1)) (h3 : ph = 1 → ∀ x y, x < wd → y < hd → p = nI x → q = nI y → ¬ mg_h N O B (y * wd + x) = true → post (-3)) (h4 : ph = 1 → ∀ x y, x < wd → y < hd → p = nI x → q = nI y → mg_h N O B (y * wd + x) = true → post 0) : wpX_refuseHidden post (nI wd, nI hd, nI N, bd, ph, M, O, F, B, gc, cc, tw, fw, nr, bn, cg, gs, gp, gk, gw, od, ch, hst, jo) p q := by
  have hN := mg_N64 hX.1
  refine br_c (fun e => ?_) h1
  rcases Classical.em (mg_in wd hd p q) with ⟨x, y, hx, hy, rfl, rfl⟩ | z
  · have hi := mg_ix hX.1 hx hy
    refine mx_on_t hX.1 hx hy (br_f (by decide) (mx_index (mx_isSetB (by omega) (fun z => h4 e x y hx hy rfl rfl ?_) (fun z => h3 e x y hx hy rfl rfl fun t => ?_))))
    · rw [mb_or, Bool.or_eq_false_iff] at z
      exact mg_h_iff.mpr ⟨hi, z⟩
    · rw [mb_or] at z
      obtain ⟨_, t1, t2⟩ := mg_h_iff.mp t
      rw [t1, t2] at z; exact absurd z (by decide)
  · exact mx_on_f hX.1 z (br_t rfl (h2 e z))
theorem my_ref {post : Int32 → Prop} (hY : mg_BY wd hd N cl ro) (hc : mg_co N O F B co) {p q : Int32} (h1 : ¬ yp = 1 → post (-2)) (h2 : yp = 1 → ¬ mg_in wd hd p q → post (-1)) (h3 : yp = 1 → ∀ x y, x < wd → y < hd → p = nI x → q = nI y → ¬ mg_h N O B (y * wd + x) = true → post (-3)) (h4 : yp = 1 → ∀ x y, x < wd → y < hd → p = nI x → q = nI y → mg_h N O B (y * wd + x) = true → post 0) : wpY_refuse post (nI wd, nI hd, nI N, yp, tt, cl, ro, mi, co, mq, eg, nu, ho, pa) p q := by
  have hN := mg_N64 hY.1
  refine br_c (fun e => ?_) h1
  rcases Classical.em (mg_in wd hd p q) with ⟨x, y, hx, hy, rfl, rfl⟩ | z
  · have hi := mg_ix hY.1 hx hy
    have ei : nI y * nI wd + nI x = nI (y * wd + x) := by rw [pk_mul, nI_add]
    refine my_off_t hY.1 hx hy (br_t rfl ?_)
    rw [ei]
    exact my_hiddenB hN hc hi (fun z => h3 e x y hx hy rfl rfl (by rw [z]; decide)) (fun z => h4 e x y hx hy rfl rfl z)
  · exact my_off_f hY.1 z (br_f (by decide) (h2 e z))
end
end
section
/-! ===== plant, flag, tally ===== -/
section
variable {wd hd N : Nat} {bd : Int64} {ph : Int32} {M O F B : Int64} {gc cc : Int32} {tw fw : Int64} {nr bn : Nat → Int64} {cg gs gp : Nat → Int32} {gk gw : Nat → Int64} {od ch : Nat → Int32} {hst jo : Nat → Int64}
variable {yp : Int32} {tt : Int64} {cl ro mi co mq eg nu : Nat → Int32} {ho pa : Nat → Int64}
variable {k : Nat}
theorem mx_mineAt {post : Int32 → Prop} (hX : mg_BX wd hd N bd nr bn) {x y : Nat} (hx : x < wd) (hy : y < hd) (h1 : mb_b M (y * wd + x) = true → post 1) (h0 : mb_b M (y * wd + x) = false → post 0) : wpX_mineAt post (nI wd, nI hd, nI N, bd, ph, M, O, F, B, gc, cc, tw, fw, nr, bn, cg, gs, gp, gk, gw, od, ch, hst, jo) (nI x) (nI y) := by
  have hN := mg_N64 hX.1
  have hi := mg_ix hX.1 hx hy
  unfold wpX_mineAt
  exact mx_on_t hX.1 hx hy (br_f (by decide) (mx_index (mx_isSetB (by omega) h0 h1)))
theorem mv_plant (I : mr_I wd hd N bd ph M O F B nr bn cl ro mi co) (p q : Int32) : wpX_plant (fun r u' => wpY_plant (fun r' v' => r' = r ∧ i_Rel (k + 3) u' v') (nI wd, nI hd, nI N, ph, tt, cl, ro, mi, co, mq, eg, nu, ho, pa) p q) (nI wd, nI hd, nI N, bd, ph, M, O, F, B, gc, cc, tw, fw, nr, bn, cg, gs, gp, gk, gw, od, ch, hst, jo) p q := by
  have I0 := I
  obtain ⟨hX, hY, hm, hc, i1, i2, i3, i4, i5, i6, i7, i8, i9⟩ := I
  have hN := mg_N64 hX.1
  by_cases e0 : ph = 0
  · subst e0
    rcases Classical.em (mg_in wd hd p q) with ⟨x, y, hx, hy, rfl, rfl⟩ | z
    · have hi := mg_ix hX.1 hx hy
      have ei : nI y * nI wd + nI x = nI (y * wd + x) := by rw [pk_mul, nI_add]
      have v : vp_in (nI y * nI wd + nI x) 64 := by rw [ei]; exact vp_in_nI (by omega) (by omega)
      have ec : (nI y * nI wd + nI x).toNatClampNeg = y * wd + x := by rw [ei, nI_clamp (by omega)]
      have ea : mi (nI y * nI wd + nI x).toNatClampNeg = 0 ↔ mb_b M (y * wd + x) = false := by rw [ec]; exact mg_mi0 hm hi
      have hb : ∀ c, mb_b (M ^^^ ((1 : Int64) <<< ((nI (y * wd + x)).toInt64 &&& 63))) c = (mb_b M c ^^ decide (c = (y * wd + x))) := fun c => by rw [mb_xor, mb_one (by omega)]
      have b1 : ∀ i, mb_b (M ^^^ ((1 : Int64) <<< ((nI (y * wd + x)).toInt64 &&& 63))) i = true → i < N := fun i hi' => by
        rw [hb] at hi'
        by_cases e : i = (y * wd + x)
        · omega
        · rw [decide_eq_false e, Bool.xor_false] at hi'; exact i1 i hi'
      have bm : ∀ z : Int32, z = (if mb_b M (y * wd + x) then 0 else 1) → mg_mi N (M ^^^ ((1 : Int64) <<< ((nI (y * wd + x)).toInt64 &&& 63))) (upd mi (y * wd + x) z) := fun z hz c hcN => by
        rw [hb]
        by_cases e : c = (y * wd + x)
        · rw [e, pk_us, hz]; cases q : mb_b M (y * wd + x) <;> simp [q]
        · rw [pk_un e, decide_eq_false e, Bool.xor_false]; exact hm c hcN
      refine br_t rfl (mx_on_t hX.1 hx hy (br_f (by decide) (mx_index (nm_e (mx_mineAt (M := M ^^^ ((1 : Int64) <<< ((nI (y * wd + x)).toInt64 &&& 63))) hX hx hy (fun g => ?_) (fun g => ?_))))))
      · rw [hb, decide_eq_true rfl, Bool.xor_true, Bool.not_eq_true'] at g
        refine br_t rfl (my_off_t hX.1 hx hy (br_t rfl (And.intro v (br_t (ea.mpr g) (And.intro v (nm_r (e' := upd mi (y * wd + x) 1) (by rw [ec]; rfl) (And.intro v (br_f ?_ ⟨rfl, mr_mk ⟨hX, hY, bm 1 (by rw [g]; rfl), hc, b1, i2, i3, i4, i5, i6, i7, i8, fun y => absurd y (by decide)⟩⟩))))))))
        rw [ec, pk_us]; decide
      · rw [hb, decide_eq_true rfl, Bool.xor_true, Bool.not_eq_false'] at g
        refine br_t rfl (my_off_t hX.1 hx hy (br_t rfl (And.intro v (br_f (fun y => by rw [ea.mp y] at g; exact absurd g (by decide)) (And.intro v (nm_r (e' := upd mi (y * wd + x) 0) (by rw [ec]; rfl) (And.intro v (br_t ?_ ⟨rfl, mr_mk ⟨hX, hY, bm 0 (by rw [g]; rfl), hc, b1, i2, i3, i4, i5, i6, i7, i8, fun y => absurd y (by decide)⟩⟩))))))))
        rw [ec, pk_us]
    · exact br_t rfl (mx_on_f hX.1 z (br_t rfl (br_t rfl (my_off_f hX.1 z (br_f (by decide) ⟨rfl, mr_mk I0⟩)))))
  · exact br_f e0 (br_f e0 ⟨rfl, mr_mk I0⟩)
theorem mv_flag (I : mr_I wd hd N bd ph M O F B nr bn cl ro mi co) (p q : Int32) : wpX_flag (fun r u' => wpY_flag (fun r' v' => r' = r ∧ i_Rel (k + 3) u' v') (nI wd, nI hd, nI N, ph, tt, cl, ro, mi, co, mq, eg, nu, ho, pa) p q) (nI wd, nI hd, nI N, bd, ph, M, O, F, B, gc, cc, tw, fw, nr, bn, cg, gs, gp, gk, gw, od, ch, hst, jo) p q := by
  have I0 := I
  obtain ⟨hX, hY, hm, hc, i1, i2, i3, i4, i5, i6, i7, i8, i9⟩ := I
  have hN := mg_N64 hX.1
  unfold wpX_flag wpY_flag
  refine mx_ref hX (fun e => ?_) (fun e z => ?_) (fun e x y hx hy ep eq hz => ?_) (fun e x y hx hy ep eq hz => ?_)
  · exact br_f (by decide) (my_ref hY hc (fun _ => br_f (by decide) ⟨rfl, mr_mk I0⟩) (fun e' => absurd e' e) (fun e' => absurd e' e) (fun e' => absurd e' e))
  · exact br_f (by decide) (my_ref hY hc (fun e' => absurd e e') (fun _ _ => br_f (by decide) ⟨rfl, mr_mk I0⟩) (fun _ x y hx hy ep eq => absurd ⟨x, y, hx, hy, ep, eq⟩ z) (fun _ x y hx hy ep eq => absurd ⟨x, y, hx, hy, ep, eq⟩ z))
  · subst ep eq
    exact br_f (by decide) (my_ref hY hc (fun e' => absurd e e') (fun _ z => absurd ⟨x, y, hx, hy, rfl, rfl⟩ z) (fun _ _ _ _ _ _ _ _ => br_f (by decide) ⟨rfl, mr_mk I0⟩) (fun _ x' y' hx' hy' ep eq h => by
      rw [nI_eq (by have := hX.1.2.1; omega) (by have := hX.1.2.1; omega)] at ep
      rw [nI_eq (by have := hX.1.2.2.2.1; omega) (by have := hX.1.2.2.2.1; omega)] at eq
      subst ep eq; exact absurd h hz))
  · subst ep eq
    have hi := mg_ix hX.1 hx hy
    have ei : nI y * nI wd + nI x = nI (y * wd + x) := by rw [pk_mul, nI_add]
    have v : vp_in (nI (y * wd + x)) 64 := vp_in_nI (by omega) (by omega)
    have ec : (nI (y * wd + x)).toNatClampNeg = y * wd + x := nI_clamp (by omega)
    obtain ⟨_, t1, t2⟩ := mg_h_iff.mp hz
    have yr : ∀ {post : Int32 → Prop}, post 0 → wpY_refuse post (nI wd, nI hd, nI N, ph, tt, cl, ro, mi, co, mq, eg, nu, ho, pa) (nI x) (nI y) := fun h => my_ref hY hc (fun e' => absurd e e') (fun _ z => absurd ⟨x, y, hx, hy, rfl, rfl⟩ z) (fun _ x' y' hx' hy' ep eq h => by
      rw [nI_eq (by have := hX.1.2.1; omega) (by have := hX.1.2.1; omega)] at ep
      rw [nI_eq (by have := hX.1.2.2.2.1; omega) (by have := hX.1.2.2.2.1; omega)] at eq
      subst ep eq; exact absurd hz h) (fun _ _ _ _ _ _ _ _ => h)
    have e0 : ¬ ph = 0 := fun z => by rw [z] at e; exact absurd e (by decide)
    refine br_t (by decide) (mx_index ?_)
    have hcI := hc _ hi
    generalize y * wd + x = t at *
    have hb : ∀ c, mb_b (F ^^^ ((1 : Int64) <<< ((nI t).toInt64 &&& 63))) c = (mb_b F c ^^ decide (c = t)) := fun c => by rw [mb_xor, mb_one (by omega)]
    have b3 : ∀ i, mb_b (F ^^^ ((1 : Int64) <<< ((nI t).toInt64 &&& 63))) i = true → i < N := fun i hi' => by
      rw [hb] at hi'
      by_cases e : i = t
      · omega
      · rw [decide_eq_false e, Bool.xor_false] at hi'; exact i3 i hi'
    have b5 : ∀ i, ¬ (mb_b O i = true ∧ mb_b (F ^^^ ((1 : Int64) <<< ((nI t).toInt64 &&& 63))) i = true) := fun i ⟨h1, h2⟩ => by
      rw [hb] at h2
      by_cases e : i = t
      · rw [e, t1] at h1; exact absurd h1 (by decide)
      · rw [decide_eq_false e, Bool.xor_false] at h2; exact i5 i ⟨h1, h2⟩
    have b7 : ∀ i, ¬ (mb_b (F ^^^ ((1 : Int64) <<< ((nI t).toInt64 &&& 63))) i = true ∧ mb_b B i = true) := fun i ⟨h2, h1⟩ => by
      rw [hb] at h2
      by_cases e : i = t
      · rw [e, t2] at h1; exact absurd h1 (by decide)
      · rw [decide_eq_false e, Bool.xor_false] at h2; exact i7 i ⟨h2, h1⟩
    have bc : ∀ z : Int32, z = (if mb_b F t then 9 else 10) → mg_co N O (F ^^^ ((1 : Int64) <<< ((nI t).toInt64 &&& 63))) B (upd co t z) := fun z hz c hcN => by
      unfold mg_cv
      rw [hb]
      by_cases e : c = t
      · subst e; rw [pk_us, hz, t1, t2]; cases mb_b F c <;> simp
      · rw [pk_un e, decide_eq_false e, Bool.xor_false]; exact hc c hcN
    refine nm_e (mx_isSetB (by omega) (fun g => ?_) (fun g => ?_))
    · rw [hb, decide_eq_true rfl, Bool.xor_true, Bool.not_eq_false'] at g
      refine yr (br_t rfl (nm_r ei (And.intro v (br_f ?_ (And.intro v (nm_r (e' := upd co t 9) (by rw [ec]) (And.intro v (br_f ?_ ⟨rfl, mr_mk ⟨hX, hY, hm, bc 9 (by rw [g]; rfl), i1, i2, b3, i4, b5, i6, b7, fun y => absurd y e0, i9⟩⟩))))))))
      · rw [ec, hcI, mg_cv9]; exact fun y => by rw [y.2.2] at g; exact absurd g (by decide)
      · rw [ec, pk_us]; decide
    · rw [hb, decide_eq_true rfl, Bool.xor_true, Bool.not_eq_true'] at g
      refine yr (br_t rfl (nm_r ei (And.intro v (br_t ?_ (And.intro v (nm_r (e' := upd co t 10) (by rw [ec]) (And.intro v (br_t ?_ ⟨rfl, mr_mk ⟨hX, hY, hm, bc 10 (by rw [g]; rfl), i1, i2, b3, i4, b5, i6, b7, fun y => absurd y e0, i9⟩⟩))))))))
      · rw [ec, hcI, mg_cv9]; exact ⟨t1, t2, g⟩
      · rw [ec, pk_us]
theorem mv_tally (I : mr_I wd hd N bd ph M O F B nr bn cl ro mi co) (p : Int32) : wpX_tally (fun r => wpY_tally (fun r' v' => r' = r ∧ i_Rel (k + 3) (nI wd, nI hd, nI N, bd, ph, M, O, F, B, gc, cc, tw, fw, nr, bn, cg, gs, gp, gk, gw, od, ch, hst, jo) v') (nI wd, nI hd, nI N, ph, tt, cl, ro, mi, co, mq, eg, nu, ho, pa) p) (nI wd, nI hd, nI N, bd, ph, M, O, F, B, gc, cc, tw, fw, nr, bn, cg, gs, gp, gk, gw, od, ch, hst, jo) p := by
  have I0 := I
  obtain ⟨hX, hY, hm, hc, i1, i2, i3, i4, i5, i6, i7, i8, i9⟩ := I
  have hN := mg_N64 hX.1
  have else_ : p < 0 ∨ 6 < p → wpY_tally (fun r' v' => r' = -9 ∧ i_Rel (k + 3) (nI wd, nI hd, nI N, bd, ph, M, O, F, B, gc, cc, tw, fw, nr, bn, cg, gs, gp, gk, gw, od, ch, hst, jo) v') (nI wd, nI hd, nI N, ph, tt, cl, ro, mi, co, mq, eg, nu, ho, pa) p := fun z => by
    refine br_f ?_ (br_f ?_ (br_f ?_ (br_f ?_ (br_f ?_ (br_f ?_ (br_f ?_ ⟨rfl, mr_mk I0⟩)))))) <;>
    · intro e; rw [e] at z; exact absurd z (by decide)
  unfold wpX_tally
  refine mx_edge hX fun E hE => br_c (fun z => else_ (Or.inl z)) fun _ => br_c (fun z => else_ (Or.inr z)) fun _ => br_c (fun e => ?_) fun n0 => br_c (fun e => ?_) fun n1 => br_c (fun e => ?_) fun n2 => br_c (fun e => ?_) fun n3 => br_c (fun e => ?_) fun n4 => br_c (fun e => ?_) fun n5 => br_c (fun e => ?_) fun _ => trivial
  · exact br_t e ⟨rfl, mr_mk I0⟩
  · refine mx_bitCount (br_f n0 (br_t e (my_mineCount hN hm ⟨?_, mr_mk I0⟩)))
    rw [mg_pcN hN i1]
  · refine mx_bitCount (br_f n0 (br_f n1 (br_t e (my_condCount hN ⟨?_, mr_mk I0⟩))))
    rw [mg_pcN hN i3]
    congr 1
    exact mb_c_eq fun i hi => by
      rw [hc i hi, Bool.eq_iff_iff, decide_eq_true_eq, mg_cv10]
      exact ⟨fun h => h.2.2, fun h => ⟨mb_f fun y => i5 i ⟨y, h⟩, mb_f fun y => i7 i ⟨h, y⟩, h⟩⟩
  · refine mx_bitCount (br_f n0 (br_f n1 (br_f n2 (br_t e (my_condCount hN ⟨?_, mr_mk I0⟩)))))
    rw [mg_pcN hN i2]
    congr 1
    exact mb_c_eq fun i hi => by
      rw [hc i hi, Bool.eq_iff_iff, decide_eq_true_eq, mg_cv12]
  · refine mx_bitCount (br_f n0 (br_f n1 (br_f n2 (br_f n3 (br_t e (my_list hY hc fun eg' _ => ⟨?_, mr_mk I0⟩))))))
    rw [mg_pcN hN (M := E) (fun i h => by rw [hE] at h; exact mg_e_lt h)]
    congr 1
    exact mb_c_eq fun i _ => (hE i).symm
  · exact br_f n0 (br_f n1 (br_f n2 (br_f n3 (br_f n4 (br_t e ⟨rfl, mr_mk I0⟩)))))
  · exact br_f n0 (br_f n1 (br_f n2 (br_f n3 (br_f n4 (br_f n5 (br_t e ⟨rfl, mr_mk I0⟩))))))
end
end
section
/-! ===== spreading: the least set that holds the seeds and the free neighbours of its zero cells ===== -/
def ms_cl (z fr : Nat → Bool) (nb : Nat → Nat → Bool) (S : Nat → Bool) (c : Nat) : Prop := ∀ T : Nat → Prop, (∀ c, S c = true → T c) → (∀ c b, T c → z c = true → fr b = true → nb c b = true → T b) → T c
theorem ms_seed {z fr : Nat → Bool} {nb : Nat → Nat → Bool} {S : Nat → Bool} {c : Nat} (h : S c = true) : ms_cl z fr nb S c := fun _ h1 _ => h1 c h
theorem ms_step {z fr : Nat → Bool} {nb : Nat → Nat → Bool} {S : Nat → Bool} {c b : Nat} (h : ms_cl z fr nb S c) (h1 : z c = true) (h2 : fr b = true) (h3 : nb c b = true) : ms_cl z fr nb S b := fun T t1 t2 => t2 c b (h T t1 t2) h1 h2 h3
def ms_z (wd N : Nat) (M : Int64) (c : Nat) : Bool := decide (mg_num wd N M c = 0)
def ms_f (N : Nat) (O F B : Int64) (c : Nat) : Bool := mg_h N O B c && !(mb_b F c)
theorem ms_f9 {N : Nat} {O F B : Int64} {c : Nat} (h : c < N) : ms_f N O F B c = true ↔ mg_cv O F B c = 9 := by
  unfold ms_f
  rw [Bool.and_eq_true, mg_h_iff, mg_cv9, Bool.not_eq_true']
  constructor
  · rintro ⟨⟨_, h1, h2⟩, h3⟩; exact ⟨h1, h2, h3⟩
  · rintro ⟨h1, h2, h3⟩; exact ⟨⟨h, h1, h2⟩, h3⟩
theorem ms_f_lt {N : Nat} {O F B : Int64} {c : Nat} (h : ms_f N O F B c = true) : c < N := by
  unfold ms_f at h
  rw [Bool.and_eq_true] at h
  exact (mg_h_iff.mp h.1).1
theorem mb_c_one {j n : Nat} (h : j < n) : mb_c (fun i => decide (i = j)) n = 1 := by
  rw [← mp_s_cnt, mp_s_one (k := j) h (fun i _ hi => if_neg (by simp [hi])), if_pos (decide_eq_true rfl)]
theorem mb_c_del {p : Nat → Bool} {j n : Nat} (h : j < n) (hp : p j = true) : mb_c (fun i => p i && !(decide (i = j))) n + 1 = mb_c p n := by
  have e := mb_c_split p (fun i => decide (i = j)) n
  have f : mb_c (fun i => p i && decide (i = j)) n = mb_c (fun i => decide (i = j)) n := mb_c_eq fun i _ => by
    by_cases z : i = j
    · rw [z, hp]; rfl
    · rw [decide_eq_false z, Bool.and_false]
  rw [f, mb_c_one h] at e
  omega
section
variable {wd hd N : Nat} {bd : Int64} {ph : Int32} {M O F B : Int64} {gc cc : Int32} {tw fw : Int64} {nr bn : Nat → Int64} {cg gs gp : Nat → Int32} {gk gw : Nat → Int64} {od ch : Nat → Int32} {hst jo : Nat → Int64}
theorem mx_spread_l {post : Int32 → SX → Prop} (hX : mg_BX wd hd N bd nr bn) {S fr : Int64} (hfr : ∀ c, mb_b fr c = ms_f N O F B c) (hS : ∀ c, mb_b S c = true → c < N)
    (h1 : ∀ R : Int64, (∀ c, mb_b R c = true ↔ ms_cl (ms_z wd N M) (ms_f N O F B) (mg_nb wd N) (mb_b S) c) → (∀ c, mb_b R c = true → c < N) → (O ||| R) ||| M = bd → post (nI (mb_pc R)) (nI wd, nI hd, nI N, bd, 2, M, O ||| R, F, B, gc, cc, tw, fw, nr, bn, cg, gs, gp, gk, gw, od, ch, hst, jo))
    (h2 : ∀ R : Int64, (∀ c, mb_b R c = true ↔ ms_cl (ms_z wd N M) (ms_f N O F B) (mg_nb wd N) (mb_b S) c) → (∀ c, mb_b R c = true → c < N) → ¬ (O ||| R) ||| M = bd → post (nI (mb_pc R)) (nI wd, nI hd, nI N, bd, ph, M, O ||| R, F, B, gc, cc, tw, fw, nr, bn, cg, gs, gp, gk, gw, od, ch, hst, jo)) :
    ∀ (k s n : Nat) (R Q : Int64), s + k = 64 → k < n → (∀ c, mb_b Q c = true → mb_b R c = true) → (∀ c, mb_b S c = true → mb_b R c = true) → (∀ c, mb_b R c = true → ms_cl (ms_z wd N M) (ms_f N O F B) (mg_nb wd N) (mb_b S) c) →
      (∀ c b, mb_b R c = true → mb_b Q c = false → ms_z wd N M c = true → ms_f N O F B b = true → mg_nb wd N c b = true → mb_b R b = true) → s + mb_pc Q = mb_pc R → (∀ c, mb_b R c = true → c < N) → wX_spread_23 post fr (nI wd) (nI hd) (nI N) bd ph M O F B gc cc tw fw nr bn cg gs gp gk gw od ch hst jo n R Q (nI s) := by
  have fin : ∀ R : Int64, (∀ c, mb_b S c = true → mb_b R c = true) → (∀ c, mb_b R c = true → ms_cl (ms_z wd N M) (ms_f N O F B) (mg_nb wd N) (mb_b S) c) → (∀ c, mb_b R c = true → c < N) →
      (∀ c b, mb_b R c = true → ms_z wd N M c = true → ms_f N O F B b = true → mg_nb wd N c b = true → mb_b R b = true) → wX_spread_109 post R (nI wd) (nI hd) (nI N) bd ph M O F B gc cc tw fw nr bn cg gs gp gk gw od ch hst jo := fun R q1 q2 q4 q3 => by
    have e : ∀ c, mb_b R c = true ↔ ms_cl (ms_z wd N M) (ms_f N O F B) (mg_nb wd N) (mb_b S) c := fun c => ⟨q2 c, fun z => z (fun c => mb_b R c = true) q1 q3⟩
    exact nm_e (br_c (fun z => mx_bitCount (h1 R e q4 z)) (fun z => mx_bitCount (h2 R e q4 z)))
  intro k
  induction k with
  | zero =>
    intro s n R Q hs hn a1 a2 a3 a4 a5 a6
    obtain ⟨m, rfl⟩ : ∃ m, n = m + 1 := ⟨n - 1, by omega⟩
    have : s = 64 := by omega
    subst this
    have l := mb_pc_le R
    have z : ∀ c, mb_b Q c = false := fun c => by
      rcases Nat.lt_or_ge c 64 with y | y
      · exact mb_c_eq0 (p := mb_b Q) (n := 64) (by have : mb_pc Q = mb_c (mb_b Q) 64 := rfl
                                                   omega) c y
      · exact mb_big y
    exact br_t (nI_le (a := 64) (b := 64) (Nat.le_refl _) (by omega)) (fin R a2 a3 a6 fun c b b1 b2 b3 b4 => a4 c b b1 (z c) b2 b3 b4)
  | succ k ih =>
    intro s n R Q hs hn a1 a2 a3 a4 a5 a6
    obtain ⟨m, rfl⟩ : ∃ m, n = m + 1 := ⟨n - 1, by omega⟩
    have hN := mg_N64 hX.1
    refine br_f (nI_ge (b := 64) (by omega) (by omega)) (br_c (fun z => fin R a2 a3 a6 fun c b b1 b2 b3 b4 => a4 c b b1 (by rw [z, mb_0]) b2 b3 b4) fun z => ?_)
    obtain ⟨j, j1, j2, j3, j4⟩ := mc_low z
    have jR := a1 j j2
    have jN := a6 j jR
    refine nm_e (mx_bitCount ?_)
    rw [j4]
    have st : ∀ Z : Int64, (∀ b, mb_b Z b = (ms_z wd N M j && mg_nb wd N j b && ms_f N O F B b && !(mb_b R b))) → wX_spread_84 post (wX_spread_23 post fr (nI wd) (nI hd) (nI N) bd ph M O F B gc cc tw fw nr bn cg gs gp gk gw od ch hst jo m) fr R Q (nI s) (Q &&& (-Q)) Z (nI wd) (nI hd) (nI N) bd ph M O F B gc cc tw fw nr bn cg gs gp gk gw od ch hst jo := fun Z hZ => by
      have q : ∀ c, mb_b ((Q ^^^ (Q &&& (-Q))) ||| Z) c = ((mb_b Q c && !(decide (c = j))) || mb_b Z c) := fun c => by
        rw [mb_or, mb_xor, j3, mb_one j1]
        by_cases e : c = j
        · rw [e, j2, decide_eq_true rfl]; rfl
        · rw [decide_eq_false e]; simp
      have d1 : ∀ i, i < 64 → ¬ (mb_b R i = true ∧ mb_b Z i = true) := fun i _ ⟨t1, t2⟩ => by
        rw [hZ, t1] at t2; simp at t2
      have c1 : mb_pc (R ||| Z) = mb_pc R + mb_pc Z := by
        show mb_c _ 64 = mb_c _ 64 + mb_c _ 64
        rw [← mb_c_or d1]
        exact mb_c_eq fun i _ => mb_or R Z i
      have c2 : mb_pc ((Q ^^^ (Q &&& (-Q))) ||| Z) + 1 = mb_pc Q + mb_pc Z := by
        have e : mb_pc ((Q ^^^ (Q &&& (-Q))) ||| Z) = mb_c (fun c => mb_b Q c && !(decide (c = j))) 64 + mb_pc Z := by
          show mb_c _ 64 = _ + mb_c _ 64
          rw [← mb_c_or (p := fun c => mb_b Q c && !(decide (c = j))) (q := mb_b Z) (fun i hi ⟨t1, t2⟩ => d1 i hi ⟨a1 i (by rw [Bool.and_eq_true] at t1; exact t1.1), t2⟩)]
          exact mb_c_eq fun i _ => q i
        have := mb_c_del (p := mb_b Q) (n := 64) j1 j2
        have e3 : mb_pc Q = mb_c (mb_b Q) 64 := rfl
        omega
      refine nm_e (nm_e (nm_r (nI_1 s) (ih (s + 1) m (R ||| Z) _ (by omega) (by omega) (fun c t => ?_) (fun c t => ?_) (fun c t => ?_) (fun c b t1 t2 t3 t4 t5 => ?_) (by omega) (fun c t => ?_))))
      · rw [q, Bool.or_eq_true, Bool.and_eq_true] at t
        rw [mb_or, Bool.or_eq_true]
        rcases t with t | t
        · exact Or.inl (a1 c t.1)
        · exact Or.inr t
      · rw [mb_or, a2 c t]; rfl
      · rw [mb_or, Bool.or_eq_true] at t
        rcases t with t | t
        · exact a3 c t
        · rw [hZ, Bool.and_eq_true, Bool.and_eq_true, Bool.and_eq_true] at t
          exact ms_step (a3 j jR) t.1.1.1 t.1.2 t.1.1.2
      · rw [mb_or, Bool.or_eq_true] at t1
        rw [q, Bool.or_eq_false_iff] at t2
        rw [mb_or, Bool.or_eq_true]
        rcases t1 with t1 | t1
        · by_cases e : c = j
          · subst e
            cases r : mb_b R b
            · right; rw [hZ, t3, t4, t5, r]; rfl
            · left; rfl
          · left
            refine a4 c b t1 (mb_f fun y => ?_) t3 t4 t5
            rw [y, decide_eq_false e] at t2
            exact absurd t2.1 (by decide)
        · rw [t1] at t2; exact absurd t2.2 (by decide)
      · rw [mb_or, Bool.or_eq_true] at t
        rcases t with t | t
        · exact a6 c t
        · rw [hZ, Bool.and_eq_true, Bool.and_eq_true] at t
          exact ms_f_lt t.1.2
    refine mx_number hX jN (br_c (fun y => And.intro (vp_in_nI (by omega) (by omega)) (st _ fun b => ?_)) (fun y => st 0 fun b => ?_))
    · have l : mg_num wd N M j ≤ N := mb_c_le _ N
      have y' : mg_num wd N M j = 0 := (nI_eq (b := 0) (by omega) (by omega)).mp y
      rw [mb_and, mb_and, nI_clamp (by omega), hX.2.2.1 j jN, hfr]
      have e : ms_z wd N M j = true := decide_eq_true y'
      rw [e, Bool.true_and]
      rcases Nat.lt_or_ge b 64 with w | w
      · rw [mb_not _ w]
      · have : mg_nb wd N j b = false := mb_f fun t => by have := (mg_nb_iff.mp t).2.1; omega
        rw [this]; rfl
    · have e : ms_z wd N M j = false := decide_eq_false fun t => y (by
        show nI (mg_num wd N M j) = 0
        rw [t]; rfl)
      rw [e, mb_0]; rfl
theorem mx_spread {post : Int32 → SX → Prop} (hX : mg_BX wd hd N bd nr bn) {S : Int64} (hS : ∀ c, mb_b S c = true → c < N)
    (h1 : ∀ R : Int64, (∀ c, mb_b R c = true ↔ ms_cl (ms_z wd N M) (ms_f N O F B) (mg_nb wd N) (mb_b S) c) → (∀ c, mb_b R c = true → c < N) → (O ||| R) ||| M = bd → post (nI (mb_pc R)) (nI wd, nI hd, nI N, bd, 2, M, O ||| R, F, B, gc, cc, tw, fw, nr, bn, cg, gs, gp, gk, gw, od, ch, hst, jo))
    (h2 : ∀ R : Int64, (∀ c, mb_b R c = true ↔ ms_cl (ms_z wd N M) (ms_f N O F B) (mg_nb wd N) (mb_b S) c) → (∀ c, mb_b R c = true → c < N) → ¬ (O ||| R) ||| M = bd → post (nI (mb_pc R)) (nI wd, nI hd, nI N, bd, ph, M, O ||| R, F, B, gc, cc, tw, fw, nr, bn, cg, gs, gp, gk, gw, od, ch, hst, jo)) : wpX_spread post (nI wd, nI hd, nI N, bd, ph, M, O, F, B, gc, cc, tw, fw, nr, bn, cg, gs, gp, gk, gw, od, ch, hst, jo) S := by
  unfold wpX_spread
  refine mx_hidden hX fun R hR => nm_e ⟨65, mx_spread_l hX (S := S) (fun c => ?_) hS h1 h2 64 0 65 S S (by omega) (by omega) (fun _ z => z) (fun _ z => z) (fun c z => ms_seed z) (fun c b t1 t2 => by rw [t1] at t2; exact absurd t2 (by decide)) (by omega) hS⟩
  rw [mb_and, hR]
  unfold ms_f
  rcases Nat.lt_or_ge c 64 with w | w
  · rw [mb_not _ w]
  · have : mg_h N O B c = false := mb_f fun t => by have := (mg_h_iff.mp t).1; have := mg_N64 hX.1; omega
    rw [this]; rfl
end
end
section
/-! ===== Y's spread ===== -/
def ms_m (mq : Nat → Int32) (c : Nat) : Bool := decide (¬ mq c = 0)
theorem ms_m_t {mq : Nat → Int32} {c : Nat} : ms_m mq c = true ↔ ¬ mq c = 0 := decide_eq_true_iff
theorem ms_m_f {mq : Nat → Int32} {c : Nat} : ms_m mq c = false ↔ mq c = 0 := by
  unfold ms_m
  rw [decide_eq_false_iff_not]
  exact ⟨fun h => Classical.byContradiction h, fun h n => n h⟩
theorem ms_m_upd {mq : Nat → Int32} {b c : Nat} : ms_m (upd mq b 1) c = (ms_m mq c || decide (c = b)) := by
  unfold ms_m
  by_cases e : c = b
  · rw [e, pk_us, decide_eq_true rfl, Bool.or_true]; rfl
  · rw [pk_un e, decide_eq_false e, Bool.or_false]
section
variable {wd hd N : Nat}
variable {yp : Int32} {tt : Int64} {cl ro mi co mq eg nu : Nat → Int32} {ho pa : Nat → Int64}
variable {M O F B : Int64} {Cl : Nat → Prop} {mk0 : Nat → Int32}
/-- what a pass holds: marks between mk0 and Cl; g = 0: nothing new and the first cells closed; g = 1: more marks -/
def ms_P (N : Nat) (Cl : Nat → Prop) (mk0 : Nat → Int32) (g : Int32) (mq : Nat → Int32) : Prop :=
  (∀ c, c < N → ms_m mk0 c = true → ms_m mq c = true) ∧ (∀ c, c < N → ms_m mq c = true → Cl c) ∧ ((g = 0 ∧ mq = mk0) ∨ (g = 1 ∧ mb_c (ms_m mk0) N < mb_c (ms_m mq) N))
theorem ms_P_add {g : Int32} {mq : Nat → Int32} {b : Nat} (h : ms_P N Cl mk0 g mq) (hb : b < N) (h0 : mq b = 0) (hC : Cl b) : ms_P N Cl mk0 1 (upd mq b 1) := by
  obtain ⟨p1, p2, p3⟩ := h
  have up : ∀ c, ms_m mq c = true → ms_m (upd mq b 1) c = true := fun c hc => by rw [ms_m_upd, hc]; rfl
  have lt : mb_c (ms_m mq) N < mb_c (ms_m (upd mq b 1)) N := mb_c_lt (fun c _ => up c) hb (ms_m_f.mpr h0) (by rw [ms_m_upd, decide_eq_true rfl, Bool.or_true])
  refine ⟨fun c hc z => up c (p1 c hc z), fun c hc z => ?_, Or.inr ⟨rfl, ?_⟩⟩
  · rw [ms_m_upd, Bool.or_eq_true, decide_eq_true_eq] at z
    rcases z with z | z
    · exact p2 c hc z
    · rw [z]; exact hC
  · rcases p3 with ⟨_, e⟩ | ⟨_, l⟩
    · rw [← e]; exact lt
    · omega
theorem my_grow_in {post : Int32 → SY → Prop} {J : Int32 → Int32 → (Nat → Int32) → (Nat → Int32) → (Nat → Int32) → (Nat → Int32) → (Nat → Int32) → (Nat → Int32) → (Nat → Int32) → (Nat → Int64) → (Nat → Int64) → Prop} (Yb : mg_BY wd hd N cl ro) (hc : mg_co N O F B co) {c : Nat} (h : c < N) {P : Int32 → (Nat → Int32) → Prop} (hA : ∀ g mq b, P g mq → b < N → mq b = 0 → Cl b → P 1 (upd mq b 1))
    (hC : ∀ b, ms_f N O F B b = true → mg_nb wd N c b = true → Cl b)
    (hJ : ∀ g mq, P g mq → (g = 0 → ∀ b, ms_f N O F B b = true → mg_nb wd N c b = true → ms_m mq b = true) → J g (nI (c + 1)) cl ro mi co mq eg nu ho pa) :
    ∀ (k i n : Nat) (g : Int32) (mq : Nat → Int32), i + k = N → k < n → P g mq → (g = 0 → ∀ b, b < i → ms_f N O F B b = true → mg_nb wd N c b = true → ms_m mq b = true) → wY_grow_34 post J (nI c) (nI wd) (nI hd) (nI N) yp tt n g (nI i) cl ro mi co mq eg nu ho pa
  | 0, i, n, g, mq, hi, hn, hP, h0 => by
    obtain ⟨m, rfl⟩ : ∃ m, n = m + 1 := ⟨n - 1, by omega⟩
    have : i = N := by omega
    subst this
    exact br_t (nI_le (Nat.le_refl _) (by have := mg_N64 Yb.1; omega)) (nm_r (nI_1 c) (hJ g mq hP fun e b b1 b2 => h0 e b (ms_f_lt b1) b1 b2))
  | k + 1, i, n, g, mq, hi, hn, hP, h0 => by
    obtain ⟨m, rfl⟩ : ∃ m, n = m + 1 := ⟨n - 1, by omega⟩
    have hN := mg_N64 Yb.1
    have e : (nI i).toNatClampNeg = i := nI_clamp (by omega)
    have v : vp_in (nI i) 64 := vp_in_nI (by omega) (by omega)
    have nx : (g = 0 → ms_f N O F B i = true → mg_nb wd N c i = true → ms_m mq i = true) → wY_grow_34 post J (nI c) (nI wd) (nI hd) (nI N) yp tt m g (nI (i + 1)) cl ro mi co mq eg nu ho pa := fun q => my_grow_in Yb hc h hA hC hJ k (i + 1) m g mq (by omega) (by omega) hP fun g0 b hb b1 b2 => by
      by_cases y : b = i
      · subst y; exact q g0 b1 b2
      · exact h0 g0 b (by omega) b1 b2
    refine br_f (nI_ge (by omega) (by omega)) (And.intro v (br_c (fun z => And.intro v (br_c (fun z2 => ?_) (fun z2 => ?_))) (fun z => ?_)))
    · rw [e, hc i (by omega), ← ms_f9 (N := N) (by omega)] at z
      rw [e] at z2
      refine my_nearB Yb (by omega) h (fun t => ?_) (fun t => ?_)
      · refine nm_r (nI_1 i) (nx fun _ _ y => ?_)
        rw [mg_nb_symm, t] at y; exact absurd y (by decide)
      · refine And.intro v (nm_r (e' := upd mq i 1) (by rw [e]; rfl) (nm_r (nI_1 i) (my_grow_in Yb hc h hA hC hJ k (i + 1) m 1 (upd mq i 1) (by omega) (by omega) (hA g mq i hP (by omega) z2 (hC i z (by rw [mg_nb_symm]; exact t))) fun y => absurd y (by decide))))
    · rw [e] at z2
      exact nm_r (nI_1 i) (nx fun _ _ _ => ms_m_t.mpr z2)
    · rw [e, hc i (by omega), ← ms_f9 (N := N) (by omega)] at z
      exact nm_r (nI_1 i) (nx fun _ y => absurd y z)
theorem my_grow_out {post : Int32 → SY → Prop} (Yb : mg_BY wd hd N cl ro) (hm : mg_mi N M mi) (hc : mg_co N O F B co)
    (hC : ∀ c b, Cl c → ms_z wd N M c = true → ms_f N O F B b = true → mg_nb wd N c b = true → Cl b)
    (h : ∀ g mq, ms_P N Cl mk0 g mq → (g = 0 → ∀ c, c < N → ms_m mq c = true → ms_z wd N M c = true → ∀ b, ms_f N O F B b = true → mg_nb wd N c b = true → ms_m mq b = true) → post g (nI wd, nI hd, nI N, yp, tt, cl, ro, mi, co, mq, eg, nu, ho, pa)) :
    ∀ (k i n : Nat) (g : Int32) (mq : Nat → Int32), i + k = N → k < n → ms_P N Cl mk0 g mq → (g = 0 → ∀ c, c < i → ms_m mq c = true → ms_z wd N M c = true → ∀ b, ms_f N O F B b = true → mg_nb wd N c b = true → ms_m mq b = true) → wY_grow_4 post (nI wd) (nI hd) (nI N) yp tt n g (nI i) cl ro mi co mq eg nu ho pa
  | 0, i, n, g, mq, hi, hn, hP, h0 => by
    obtain ⟨m, rfl⟩ : ∃ m, n = m + 1 := ⟨n - 1, by omega⟩
    have : i = N := by omega
    subst this
    refine br_t (nI_le (Nat.le_refl _) (by have := mg_N64 Yb.1; omega)) (And.intro ?_ (h g mq hP h0))
    rcases hP.2.2 with ⟨e, _⟩ | ⟨e, _⟩ <;> rw [e] <;> rfl
  | k + 1, i, n, g, mq, hi, hn, hP, h0 => by
    obtain ⟨m, rfl⟩ : ∃ m, n = m + 1 := ⟨n - 1, by omega⟩
    have hN := mg_N64 Yb.1
    have e : (nI i).toNatClampNeg = i := nI_clamp (by omega)
    have v : vp_in (nI i) 64 := vp_in_nI (by omega) (by omega)
    have nx : ∀ g mq, ms_P N Cl mk0 g mq → (g = 0 → ∀ c, c < i → ms_m mq c = true → ms_z wd N M c = true → ∀ b, ms_f N O F B b = true → mg_nb wd N c b = true → ms_m mq b = true) → (g = 0 → ms_m mq i = true → ms_z wd N M i = true → ∀ b, ms_f N O F B b = true → mg_nb wd N i b = true → ms_m mq b = true) → wY_grow_4 post (nI wd) (nI hd) (nI N) yp tt m g (nI (i + 1)) cl ro mi co mq eg nu ho pa := fun g mq hP h0 q => my_grow_out Yb hm hc hC h k (i + 1) m g mq (by omega) (by omega) hP fun g0 c hc' => by
      by_cases y : c = i
      · subst y; exact q g0
      · exact h0 g0 c (by omega)
    refine br_f (nI_ge (by omega) (by omega)) (And.intro v (br_c (fun z => ?_) (fun z => ?_)))
    · rw [e] at z
      exact nm_r (nI_1 i) (nx g mq hP h0 fun _ y => by rw [ms_m_f.mpr z] at y; exact absurd y (by decide))
    · rw [e] at z
      have l : mg_num wd N M i ≤ N := mb_c_le _ N
      refine my_number Yb hm (by omega) (br_c (fun y => ?_) (fun y => ?_))
      · have y' : mg_num wd N M i = 0 := (nI_eq (b := 0) (by omega) (by omega)).mp y
        have yz : ms_z wd N M i = true := decide_eq_true y'
        have Ci := hP.2.1 i (by omega) (ms_m_t.mpr z)
        refine ⟨N + 1, my_grow_in (P := fun g' mq' => ms_P N Cl mk0 g' mq' ∧ (g' = 0 → g = 0 ∧ mq' = mq)) Yb hc (by omega) (fun g' mq' b q1 q2 q3 q4 => ⟨ms_P_add q1.1 q2 q3 q4, fun y => absurd y (by decide)⟩) (fun b b1 b2 => hC i b Ci yz b1 b2) (fun g' mq' hP' h' => nx g' mq' hP'.1 (fun g0 c hc' t1 t2 b t3 t4 => ?_) (fun g0 _ _ => h' g0)) N 0 (N + 1) g mq (by omega) (by omega) ⟨hP, fun g0 => ⟨g0, rfl⟩⟩ (fun _ b hb => absurd hb (Nat.not_lt_zero _))⟩
        obtain ⟨e1, e2⟩ := hP'.2 g0
        rw [e2] at t1 ⊢
        exact h0 e1 c hc' t1 t2 b t3 t4
      · exact nm_r (nI_1 i) (nx g mq hP h0 fun _ _ t => absurd (by rw [of_decide_eq_true t]; rfl) y)
theorem my_grow {post : Int32 → SY → Prop} (Yb : mg_BY wd hd N cl ro) (hm : mg_mi N M mi) (hc : mg_co N O F B co)
    (hC : ∀ c b, Cl c → ms_z wd N M c = true → ms_f N O F B b = true → mg_nb wd N c b = true → Cl b) (h0 : ∀ c, c < N → ms_m mk0 c = true → Cl c)
    (h : ∀ g mq, ms_P N Cl mk0 g mq → (g = 0 → ∀ c, c < N → ms_m mq c = true → ms_z wd N M c = true → ∀ b, ms_f N O F B b = true → mg_nb wd N c b = true → ms_m mq b = true) → post g (nI wd, nI hd, nI N, yp, tt, cl, ro, mi, co, mq, eg, nu, ho, pa)) : wpY_grow post (nI wd, nI hd, nI N, yp, tt, cl, ro, mi, co, mk0, eg, nu, ho, pa) :=
  ⟨N + 1, my_grow_out Yb hm hc hC h N 0 (N + 1) 0 mk0 (by omega) (by omega) ⟨fun _ _ z => z, h0, Or.inl ⟨rfl, rfl⟩⟩ (fun _ c hc => absurd hc (Nat.not_lt_zero _))⟩
def ms_won (N : Nat) (M O : Int64) (c : Nat) : Prop := ∀ i, i < c → mb_b M i = true ∨ mb_b O i = true
theorem my_open_l {post : Int32 → SY → Prop} {R : Int64} (hN : N ≤ 64) (hm : mg_mi N M mi) {co0 : Nat → Int32} (hc : mg_co N O F B co0) (hR : ∀ c, c < N → (ms_m mq c = true ↔ mb_b R c = true))
    (h1 : ∀ co, mg_co N (O ||| R) F B co → ms_won N M (O ||| R) N → post (nI (mb_c (mb_b R) N)) (nI wd, nI hd, nI N, 2, tt, cl, ro, mi, co, mq, eg, nu, ho, pa)) (h2 : ∀ co, mg_co N (O ||| R) F B co → ¬ ms_won N M (O ||| R) N → post (nI (mb_c (mb_b R) N)) (nI wd, nI hd, nI N, yp, tt, cl, ro, mi, co, mq, eg, nu, ho, pa)) :
    ∀ (k i n : Nat) (x : Int32) (co : Nat → Int32), i + k = N → k < n → (∀ c, c < i → co c = mg_cv (O ||| R) F B c) → (∀ c, i ≤ c → co c = co0 c) → ((x = 1 ∧ ms_won N M (O ||| R) i) ∨ (x = 0 ∧ ¬ ms_won N M (O ||| R) i)) → wY_spread_34 post (nI wd) (nI hd) (nI N) yp tt n (nI (mb_c (mb_b R) i)) x (nI i) cl ro mi co mq eg nu ho pa
  | 0, i, n, x, co, hi, hn, a1, a2, a3 => by
    obtain ⟨m, rfl⟩ : ∃ m, n = m + 1 := ⟨n - 1, by omega⟩
    have : i = N := by omega
    subst this
    refine br_t (nI_le (Nat.le_refl _) (by omega)) (br_c (fun z => ?_) (fun z => ?_))
    · rcases a3 with ⟨e, w⟩ | ⟨e, w⟩
      · rw [e] at z; exact absurd z (by decide)
      · exact h2 co a1 w
    · rcases a3 with ⟨e, w⟩ | ⟨e, w⟩
      · exact h1 co a1 w
      · exact absurd e z
  | k + 1, i, n, x, co, hi, hn, a1, a2, a3 => by
    obtain ⟨m, rfl⟩ : ∃ m, n = m + 1 := ⟨n - 1, by omega⟩
    have e : (nI i).toNatClampNeg = i := nI_clamp (by omega)
    have v : vp_in (nI i) 64 := vp_in_nI (by omega) (by omega)
    have eb : mb_c (mb_b R) (i + 1) = mb_c (mb_b R) i + (if mb_b R i then 1 else 0) := rfl
    have s : ∀ co', co' i = mg_cv (O ||| R) F B i → (∀ c, c ≠ i → co' c = co c) → wY_spread_65 post (wY_spread_34 post (nI wd) (nI hd) (nI N) yp tt m) (nI (mb_c (mb_b R) (i + 1))) x (nI i) (nI wd) (nI hd) (nI N) yp tt cl ro mi co' mq eg nu ho pa := fun co' c1 c2 => by
      have b1 : ∀ c, c < i + 1 → co' c = mg_cv (O ||| R) F B c := fun c hc' => by
        by_cases y : c = i
        · rw [y]; exact c1
        · rw [c2 c y]; exact a1 c (by omega)
      have b2 : ∀ c, i + 1 ≤ c → co' c = co0 c := fun c hc' => by rw [c2 c (by omega)]; exact a2 c (by omega)
      have keep : mb_b M i = true ∨ mb_b (O ||| R) i = true → (x = 1 ∧ ms_won N M (O ||| R) (i + 1)) ∨ (x = 0 ∧ ¬ ms_won N M (O ||| R) (i + 1)) := fun y => by
        rcases a3 with ⟨q, w⟩ | ⟨q, w⟩
        · left
          refine ⟨q, fun j hj => ?_⟩
          by_cases t : j = i
          · rw [t]; exact y
          · exact w j (by omega)
        · right; exact ⟨q, fun t => w fun j hj => t j (by omega)⟩
      refine And.intro v (br_c (fun z => And.intro v (br_c (fun z2 => ?_) (fun z2 => ?_))) (fun z => ?_))
      · rw [e, c1, mg_cv12] at z2
        exact nm_r (nI_1 i) (my_open_l hN hm hc hR h1 h2 k (i + 1) m x co' (by omega) (by omega) b1 b2 (keep (Or.inr z2)))
      · rw [e, mg_mi0 hm (by omega)] at z
        rw [e, c1, mg_cv12] at z2
        refine nm_r (nI_1 i) (my_open_l hN hm hc hR h1 h2 k (i + 1) m 0 co' (by omega) (by omega) b1 b2 (Or.inr ⟨rfl, fun t => ?_⟩))
        rcases t i (by omega) with t | t
        · rw [z] at t; exact absurd t (by decide)
        · exact z2 t
      · rw [e, mg_mi0 hm (by omega)] at z
        exact nm_r (nI_1 i) (my_open_l hN hm hc hR h1 h2 k (i + 1) m x co' (by omega) (by omega) b1 b2 (keep (Or.inl (mb_t z))))
    refine br_f (nI_ge (by omega) (by omega)) (And.intro v (br_c (fun z => ?_) (fun z => ?_)))
    · rw [e] at z
      have r : mb_b R i = false := mb_f fun t => by
        have := (hR i (by omega)).mpr t
        rw [ms_m_f.mpr z] at this; exact absurd this (by decide)
      rw [eb, r, if_neg (by decide), Nat.add_zero] at s
      refine s co ?_ (fun _ _ => rfl)
      rw [a2 i (Nat.le_refl _), hc i (by omega)]
      unfold mg_cv
      rw [mb_or, r, Bool.or_false]
    · rw [e] at z
      have r : mb_b R i = true := (hR i (by omega)).mp (ms_m_t.mpr z)
      rw [eb, r, if_pos rfl] at s
      refine And.intro v (nm_r (e' := upd co i 12) (by rw [e]) (nm_r (nI_1 _) (s _ ?_ (fun c hc' => pk_un hc'))))
      rw [pk_us]
      exact (mg_cv12.mpr (by rw [mb_or, r, Bool.or_true])).symm
theorem my_pass {post : Int32 → SY → Prop} {S R : Int64} (Yb : mg_BY wd hd N cl ro) (hm : mg_mi N M mi) (hc : mg_co N O F B co)
    (hR : ∀ c, mb_b R c = true ↔ ms_cl (ms_z wd N M) (ms_f N O F B) (mg_nb wd N) (mb_b S) c) (hS : ∀ c, mb_b S c = true → c < N)
    (h1 : ∀ co mq, mg_co N (O ||| R) F B co → ms_won N M (O ||| R) N → post (nI (mb_c (mb_b R) N)) (nI wd, nI hd, nI N, 2, tt, cl, ro, mi, co, mq, eg, nu, ho, pa)) (h2 : ∀ co mq, mg_co N (O ||| R) F B co → ¬ ms_won N M (O ||| R) N → post (nI (mb_c (mb_b R) N)) (nI wd, nI hd, nI N, yp, tt, cl, ro, mi, co, mq, eg, nu, ho, pa)) :
    ∀ (k i n : Nat) (g : Int32) (mq : Nat → Int32), i + k = N → k < n → (∀ c, mb_b S c = true → ms_m mq c = true) → (∀ c, c < N → ms_m mq c = true → mb_b R c = true) → ((g = 1 ∧ i ≤ mb_c (ms_m mq) N) ∨ (g = 0 ∧ ∀ c, c < N → ms_m mq c = true → ms_z wd N M c = true → ∀ b, ms_f N O F B b = true → mg_nb wd N c b = true → ms_m mq b = true)) → wY_spread_4 post n g (nI i) (nI wd) (nI hd) (nI N) yp tt cl ro mi co mq eg nu ho pa := by
  have hN := mg_N64 Yb.1
  have fin : ∀ mq : Nat → Int32, (∀ c, mb_b S c = true → ms_m mq c = true) → (∀ c, c < N → ms_m mq c = true → mb_b R c = true) → (∀ c, c < N → ms_m mq c = true → ms_z wd N M c = true → ∀ b, ms_f N O F B b = true → mg_nb wd N c b = true → ms_m mq b = true) → ∃ n34 : Nat, wY_spread_34 post (nI wd) (nI hd) (nI N) yp tt n34 0 1 0 cl ro mi co mq eg nu ho pa := fun mq a1 a2 a3 => by
    refine ⟨N + 1, my_open_l (R := R) hN hm hc (fun c hcN => ⟨a2 c hcN, fun t => ?_⟩) (fun co' q1 q2 => h1 co' mq q1 q2) (fun co' q1 q2 => h2 co' mq q1 q2) N 0 (N + 1) 1 co (by omega) (by omega) (fun c h => absurd h (Nat.not_lt_zero _)) (fun _ _ => rfl) (Or.inl ⟨rfl, fun c h => absurd h (Nat.not_lt_zero _)⟩)⟩
    have w := (hR c).mp t (fun c => c < N ∧ ms_m mq c = true) (fun c t => ⟨hS c t, a1 c t⟩) (fun c b t t1 t2 t3 => ⟨ms_f_lt t2, a3 c t.1 t.2 t1 b t2 t3⟩)
    exact w.2
  intro k
  induction k with
  | zero =>
    intro i n g mq hi hn a1 a2 a3
    obtain ⟨m, rfl⟩ : ∃ m, n = m + 1 := ⟨n - 1, by omega⟩
    have : i = N := by omega
    subst this
    refine br_t (nI_le (Nat.le_refl _) (by omega)) (fin mq a1 a2 ?_)
    rcases a3 with ⟨_, l⟩ | ⟨_, a3⟩
    · have := mb_c_le (ms_m mq) i
      have full := mb_c_full.mp (show mb_c (ms_m mq) i = i by omega)
      exact fun c _ _ _ b b1 _ => full b (ms_f_lt b1)
    · exact a3
  | succ k ih =>
    intro i n g mq hi hn a1 a2 a3
    obtain ⟨m, rfl⟩ : ∃ m, n = m + 1 := ⟨n - 1, by omega⟩
    refine br_f (nI_ge (by omega) (by omega)) (br_c (fun z => ?_) (fun z => ?_))
    · rcases a3 with ⟨e, _⟩ | ⟨_, a3⟩
      · rw [e] at z; exact absurd z (by decide)
      · exact fin mq a1 a2 a3
    · rcases a3 with ⟨_, l⟩ | ⟨e, _⟩
      · refine my_grow (Cl := fun c => mb_b R c = true) Yb hm hc (fun c b t t1 t2 t3 => (hR b).mpr (ms_step ((hR c).mp t) t1 t2 t3)) a2 (fun g' mq' hP h0 => nm_r (nI_1 i) (ih (i + 1) m g' mq' (by omega) (by omega) (fun c t => hP.1 c (hS c t) (a1 c t)) hP.2.1 ?_))
        rcases hP.2.2 with ⟨e, _⟩ | ⟨e, l2⟩
        · exact Or.inr ⟨e, h0 e⟩
        · exact Or.inl ⟨e, by omega⟩
      · exact absurd e z
theorem my_spread {post : Int32 → SY → Prop} {S R : Int64} (Yb : mg_BY wd hd N cl ro) (hm : mg_mi N M mi) (hc : mg_co N O F B co)
    (hR : ∀ c, mb_b R c = true ↔ ms_cl (ms_z wd N M) (ms_f N O F B) (mg_nb wd N) (mb_b S) c) (hS : ∀ c, mb_b S c = true → c < N) (hq : ∀ c, c < N → (ms_m mq c = true ↔ mb_b S c = true))
    (h1 : ∀ co mq, mg_co N (O ||| R) F B co → ms_won N M (O ||| R) N → post (nI (mb_c (mb_b R) N)) (nI wd, nI hd, nI N, 2, tt, cl, ro, mi, co, mq, eg, nu, ho, pa)) (h2 : ∀ co mq, mg_co N (O ||| R) F B co → ¬ ms_won N M (O ||| R) N → post (nI (mb_c (mb_b R) N)) (nI wd, nI hd, nI N, yp, tt, cl, ro, mi, co, mq, eg, nu, ho, pa)) : wpY_spread post (nI wd, nI hd, nI N, yp, tt, cl, ro, mi, co, mq, eg, nu, ho, pa) :=
  ⟨N + 1, my_pass Yb hm hc hR hS h1 h2 N 0 (N + 1) 1 mq (by omega) (by omega) (fun c t => (hq c (hS c t)).mpr t) (fun c h t => (hR c).mpr (ms_seed ((hq c h).mp t))) (Or.inl ⟨rfl, Nat.zero_le _⟩)⟩
end
end
section
/-! ===== open and chord ===== -/
section
variable {wd hd N : Nat} {bd : Int64} {ph : Int32} {M O F B : Int64} {gc cc : Int32} {tw fw : Int64} {nr bn : Nat → Int64} {cg gs gp : Nat → Int32} {gk gw : Nat → Int64} {od ch : Nat → Int32} {hst jo : Nat → Int64}
variable {yp : Int32} {tt : Int64} {cl ro mi co mq eg nu : Nat → Int32} {ho pa : Nat → Int64}
theorem mr_open {R S : Int64} {co' : Nat → Int32} {p' : Int32} (I : mr_I wd hd N bd 1 M O F B nr bn cl ro mi co) (hSf : ∀ c, mb_b S c = true → ms_f N O F B c = true) (hSM : ∀ c, ¬ (mb_b S c = true ∧ mb_b M c = true))
    (hR : ∀ c, mb_b R c = true ↔ ms_cl (ms_z wd N M) (ms_f N O F B) (mg_nb wd N) (mb_b S) c) (hco : mg_co N (O ||| R) F B co') (hp : p' = 1 ∨ p' = 2) : mr_I wd hd N bd p' M (O ||| R) F B nr bn cl ro mi co' := by
  obtain ⟨hX, hY, hm, hc, i1, i2, i3, i4, i5, i6, i7, i8, i9⟩ := I
  obtain ⟨b0, i9⟩ := i9 rfl
  have rf : ∀ c, mb_b R c = true → ms_f N O F B c = true := fun c h => (hR c).mp h (fun c => ms_f N O F B c = true) hSf (fun c b _ _ h3 _ => h3)
  have rm : ∀ c, mb_b R c = true → ¬ mb_b M c = true := fun c h => (hR c).mp h (fun c => ¬ mb_b M c = true) (fun c s m => hSM c ⟨s, m⟩) (fun c b _ hz hf hn m => by
    have z := of_decide_eq_true hz
    have y := mb_c_eq0 z b (ms_f_lt hf)
    rw [m, mg_nb_symm, hn] at y; exact absurd y (by decide))
  have rx : ∀ c, mb_b R c = true → c < N ∧ mb_b O c = false ∧ mb_b B c = false ∧ mb_b F c = false := fun c h => by
    have f := rf c h
    unfold ms_f at f
    rw [Bool.and_eq_true, mg_h_iff, Bool.not_eq_true'] at f
    exact ⟨f.1.1, f.1.2.1, f.1.2.2, f.2⟩
  refine ⟨hX, hY, hm, hco, i1, fun i h => ?_, i3, i4, fun i h => ?_, fun i h => ?_, i7, fun z => ?_, fun _ => ⟨b0, fun i h => ?_⟩⟩
  · rw [mb_or, Bool.or_eq_true] at h
    exact h.elim (i2 i) fun h => (rx i h).1
  · rw [mb_or, Bool.or_eq_true] at h
    rcases h.1 with h1 | h1
    · exact i5 i ⟨h1, h.2⟩
    · have := (rx i h1).2.2.2; rw [h.2] at this; exact absurd this (by decide)
  · rw [mb_or, Bool.or_eq_true] at h
    rcases h.1 with h1 | h1
    · exact i6 i ⟨h1, h.2⟩
    · have := (rx i h1).2.2.1; rw [h.2] at this; exact absurd this (by decide)
  · rcases hp with e | e <;> rw [e] at z <;> exact absurd z (by decide)
  · rw [mb_or, Bool.or_eq_true] at h
    rcases h.1 with h1 | h1
    · exact i9 i ⟨h1, h.2⟩
    · exact rm i h1 h.2
theorem mr_boom {S : Int64} {co' : Nat → Int32} (I : mr_I wd hd N bd 1 M O F B nr bn cl ro mi co) (hSf : ∀ c, mb_b S c = true → ms_f N O F B c = true) (hco : ∀ c, c < N → co' c = if (mb_b S c && mb_b M c) then 11 else co c) : mr_I wd hd N bd 3 M O F (B ||| (S &&& M)) nr bn cl ro mi co' := by
  obtain ⟨hX, hY, hm, hc, i1, i2, i3, i4, i5, i6, i7, i8, i9⟩ := I
  have rx : ∀ c, mb_b S c = true → c < N ∧ mb_b O c = false ∧ mb_b B c = false ∧ mb_b F c = false := fun c h => by
    have f := hSf c h
    unfold ms_f at f
    rw [Bool.and_eq_true, mg_h_iff, Bool.not_eq_true'] at f
    exact ⟨f.1.1, f.1.2.1, f.1.2.2, f.2⟩
  refine ⟨hX, hY, hm, fun c h => ?_, i1, i2, i3, fun i h => ?_, i5, fun i h => ?_, fun i h => ?_, fun z => absurd z (by decide), fun z => absurd z (by decide)⟩
  · rw [hco c h]
    cases e : (mb_b S c && mb_b M c)
    · rw [if_neg (by decide), hc c h]
      unfold mg_cv
      rw [mb_or, mb_and, e, Bool.or_false]
    · rw [if_pos rfl]
      unfold mg_cv
      rw [mb_or, mb_and, e, Bool.or_true]
      rw [Bool.and_eq_true] at e
      rw [(rx c e.1).2.1]; rfl
  · rw [mb_or, Bool.or_eq_true, mb_and, Bool.and_eq_true] at h
    exact h.elim (i4 i) fun h => (rx i h.1).1
  · rw [mb_or, Bool.or_eq_true, mb_and, Bool.and_eq_true] at h
    rcases h.2 with h1 | h1
    · exact i6 i ⟨h.1, h1⟩
    · have := (rx i h1.1).2.1; rw [h.1] at this; exact absurd this (by decide)
  · rw [mb_or, Bool.or_eq_true, mb_and, Bool.and_eq_true] at h
    rcases h.2 with h1 | h1
    · exact i7 i ⟨h.1, h1⟩
    · have := (rx i h1.1).2.2.2; rw [h.1] at this; exact absurd this (by decide)
theorem mv_won {R : Int64} (hX : mg_BX wd hd N bd nr bn) (i1 : ∀ i, mb_b M i = true → i < N) (i2 : ∀ i, mb_b O i = true → i < N) (hR : ∀ c, mb_b R c = true → c < N) : (O ||| R) ||| M = bd ↔ ms_won N M (O ||| R) N := by
  constructor
  · intro e i hi
    have := hX.2.1 i
    rw [← e, decide_eq_true hi, mb_or, Bool.or_eq_true] at this
    exact this.elim Or.inr Or.inl
  · intro w
    apply mb_ext
    intro i _
    rw [hX.2.1, mb_or]
    by_cases h : i < N
    · rw [decide_eq_true h]
      rcases w i h with y | y
      · rw [y, Bool.or_true]
      · rw [y]; rfl
    · rw [decide_eq_false h, Bool.or_eq_false_iff, mb_or, Bool.or_eq_false_iff]
      exact ⟨⟨mb_f fun t => h (i2 i t), mb_f fun t => h (hR i t)⟩, mb_f fun t => h (i1 i t)⟩
theorem mv_xs {post : Int32 → SX → Prop} {S : Int64} (I : mr_I wd hd N bd 1 M O F B nr bn cl ro mi co) (hSf : ∀ c, mb_b S c = true → ms_f N O F B c = true)
    (h : ∀ (R : Int64) (p' : Int32), (∀ c, mb_b R c = true ↔ ms_cl (ms_z wd N M) (ms_f N O F B) (mg_nb wd N) (mb_b S) c) → ((p' = 2 ∧ ms_won N M (O ||| R) N) ∨ (p' = 1 ∧ ¬ ms_won N M (O ||| R) N)) → post (nI (mb_c (mb_b R) N)) (nI wd, nI hd, nI N, bd, p', M, O ||| R, F, B, gc, cc, tw, fw, nr, bn, cg, gs, gp, gk, gw, od, ch, hst, jo)) : wpX_spread post (nI wd, nI hd, nI N, bd, 1, M, O, F, B, gc, cc, tw, fw, nr, bn, cg, gs, gp, gk, gw, od, ch, hst, jo) S := by
  obtain ⟨hX, hY, hm, hc, i1, i2, i3, i4, i5, i6, i7, i8, i9⟩ := I
  have hN := mg_N64 hX.1
  refine mx_spread hX (fun c h => ms_f_lt (hSf c h)) (fun R r1 r2 r3 => ?_) (fun R r1 r2 r3 => ?_)
  · rw [mg_pcN hN r2]
    exact h R 2 r1 (Or.inl ⟨rfl, (mv_won hX i1 i2 r2).mp r3⟩)
  · rw [mg_pcN hN r2]
    exact h R 1 r1 (Or.inr ⟨rfl, fun w => r3 ((mv_won hX i1 i2 r2).mpr w)⟩)
theorem mv_ys {post : Int32 → SY → Prop} {R S : Int64} {p' : Int32} (I : mr_I wd hd N bd 1 M O F B nr bn cl ro mi co) (hSf : ∀ c, mb_b S c = true → ms_f N O F B c = true)
    (hR : ∀ c, mb_b R c = true ↔ ms_cl (ms_z wd N M) (ms_f N O F B) (mg_nb wd N) (mb_b S) c) (hp : (p' = 2 ∧ ms_won N M (O ||| R) N) ∨ (p' = 1 ∧ ¬ ms_won N M (O ||| R) N)) (hq : ∀ c, c < N → (ms_m mq c = true ↔ mb_b S c = true))
    (h : ∀ co mq, mg_co N (O ||| R) F B co → post (nI (mb_c (mb_b R) N)) (nI wd, nI hd, nI N, p', tt, cl, ro, mi, co, mq, eg, nu, ho, pa)) : wpY_spread post (nI wd, nI hd, nI N, 1, tt, cl, ro, mi, co, mq, eg, nu, ho, pa) := by
  obtain ⟨hX, hY, hm, hc, i1, i2, i3, i4, i5, i6, i7, i8, i9⟩ := I
  refine my_spread hY hm hc hR (fun c h => ms_f_lt (hSf c h)) hq (fun co' mq' q1 q2 => ?_) (fun co' mq' q1 q2 => ?_)
  · rcases hp with ⟨e, w⟩ | ⟨e, w⟩
    · rw [e] at h; exact h co' mq' q1
    · exact absurd q2 w
  · rcases hp with ⟨e, w⟩ | ⟨e, w⟩
    · exact absurd w q2
    · rw [e] at h; exact h co' mq' q1
theorem mx_unc {post : Int32 → SX → Prop} {S : Int64} (I : mr_I wd hd N bd 1 M O F B nr bn cl ro mi co) (hSf : ∀ c, mb_b S c = true → ms_f N O F B c = true)
    (h1 : (∀ c, ¬ (mb_b S c = true ∧ mb_b M c = true)) → ∀ (R : Int64) (p' : Int32), (∀ c, mb_b R c = true ↔ ms_cl (ms_z wd N M) (ms_f N O F B) (mg_nb wd N) (mb_b S) c) → ((p' = 2 ∧ ms_won N M (O ||| R) N) ∨ (p' = 1 ∧ ¬ ms_won N M (O ||| R) N)) → post (nI (mb_c (mb_b R) N)) (nI wd, nI hd, nI N, bd, p', M, O ||| R, F, B, gc, cc, tw, fw, nr, bn, cg, gs, gp, gk, gw, od, ch, hst, jo))
    (h2 : ∀ c, mb_b S c = true → mb_b M c = true → post (-10) (nI wd, nI hd, nI N, bd, 3, M, O, F, B ||| (S &&& M), gc, cc, tw, fw, nr, bn, cg, gs, gp, gk, gw, od, ch, hst, jo)) : wpX_uncover post (nI wd, nI hd, nI N, bd, 1, M, O, F, B, gc, cc, tw, fw, nr, bn, cg, gs, gp, gk, gw, od, ch, hst, jo) S := by
  refine nm_e (br_c (fun z => mv_xs I hSf (h1 fun c t => ?_)) (fun z => nm_e ?_))
  · have := mb_and S M c
    rw [z, mb_0, t.1, t.2] at this; exact absurd this (by decide)
  · obtain ⟨c, _, t⟩ := mb_ne0 z
    rw [mb_and, Bool.and_eq_true] at t
    exact h2 c t.1 t.2
theorem my_marks {post : Int32 → SY → Prop} {t : Nat} (hN : N ≤ 64) (h : ∀ mq, (∀ c, c < N → (ms_m mq c = true ↔ c = t)) → wpY_spread post (nI wd, nI hd, nI N, yp, tt, cl, ro, mi, co, mq, eg, nu, ho, pa)) (ht : t < N) : ∀ (k i n : Nat) (mq : Nat → Int32), i + k = N → k < n → (∀ c, c < i → (ms_m mq c = true ↔ c = t)) → wY_open_68 post (nI t) (nI wd) (nI hd) (nI N) yp tt n (nI i) cl ro mi co mq eg nu ho pa
  | 0, i, n, mq, hi, hn, hm => by
    obtain ⟨m, rfl⟩ : ∃ m, n = m + 1 := ⟨n - 1, by omega⟩
    have : i = N := by omega
    subst this
    exact br_t (nI_le (Nat.le_refl _) (by omega)) (h mq hm)
  | k + 1, i, n, mq, hi, hn, hm => by
    obtain ⟨m, rfl⟩ : ∃ m, n = m + 1 := ⟨n - 1, by omega⟩
    have v : vp_in (nI i) 64 := vp_in_nI (by omega) (by omega)
    have e : (nI i).toNatClampNeg = i := nI_clamp (by omega)
    have eq : nI i = nI t ↔ i = t := nI_eq (by omega) (by omega)
    refine br_f (nI_ge (by omega) (by omega)) (br_c (fun z => And.intro v (nm_r (e' := upd mq i 1) (by rw [e]; rfl) (nm_r (nI_1 i) (my_marks hN h ht k (i + 1) m _ (by omega) (by omega) fun c hc => ?_)))) (fun z => And.intro v (nm_r (e' := upd mq i 0) (by rw [e]; rfl) (nm_r (nI_1 i) (my_marks hN h ht k (i + 1) m _ (by omega) (by omega) fun c hc => ?_)))))
    · rw [eq] at z
      by_cases q : c = i
      · rw [ms_m_t, q, pk_us]; exact ⟨fun _ => z, fun _ => by decide⟩
      · rw [ms_m_t, pk_un q, ← ms_m_t]; exact hm c (by omega)
    · rw [eq] at z
      by_cases q : c = i
      · rw [ms_m_t, q, pk_us]; exact ⟨fun y => absurd rfl y, fun y => absurd y z⟩
      · rw [ms_m_t, pk_un q, ← ms_m_t]; exact hm c (by omega)
variable {k : Nat}
theorem my_refT {post : Int32 → Prop} (hY : mg_BY wd hd N cl ro) (hc : mg_co N O F B co) {x y : Nat} (hx : x < wd) (hy : y < hd) (e : yp = 1) (hz : mg_h N O B (y * wd + x) = true) (h : post 0) : wpY_refuse post (nI wd, nI hd, nI N, yp, tt, cl, ro, mi, co, mq, eg, nu, ho, pa) (nI x) (nI y) :=
  my_ref hY hc (fun e' => absurd e e') (fun _ z => absurd ⟨x, y, hx, hy, rfl, rfl⟩ z) (fun _ x' y' hx' hy' ep eq h => by
      rw [nI_eq (by have := hY.1.2.1; omega) (by have := hY.1.2.1; omega)] at ep
      rw [nI_eq (by have := hY.1.2.2.2.1; omega) (by have := hY.1.2.2.2.1; omega)] at eq
      subst ep eq; exact absurd hz h) (fun _ _ _ _ _ _ _ _ => h)
theorem my_refF {post : Int32 → Prop} (hY : mg_BY wd hd N cl ro) (hc : mg_co N O F B co) {x y : Nat} (hx : x < wd) (hy : y < hd) (e : yp = 1) (hz : ¬ mg_h N O B (y * wd + x) = true) (h : post (-3)) : wpY_refuse post (nI wd, nI hd, nI N, yp, tt, cl, ro, mi, co, mq, eg, nu, ho, pa) (nI x) (nI y) :=
  my_ref hY hc (fun e' => absurd e e') (fun _ z => absurd ⟨x, y, hx, hy, rfl, rfl⟩ z) (fun _ _ _ _ _ _ _ _ => h) (fun _ x' y' hx' hy' ep eq h => by
      rw [nI_eq (by have := hY.1.2.1; omega) (by have := hY.1.2.1; omega)] at ep
      rw [nI_eq (by have := hY.1.2.2.2.1; omega) (by have := hY.1.2.2.2.1; omega)] at eq
      subst ep eq; exact absurd h hz)
theorem my_refO {post : Int32 → Prop} (hY : mg_BY wd hd N cl ro) (hc : mg_co N O F B co) {p q : Int32} (e : yp = 1) (hz : ¬ mg_in wd hd p q) (h : post (-1)) : wpY_refuse post (nI wd, nI hd, nI N, yp, tt, cl, ro, mi, co, mq, eg, nu, ho, pa) p q :=
  my_ref hY hc (fun e' => absurd e e') (fun _ _ => h) (fun _ x y hx hy ep eq => absurd ⟨x, y, hx, hy, ep, eq⟩ hz) (fun _ x y hx hy ep eq => absurd ⟨x, y, hx, hy, ep, eq⟩ hz)
theorem my_refP {post : Int32 → Prop} (hY : mg_BY wd hd N cl ro) (hc : mg_co N O F B co) {p q : Int32} (e : ¬ yp = 1) (h : post (-2)) : wpY_refuse post (nI wd, nI hd, nI N, yp, tt, cl, ro, mi, co, mq, eg, nu, ho, pa) p q :=
  my_ref hY hc (fun _ => h) (fun e' => absurd e' e) (fun e' => absurd e' e) (fun e' => absurd e' e)
theorem mv_open (I : mr_I wd hd N bd ph M O F B nr bn cl ro mi co) (p q : Int32) : wpX_open (fun r u' => wpY_open (fun r' v' => r' = r ∧ i_Rel (k + 3) u' v') (nI wd, nI hd, nI N, ph, tt, cl, ro, mi, co, mq, eg, nu, ho, pa) p q) (nI wd, nI hd, nI N, bd, ph, M, O, F, B, gc, cc, tw, fw, nr, bn, cg, gs, gp, gk, gw, od, ch, hst, jo) p q := by
  have I0 := I
  obtain ⟨hX, hY, hm, hc, i1, i2, i3, i4, i5, i6, i7, i8, i9⟩ := I
  have hN := mg_N64 hX.1
  unfold wpX_open wpY_open
  refine mx_ref hX (fun e => ?_) (fun e z => ?_) (fun e x y hx hy ep eq hz => ?_) (fun e x y hx hy ep eq hz => ?_)
  · exact br_f (by decide) (my_refP hY hc e (br_f (by decide) ⟨rfl, mr_mk I0⟩))
  · exact br_f (by decide) (my_refO hY hc e z (br_f (by decide) ⟨rfl, mr_mk I0⟩))
  · subst ep eq
    exact br_f (by decide) (my_refF hY hc hx hy e hz (br_f (by decide) ⟨rfl, mr_mk I0⟩))
  · subst ep eq
    subst e
    have hi := mg_ix hX.1 hx hy
    have ei : nI y * nI wd + nI x = nI (y * wd + x) := by rw [pk_mul, nI_add]
    have v : vp_in (nI (y * wd + x)) 64 := vp_in_nI (by omega) (by omega)
    have ec : (nI (y * wd + x)).toNatClampNeg = y * wd + x := nI_clamp (by omega)
    obtain ⟨_, t1, t2⟩ := mg_h_iff.mp hz
    refine br_t (by decide) (mx_index ?_)
    have yr : ∀ {post : Int32 → Prop}, post 0 → wpY_refuse post (nI wd, nI hd, nI N, 1, tt, cl, ro, mi, co, mq, eg, nu, ho, pa) (nI x) (nI y) := fun h => my_refT hY hc hx hy rfl hz h
    generalize y * wd + x = t at *
    have hb : ∀ c, mb_b ((1 : Int64) <<< ((nI t).toInt64 &&& 63)) c = decide (c = t) := fun c => mb_one (by omega) c
    have hF : F &&& ((1 : Int64) <<< ((nI t).toInt64 &&& 63)) = 0 ↔ mb_b F t = false := by
      rw [mb_eq0]
      constructor
      · intro h
        have := h t (by omega)
        rw [mb_and, hb, decide_eq_true rfl, Bool.and_true] at this; exact this
      · intro h i _
        rw [mb_and, hb]
        by_cases q : i = t
        · rw [q, h]; rfl
        · rw [decide_eq_false q, Bool.and_false]
    have eco : co (nI t).toNatClampNeg = mg_cv O F B t := by rw [ec]; exact hc t hi
    have emi : mi (nI t).toNatClampNeg = 0 ↔ mb_b M t = false := by rw [ec]; exact mg_mi0 hm hi
    refine nm_e (br_c (fun z => ?_) (fun z => ?_))
    · rw [hF] at z
      have hSf : ∀ c, mb_b ((1 : Int64) <<< ((nI t).toInt64 &&& 63)) c = true → ms_f N O F B c = true := fun c h => by
        rw [hb, decide_eq_true_eq] at h
        rw [h, ms_f9 hi, mg_cv9]; exact ⟨t1, t2, z⟩
      have n10 : ¬ co (nI t).toNatClampNeg = 10 := by
        rw [eco, mg_cv10]; exact fun h => by rw [z] at h; exact absurd h.2.2 (by decide)
      refine mx_unc I0 hSf (fun hSM R p' hR hp => ?_) (fun c c1 c2 => ?_)
      · have m0 : mb_b M t = false := mb_f fun h => hSM t ⟨by rw [hb]; exact decide_eq_true rfl, h⟩
        refine yr (br_t rfl (nm_r ei (And.intro v (br_f n10 (And.intro v (br_t (emi.mpr m0) ⟨N + 1, my_marks hN (fun mq' hq' => mv_ys I0 hSf hR hp (fun c hcN => ?_) (fun co' mq'' hco => ⟨rfl, mr_mk (mr_open I0 hSf hSM hR hco ?_)⟩)) hi N 0 (N + 1) mq (by omega) (by omega) (fun c h => absurd h (Nat.not_lt_zero _))⟩))))))
        · rw [hq' c hcN, hb, decide_eq_true_eq]
        · rcases hp with e | e
          · exact Or.inr e.1
          · exact Or.inl e.1
      · rw [hb, decide_eq_true_eq] at c1
        subst c1
        refine yr (br_t rfl (nm_r ei (And.intro v (br_f n10 (And.intro v (br_f (fun h => by rw [emi.mp h] at c2; exact absurd c2 (by decide)) (And.intro v (nm_r (e' := upd co c 11) (by rw [ec]) ⟨rfl, mr_mk (mr_boom I0 hSf fun c' hc' => ?_)⟩))))))))
        rw [hb]
        by_cases q : c' = c
        · rw [q, pk_us, c2, decide_eq_true rfl]; rfl
        · rw [pk_un q, decide_eq_false q]; rfl
    · refine yr (br_t rfl (nm_r ei (And.intro v (br_t ?_ ⟨rfl, mr_mk I0⟩))))
      rw [eco, mg_cv10]
      exact ⟨t1, t2, mb_t fun h => z (hF.mpr h)⟩
end
end
section
/-! ===== chord ===== -/
section
variable {wd hd N : Nat} {bd : Int64} {ph : Int32} {M O F B : Int64} {gc cc : Int32} {tw fw : Int64} {nr bn : Nat → Int64} {cg gs gp : Nat → Int32} {gk gw : Nat → Int64} {od ch : Nat → Int32} {hst jo : Nat → Int64}
variable {yp : Int32} {tt : Int64} {cl ro mi co mq eg nu : Nat → Int32} {ho pa : Nat → Int64}
theorem my_ch1 {post : Int32 → SY → Prop} {t : Nat} (Yb : mg_BY wd hd N cl ro) (hm : mg_mi N M mi) (hc : mg_co N O F B co) (hF : ∀ c, mb_b F c = true → mb_b O c = false ∧ mb_b B c = false) (ht : t < N)
    (h1 : mb_c (fun c => mb_b F c && mg_nb wd N c t) N = mg_num wd N M t → ∃ n107 : Nat, wY_chord_107 post (nI t) (nI wd) (nI hd) (nI N) tt n107 0 yp cl ro mi co mq eg nu ho pa) (h2 : ¬ mb_c (fun c => mb_b F c && mg_nb wd N c t) N = mg_num wd N M t → post (-6) (nI wd, nI hd, nI N, yp, tt, cl, ro, mi, co, mq, eg, nu, ho, pa)) :
    ∀ (k i n : Nat), i + k = N → k < n → wY_chord_51 post (nI t) (nI wd) (nI hd) (nI N) yp tt cl ro mi co mq eg nu ho pa n (nI (mb_c (fun c => mb_b F c && mg_nb wd N c t) i)) (nI i)
  | 0, i, n, hi, hn => by
    obtain ⟨m, rfl⟩ : ∃ m, n = m + 1 := ⟨n - 1, by omega⟩
    have : i = N := by omega
    subst this
    have hN := mg_N64 Yb.1
    have l1 : mg_num wd i M t ≤ i := mb_c_le _ i
    have l2 := mb_c_le (fun c => mb_b F c && mg_nb wd i c t) i
    refine br_t (nI_le (Nat.le_refl _) (by omega)) (my_number Yb hm ht (br_c (fun z => h1 ?_) (fun z => h2 fun y => z (by rw [y]))))
    exact (nI_eq (by omega) (by omega)).mp z
  | k + 1, i, n, hi, hn => by
    obtain ⟨m, rfl⟩ : ∃ m, n = m + 1 := ⟨n - 1, by omega⟩
    have hN := mg_N64 Yb.1
    have ih := my_ch1 Yb hm hc hF ht h1 h2 k (i + 1) m (by omega) (by omega)
    have eb : mb_c (fun c => mb_b F c && mg_nb wd N c t) (i + 1) = mb_c (fun c => mb_b F c && mg_nb wd N c t) i + (if (mb_b F i && mg_nb wd N i t) then 1 else 0) := rfl
    have e : (nI i).toNatClampNeg = i := nI_clamp (by omega)
    refine br_f (nI_ge (by omega) (by omega)) (And.intro (vp_in_nI (by omega) (by omega)) (br_c (fun z => ?_) (fun z => ?_)))
    · rw [e, hc i (by omega), mg_cv10] at z
      refine my_nearB Yb (by omega) ht (fun y => ?_) (fun y => ?_)
      · rw [eb, y, Bool.and_false, if_neg (by decide), Nat.add_zero] at ih
        exact nm_r (nI_1 i) ih
      · rw [eb, y, z.2.2, Bool.and_self, if_pos rfl] at ih
        exact nm_r (nI_1 _) (nm_r (nI_1 i) ih)
    · rw [e, hc i (by omega), mg_cv10] at z
      have f : mb_b F i = false := mb_f fun y => z ⟨(hF i y).1, (hF i y).2, y⟩
      rw [eb, f, Bool.false_and, if_neg (by decide), Nat.add_zero] at ih
      exact nm_r (nI_1 i) ih
theorem my_ch2 {post : Int32 → SY → Prop} {t : Nat} {S : Int64} (Yb : mg_BY wd hd N cl ro) (hm : mg_mi N M mi) {co0 : Nat → Int32} (hc : mg_co N O F B co0) (ht : t < N) (hS : ∀ c, c < N → (mb_b S c = true ↔ mg_cv O F B c = 9 ∧ mg_nb wd N c t = true))
    (h1 : ∀ mq co, (∀ c, c < N → co c = if (mb_b S c && mb_b M c) then 11 else co0 c) → (∃ c, c < N ∧ mb_b S c = true ∧ mb_b M c = true) → post (-10) (nI wd, nI hd, nI N, 3, tt, cl, ro, mi, co, mq, eg, nu, ho, pa))
    (h2 : ∀ mq co, (∀ c, c < N → co c = co0 c) → (∀ c, c < N → (ms_m mq c = true ↔ mb_b S c = true)) → (∀ c, c < N → ¬ (mb_b S c = true ∧ mb_b M c = true)) → wpY_spread post (nI wd, nI hd, nI N, 1, tt, cl, ro, mi, co, mq, eg, nu, ho, pa)) :
    ∀ (k i n : Nat) (p : Int32) (mq co : Nat → Int32), i + k = N → k < n → (∀ c, c < i → (ms_m mq c = true ↔ mb_b S c = true)) → (∀ c, c < i → co c = if (mb_b S c && mb_b M c) then 11 else co0 c) → (∀ c, i ≤ c → co c = co0 c) →
      ((p = 3 ∧ ∃ c, c < i ∧ mb_b S c = true ∧ mb_b M c = true) ∨ (p = 1 ∧ ∀ c, c < i → ¬ (mb_b S c = true ∧ mb_b M c = true))) → wY_chord_107 post (nI t) (nI wd) (nI hd) (nI N) tt n (nI i) p cl ro mi co mq eg nu ho pa
  | 0, i, n, p, mq, co, hi, hn, a1, a2, a3, a4 => by
    obtain ⟨m, rfl⟩ : ∃ m, n = m + 1 := ⟨n - 1, by omega⟩
    have : i = N := by omega
    subst this
    have hN := mg_N64 Yb.1
    refine br_t (nI_le (Nat.le_refl _) (by omega)) ?_
    rcases a4 with ⟨e, a4⟩ | ⟨e, a4⟩
    · subst e
      exact br_t rfl (h1 mq co a2 a4)
    · subst e
      refine br_f (by decide) (h2 mq co (fun c hcN => ?_) a1 a4)
      rw [a2 c hcN, if_neg]
      rw [Bool.and_eq_true]; exact a4 c hcN
  | k + 1, i, n, p, mq, co, hi, hn, a1, a2, a3, a4 => by
    obtain ⟨m, rfl⟩ : ∃ m, n = m + 1 := ⟨n - 1, by omega⟩
    have hN := mg_N64 Yb.1
    have e : (nI i).toNatClampNeg = i := nI_clamp (by omega)
    have v : vp_in (nI i) 64 := vp_in_nI (by omega) (by omega)
    have no : mb_b S i = false → wY_chord_149 post (wY_chord_107 post (nI t) (nI wd) (nI hd) (nI N) tt m) (nI t) (nI i) 0 (nI i) (nI wd) (nI hd) (nI N) p tt cl ro mi co mq eg nu ho pa := fun s => by
      refine And.intro v (nm_r (e' := upd mq i 0) (by rw [e]; rfl) (And.intro v (br_t (by rw [e, pk_us]) (nm_r (nI_1 i) (my_ch2 Yb hm hc ht hS h1 h2 k (i + 1) m p _ co (by omega) (by omega) (fun c hc' => ?_) (fun c hc' => ?_) (fun c hc' => a3 c (by omega)) ?_)))))
      · by_cases q : c = i
        · rw [ms_m_t, q, pk_us, s]; exact ⟨fun y => absurd rfl y, fun y => absurd y (by decide)⟩
        · rw [ms_m_t, pk_un q, ← ms_m_t]; exact a1 c (by omega)
      · by_cases q : c = i
        · rw [q, s, a3 i (Nat.le_refl _)]; rfl
        · exact a2 c (by omega)
      · rcases a4 with ⟨e4, c, c1, c2⟩ | ⟨e4, a4⟩
        · exact Or.inl ⟨e4, c, by omega, c2⟩
        · refine Or.inr ⟨e4, fun c hc' => ?_⟩
          by_cases q : c = i
          · rw [q, s]; exact fun y => absurd y.1 (by decide)
          · exact a4 c (by omega)
    have yes : mb_b S i = true → wY_chord_149 post (wY_chord_107 post (nI t) (nI wd) (nI hd) (nI N) tt m) (nI t) (nI i) 1 (nI i) (nI wd) (nI hd) (nI N) p tt cl ro mi co mq eg nu ho pa := fun s => by
      have mk1 : ∀ c, c < i + 1 → (ms_m (upd mq i 1) c = true ↔ mb_b S c = true) := fun c hc' => by
        by_cases q : c = i
        · rw [ms_m_t, q, pk_us, s]; exact ⟨fun _ => rfl, fun _ => by decide⟩
        · rw [ms_m_t, pk_un q, ← ms_m_t]; exact a1 c (by omega)
      refine And.intro v (nm_r (e' := upd mq i 1) (by rw [e]; rfl) (And.intro v (br_f (by rw [e, pk_us]; decide) (And.intro v (br_c (fun z => ?_) (fun z => ?_))))))
      · rw [e, mg_mi0 hm (by omega)] at z
        refine nm_r (nI_1 i) (my_ch2 Yb hm hc ht hS h1 h2 k (i + 1) m p _ co (by omega) (by omega) mk1 (fun c hc' => ?_) (fun c hc' => a3 c (by omega)) ?_)
        · by_cases q : c = i
          · rw [q, z, a3 i (Nat.le_refl _), Bool.and_false]; rfl
          · exact a2 c (by omega)
        · rcases a4 with ⟨e4, c, c1, c2⟩ | ⟨e4, a4⟩
          · exact Or.inl ⟨e4, c, by omega, c2⟩
          · refine Or.inr ⟨e4, fun c hc' => ?_⟩
            by_cases q : c = i
            · rw [q, z]; exact fun y => absurd y.2 (by decide)
            · exact a4 c (by omega)
      · rw [e, mg_mi0 hm (by omega)] at z
        refine And.intro v (nm_r (e' := upd co i 11) (by rw [e]) (nm_r (nI_1 i) (my_ch2 Yb hm hc ht hS h1 h2 k (i + 1) m 3 _ _ (by omega) (by omega) mk1 (fun c hc' => ?_) (fun c hc' => ?_) (Or.inl ⟨rfl, i, by omega, s, mb_t z⟩))))
        · by_cases q : c = i
          · rw [q, pk_us, s, mb_t z]; rfl
          · rw [pk_un q]; exact a2 c (by omega)
        · rw [pk_un (by omega)]; exact a3 c (by omega)
    refine br_f (nI_ge (by omega) (by omega)) (And.intro v (br_c (fun z => ?_) (fun z => no (mb_f fun y => ?_))))
    · rw [e, a3 i (Nat.le_refl _), hc i (by omega)] at z
      exact my_nearB Yb (by omega) ht (fun y => no (mb_f fun s => by rw [((hS i (by omega)).mp s).2] at y; exact absurd y (by decide))) (fun y => yes ((hS i (by omega)).mpr ⟨z, y⟩))
    · rw [e, a3 i (Nat.le_refl _), hc i (by omega)] at z
      exact z ((hS i (by omega)).mp y).1
variable {k : Nat}
theorem mv_chord (I : mr_I wd hd N bd ph M O F B nr bn cl ro mi co) (p q : Int32) : wpX_chord (fun r u' => wpY_chord (fun r' v' => r' = r ∧ i_Rel (k + 3) u' v') (nI wd, nI hd, nI N, ph, tt, cl, ro, mi, co, mq, eg, nu, ho, pa) p q) (nI wd, nI hd, nI N, bd, ph, M, O, F, B, gc, cc, tw, fw, nr, bn, cg, gs, gp, gk, gw, od, ch, hst, jo) p q := by
  have I0 := I
  obtain ⟨hX, hY, hm, hc, i1, i2, i3, i4, i5, i6, i7, i8, i9⟩ := I
  have hN := mg_N64 hX.1
  by_cases e1 : ph = 1
  · subst e1
    rcases Classical.em (mg_in wd hd p q) with ⟨x, y, hx, hy, rfl, rfl⟩ | z
    · have hi := mg_ix hX.1 hx hy
      have ei : nI y * nI wd + nI x = nI (y * wd + x) := by rw [pk_mul, nI_add]
      have v : vp_in (nI (y * wd + x)) 64 := vp_in_nI (by omega) (by omega)
      have ec : (nI (y * wd + x)).toNatClampNeg = y * wd + x := nI_clamp (by omega)
      refine br_t rfl (mx_on_t hX.1 hx hy (br_f (by decide) (mx_index ?_)))
      have yr : ∀ {post : Int32 → Prop}, post 0 → wpY_off post (nI wd, nI hd, nI N, 1, tt, cl, ro, mi, co, mq, eg, nu, ho, pa) (nI x) (nI y) := fun h => my_off_t hX.1 hx hy h
      generalize y * wd + x = t at *
      have eco : co (nI t).toNatClampNeg = mg_cv O F B t := by rw [ec]; exact hc t hi
      refine mx_isSetB (by omega) (fun z => ?_) (fun z => And.intro v ?_)
      · refine br_t rfl (yr (br_t rfl (nm_r ei (And.intro v (br_f ?_ ⟨rfl, mr_mk I0⟩)))))
        rw [eco, mg_cv12, z]; decide
      · rw [ec]
        have c1 : mb_pc (nr t &&& F) = mb_c (fun c => mb_b F c && mg_nb wd N c t) N := by
          rw [mg_pcN hN (fun i h => by rw [mb_and, Bool.and_eq_true] at h; exact i3 i h.2)]
          exact mb_c_eq fun c _ => by rw [mb_and, hX.2.2.1 t hi, mg_nb_symm, Bool.and_comm]
        have l1 : mg_num wd N M t ≤ N := mb_c_le _ N
        have l2 := mb_c_le (fun c => mb_b F c && mg_nb wd N c t) N
        have hFx : ∀ c, mb_b F c = true → mb_b O c = false ∧ mb_b B c = false := fun c h => ⟨mb_f fun y => i5 c ⟨y, h⟩, mb_f fun y => i7 c ⟨h, y⟩⟩
        refine mx_bitCount (mx_number hX hi (br_c (fun z2 => And.intro v ?_) (fun z2 => ?_)))
        · rw [c1] at z2
          have z3 : mb_c (fun c => mb_b F c && mg_nb wd N c t) N = mg_num wd N M t := (nI_eq (by omega) (by omega)).mp z2
          have hSb : ∀ c, mb_b (nr t &&& ((O ||| F) ^^^ (-1))) c = true ↔ c < N ∧ mg_cv O F B c = 9 ∧ mg_nb wd N c t = true := fun c => by
            rw [mb_and, hX.2.2.1 t hi, Bool.and_eq_true, mg_nb_symm]
            have b0 : mb_b B c = false := by rw [(i9 rfl).1, mb_0]
            constructor
            · intro h
              have cN := (mg_nb_iff.mp h.1).1
              have h2 := h.2
              rw [mb_not _ (by omega), mb_or, Bool.not_eq_true', Bool.or_eq_false_iff] at h2
              exact ⟨cN, mg_cv9.mpr ⟨h2.1, b0, h2.2⟩, h.1⟩
            · intro h
              obtain ⟨g1, g2, g3⟩ := mg_cv9.mp h.2.1
              refine ⟨h.2.2, ?_⟩
              rw [mb_not _ (by omega), mb_or, g1, g3]; rfl
          have hSf : ∀ c, mb_b (nr t &&& ((O ||| F) ^^^ (-1))) c = true → ms_f N O F B c = true := fun c h => by
            obtain ⟨g1, g2, g3⟩ := (hSb c).mp h
            exact (ms_f9 g1).mpr g2
          generalize nr t &&& ((O ||| F) ^^^ (-1)) = S at *
          have ych : ∀ {post : Int32 → SY → Prop}, (∃ n107 : Nat, wY_chord_107 post (nI t) (nI wd) (nI hd) (nI N) tt n107 0 1 cl ro mi co mq eg nu ho pa) → wpY_chord post (nI wd, nI hd, nI N, 1, tt, cl, ro, mi, co, mq, eg, nu, ho, pa) (nI x) (nI y) := fun h => br_t rfl (yr (br_t rfl (nm_r ei (And.intro v (br_t (by rw [eco, mg_cv12]; exact z) ⟨N + 1, my_ch1 hY hm hc hFx hi (fun _ => h) (fun y => absurd z3 y) N 0 (N + 1) (by omega) (by omega)⟩)))))
          refine mx_unc I0 hSf (fun hSM R p' hR hp => ?_) (fun c c1 c2 => ?_)
          · refine ych ⟨N + 1, my_ch2 (S := S) hY hm hc hi (fun c hcN => ⟨fun h => ((hSb c).mp h).2, fun h => (hSb c).mpr ⟨hcN, h⟩⟩) (fun mq' co' _ h => ?_) (fun mq' co' g1 g2 _ => ?_) N 0 (N + 1) 1 mq co (by omega) (by omega) (fun c h => absurd h (Nat.not_lt_zero _)) (fun c h => absurd h (Nat.not_lt_zero _)) (fun _ _ => rfl) (Or.inr ⟨rfl, fun c h => absurd h (Nat.not_lt_zero _)⟩)⟩
            · obtain ⟨c, _, h⟩ := h
              exact absurd h (hSM c)
            · have I2 : mr_I wd hd N bd 1 M O F B nr bn cl ro mi co' := ⟨hX, hY, hm, fun c h => by rw [g1 c h]; exact hc c h, i1, i2, i3, i4, i5, i6, i7, i8, i9⟩
              refine mv_ys I2 hSf hR hp g2 (fun co'' mq'' hco => ⟨rfl, mr_mk (mr_open I2 hSf hSM hR hco ?_)⟩)
              rcases hp with e | e
              · exact Or.inr e.1
              · exact Or.inl e.1
          · refine ych ⟨N + 1, my_ch2 (S := S) hY hm hc hi (fun c hcN => ⟨fun h => ((hSb c).mp h).2, fun h => (hSb c).mpr ⟨hcN, h⟩⟩) (fun mq' co' h _ => ⟨rfl, mr_mk (mr_boom I0 hSf h)⟩) (fun mq' co' _ _ g3 => absurd ⟨c1, c2⟩ (g3 c (ms_f_lt (hSf c c1)))) N 0 (N + 1) 1 mq co (by omega) (by omega) (fun c h => absurd h (Nat.not_lt_zero _)) (fun c h => absurd h (Nat.not_lt_zero _)) (fun _ _ => rfl) (Or.inr ⟨rfl, fun c h => absurd h (Nat.not_lt_zero _)⟩)⟩
        · rw [c1] at z2
          have z3 : ¬ mb_c (fun c => mb_b F c && mg_nb wd N c t) N = mg_num wd N M t := fun h => z2 (by rw [h]; rfl)
          exact br_t rfl (yr (br_t rfl (nm_r ei (And.intro v (br_t (by rw [eco, mg_cv12]; exact z) ⟨N + 1, my_ch1 hY hm hc hFx hi (fun h => absurd h z3) (fun _ => ⟨rfl, mr_mk I0⟩) N 0 (N + 1) (by omega) (by omega)⟩)))))
    · exact br_t rfl (mx_on_f hX.1 z (br_t rfl (br_t rfl (my_off_f hX.1 z (br_f (by decide) ⟨rfl, mr_mk I0⟩)))))
  · exact br_f e1 (br_f e1 ⟨rfl, mr_mk I0⟩)
end
end
section
/-! ===== the constructors ===== -/
theorem mi_clamp (p : Int32) : ∃ w : Nat, 1 ≤ w ∧ w ≤ 8 ∧ ∀ A : Int32 → Prop, A (nI w) → (1 ≤ p → (p ≤ 8 → A p) ∧ (¬ p ≤ 8 → A 8)) ∧ (¬ 1 ≤ p → A 1) := by
  by_cases h1 : 1 ≤ p
  · by_cases h8 : p ≤ 8
    · have h0 : ¬ p < 0 := fun z => by
        have := Int32.lt_of_lt_of_le z (Int32.le_trans (by decide : (0 : Int32) ≤ 1) h1)
        exact absurd this (Int32.lt_irrefl)
      obtain ⟨j, hj, rfl⟩ := nI_of h0
      have a1 : 1 ≤ j := (nI_leI (a := 1) (by omega) hj).mp h1
      have a8 : j ≤ 8 := (nI_leI (b := 8) hj (by omega)).mp h8
      exact ⟨j, a1, a8, fun A h => br_t h1 (br_t h8 h)⟩
    · exact ⟨8, by omega, by omega, fun A h => br_t h1 (br_f h8 h)⟩
  · exact ⟨1, by omega, by omega, fun A h => br_f h1 h⟩
theorem mi_board {N : Nat} (h1 : 1 ≤ N) (h : N ≤ 64) (i : Nat) : mb_b (((-1 : Int64).toUInt64 >>> ((64 - nI N).toInt64.toUInt64 &&& Int64.toUInt64 63)).toInt64) i = decide (i < N) := by
  have e : (64 : Int32) - nI N = nI (64 - N) := pk_sub (a := 64) h
  have m : (-1 : Int64) = lN (2 ^ 64 - 1) := by decide
  rw [e, m, wb_shr (by decide) (by omega), mb_nlN _ _ (Nat.lt_of_le_of_lt (Nat.div_le_self _ _) (by decide)), Nat.testBit_div_two_pow, Nat.testBit_two_pow_sub_one]
  by_cases z : i < N
  · rw [decide_eq_true z, decide_eq_true (by omega)]
  · rw [decide_eq_false z, decide_eq_false (by omega)]
theorem mi_dm {wd X Y : Nat} (h : X < wd) : (Y * wd + X) % wd = X ∧ (Y * wd + X) / wd = Y := by
  rw [Nat.mul_comm]
  constructor
  · rw [Nat.mul_add_mod, Nat.mod_eq_of_lt h]
  · rw [Nat.mul_add_div (by omega), Nat.div_eq_of_lt h, Nat.add_zero]
/-- the cells found by around after rows below j and columns below i of row j -/
def mi_fnd (wd hd x y j i : Nat) (c : Nat) : Prop := ∃ j' i', ((j' < j ∧ i' < 3) ∨ (j' = j ∧ i' < i)) ∧ 1 ≤ x + i' ∧ x + i' ≤ wd ∧ 1 ≤ y + j' ∧ y + j' ≤ hd ∧ c = (y + j' - 1) * wd + (x + i' - 1)
theorem mi_fnd_end {wd hd N x y c : Nat} (D : mg_D wd hd N) (hx : x < wd) (hy : y < hd) : mi_fnd wd hd x y 3 0 c ∧ c ≠ y * wd + x ↔ mg_nb wd N (y * wd + x) c = true := by
  have hi := mg_ix D hx hy
  obtain ⟨e1, e2⟩ := mi_dm (Y := y) hx
  rw [mg_nb_iff, e1, e2]
  constructor
  · rintro ⟨⟨j, i, h, h1, h2, h3, h4, rfl⟩, hn⟩
    have hX : x + i - 1 < wd := by omega
    have hY : y + j - 1 < hd := by omega
    obtain ⟨f1, f2⟩ := mi_dm (Y := y + j - 1) hX
    refine ⟨hi, mg_ix D hX hY, fun z => hn z.symm, ?_, ?_, ?_, ?_⟩
    · rw [f1]; omega
    · rw [f1]; omega
    · rw [f2]; omega
    · rw [f2]; omega
  · rintro ⟨_, hc, hn, h1, h2, h3, h4⟩
    have hw : 0 < wd := by omega
    have m := Nat.mod_lt c hw
    have dm : c / wd < hd := by
      rw [Nat.div_lt_iff_lt_mul hw]
      obtain ⟨_, _, _, _, rfl⟩ := D
      rw [Nat.mul_comm]; exact hc
    have sp := Nat.div_add_mod' c wd
    refine ⟨?_, fun z => hn z.symm⟩
    clear e1 e2 hn
    generalize c / wd = Q at *
    generalize c % wd = R at *
    refine ⟨Q + 1 - y, R + 1 - x, Or.inl ⟨by omega, by omega⟩, by omega, by omega, by omega, by omega, ?_⟩
    rw [show y + (Q + 1 - y) - 1 = Q by omega, show x + (R + 1 - x) - 1 = R by omega]
    exact sp.symm
theorem mi_r {a : Nat} (h : a < 100) : (nI a - 1).toInt = (a : Int) - 1 := pk_sub_toInt (b := 1) (by omega) (by omega)
theorem mi_next (a : Nat) : nI a - 1 + 1 = nI (a + 1) - 1 := by
  rw [nI_pred, Int32.sub_add_cancel]
theorem mi_lt {a b : Nat} (ha : a < 50) (hb : b < 50) : nI a + 1 < nI b - 1 ↔ a + 2 < b := by
  rw [Int32.lt_iff_toInt_lt, nI_1, nI_toInt (by omega), mi_r (by omega)]; omega
section
variable {wd hd N : Nat} {bd : Int64} {ph : Int32} {M O F B : Int64} {gc cc : Int32} {tw fw : Int64} {nr bn : Nat → Int64} {cg gs gp : Nat → Int32} {gk gw : Nat → Int64} {od ch : Nat → Int32} {hst jo : Nat → Int64}
theorem mx_on {post : Int32 → Prop} (D : mg_D wd hd N) {a b : Nat} (ha : a < 50) (hb : b < 50) (h1 : 1 ≤ a → a ≤ wd → 1 ≤ b → b ≤ hd → post 1) (h0 : ¬ (1 ≤ a ∧ a ≤ wd ∧ 1 ≤ b ∧ b ≤ hd) → post 0) : wpX_onBoard post (nI wd, nI hd, nI N, bd, ph, M, O, F, B, gc, cc, tw, fw, nr, bn, cg, gs, gp, gk, gw, od, ch, hst, jo) (nI a - 1) (nI b - 1) := by
  by_cases h : 1 ≤ a ∧ a ≤ wd ∧ 1 ≤ b ∧ b ≤ hd
  · obtain ⟨g1, g2, g3, g4⟩ := h
    obtain ⟨a', rfl⟩ : ∃ a', a = a' + 1 := ⟨a - 1, by omega⟩
    obtain ⟨b', rfl⟩ : ∃ b', b = b' + 1 := ⟨b - 1, by omega⟩
    rw [nI_pred, nI_pred]
    exact mx_on_t D (by omega) (by omega) (h1 g1 g2 g3 g4)
  · refine mx_on_f D (fun ⟨x, y, hx, hy, e1, e2⟩ => h ?_) (h0 h)
    have f1 := congrArg Int32.toInt e1
    have f2 := congrArg Int32.toInt e2
    have := D.2.1
    have := D.2.2.2.1
    rw [mi_r (by omega), nI_toInt (by omega)] at f1 f2
    omega
theorem mx_ar_in {post : Int64 → Prop} {J : Int64 → Int32 → Prop} (D : mg_D wd hd N) {x y j : Nat} (hx : x < wd) (hy : y < hd) (hj : j < 3)
    (hJ : ∀ R : Int64, (∀ c, mb_b R c = true ↔ mi_fnd wd hd x y (j + 1) 0 c) → J R (nI (y + (j + 1)) - 1)) : ∀ (k i n : Nat) (R : Int64), i + k = 3 → k < n → (∀ c, mb_b R c = true ↔ mi_fnd wd hd x y j i c) → wX_around_20 post J (nI x) (nI y) (nI (y + j) - 1) (nI wd) (nI hd) (nI N) bd ph M O F B gc cc tw fw nr bn cg gs gp gk gw od ch hst jo n R (nI (x + i) - 1)
  | 0, i, n, R, hi, hn, hR => by
    obtain ⟨m, rfl⟩ : ∃ m, n = m + 1 := ⟨n - 1, by omega⟩
    have : i = 3 := by omega
    subst this
    have := D.2.1
    refine br_t ((mi_lt (by omega) (by omega)).mpr (by omega)) (nm_r (mi_next _) (hJ R fun c => ?_))
    rw [hR]
    constructor
    · rintro ⟨j', i', h, h2⟩; exact ⟨j', i', by omega, h2⟩
    · rintro ⟨j', i', h, h2⟩; exact ⟨j', i', by omega, h2⟩
  | k + 1, i, n, R, hi, hn, hR => by
    obtain ⟨m, rfl⟩ : ∃ m, n = m + 1 := ⟨n - 1, by omega⟩
    have d1 := D.2.1
    have d2 := D.2.2.2.1
    have hN := mg_N64 D
    refine br_f (fun z => by have := (mi_lt (by omega) (by omega)).mp z; omega) (mx_on D (by omega) (by omega) (fun g1 g2 g3 g4 => br_f (by decide) ?_) (fun g => br_t rfl (nm_r (mi_next _) (mx_ar_in D hx hy hj hJ k (i + 1) m R (by omega) (by omega) fun c => ?_))))
    · obtain ⟨a, ea⟩ : ∃ a, x + i = a + 1 := ⟨x + i - 1, by omega⟩
      obtain ⟨b, eb⟩ : ∃ b, y + j = b + 1 := ⟨y + j - 1, by omega⟩
      have ix := mg_ix D (x := a) (y := b) (by omega) (by omega)
      have p1 : nI (x + i) - 1 = nI a := by rw [ea, nI_pred]
      have p2 : nI (y + j) - 1 = nI b := by rw [eb, nI_pred]
      have goalX : wpX_indexOf (fun r_58 => ∀ x3_83, x3_83 = R ||| ((1 : Int64) <<< (r_58.toInt64 &&& 63)) → ∀ x6_84, x6_84 = nI (x + i) - 1 + 1 → wX_around_20 post J (nI x) (nI y) (nI (y + j) - 1) (nI wd) (nI hd) (nI N) bd ph M O F B gc cc tw fw nr bn cg gs gp gk gw od ch hst jo m x3_83 x6_84) (nI wd, nI hd, nI N, bd, ph, M, O, F, B, gc, cc, tw, fw, nr, bn, cg, gs, gp, gk, gw, od, ch, hst, jo) (nI a) (nI b) := by
        refine mx_index (nm_e (nm_r (mi_next _) (mx_ar_in D hx hy hj hJ k (i + 1) m _ (by omega) (by omega) fun c => ?_)))
        rw [mb_or, mb_one (by omega), Bool.or_eq_true, decide_eq_true_eq, hR]
        constructor
        · rintro (⟨j', i', h, h2⟩ | h)
          · exact ⟨j', i', by omega, h2⟩
          · refine ⟨j, i, Or.inr ⟨rfl, by omega⟩, g1, g2, g3, g4, ?_⟩
            rw [h, ea, eb]; rfl
        · rintro ⟨j', i', h, h2⟩
          by_cases q : j' = j ∧ i' = i
          · obtain ⟨rfl, rfl⟩ := q
            right
            rw [h2.2.2.2.2, ea, eb]; rfl
          · left; exact ⟨j', i', by omega, h2⟩
      have fin := goalX
      rw [← p1, ← p2] at fin
      exact fin
    · rw [hR]
      constructor
      · rintro ⟨j', i', h, h2⟩; exact ⟨j', i', by omega, h2⟩
      · rintro ⟨j', i', h, h2⟩
        refine ⟨j', i', ?_, h2⟩
        by_cases q : j' = j ∧ i' = i
        · obtain ⟨rfl, rfl⟩ := q
          exact absurd ⟨h2.1, h2.2.1, h2.2.2.1, h2.2.2.2.1⟩ g
        · omega
theorem mx_ar_out {post : Int64 → Prop} (D : mg_D wd hd N) {x y : Nat} (hx : x < wd) (hy : y < hd) (h : ∀ R : Int64, (∀ c, mb_b R c = mg_nb wd N (y * wd + x) c) → post R) : ∀ (k j n : Nat) (R : Int64), j + k = 3 → k < n → (∀ c, mb_b R c = true ↔ mi_fnd wd hd x y j 0 c) → wX_around_7 post (nI x) (nI y) (nI wd) (nI hd) (nI N) bd ph M O F B gc cc tw fw nr bn cg gs gp gk gw od ch hst jo n R (nI (y + j) - 1)
  | 0, j, n, R, hj, hn, hR => by
    obtain ⟨m, rfl⟩ : ∃ m, n = m + 1 := ⟨n - 1, by omega⟩
    have : j = 3 := by omega
    subst this
    have d2 := D.2.2.2.1
    have ix := mg_ix D hx hy
    have hN := mg_N64 D
    refine br_t ((mi_lt (by omega) (by omega)).mpr (by omega)) (mx_index (h _ fun c => ?_))
    rw [Bool.eq_iff_iff, mb_and, Bool.and_eq_true, hR, ← mi_fnd_end D hx hy]
    constructor
    · rintro ⟨h1, h2⟩
      refine ⟨h1, fun z => ?_⟩
      rw [z, mb_not _ (by omega), mb_one (by omega), decide_eq_true rfl] at h2
      exact absurd h2 (by decide)
    · rintro ⟨h1, h2⟩
      have c64 : c < 64 := mb_lt ((hR c).mpr h1)
      refine ⟨h1, ?_⟩
      rw [mb_not _ c64, mb_one (by omega), decide_eq_false h2]; rfl
  | k + 1, j, n, R, hj, hn, hR => by
    obtain ⟨m, rfl⟩ : ∃ m, n = m + 1 := ⟨n - 1, by omega⟩
    have d2 := D.2.2.2.1
    exact br_f (fun z => by have := (mi_lt (by omega) (by omega)).mp z; omega) (nm_e ⟨4, mx_ar_in D hx hy (by omega) (fun R' hR' => mx_ar_out D hx hy h k (j + 1) m R' (by omega) (by omega) hR') 3 0 4 R (by omega) (by omega) hR⟩)
theorem mx_around {post : Int64 → Prop} (D : mg_D wd hd N) {x y : Nat} (hx : x < wd) (hy : y < hd) (h : ∀ R : Int64, (∀ c, mb_b R c = mg_nb wd N (y * wd + x) c) → post R) : wpX_around post (nI wd, nI hd, nI N, bd, ph, M, O, F, B, gc, cc, tw, fw, nr, bn, cg, gs, gp, gk, gw, od, ch, hst, jo) (nI x) (nI y) :=
  nm_e ⟨4, mx_ar_out D hx hy h 3 0 4 0 (by omega) (by omega) fun c => by
    rw [mb_0]
    constructor
    · intro z; exact absurd z (by decide)
    · rintro ⟨j', i', z, _⟩; omega⟩
end
end
section
/-! ===== the tables and i_vc0 ===== -/
theorem mi_uL {f : Nat → Int64} {k j : Nat} {x : Int64} : vp_updL f k x j = if j = k then x else f j := rfl
section
variable {wd hd N : Nat} {bd : Int64} {ph : Int32} {M O F B : Int64} {gc cc : Int32} {tw fw : Int64} {nr bn : Nat → Int64} {cg gs gp : Nat → Int32} {gk gw : Nat → Int64} {od ch : Nat → Int32} {hst jo : Nat → Int64}
/-- binomial table: rows below n full, of row n the first k, the rest 0 -/
def mi_T (n k : Nat) (bn : Nat → Int64) : Prop := (∀ a b, a < n → b ≤ 64 → bn (a * 65 + b) = lN (mp_C a b)) ∧ (∀ b, b < k → bn (n * 65 + b) = lN (mp_C n b)) ∧ (∀ i, n * 65 + k ≤ i → bn i = 0)
theorem mi_T_row {n : Nat} (hn : n ≤ 64) {bn : Nat → Int64} (h : mi_T n (n + 1) bn) : mi_T (n + 1) 0 bn := by
  obtain ⟨h1, h2, h3⟩ := h
  refine ⟨fun a b ha hb => ?_, fun b hb => absurd hb (Nat.not_lt_zero _), fun i hi => h3 i (by omega)⟩
  by_cases e : a = n
  · subst e
    by_cases z : b < a + 1
    · exact h2 b z
    · rw [h3 _ (by omega), mp_C_gt a b (by omega)]; rfl
  · exact h1 a b (by omega) hb
theorem mx_fb_in {post : SX → Prop} {J : Int32 → (Nat → Int64) → (Nat → Int64) → (Nat → Int32) → (Nat → Int32) → (Nat → Int32) → (Nat → Int64) → (Nat → Int64) → (Nat → Int32) → (Nat → Int32) → (Nat → Int64) → (Nat → Int64) → Prop} {n : Nat} (hn : n ≤ 64) (hJ : ∀ bn, mi_T n (n + 1) bn → J (nI (n + 1)) nr bn cg gs gp gk gw od ch hst jo) : ∀ (d k f : Nat) (bn : Nat → Int64), k + d = n + 1 → 1 ≤ k → d < f → mi_T n k bn → wX_fillBinomials_20 post J (nI n) (nI wd) (nI hd) (nI N) bd ph M O F B gc cc tw fw f (nI k) nr bn cg gs gp gk gw od ch hst jo
  | 0, k, f, bn, hk, h1, hf, hT => by
    obtain ⟨m, rfl⟩ : ∃ m, f = m + 1 := ⟨f - 1, by omega⟩
    have : k = n + 1 := by omega
    subst this
    exact br_t (nI_lt (by omega) (by omega)) (nm_r (nI_1 n) (hJ bn hT))
  | d + 1, k, f, bn, hk, h1, hf, hT => by
    obtain ⟨m, rfl⟩ : ∃ m, f = m + 1 := ⟨f - 1, by omega⟩
    obtain ⟨n', rfl⟩ : ∃ n', n = n' + 1 := ⟨n - 1, by omega⟩
    obtain ⟨k', rfl⟩ : ∃ k', k = k' + 1 := ⟨k - 1, by omega⟩
    have e65 : ∀ a b : Nat, nI a * 65 + nI b = nI (a * 65 + b) := fun a b => by rw [show (65 : Int32) = nI 65 from rfl, pk_mul, nI_add]
    have e1 : (nI (n' + 1) - 1) * 65 + nI (k' + 1) = nI (n' * 65 + (k' + 1)) := by rw [nI_pred, e65]
    have e2 : (nI (n' + 1) - 1) * 65 + nI (k' + 1) - 1 = nI (n' * 65 + k') := by rw [e1, ← Nat.add_assoc, nI_pred]
    have e3 : nI (n' + 1) * 65 + nI (k' + 1) = nI ((n' + 1) * 65 + (k' + 1)) := e65 _ _
    obtain ⟨t1, t2, t3⟩ := hT
    refine br_f (nI_nlt (by omega) (by omega)) (And.intro ?_ (And.intro ?_ (And.intro ?_ (nm_r (e' := vp_updL bn ((n' + 1) * 65 + (k' + 1)) (lN (mp_C (n' + 1) (k' + 1)))) ?_ (nm_r (nI_1 _) (mx_fb_in hn hJ d (k' + 1 + 1) m _ (by omega) (by omega) (by omega) ⟨fun a b ha hb => ?_, fun b hb => ?_, fun i hi => ?_⟩))))))
    · rw [e2]; exact vp_in_nI (by omega) (by omega)
    · rw [e1]; exact vp_in_nI (by omega) (by omega)
    · rw [e3]; exact vp_in_nI (by omega) (by omega)
    · rw [e2, e1, e3, nI_clamp (by omega), nI_clamp (by omega), nI_clamp (by omega), t1 n' k' (by omega) (by omega), t1 n' (k' + 1) (by omega) (by omega), lN_add, mp_C_s]
    · rw [pk_uLn (by omega)]; exact t1 a b ha hb
    · by_cases q : b = k' + 1
      · rw [q, pk_uLs]
      · rw [pk_uLn (by omega)]; exact t2 b (by omega)
    · rw [pk_uLn (by omega)]; exact t3 i (by omega)
end
section
variable {wd hd N : Nat} {bd : Int64} {ph : Int32} {M O F B : Int64} {gc cc : Int32} {tw fw : Int64} {nr bn : Nat → Int64} {cg gs gp : Nat → Int32} {gk gw : Nat → Int64} {od ch : Nat → Int32} {hst jo : Nat → Int64}
theorem mx_fb_out {post : SX → Prop} (h : ∀ bn, mi_T 65 0 bn → post (nI wd, nI hd, nI N, bd, ph, M, O, F, B, gc, cc, tw, fw, nr, bn, cg, gs, gp, gk, gw, od, ch, hst, jo)) : ∀ (d n f : Nat) (bn : Nat → Int64), n + d = 65 → d < f → mi_T n 0 bn → wX_fillBinomials_2 post (nI wd) (nI hd) (nI N) bd ph M O F B gc cc tw fw f (nI n) nr bn cg gs gp gk gw od ch hst jo
  | 0, n, f, bn, hn, hf, hT => by
    obtain ⟨m, rfl⟩ : ∃ m, f = m + 1 := ⟨f - 1, by omega⟩
    have : n = 65 := by omega
    subst this
    exact br_t (nI_lt (a := 64) (by omega) (by omega)) (h bn hT)
  | d + 1, n, f, bn, hn, hf, hT => by
    obtain ⟨m, rfl⟩ : ∃ m, f = m + 1 := ⟨f - 1, by omega⟩
    have e : nI n * 65 = nI (n * 65) := by rw [show (65 : Int32) = nI 65 from rfl, pk_mul]
    obtain ⟨t1, t2, t3⟩ := hT
    refine br_f (nI_nlt (b := n) (a := 64) (by omega) (by omega)) (And.intro (by rw [e]; exact vp_in_nI (by omega) (by omega)) (nm_r (e' := vp_updL bn (n * 65) (lN (mp_C n 0))) (by rw [e, nI_clamp (by omega), mp_C_0]; rfl) ⟨n + 1, mx_fb_in (by omega) (fun bn' hT' => mx_fb_out h d (n + 1) m bn' (by omega) (by omega) (mi_T_row (by omega) hT')) n 1 (n + 1) _ (by omega) (by omega) (by omega) ⟨fun a b ha hb => ?_, fun b hb => ?_, fun i hi => ?_⟩⟩))
    · rw [pk_uLn (by omega)]; exact t1 a b ha hb
    · have : b = 0 := by omega
      subst this
      exact pk_uLs
    · rw [pk_uLn (by omega)]; exact t3 i (by omega)
theorem mx_nr_in {post : SX → Prop} {J : Int32 → (Nat → Int64) → (Nat → Int64) → (Nat → Int32) → (Nat → Int32) → (Nat → Int32) → (Nat → Int64) → (Nat → Int64) → (Nat → Int32) → (Nat → Int32) → (Nat → Int64) → (Nat → Int64) → Prop} (D : mg_D wd hd N) {y : Nat} (hy : y < hd) (hJ : ∀ nr, (∀ c, c < (y + 1) * wd → ∀ i, mb_b (nr c) i = mg_nb wd N c i) → J (nI (y + 1)) nr bn cg gs gp gk gw od ch hst jo) : ∀ (d x f : Nat) (nr : Nat → Int64), x + d = wd → d < f → (∀ c, c < y * wd + x → ∀ i, mb_b (nr c) i = mg_nb wd N c i) → wX_init_153 post J (nI y) (nI wd) (nI hd) (nI N) bd ph M O F B gc cc tw fw f (nI x) nr bn cg gs gp gk gw od ch hst jo
  | 0, x, f, nr, hx, hf, hT => by
    obtain ⟨m, rfl⟩ : ∃ m, f = m + 1 := ⟨f - 1, by omega⟩
    have : x = wd := by omega
    subst this
    have := D.2.1
    refine br_t (nI_le (Nat.le_refl _) (by omega)) (nm_r (nI_1 y) (hJ nr fun c hc => hT c ?_))
    rw [Nat.succ_mul] at hc; exact hc
  | d + 1, x, f, nr, hx, hf, hT => by
    obtain ⟨m, rfl⟩ : ∃ m, f = m + 1 := ⟨f - 1, by omega⟩
    have d1 := D.2.1
    have ix := mg_ix D (x := x) (by omega) hy
    have hN := mg_N64 D
    refine br_f (nI_ge (by omega) (by omega)) (mx_index (mx_around D (by omega) hy fun R hR => And.intro (vp_in_nI (by omega) (by omega)) (nm_r (e' := vp_updL nr (y * wd + x) R) (by rw [nI_clamp (by omega)]) (nm_r (nI_1 x) (mx_nr_in D hy hJ d (x + 1) m _ (by omega) (by omega) fun c hc => ?_)))))
    by_cases q : c = y * wd + x
    · rw [q, pk_uLs]; exact hR
    · rw [pk_uLn q]; exact hT c (by omega)
theorem mx_nr_out {post : SX → Prop} (D : mg_D wd hd N) (h : ∀ nr, (∀ c, c < N → ∀ i, mb_b (nr c) i = mg_nb wd N c i) → wpX_fillBinomials post (nI wd, nI hd, nI N, bd, ph, M, O, F, B, gc, cc, tw, fw, nr, bn, cg, gs, gp, gk, gw, od, ch, hst, jo)) : ∀ (d y f : Nat) (nr : Nat → Int64), y + d = hd → d < f → (∀ c, c < y * wd → ∀ i, mb_b (nr c) i = mg_nb wd N c i) → wX_init_142 post (nI wd) (nI hd) (nI N) bd ph M O F B gc cc tw fw f (nI y) nr bn cg gs gp gk gw od ch hst jo
  | 0, y, f, nr, hy, hf, hT => by
    obtain ⟨m, rfl⟩ : ∃ m, f = m + 1 := ⟨f - 1, by omega⟩
    have : y = hd := by omega
    subst this
    have := D.2.2.2.1
    refine br_t (nI_le (Nat.le_refl _) (by omega)) (h nr fun c hc => hT c ?_)
    obtain ⟨_, _, _, _, rfl⟩ := D
    rw [Nat.mul_comm]; exact hc
  | d + 1, y, f, nr, hy, hf, hT => by
    obtain ⟨m, rfl⟩ : ∃ m, f = m + 1 := ⟨f - 1, by omega⟩
    have := D.2.2.2.1
    exact br_f (nI_ge (by omega) (by omega)) ⟨wd + 1, mx_nr_in D (by omega) (fun nr' hT' => mx_nr_out D h d (y + 1) m nr' (by omega) (by omega) hT') wd 0 (wd + 1) nr (by omega) (by omega) (fun c hc => hT c (by omega))⟩
end
section
variable {wd hd N : Nat}
variable {yp : Int32} {tt : Int64} {cl ro mi co mq eg nu : Nat → Int32} {ho pa : Nat → Int64}
theorem my_in_c {post : SY → Prop} (hN : N ≤ 64) (h : ∀ co, (∀ c, c < N → co c = 9) → post (nI wd, nI hd, nI N, 0, tt, cl, ro, mi, co, mq, eg, nu, ho, pa)) : ∀ (k i n : Nat) (co : Nat → Int32), i + k = N → k < n → (∀ c, c < i → co c = 9) → wY_init_206 post (nI wd) (nI hd) (nI N) yp tt n (nI i) cl ro mi co mq eg nu ho pa
  | 0, i, n, co, hi, hn, hm => by
    obtain ⟨m, rfl⟩ : ∃ m, n = m + 1 := ⟨n - 1, by omega⟩
    have : i = N := by omega
    subst this
    exact br_t (nI_le (Nat.le_refl _) (by omega)) (h co hm)
  | k + 1, i, n, co, hi, hn, hm => by
    obtain ⟨m, rfl⟩ : ∃ m, n = m + 1 := ⟨n - 1, by omega⟩
    refine br_f (nI_ge (by omega) (by omega)) (And.intro (vp_in_nI (by omega) (by omega)) (nm_r (e' := upd co i 9) (by rw [nI_clamp (by omega)]) (nm_r (nI_1 i) (my_in_c hN h k (i + 1) m _ (by omega) (by omega) fun c hc => ?_))))
    by_cases q : c = i
    · subst q; rw [pk_us]
    · rw [pk_un q]; exact hm c (by omega)
theorem my_in_r {post : SY → Prop} {J : Int32 → (Nat → Int32) → (Nat → Int32) → (Nat → Int32) → (Nat → Int32) → (Nat → Int32) → (Nat → Int32) → (Nat → Int32) → (Nat → Int64) → (Nat → Int64) → Prop} (D : mg_D wd hd N) {y : Nat} (hy : y < hd) (hJ : ∀ cl ro, (∀ c, c < (y + 1) * wd → cl c = nI (c % wd) ∧ ro c = nI (c / wd)) → J (nI (y + 1)) cl ro mi co mq eg nu ho pa) : ∀ (d x f : Nat) (cl ro : Nat → Int32), x + d = wd → d < f → (∀ c, c < y * wd + x → cl c = nI (c % wd) ∧ ro c = nI (c / wd)) → wY_init_152 post J (nI y) (nI wd) (nI hd) (nI N) yp tt f (nI x) cl ro mi co mq eg nu ho pa
  | 0, x, f, cl, ro, hx, hf, hT => by
    obtain ⟨m, rfl⟩ : ∃ m, f = m + 1 := ⟨f - 1, by omega⟩
    have : x = wd := by omega
    subst this
    have := D.2.1
    refine br_t (nI_le (Nat.le_refl _) (by omega)) (nm_r (nI_1 y) (hJ cl ro fun c hc => hT c ?_))
    rw [Nat.succ_mul] at hc; exact hc
  | d + 1, x, f, cl, ro, hx, hf, hT => by
    obtain ⟨m, rfl⟩ : ∃ m, f = m + 1 := ⟨f - 1, by omega⟩
    have d1 := D.2.1
    have ix := mg_ix D (x := x) (by omega) hy
    have hN := mg_N64 D
    have ei : nI y * nI wd + nI x = nI (y * wd + x) := by rw [pk_mul, nI_add]
    have v : vp_in (nI y * nI wd + nI x) 64 := by rw [ei]; exact vp_in_nI (by omega) (by omega)
    have ec : (nI y * nI wd + nI x).toNatClampNeg = y * wd + x := by rw [ei, nI_clamp (by omega)]
    obtain ⟨f1, f2⟩ := mi_dm (Y := y) (show x < wd by omega)
    refine br_f (nI_ge (by omega) (by omega)) (And.intro v (nm_r (e' := upd cl (y * wd + x) (nI x)) (by rw [ec]) (And.intro v (nm_r (e' := upd ro (y * wd + x) (nI y)) (by rw [ec]) (nm_r (nI_1 x) (my_in_r D hy hJ d (x + 1) m _ _ (by omega) (by omega) fun c hc => ?_))))))
    by_cases q : c = y * wd + x
    · rw [q, pk_us, pk_us, f1, f2]; exact ⟨rfl, rfl⟩
    · rw [pk_un q, pk_un q]; exact hT c (by omega)
theorem my_in_o {post : SY → Prop} (D : mg_D wd hd N) (h : ∀ cl ro co, (∀ c, c < N → cl c = nI (c % wd) ∧ ro c = nI (c / wd)) → (∀ c, c < N → co c = 9) → post (nI wd, nI hd, nI N, 0, tt, cl, ro, mi, co, mq, eg, nu, ho, pa)) : ∀ (d y f : Nat) (cl ro : Nat → Int32), y + d = hd → d < f → (∀ c, c < y * wd → cl c = nI (c % wd) ∧ ro c = nI (c / wd)) → wY_init_141 post (nI wd) (nI hd) (nI N) yp tt f (nI y) cl ro mi co mq eg nu ho pa
  | 0, y, f, cl, ro, hy, hf, hT => by
    obtain ⟨m, rfl⟩ : ∃ m, f = m + 1 := ⟨f - 1, by omega⟩
    have : y = hd := by omega
    subst this
    have := D.2.2.2.1
    refine br_t (nI_le (Nat.le_refl _) (by omega)) ⟨N + 1, my_in_c (mg_N64 D) (fun co' hc' => h cl ro co' (fun c hc => hT c ?_) hc') N 0 (N + 1) co (by omega) (by omega) (fun c hc => absurd hc (Nat.not_lt_zero _))⟩
    obtain ⟨_, _, _, _, rfl⟩ := D
    rw [Nat.mul_comm]; exact hc
  | d + 1, y, f, cl, ro, hy, hf, hT => by
    obtain ⟨m, rfl⟩ : ∃ m, f = m + 1 := ⟨f - 1, by omega⟩
    have := D.2.2.2.1
    exact br_f (nI_ge (by omega) (by omega)) ⟨wd + 1, my_in_r D (by omega) (fun cl' ro' hT' => my_in_o D h d (y + 1) m cl' ro' (by omega) (by omega) hT') wd 0 (wd + 1) cl ro (by omega) (by omega) (fun c hc => hT c (by omega))⟩
end
theorem mx_clamp {post : Int32 → Prop} {u : SX} {p : Int32} {w : Nat} (hw : ∀ A : Int32 → Prop, A (nI w) → (1 ≤ p → (p ≤ 8 → A p) ∧ (¬ p ≤ 8 → A 8)) ∧ (¬ 1 ≤ p → A 1)) (h : post (nI w)) : wpX_clamp post u p := by
  obtain ⟨_, _, _, _, _, _, _, _, _, _, _, _, _, _, _, _, _, _, _, _, _, _, _, _⟩ := u
  exact hw post h
theorem i_vc0 (k0 : Int32) (k1 : Int32) : wpX_init (fun u => wpY_init (fun v => i_Rel 2 u v) k0 k1) k0 k1 := by
  obtain ⟨w, w1, w8, hw⟩ := mi_clamp k0
  obtain ⟨h, h1, h8, hh⟩ := mi_clamp k1
  have D : mg_D w h (w * h) := ⟨w1, w8, h1, h8, rfl⟩
  have hN := mg_N64 D
  have n1 : 1 ≤ w * h := Nat.mul_le_mul w1 h1
  unfold wpX_init
  refine mx_clamp hw (mx_clamp hh (nm_r (e' := nI (w * h)) (pk_mul w h) (nm_e ⟨h + 1, mx_nr_out D (fun nr' hn' => ⟨66, mx_fb_out (fun bn' hb' => ?_) 65 0 66 _ (by omega) (by omega) ⟨fun a b ha => absurd ha (Nat.not_lt_zero _), fun b hb => absurd hb (Nat.not_lt_zero _), fun _ _ => rfl⟩⟩) h 0 (h + 1) _ (by omega) (by omega) (fun c hc => by omega)⟩)))
  refine hw (fun z => wY_init_98 (fun v => i_Rel 2 _ v) k1 z 0 0 0 0 0 _ _ _ _ _ _ _ _ _) (hh (fun z => wY_init_123 (fun v => i_Rel 2 _ v) z (nI w) 0 0 0 0 _ _ _ _ _ _ _ _ _) (nm_r (e' := nI (w * h)) (pk_mul w h) ⟨h + 1, my_in_o D (fun cl' ro' co' hc' ho' => mr_mk ⟨⟨D, mi_board n1 hN, hn', fun n k hn hk => hb'.1 n k (by omega) hk⟩, ⟨D, hc'⟩, fun c _ => ?_, fun c hcN => ?_, ?_, ?_, ?_, ?_, ?_, ?_, ?_, fun _ => ⟨rfl, rfl, rfl⟩, fun z => absurd z (by decide)⟩) h 0 (h + 1) _ _ (by omega) (by omega) (fun c hc => by omega)⟩))
  · rw [mb_0]; rfl
  · rw [ho' c hcN]; exact (mg_cv9.mpr ⟨mb_0 c, mb_0 c, mb_0 c⟩).symm
  all_goals intro i hi
  all_goals first
    | (rw [mb_0] at hi; exact absurd hi (by decide))
    | (rw [mb_0] at hi; exact absurd hi.1 (by decide))
end
section
/-! ===== Y: choose ===== -/
section
variable {wd hd N : Nat}
variable {yp : Int32} {tt : Int64} {cl ro mi co mq eg nu : Nat → Int32} {ho pa : Nat → Int64}
theorem my_ch_a {post : Int64 → SY → Prop} {n k : Nat} (hk : k ≤ n) (hn : n ≤ 64) {J : Int32 → (Nat → Int32) → (Nat → Int32) → (Nat → Int32) → (Nat → Int32) → (Nat → Int32) → (Nat → Int32) → (Nat → Int32) → (Nat → Int64) → (Nat → Int64) → Prop} {i : Nat} (hi : 1 ≤ i) (hi2 : i ≤ 64) (hJ : ∀ pa, (∀ j, j ≤ 64 → pa j = lN (mp_C i j)) → J (nI (i + 1)) cl ro mi co mq eg nu ho pa) : ∀ (j f : Nat) (pa : Nat → Int64), j ≤ i → j < f → (∀ l, l ≤ 64 → pa l = if j < l then lN (mp_C i l) else lN (mp_C (i - 1) l)) → wY_choose_55 post J (nI n) (nI k) (nI i) (nI wd) (nI hd) (nI N) yp tt f (nI j) cl ro mi co mq eg nu ho pa
  | 0, f, pa, hj, hf, hp => by
    obtain ⟨m, rfl⟩ : ∃ m, f = m + 1 := ⟨f - 1, by omega⟩
    refine br_t (nI_lt (a := 0) (b := 1) (by omega) (by omega)) (nm_r (nI_1 i) (hJ pa fun l hl => ?_))
    rw [hp l hl]
    by_cases z : 0 < l
    · rw [if_pos z]
    · have : l = 0 := by omega
      subst this
      rw [if_neg z, mp_C_0, mp_C_0]
  | j + 1, f, pa, hj, hf, hp => by
    obtain ⟨m, rfl⟩ : ∃ m, f = m + 1 := ⟨f - 1, by omega⟩
    have v : vp_in (nI (j + 1)) 65 := vp_in_nI (by omega) (by omega)
    have e : (nI (j + 1)).toNatClampNeg = j + 1 := nI_clamp (by omega)
    have e1 : (nI (j + 1) - 1).toNatClampNeg = j := by rw [nI_pred, nI_clamp (by omega)]
    obtain ⟨i', rfl⟩ : ∃ i', i = i' + 1 := ⟨i - 1, by omega⟩
    refine br_f (nI_nlt (b := 1) (a := j + 1) (by omega) (by omega)) (And.intro v (And.intro (by rw [nI_pred]; exact vp_in_nI (by omega) (by omega)) (And.intro v (nm_r (e' := vp_updL pa (j + 1) (lN (mp_C (i' + 1) (j + 1)))) ?_ (nm_r (pk_m1 j) (my_ch_a hk hn hi hi2 hJ j m _ (by omega) (by omega) fun l hl => ?_))))))
    · rw [e, e1, hp (j + 1) (by omega), hp j (by omega), if_neg (by omega), if_neg (by omega), lN_add, Nat.add_sub_cancel, mp_C_s, Nat.add_comm (mp_C i' j)]
    · by_cases q : l = j + 1
      · rw [q, pk_uLs, if_pos (by omega)]
      · rw [pk_uLn q, hp l hl]
        by_cases z : j + 1 < l
        · rw [if_pos z, if_pos (by omega)]
        · rw [if_neg z, if_neg (by omega)]
theorem my_ch_b {post : Int64 → SY → Prop} {n k : Nat} (hk : k ≤ n) (hn : n ≤ 64) (h : ∀ pa, post (lN (mp_C n k)) (nI wd, nI hd, nI N, yp, tt, cl, ro, mi, co, mq, eg, nu, ho, pa)) : ∀ (d i f : Nat) (pa : Nat → Int64), i + d = n + 1 → 1 ≤ i → d < f → (∀ j, j ≤ 64 → pa j = lN (mp_C (i - 1) j)) → wY_choose_47 post (nI n) (nI k) (nI wd) (nI hd) (nI N) yp tt f (nI i) cl ro mi co mq eg nu ho pa
  | 0, i, f, pa, hd', hi, hf, hp => by
    obtain ⟨m, rfl⟩ : ∃ m, f = m + 1 := ⟨f - 1, by omega⟩
    have : i = n + 1 := by omega
    subst this
    refine br_t (nI_lt (by omega) (by omega)) (And.intro (vp_in_nI (by omega) (by omega)) ?_)
    rw [nI_clamp (by omega), hp k (by omega), Nat.add_sub_cancel]
    exact h pa
  | d + 1, i, f, pa, hd', hi, hf, hp => by
    obtain ⟨m, rfl⟩ : ∃ m, f = m + 1 := ⟨f - 1, by omega⟩
    refine br_f (nI_nlt (by omega) (by omega)) ⟨i + 1, my_ch_a hk hn hi (by omega) (fun pa' hp' => my_ch_b hk hn h d (i + 1) m pa' (by omega) (by omega) (by omega) hp') i (i + 1) pa (Nat.le_refl _) (by omega) fun l hl => ?_⟩
    rw [hp l hl]
    by_cases z : i < l
    · rw [if_pos z, mp_C_gt i l z, mp_C_gt (i - 1) l (by omega)]
    · rw [if_neg z]
theorem my_ch_c {post : Int64 → SY → Prop} {n k : Nat} (hk : k ≤ n) (hn : n ≤ 64) (h : ∀ pa, post (lN (mp_C n k)) (nI wd, nI hd, nI N, yp, tt, cl, ro, mi, co, mq, eg, nu, ho, pa)) : ∀ (d i f : Nat) (pa : Nat → Int64), i + d = 65 → d < f → (∀ j, j < i → pa j = 0) → wY_choose_19 post (nI n) (nI k) (nI wd) (nI hd) (nI N) yp tt f (nI i) cl ro mi co mq eg nu ho pa
  | 0, i, f, pa, hd', hf, hp => by
    obtain ⟨m, rfl⟩ : ∃ m, f = m + 1 := ⟨f - 1, by omega⟩
    have : i = 65 := by omega
    subst this
    refine br_t (nI_le (a := 65) (b := 65) (Nat.le_refl _) (by omega)) (nm_e ⟨n + 1, my_ch_b hk hn h n 1 (n + 1) _ (by omega) (by omega) (by omega) fun j hj => ?_⟩)
    by_cases q : j = 0
    · rw [q, pk_uLs]; rfl
    · rw [pk_uLn q, hp j (by omega), mp_C_gt _ _ (by omega)]; rfl
  | d + 1, i, f, pa, hd', hf, hp => by
    obtain ⟨m, rfl⟩ : ∃ m, f = m + 1 := ⟨f - 1, by omega⟩
    refine br_f (nI_ge (b := 65) (by omega) (by omega)) (And.intro (vp_in_nI (by omega) (by omega)) (nm_r (e' := vp_updL pa i 0) (by rw [nI_clamp (by omega)]) (nm_r (nI_1 i) (my_ch_c hk hn h d (i + 1) m _ (by omega) (by omega) fun j hj => ?_))))
    by_cases q : j = i
    · rw [q, pk_uLs]
    · rw [pk_uLn q]; exact hp j (by omega)
theorem my_choose {post : Int64 → SY → Prop} {a b : Int32} (ha : a.toInt ≤ 64) (h : ∀ pa, post (lN (mp_ch a.toInt b.toInt)) (nI wd, nI hd, nI N, yp, tt, cl, ro, mi, co, mq, eg, nu, ho, pa)) : wpY_choose post (nI wd, nI hd, nI N, yp, tt, cl, ro, mi, co, mq, eg, nu, ho, pa) a b := by
  have z0 : (0 : Int32).toInt = 0 := by decide
  refine br_c (fun z => ?_) fun z1 => br_c (fun z => ?_) fun z2 => ?_
  · rw [Int32.lt_iff_toInt_lt, z0] at z
    have := h pa
    rw [mp_ch_f (by omega)] at this
    exact this
  · rw [Int32.lt_iff_toInt_lt] at z
    have := h pa
    rw [mp_ch_f (by omega)] at this
    exact this
  · rw [Int32.lt_iff_toInt_lt] at z2
    obtain ⟨k, hk, rfl⟩ := nI_of z1
    have tk := nI_toInt hk
    rw [tk] at z2 h
    have a0 : ¬ a < 0 := fun y => by rw [Int32.lt_iff_toInt_lt, z0] at y; omega
    obtain ⟨n, hn, rfl⟩ := nI_of a0
    have tn := nI_toInt hn
    rw [tn] at z2 h ha
    refine br_t (nI_le (b := 64) (by omega) (by omega)) ⟨66, my_ch_c (n := n) (k := k) (by omega) (by omega) (fun pa' => ?_) 65 0 66 pa (by omega) (by omega) (fun j hj => absurd hj (Nat.not_lt_zero _))⟩
    have := h pa'
    rw [mp_ch_t (by omega)] at this
    exact this
end
theorem mw_bit {s e : Nat} (hs : s < 2 ^ 31) (he : e < 32) : ((nI s >>> (nI e &&& 31)) &&& 1) = 1 ↔ s.testBit e = true := by
  rw [pk_shrN hs (nI e &&& 31) e (s_l e he), pk_andN (Nat.lt_of_le_of_lt (Nat.div_le_self _ _) (by omega)) (m := 1) 1 (by decide), Nat.testBit_eq_decide_div_mod_eq, decide_eq_true_eq]
  show nI (s / 2 ^ e % 2 ^ 1) = nI 1 ↔ _
  rw [nI_eq (by omega) (by omega)]
end
section
/-! ===== Y: the sums over all subsets of the edge ===== -/
def mw_n (wd N : Nat) (O B : Int64) : Nat := mb_c (mg_e wd N O B) N
def mw_g (wd N : Nat) (O B : Int64) (i : Nat) : Nat := mg_g (mg_e wd N O B) N i
def mw_fit (wd N : Nat) (M O B : Int64) (s : Nat) : Prop := ∀ c, c < N → mb_b O c = true → mb_c (fun i => s.testBit i && mg_nb wd N c (mw_g wd N O B i)) (mw_n wd N O B) = mg_num wd N M c
def mw_sz (wd N : Nat) (O B : Int64) (s : Nat) : Nat := mb_c (fun i => s.testBit i) (mw_n wd N O B)
def mw_r (wd N : Nat) (O B : Int64) : Nat := mb_c (mg_h N O B) N - mw_n wd N O B
def mw_1 (wd N : Nat) (M O B : Int64) (s : Nat) : Nat := mp_ch (mw_r wd N O B : Int) ((mb_c (mb_b M) N : Int) - mw_sz wd N O B s)
def mw_2 (wd N : Nat) (M O B : Int64) (s : Nat) : Nat := mp_ch ((mw_r wd N O B : Int) - 1) ((mb_c (mb_b M) N : Int) - mw_sz wd N O B s - 1)
def mw_v (wd N : Nat) (M O B : Int64) (s c : Nat) : Nat := if mg_e wd N O B c then (if s.testBit (mb_c (mg_e wd N O B) c) then mw_1 wd N M O B s else 0) else mw_2 wd N M O B s
noncomputable def mw_T (wd N : Nat) (M O B : Int64) (k : Nat) : Nat := mp_s (fun s => mp_i (mw_fit wd N M O B s) (mw_1 wd N M O B s)) k
noncomputable def mw_H (wd N : Nat) (M O B : Int64) (c k : Nat) : Nat := mp_s (fun s => mp_i (mw_fit wd N M O B s) (mw_v wd N M O B s c)) k
theorem mw_gx {ed : Nat → Bool} {N c : Nat} (hc : c < N) (h : ed c = true) : mb_c ed c < mb_c ed N ∧ mg_g ed N (mb_c ed c) = c := by
  have l : mb_c ed (c + 1) ≤ mb_c ed N := mb_c_monoN ed hc
  have e : mb_c ed (c + 1) = mb_c ed c + 1 := by
    show mb_c ed c + (if ed c then 1 else 0) = _
    rw [h]; rfl
  refine ⟨by omega, ?_⟩
  obtain ⟨d, rfl⟩ : ∃ d, N = c + 1 + d := ⟨N - (c + 1), by omega⟩
  clear hc l
  induction d with
  | zero => exact mg_g_n h
  | succ d ih =>
    have l : mb_c ed (c + 1) ≤ mb_c ed (c + 1 + d) := mb_c_monoN ed (by omega)
    rw [← Nat.add_assoc, mg_g_s (by omega)]
    exact ih
theorem mw_ix {ed : Nat → Bool} {N i : Nat} (h : i < mb_c ed N) : mb_c ed (mg_g ed N i) = i := by
  obtain ⟨h1, h2⟩ := mg_g_in h
  obtain ⟨h3, h4⟩ := mw_gx h1 h2
  exact mg_g_inj h3 h h4
theorem mw_eh {wd N : Nat} {O B : Int64} {c : Nat} (h : mg_e wd N O B c = true) : mg_h N O B c = true := by
  unfold mg_e at h
  rw [Bool.and_eq_true] at h
  exact h.1
theorem mw_nh (wd N : Nat) (O B : Int64) : mw_n wd N O B ≤ mb_c (mg_h N O B) N := mb_c_mono fun _ _ h => mw_eh h
section
variable {wd hd N : Nat} {M O F B : Int64}
variable {yp : Int32} {tt : Int64} {cl ro mi co mq eg nu : Nat → Int32} {ho pa : Nat → Int64}
def mw_E (wd N : Nat) (O B : Int64) (eg : Nat → Int32) : Prop := ∀ i, i < mw_n wd N O B → eg i = nI (mw_g wd N O B i)
theorem mw_gN {i : Nat} (h : i < mw_n wd N O B) : mw_g wd N O B i < N := (mg_g_in h).1
theorem my_fit_in {post : Int32 → Prop} {J : Int32 → Prop} (Yb : mg_BY wd hd N cl ro) (hE : mw_E wd N O B eg) (hn : mw_n wd N O B ≤ 12) {s c : Nat} (hs : s < 2 ^ 31) (hc : c < N) (hu : nu c = nI (mg_num wd N M c))
    (h1 : mb_c (fun i => s.testBit i && mg_nb wd N c (mw_g wd N O B i)) (mw_n wd N O B) = mg_num wd N M c → J (nI (c + 1))) (h0 : ¬ mb_c (fun i => s.testBit i && mg_nb wd N c (mw_g wd N O B i)) (mw_n wd N O B) = mg_num wd N M c → post 0) :
    ∀ (k i f : Nat), i + k = mw_n wd N O B → k < f → wY_fits_30 post J (nI s) (nI (mw_n wd N O B)) (nI c) (nI wd) (nI hd) (nI N) yp tt cl ro mi co mq eg nu ho pa f (nI (mb_c (fun i => s.testBit i && mg_nb wd N c (mw_g wd N O B i)) i)) (nI i)
  | 0, i, f, hi, hf => by
    obtain ⟨m, rfl⟩ : ∃ m, f = m + 1 := ⟨f - 1, by omega⟩
    have : i = mw_n wd N O B := by omega
    subst this
    have hN := mg_N64 Yb.1
    have l1 : mg_num wd N M c ≤ N := mb_c_le _ N
    have l2 := mb_c_le (fun i => s.testBit i && mg_nb wd N c (mw_g wd N O B i)) (mw_n wd N O B)
    refine br_t (nI_le (Nat.le_refl _) (by omega)) (And.intro (vp_in_nI (by omega) (by omega)) ?_)
    rw [nI_clamp (by omega), hu]
    refine br_c (fun z => nm_r (nI_1 c) (h1 ?_)) (fun z => h0 fun y => z (by rw [y]))
    exact (nI_eq (by omega) (by omega)).mp z
  | k + 1, i, f, hi, hf => by
    obtain ⟨m, rfl⟩ : ∃ m, f = m + 1 := ⟨f - 1, by omega⟩
    have hN := mg_N64 Yb.1
    have ih := my_fit_in Yb hE hn hs hc hu h1 h0 k (i + 1) m (by omega) (by omega)
    have eb : mb_c (fun i => s.testBit i && mg_nb wd N c (mw_g wd N O B i)) (i + 1) = mb_c (fun i => s.testBit i && mg_nb wd N c (mw_g wd N O B i)) i + (if (s.testBit i && mg_nb wd N c (mw_g wd N O B i)) then 1 else 0) := rfl
    have gN : mw_g wd N O B i < N := mw_gN (by omega)
    have ge : eg (nI i).toNatClampNeg = nI (mw_g wd N O B i) := by rw [nI_clamp (by omega)]; exact hE i (by omega)
    refine br_f (nI_ge (by omega) (by omega)) (br_c (fun z => ?_) (fun z => ?_))
    · rw [mw_bit hs (by omega)] at z
      refine And.intro (vp_in_nI (by omega) (by omega)) ?_
      rw [ge]
      refine my_nearB Yb hc gN (fun y => ?_) (fun y => ?_)
      · rw [eb, y, Bool.and_false, if_neg (by decide), Nat.add_zero] at ih
        exact nm_r (nI_1 i) ih
      · rw [eb, y, z, Bool.and_self, if_pos rfl] at ih
        exact nm_r (nI_1 _) (nm_r (nI_1 i) ih)
    · rw [mw_bit hs (by omega)] at z
      rw [eb, mb_f z, Bool.false_and, if_neg (by decide), Nat.add_zero] at ih
      exact nm_r (nI_1 i) ih
theorem my_fit_out {post : Int32 → Prop} (Yb : mg_BY wd hd N cl ro) (hc : mg_co N O F B co) (hE : mw_E wd N O B eg) (hn : mw_n wd N O B ≤ 12) {s : Nat} (hs : s < 2 ^ 31) (hu : ∀ c, c < N → nu c = nI (mg_num wd N M c))
    (h1 : mw_fit wd N M O B s → post 1) (h0 : ¬ mw_fit wd N M O B s → post 0) : ∀ (k c f : Nat), c + k = N → k < f → (∀ x, x < c → mb_b O x = true → mb_c (fun i => s.testBit i && mg_nb wd N x (mw_g wd N O B i)) (mw_n wd N O B) = mg_num wd N M x) → wY_fits_2 post (nI s) (nI (mw_n wd N O B)) (nI wd) (nI hd) (nI N) yp tt cl ro mi co mq eg nu ho pa f (nI c)
  | 0, c, f, hk, hf, hp => by
    obtain ⟨m, rfl⟩ : ∃ m, f = m + 1 := ⟨f - 1, by omega⟩
    have : c = N := by omega
    subst this
    exact br_t (nI_le (Nat.le_refl _) (by have := mg_N64 Yb.1; omega)) (h1 hp)
  | k + 1, c, f, hk, hf, hp => by
    obtain ⟨m, rfl⟩ : ∃ m, f = m + 1 := ⟨f - 1, by omega⟩
    have hN := mg_N64 Yb.1
    have e : (nI c).toNatClampNeg = c := nI_clamp (by omega)
    have nx : (mb_b O c = true → mb_c (fun i => s.testBit i && mg_nb wd N c (mw_g wd N O B i)) (mw_n wd N O B) = mg_num wd N M c) → wY_fits_2 post (nI s) (nI (mw_n wd N O B)) (nI wd) (nI hd) (nI N) yp tt cl ro mi co mq eg nu ho pa m (nI (c + 1)) := fun q => my_fit_out Yb hc hE hn hs hu h1 h0 k (c + 1) m (by omega) (by omega) fun x hx hx2 => by
      by_cases y : x = c
      · rw [y] at hx2 ⊢; exact q hx2
      · exact hp x (by omega) hx2
    refine br_f (nI_ge (by omega) (by omega)) (And.intro (vp_in_nI (by omega) (by omega)) (br_c (fun z => ?_) (fun z => ?_)))
    · rw [e, hc c (by omega), mg_cv12] at z
      exact ⟨mw_n wd N O B + 1, my_fit_in Yb hE hn hs (by omega) (hu c (by omega)) (fun y => nx fun _ => y) (fun y => h0 fun w => y (w c (by omega) z)) (mw_n wd N O B) 0 _ (by omega) (by omega)⟩
    · rw [e, hc c (by omega), mg_cv12] at z
      exact nm_r (nI_1 c) (nx fun y => absurd y z)
theorem my_fits {post : Int32 → Prop} (Yb : mg_BY wd hd N cl ro) (hc : mg_co N O F B co) (hE : mw_E wd N O B eg) (hn : mw_n wd N O B ≤ 12) {s : Nat} (hs : s < 2 ^ 31) (hu : ∀ c, c < N → nu c = nI (mg_num wd N M c))
    (h1 : mw_fit wd N M O B s → post 1) (h0 : ¬ mw_fit wd N M O B s → post 0) : wpY_fits post (nI wd, nI hd, nI N, yp, tt, cl, ro, mi, co, mq, eg, nu, ho, pa) (nI s) (nI (mw_n wd N O B)) :=
  ⟨N + 1, my_fit_out Yb hc hE hn hs hu h1 h0 N 0 (N + 1) (by omega) (by omega) fun x hx => absurd hx (Nat.not_lt_zero _)⟩
/-! add -/
theorem my_add_c {post : SY → Prop} (Yb : mg_BY wd hd N cl ro) (hc : mg_co N O F B co) {x : Int64} {ho0 : Nat → Int64} (h : ∀ ho, (∀ c, c < N → ho c = if mg_h N O B c && !(mg_e wd N O B c) then ho0 c + x else ho0 c) → post (nI wd, nI hd, nI N, yp, tt, cl, ro, mi, co, mq, eg, nu, ho, pa)) : ∀ (k i f : Nat) (ho : Nat → Int64), i + k = N → k < f → (∀ c, c < i → ho c = if mg_h N O B c && !(mg_e wd N O B c) then ho0 c + x else ho0 c) → (∀ c, i ≤ c → ho c = ho0 c) → wY_add_112 post x (nI wd) (nI hd) (nI N) yp tt f (nI i) cl ro mi co mq eg nu ho pa
  | 0, i, f, ho, hi, hf, h1, h2 => by
    obtain ⟨m, rfl⟩ : ∃ m, f = m + 1 := ⟨f - 1, by omega⟩
    have : i = N := by omega
    subst this
    exact br_t (nI_le (Nat.le_refl _) (by have := mg_N64 Yb.1; omega)) (h ho h1)
  | k + 1, i, f, ho, hi, hf, h1, h2 => by
    obtain ⟨m, rfl⟩ : ∃ m, f = m + 1 := ⟨f - 1, by omega⟩
    have hN := mg_N64 Yb.1
    have e : (nI i).toNatClampNeg = i := nI_clamp (by omega)
    have v : vp_in (nI i) 64 := vp_in_nI (by omega) (by omega)
    have skip : (mg_h N O B i && !(mg_e wd N O B i)) = false → wY_add_112 post x (nI wd) (nI hd) (nI N) yp tt m (nI (i + 1)) cl ro mi co mq eg nu ho pa := fun q => my_add_c Yb hc h k (i + 1) m ho (by omega) (by omega) (fun c hc' => by
      by_cases y : c = i
      · rw [y, q, h2 i (Nat.le_refl _)]; rfl
      · exact h1 c (by omega)) (fun c hc' => h2 c (by omega))
    refine br_f (nI_ge (by omega) (by omega)) (my_hiddenB hN hc (by omega) (fun z => ?_) (fun z => my_isEdgeB Yb hc (by omega) (fun z2 => ?_) (fun z2 => ?_)))
    · exact nm_r (nI_1 i) (skip (by rw [z]; rfl))
    · refine And.intro v (And.intro v (nm_r (e' := vp_updL ho i (ho0 i + x)) (by rw [e, h2 i (Nat.le_refl _)]) (nm_r (nI_1 i) (my_add_c Yb hc h k (i + 1) m _ (by omega) (by omega) (fun c hc' => ?_) (fun c hc' => ?_)))))
      · by_cases y : c = i
        · rw [y, pk_uLs, z, z2]; rfl
        · rw [pk_uLn y]; exact h1 c (by omega)
      · rw [pk_uLn (by omega)]; exact h2 c (by omega)
    · exact nm_r (nI_1 i) (skip (by rw [z2, Bool.not_true, Bool.and_false]))
theorem my_add_b {post : SY → Prop} {s : Nat} (hs : s < 2 ^ 31) (hN : N ≤ 64) (hE : mw_E wd N O B eg) (hn : mw_n wd N O B ≤ 12) {x x2 : Int64} {ho0 : Nat → Int64} (h : ∀ ho, (∀ c, c < N → ho c = if mg_e wd N O B c && s.testBit (mb_c (mg_e wd N O B) c) then ho0 c + x else ho0 c) → ∃ n112 : Nat, wY_add_112 post x2 (nI wd) (nI hd) (nI N) yp tt n112 0 cl ro mi co mq eg nu ho pa) :
    ∀ (k i f : Nat) (ho : Nat → Int64), i + k = mw_n wd N O B → k < f → (∀ c, c < N → ho c = if mg_e wd N O B c && s.testBit (mb_c (mg_e wd N O B) c) && decide (mb_c (mg_e wd N O B) c < i) then ho0 c + x else ho0 c) → wY_add_70 post (nI s) (nI (mw_n wd N O B)) x x2 (nI wd) (nI hd) (nI N) yp tt f (nI i) cl ro mi co mq eg nu ho pa
  | 0, i, f, ho, hi, hf, h1 => by
    obtain ⟨m, rfl⟩ : ∃ m, f = m + 1 := ⟨f - 1, by omega⟩
    have : i = mw_n wd N O B := by omega
    subst this
    refine br_t (nI_le (Nat.le_refl _) (by omega)) (h ho fun c hc => ?_)
    rw [h1 c hc]
    by_cases y : mg_e wd N O B c = true
    · have l : mb_c (mg_e wd N O B) c < mw_n wd N O B := (mw_gx hc y).1
      rw [decide_eq_true l, Bool.and_true]
    · rw [mb_f y]; rfl
  | k + 1, i, f, ho, hi, hf, h1 => by
    obtain ⟨m, rfl⟩ : ∃ m, f = m + 1 := ⟨f - 1, by omega⟩
    have gN : mw_g wd N O B i < N := mw_gN (by omega)
    have gi : mb_c (mg_e wd N O B) (mw_g wd N O B i) = i := mw_ix (by show i < mw_n wd N O B; omega)
    have gE : mg_e wd N O B (mw_g wd N O B i) = true := (mg_g_in (show i < mb_c (mg_e wd N O B) N by show i < mw_n wd N O B; omega)).2
    have ge : eg (nI i).toNatClampNeg = nI (mw_g wd N O B i) := by rw [nI_clamp (by omega)]; exact hE i (by omega)
    have v : vp_in (eg (nI i).toNatClampNeg) 64 := by rw [ge]; exact vp_in_nI (by omega) (by omega)
    have ei : ∀ c, c < N → mg_e wd N O B c = true → mb_c (mg_e wd N O B) c = i → c = mw_g wd N O B i := fun c hc h1 h2 => by
      have := (mw_gx hc h1).2
      rw [h2] at this
      exact this.symm
    refine br_f (nI_ge (by omega) (by omega)) (br_c (fun z => ?_) (fun z => ?_))
    · rw [mw_bit hs (by omega)] at z
      refine And.intro (vp_in_nI (by omega) (by omega)) (And.intro v (And.intro v (nm_r (e' := vp_updL ho (mw_g wd N O B i) (ho (mw_g wd N O B i) + x)) (by rw [ge, nI_clamp (by omega)]) (nm_r (nI_1 i) (my_add_b hs hN hE hn h k (i + 1) m _ (by omega) (by omega) fun c hc => ?_)))))
      by_cases y : c = mw_g wd N O B i
      · rw [y, pk_uLs, h1 _ gN, gi, gE, z, decide_eq_false (by omega), decide_eq_true (by omega)]; rfl
      · rw [pk_uLn y, h1 c hc]
        by_cases w : mg_e wd N O B c = true
        · have : ¬ mb_c (mg_e wd N O B) c = i := fun q => y (ei c hc w q)
          have d : decide (mb_c (mg_e wd N O B) c < i + 1) = decide (mb_c (mg_e wd N O B) c < i) := by
            by_cases q : mb_c (mg_e wd N O B) c < i
            · rw [decide_eq_true q, decide_eq_true (by omega)]
            · rw [decide_eq_false q, decide_eq_false (by omega)]
          rw [d]
        · rw [mb_f w]; rfl
    · rw [mw_bit hs (by omega)] at z
      refine nm_r (nI_1 i) (my_add_b hs hN hE hn h k (i + 1) m ho (by omega) (by omega) fun c hc => ?_)
      rw [h1 c hc]
      by_cases w : mg_e wd N O B c = true
      · by_cases q : mb_c (mg_e wd N O B) c = i
        · rw [q, mb_f z, Bool.and_false]; rfl
        · have d : decide (mb_c (mg_e wd N O B) c < i + 1) = decide (mb_c (mg_e wd N O B) c < i) := by
            by_cases q : mb_c (mg_e wd N O B) c < i
            · rw [decide_eq_true q, decide_eq_true (by omega)]
            · rw [decide_eq_false q, decide_eq_false (by omega)]
          rw [d]
      · rw [mb_f w]; rfl
theorem mw_m1 (a b : Nat) : nI a - nI b + (-1) = nI a - nI (b + 1) := by
  rw [← nI_1]
  grind
theorem my_add_a {post : SY → Prop} {s : Nat} (hs : s < 2 ^ 31) (hn : mw_n wd N O B ≤ 12) {x3 : Int32}
    (h : wpY_choose (fun r_17 u => match u with | (f_w, f_h, f_size, f_phase, f_total, a_col, a_row, a_mined, a_cond, a_mark, a_edge, a_num, a_holds, a_pascal) => (wpY_choose (fun r_32 u => match u with | (f_w, f_h, f_size, f_phase, f_total, a_col, a_row, a_mined, a_cond, a_mark, a_edge, a_num, a_holds, a_pascal) => (∀ f_total_47 : Int64, f_total_47 = f_total + r_17 → (∃ n70 : Nat, wY_add_70 post (nI s) (nI (mw_n wd N O B)) r_17 r_32 f_w f_h f_size f_phase f_total_47 n70 0 a_col a_row a_mined a_cond a_mark a_edge a_num a_holds a_pascal))) (f_w, f_h, f_size, f_phase, f_total, a_col, a_row, a_mined, a_cond, a_mark, a_edge, a_num, a_holds, a_pascal) (x3 - 1) (nI (mb_c (mb_b M) N) - nI (mw_sz wd N O B s) - 1))) (nI wd, nI hd, nI N, yp, tt, cl, ro, mi, co, mq, eg, nu, ho, pa) x3 (nI (mb_c (mb_b M) N) - nI (mw_sz wd N O B s))) :
    ∀ (k i f : Nat), i + k = mw_n wd N O B → k < f → wY_add_9 post (nI s) (nI (mw_n wd N O B)) x3 (nI wd) (nI hd) (nI N) yp tt cl ro mi co mq eg nu ho pa f (nI (mb_c (mb_b M) N) - nI (mb_c (fun i => s.testBit i) i)) (nI i)
  | 0, i, f, hi, hf => by
    obtain ⟨m, rfl⟩ : ∃ m, f = m + 1 := ⟨f - 1, by omega⟩
    have : i = mw_n wd N O B := by omega
    subst this
    exact br_t (nI_le (Nat.le_refl _) (by omega)) h
  | k + 1, i, f, hi, hf => by
    obtain ⟨m, rfl⟩ : ∃ m, f = m + 1 := ⟨f - 1, by omega⟩
    have ih := my_add_a hs hn h k (i + 1) m (by omega) (by omega)
    have eb : mb_c (fun i => s.testBit i) (i + 1) = mb_c (fun i => s.testBit i) i + (if s.testBit i then 1 else 0) := rfl
    refine br_f (nI_ge (by omega) (by omega)) (br_c (fun z => ?_) (fun z => ?_))
    · rw [mw_bit hs (by omega)] at z
      rw [eb, z, if_pos rfl] at ih
      exact nm_r (mw_m1 _ _) (nm_r (nI_1 i) ih)
    · rw [mw_bit hs (by omega)] at z
      rw [eb, mb_f z, if_neg (by decide), Nat.add_zero] at ih
      exact nm_r (nI_1 i) ih
theorem my_add {post : SY → Prop} (Yb : mg_BY wd hd N cl ro) (hm : mg_mi N M mi) (hc : mg_co N O F B co) (hE : mw_E wd N O B eg) (hn : mw_n wd N O B ≤ 12) {s : Nat} (hs : s < 2 ^ 31)
    (h : ∀ ho' pa, (∀ c, c < N → mg_h N O B c = true → ho' c = ho c + lN (mw_v wd N M O B s c)) → post (nI wd, nI hd, nI N, yp, tt + lN (mw_1 wd N M O B s), cl, ro, mi, co, mq, eg, nu, ho', pa)) : wpY_add post (nI wd, nI hd, nI N, yp, tt, cl, ro, mi, co, mq, eg, nu, ho, pa) (nI s) (nI (mw_n wd N O B)) (nI (mw_r wd N O B)) := by
  have hN := mg_N64 Yb.1
  have rb : mw_r wd N O B ≤ 64 := by
    have : mb_c (mg_h N O B) N ≤ N := mb_c_le _ _
    unfold mw_r; omega
  have mb : mb_c (mb_b M) N ≤ N := mb_c_le _ _
  have sb : mw_sz wd N O B s ≤ mw_n wd N O B := mb_c_le _ _
  have t1 : (nI (mw_r wd N O B)).toInt = (mw_r wd N O B : Int) := nI_toInt (by omega)
  have t2 : (nI (mb_c (mb_b M) N) - nI (mw_sz wd N O B s)).toInt = (mb_c (mb_b M) N : Int) - mw_sz wd N O B s := pk_sub_toInt (by omega) (by omega)
  have t3 : (nI (mw_r wd N O B) - 1).toInt = (mw_r wd N O B : Int) - 1 := pk_sub_toInt (b := 1) (by omega) (by omega)
  have t4 : (nI (mb_c (mb_b M) N) - nI (mw_sz wd N O B s) - 1).toInt = (mb_c (mb_b M) N : Int) - mw_sz wd N O B s - 1 := by
    have e : nI (mb_c (mb_b M) N) - nI (mw_sz wd N O B s) - 1 = nI (mb_c (mb_b M) N) - nI (mw_sz wd N O B s + 1) := by rw [← mw_m1]; grind
    rw [e, pk_sub_toInt (by omega) (by omega)]; omega
  unfold wpY_add
  refine my_mineCount hN hm ⟨mw_n wd N O B + 1, ?_⟩
  have z : nI (mb_c (mb_b M) N) = nI (mb_c (mb_b M) N) - nI (mb_c (fun i => s.testBit i) 0) := by
    show _ = _ - nI 0
    rw [nI_0, Int32.sub_zero]
  rw [z]
  refine my_add_a hs hn ?_ (mw_n wd N O B) 0 (mw_n wd N O B + 1) (by omega) (by omega)
  refine my_choose (by rw [t1]; omega) fun pa1 => ?_
  rw [t1, t2]
  refine my_choose (by rw [t3]; omega) fun pa2 => ?_
  rw [t3, t4]
  refine nm_e ⟨mw_n wd N O B + 1, my_add_b (x := lN (mw_1 wd N M O B s)) (x2 := lN (mw_2 wd N M O B s)) (ho0 := ho) hs hN hE hn (fun ho1 q1 => ⟨N + 1, my_add_c Yb hc (ho0 := ho1) (fun ho2 q2 => h ho2 pa2 fun c hcN hh => ?_) N 0 (N + 1) ho1 (by omega) (by omega) (fun c hc => absurd hc (Nat.not_lt_zero _)) (fun _ _ => rfl)⟩) (mw_n wd N O B) 0 (mw_n wd N O B + 1) ho (by omega) (by omega) fun c hcN => ?_⟩
  · rw [q2 c hcN, q1 c hcN, hh]
    unfold mw_v
    cases e1 : mg_e wd N O B c
    · simp
    · cases e2 : s.testBit (mb_c (mg_e wd N O B) c)
      · simp [show lN 0 = 0 from rfl]
      · simp
  · rw [decide_eq_false (Nat.not_lt_zero _), Bool.and_false]; rfl
/-! weigh -/
theorem my_we_b {post : Int32 → SY → Prop} (Yb : mg_BY wd hd N cl ro) (hm : mg_mi N M mi) (hc : mg_co N O F B co) (hE : mw_E wd N O B eg) (hn : mw_n wd N O B ≤ 12) (hu : ∀ c, c < N → nu c = nI (mg_num wd N M c))
    (h : ∀ ho pa, (∀ c, c < N → mg_h N O B c = true → ho c = lN (mw_H wd N M O B c (2 ^ mw_n wd N O B))) → post 1 (nI wd, nI hd, nI N, yp, lN (mw_T wd N M O B (2 ^ mw_n wd N O B)), cl, ro, mi, co, mq, eg, nu, ho, pa)) :
    ∀ (k s f : Nat) (ho pa : Nat → Int64), s + k = 2 ^ mw_n wd N O B → k < f → (∀ c, c < N → mg_h N O B c = true → ho c = lN (mw_H wd N M O B c s)) → wY_weigh_68 post (nI (mw_n wd N O B)) (nI (mw_r wd N O B)) f (nI s) (nI wd) (nI hd) (nI N) yp (lN (mw_T wd N M O B s)) cl ro mi co mq eg nu ho pa := by
  have p2 : 2 ^ mw_n wd N O B ≤ 4096 := Nat.pow_le_pow_right (by decide) hn
  have sh : (1 : Int32) <<< (nI (mw_n wd N O B) &&& 31) = nI (2 ^ mw_n wd N O B) := by
    have := pk_shlN (n := 1) (nI (mw_n wd N O B) &&& 31) (mw_n wd N O B) (s_l _ (by omega)) (by rw [Nat.one_mul]; omega)
    rw [Nat.one_mul] at this
    exact this
  intro k
  induction k with
  | zero =>
    intro s f ho pa hk hf h1
    obtain ⟨m, rfl⟩ : ∃ m, f = m + 1 := ⟨f - 1, by omega⟩
    have : s = 2 ^ mw_n wd N O B := by omega
    subst this
    refine br_t (by rw [sh]; exact nI_le (Nat.le_refl _) (by omega)) (h ho pa h1)
  | succ k ih =>
    intro s f ho pa hk hf h1
    obtain ⟨m, rfl⟩ : ∃ m, f = m + 1 := ⟨f - 1, by omega⟩
    refine br_f (by rw [sh]; exact nI_ge (by omega) (by omega)) (my_fits (M := M) Yb hc hE hn (by omega) hu (fun y => br_f (by decide) (my_add Yb hm hc hE hn (by omega) fun ho' pa' q => nm_r (nI_1 s) ?_)) (fun y => br_t rfl (nm_r (nI_1 s) ?_)))
    · have e : lN (mw_T wd N M O B s) + lN (mw_1 wd N M O B s) = lN (mw_T wd N M O B (s + 1)) := by
        rw [lN_add]
        show _ = lN (mp_s _ s + mp_i _ _)
        rw [mp_i_t y]; rfl
      rw [e]
      refine ih (s + 1) m ho' pa' (by omega) (by omega) fun c hcN hh => ?_
      rw [q c hcN hh, h1 c hcN hh, lN_add]
      show _ = lN (mp_s _ s + mp_i _ _)
      rw [mp_i_t y]; rfl
    · have e : mw_T wd N M O B s = mw_T wd N M O B (s + 1) := by
        show _ = mp_s _ s + mp_i _ _
        rw [mp_i_f y]; rfl
      rw [e]
      refine ih (s + 1) m ho pa (by omega) (by omega) fun c hcN hh => ?_
      rw [h1 c hcN hh]
      show _ = lN (mp_s _ s + mp_i _ _)
      rw [mp_i_f y]; rfl
theorem mw_p1 (a b : Nat) : nI a - nI b + 1 = nI (a + 1) - nI b := by
  rw [← nI_1]
  grind
theorem my_we_a {post : Int32 → SY → Prop} (Yb : mg_BY wd hd N cl ro) (hm : mg_mi N M mi) (hc : mg_co N O F B co)
    (h : ∀ nu ho, (∀ c, c < N → nu c = nI (mg_num wd N M c)) → (∀ c, c < N → ho c = 0) → ∃ n68 : Nat, wY_weigh_68 post (nI (mw_n wd N O B)) (nI (mw_r wd N O B)) n68 0 (nI wd) (nI hd) (nI N) yp tt cl ro mi co mq eg nu ho pa) :
    ∀ (k i f : Nat) (nu : Nat → Int32) (ho : Nat → Int64), i + k = N → k < f → (∀ c, c < i → nu c = nI (mg_num wd N M c)) → (∀ c, c < i → ho c = 0) → wY_weigh_23 post (nI (mw_n wd N O B)) (nI wd) (nI hd) (nI N) yp tt f (nI (mb_c (mg_h N O B) i) - nI (mw_n wd N O B)) (nI i) cl ro mi co mq eg nu ho pa
  | 0, i, f, nu, ho, hi, hf, h1, h2 => by
    obtain ⟨m, rfl⟩ : ∃ m, f = m + 1 := ⟨f - 1, by omega⟩
    have : i = N := by omega
    subst this
    rw [pk_sub (mw_nh wd i O B)]
    exact br_t (nI_le (Nat.le_refl _) (by have := mg_N64 Yb.1; omega)) (h nu ho h1 h2)
  | k + 1, i, f, nu, ho, hi, hf, h1, h2 => by
    obtain ⟨m, rfl⟩ : ∃ m, f = m + 1 := ⟨f - 1, by omega⟩
    have hN := mg_N64 Yb.1
    have e : (nI i).toNatClampNeg = i := nI_clamp (by omega)
    have v : vp_in (nI i) 64 := vp_in_nI (by omega) (by omega)
    have ih := my_we_a Yb hm hc h k (i + 1) m (upd nu i (nI (mg_num wd N M i))) (vp_updL ho i 0) (by omega) (by omega) (fun c hc' => by
      by_cases q : c = i
      · rw [q, pk_us]
      · rw [pk_un q]; exact h1 c (by omega)) (fun c hc' => by
      by_cases q : c = i
      · rw [q, pk_uLs]
      · rw [pk_uLn q]; exact h2 c (by omega))
    have eb : mb_c (mg_h N O B) (i + 1) = mb_c (mg_h N O B) i + (if mg_h N O B i then 1 else 0) := rfl
    refine br_f (nI_ge (by omega) (by omega)) (my_number Yb hm (by omega) (And.intro v (nm_r (e' := upd nu i (nI (mg_num wd N M i))) (by rw [e]) (And.intro v (nm_r (e' := vp_updL ho i 0) (by rw [e]) (my_hiddenB hN hc (by omega) (fun z => ?_) (fun z => ?_)))))))
    · rw [eb, z, if_neg (by decide), Nat.add_zero] at ih
      exact nm_r (nI_1 i) ih
    · rw [eb, z, if_pos rfl] at ih
      exact nm_r (mw_p1 _ _) (nm_r (nI_1 i) ih)
theorem my_weigh {post : Int32 → SY → Prop} (Yb : mg_BY wd hd N cl ro) (hm : mg_mi N M mi) (hc : mg_co N O F B co)
    (h1 : mw_n wd N O B ≤ 12 → ∀ eg nu ho pa, (∀ c, c < N → mg_h N O B c = true → ho c = lN (mw_H wd N M O B c (2 ^ mw_n wd N O B))) → post 1 (nI wd, nI hd, nI N, yp, lN (mw_T wd N M O B (2 ^ mw_n wd N O B)), cl, ro, mi, co, mq, eg, nu, ho, pa))
    (h0 : 12 < mw_n wd N O B → ∀ eg, post 0 (nI wd, nI hd, nI N, yp, tt, cl, ro, mi, co, mq, eg, nu, ho, pa)) : wpY_weigh post (nI wd, nI hd, nI N, yp, tt, cl, ro, mi, co, mq, eg, nu, ho, pa) := by
  have hN := mg_N64 Yb.1
  have l : mw_n wd N O B ≤ N := mb_c_le _ _
  unfold wpY_weigh
  refine my_list Yb hc fun eg' hE => br_c (fun z => ?_) (fun z => ?_)
  · have z' : mw_n wd N O B ≤ 12 := (nI_leI (b := 12) (by show mw_n wd N O B < _; omega) (by omega)).mp z
    refine nm_r (e' := nI (mb_c (mg_h N O B) 0) - nI (mw_n wd N O B)) ?_ ⟨N + 1, my_we_a Yb hm hc (fun nu' ho' q1 q2 => ⟨2 ^ mw_n wd N O B + 1, my_we_b (eg := eg') Yb hm hc hE z' q1 (fun ho2 pa2 q => h1 z' eg' nu' ho2 pa2 q) (2 ^ mw_n wd N O B) 0 (2 ^ mw_n wd N O B + 1) ho' pa (by omega) (by omega) (fun c hcN _ => q2 c hcN)⟩) N 0 (N + 1) nu ho (by omega) (by omega) (fun c hc => absurd hc (Nat.not_lt_zero _)) (fun c hc => absurd hc (Nat.not_lt_zero _))⟩
    show -nI (mw_n wd N O B) = nI 0 - nI (mw_n wd N O B)
    rw [nI_0, Int32.zero_sub]
  · exact h0 (Nat.lt_of_not_le fun y => z (nI_le (b := 12) y (by omega))) eg'
end
end
section
/-! ===== X: choose, weigh, multiply, joinAllBut ===== -/
section
variable {wd hd N : Nat} {bd : Int64} {ph : Int32} {M O F B : Int64} {gc cc : Int32} {tw fw : Int64} {nr bn : Nat → Int64} {cg gs gp : Nat → Int32} {gk gw : Nat → Int64} {od ch : Nat → Int32} {hst jo : Nat → Int64}
theorem mx_choose {post : Int64 → Prop} (hX : mg_BX wd hd N bd nr bn) {a b : Int32} (ha : a.toInt ≤ 64) (h : post (lN (mp_ch a.toInt b.toInt))) : wpX_choose post (nI wd, nI hd, nI N, bd, ph, M, O, F, B, gc, cc, tw, fw, nr, bn, cg, gs, gp, gk, gw, od, ch, hst, jo) a b := by
  have z0 : (0 : Int32).toInt = 0 := by decide
  refine br_c (fun z => ?_) fun z1 => br_c (fun z => ?_) fun z2 => ?_
  · rw [Int32.lt_iff_toInt_lt, z0] at z
    rw [mp_ch_f (by omega)] at h
    exact h
  · rw [Int32.lt_iff_toInt_lt] at z
    rw [mp_ch_f (by omega)] at h
    exact h
  · rw [Int32.lt_iff_toInt_lt] at z2
    obtain ⟨k, hk, rfl⟩ := nI_of z1
    have tk := nI_toInt hk
    rw [tk] at z2 h
    have a0 : ¬ a < 0 := fun y => by rw [Int32.lt_iff_toInt_lt, z0] at y; omega
    obtain ⟨n, hn, rfl⟩ := nI_of a0
    have tn := nI_toInt hn
    rw [tn] at z2 h ha
    rw [mp_ch_t (by omega)] at h
    have e : nI n * 65 + nI k = nI (n * 65 + k) := by rw [show (65 : Int32) = nI 65 from rfl, pk_mul, nI_add]
    refine br_t (nI_le (b := 64) (by omega) (by omega)) (And.intro (by rw [e]; exact vp_in_nI (by omega) (by omega)) ?_)
    rw [e, nI_clamp (by omega), hX.2.2.2 n k (by omega) (by omega)]
    exact h
def mx_lr (n : Nat) (f : Nat → Int64) (g : Nat → Nat) : Prop := ∀ i, i < n → f i = lN (g i)
theorem mx_weigh_l {post : Int64 → Prop} (hX : mg_BX wd hd N bd nr bn) {p q : Int32} {jn : Nat → Nat} (hj : mx_lr 13 jo jn) (hp : p.toInt ≤ 64) (hq : -100 ≤ q.toInt ∧ q.toInt ≤ 100) (h : post (lN (mp_s (fun t => jn t * mp_ch p.toInt (q.toInt - t)) 13))) :
    ∀ (k t f : Nat), t + k = 13 → k < f → wX_weigh_5 post p q (nI wd) (nI hd) (nI N) bd ph M O F B gc cc tw fw nr bn cg gs gp gk gw od ch hst jo f (lN (mp_s (fun t => jn t * mp_ch p.toInt (q.toInt - t)) t)) (nI t)
  | 0, t, f, ht, hf => by
    obtain ⟨m, rfl⟩ : ∃ m, f = m + 1 := ⟨f - 1, by omega⟩
    have : t = 13 := by omega
    subst this
    exact br_t (nI_le (a := 13) (b := 13) (Nat.le_refl _) (by omega)) h
  | k + 1, t, f, ht, hf => by
    obtain ⟨m, rfl⟩ : ∃ m, f = m + 1 := ⟨f - 1, by omega⟩
    have e : (q - nI t).toInt = q.toInt - t := by
      rw [Int32.toInt_sub, nI_toInt (by omega)]
      exact Int.bmod_eq_of_le (by omega) (by omega)
    refine br_f (nI_ge (b := 13) (by omega) (by omega)) (And.intro (vp_in_nI (by omega) (by omega)) (mx_choose hX hp (nm_r (e' := lN (mp_s (fun t => jn t * mp_ch p.toInt (q.toInt - t)) (t + 1))) ?_ (nm_r (nI_1 t) (mx_weigh_l hX hj hp hq h k (t + 1) m (by omega) (by omega))))))
    rw [nI_clamp (by omega), hj t (by omega), e, lN_mul, lN_add]
    rfl
theorem mx_weigh {post : Int64 → Prop} (hX : mg_BX wd hd N bd nr bn) {p q : Int32} {jn : Nat → Nat} (hj : mx_lr 13 jo jn) (hp : p.toInt ≤ 64) (hq : -100 ≤ q.toInt ∧ q.toInt ≤ 100) (h : post (lN (mp_J jn (fun t => mp_ch p.toInt (q.toInt - t))))) : wpX_weigh post (nI wd, nI hd, nI N, bd, ph, M, O, F, B, gc, cc, tw, fw, nr, bn, cg, gs, gp, gk, gw, od, ch, hst, jo) p q :=
  ⟨14, mx_weigh_l hX hj hp hq h 13 0 14 (by omega) (by omega)⟩
theorem mx_mul_in {post : SX → Prop} {J : Int32 → (Nat → Int64) → (Nat → Int64) → (Nat → Int32) → (Nat → Int32) → (Nat → Int32) → (Nat → Int64) → (Nat → Int64) → (Nat → Int32) → (Nat → Int32) → (Nat → Int64) → (Nat → Int64) → Prop} {r t : Nat} (hr : r < 24) (ht : t < 13) {hh jn : Nat → Nat} (hH : mx_lr 312 hst hh) (hj : ∀ i, i ≤ t → jo i = lN (jn i)) (hJ : J (nI t + (-1)) nr bn cg gs gp gk gw od ch hst (vp_updL jo t (lN (mp_s (fun m => jn (t - m) * hh (r * 13 + m)) (t + 1))))) :
    ∀ (k i f : Nat), i + k = t + 1 → k < f → wX_multiply_12 post J (nI r) (nI t) (nI wd) (nI hd) (nI N) bd ph M O F B gc cc tw fw nr bn cg gs gp gk gw od ch hst jo f (lN (mp_s (fun m => jn (t - m) * hh (r * 13 + m)) i)) (nI i)
  | 0, i, f, hi, hf => by
    obtain ⟨m, rfl⟩ : ∃ m, f = m + 1 := ⟨f - 1, by omega⟩
    have : i = t + 1 := by omega
    subst this
    refine br_t (nI_lt (by omega) (by omega)) (And.intro (vp_in_nI (by omega) (by omega)) (nm_r (e' := vp_updL jo t (lN (mp_s (fun m => jn (t - m) * hh (r * 13 + m)) (t + 1)))) (by rw [nI_clamp (by omega)]) (nm_e hJ)))
  | k + 1, i, f, hi, hf => by
    obtain ⟨m, rfl⟩ : ∃ m, f = m + 1 := ⟨f - 1, by omega⟩
    have e1 : nI t - nI i = nI (t - i) := pk_sub (by omega)
    have e2 : nI r * 13 + nI i = nI (r * 13 + i) := by rw [show (13 : Int32) = nI 13 from rfl, pk_mul, nI_add]
    refine br_f (nI_nlt (by omega) (by omega)) (And.intro (by rw [e1]; exact vp_in_nI (by omega) (by omega)) (And.intro (by rw [e2]; exact vp_in_nI (by omega) (by omega)) (nm_r (e' := lN (mp_s (fun m => jn (t - m) * hh (r * 13 + m)) (i + 1))) ?_ (nm_r (nI_1 i) (mx_mul_in hr ht hH hj hJ k (i + 1) m (by omega) (by omega))))))
    rw [e1, e2, nI_clamp (by omega), nI_clamp (by omega), hj (t - i) (by omega), hH (r * 13 + i) (by omega), lN_mul, lN_add]
    rfl
theorem mx_mul_out {post : SX → Prop} {r : Nat} (hr : r < 24) {hh jn : Nat → Nat} (hH : mx_lr 312 hst hh) (h : ∀ jo, mx_lr 13 jo (fun t => mp_s (fun m => jn (t - m) * hh (r * 13 + m)) (t + 1)) → post (nI wd, nI hd, nI N, bd, ph, M, O, F, B, gc, cc, tw, fw, nr, bn, cg, gs, gp, gk, gw, od, ch, hst, jo)) :
    ∀ (d f : Nat) (jo : Nat → Int64), d ≤ 13 → d < f → (∀ i, i < d → jo i = lN (jn i)) → (∀ i, d ≤ i → i < 13 → jo i = lN (mp_s (fun m => jn (i - m) * hh (r * 13 + m)) (i + 1))) → wX_multiply_3 post (nI r) (nI wd) (nI hd) (nI N) bd ph M O F B gc cc tw fw f (nI d + (-1)) nr bn cg gs gp gk gw od ch hst jo
  | 0, f, jo, hd', hf, h1, h2 => by
    obtain ⟨m, rfl⟩ : ∃ m, f = m + 1 := ⟨f - 1, by omega⟩
    exact br_t (by decide) (h jo fun i hi => h2 i (by omega) hi)
  | d + 1, f, jo, hd', hf, h1, h2 => by
    obtain ⟨m, rfl⟩ : ∃ m, f = m + 1 := ⟨f - 1, by omega⟩
    rw [pk_m1]
    refine br_f (nI_pos (by omega)) ⟨d + 2, mx_mul_in hr (by omega) hH (fun i hi => h1 i (by omega)) (mx_mul_out hr hH h d m _ (by omega) (by omega) (fun i hi => ?_) (fun i hi1 hi2 => ?_)) (d + 1) 0 (d + 2) (by omega) (by omega)⟩
    · rw [pk_uLn (by omega)]; exact h1 i (by omega)
    · by_cases q : i = d
      · rw [q, pk_uLs]
      · rw [pk_uLn q]; exact h2 i (by omega) hi2
theorem mx_multiply {post : SX → Prop} {r : Nat} (hr : r < 24) {hh jn : Nat → Nat} (hH : mx_lr 312 hst hh) (hj : mx_lr 13 jo jn) (h : ∀ jo, mx_lr 13 jo (fun t => mp_s (fun m => jn (t - m) * hh (r * 13 + m)) (t + 1)) → post (nI wd, nI hd, nI N, bd, ph, M, O, F, B, gc, cc, tw, fw, nr, bn, cg, gs, gp, gk, gw, od, ch, hst, jo)) : wpX_multiply post (nI wd, nI hd, nI N, bd, ph, M, O, F, B, gc, cc, tw, fw, nr, bn, cg, gs, gp, gk, gw, od, ch, hst, jo) (nI r) :=
  ⟨14, mx_mul_out hr hH h 13 14 jo (by omega) (by omega) hj (fun i h1 h2 => by omega)⟩
theorem mx_jo_b {post : SX → Prop} {x : Int32} {C k : Nat} (hC : C ≤ 12) (hx : ∀ i, i < C → (nI i = x ↔ i = k)) {hh : Nat → Nat} (hH : mx_lr 312 hst hh) (h : ∀ jo jn, mx_lr 13 jo jn → (∀ G : Nat → Nat, (∀ t, 13 ≤ t → G t = 0) → mp_J jn G = mp_TK hh k C G 0) → post (nI wd, nI hd, nI N, bd, ph, M, O, F, B, gc, nI C, tw, fw, nr, bn, cg, gs, gp, gk, gw, od, ch, hst, jo)) :
    ∀ (d i f : Nat) (jo : Nat → Int64) (jn : Nat → Nat), i + d = C → d < f → mx_lr 13 jo jn → (∀ G : Nat → Nat, (∀ t, 13 ≤ t → G t = 0) → mp_J jn G = mp_TK hh k i G 0) → wX_joinAllBut_31 post x f (nI i) (nI wd) (nI hd) (nI N) bd ph M O F B gc (nI C) tw fw nr bn cg gs gp gk gw od ch hst jo
  | 0, i, f, jo, jn, hi, hf, h1, h2 => by
    obtain ⟨m, rfl⟩ : ∃ m, f = m + 1 := ⟨f - 1, by omega⟩
    have : i = C := by omega
    subst this
    exact br_t (nI_le (Nat.le_refl _) (by omega)) (h jo jn h1 h2)
  | d + 1, i, f, jo, jn, hi, hf, h1, h2 => by
    obtain ⟨m, rfl⟩ : ∃ m, f = m + 1 := ⟨f - 1, by omega⟩
    refine br_f (nI_ge (by omega) (by omega)) (br_c (fun z => nm_r (nI_1 i) (mx_jo_b hC hx hH h d (i + 1) m jo jn (by omega) (by omega) h1 fun G hG => ?_)) (fun z => mx_multiply (by omega) hH h1 fun jo' hj' => nm_r (nI_1 i) (mx_jo_b hC hx hH h d (i + 1) m jo' _ (by omega) (by omega) hj' fun G hG => ?_)))
    · show _ = mp_TK hh k i (if i = k then G else _) 0
      rw [if_pos ((hx i (by omega)).mp z)]
      exact h2 G hG
    · show _ = mp_TK hh k i (if i = k then G else mp_T hh i G) 0
      rw [if_neg (fun y => z ((hx i (by omega)).mpr y)), ← h2 _ (mp_T_van hG)]
      exact mp_mul hG fun t ht => rfl
theorem mx_jo_a {post : SX → Prop} {x : Int32} (h : ∀ jo, mx_lr 13 jo (fun t => if t = 0 then 1 else 0) → ∃ n31 : Nat, wX_joinAllBut_31 post x n31 0 (nI wd) (nI hd) (nI N) bd ph M O F B gc cc tw fw nr bn cg gs gp gk gw od ch hst jo) : ∀ (d t f : Nat) (jo : Nat → Int64), t + d = 13 → d < f → (∀ i, i < t → jo i = lN (if i = 0 then 1 else 0)) → wX_joinAllBut_2 post x (nI wd) (nI hd) (nI N) bd ph M O F B gc cc tw fw f (nI t) nr bn cg gs gp gk gw od ch hst jo
  | 0, t, f, jo, ht, hf, h1 => by
    obtain ⟨m, rfl⟩ : ∃ m, f = m + 1 := ⟨f - 1, by omega⟩
    have : t = 13 := by omega
    subst this
    exact br_t (nI_le (a := 13) (b := 13) (Nat.le_refl _) (by omega)) (h jo h1)
  | d + 1, t, f, jo, ht, hf, h1 => by
    obtain ⟨m, rfl⟩ : ∃ m, f = m + 1 := ⟨f - 1, by omega⟩
    have e : (nI t).toNatClampNeg = t := nI_clamp (by omega)
    have v : vp_in (nI t) 13 := vp_in_nI (by omega) (by omega)
    refine br_f (nI_ge (b := 13) (by omega) (by omega)) (br_c (fun z => And.intro v (nm_r (e' := vp_updL jo t (lN 1)) (by rw [e]; rfl) (nm_r (nI_1 t) (mx_jo_a h d (t + 1) m _ (by omega) (by omega) fun i hi => ?_)))) (fun z => And.intro v (nm_r (e' := vp_updL jo t (lN 0)) (by rw [e]; rfl) (nm_r (nI_1 t) (mx_jo_a h d (t + 1) m _ (by omega) (by omega) fun i hi => ?_)))))
    · have z' : t = 0 := (nI_eq (b := 0) (by omega) (by omega)).mp z
      by_cases q : i = t
      · rw [q, pk_uLs, if_pos z']
      · rw [pk_uLn q]; exact h1 i (by omega)
    · have z' : ¬ t = 0 := fun y => z (by rw [y]; rfl)
      by_cases q : i = t
      · rw [q, pk_uLs, if_neg z']
      · rw [pk_uLn q]; exact h1 i (by omega)
theorem mx_join {post : SX → Prop} {x : Int32} {C k : Nat} (hC : C ≤ 12) (hx : ∀ i, i < C → (nI i = x ↔ i = k)) {hh : Nat → Nat} (hH : mx_lr 312 hst hh) (h : ∀ jo jn, mx_lr 13 jo jn → (∀ G : Nat → Nat, (∀ t, 13 ≤ t → G t = 0) → mp_J jn G = mp_TK hh k C G 0) → post (nI wd, nI hd, nI N, bd, ph, M, O, F, B, gc, nI C, tw, fw, nr, bn, cg, gs, gp, gk, gw, od, ch, hst, jo)) : wpX_joinAllBut post (nI wd, nI hd, nI N, bd, ph, M, O, F, B, gc, nI C, tw, fw, nr, bn, cg, gs, gp, gk, gw, od, ch, hst, jo) x :=
  ⟨14, mx_jo_a (fun jo' hj => ⟨C + 1, mx_jo_b hC hx hH h C 0 (C + 1) jo' _ (by omega) (by omega) hj fun G _ => by
    show mp_s (fun t => (if t = 0 then 1 else 0) * G t) 13 = G 0
    rw [mp_s_one (k := 0) (by omega) (fun i _ hi => by rw [if_neg hi, Nat.zero_mul]), if_pos rfl, Nat.one_mul]⟩) 13 0 14 jo (by omega) (by omega) (fun i hi => absurd hi (Nat.not_lt_zero _))⟩
end
end
section
/-! ===== X: the groups of the edge ===== -/
def mk_K (ed : Nat → Bool) (cg : Nat → Int32) (i g : Nat) : Nat := mb_c (fun c => ed c && decide (cg c = nI g)) i
theorem mk_K_upd {ed : Nat → Bool} {cg : Nat → Int32} {i g : Nat} {x : Int32} : mk_K ed (upd cg i x) (i + 1) g = mk_K ed cg i g + (if (ed i && decide (x = nI g)) = true then 1 else 0) := by
  show mb_c _ i + _ = mb_c _ i + _
  have a : mb_c (fun c => ed c && decide (upd cg i x c = nI g)) i = mb_c (fun c => ed c && decide (cg c = nI g)) i := mb_c_eq fun c hc => by rw [pk_un (by omega)]
  rw [a]
  congr 1
  show (if (ed i && decide (upd cg i x i = nI g)) = true then 1 else 0) = _
  rw [pk_us]
/-- the first i cells are grouped -/
def mk_I (ed : Nat → Bool) (key : Nat → Int64) (i G : Nat) (cg gs gp : Nat → Int32) (gk : Nat → Int64) : Prop :=
  (∀ c, c < i → (ed c = true → ∃ g, g < G ∧ cg c = nI g ∧ gk g = key c) ∧ (ed c = false → cg c = -1))
  ∧ (∀ g, g < G → gs g = nI (mk_K ed cg i g) ∧ 1 ≤ mk_K ed cg i g ∧ gp g = -1) ∧ mp_s (mk_K ed cg i) G = mb_c ed i
theorem mk_I_le {ed : Nat → Bool} {key : Nat → Int64} {i G : Nat} {cg gs gp : Nat → Int32} {gk : Nat → Int64} (h : mk_I ed key i G cg gs gp gk) : G ≤ mb_c ed i := by
  have a : mp_s (fun _ => 1) G ≤ mp_s (mk_K ed cg i) G := mp_s_le fun g hg => (h.2.1 g hg).2.1
  rw [mp_s_const, h.2.2] at a
  omega
theorem mk_I_no {ed : Nat → Bool} {key : Nat → Int64} {i G : Nat} {cg gs gp : Nat → Int32} {gk : Nat → Int64} (h : mk_I ed key i G cg gs gp gk) (he : ed i = false) : mk_I ed key (i + 1) G (upd cg i (-1)) gs gp gk := by
  obtain ⟨h1, h2, h3⟩ := h
  have k : ∀ g, mk_K ed (upd cg i (-1)) (i + 1) g = mk_K ed cg i g := fun g => by
    rw [mk_K_upd, he, Bool.false_and]; rfl
  refine ⟨fun c hc => ?_, fun g hg => ?_, ?_⟩
  · by_cases q : c = i
    · rw [q, pk_us, he]; exact ⟨fun z => absurd z (by decide), fun _ => rfl⟩
    · rw [pk_un q]; exact h1 c (by omega)
  · rw [k]; exact h2 g hg
  · rw [mp_s_eq fun g _ => k g, h3]
    show _ = mb_c ed i + _
    rw [he]; rfl
theorem mk_I_old {ed : Nat → Bool} {key : Nat → Int64} {i G g : Nat} {cg gs gp : Nat → Int32} {gk : Nat → Int64} (h : mk_I ed key i G cg gs gp gk) (he : ed i = true) (hG : G ≤ 12) (hg : g < G) (hk : gk g = key i) : mk_I ed key (i + 1) G (upd cg i (nI g)) (upd gs g (gs g + 1)) gp gk := by
  obtain ⟨h1, h2, h3⟩ := h
  have k : ∀ g', g' < G → mk_K ed (upd cg i (nI g)) (i + 1) g' = mk_K ed cg i g' + (if g' = g then 1 else 0) := fun g' hg' => by
    rw [mk_K_upd, he, Bool.true_and]
    congr 1
    have : nI g = nI g' ↔ g = g' := nI_eq (by omega) (by omega)
    by_cases z : g' = g
    · rw [if_pos z, if_pos (decide_eq_true (this.mpr z.symm))]
    · rw [if_neg z, if_neg]
      rw [decide_eq_true_eq, this]; exact fun y => z y.symm
  refine ⟨fun c hc => ?_, fun g' hg' => ?_, ?_⟩
  · by_cases q : c = i
    · rw [q, pk_us, he]; exact ⟨fun _ => ⟨g, hg, rfl, hk⟩, fun z => absurd z (by decide)⟩
    · rw [pk_un q]; exact h1 c (by omega)
  · rw [k g' hg']
    obtain ⟨a1, a2, a3⟩ := h2 g' hg'
    by_cases z : g' = g
    · subst z
      rw [pk_us, if_pos rfl, a1, nI_1]; exact ⟨rfl, by omega, a3⟩
    · rw [pk_un z, if_neg z]; exact ⟨a1, a2, a3⟩
  · rw [mp_s_upd (f := mk_K ed cg i) (x := 1) hg (fun g' hg' z => by rw [k g' hg', if_neg z]; rfl) (by rw [k g hg, if_pos rfl]), h3]
    show _ = mb_c ed i + _
    rw [he]; rfl
theorem mk_I_new {ed : Nat → Bool} {key : Nat → Int64} {i G : Nat} {cg gs gp : Nat → Int32} {gk : Nat → Int64} (h : mk_I ed key i G cg gs gp gk) (he : ed i = true) (hG : G < 12) : mk_I ed key (i + 1) (G + 1) (upd cg i (nI G)) (upd gs G 1) (upd gp G (-1)) (vp_updL gk G (key i)) := by
  obtain ⟨h1, h2, h3⟩ := h
  have k0 : mk_K ed cg i G = 0 := mb_c_0 fun c hc => by
    cases z : ed c
    · rfl
    · obtain ⟨g, hg, e, _⟩ := (h1 c hc).1 z
      rw [e, Bool.true_and, decide_eq_false_iff_not, nI_eq (by omega) (by omega)]
      omega
  have k : ∀ g', g' < G → mk_K ed (upd cg i (nI G)) (i + 1) g' = mk_K ed cg i g' := fun g' hg' => by
    rw [mk_K_upd, if_neg, Nat.add_zero]
    rw [Bool.and_eq_true, decide_eq_true_eq, nI_eq (by omega) (by omega)]
    omega
  have kG : mk_K ed (upd cg i (nI G)) (i + 1) G = 1 := by
    rw [mk_K_upd, he, k0, decide_eq_true rfl]; rfl
  refine ⟨fun c hc => ?_, fun g' hg' => ?_, ?_⟩
  · by_cases q : c = i
    · rw [q, pk_us, he]; exact ⟨fun _ => ⟨G, by omega, rfl, pk_uLs⟩, fun z => absurd z (by decide)⟩
    · rw [pk_un q]
      refine ⟨fun z => ?_, (h1 c (by omega)).2⟩
      obtain ⟨g, hg, e, e2⟩ := (h1 c (by omega)).1 z
      exact ⟨g, by omega, e, by rw [pk_uLn (by omega), e2]⟩
  · by_cases z : g' = G
    · subst z
      rw [pk_us, pk_us, kG]; exact ⟨rfl, by omega, rfl⟩
    · rw [pk_un z, pk_un z, k g' (by omega)]; exact h2 g' (by omega)
  · show mp_s _ G + _ = mb_c ed i + _
    rw [mp_s_eq fun g hg => k g hg, h3, he, kG]; rfl
section
variable {wd hd N : Nat} {bd : Int64} {ph : Int32} {M O F B : Int64} {gc cc : Int32} {tw fw : Int64} {nr bn : Nat → Int64} {cg gs gp : Nat → Int32} {gk gw : Nat → Int64} {od ch : Nat → Int32} {hst jo : Nat → Int64}
theorem mx_jg_l {post : Int32 → SX → Prop} {key : Int64} {G : Nat} (hG : G < 12) (h1 : ∀ g, g < G → gk g = key → post (nI g) (nI wd, nI hd, nI N, bd, ph, M, O, F, B, nI G, cc, tw, fw, nr, bn, cg, upd gs g (gs g + 1), gp, gk, gw, od, ch, hst, jo)) (h2 : post (nI G) (nI wd, nI hd, nI N, bd, ph, M, O, F, B, nI (G + 1), cc, tw, fw, nr, bn, cg, upd gs G 1, upd gp G (-1), vp_updL gk G key, gw, od, ch, hst, jo)) :
    ∀ (d g f : Nat), g + d = G → d < f → wX_joinGroup_2 post key (nI wd) (nI hd) (nI N) bd ph M O F B (nI G) cc tw fw nr bn cg gs gp gk gw od ch hst jo f (nI g)
  | 0, g, f, hg, hf => by
    obtain ⟨m, rfl⟩ : ∃ m, f = m + 1 := ⟨f - 1, by omega⟩
    have : g = G := by omega
    subst this
    have v : vp_in (nI g) 12 := vp_in_nI (by omega) (by omega)
    have e : (nI g).toNatClampNeg = g := nI_clamp (by omega)
    exact br_t (nI_le (Nat.le_refl _) (by omega)) (And.intro v (nm_r (e' := vp_updL gk g key) (by rw [e]) (And.intro v (nm_r (e' := upd gs g 1) (by rw [e]) (And.intro v (nm_r (e' := upd gp g (-1)) (by rw [e]) (nm_r (nI_1 g) h2)))))))
  | d + 1, g, f, hg, hf => by
    obtain ⟨m, rfl⟩ : ∃ m, f = m + 1 := ⟨f - 1, by omega⟩
    have v : vp_in (nI g) 12 := vp_in_nI (by omega) (by omega)
    have e : (nI g).toNatClampNeg = g := nI_clamp (by omega)
    refine br_f (nI_ge (by omega) (by omega)) (And.intro v (br_c (fun z => And.intro v (And.intro v (nm_r (e' := upd gs g (gs g + 1)) (by rw [e]) (h1 g (by omega) ?_)))) (fun z => nm_r (nI_1 g) (mx_jg_l hG h1 h2 d (g + 1) m (by omega) (by omega)))))
    rw [e] at z; exact z
theorem mx_jg {post : Int32 → SX → Prop} {key : Int64} {G : Nat} (hG : G < 12) (h1 : ∀ g, g < G → gk g = key → post (nI g) (nI wd, nI hd, nI N, bd, ph, M, O, F, B, nI G, cc, tw, fw, nr, bn, cg, upd gs g (gs g + 1), gp, gk, gw, od, ch, hst, jo)) (h2 : post (nI G) (nI wd, nI hd, nI N, bd, ph, M, O, F, B, nI (G + 1), cc, tw, fw, nr, bn, cg, upd gs G 1, upd gp G (-1), vp_updL gk G key, gw, od, ch, hst, jo)) : wpX_joinGroup post (nI wd, nI hd, nI N, bd, ph, M, O, F, B, nI G, cc, tw, fw, nr, bn, cg, gs, gp, gk, gw, od, ch, hst, jo) key :=
  ⟨G + 1, mx_jg_l hG h1 h2 G 0 (G + 1) (by omega) (by omega)⟩
theorem mx_ge_l {post : SX → Prop} {E : Int64} {ed : Nat → Bool} (hN : N ≤ 64) (hE : ∀ c, mb_b E c = ed c) (hn : mb_c ed N ≤ 12) (h : ∀ G cg gs gp gk, mk_I ed (fun c => nr c &&& O) N G cg gs gp gk → post (nI wd, nI hd, nI N, bd, ph, M, O, F, B, nI G, cc, tw, fw, nr, bn, cg, gs, gp, gk, gw, od, ch, hst, jo)) :
    ∀ (k i f G : Nat) (cg gs gp : Nat → Int32) (gk : Nat → Int64), i + k = N → k < f → mk_I ed (fun c => nr c &&& O) i G cg gs gp gk → wX_groupEdge_7 post E f (nI i) (nI wd) (nI hd) (nI N) bd ph M O F B (nI G) cc tw fw nr bn cg gs gp gk gw od ch hst jo
  | 0, i, f, G, cg, gs, gp, gk, hi, hf, hI => by
    obtain ⟨m, rfl⟩ : ∃ m, f = m + 1 := ⟨f - 1, by omega⟩
    have : i = N := by omega
    subst this
    exact br_t (nI_le (Nat.le_refl _) (by omega)) (h G cg gs gp gk hI)
  | k + 1, i, f, G, cg, gs, gp, gk, hi, hf, hI => by
    obtain ⟨m, rfl⟩ : ∃ m, f = m + 1 := ⟨f - 1, by omega⟩
    have v : vp_in (nI i) 64 := vp_in_nI (by omega) (by omega)
    have e : (nI i).toNatClampNeg = i := nI_clamp (by omega)
    have l := mk_I_le hI
    refine br_f (nI_ge (by omega) (by omega)) (mx_isSetB (by omega) (fun z => ?_) (fun z => And.intro v ?_))
    · rw [hE] at z
      exact And.intro v (nm_r (e' := upd cg i (-1)) (by rw [e]) (nm_r (nI_1 i) (mx_ge_l hN hE hn h k (i + 1) m G _ gs gp gk (by omega) (by omega) (mk_I_no hI z))))
    · rw [hE] at z
      have l2 : mb_c ed i + 1 ≤ mb_c ed N := by
        have a : mb_c ed (i + 1) ≤ mb_c ed N := mb_c_monoN ed (by omega)
        have b : mb_c ed (i + 1) = mb_c ed i + (if ed i then 1 else 0) := rfl
        rw [z, if_pos rfl] at b
        omega
      rw [e]
      refine mx_jg (by omega) (fun g hg hk => And.intro v (nm_e (nm_r (nI_1 i) (mx_ge_l hN hE hn h k (i + 1) m G _ _ gp gk (by omega) (by omega) (mk_I_old hI z (by omega) hg hk))))) (And.intro v (nm_e (nm_r (nI_1 i) (mx_ge_l hN hE hn h k (i + 1) m (G + 1) _ _ _ _ (by omega) (by omega) (mk_I_new hI z (by omega))))))
theorem mx_ge {post : SX → Prop} {E : Int64} {ed : Nat → Bool} (hN : N ≤ 64) (hE : ∀ c, mb_b E c = ed c) (hn : mb_c ed N ≤ 12) (h : ∀ G cg gs gp gk, mk_I ed (fun c => nr c &&& O) N G cg gs gp gk → post (nI wd, nI hd, nI N, bd, ph, M, O, F, B, nI G, cc, tw, fw, nr, bn, cg, gs, gp, gk, gw, od, ch, hst, jo)) : wpX_groupEdge post (nI wd, nI hd, nI N, bd, ph, M, O, F, B, gc, cc, tw, fw, nr, bn, cg, gs, gp, gk, gw, od, ch, hst, jo) E :=
  ⟨N + 1, mx_ge_l hN hE hn h N 0 (N + 1) 0 cg gs gp gk (by omega) (by omega) ⟨fun c hc => absurd hc (Nat.not_lt_zero _), fun g hg => absurd hg (Nat.not_lt_zero _), rfl⟩⟩
end
end
section
/-! ===== X: gather ===== -/
/-- positions below l hold different groups; a group has a position or component -1 -/
def mq_P (G C : Nat) (om ka : Nat → Nat) (l : Nat) (gp od : Nat → Int32) : Prop :=
  (∀ p, p < l → od p = nI (om p) ∧ om p < G) ∧ (∀ p q, p < l → q < l → om p = om q → p = q)
  ∧ (∀ g, g < G → ((∃ p, p < l ∧ om p = g) ∧ gp g = nI (ka g) ∧ ka g ≤ C) ∨ ((∀ p, p < l → om p ≠ g) ∧ gp g = -1))
theorem mq_lt {G l g : Nat} {om : Nat → Nat} (h1 : ∀ p, p < l → om p < G) (h2 : ∀ p q, p < l → q < l → om p = om q → p = q) (hg : g < G) (h3 : ∀ p, p < l → om p ≠ g) : l < G := by
  have a := mp_s_inj om G l (fun x => if x = g then 0 else 1) h1 h2
  have b : mp_s (fun p => (fun x => if x = g then 0 else 1) (om p)) l = mp_s (fun _ => 1) l := mp_s_eq fun p hp => if_neg (h3 p hp)
  have c : mp_s (fun _ => 1) G = mp_s (fun x => if x = g then 0 else 1) G + 1 := mp_s_upd (k := g) hg (fun i _ z => by rw [if_neg z]) (by rw [if_pos rfl])
  rw [b, mp_s_const] at a
  rw [mp_s_const] at c
  omega
theorem mq_le {G l : Nat} {om : Nat → Nat} (h1 : ∀ p, p < l → om p < G) (h2 : ∀ p q, p < l → q < l → om p = om q → p = q) : l ≤ G := by
  have a := mp_s_inj om G l (fun _ => 1) h1 h2
  rw [mp_s_const, mp_s_const] at a
  omega
def mq_W (G C first : Nat) (om0 ka0 : Nat → Nat) (gk : Nat → Int64) (S0 R : Int64) (l : Nat) (om ka : Nat → Nat) (gp od : Nat → Int32) : Prop :=
  mq_P G C om ka l gp od ∧ first ≤ l ∧ (∀ p, p < first → om p = om0 p ∧ ka (om p) = ka0 (om0 p)) ∧ (∀ p, first ≤ p → p < l → ka (om p) = C)
  ∧ (∀ c, mb_b R c = true ↔ mb_b S0 c = true ∨ ∃ p, first ≤ p ∧ p < l ∧ mb_b (gk (om p)) c = true)
def mq_u (f : Nat → Nat) (k x : Nat) : Nat → Nat := fun j => if j = k then x else f j
theorem mq_us {f : Nat → Nat} {k x : Nat} : mq_u f k x k = x := if_pos rfl
theorem mq_un {f : Nat → Nat} {k j x : Nat} (h : j ≠ k) : mq_u f k x j = f j := if_neg h
theorem mq_add {G C first l g : Nat} {om0 ka0 om ka : Nat → Nat} {gk : Nat → Int64} {S0 R : Int64} {gp od : Nat → Int32} (h : mq_W G C first om0 ka0 gk S0 R l om ka gp od) (hC : C < 2 ^ 31) (hg : g < G) (hu : ∀ p, p < l → om p ≠ g) :
    mq_W G C first om0 ka0 gk S0 (R ||| gk g) (l + 1) (mq_u om l g) (mq_u ka g C) (upd gp g (nI C)) (upd od l (nI g)) := by
  obtain ⟨⟨p1, p2, p3⟩, h2, h3, h4, h5⟩ := h
  refine ⟨⟨fun p hp => ?_, fun p q hp hq e => ?_, fun x hx => ?_⟩, by omega, fun p hp => ?_, fun p hp1 hp2 => ?_, fun c => ?_⟩
  · by_cases z : p = l
    · rw [z, pk_us, mq_us]; exact ⟨rfl, hg⟩
    · rw [pk_un z, mq_un z]; exact p1 p (by omega)
  · by_cases z : p = l
    · by_cases y : q = l
      · omega
      · rw [z, mq_us, mq_un y] at e
        exact absurd e.symm (hu q (by omega))
    · by_cases y : q = l
      · rw [y, mq_un z, mq_us] at e
        exact absurd e (hu p (by omega))
      · rw [mq_un z, mq_un y] at e
        exact p2 p q (by omega) (by omega) e
  · by_cases z : x = g
    · left
      rw [z, pk_us, mq_us]
      exact ⟨⟨l, by omega, mq_us⟩, rfl, Nat.le_refl _⟩
    · rw [pk_un z, mq_un z]
      rcases p3 x hx with ⟨⟨p, q1, q2⟩, q3⟩ | ⟨q1, q2⟩
      · left; exact ⟨⟨p, by omega, by rw [mq_un (by omega)]; exact q2⟩, q3⟩
      · right
        refine ⟨fun p hp => ?_, q2⟩
        by_cases y : p = l
        · rw [y, mq_us]; exact fun w => z w.symm
        · rw [mq_un y]; exact q1 p (by omega)
  · rw [mq_un (show p ≠ l by omega)]
    obtain ⟨q1, q2⟩ := h3 p hp
    refine ⟨q1, ?_⟩
    rw [mq_un (hu p (by omega))]; exact q2
  · by_cases z : p = l
    · rw [z, mq_us, mq_us]
    · rw [mq_un z, mq_un (hu p (by omega))]; exact h4 p hp1 (by omega)
  · rw [mb_or, Bool.or_eq_true, h5]
    constructor
    · rintro ((w | ⟨p, q1, q2, q3⟩) | w)
      · exact Or.inl w
      · exact Or.inr ⟨p, q1, by omega, by rw [mq_un (show p ≠ l by omega)]; exact q3⟩
      · exact Or.inr ⟨l, h2, by omega, by rw [mq_us]; exact w⟩
    · rintro (w | ⟨p, q1, q2, q3⟩)
      · exact Or.inl (Or.inl w)
      · by_cases z : p = l
        · rw [z, mq_us] at q3; exact Or.inr q3
        · rw [mq_un z] at q3; exact Or.inl (Or.inr ⟨p, q1, by omega, q3⟩)
section
variable {wd hd N : Nat} {bd : Int64} {ph : Int32} {M O F B : Int64} {gc cc : Int32} {tw fw : Int64} {nr bn : Nat → Int64} {cg gs gp : Nat → Int32} {gk gw : Nat → Int64} {od ch : Nat → Int32} {hst jo : Nat → Int64}
variable {om0 ka0 : Nat → Nat} {S0 : Int64} {G C first : Nat}
theorem mx_ga_in {post : Int32 → SX → Prop} {J : Int64 → Int32 → Int32 → (Nat → Int64) → (Nat → Int64) → (Nat → Int32) → (Nat → Int32) → (Nat → Int32) → (Nat → Int64) → (Nat → Int64) → (Nat → Int32) → (Nat → Int32) → (Nat → Int64) → (Nat → Int64) → Prop} {rd l0 : Nat} (hG : G ≤ 12) (hC : C < 2 ^ 31)
    (hJ : ∀ R l om ka gp od, mq_W G C first om0 ka0 gk S0 R l om ka gp od → ((∀ g, g < G → gp g = -1 → gk g &&& R = 0) ∨ l0 < l) → J R (nI l) (nI (rd + 1)) nr bn cg gs gp gk gw od ch hst jo) :
    ∀ (d g f : Nat) (R : Int64) (l : Nat) (om ka : Nat → Nat) (gp od : Nat → Int32), g + d = G → d < f → mq_W G C first om0 ka0 gk S0 R l om ka gp od → ((∀ g, g < G → gp g = -1 → gk g &&& R = 0) ∨ (l = l0 ∧ ∀ x, x < g → gp x = -1 → gk x &&& R = 0) ∨ l0 < l) → wX_gather_18 post J (nI rd) (nI wd) (nI hd) (nI N) bd ph M O F B (nI G) (nI C) tw fw f R (nI l) (nI g) nr bn cg gs gp gk gw od ch hst jo
  | 0, g, f, R, l, om, ka, gp, od, hg, hf, hW, hc => by
    obtain ⟨m, rfl⟩ : ∃ m, f = m + 1 := ⟨f - 1, by omega⟩
    have : g = G := by omega
    subst this
    refine br_t (nI_le (Nat.le_refl _) (by omega)) (nm_r (nI_1 rd) (hJ R l om ka gp od hW ?_))
    rcases hc with q | ⟨_, q⟩ | q
    · exact Or.inl q
    · exact Or.inl q
    · exact Or.inr q
  | d + 1, g, f, R, l, om, ka, gp, od, hg, hf, hW, hc => by
    obtain ⟨m, rfl⟩ : ∃ m, f = m + 1 := ⟨f - 1, by omega⟩
    have v : vp_in (nI g) 12 := vp_in_nI (by omega) (by omega)
    have e : (nI g).toNatClampNeg = g := nI_clamp (by omega)
    have nx : (gp g = -1 → gk g &&& R = 0) → wX_gather_18 post J (nI rd) (nI wd) (nI hd) (nI N) bd ph M O F B (nI G) (nI C) tw fw m R (nI l) (nI (g + 1)) nr bn cg gs gp gk gw od ch hst jo := fun q => mx_ga_in hG hC hJ d (g + 1) m R l om ka gp od (by omega) (by omega) hW (by
      rcases hc with y | ⟨y1, y2⟩ | y
      · exact Or.inl y
      · refine Or.inr (Or.inl ⟨y1, fun x hx hx2 => ?_⟩)
        by_cases w : x = g
        · rw [w] at hx2 ⊢; exact q hx2
        · exact y2 x (by omega) hx2
      · exact Or.inr (Or.inr y))
    refine br_f (nI_ge (by omega) (by omega)) (And.intro v (br_c (fun z => ?_) (fun z => And.intro v (br_c (fun z2 => ?_) (fun z2 => ?_)))))
    · rw [e] at z
      exact nm_r (nI_1 g) (nx fun y => by rw [y] at z; exact absurd z (by decide))
    · rw [e] at z2
      exact nm_r (nI_1 g) (nx fun _ => z2)
    · rw [e] at z z2
      rcases hW.1.2.2 g (by omega) with ⟨_, q1, q2⟩ | ⟨q1, q2⟩
      · rw [q1] at z; exact absurd (nI_pos' (by omega)) z
      · have ll : l < G := mq_lt (fun p hp => (hW.1.1 p hp).2) hW.1.2.1 (show g < G by omega) q1
        have el : (nI l).toNatClampNeg = l := nI_clamp (by omega)
        refine And.intro v (nm_r (e' := upd gp g (nI C)) (by rw [e]) (nm_r (nI_1 l) (And.intro (vp_in_nI (by omega) (by omega)) (nm_r (e' := upd od l (nI g)) (by rw [el]) (And.intro v (nm_r (e' := R ||| gk g) (by rw [e]) (nm_r (nI_1 g) (mx_ga_in hG hC hJ d (g + 1) m (R ||| gk g) (l + 1) _ _ _ _ (by omega) (by omega) (mq_add hW hC (by omega) q1) ?_))))))))
        rcases hc with y | ⟨y1, _⟩ | y
        · exact absurd (y g (by omega) q2) z2
        · exact Or.inr (Or.inr (by omega))
        · exact Or.inr (Or.inr (by omega))
theorem mx_ga_out {post : Int32 → SX → Prop} (hG : G ≤ 12) (hC : C < 2 ^ 31)
    (h : ∀ R l om ka gp od, mq_W G C first om0 ka0 gk S0 R l om ka gp od → (∀ g, g < G → gp g = -1 → gk g &&& R = 0) → post (nI l) (nI wd, nI hd, nI N, bd, ph, M, O, F, B, nI G, nI C, tw, fw, nr, bn, cg, gs, gp, gk, gw, od, ch, hst, jo)) :
    ∀ (d r f : Nat) (R : Int64) (l : Nat) (om ka : Nat → Nat) (gp od : Nat → Int32), r + d = G → d < f → mq_W G C first om0 ka0 gk S0 R l om ka gp od → ((∀ g, g < G → gp g = -1 → gk g &&& R = 0) ∨ first + r ≤ l) → wX_gather_6 post (nI wd) (nI hd) (nI N) bd ph M O F B (nI G) (nI C) tw fw f R (nI l) (nI r) nr bn cg gs gp gk gw od ch hst jo
  | 0, r, f, R, l, om, ka, gp, od, hr, hf, hW, hc => by
    obtain ⟨m, rfl⟩ : ∃ m, f = m + 1 := ⟨f - 1, by omega⟩
    have : r = G := by omega
    subst this
    refine br_t (nI_le (Nat.le_refl _) (by omega)) (h R l om ka gp od hW ?_)
    rcases hc with q | q
    · exact q
    · intro g hg hu
      rcases hW.1.2.2 g hg with ⟨_, q1, q2⟩ | ⟨q1, _⟩
      · rw [q1] at hu
        have := nI_pos' (n := ka g) (by omega)
        rw [hu] at this; exact absurd this (by decide)
      · have := mq_lt (fun p hp => (hW.1.1 p hp).2) hW.1.2.1 hg q1
        omega
  | d + 1, r, f, R, l, om, ka, gp, od, hr, hf, hW, hc => by
    obtain ⟨m, rfl⟩ : ∃ m, f = m + 1 := ⟨f - 1, by omega⟩
    refine br_f (nI_ge (by omega) (by omega)) ?_
    rcases hc with q | q
    · exact ⟨G + 1, mx_ga_in (l0 := first + r) hG hC (fun R' l' om' ka' gp' od' hW' hc' => mx_ga_out hG hC h d (r + 1) m R' l' om' ka' gp' od' (by omega) (by omega) hW' (hc'.elim Or.inl fun y => Or.inr (by omega))) G 0 (G + 1) R l om ka gp od (by omega) (by omega) hW (Or.inl q)⟩
    · exact ⟨G + 1, mx_ga_in (l0 := l) hG hC (fun R' l' om' ka' gp' od' hW' hc' => mx_ga_out hG hC h d (r + 1) m R' l' om' ka' gp' od' (by omega) (by omega) hW' (hc'.elim Or.inl fun y => Or.inr (by omega))) G 0 (G + 1) R l om ka gp od (by omega) (by omega) hW (Or.inr (Or.inl ⟨rfl, fun x hx => absurd hx (Nat.not_lt_zero _)⟩))⟩
theorem mx_gather {post : Int32 → SX → Prop} (hG : G ≤ 12) (hC : C < 2 ^ 31) (hP : mq_P G C om0 ka0 first gp od)
    (h : ∀ R l om ka gp od, mq_W G C first om0 ka0 gk S0 R l om ka gp od → (∀ g, g < G → gp g = -1 → gk g &&& R = 0) → post (nI l) (nI wd, nI hd, nI N, bd, ph, M, O, F, B, nI G, nI C, tw, fw, nr, bn, cg, gs, gp, gk, gw, od, ch, hst, jo)) : wpX_gather post (nI wd, nI hd, nI N, bd, ph, M, O, F, B, nI G, nI C, tw, fw, nr, bn, cg, gs, gp, gk, gw, od, ch, hst, jo) (nI first) S0 :=
  ⟨G + 1, mx_ga_out hG hC h G 0 (G + 1) S0 first om0 ka0 gp od (by omega) (by omega) ⟨hP, Nat.le_refl _, fun _ _ => ⟨rfl, rfl⟩, fun p h1 h2 => by omega, fun c => ⟨Or.inl, fun y => y.elim id fun ⟨p, h1, h2, _⟩ => by omega⟩⟩ (Or.inr (by omega))⟩
end
end
section
/-! ===== X: canMeet, fits ===== -/
def mu_k (gk : Nat → Int64) (g c : Nat) : Nat := if c = 64 then 1 else if mb_b (gk g) c then 1 else 0
theorem mu_k_c {gk : Nat → Int64} {g c : Nat} (h : c < 64) : mu_k gk g c = if mb_b (gk g) c then 1 else 0 := if_neg (by omega)
theorem mu_k_64 {gk : Nat → Int64} {g : Nat} : mu_k gk g 64 = 1 := if_pos rfl
theorem mu_k_ne {gk : Nat → Int64} {g c : Nat} (h : c < 64) : mu_k gk g c ≠ 0 ↔ mb_b (gk g) c = true := by
  rw [mu_k_c h]
  cases mb_b (gk g) c <;> simp
theorem mu_k_le (gk : Nat → Int64) (g c : Nat) : mu_k gk g c ≤ 1 := by
  unfold mu_k
  split
  · exact Nat.le_refl _
  · split
    · exact Nat.le_refl _
    · exact Nat.zero_le _
/-- the counts after d decided positions from first on -/
def mu_v (gk : Nat → Int64) (om xs : Nat → Nat) (first d c : Nat) : Nat := mp_s (fun i => xs (first + i) * mu_k gk (om (first + i)) c) d
theorem mu_room {gk : Nat → Int64} {sz om : Nat → Nat} {c : Nat} : ∀ d p, mp_room sz om (mu_k gk) c d p = mp_s (fun i => mu_k gk (om (p + i)) c * sz (om (p + i))) d
  | 0, _ => rfl
  | d + 1, p => by
    show mu_k gk (om p) c * sz (om p) + mp_room sz om (mu_k gk) c d (p + 1) = _
    rw [mu_room d (p + 1), mp_s_hd]
    congr 1
    exact mp_s_eq fun i _ => by rw [show p + 1 + i = p + (i + 1) by omega]
theorem mu_bnd {f g : Nat → Nat} {d n : Nat} (h1 : ∀ i, i < d → f i ≤ n) (h2 : ∀ i, g i ≤ 1) : mp_s (fun i => f i * g i) d ≤ d * n := by
  rw [← mp_s_const]
  exact mp_s_le fun i hi => Nat.le_trans (Nat.mul_le_mul (h1 i hi) (h2 i)) (by omega)
def mu_Q (G : Nat) (sz om : Nat → Nat) (l : Nat) (gs od : Nat → Int32) : Prop := G ≤ 12 ∧ l ≤ 12 ∧ (∀ p, p < l → od p = nI (om p) ∧ om p < G) ∧ (∀ g, g < G → gs g = nI (sz g) ∧ sz g ≤ 12)
theorem mu_ss (a b c : Nat) : nI a - nI b - nI c = nI a - nI (b + c) := by
  rw [← nI_add]; grind
section
variable {wd hd N : Nat} {bd : Int64} {ph : Int32} {M O F B : Int64} {gc cc : Int32} {tw fw : Int64} {nr bn : Nat → Int64} {cg gs gp : Nat → Int32} {gk gw : Nat → Int64} {od ch : Nat → Int32} {hst jo : Nat → Int64}
variable {G first last : Nat} {sz om xs : Nat → Nat}
theorem mx_cm_b {post : Int32 → Prop} {c pos A n : Nat} (hQ : mu_Q G sz om last gs od) (hc : c < 64) (hp : pos < last) (hA : A ≤ 1000) (hn : n ≤ 1000)
    (h1 : A ≤ n ∧ n ≤ A + mp_s (fun i => mu_k gk (om (pos + 1 + i)) c * sz (om (pos + 1 + i))) (last - (pos + 1)) → post 1) (h0 : ¬ (A ≤ n ∧ n ≤ A + mp_s (fun i => mu_k gk (om (pos + 1 + i)) c * sz (om (pos + 1 + i))) (last - (pos + 1))) → post 0) :
    ∀ (k d f : Nat), pos + 1 + d + k = last → k < f → wX_canMeet_13 post (nI c) (nI pos) (nI last) (nI wd) (nI hd) (nI N) bd ph M O F B gc cc tw fw nr bn cg gs gp gk gw od ch hst jo f (nI n - nI A) (nI (mp_s (fun i => mu_k gk (om (pos + 1 + i)) c * sz (om (pos + 1 + i))) d)) (nI (pos + 1 + d))
  | 0, d, f, hk, hf => by
    obtain ⟨m, rfl⟩ : ∃ m, f = m + 1 := ⟨f - 1, by omega⟩
    have e : d = last - (pos + 1) := by omega
    have b : mp_s (fun i => mu_k gk (om (pos + 1 + i)) c * sz (om (pos + 1 + i))) d ≤ d * 12 := by
      have : mp_s (fun i => mu_k gk (om (pos + 1 + i)) c * sz (om (pos + 1 + i))) d = mp_s (fun i => sz (om (pos + 1 + i)) * mu_k gk (om (pos + 1 + i)) c) d := mp_s_eq fun i _ => Nat.mul_comm _ _
      rw [this]
      exact mu_bnd (fun i hi => (hQ.2.2.2 _ (hQ.2.2.1 _ (by omega)).2).2) (fun i => mu_k_le _ _ _)
    rw [← e] at h1 h0
    have l12 := hQ.2.1
    generalize mp_s (fun i => mu_k gk (om (pos + 1 + i)) c * sz (om (pos + 1 + i))) d = S at *
    have t1 : (nI n - nI A).toInt = (n : Int) - A := pk_sub_toInt (by omega) (by omega)
    have t2 : (nI S).toInt = (S : Int) := nI_toInt (by omega)
    have z0 : (0 : Int32).toInt = 0 := by decide
    refine br_t (by rw [show pos + 1 + d = last by omega]; exact nI_le (Nat.le_refl _) (by omega)) (br_c (fun z => h0 ?_) (fun z => br_c (fun y => h0 ?_) (fun y => h1 ?_)))
    · rw [Int32.lt_iff_toInt_lt, t1, z0] at z; omega
    · rw [Int32.lt_iff_toInt_lt, t1, t2] at y; omega
    · rw [Int32.lt_iff_toInt_lt, t1, z0] at z
      rw [Int32.lt_iff_toInt_lt, t1, t2] at y; omega
  | k + 1, d, f, hk, hf => by
    obtain ⟨m, rfl⟩ : ∃ m, f = m + 1 := ⟨f - 1, by omega⟩
    have l12 := hQ.2.1
    obtain ⟨o1, o2⟩ := hQ.2.2.1 (pos + 1 + d) (by omega)
    have g12 := hQ.1
    have e : (nI (pos + 1 + d)).toNatClampNeg = pos + 1 + d := nI_clamp (by omega)
    have v : vp_in (nI (pos + 1 + d)) 12 := vp_in_nI (by omega) (by omega)
    have eo : (od (nI (pos + 1 + d)).toNatClampNeg) = nI (om (pos + 1 + d)) := by rw [e, o1]
    have vo : vp_in (od (nI (pos + 1 + d)).toNatClampNeg) 12 := by rw [eo]; exact vp_in_nI (by omega) (by omega)
    have eg' : (od (nI (pos + 1 + d)).toNatClampNeg).toNatClampNeg = om (pos + 1 + d) := by rw [eo, nI_clamp (by omega)]
    have ih := mx_cm_b hQ hc hp hA hn h1 h0 k (d + 1) m (by omega) (by omega)
    have st : ∀ z : Nat, z = mu_k gk (om (pos + 1 + d)) c → wX_canMeet_45 post (wX_canMeet_13 post (nI c) (nI pos) (nI last) (nI wd) (nI hd) (nI N) bd ph M O F B gc cc tw fw nr bn cg gs gp gk gw od ch hst jo m) (nI c) (nI pos) (nI last) (nI n - nI A) (nI (mp_s (fun i => mu_k gk (om (pos + 1 + i)) c * sz (om (pos + 1 + i))) d)) (nI (pos + 1 + d)) (nI z) (nI wd) (nI hd) (nI N) bd ph M O F B gc cc tw fw nr bn cg gs gp gk gw od ch hst jo := fun z hz => by
      refine br_t (nI_lt (by omega) (by omega)) (And.intro v (And.intro vo (nm_r (e' := nI (mp_s (fun i => mu_k gk (om (pos + 1 + i)) c * sz (om (pos + 1 + i))) (d + 1))) ?_ (nm_r (nI_1 _) ih))))
      rw [eg', (hQ.2.2.2 _ o2).1, pk_mul, nI_add, hz]
      rfl
    refine br_f (nI_ge (by omega) (by omega)) (And.intro v (And.intro vo ?_))
    rw [eg']
    refine mx_isSetB hc (fun z => st 0 ?_) (fun z => st 1 ?_)
    · rw [mu_k_c hc, z]; rfl
    · rw [mu_k_c hc, z]; rfl
theorem mx_cm_a {post : Int32 → Prop} {c pos n : Nat} (hQ : mu_Q G sz om last gs od) (hc : c < 64) (h0p : first ≤ pos) (hp : pos < last) (hx : ∀ p, first ≤ p → p ≤ pos → ch p = nI (xs p) ∧ xs p ≤ 12) (hn : n ≤ 1000)
    (h1 : mu_v gk om xs first (pos + 1 - first) c ≤ n ∧ n ≤ mu_v gk om xs first (pos + 1 - first) c + mp_room sz om (mu_k gk) c (last - (pos + 1)) (pos + 1) → post 1) (h0 : ¬ (mu_v gk om xs first (pos + 1 - first) c ≤ n ∧ n ≤ mu_v gk om xs first (pos + 1 - first) c + mp_room sz om (mu_k gk) c (last - (pos + 1)) (pos + 1)) → post 0) :
    ∀ (k d f : Nat), first + d + k = pos + 1 → k + (last - (pos + 1)) < f → wX_canMeet_13 post (nI c) (nI pos) (nI last) (nI wd) (nI hd) (nI N) bd ph M O F B gc cc tw fw nr bn cg gs gp gk gw od ch hst jo f (nI n - nI (mu_v gk om xs first d c)) 0 (nI (first + d))
  | 0, d, f, hk, hf => by
    have e : d = pos + 1 - first := by omega
    have b : mu_v gk om xs first d c ≤ d * 12 := mu_bnd (fun i hi => (hx (first + i) (by omega) (by omega)).2) (fun i => mu_k_le _ _ _)
    have l12 := hQ.2.1
    rw [mu_room, ← e] at h1 h0
    rw [show first + d = pos + 1 + 0 by omega]
    exact mx_cm_b (post := post) (A := mu_v gk om xs first d c) (n := n) hQ hc hp (by omega) hn h1 h0 (last - (pos + 1)) 0 f (by omega) (by omega)
  | k + 1, d, f, hk, hf => by
    obtain ⟨m, rfl⟩ : ∃ m, f = m + 1 := ⟨f - 1, by omega⟩
    have l12 := hQ.2.1
    have g12 := hQ.1
    obtain ⟨o1, o2⟩ := hQ.2.2.1 (first + d) (by omega)
    have e : (nI (first + d)).toNatClampNeg = first + d := nI_clamp (by omega)
    have v : vp_in (nI (first + d)) 12 := vp_in_nI (by omega) (by omega)
    have eo : (od (nI (first + d)).toNatClampNeg) = nI (om (first + d)) := by rw [e, o1]
    have vo : vp_in (od (nI (first + d)).toNatClampNeg) 12 := by rw [eo]; exact vp_in_nI (by omega) (by omega)
    have eg' : (od (nI (first + d)).toNatClampNeg).toNatClampNeg = om (first + d) := by rw [eo, nI_clamp (by omega)]
    have ih := mx_cm_a hQ hc h0p hp hx hn h1 h0 k (d + 1) m (by omega) (by omega)
    have st : ∀ z : Nat, z = mu_k gk (om (first + d)) c → wX_canMeet_45 post (wX_canMeet_13 post (nI c) (nI pos) (nI last) (nI wd) (nI hd) (nI N) bd ph M O F B gc cc tw fw nr bn cg gs gp gk gw od ch hst jo m) (nI c) (nI pos) (nI last) (nI n - nI (mu_v gk om xs first d c)) 0 (nI (first + d)) (nI z) (nI wd) (nI hd) (nI N) bd ph M O F B gc cc tw fw nr bn cg gs gp gk gw od ch hst jo := fun z hz => by
      refine br_f (nI_nlt (by omega) (by omega)) (And.intro v (nm_r (e' := nI n - nI (mu_v gk om xs first (d + 1) c)) ?_ (nm_r (nI_1 _) ih)))
      rw [e, (hx (first + d) (by omega) (by omega)).1, pk_mul, mu_ss, hz, Nat.mul_comm]
      rfl
    refine br_f (nI_ge (by omega) (by omega)) (And.intro v (And.intro vo ?_))
    rw [eg']
    refine mx_isSetB hc (fun z => st 0 ?_) (fun z => st 1 ?_)
    · rw [mu_k_c hc, z]; rfl
    · rw [mu_k_c hc, z]; rfl
theorem mx_fits_l {post : Int32 → Prop} (hX : mg_BX wd hd N bd nr bn) {pos : Nat} (hQ : mu_Q G sz om last gs od) (h0p : first ≤ pos) (hp : pos < last) (hx : ∀ p, first ≤ p → p ≤ pos → ch p = nI (xs p) ∧ xs p ≤ 12)
    (h1 : mp_fit N (mg_num wd N M) sz om (mu_k gk) (last - (pos + 1)) pos (mu_v gk om xs first (pos + 1 - first)) → post 1) (h0 : ¬ mp_fit N (mg_num wd N M) sz om (mu_k gk) (last - (pos + 1)) pos (mu_v gk om xs first (pos + 1 - first)) → post 0) :
    ∀ (k c f : Nat), c + k = N → k < f → (∀ x, x < c → mu_k gk (om pos) x ≠ 0 → mu_v gk om xs first (pos + 1 - first) x ≤ mg_num wd N M x ∧ mg_num wd N M x ≤ mu_v gk om xs first (pos + 1 - first) x + mp_room sz om (mu_k gk) x (last - (pos + 1)) (pos + 1)) → wX_fits_16 post (nI first) (nI pos) (nI last) (gk (om pos)) (nI wd) (nI hd) (nI N) bd ph M O F B gc cc tw fw nr bn cg gs gp gk gw od ch hst jo f (nI c)
  | 0, c, f, hk, hf, ha => by
    obtain ⟨m, rfl⟩ : ∃ m, f = m + 1 := ⟨f - 1, by omega⟩
    have : c = N := by omega
    subst this
    exact br_t (nI_le (Nat.le_refl _) (by have := mg_N64 hX.1; omega)) (h1 ha)
  | k + 1, c, f, hk, hf, ha => by
    obtain ⟨m, rfl⟩ : ∃ m, f = m + 1 := ⟨f - 1, by omega⟩
    have hN := mg_N64 hX.1
    have nx : (mu_k gk (om pos) c ≠ 0 → mu_v gk om xs first (pos + 1 - first) c ≤ mg_num wd N M c ∧ mg_num wd N M c ≤ mu_v gk om xs first (pos + 1 - first) c + mp_room sz om (mu_k gk) c (last - (pos + 1)) (pos + 1)) → wX_fits_16 post (nI first) (nI pos) (nI last) (gk (om pos)) (nI wd) (nI hd) (nI N) bd ph M O F B gc cc tw fw nr bn cg gs gp gk gw od ch hst jo m (nI (c + 1)) := fun q => mx_fits_l hX hQ h0p hp hx h1 h0 k (c + 1) m (by omega) (by omega) fun x hx' => by
      by_cases y : x = c
      · rw [y]; exact q
      · exact ha x (by omega)
    refine br_f (nI_ge (by omega) (by omega)) (mx_isSetB (by omega) (fun z => nm_r (nI_1 c) (nx fun y => ?_)) (fun z => ?_))
    · rw [mu_k_ne (by omega), z] at y; exact absurd y (by decide)
    · have l : mg_num wd N M c ≤ N := mb_c_le _ N
      unfold wpX_canMeet
      refine mx_number hX (by omega) ⟨last + 1, ?_⟩
      have s : wX_canMeet_13 (fun r_32 => (r_32 = 0 → post 0) ∧ (¬ r_32 = 0 → ∀ x6_58 : Int32, x6_58 = nI c + 1 → wX_fits_16 post (nI first) (nI pos) (nI last) (gk (om pos)) (nI wd) (nI hd) (nI N) bd ph M O F B gc cc tw fw nr bn cg gs gp gk gw od ch hst jo m x6_58)) (nI c) (nI pos) (nI last) (nI wd) (nI hd) (nI N) bd ph M O F B gc cc tw fw nr bn cg gs gp gk gw od ch hst jo (last + 1) (nI (mg_num wd N M c) - nI (mu_v gk om xs first 0 c)) 0 (nI (first + 0)) := mx_cm_a (post := fun r_32 => (r_32 = 0 → post 0) ∧ (¬ r_32 = 0 → ∀ x6_58 : Int32, x6_58 = nI c + 1 → wX_fits_16 post (nI first) (nI pos) (nI last) (gk (om pos)) (nI wd) (nI hd) (nI N) bd ph M O F B gc cc tw fw nr bn cg gs gp gk gw od ch hst jo m x6_58)) (n := mg_num wd N M c) (c := c) hQ (by omega) h0p hp hx (by omega) (fun y => br_f (by decide) (nm_r (nI_1 c) (nx fun _ => y))) (fun y => br_t rfl (h0 fun w => y (w c (by omega) ((mu_k_ne (by omega)).mpr z)))) (pos + 1 - first) 0 (last + 1) (by omega) (by omega)
      have e0 : nI (mg_num wd N M c) - nI (mu_v gk om xs first 0 c) = nI (mg_num wd N M c) := by
        show _ - nI 0 = _
        rw [nI_0, Int32.sub_zero]
      rw [e0] at s
      exact s
theorem mx_fits {post : Int32 → Prop} (hX : mg_BX wd hd N bd nr bn) {pos : Nat} (hQ : mu_Q G sz om last gs od) (h0p : first ≤ pos) (hp : pos < last) (hx : ∀ p, first ≤ p → p ≤ pos → ch p = nI (xs p) ∧ xs p ≤ 12)
    (h1 : mp_fit N (mg_num wd N M) sz om (mu_k gk) (last - (pos + 1)) pos (mu_v gk om xs first (pos + 1 - first)) → post 1) (h0 : ¬ mp_fit N (mg_num wd N M) sz om (mu_k gk) (last - (pos + 1)) pos (mu_v gk om xs first (pos + 1 - first)) → post 0) : wpX_fits post (nI wd, nI hd, nI N, bd, ph, M, O, F, B, gc, cc, tw, fw, nr, bn, cg, gs, gp, gk, gw, od, ch, hst, jo) (nI first) (nI pos) (nI last) := by
  have l12 := hQ.2.1
  have g12 := hQ.1
  obtain ⟨o1, o2⟩ := hQ.2.2.1 pos hp
  have e : (nI pos).toNatClampNeg = pos := nI_clamp (by omega)
  refine And.intro (vp_in_nI (by omega) (by omega)) (And.intro (by rw [e, o1]; exact vp_in_nI (by omega) (by omega)) (nm_r (e' := gk (om pos)) (by rw [e, o1, nI_clamp (by omega)]) ⟨N + 1, mx_fits_l hX hQ h0p hp hx h1 h0 N 0 (N + 1) (by omega) (by omega) fun x hx => absurd hx (Nat.not_lt_zero _)⟩))
end
end
section
/-! ===== X: waysOf, enterSolution ===== -/
def mu_pr (w : Nat → Nat → Nat) (om xs : Nat → Nat) (first : Nat) : Nat → Nat
  | 0 => 1
  | d + 1 => mu_pr w om xs first d * w (om (first + d)) (xs (first + d))
theorem mu_ch0 (s x : Nat) : mp_ch (s : Int) (x : Int) = mp_C s x := by
  by_cases h : x ≤ s
  · exact mp_ch_t h
  · rw [mp_ch_f (by omega), mp_C_gt _ _ (by omega)]
theorem mu_ch1 {s x : Nat} (hs : 1 ≤ s) : mp_ch ((s : Int) - 1) ((x : Int) - 1) = mp_Cm s x := by
  match x with
  | 0 => rw [mp_ch_f (by omega)]; rfl
  | x + 1 =>
    show _ = mp_C (s - 1) x
    rw [← mu_ch0]
    congr 1 <;> omega
/-- the rows that belong to component C with positions first .. last - 1 -/
def mu_R (C : Nat) (om : Nat → Nat) (first last r : Nat) : Prop := r = C ∨ ∃ p, first ≤ p ∧ p < last ∧ r = 12 + om p
section
variable {wd hd N : Nat} {bd : Int64} {ph : Int32} {M O F B : Int64} {gc cc : Int32} {tw fw : Int64} {nr bn : Nat → Int64} {cg gs gp : Nat → Int32} {gk gw : Nat → Int64} {od ch : Nat → Int32} {hst jo : Nat → Int64}
variable {G first last : Nat} {sz om xs : Nat → Nat}
theorem mx_wo_l {post : Int64 → Prop} (hX : mg_BX wd hd N bd nr bn) {r : Nat} {x3 : Int32} (hQ : mu_Q G sz om last gs od) (hs : ∀ g, g < G → 1 ≤ sz g) (hx : ∀ p, first ≤ p → p < last → ch p = nI (xs p) ∧ xs p ≤ 12) (hr : ∀ p, first ≤ p → p < last → (nI p = x3 ↔ r = 12 + om p))
    (h : post (lN (mu_pr (mp_wt sz r) om xs first (last - first)))) : ∀ (k d f : Nat), first + d + k = last → k < f → wX_waysOf_6 post (nI last) x3 (nI wd) (nI hd) (nI N) bd ph M O F B gc cc tw fw nr bn cg gs gp gk gw od ch hst jo f (lN (mu_pr (mp_wt sz r) om xs first d)) (nI (first + d))
  | 0, d, f, hk, hf => by
    obtain ⟨m, rfl⟩ : ∃ m, f = m + 1 := ⟨f - 1, by omega⟩
    have l12 := hQ.2.1
    rw [show last - first = d by omega] at h
    exact br_t (by rw [show first + d = last by omega]; exact nI_le (Nat.le_refl _) (by omega)) h
  | k + 1, d, f, hk, hf => by
    obtain ⟨m, rfl⟩ : ∃ m, f = m + 1 := ⟨f - 1, by omega⟩
    have l12 := hQ.2.1
    have g12 := hQ.1
    obtain ⟨o1, o2⟩ := hQ.2.2.1 (first + d) (by omega)
    obtain ⟨c1, c2⟩ := hx (first + d) (by omega) (by omega)
    obtain ⟨s1, s2⟩ := hQ.2.2.2 _ o2
    have e : (nI (first + d)).toNatClampNeg = first + d := nI_clamp (by omega)
    have v : vp_in (nI (first + d)) 12 := vp_in_nI (by omega) (by omega)
    have eo : (od (nI (first + d)).toNatClampNeg) = nI (om (first + d)) := by rw [e, o1]
    have vo : vp_in (od (nI (first + d)).toNatClampNeg) 12 := by rw [eo]; exact vp_in_nI (by omega) (by omega)
    have es : gs (od (nI (first + d)).toNatClampNeg).toNatClampNeg = nI (sz (om (first + d))) := by rw [eo, nI_clamp (by omega), s1]
    have ec : ch (nI (first + d)).toNatClampNeg = nI (xs (first + d)) := by rw [e, c1]
    have ih := mx_wo_l hX hQ hs hx hr h k (d + 1) m (by omega) (by omega)
    have step : lN (mu_pr (mp_wt sz r) om xs first d) * lN (mp_wt sz r (om (first + d)) (xs (first + d))) = lN (mu_pr (mp_wt sz r) om xs first (d + 1)) := by rw [lN_mul]; rfl
    have t1 := nI_toInt (n := sz (om (first + d))) (by omega)
    have t2 := nI_toInt (n := xs (first + d)) (by omega)
    refine br_f (nI_ge (by omega) (by omega)) (br_c (fun z => ?_) (fun z => ?_))
    · rw [hr (first + d) (by omega) (by omega)] at z
      refine And.intro v (And.intro vo (And.intro v ?_))
      rw [es, ec]
      have u1 : (nI (sz (om (first + d))) - 1).toInt = (sz (om (first + d)) : Int) - 1 := pk_sub_toInt (b := 1) (by omega) (by omega)
      have u2 : (nI (xs (first + d)) - 1).toInt = (xs (first + d) : Int) - 1 := pk_sub_toInt (b := 1) (by omega) (by omega)
      refine mx_choose hX (by rw [u1]; omega) (nm_r ?_ (nm_r (nI_1 _) ih))
      rw [u1, u2, mu_ch1 (hs _ o2), ← step]
      unfold mp_wt
      rw [if_pos z]
    · rw [hr (first + d) (by omega) (by omega)] at z
      refine And.intro v (And.intro vo (And.intro v ?_))
      rw [es, ec, Int32.sub_zero, Int32.sub_zero]
      refine mx_choose hX (by rw [t1]; omega) (nm_r ?_ (nm_r (nI_1 _) ih))
      rw [t1, t2, mu_ch0, ← step]
      unfold mp_wt
      rw [if_neg z]
theorem mx_wo {post : Int64 → Prop} (hX : mg_BX wd hd N bd nr bn) {r : Nat} {x3 : Int32} (hQ : mu_Q G sz om last gs od) (hs : ∀ g, g < G → 1 ≤ sz g) (hl : first ≤ last) (hx : ∀ p, first ≤ p → p < last → ch p = nI (xs p) ∧ xs p ≤ 12) (hr : ∀ p, first ≤ p → p < last → (nI p = x3 ↔ r = 12 + om p))
    (h : post (lN (mu_pr (mp_wt sz r) om xs first (last - first)))) : wpX_waysOf post (nI wd, nI hd, nI N, bd, ph, M, O, F, B, gc, cc, tw, fw, nr, bn, cg, gs, gp, gk, gw, od, ch, hst, jo) (nI first) (nI last) x3 :=
  ⟨last + 1, mx_wo_l hX hQ hs hx hr h (last - first) 0 (last + 1) (by omega) (by omega)⟩
/-- what a solution adds to the histograms -/
def mu_A (sz om xs : Nat → Nat) (C first last tot n : Nat) (hh hh' : Nat → Nat) : Prop := ∀ r, r < 24 → ∀ t, t < 13 → hh' (r * 13 + t) = hh (r * 13 + t) + mp_i (t = tot ∧ mu_R C om first n r) (mu_pr (mp_wt sz r) om xs first (last - first))
theorem mu_ix {r r' t t' : Nat} (h1 : t < 13) (h2 : t' < 13) : r * 13 + t = r' * 13 + t' ↔ r = r' ∧ t = t' := by omega
theorem mx_lr_u {n k x : Nat} {f : Nat → Int64} {g : Nat → Nat} (h : mx_lr n f g) : mx_lr n (vp_updL f k (lN x)) (mq_u g k x) := fun i hi => by
  by_cases z : i = k
  · rw [z, pk_uLs, mq_us]
  · rw [pk_uLn z, mq_un z]; exact h i hi
theorem mx_es_b {post : SX → Prop} (hX : mg_BX wd hd N bd nr bn) {C tot : Nat} (hC : C < 12) (ht : tot < 13) (hQ : mu_Q G sz om last gs od) (hs : ∀ g, g < G → 1 ≤ sz g) (hl : first ≤ last) (hi : ∀ p q, p < last → q < last → om p = om q → p = q) (hx : ∀ p, first ≤ p → p < last → ch p = nI (xs p) ∧ xs p ≤ 12) {hh : Nat → Nat}
    (h : ∀ hst hh', mx_lr 312 hst hh' → mu_A sz om xs C first last tot last hh hh' → post (nI wd, nI hd, nI N, bd, ph, M, O, F, B, gc, cc, tw, fw, nr, bn, cg, gs, gp, gk, gw, od, ch, hst, jo)) : ∀ (k d f : Nat) (hst : Nat → Int64) (hh' : Nat → Nat), first + d + k = last → k < f → mx_lr 312 hst hh' → mu_A sz om xs C first last tot (first + d) hh hh' → wX_enterSolution_54 post (nI first) (nI last) (nI tot) (nI wd) (nI hd) (nI N) bd ph M O F B gc cc tw fw f (nI (first + d)) nr bn cg gs gp gk gw od ch hst jo
  | 0, d, f, hst, hh', hk, hf, h1, h2 => by
    obtain ⟨m, rfl⟩ : ∃ m, f = m + 1 := ⟨f - 1, by omega⟩
    have l12 := hQ.2.1
    rw [show first + d = last by omega] at h2
    exact br_t (by rw [show first + d = last by omega]; exact nI_le (Nat.le_refl _) (by omega)) (h hst hh' h1 h2)
  | k + 1, d, f, hst, hh', hk, hf, h1, h2 => by
    obtain ⟨m, rfl⟩ : ∃ m, f = m + 1 := ⟨f - 1, by omega⟩
    have l12 := hQ.2.1
    have g12 := hQ.1
    obtain ⟨o1, o2⟩ := hQ.2.2.1 (first + d) (by omega)
    have e : (nI (first + d)).toNatClampNeg = first + d := nI_clamp (by omega)
    have v : vp_in (nI (first + d)) 12 := vp_in_nI (by omega) (by omega)
    have ix : (12 + od (nI (first + d)).toNatClampNeg) * 13 + nI tot = nI ((12 + om (first + d)) * 13 + tot) := by
      rw [e, o1, show (12 : Int32) = nI 12 from rfl, show (13 : Int32) = nI 13 from rfl, nI_add, pk_mul, nI_add]
    have vi : vp_in ((12 + od (nI (first + d)).toNatClampNeg) * 13 + nI tot) 312 := by rw [ix]; exact vp_in_nI (by omega) (by omega)
    refine br_f (nI_ge (by omega) (by omega)) (And.intro v (And.intro vi (mx_wo (r := 12 + om (first + d)) hX hQ hs hl hx (fun p hp1 hp2 => ?_) (And.intro vi (nm_r (e' := vp_updL hst ((12 + om (first + d)) * 13 + tot) (lN (hh' ((12 + om (first + d)) * 13 + tot) + mu_pr (mp_wt sz (12 + om (first + d))) om xs first (last - first)))) ?_ (nm_r (nI_1 _) (mx_es_b hX hC ht hQ hs hl hi hx h k (d + 1) m _ _ (by omega) (by omega) (mx_lr_u h1) ?_)))))))
    · rw [nI_eq (by omega) (by omega)]
      constructor
      · intro y; rw [y]
      · intro y; exact (hi _ _ (by omega) (by omega) (by omega : om (first + d) = om p)).symm
    · rw [ix, nI_clamp (by omega), h1 _ (by omega), lN_add]
    · intro r hr t ht'
      by_cases y : r * 13 + t = (12 + om (first + d)) * 13 + tot
      · have y2 := (mu_ix ht' ht).mp y
        rw [y, mq_us, h2 _ (by omega) tot ht, y2.1, y2.2, mp_i_t (P := tot = tot ∧ mu_R C om first (first + (d + 1)) (12 + om (first + d))) ⟨rfl, Or.inr ⟨first + d, by omega, by omega, rfl⟩⟩, mp_i_f, Nat.add_zero]
        rintro ⟨_, w | ⟨p, w1, w2, w3⟩⟩
        · omega
        · have := hi p (first + d) (by omega) (by omega) (by omega)
          omega
      · rw [mq_un y, h2 r hr t ht']
        congr 1
        apply mp_i_iff
        constructor
        · rintro ⟨w, w1 | ⟨p, w1, w2, w3⟩⟩
          · exact ⟨w, Or.inl w1⟩
          · exact ⟨w, Or.inr ⟨p, w1, by omega, w3⟩⟩
        · rintro ⟨w, w1 | ⟨p, w1, w2, w3⟩⟩
          · exact ⟨w, Or.inl w1⟩
          · by_cases q : p = first + d
            · subst q
              exact absurd (by rw [w, w3]) y
            · exact ⟨w, Or.inr ⟨p, w1, by omega, w3⟩⟩
theorem mx_es_a {post : SX → Prop} (hX : mg_BX wd hd N bd nr bn) {C : Nat} (hC : C < 12) (ht : mp_s (fun i => xs (first + i)) (last - first) < 13) (hQ : mu_Q G sz om last gs od) (hs : ∀ g, g < G → 1 ≤ sz g) (hl : first ≤ last) (hi : ∀ p q, p < last → q < last → om p = om q → p = q) (hx : ∀ p, first ≤ p → p < last → ch p = nI (xs p) ∧ xs p ≤ 12) {hh : Nat → Nat} (hH : mx_lr 312 hst hh)
    (h : ∀ hst hh', mx_lr 312 hst hh' → mu_A sz om xs C first last (mp_s (fun i => xs (first + i)) (last - first)) last hh hh' → post (nI wd, nI hd, nI N, bd, ph, M, O, F, B, gc, nI C, tw, fw, nr, bn, cg, gs, gp, gk, gw, od, ch, hst, jo)) : ∀ (k d f : Nat), first + d + k = last → k < f → wX_enterSolution_5 post (nI first) (nI last) (nI wd) (nI hd) (nI N) bd ph M O F B gc (nI C) tw fw nr bn cg gs gp gk gw od ch hst jo f (nI (mp_s (fun i => xs (first + i)) d)) (nI (first + d))
  | 0, d, f, hk, hf => by
    obtain ⟨m, rfl⟩ : ∃ m, f = m + 1 := ⟨f - 1, by omega⟩
    have l12 := hQ.2.1
    have g12 := hQ.1
    have ed : d = last - first := by omega
    rw [← ed] at ht h
    generalize mp_s (fun i => xs (first + i)) d = tot at *
    have ix : nI C * 13 + nI tot = nI (C * 13 + tot) := by rw [show (13 : Int32) = nI 13 from rfl, pk_mul, nI_add]
    have vi : vp_in (nI C * 13 + nI tot) 312 := by rw [ix]; exact vp_in_nI (by omega) (by omega)
    refine br_t (by rw [show first + d = last by omega]; exact nI_le (Nat.le_refl _) (by omega)) (And.intro vi (mx_wo (r := C) hX hQ hs hl hx (fun p hp1 hp2 => ?_) (And.intro vi (nm_r (e' := vp_updL hst (C * 13 + tot) (lN (hh (C * 13 + tot) + mu_pr (mp_wt sz C) om xs first (last - first)))) ?_ ⟨last + 1, mx_es_b hX hC ht hQ hs hl hi hx (hh := hh) h (last - first) 0 (last + 1) _ _ (by omega) (by omega) (mx_lr_u hH) ?_⟩))))
    · constructor
      · intro y
        have := nI_pos' (n := p) (by omega)
        rw [y] at this; exact absurd this (by decide)
      · intro y; omega
    · rw [ix, nI_clamp (by omega), hH _ (by omega), lN_add]
    · intro r hr t ht'
      by_cases y : r * 13 + t = C * 13 + tot
      · have y2 := (mu_ix ht' ht).mp y
        rw [y, mq_us, y2.1, y2.2, mp_i_t (P := tot = tot ∧ mu_R C om first (first + 0) C) ⟨rfl, Or.inl rfl⟩]
      · rw [mq_un y, mp_i_f, Nat.add_zero]
        rintro ⟨w, w1 | ⟨p, w1, w2, _⟩⟩
        · exact y (by rw [w, w1])
        · omega
  | k + 1, d, f, hk, hf => by
    obtain ⟨m, rfl⟩ : ∃ m, f = m + 1 := ⟨f - 1, by omega⟩
    have l12 := hQ.2.1
    refine br_f (nI_ge (by omega) (by omega)) (And.intro (vp_in_nI (by omega) (by omega)) (nm_r (e' := nI (mp_s (fun i => xs (first + i)) (d + 1))) ?_ (nm_r (nI_1 _) (mx_es_a hX hC ht hQ hs hl hi hx hH h k (d + 1) m (by omega) (by omega)))))
    rw [nI_clamp (by omega), (hx (first + d) (by omega) (by omega)).1, nI_add]
    rfl
theorem mx_es {post : SX → Prop} (hX : mg_BX wd hd N bd nr bn) {C : Nat} (hC : C < 12) (ht : mp_s (fun i => xs (first + i)) (last - first) < 13) (hQ : mu_Q G sz om last gs od) (hs : ∀ g, g < G → 1 ≤ sz g) (hl : first ≤ last) (hi : ∀ p q, p < last → q < last → om p = om q → p = q) (hx : ∀ p, first ≤ p → p < last → ch p = nI (xs p) ∧ xs p ≤ 12) {hh : Nat → Nat} (hH : mx_lr 312 hst hh)
    (h : ∀ hst hh', mx_lr 312 hst hh' → mu_A sz om xs C first last (mp_s (fun i => xs (first + i)) (last - first)) last hh hh' → post (nI wd, nI hd, nI N, bd, ph, M, O, F, B, gc, nI C, tw, fw, nr, bn, cg, gs, gp, gk, gw, od, ch, hst, jo)) : wpX_enterSolution post (nI wd, nI hd, nI N, bd, ph, M, O, F, B, gc, nI C, tw, fw, nr, bn, cg, gs, gp, gk, gw, od, ch, hst, jo) (nI first) (nI last) :=
  ⟨last + 1, mx_es_a hX hC ht hQ hs hl hi hx hH h (last - first) 0 (last + 1) (by omega) (by omega)⟩
end
end
section
/-! ===== X: enumerate ===== -/
def mu_f (hh : Nat → Nat) (r : Nat) (Gf : Nat → Nat) : Nat := mp_s (fun t => hh (r * 13 + t) * Gf t) 13
/-- rows of the component grow by de, the others stay -/
def mu_S (C : Nat) (om : Nat → Nat) (first last : Nat) (hh hh' : Nat → Nat) (de : Nat → (Nat → Nat) → Nat) : Prop :=
  ∀ r, r < 24 → (mu_R C om first last r → ∀ Gf, mu_f hh' r Gf = mu_f hh r Gf + de r Gf) ∧ (¬ mu_R C om first last r → ∀ t, t < 13 → hh' (r * 13 + t) = hh (r * 13 + t))
theorem mu_S_0 {C first last : Nat} {om hh : Nat → Nat} : mu_S C om first last hh hh (fun _ _ => 0) := fun _ _ => ⟨fun _ _ => rfl, fun _ _ _ => rfl⟩
theorem mu_S_tr {C first last : Nat} {om hh hh1 hh2 : Nat → Nat} {d1 d2 de : Nat → (Nat → Nat) → Nat} (h1 : mu_S C om first last hh hh1 d1) (h2 : mu_S C om first last hh1 hh2 d2) (he : ∀ r Gf, de r Gf = d1 r Gf + d2 r Gf) : mu_S C om first last hh hh2 de := fun r hr =>
  ⟨fun w Gf => by rw [(h2 r hr).1 w Gf, (h1 r hr).1 w Gf, he, Nat.add_assoc], fun w t ht => by rw [(h2 r hr).2 w t ht, (h1 r hr).2 w t ht]⟩
theorem mu_S_A {sz om xs : Nat → Nat} {C first last tot : Nat} {hh hh' : Nat → Nat} (ht : tot < 13) (h : mu_A sz om xs C first last tot last hh hh') : mu_S C om first last hh hh' (fun r Gf => mu_pr (mp_wt sz r) om xs first (last - first) * Gf tot) := fun r hr => by
  refine ⟨fun w Gf => ?_, fun w t ht' => ?_⟩
  · have e : mu_f hh' r Gf = mp_s (fun t => hh (r * 13 + t) * Gf t + mp_i (t = tot ∧ mu_R C om first last r) (mu_pr (mp_wt sz r) om xs first (last - first)) * Gf t) 13 := mp_s_eq fun t ht' => by rw [h r hr t ht', Nat.add_mul]
    rw [e, mp_s_add, mp_s_one (f := fun t => mp_i (t = tot ∧ mu_R C om first last r) (mu_pr (mp_wt sz r) om xs first (last - first)) * Gf t) ht (fun i _ hi => by rw [mp_i_f fun z => hi z.1, Nat.zero_mul]), mp_i_t (P := tot = tot ∧ mu_R C om first last r) ⟨rfl, w⟩]
    rfl
  · rw [h r hr t ht', mp_i_f fun z => w z.2, Nat.add_zero]
/-- steps -/
def mu_kk (sz om : Nat → Nat) : Nat → Nat → Nat
  | 0, _ => 0
  | d + 1, p => (sz (om p) + 1) * (mu_kk sz om d (p + 1) + 1) + 1
theorem mu_kk_le {sz om : Nat → Nat} : ∀ d p, (∀ q, p ≤ q → q < p + d → 1 ≤ sz (om q)) → mu_kk sz om d p + 3 ≤ 3 * 2 ^ mp_s (fun i => sz (om (p + i))) d
  | 0, p, _ => by show 0 + 3 ≤ 3 * 2 ^ 0; decide
  | d + 1, p, h => by
    have ih := mu_kk_le d (p + 1) (fun q h1 h2 => h q (by omega) (by omega))
    have h1 := h p (by omega) (by omega)
    rw [mp_s_hd]
    have e : mp_s (fun i => sz (om (p + (i + 1)))) d = mp_s (fun i => sz (om (p + 1 + i))) d := mp_s_eq fun i _ => by rw [show p + (i + 1) = p + 1 + i by omega]
    rw [e, Nat.pow_add]
    show (sz (om (p + 0)) + 1) * (mu_kk sz om d (p + 1) + 1) + 1 + 3 ≤ 3 * (2 ^ sz (om (p + 0)) * 2 ^ mp_s (fun i => sz (om (p + 1 + i))) d)
    rw [Nat.add_zero]
    generalize sz (om p) = s at *
    generalize 2 ^ mp_s (fun i => sz (om (p + 1 + i))) d = T at *
    generalize mu_kk sz om d (p + 1) = K at *
    have a : s + 1 ≤ 2 ^ s := Nat.lt_two_pow_self
    have b : 2 ≤ 2 ^ s := Nat.le_trans (by decide) (Nat.pow_le_pow_right (by decide : 0 < 2) h1)
    have c : (s + 1) * (K + 1) ≤ 2 ^ s * (K + 1) := Nat.mul_le_mul_right _ a
    have d1 : 2 ^ s * (K + 3) ≤ 2 ^ s * (3 * T) := Nat.mul_le_mul_left _ ih
    have e1 : 2 ^ s * (K + 3) = 2 ^ s * (K + 1) + 2 ^ s * 2 := by rw [← Nat.mul_add]
    have e2 : 2 ^ s * (3 * T) = 3 * (2 ^ s * T) := Nat.mul_left_comm _ _ _
    omega
theorem mu_pr_eq {w : Nat → Nat → Nat} {om xs xs' : Nat → Nat} {first : Nat} : ∀ d, (∀ i, i < d → xs (first + i) = xs' (first + i)) → mu_pr w om xs first d = mu_pr w om xs' first d
  | 0, _ => rfl
  | d + 1, h => by
    show mu_pr w om xs first d * w _ (xs (first + d)) = mu_pr w om xs' first d * w _ (xs' (first + d))
    rw [mu_pr_eq d (fun i hi => h i (by omega)), h d (by omega)]
theorem mu_v_eq {gk : Nat → Int64} {om xs xs' : Nat → Nat} {first d c : Nat} (h : ∀ i, i < d → xs (first + i) = xs' (first + i)) : mu_v gk om xs first d c = mu_v gk om xs' first d c := mp_s_eq fun i hi => by rw [h i hi]
theorem mu_v_64 {gk : Nat → Int64} {om xs : Nat → Nat} {first d : Nat} : mu_v gk om xs first d 64 = mp_s (fun i => xs (first + i)) d := mp_s_eq fun i _ => by rw [mu_k_64, Nat.mul_one]
/-- the term of value j at position p -/
noncomputable def mu_t (N : Nat) (num sz : Nat → Nat) (gk : Nat → Int64) (om xs : Nat → Nat) (first d p r : Nat) (Gf : Nat → Nat) (j : Nat) : Nat :=
  mp_i (mp_fit N num sz om (mu_k gk) d p (fun c => mu_v gk om xs first (p - first) c + j * mu_k gk (om p) c)) (mp_wt sz r (om p) j * mp_PE N num sz (mu_k gk) om (mp_wt sz r) Gf d (p + 1) (fun c => mu_v gk om xs first (p - first) c + j * mu_k gk (om p) c))
theorem mu_PE_t {N : Nat} {num sz : Nat → Nat} {gk : Nat → Int64} {om xs : Nat → Nat} {first d p r : Nat} {Gf : Nat → Nat} (h1 : 1 ≤ sz (om p)) (h : sz (om p) ≤ 12) : mp_PE N num sz (mu_k gk) om (mp_wt sz r) Gf (d + 1) p (mu_v gk om xs first (p - first)) = mp_s (mu_t N num sz gk om xs first d p r Gf) (sz (om p) + 1) := by
  obtain ⟨k, hk⟩ : ∃ k, 13 = (sz (om p) + 1) + k := ⟨12 - sz (om p), by omega⟩
  have e : mp_s (mu_t N num sz gk om xs first d p r Gf) (sz (om p) + 1 + k) = mp_s (mu_t N num sz gk om xs first d p r Gf) (sz (om p) + 1) := by
    rw [mp_s_app, mp_s_0 (f := fun i => mu_t N num sz gk om xs first d p r Gf (sz (om p) + 1 + i)) (fun i _ => ?_), Nat.add_zero]
    show mp_i _ (mp_wt sz r (om p) (sz (om p) + 1 + i) * _) = 0
    rw [mp_wt_0 h1 (by omega), Nat.zero_mul, mp_i_0]
  rw [← hk] at e
  exact e
section
variable {wd hd N : Nat} {bd : Int64} {ph : Int32} {M O F B : Int64} {gc cc : Int32} {tw fw : Int64} {nr bn : Nat → Int64} {cg gs gp : Nat → Int32} {gk gw : Nat → Int64} {od ch : Nat → Int32} {hst jo : Nat → Int64}
variable {G first last : Nat} {sz om : Nat → Nat}
theorem mu_vj {gk : Nat → Int64} {om xs : Nat → Nat} {first p j : Nat} (h : first ≤ p) : mu_v gk om (mq_u xs p j) first (p + 1 - first) = (fun c => mu_v gk om xs first (p - first) c + j * mu_k gk (om p) c) := by
  funext c
  obtain ⟨d, rfl⟩ : ∃ d, p = first + d := ⟨p - first, by omega⟩
  rw [show first + d + 1 - first = d + 1 by omega, show first + d - first = d by omega]
  show mu_v gk om (mq_u xs (first + d) j) first d c + mq_u xs (first + d) j (first + d) * _ = _
  rw [mq_us, mu_v_eq (xs' := xs) (fun i hi => mq_un (by omega))]
theorem mu_prj {w : Nat → Nat → Nat} {om xs : Nat → Nat} {first p j : Nat} (h : first ≤ p) : mu_pr w om (mq_u xs p j) first (p + 1 - first) = mu_pr w om xs first (p - first) * w (om p) j := by
  obtain ⟨d, rfl⟩ : ∃ d, p = first + d := ⟨p - first, by omega⟩
  rw [show first + d + 1 - first = d + 1 by omega, show first + d - first = d by omega]
  show mu_pr w om (mq_u xs (first + d) j) first d * w _ (mq_u xs (first + d) j (first + d)) = _
  rw [mq_us, mu_pr_eq (xs' := xs) d (fun i hi => mq_un (by omega))]
theorem mx_en {post : SX → Prop} (hX : mg_BX wd hd N bd nr bn) {C : Nat} (hC : C < 12) (hQ : mu_Q G sz om last gs od) (hs : ∀ g, g < G → 1 ≤ sz g) (hi : ∀ p q, p < last → q < last → om p = om q → p = q) (hsum : mp_s (fun i => sz (om (first + i))) (last - first) ≤ 12) :
    ∀ (b d e p j n s : Nat) (xs : Nat → Nat) (ch : Nat → Int32) (hst : Nat → Int64) (hh : Nat → Nat), d * 14 + e < b → p + (d + 1) = last → first ≤ p → j + e = sz (om p) + 1 → 32769 ≤ n + s → s + (e * (mu_kk sz om d (p + 1) + 1) + 1) ≤ 32768 → (∀ q, first ≤ q → q < p → ch q = nI (xs q) ∧ xs q ≤ sz (om q)) → ch p = nI j + (-1) → mx_lr 312 hst hh →
      (∀ n' s' ch' hst' hh', s' ≤ s + (e * (mu_kk sz om d (p + 1) + 1) + 1) → 32769 ≤ n' + s' → (∀ q, q < p → ch' q = ch q) → mx_lr 312 hst' hh' → mu_S C om first last hh hh' (fun r Gf => mu_pr (mp_wt sz r) om xs first (p - first) * mp_s (fun i => mu_t N (mg_num wd N M) sz gk om xs first d p r Gf (j + i)) e) → wX_enumerate_12 post (nI first) (nI last) n' (nI p + (-1)) (nI s') (nI wd) (nI hd) (nI N) bd ph M O F B gc (nI C) tw fw nr bn cg gs gp gk gw od ch' hst' jo) →
      wX_enumerate_12 post (nI first) (nI last) n (nI p) (nI s) (nI wd) (nI hd) (nI N) bd ph M O F B gc (nI C) tw fw nr bn cg gs gp gk gw od ch hst jo := by
  have l12 := hQ.2.1
  have g12 := hQ.1
  intro b
  induction b with
  | zero => intro d e p j n s xs ch hst hh hb; omega
  | succ b ih =>
    intro d e p j n s xs ch hst hh hb hp hfp hj hn hk hx hc hH K
    obtain ⟨m, rfl⟩ : ∃ m, n = m + 1 := ⟨n - 1, by omega⟩
    obtain ⟨o1, o2⟩ := hQ.2.2.1 p (by omega)
    obtain ⟨q1, q2⟩ := hQ.2.2.2 _ o2
    have h1 := hs _ o2
    have ep : (nI p).toNatClampNeg = p := nI_clamp (by omega)
    have v : vp_in (nI p) 12 := vp_in_nI (by omega) (by omega)
    have eo : od (nI p).toNatClampNeg = nI (om p) := by rw [ep, o1]
    have vo : vp_in (od (nI p).toNatClampNeg) 12 := by rw [eo]; exact vp_in_nI (by omega) (by omega)
    have es : gs (od (nI p).toNatClampNeg).toNatClampNeg = nI (sz (om p)) := by rw [eo, nI_clamp (by omega), q1]
    have ec : ch (nI p).toNatClampNeg + 1 = nI j := by
      rw [ep, hc]
      have : (nI j + (-1)) + 1 = nI j := by grind
      exact this
    have eu : (upd ch p (nI j)) (nI p).toNatClampNeg = nI j := by rw [ep, pk_us]
    refine br_f (nI_ge (b := 32768) (by omega) (by omega)) (br_f (nI_nlt hfp (by omega)) (And.intro v (And.intro v (nm_r (e' := upd ch p (nI j)) (by rw [ec, ep]) (And.intro v (And.intro v (And.intro vo ?_)))))))
    rw [eu, es]
    match e, hb, hj, hk, K with
    | 0, hb, hj, hk, K =>
      refine br_f (nI_ge (by omega) (by omega)) (nm_e (nm_r (nI_1 s) (K m (s + 1) _ hst hh (by omega) (by omega) (fun q hq => pk_un (by omega)) hH ?_)))
      exact mu_S_0
    | e + 1, hb, hj, hk, K =>
      have hsp : (e + 1) * (mu_kk sz om d (p + 1) + 1) = e * (mu_kk sz om d (p + 1) + 1) + (mu_kk sz om d (p + 1) + 1) := Nat.succ_mul _ _
      have hx' : ∀ q, first ≤ q → q < p + 1 → upd ch p (nI j) q = nI (mq_u xs p j q) ∧ mq_u xs p j q ≤ sz (om q) := fun q a1 a2 => by
        by_cases z : q = p
        · rw [z, pk_us, mq_us]; exact ⟨rfl, by omega⟩
        · rw [pk_un z, mq_un z]; exact hx q a1 (by omega)
      have sum : ∀ r Gf, mp_s (fun i => mu_t N (mg_num wd N M) sz gk om xs first d p r Gf (j + i)) (e + 1) = mu_t N (mg_num wd N M) sz gk om xs first d p r Gf j + mp_s (fun i => mu_t N (mg_num wd N M) sz gk om xs first d p r Gf (j + 1 + i)) e := fun r Gf => by
        rw [mp_s_hd]
        congr 1
        exact mp_s_eq fun i _ => by rw [show j + (i + 1) = j + 1 + i by omega]
      -- the next value at this position
      have nx : ∀ (n1 s1 : Nat) (ch1 : Nat → Int32) (hst1 : Nat → Int64) (hh1 : Nat → Nat), 32769 ≤ n1 + s1 → s1 ≤ s + (mu_kk sz om d (p + 1) + 1) → (∀ q, q < p → ch1 q = ch q) → ch1 p = nI j → mx_lr 312 hst1 hh1 → mu_S C om first last hh hh1 (fun r Gf => mu_pr (mp_wt sz r) om xs first (p - first) * mu_t N (mg_num wd N M) sz gk om xs first d p r Gf j) → wX_enumerate_12 post (nI first) (nI last) n1 (nI p) (nI s1) (nI wd) (nI hd) (nI N) bd ph M O F B gc (nI C) tw fw nr bn cg gs gp gk gw od ch1 hst1 jo := fun n1 s1 ch1 hst1 hh1 a1 a2 a3 a4 a5 a6 => by
        refine ih d e p (j + 1) n1 s1 xs ch1 hst1 hh1 (by omega) hp hfp (by omega) a1 (by omega) (fun q b1 b2 => by rw [a3 q b2]; exact hx q b1 b2) (by rw [a4, pk_m1]) a5 (fun n' s' ch' hst' hh' c1 c2 c3 c4 c5 => K n' s' ch' hst' hh' (by omega) c2 (fun q hq => by rw [c3 q hq, a3 q hq]) c4 (mu_S_tr a6 c5 fun r Gf => ?_))
        rw [sum, Nat.mul_add]
      have ed : last - (p + 1) = d := by omega
      refine br_t (nI_le (by omega) (by omega)) (mx_fits (xs := mq_u xs p j) hX hQ hfp (by omega) (fun q a1 a2 => ?_) (fun y => br_f (by decide) ?_) (fun y => br_t rfl ?_))
      · obtain ⟨b1, b2⟩ := hx' q a1 (by omega)
        have := (hQ.2.2.2 _ (hQ.2.2.1 q (by omega)).2).2
        exact ⟨b1, by omega⟩
      · rw [mu_vj hfp, ed] at y
        by_cases z : p + 1 = last
        · have d0 : d = 0 := by omega
          subst d0
          refine br_t (by rw [nI_1, z]) ?_
          have bx : mp_s (fun i => mq_u xs p j (first + i)) (last - first) < 13 := by
            have : mp_s (fun i => mq_u xs p j (first + i)) (last - first) ≤ mp_s (fun i => sz (om (first + i))) (last - first) := mp_s_le fun i hi' => (hx' (first + i) (by omega) (by omega)).2
            omega
          refine mx_es (xs := mq_u xs p j) hX hC bx hQ hs (by omega) hi (fun q a1 a2 => ?_) hH (fun hst1 hh1 c1 c2 => nm_r (nI_1 s) (nx m (s + 1) (upd ch p (nI j)) hst1 hh1 (by omega) (by omega) (fun q hq => pk_un (by omega)) pk_us c1 (mu_S_tr mu_S_0 (mu_S_A bx c2) fun r Gf => ?_)))
          · obtain ⟨b1, b2⟩ := hx' q a1 (by omega)
            have := (hQ.2.2.2 _ (hQ.2.2.1 q (by omega)).2).2
            exact ⟨b1, by omega⟩
          · rw [Nat.zero_add]
            unfold mu_t
            rw [mp_i_t y, ← z, mu_prj hfp, Nat.mul_assoc]
            show _ * (_ * Gf (mu_v gk om xs first (p - first) 64 + j * mu_k gk (om p) 64)) = _
            rw [← mu_v_64 (gk := gk) (om := om), mu_vj hfp]
        · obtain ⟨d', rfl⟩ : ∃ d', d = d' + 1 := ⟨d - 1, by omega⟩
          obtain ⟨o3, o4⟩ := hQ.2.2.1 (p + 1) (by omega)
          obtain ⟨q3, q4⟩ := hQ.2.2.2 _ o4
          have h3 := hs _ o4
          have kks : mu_kk sz om (d' + 1) (p + 1) = (sz (om (p + 1)) + 1) * (mu_kk sz om d' (p + 1 + 1) + 1) + 1 := rfl
          refine br_f (fun w => z ((nI_eq (by omega) (by omega)).mp (by rw [← nI_1]; exact w))) (nm_r (nI_1 p) (And.intro (vp_in_nI (by omega) (by omega)) (nm_r (e' := upd (upd ch p (nI j)) (p + 1) (-1)) (by rw [nI_clamp (by omega)]) (nm_r (nI_1 s) ?_))))
          refine ih d' (sz (om (p + 1)) + 1) (p + 1) 0 m (s + 1) (mq_u xs p j) _ hst hh (by omega) (by omega) (by omega) (by omega) (by omega) (by omega) (fun q b1 b2 => by rw [pk_un (by omega)]; exact hx' q b1 b2) (by rw [pk_us, nI_0]; rfl) hH (fun n' s' ch' hst' hh' c1 c2 c3 c4 c5 => ?_)
          rw [pk_m1]
          refine nx n' s' ch' hst' hh' c2 (by omega) (fun q hq => by rw [c3 q (by omega), pk_un (by omega), pk_un (by omega)]) (by rw [c3 p (by omega), pk_un (by omega), pk_us]) c4 (mu_S_tr mu_S_0 c5 fun r Gf => ?_)
          have e0 : mp_s (fun i => mu_t N (mg_num wd N M) sz gk om (mq_u xs p j) first d' (p + 1) r Gf (0 + i)) (sz (om (p + 1)) + 1) = mp_s (mu_t N (mg_num wd N M) sz gk om (mq_u xs p j) first d' (p + 1) r Gf) (sz (om (p + 1)) + 1) := mp_s_eq fun i _ => by rw [Nat.zero_add]
          rw [Nat.zero_add, e0, ← mu_PE_t h3 q4, mu_prj hfp, mu_vj hfp, Nat.mul_assoc]
          unfold mu_t
          rw [mp_i_t y]
      · rw [mu_vj hfp, ed] at y
        refine nm_r (nI_1 s) (nx m (s + 1) (upd ch p (nI j)) hst hh (by omega) (by omega) (fun q hq => pk_un (by omega)) pk_us hH (mu_S_tr mu_S_0 mu_S_0 fun r Gf => ?_))
        unfold mu_t
        rw [mp_i_f y, Nat.mul_zero]
theorem mx_enum {post : SX → Prop} (hX : mg_BX wd hd N bd nr bn) {C : Nat} (hC : C < 12) (hQ : mu_Q G sz om last gs od) (hs : ∀ g, g < G → 1 ≤ sz g) (hi : ∀ p q, p < last → q < last → om p = om q → p = q) (hsum : mp_s (fun i => sz (om (first + i))) (last - first) ≤ 12) (hl : first < last) {hh : Nat → Nat} (hH : mx_lr 312 hst hh)
    (h : ∀ ch hst hh', mx_lr 312 hst hh' → mu_S C om first last hh hh' (fun r Gf => mp_PE N (mg_num wd N M) sz (mu_k gk) om (mp_wt sz r) Gf (last - first) first (fun _ => 0)) → post (nI wd, nI hd, nI N, bd, ph, M, O, F, B, gc, nI C, tw, fw, nr, bn, cg, gs, gp, gk, gw, od, ch, hst, jo)) : wpX_enumerate post (nI wd, nI hd, nI N, bd, ph, M, O, F, B, gc, nI C, tw, fw, nr, bn, cg, gs, gp, gk, gw, od, ch, hst, jo) (nI first) (nI last) := by
  have l12 := hQ.2.1
  have g12 := hQ.1
  obtain ⟨d, hd'⟩ : ∃ d, last = first + (d + 1) := ⟨last - first - 1, by omega⟩
  obtain ⟨o1, o2⟩ := hQ.2.2.1 first hl
  obtain ⟨q1, q2⟩ := hQ.2.2.2 _ o2
  have kb := mu_kk_le (sz := sz) (om := om) (last - first) first (fun q a1 a2 => hs _ (hQ.2.2.1 q (by omega)).2)
  have pb : 2 ^ mp_s (fun i => sz (om (first + i))) (last - first) ≤ 2 ^ 12 := Nat.pow_le_pow_right (by decide) hsum
  have ld : last - first = d + 1 := by omega
  have kks : mu_kk sz om (last - first) first = (sz (om first) + 1) * (mu_kk sz om d (first + 1) + 1) + 1 := by rw [ld]; rfl
  refine And.intro (vp_in_nI (by omega) (by omega)) (nm_r (e' := upd ch first (-1)) (by rw [nI_clamp (by omega)]) ⟨32769, ?_⟩)
  refine mx_en hX hC hQ hs hi hsum (d * 14 + (sz (om first) + 1) + 1) d (sz (om first) + 1) first 0 32769 0 (fun _ => 0) (upd ch first (-1)) hst hh (by omega) (by omega) (Nat.le_refl _) (by omega) (by omega) (by omega) (fun q a1 a2 => by omega) (by rw [pk_us]; rfl) hH (fun n' s' ch' hst' hh' c1 c2 c3 c4 c5 => ?_)
  obtain ⟨m, rfl⟩ : ∃ m, n' = m + 1 := ⟨n' - 1, by omega⟩
  have fin : post (nI wd, nI hd, nI N, bd, ph, M, O, F, B, gc, nI C, tw, fw, nr, bn, cg, gs, gp, gk, gw, od, ch', hst', jo) := h ch' hst' hh' c4 (mu_S_tr mu_S_0 c5 fun r Gf => by
    have e0 : mp_s (fun i => mu_t N (mg_num wd N M) sz gk om (fun _ => 0) first d first r Gf (0 + i)) (sz (om first) + 1) = mp_s (mu_t N (mg_num wd N M) sz gk om (fun _ => 0) first d first r Gf) (sz (om first) + 1) := mp_s_eq fun i _ => by rw [Nat.zero_add]
    have v0 : mu_v gk om (fun _ => 0) first (first - first) = (fun _ => 0) := by
      funext c
      rw [Nat.sub_self]; rfl
    rw [Nat.zero_add, e0, ← mu_PE_t (hs _ o2) q2, v0, Nat.sub_self, ld]
    show _ = 1 * _
    rw [Nat.one_mul])
  refine br_c (fun _ => fin) (fun _ => br_t ?_ fin)
  rw [Int32.lt_iff_toInt_lt]
  have e1 : nI first + (-1) = nI first - 1 := by grind
  rw [e1, mi_r (by omega), nI_toInt (by omega)]
  omega
end
end
section
/-! ===== X: solveComponents ===== -/
def mz_B (C P : Nat) (om ka b : Nat → Nat) : Prop := b 0 = 0 ∧ b C = P ∧ (∀ i, i < C → b i < b (i + 1) ∧ b (i + 1) ≤ P) ∧ (∀ i, i < C → ∀ p, b i ≤ p → p < b (i + 1) → ka (om p) = i)
theorem mz_B_le {C P : Nat} {om ka b : Nat → Nat} (h : mz_B C P om ka b) : C ≤ P := by
  have : ∀ i, i ≤ C → i ≤ b i := by
    intro i
    induction i with
    | zero => intro _; omega
    | succ i ih => intro hi; have := ih (by omega); have := (h.2.2.1 i (by omega)).1; omega
  have := this C (Nat.le_refl _)
  rw [h.2.1] at this; exact this
def mz_D (G C P : Nat) (om b : Nat → Nat) (gk : Nat → Int64) : Prop :=
  (∀ i, i < C → ∀ q, b i ≤ q → q < b (i + 1) → ∀ q', b (i + 1) ≤ q' → q' < P → ∀ c, mb_b (gk (om q)) c = true → mb_b (gk (om q')) c = false)
  ∧ (∀ q, q < P → ∀ x, x < G → (∀ p, p < P → om p ≠ x) → ∀ c, mb_b (gk (om q)) c = true → mb_b (gk x) c = false)
def mz_H (N : Nat) (num sz : Nat → Nat) (gk : Nat → Int64) (C P : Nat) (om b hh : Nat → Nat) : Prop :=
  (∀ i, i < C → ∀ r, (r = i ∨ ∃ q, b i ≤ q ∧ q < b (i + 1) ∧ r = 12 + om q) → ∀ Gf, mu_f hh r Gf = mp_PE N num sz (mu_k gk) om (mp_wt sz r) Gf (b (i + 1) - b i) (b i) (fun _ => 0))
  ∧ (∀ r, r < 24 → (∀ i, i < C → r ≠ i) → (∀ q, q < P → r ≠ 12 + om q) → ∀ t, t < 13 → hh (r * 13 + t) = 0)
def mz_I (N G : Nat) (num sz : Nat → Nat) (gk : Nat → Int64) (C P : Nat) (om ka b hh : Nat → Nat) (gp od : Nat → Int32) : Prop :=
  mq_P G C om ka P gp od ∧ mz_B C P om ka b ∧ mz_D G C P om b gk ∧ mz_H N num sz gk C P om b hh
/-- a component more -/
theorem mz_step {N G : Nat} (hN : N ≤ 64) {num sz : Nat → Nat} {gk : Nat → Int64} {C P l : Nat} {om ka b hh om' ka' hh' : Nat → Nat} {gp od gp' od' : Nat → Int32} {S0 R : Int64} (hG : G ≤ 12) (hC : C < 12) (I : mz_I N G num sz gk C P om ka b hh gp od) (W : mq_W G C P om ka gk S0 R l om' ka' gp' od') (hc : ∀ g, g < G → gp' g = -1 → gk g &&& R = 0) (hl : P < l)
    (hS : mu_S C om' P l hh hh' (fun r Gf => mp_PE N num sz (mu_k gk) om' (mp_wt sz r) Gf (l - P) P (fun _ => 0))) : mz_I N G num sz gk (C + 1) l om' ka' (mq_u b (C + 1) l) hh' gp' od' := by
  obtain ⟨⟨p1, p2, p3⟩, ⟨b0, bC, bm, bk⟩, ⟨d1, d2⟩, h1, h0⟩ := I
  obtain ⟨⟨w1, w2, w3⟩, wl, wo, wk, wr⟩ := W
  have ob : ∀ p, p < P → om' p = om p := fun p hp => (wo p hp).1
  have nb : ∀ q, P ≤ q → q < l → ∀ p, p < P → om p ≠ om' q := fun q a1 a2 p hp e => by
    have := w2 p q (by omega) a2 (by rw [ob p hp]; exact e)
    omega
  have ub : ∀ i, i ≤ C → mq_u b (C + 1) l i = b i := fun i hi => mq_un (by omega)
  have us : ∀ i, i < C → mq_u b (C + 1) l (i + 1) = b (i + 1) := fun i hi => mq_un (by omega)
  refine ⟨⟨w1, w2, fun g hg => ?_⟩, ⟨?_, mq_us, fun i hi => ?_, fun i hi p a1 a2 => ?_⟩, ⟨fun i hi q a1 a2 q' a3 a4 c hc1 => ?_, fun q hq x hx hx2 c hc1 => ?_⟩, fun i hi r hr Gf => ?_, fun r hr e1 e2 t ht => ?_⟩
  · rcases w3 g hg with ⟨q1, q2, q3⟩ | q
    · exact Or.inl ⟨q1, q2, by omega⟩
    · exact Or.inr q
  · rw [ub 0 (by omega)]; exact b0
  · by_cases z : i = C
    · rw [z, mq_us, ub C (Nat.le_refl _), bC]; exact ⟨hl, Nat.le_refl _⟩
    · rw [ub i (by omega), us i (by omega)]
      have := bm i (by omega)
      omega
  · by_cases z : i = C
    · subst z
      rw [ub i (Nat.le_refl _), bC] at a1
      rw [mq_us] at a2
      exact wk p a1 a2
    · rw [ub i (by omega)] at a1
      rw [us i (by omega)] at a2
      have := bm i (by omega)
      rw [(wo p (by omega)).2]
      exact bk i (by omega) p a1 a2
  · by_cases z : i = C
    · subst z
      rw [mq_us] at a3; omega
    · rw [ub i (by omega)] at a1
      rw [us i (by omega)] at a2 a3
      have bi := bm i (by omega)
      rw [ob q (by omega)] at hc1
      rcases Nat.lt_or_ge q' P with y | y
      · rw [ob q' y]
        exact d1 i (by omega) q a1 a2 q' a3 y c hc1
      · exact d2 q (by omega) (om' q') (w1 q' a4).2 (nb q' y a4) c hc1
  · rcases Nat.lt_or_ge q P with y | y
    · rw [ob q y] at hc1
      exact d2 q y x hx (fun p hp e => hx2 p (by omega) (by rw [ob p hp]; exact e)) c hc1
    · rcases w3 x hx with ⟨⟨p, q1, q2⟩, _⟩ | ⟨_, q3⟩
      · exact absurd q2 (hx2 p q1)
      · have z := hc x hx q3
        have rc : mb_b R c = true := (wr c).mpr (Or.inr ⟨q, y, hq, hc1⟩)
        have := mb_and (gk x) R c
        rw [z, mb_0, rc, Bool.and_true] at this
        exact this.symm
  · by_cases z : i = C
    · subst z
      rw [ub i (Nat.le_refl _), bC, mq_us] at hr ⊢
      have rr : mu_R i om' P l r := hr
      have r24 : r < 24 := by
        rcases hr with e | ⟨q, a1, a2, e⟩
        · omega
        · have := (w1 q a2).2; omega
      rw [(hS r r24).1 rr Gf]
      have zr : mu_f hh r Gf = 0 := mp_s_0 fun t ht => by
        rw [h0 r r24 (fun j hj => ?_) (fun q hq => ?_) t ht, Nat.zero_mul]
        · rcases hr with e | ⟨q, a1, a2, e⟩ <;> omega
        · rcases hr with e | ⟨q', a1, a2, e⟩
          · omega
          · have := nb q' a1 a2 q hq
            omega
      rw [zr, Nat.zero_add]
    · rw [ub i (by omega), us i (by omega)] at hr ⊢
      have bi := bm i (by omega)
      have hr' : r = i ∨ ∃ q, b i ≤ q ∧ q < b (i + 1) ∧ r = 12 + om q := by
        rcases hr with e | ⟨q, a1, a2, e⟩
        · exact Or.inl e
        · exact Or.inr ⟨q, a1, a2, by rw [← ob q (by omega)]; exact e⟩
      have r24 : r < 24 := by
        rcases hr with e | ⟨q, a1, a2, e⟩
        · omega
        · have := (w1 q (by omega)).2; omega
      have nr : ¬ mu_R C om' P l r := by
        rintro (e | ⟨q', a3, a4, e⟩)
        · rcases hr' with e' | ⟨q, a1, a2, e'⟩ <;> omega
        · rcases hr' with e' | ⟨q, a1, a2, e'⟩
          · omega
          · have := nb q' a3 a4 q (by omega)
            omega
      have e : mu_f hh' r Gf = mu_f hh r Gf := mp_s_eq fun t ht => by rw [(hS r r24).2 nr t ht]
      rw [e, h1 i (by omega) r hr' Gf]
      exact mp_PE_congr hN _ _ _ _ (fun q a1 a2 => ⟨(ob q (by omega)).symm, fun _ _ => rfl⟩) (fun _ _ _ => rfl) (fun _ => rfl)
  · have nr : ¬ mu_R C om' P l r := by
      rintro (e | ⟨q', a3, a4, e⟩)
      · exact e1 C (by omega) e
      · exact e2 q' a4 e
    rw [(hS r hr).2 nr t ht]
    exact h0 r hr (fun i hi => e1 i (by omega)) (fun q hq => by rw [← ob q hq]; exact e2 q (by omega)) t ht
section
variable {wd hd N : Nat} {bd : Int64} {ph : Int32} {M O F B : Int64} {gc cc : Int32} {tw fw : Int64} {nr bn : Nat → Int64} {cg gs gp : Nat → Int32} {gk gw : Nat → Int64} {od ch : Nat → Int32} {hst jo : Nat → Int64}
variable {G : Nat} {sz : Nat → Nat}
theorem mx_so_l {post : SX → Prop} (hX : mg_BX wd hd N bd nr bn) (hG : G ≤ 12) (hs : ∀ g, g < G → gs g = nI (sz g) ∧ 1 ≤ sz g) (hsum : mp_s sz G ≤ 12) (hk : ∀ g, g < G → ∃ c, mb_b (gk g) c = true)
    (h : ∀ C P om ka b hh gp od ch hst, mx_lr 312 hst hh → mz_I N G (mg_num wd N M) sz gk C P om ka b hh gp od → (∀ g, g < G → ∃ p, p < P ∧ om p = g) → post (nI wd, nI hd, nI N, bd, ph, M, O, F, B, nI G, nI C, tw, fw, nr, bn, cg, gs, gp, gk, gw, od, ch, hst, jo)) :
    ∀ (d g f C P : Nat) (om ka b hh : Nat → Nat) (gp od ch : Nat → Int32) (hst : Nat → Int64), g + d = G → d < f → mx_lr 312 hst hh → mz_I N G (mg_num wd N M) sz gk C P om ka b hh gp od → (∀ x, x < g → ∃ p, p < P ∧ om p = x) → wX_solveComponents_9 post f (nI P) (nI g) (nI wd) (nI hd) (nI N) bd ph M O F B (nI G) (nI C) tw fw nr bn cg gs gp gk gw od ch hst jo
  | 0, g, f, C, P, om, ka, b, hh, gp, od, ch, hst, hg, hf, hH, I, ha => by
    obtain ⟨m, rfl⟩ : ∃ m, f = m + 1 := ⟨f - 1, by omega⟩
    have : g = G := by omega
    subst this
    exact br_t (nI_le (Nat.le_refl _) (by omega)) (h C P om ka b hh gp od ch hst hH I ha)
  | d + 1, g, f, C, P, om, ka, b, hh, gp, od, ch, hst, hg, hf, hH, I, ha => by
    obtain ⟨m, rfl⟩ : ∃ m, f = m + 1 := ⟨f - 1, by omega⟩
    have e : (nI g).toNatClampNeg = g := nI_clamp (by omega)
    have v : vp_in (nI g) 12 := vp_in_nI (by omega) (by omega)
    have hN := mg_N64 hX.1
    have cp := mz_B_le I.2.1
    refine br_f (nI_ge (by omega) (by omega)) (And.intro v (br_c (fun z => And.intro v ?_) (fun z => ?_)))
    · rw [e] at z ⊢
      rcases I.1.2.2 g (by omega) with ⟨_, q1, q2⟩ | ⟨q1, q2⟩
      · rw [q1] at z
        have := mq_le (fun p hp => (I.1.1 p hp).2) I.1.2.1
        exact absurd z (nI_pos (by omega))
      · have PG : P < G := mq_lt (fun p hp => (I.1.1 p hp).2) I.1.2.1 (show g < G by omega) q1
        refine mx_gather hG (by omega) I.1 (fun R l om' ka' gp' od' W hc => ?_)
        have lG := mq_le (fun p hp => (W.1.1 p hp).2) W.1.2.1
        -- the group itself is gathered
        have ga : ∃ p, p < l ∧ om' p = g := by
          rcases W.1.2.2 g (by omega) with ⟨w, _⟩ | ⟨_, w⟩
          · exact w
          · obtain ⟨c, hc1⟩ := hk g (by omega)
            have y := hc g (by omega) w
            have rc : mb_b R c = true := (W.2.2.2.2 c).mpr (Or.inl hc1)
            have := mb_and (gk g) R c
            rw [y, mb_0, rc, hc1] at this
            exact absurd this (by decide)
        obtain ⟨pg, pg1, pg2⟩ := ga
        have Pl : P < l := by
          rcases Nat.lt_or_ge pg P with y | y
          · exact absurd (by rw [← (W.2.2.1 pg y).1]; exact pg2) (q1 pg y)
          · omega
        have sb : ∀ g, g < G → sz g ≤ 12 := fun g hg => Nat.le_trans (mp_s_mem (f := sz) hg) hsum
        have su : mp_s (fun i => sz (om' (P + i))) (l - P) ≤ 12 := by
          have a := mp_s_inj om' G l sz (fun p hp => (W.1.1 p hp).2) W.1.2.1
          have b := mp_s_app (fun p => sz (om' p)) P (l - P)
          rw [show P + (l - P) = l by omega] at b
          omega
        refine mx_enum (G := G) (sz := sz) (om := om') (first := P) (last := l) hX (show C < 12 by omega) ⟨hG, by omega, W.1.1, fun g hg => ⟨(hs g hg).1, sb g hg⟩⟩ (fun g hg => (hs g hg).2) W.1.2.1 su Pl hH (fun ch' hst' hh' hH' hS => nm_r (nI_1 C) (nm_r (nI_1 g) ?_))
        refine mx_so_l hX hG hs hsum hk h d (g + 1) m (C + 1) l om' ka' (mq_u b (C + 1) l) hh' gp' od' ch' hst' (by omega) (by omega) hH' (mz_step hN hG (by omega) I W hc Pl hS) (fun x hx => ?_)
        by_cases y : x = g
        · exact ⟨pg, pg1, by rw [y]; exact pg2⟩
        · obtain ⟨p, a1, a2⟩ := ha x (by omega)
          exact ⟨p, by omega, by rw [(W.2.2.1 p a1).1]; exact a2⟩
    · rw [e] at z
      refine nm_r (nI_1 g) (mx_so_l hX hG hs hsum hk h d (g + 1) m C P om ka b hh gp od ch hst (by omega) (by omega) hH I (fun x hx => ?_))
      by_cases y : x = g
      · rcases I.1.2.2 g (by omega) with ⟨w, _⟩ | ⟨_, w⟩
        · rw [y]; exact w
        · rw [w] at z; exact absurd (by decide) z
      · exact ha x (by omega)
theorem mx_solve {post : SX → Prop} (hX : mg_BX wd hd N bd nr bn) (hG : G ≤ 12) (hs : ∀ g, g < G → gs g = nI (sz g) ∧ 1 ≤ sz g ∧ gp g = -1) (hsum : mp_s sz G ≤ 12) (hk : ∀ g, g < G → ∃ c, mb_b (gk g) c = true) (h0 : ∀ i, i < 312 → hst i = 0)
    (h : ∀ C P om ka b hh gp od ch hst, mx_lr 312 hst hh → mz_I N G (mg_num wd N M) sz gk C P om ka b hh gp od → (∀ g, g < G → ∃ p, p < P ∧ om p = g) → post (nI wd, nI hd, nI N, bd, ph, M, O, F, B, nI G, nI C, tw, fw, nr, bn, cg, gs, gp, gk, gw, od, ch, hst, jo)) : wpX_solveComponents post (nI wd, nI hd, nI N, bd, ph, M, O, F, B, nI G, cc, tw, fw, nr, bn, cg, gs, gp, gk, gw, od, ch, hst, jo) :=
  ⟨G + 1, mx_so_l hX hG (fun g hg => ⟨(hs g hg).1, (hs g hg).2.1⟩) hsum hk h G 0 (G + 1) 0 0 (fun _ => 0) (fun _ => 0) (fun _ => 0) (fun _ => 0) gp od ch hst (by omega) (by omega) (fun i hi => h0 i hi)
    ⟨⟨fun p hp => absurd hp (Nat.not_lt_zero _), fun p q hp => absurd hp (Nat.not_lt_zero _), fun g hg => Or.inr ⟨fun p hp => absurd hp (Nat.not_lt_zero _), (hs g hg).2.2⟩⟩,
     ⟨rfl, rfl, fun i hi => absurd hi (Nat.not_lt_zero _), fun i hi => absurd hi (Nat.not_lt_zero _)⟩, ⟨fun i hi => absurd hi (Nat.not_lt_zero _), fun q hq => absurd hq (Nat.not_lt_zero _)⟩, fun i hi => absurd hi (Nat.not_lt_zero _), fun _ _ _ _ _ _ => rfl⟩ (fun x hx => absurd hx (Nat.not_lt_zero _))⟩
end
end
section
/-! ===== the two counts are one ===== -/
theorem mb_c_ex {p : Nat → Bool} : ∀ {n : Nat}, 1 ≤ mb_c p n → ∃ i, i < n ∧ p i = true := by
  intro n h
  apply Classical.byContradiction
  intro z
  have : mb_c p n = 0 := mb_c_0 fun i hi => mb_f fun y => z ⟨i, hi, y⟩
  omega
def ml_cut (F : Nat → Nat) (t : Nat) : Nat := if t < 13 then F t else 0
theorem ml_cut_van (F : Nat → Nat) : ∀ t, 13 ≤ t → ml_cut F t = 0 := fun t ht => if_neg (by omega)
theorem ml_J_cut (x F : Nat → Nat) : mp_J x (ml_cut F) = mp_J x F := mp_s_eq fun t ht => by
  show x t * ml_cut F t = x t * F t
  unfold ml_cut
  rw [if_pos ht]
/-- what one edge cell adds: to the open cells beside it, and to the total at 64 -/
def ml_b (wd N : Nat) (O : Int64) (e c : Nat) : Bool := decide (c = 64) || (mb_b O c && mg_nb wd N c e)
theorem ml_fit {wd N : Nat} (hN : N ≤ 64) {M O B : Int64} {s : Nat} {F : Nat → Nat} (hn : mw_n wd N O B ≤ 12) : mp_F N (mb_b O) (mg_num wd N M) (ml_cut F) (fun c => 0 + mp_sv (fun e c => if ml_b wd N O e c then 1 else 0) (mw_g wd N O B) s c (mw_n wd N O B)) = mp_i (mw_fit wd N M O B s) (F (mw_sz wd N O B s)) := by
  have e64 : mb_c (fun i => s.testBit i && ml_b wd N O (mw_g wd N O B i) 64) (mw_n wd N O B) = mw_sz wd N O B s := mb_c_eq fun i _ => by
    unfold ml_b
    rw [decide_eq_true rfl, Bool.true_or, Bool.and_true]
  have l : mw_sz wd N O B s ≤ mw_n wd N O B := mb_c_le _ _
  show mp_i (∀ c, c < N → mb_b O c = true → 0 + mp_sv (fun e c => if ml_b wd N O e c then 1 else 0) (mw_g wd N O B) s c (mw_n wd N O B) = mg_num wd N M c) (ml_cut F (0 + mp_sv (fun e c => if ml_b wd N O e c then 1 else 0) (mw_g wd N O B) s 64 (mw_n wd N O B))) = _
  rw [Nat.zero_add (mp_sv (fun e c => if ml_b wd N O e c then 1 else 0) (mw_g wd N O B) s 64 (mw_n wd N O B)), mp_sv_c, e64]
  unfold ml_cut
  rw [if_pos (by omega)]
  apply mp_i_iff
  unfold mw_fit
  have ec : ∀ c, c < N → mb_b O c = true → 0 + mp_sv (fun e c => if ml_b wd N O e c then 1 else 0) (mw_g wd N O B) s c (mw_n wd N O B) = mb_c (fun i => s.testBit i && mg_nb wd N c (mw_g wd N O B i)) (mw_n wd N O B) := fun c hc ho => by
    rw [Nat.zero_add, mp_sv_c]
    exact mb_c_eq fun i _ => by
      unfold ml_b
      rw [decide_eq_false (by omega), ho, Bool.false_or, Bool.true_and]
  constructor
  · intro h c hc ho
    rw [← ec c hc ho]; exact h c hc ho
  · intro h c hc ho
    rw [ec c hc ho]; exact h c hc ho
theorem ml_T {wd N : Nat} (hN : N ≤ 64) {M O B : Int64} {F : Nat → Nat} (hn : mw_n wd N O B ≤ 12) : mp_s (fun s => mp_i (mw_fit wd N M O B s) (F (mw_sz wd N O B s))) (2 ^ mw_n wd N O B) = mp_SU (fun _ => 1) (fun e c => if ml_b wd N O e c then 1 else 0) (mw_g wd N O B) (mp_F N (mb_b O) (mg_num wd N M) (ml_cut F)) (mw_n wd N O B) (fun _ => 0) := by
  rw [← mp_sets]
  apply mp_s_eq
  intro s _
  rw [mp_ia_one _ (fun _ _ => rfl), Nat.one_mul, ml_fit hN hn]
theorem ml_H {wd N : Nat} (hN : N ≤ 64) {M O B : Int64} {F : Nat → Nat} {k : Nat} (hn : mw_n wd N O B ≤ 12) (hk : k < mw_n wd N O B) : mp_s (fun s => mp_i (mw_fit wd N M O B s) (if s.testBit k then F (mw_sz wd N O B s) else 0)) (2 ^ mw_n wd N O B) = mp_SU (fun e => if e = mw_g wd N O B k then 0 else 1) (fun e c => if ml_b wd N O e c then 1 else 0) (mw_g wd N O B) (mp_F N (mb_b O) (mg_num wd N M) (ml_cut F)) (mw_n wd N O B) (fun _ => 0) := by
  rw [← mp_sets]
  apply mp_s_eq
  intro s _
  rw [mp_ia_two (a := fun e => if e = mw_g wd N O B k then 0 else 1) (eg := mw_g wd N O B) (k := k) _ hk (if_pos rfl) (fun i hi ne => if_neg fun z => ne (mg_g_inj (show i < mb_c (mg_e wd N O B) N from hi) (show k < mb_c (mg_e wd N O B) N from hk) z)), ml_fit hN hn]
  cases s.testBit k
  · simp [mp_i_0]
  · simp
theorem ml_fl {wd N : Nat} {O B E bd : Int64} (hN : N ≤ 64) (hb : ∀ i, mb_b bd i = decide (i < N)) (hB : B = 0) (hE : ∀ c, mb_b E c = mg_e wd N O B c) : mb_pc (bd &&& ((O ||| E) ^^^ (-1))) = mw_r wd N O B := by
  have e : ∀ c, mb_b (bd &&& ((O ||| E) ^^^ (-1))) c = (mg_h N O B c && !(mg_e wd N O B c)) := fun c => by
    rw [mb_and, hb]
    rcases Nat.lt_or_ge c 64 with z | z
    · rw [mb_not _ z, mb_or, hE]
      unfold mg_h
      rw [hB, mb_0]
      cases decide (c < N) <;> cases mb_b O c <;> cases mg_e wd N O 0 c <;> rfl
    · rw [decide_eq_false (by omega)]
      unfold mg_h
      rw [decide_eq_false (by omega)]; rfl
  rw [mg_pcN hN (fun i h => by
    rw [e, Bool.and_eq_true] at h
    exact (mg_h_iff.mp h.1).1)]
  have s := mb_c_split (mg_h N O B) (mg_e wd N O B) N
  have a : mb_c (fun i => mg_h N O B i && mg_e wd N O B i) N = mw_n wd N O B := mb_c_eq fun i _ => by
    cases z : mg_e wd N O B i
    · rw [Bool.and_false]
    · rw [mw_eh z]; rfl
  have b : mb_c (mb_b (bd &&& ((O ||| E) ^^^ (-1)))) N = mb_c (fun i => mg_h N O B i && !(mg_e wd N O B i)) N := mb_c_eq fun i _ => e i
  unfold mw_r
  rw [b]; omega
/-- groups and components of the edge, as the walk leaves them, give Y's sums -/
def ml_G (wd N : Nat) (M O B : Int64) (G : Nat) (cg : Nat → Int32) (gk : Nat → Int64) (sz : Nat → Nat) (nr : Nat → Int64) : Prop :=
  (∀ c, c < N → mg_e wd N O B c = true → ∃ g, g < G ∧ cg c = nI g ∧ gk g = nr c &&& O) ∧ (∀ g, g < G → sz g = mk_K (mg_e wd N O B) cg N g ∧ 1 ≤ sz g) ∧ G ≤ 12
theorem ml_key {wd hd N : Nat} {bd : Int64} {nr bn : Nat → Int64} {M O B : Int64} {G : Nat} {cg : Nat → Int32} {gk : Nat → Int64} {sz : Nat → Nat} (hX : mg_BX wd hd N bd nr bn) (g1 : ml_G wd N M O B G cg gk sz nr) {g : Nat} (hg : g < G) : ∃ e, e < N ∧ mg_e wd N O B e = true ∧ cg e = nI g ∧ ∀ c, mb_b (gk g) c = (mg_nb wd N e c && mb_b O c) := by
  obtain ⟨a1, a2, a3⟩ := g1
  obtain ⟨b1, b2⟩ := a2 g hg
  rw [b1] at b2
  obtain ⟨e, he, h⟩ := mb_c_ex b2
  rw [Bool.and_eq_true, decide_eq_true_eq] at h
  obtain ⟨g', hg', q1, q2⟩ := a1 e he h.1
  have : g' = g := by
    rw [h.2] at q1
    exact ((nI_eq (by omega) (by omega)).mp q1).symm
  subst this
  exact ⟨e, he, h.1, h.2, fun c => by rw [q2, mb_and, hX.2.2.1 e he]⟩
theorem ml_sol {wd hd N : Nat} {bd : Int64} {nr bn : Nat → Int64} {M O B : Int64} {G : Nat} {cg : Nat → Int32} {gk : Nat → Int64} {sz : Nat → Nat} (hX : mg_BX wd hd N bd nr bn) (hB : B = 0) (hOM : ∀ i, ¬ (mb_b O i = true ∧ mb_b M i = true)) (g1 : ml_G wd N M O B G cg gk sz nr)
    {C P : Nat} {om ka b hh : Nat → Nat} {gp od : Nat → Int32} (I : mz_I N G (mg_num wd N M) sz gk C P om ka b hh gp od) (hA : ∀ g, g < G → ∃ p, p < P ∧ om p = g) : mp_Sol N (mb_b O) (mg_num wd N M) sz (mu_k gk) hh om b C P := by
  have hN := mg_N64 hX.1
  have cp := mz_B_le I.2.1
  have pg := mq_le (fun p hp => (I.1.1 p hp).2) I.1.2.1
  have g12 := g1.2.2
  obtain ⟨⟨p1, p2, p3⟩, ⟨b0, bC, bm, bk⟩, ⟨d1, d2⟩, h1, h0⟩ := I
  refine ⟨fun q q' a1 a2 => p2 q q' a1 a2, b0, bC, fun i hi => ⟨Nat.le_of_lt (bm i hi).1, (bm i hi).2⟩, fun i hi q a1 a2 q' a3 a4 c hc hk => ?_, fun q hq c hc hk => ?_, fun q hq => (g1.2.1 _ (p1 q hq).2).2, fun c hc ho hz => ?_, by omega, fun i hi r hr Gf => h1 i hi r hr Gf⟩
  · rw [mu_k_ne (by omega)] at hk
    rw [mu_k_c (by omega), d1 i hi q a1 a2 q' a3 a4 c hk]; rfl
  · rw [mu_k_ne (by omega)] at hk
    obtain ⟨e, _, _, _, q4⟩ := ml_key hX g1 (p1 q hq).2
    rw [q4, Bool.and_eq_true] at hk
    exact hk.2
  · apply mb_c_0
    intro x hx
    apply mb_f
    intro y
    rw [Bool.and_eq_true] at y
    have xo : mb_b O x = false := mb_f fun w => hOM x ⟨w, y.1⟩
    have xe : mg_e wd N O B x = true := by
      unfold mg_e
      rw [Bool.and_eq_true]
      exact ⟨mg_h_iff.mpr ⟨hx, xo, by rw [hB, mb_0]⟩, mg_t_iff.mpr ⟨c, hc, ho, by rw [mg_nb_symm]; exact y.2⟩⟩
    obtain ⟨g, hg, q1, q2⟩ := g1.1 x hx xe
    obtain ⟨p, hp, e⟩ := hA g hg
    have := hz p hp
    rw [mu_k_c (by omega), e, q2, mb_and, hX.2.2.1 x hx, y.2, ho] at this
    exact absurd this (by decide)
def ml_cg (cg : Nat → Int32) (c : Nat) : Nat := (cg c).toNatClampNeg
theorem ml_args {wd hd N : Nat} {bd : Int64} {nr bn : Nat → Int64} {M O B : Int64} {G : Nat} {cg : Nat → Int32} {gk : Nat → Int64} {sz : Nat → Nat} (hX : mg_BX wd hd N bd nr bn) (g1 : ml_G wd N M O B G cg gk sz nr)
    {P : Nat} {om : Nat → Nat} (hP : ∀ p, p < P → om p < G) (hA : ∀ g, g < G → ∃ p, p < P ∧ om p = g) :
    (∀ i, i < mw_n wd N O B → ∃ q, q < P ∧ om q = ml_cg cg (mw_g wd N O B i)) ∧ (∀ i, i < mw_n wd N O B → ∀ c, (fun e c => if ml_b wd N O e c then 1 else 0) (mw_g wd N O B i) c = mu_k gk (ml_cg cg (mw_g wd N O B i)) c)
    ∧ (∀ q, q < P → sz (om q) = mb_c (fun i => decide (ml_cg cg (mw_g wd N O B i) = om q)) (mw_n wd N O B)) := by
  have hN := mg_N64 hX.1
  have g12 := g1.2.2
  have ge : ∀ i, i < mw_n wd N O B → mw_g wd N O B i < N ∧ mg_e wd N O B (mw_g wd N O B i) = true := fun i hi => mg_g_in (show i < mb_c (mg_e wd N O B) N from hi)
  refine ⟨fun i hi => ?_, fun i hi c => ?_, fun q hq => ?_⟩
  · obtain ⟨g, hg, q1, q2⟩ := g1.1 _ (ge i hi).1 (ge i hi).2
    obtain ⟨p, hp, e⟩ := hA g hg
    refine ⟨p, hp, ?_⟩
    show om p = (cg _).toNatClampNeg
    rw [q1, nI_clamp (by omega), e]
  · obtain ⟨g, hg, q1, q2⟩ := g1.1 _ (ge i hi).1 (ge i hi).2
    show (if ml_b wd N O (mw_g wd N O B i) c then 1 else 0) = mu_k gk (cg (mw_g wd N O B i)).toNatClampNeg c
    rw [q1, nI_clamp (by omega)]
    unfold ml_b mu_k
    by_cases z : c = 64
    · rw [if_pos z, decide_eq_true z]; rfl
    · rw [if_neg z, decide_eq_false z, Bool.false_or, q2, mb_and, hX.2.2.1 _ (ge i hi).1, mg_nb_symm wd N c, Bool.and_comm]
  · rw [(g1.2.1 _ (hP q hq)).1]
    unfold mk_K
    rw [mg_g_cnt]
    refine mb_c_eq fun i hi => ?_
    obtain ⟨g, hg, q1, q2⟩ := g1.1 _ (ge i hi).1 (ge i hi).2
    show decide (cg (mw_g wd N O B i) = nI (om q)) = decide ((cg (mw_g wd N O B i)).toNatClampNeg = om q)
    have oq := hP q hq
    rw [q1, nI_clamp (by omega)]
    have : nI g = nI (om q) ↔ g = om q := nI_eq (by omega) (by omega)
    by_cases z : g = om q
    · rw [decide_eq_true z, decide_eq_true (this.mpr z)]
    · rw [decide_eq_false z, decide_eq_false (fun y => z (this.mp y))]
theorem ml_total {wd hd N : Nat} {bd : Int64} {nr bn : Nat → Int64} {M O B : Int64} {G : Nat} {cg : Nat → Int32} {gk : Nat → Int64} {sz : Nat → Nat} (hX : mg_BX wd hd N bd nr bn) (hB : B = 0) (hOM : ∀ i, ¬ (mb_b O i = true ∧ mb_b M i = true)) (g1 : ml_G wd N M O B G cg gk sz nr)
    {C P : Nat} {om ka b hh : Nat → Nat} {gp od : Nat → Int32} (I : mz_I N G (mg_num wd N M) sz gk C P om ka b hh gp od) (hA : ∀ g, g < G → ∃ p, p < P ∧ om p = g) (hn : mw_n wd N O B ≤ 12) (F : Nat → Nat) :
    mp_TK hh 12 C (ml_cut F) 0 = mp_s (fun s => mp_i (mw_fit wd N M O B s) (F (mw_sz wd N O B s))) (2 ^ mw_n wd N O B) := by
  have S := ml_sol hX hB hOM g1 I hA
  obtain ⟨r1, r2, r3⟩ := ml_args hX g1 (fun p hp => (I.1.1 p hp).2) hA
  rw [ml_T (mg_N64 hX.1) hn, mp_TK_no C _ S.2.2.2.2.2.2.2.2.1]
  exact (mp_total (cg := ml_cg cg) (mg_N64 hX.1) S (ml_cut F) hn r1 r2 r3).symm
theorem ml_blk {C P : Nat} {om ka b : Nat → Nat} (hB : mz_B C P om ka b) : ∀ p, p < P → ∃ i, i < C ∧ b i ≤ p ∧ p < b (i + 1) := by
  obtain ⟨b0, bC, bm, _⟩ := hB
  have : ∀ k, k ≤ C → ∀ p, p < b k → ∃ i, i < k ∧ b i ≤ p ∧ p < b (i + 1) := by
    intro k
    induction k with
    | zero => intro _ p hp; omega
    | succ k ih =>
      intro hk p hp
      by_cases z : p < b k
      · obtain ⟨i, a1, a2⟩ := ih (by omega) p z
        exact ⟨i, by omega, a2⟩
      · exact ⟨k, by omega, by omega, hp⟩
  intro p hp
  exact this C (Nat.le_refl _) p (by omega)
theorem ml_held {wd hd N : Nat} {bd : Int64} {nr bn : Nat → Int64} {M O B : Int64} {G : Nat} {cg : Nat → Int32} {gk : Nat → Int64} {sz : Nat → Nat} (hX : mg_BX wd hd N bd nr bn) (hB : B = 0) (hOM : ∀ i, ¬ (mb_b O i = true ∧ mb_b M i = true)) (g1 : ml_G wd N M O B G cg gk sz nr)
    {C P : Nat} {om ka b hh : Nat → Nat} {gp od : Nat → Int32} (I : mz_I N G (mg_num wd N M) sz gk C P om ka b hh gp od) (hA : ∀ g, g < G → ∃ p, p < P ∧ om p = g) (hn : mw_n wd N O B ≤ 12) (F : Nat → Nat) {c g : Nat} (hc : c < N) (he : mg_e wd N O B c = true) (hg : g < G) (hcg : cg c = nI g) :
    ka g < C ∧ mp_TK hh (ka g) C (mp_T hh (12 + g) (ml_cut F)) 0 = mp_s (fun s => mp_i (mw_fit wd N M O B s) (if s.testBit (mb_c (mg_e wd N O B) c) then F (mw_sz wd N O B s) else 0)) (2 ^ mw_n wd N O B) := by
  have S := ml_sol hX hB hOM g1 I hA
  obtain ⟨r1, r2, r3⟩ := ml_args hX g1 (fun p hp => (I.1.1 p hp).2) hA
  obtain ⟨k1, k2⟩ := mw_gx hc he
  obtain ⟨p, hp, e⟩ := hA g hg
  obtain ⟨i, i1, i2, i3⟩ := ml_blk I.2.1 p hp
  have kg : ka g = i := by rw [← e]; exact I.2.1.2.2.2 i i1 p i2 i3
  have g12 := g1.2.2
  have inj : ∀ x y, x < mw_n wd N O B → y < mw_n wd N O B → mw_g wd N O B x = mw_g wd N O B y → x = y := fun x y hx hy h => mg_g_inj (show x < mb_c (mg_e wd N O B) N from hx) (show y < mb_c (mg_e wd N O B) N from hy) h
  rw [kg]
  refine ⟨i1, ?_⟩
  rw [ml_H (mg_N64 hX.1) hn k1, mp_held (cg := ml_cg cg) (mg_N64 hX.1) S (ml_cut F) hn r1 r2 r3 inj k1 i1 ⟨i2, i3⟩ (by
    show om p = (cg (mw_g wd N O B (mb_c (mg_e wd N O B) c))).toNatClampNeg
    have : mw_g wd N O B (mb_c (mg_e wd N O B) c) = c := k2
    rw [this, hcg, nI_clamp (by omega), e]), e]
end
section
/-! ===== X: analyse, advise ===== -/
/-- after an analysis: all layouts, and those with a given hidden cell -/
def ma_W (wd N : Nat) (M O B : Int64) (tw fw : Int64) (cg : Nat → Int32) (gw : Nat → Int64) : Prop :=
  tw = lN (mw_T wd N M O B (2 ^ mw_n wd N O B)) ∧ ∀ c, c < N → mg_h N O B c = true → (mg_e wd N O B c = true → ∃ g, g < 12 ∧ cg c = nI g ∧ gw g = lN (mw_H wd N M O B c (2 ^ mw_n wd N O B))) ∧ (mg_e wd N O B c = false → cg c = -1 ∧ fw = lN (mw_H wd N M O B c (2 ^ mw_n wd N O B)))
section
variable {wd hd N : Nat} {bd : Int64} {ph : Int32} {M O F B : Int64} {gc cc : Int32} {tw fw : Int64} {nr bn : Nat → Int64} {cg gs gp : Nat → Int32} {gk gw : Nat → Int64} {od ch : Nat → Int32} {hst jo : Nat → Int64}
variable {G C : Nat} {ka hh : Nat → Nat}
theorem mx_an_g {post : SX → Prop} (hX : mg_BX wd hd N bd nr bn) {fl mc : Nat} (hfl : fl ≤ 64) (hmc : mc ≤ 64) (hG : G ≤ 12) (hC : C ≤ 12) (hka : ∀ g, g < G → gp g = nI (ka g) ∧ ka g ≤ 12) (hH : mx_lr 312 hst hh)
    (h : ∀ tw fw gw jo, (∀ g, g < G → gw g = lN (mp_TK hh (ka g) C (mp_T hh (12 + g) (ml_cut (fun t => mp_ch (fl : Int) ((mc : Int) - t)))) 0)) → tw = lN (mp_TK hh 12 C (ml_cut (fun t => mp_ch (fl : Int) ((mc : Int) - t))) 0) → fw = lN (mp_TK hh 12 C (ml_cut (fun t => mp_ch ((fl : Int) - 1) ((mc : Int) - 1 - t))) 0) → post (nI wd, nI hd, nI N, bd, ph, M, O, F, B, nI G, nI C, tw, fw, nr, bn, cg, gs, gp, gk, gw, od, ch, hst, jo)) :
    ∀ (d g f : Nat) (gw jo : Nat → Int64), g + d = G → d < f → (∀ x, x < g → gw x = lN (mp_TK hh (ka x) C (mp_T hh (12 + x) (ml_cut (fun t => mp_ch (fl : Int) ((mc : Int) - t)))) 0)) → wX_analyse_64 post (nI fl) (nI mc) f (nI g) (nI wd) (nI hd) (nI N) bd ph M O F B (nI G) (nI C) tw fw nr bn cg gs gp gk gw od ch hst jo := by
  have t1 : (nI fl).toInt = (fl : Int) := nI_toInt (by omega)
  have t2 : (nI mc).toInt = (mc : Int) := nI_toInt (by omega)
  have t3 : (nI fl - 1).toInt = (fl : Int) - 1 := mi_r (by omega)
  have t4 : (nI mc - 1).toInt = (mc : Int) - 1 := mi_r (by omega)
  intro d
  induction d with
  | zero =>
    intro g f gw jo hg hf hw
    obtain ⟨m, rfl⟩ : ∃ m, f = m + 1 := ⟨f - 1, by omega⟩
    have : g = G := by omega
    subst this
    refine br_t (nI_le (Nat.le_refl _) (by omega)) (mx_join (k := 12) hC (fun i hi => ?_) hH (fun jo' jn hj hJ => mx_weigh hX hj (by rw [t1]; omega) (by rw [t2]; omega) (mx_weigh hX hj (by rw [t3]; omega) (by rw [t4]; omega) (h _ _ gw jo' hw ?_ ?_))))
    · constructor
      · intro y
        have := nI_pos' (n := i) (by omega)
        rw [y] at this; exact absurd this (by decide)
      · intro y; omega
    · rw [t1, t2, ← ml_J_cut, hJ _ (ml_cut_van _)]
    · rw [t3, t4, ← ml_J_cut, hJ _ (ml_cut_van _)]
  | succ d ih =>
    intro g f gw jo hg hf hw
    obtain ⟨m, rfl⟩ : ∃ m, f = m + 1 := ⟨f - 1, by omega⟩
    have e : (nI g).toNatClampNeg = g := nI_clamp (by omega)
    have v : vp_in (nI g) 12 := vp_in_nI (by omega) (by omega)
    obtain ⟨k1, k2⟩ := hka g (by omega)
    refine br_f (nI_ge (by omega) (by omega)) (And.intro v ?_)
    rw [e, k1]
    have e12 : (12 : Int32) + nI g = nI (12 + g) := by rw [show (12 : Int32) = nI 12 from rfl, nI_add]
    refine mx_join (k := ka g) hC (fun i hi => nI_eq (by omega) (by omega)) hH (fun jo' jn hj hJ => ?_)
    show wpX_multiply _ _ (12 + nI g)
    rw [e12]
    refine mx_multiply (by omega) hH hj (fun jo2 hj2 => mx_weigh hX hj2 (by rw [t1]; omega) (by rw [t2]; omega) (And.intro v (nm_r (e' := vp_updL gw g (lN (mp_TK hh (ka g) C (mp_T hh (12 + g) (ml_cut (fun t => mp_ch (fl : Int) ((mc : Int) - t)))) 0))) ?_ (nm_r (nI_1 g) (ih (g + 1) m _ jo2 (by omega) (by omega) fun x hx => ?_)))))
    · rw [t1, t2, ← ml_J_cut, mp_mul (ml_cut_van _) (fun t ht => rfl), hJ _ (mp_T_van (ml_cut_van _))]
    · by_cases q : x = g
      · rw [q, pk_uLs]
      · rw [pk_uLn q]; exact hw x (by omega)
end
section
variable {wd hd N : Nat} {bd : Int64} {ph : Int32} {M O F B : Int64} {gc cc : Int32} {tw fw : Int64} {nr bn : Nat → Int64} {cg gs gp : Nat → Int32} {gk gw : Nat → Int64} {od ch : Nat → Int32} {hst jo : Nat → Int64}
theorem mx_an_z {post : SX → Prop} {E : Int64} (h : ∀ hst, (∀ i, i < 312 → hst i = 0) → wX_analyse_2 post E (nI wd) (nI hd) (nI N) bd ph M O F B gc cc tw fw 1 (nI 312) nr bn cg gs gp gk gw od ch hst jo) : ∀ (d i f : Nat) (hst : Nat → Int64), i + d = 312 → d < f → (∀ j, j < i → hst j = 0) → wX_analyse_2 post E (nI wd) (nI hd) (nI N) bd ph M O F B gc cc tw fw f (nI i) nr bn cg gs gp gk gw od ch hst jo
  | 0, i, f, hst, hi, hf, hz => by
    obtain ⟨m, rfl⟩ : ∃ m, f = m + 1 := ⟨f - 1, by omega⟩
    have : i = 312 := by omega
    subst this
    exact br_t (nI_le (a := 312) (b := 312) (Nat.le_refl _) (by omega)) ((h hst hz).1 (nI_le (a := 312) (b := 312) (Nat.le_refl _) (by omega)))
  | d + 1, i, f, hst, hi, hf, hz => by
    obtain ⟨m, rfl⟩ : ∃ m, f = m + 1 := ⟨f - 1, by omega⟩
    refine br_f (nI_ge (b := 312) (by omega) (by omega)) (And.intro (vp_in_nI (by omega) (by omega)) (nm_r (e' := vp_updL hst i 0) (by rw [nI_clamp (by omega)]) (nm_r (nI_1 i) (mx_an_z h d (i + 1) m _ (by omega) (by omega) fun j hj => ?_))))
    by_cases q : j = i
    · rw [q, pk_uLs]
    · rw [pk_uLn q]; exact hz j (by omega)
theorem mx_analyse {post : SX → Prop} (hX : mg_BX wd hd N bd nr bn) (i1 : ∀ i, mb_b M i = true → i < N) (hB : B = 0) (hOM : ∀ i, ¬ (mb_b O i = true ∧ mb_b M i = true)) {E : Int64} (hE : ∀ c, mb_b E c = mg_e wd N O B c) (hn : mw_n wd N O B ≤ 12)
    (h : ∀ gc cc tw fw cg gs gp gk gw od ch hst jo, ma_W wd N M O B tw fw cg gw → post (nI wd, nI hd, nI N, bd, ph, M, O, F, B, gc, cc, tw, fw, nr, bn, cg, gs, gp, gk, gw, od, ch, hst, jo)) : wpX_analyse post (nI wd, nI hd, nI N, bd, ph, M, O, F, B, gc, cc, tw, fw, nr, bn, cg, gs, gp, gk, gw, od, ch, hst, jo) E := by
  have hN := mg_N64 hX.1
  refine ⟨313, mx_an_z (fun hst' hz => ?_) 312 0 313 hst (by omega) (by omega) (fun j hj => absurd hj (Nat.not_lt_zero _))⟩
  refine br_t (nI_le (a := 312) (b := 312) (Nat.le_refl _) (by omega)) (mx_ge hN hE hn (fun G cg' gs' gp' gk' I => ?_))
  have lG := mk_I_le I
  have g1 : ml_G wd N M O B G cg' gk' (mk_K (mg_e wd N O B) cg' N) nr := ⟨fun c hc he => (I.1 c hc).1 he, fun g hg => ⟨rfl, (I.2.1 g hg).2.1⟩, Nat.le_trans lG hn⟩
  have hk : ∀ g, g < G → ∃ c, mb_b (gk' g) c = true := fun g hg => by
    obtain ⟨e, _, he, _, q⟩ := ml_key hX g1 hg
    unfold mg_e at he
    rw [Bool.and_eq_true] at he
    obtain ⟨b, b1, b2, b3⟩ := mg_t_iff.mp he.2
    exact ⟨b, by rw [q, b2, mg_nb_symm, b3]; rfl⟩
  have s12 : mp_s (mk_K (mg_e wd N O B) cg' N) G ≤ 12 := by rw [I.2.2]; exact hn
  refine mx_solve (sz := mk_K (mg_e wd N O B) cg' N) hX g1.2.2 (fun g hg => ⟨(I.2.1 g hg).1, (I.2.1 g hg).2.1, (I.2.1 g hg).2.2⟩) s12 hk hz (fun C P om ka b hh gp2 od2 ch2 hst2 hH J hA => ?_)
  have g12 := g1.2.2
  have cp := mz_B_le J.2.1
  have pg := mq_le (fun p hp => (J.1.1 p hp).2) J.1.2.1
  have r64 : mw_r wd N O B ≤ 64 := by
    have : mb_c (mg_h N O B) N ≤ N := mb_c_le _ _
    unfold mw_r; omega
  have m64 : mb_c (mb_b M) N ≤ 64 := Nat.le_trans (mb_c_le _ _) hN
  refine mx_bitCount (mx_bitCount ?_)
  rw [ml_fl hN hX.2.1 hB hE, mg_pcN hN i1]
  refine ⟨G + 1, mx_an_g (ka := ka) (hh := hh) hX r64 m64 g12 (by omega) (fun g hg => ?_) hH (fun tw' fw' gw' jo' v1 v2 v3 => h _ _ _ _ _ _ _ _ _ _ _ _ _ ⟨?_, fun c hc hh' => ⟨fun he => ?_, fun he => ⟨(I.1 c hc).2 he, ?_⟩⟩⟩) G 0 (G + 1) gw jo (by omega) (by omega) (fun x hx => absurd hx (Nat.not_lt_zero _))⟩
  · rcases J.1.2.2 g hg with ⟨_, q1, q2⟩ | ⟨q1, _⟩
    · exact ⟨q1, by omega⟩
    · obtain ⟨p, p1, p2⟩ := hA g hg
      exact absurd p2 (q1 p p1)
  · rw [v2, ml_total hX hB hOM g1 J hA hn]
    rfl
  · obtain ⟨g, hg, q1, q2⟩ := (I.1 c hc).1 he
    refine ⟨g, by omega, q1, ?_⟩
    rw [v1 g hg, (ml_held hX hB hOM g1 J hA hn _ hc he hg q1).2]
    congr 1
    apply mp_s_eq
    intro s _
    unfold mw_v
    rw [he]
    rfl
  · rw [v3, ml_total hX hB hOM g1 J hA hn]
    congr 1
    apply mp_s_eq
    intro s _
    unfold mw_v
    rw [he]
    show mp_i _ (mp_ch ((mw_r wd N O B : Int) - 1) ((mb_c (mb_b M) N : Int) - 1 - (mw_sz wd N O B s : Nat))) = mp_i _ (mp_ch ((mw_r wd N O B : Int) - 1) ((mb_c (mb_b M) N : Int) - mw_sz wd N O B s - 1))
    congr 2
    omega
theorem mx_advise {post : Int32 → SX → Prop} {cl ro mi co : Nat → Int32} (I : mr_I wd hd N bd ph M O F B nr bn cl ro mi co)
    (h1 : ph = 1 → mw_n wd N O B ≤ 12 → ∀ gc cc tw fw cg gs gp gk gw od ch hst jo, ma_W wd N M O B tw fw cg gw → post 0 (nI wd, nI hd, nI N, bd, ph, M, O, F, B, gc, cc, tw, fw, nr, bn, cg, gs, gp, gk, gw, od, ch, hst, jo)) (h2 : ph = 1 → 12 < mw_n wd N O B → post (-7) (nI wd, nI hd, nI N, bd, ph, M, O, F, B, gc, cc, tw, fw, nr, bn, cg, gs, gp, gk, gw, od, ch, hst, jo)) (h3 : ¬ ph = 1 → post (-2) (nI wd, nI hd, nI N, bd, ph, M, O, F, B, gc, cc, tw, fw, nr, bn, cg, gs, gp, gk, gw, od, ch, hst, jo)) : wpX_advise post (nI wd, nI hd, nI N, bd, ph, M, O, F, B, gc, cc, tw, fw, nr, bn, cg, gs, gp, gk, gw, od, ch, hst, jo) := by
  obtain ⟨hX, hY, hm, hc, i1, i2, i3, i4, i5, i6, i7, i8, i9⟩ := I
  have hN := mg_N64 hX.1
  refine br_c (fun p => mx_edge hX fun E hE => mx_bitCount ?_) h3
  have ec : mb_pc E = mw_n wd N O B := by
    rw [mg_pcN hN (fun i h => by rw [hE] at h; exact mg_e_lt h)]
    exact mb_c_eq fun i _ => hE i
  rw [ec]
  have l : mw_n wd N O B ≤ N := mb_c_le _ _
  refine br_c (fun z => ?_) (fun z => h2 p (Nat.lt_of_not_le fun y => z (nI_le (b := 12) y (by omega))))
  have z' : mw_n wd N O B ≤ 12 := (nI_leI (b := 12) (by omega) (by omega)).mp z
  exact mx_analyse hX i1 (i9 p).1 (i9 p).2 hE z' (fun _ _ _ _ _ _ _ _ _ _ _ _ _ w => h1 p z' _ _ _ _ _ _ _ _ _ _ _ _ _ w)
theorem mx_ways {post : Int64 → Prop} (hN : N ≤ 64) (W : ma_W wd N M O B tw fw cg gw) {c : Nat} (hc : c < N) (hh : mg_h N O B c = true) (h : post (lN (mw_H wd N M O B c (2 ^ mw_n wd N O B)))) : wpX_waysWith post (nI wd, nI hd, nI N, bd, ph, M, O, F, B, gc, cc, tw, fw, nr, bn, cg, gs, gp, gk, gw, od, ch, hst, jo) (nI c) := by
  have v : vp_in (nI c) 64 := vp_in_nI (by omega) (by omega)
  have e : (nI c).toNatClampNeg = c := nI_clamp (by omega)
  obtain ⟨a1, a2⟩ := W.2 c hc hh
  refine And.intro v ?_
  rw [e]
  cases z : mg_e wd N O B c
  · obtain ⟨q1, q2⟩ := a2 z
    refine br_f (by rw [q1]; decide) ?_
    rw [q2]; exact h
  · obtain ⟨g, hg, q1, q2⟩ := a1 z
    refine br_t (by rw [q1]; exact nI_pos' (by omega)) (And.intro v (And.intro (by rw [q1]; exact vp_in_nI (by omega) (by omega)) ?_))
    rw [q1, nI_clamp (by omega), q2]; exact h
end
end
section
/-! ===== no count passes 2^62; a mined cell has a count ===== -/
theorem mo_sum {f : Nat → Nat} {m B : Nat} (h : ∀ i, i < m → f i ≤ B) : mp_s f m ≤ m * B := by
  rw [← mp_s_const]
  exact mp_s_le h
theorem mo_r {wd N : Nat} {O B : Int64} : mw_r wd N O B = mb_c (fun i => mg_h N O B i && !(mg_e wd N O B i)) N := by
  have s := mb_c_split (mg_h N O B) (mg_e wd N O B) N
  have a : mb_c (fun i => mg_h N O B i && mg_e wd N O B i) N = mw_n wd N O B := mb_c_eq fun i _ => by
    cases z : mg_e wd N O B i
    · rw [Bool.and_false]
    · rw [mw_eh z]; rfl
  unfold mw_r
  omega
theorem mo_lt {wd N : Nat} (hN : N ≤ 64) {M O B : Int64} {c : Nat} (hn : mw_n wd N O B ≤ 12) (hh : mg_h N O B c = true) : mw_H wd N M O B c (2 ^ mw_n wd N O B) < 2 ^ 63 := by
  have nr := mw_nh wd N O B
  have hb : mb_c (mg_h N O B) N ≤ N := mb_c_le _ _
  have cN := (mg_h_iff.mp hh).1
  have p12 : 2 ^ mw_n wd N O B ≤ 2 ^ 12 := Nat.pow_le_pow_right (by decide) hn
  have er : mw_r wd N O B = mb_c (mg_h N O B) N - mw_n wd N O B := rfl
  cases e : mg_e wd N O B c
  · -- away from the edge
    have r1 : 1 ≤ mw_r wd N O B := by
      rw [mo_r]
      exact mb_c_pos cN (by rw [hh, e]; rfl)
    have b : ∀ k, k ≤ mw_r wd N O B → mw_r wd N O B = k + 1 → mw_H wd N M O B c (2 ^ mw_n wd N O B) < 2 ^ 63 := fun k _ hk => by
      match k, hk with
      | 0, hk =>
        have l : mw_H wd N M O B c (2 ^ mw_n wd N O B) ≤ 2 ^ mw_n wd N O B * 1 := mo_sum fun s _ => Nat.le_trans mp_i_le (by
          unfold mw_v mw_2
          rw [e, if_neg (by decide), hk]
          exact mp_ch_le0 _)
        omega
      | k + 1, hk =>
        have l : mw_H wd N M O B c (2 ^ mw_n wd N O B) ≤ 2 ^ mw_n wd N O B * 2 ^ k := mo_sum fun s _ => Nat.le_trans mp_i_le (by
          unfold mw_v mw_2
          rw [e, if_neg (by decide), hk]
          have : (((k + 1 + 1 : Nat) : Int) - 1) = ((k + 1 : Nat) : Int) := by omega
          rw [this]
          exact mp_ch_le k _)
        rw [← Nat.pow_add] at l
        exact Nat.lt_of_le_of_lt l (Nat.pow_lt_pow_right (by decide) (by omega))
    exact b (mw_r wd N O B - 1) (by omega) (by omega)
  · -- an edge cell: some cell is open
    have ho : mb_c (mg_h N O B) N < N := by
      have e2 := e
      unfold mg_e at e2
      rw [Bool.and_eq_true] at e2
      obtain ⟨o, o1, o2, _⟩ := mg_t_iff.mp e2.2
      have := mb_c_lt (p := mg_h N O B) (q := fun _ => true) (n := N) (a := o) (fun _ _ _ => rfl) o1 (mb_f fun y => by rw [(mg_h_iff.mp y).2.1] at o2; exact absurd o2 (by decide)) rfl
      have := mb_c_le (fun _ => true) N
      omega
    match hk : mw_r wd N O B with
    | 0 =>
      have l : mw_H wd N M O B c (2 ^ mw_n wd N O B) ≤ 2 ^ mw_n wd N O B * 1 := mo_sum fun s _ => Nat.le_trans mp_i_le (by
        unfold mw_v mw_1
        rw [e, if_pos rfl, hk]
        split
        · exact mp_ch_le0 _
        · omega)
      omega
    | k + 1 =>
      have l : mw_H wd N M O B c (2 ^ mw_n wd N O B) ≤ 2 ^ mw_n wd N O B * 2 ^ k := mo_sum fun s _ => Nat.le_trans mp_i_le (by
        unfold mw_v mw_1
        rw [e, if_pos rfl, hk]
        split
        · exact mp_ch_le k _
        · exact Nat.zero_le _)
      rw [← Nat.pow_add] at l
      exact Nat.lt_of_le_of_lt l (Nat.pow_lt_pow_right (by decide) (by omega))
theorem mo_enc (p : Nat → Bool) : ∀ n : Nat, ∃ s, s < 2 ^ n ∧ ∀ i, i < n → s.testBit i = p i
  | 0 => ⟨0, by decide, fun i hi => absurd hi (Nat.not_lt_zero _)⟩
  | n + 1 => by
    obtain ⟨s, h1, h2⟩ := mo_enc p n
    cases e : p n
    · refine ⟨s, by rw [Nat.pow_succ]; omega, fun i hi => ?_⟩
      by_cases z : i = n
      · rw [z, e]; exact Nat.testBit_lt_two_pow h1
      · exact h2 i (by omega)
    · refine ⟨2 ^ n + s, by rw [Nat.pow_succ]; omega, fun i hi => ?_⟩
      by_cases z : i = n
      · rw [z, e, Nat.testBit_two_pow_add_eq, Nat.testBit_lt_two_pow h1]; rfl
      · rw [Nat.testBit_two_pow_add_gt (by omega)]; exact h2 i (by omega)
theorem mo_pos {wd N : Nat} {M O B : Int64} {c : Nat} (hB : B = 0) (hOM : ∀ i, ¬ (mb_b O i = true ∧ mb_b M i = true)) (hh : mg_h N O B c = true) (hM : mb_b M c = true) : 1 ≤ mw_H wd N M O B c (2 ^ mw_n wd N O B) := by
  have cN := (mg_h_iff.mp hh).1
  obtain ⟨s, s1, s2⟩ := mo_enc (fun i => mb_b M (mw_g wd N O B i)) (mw_n wd N O B)
  have mh : ∀ x, x < N → mb_b M x = true → mg_h N O B x = true := fun x hx h => mg_h_iff.mpr ⟨hx, mb_f fun y => hOM x ⟨y, h⟩, by rw [hB, mb_0]⟩
  have fit : mw_fit wd N M O B s := fun x hx ho => by
    have a : mb_c (fun i => s.testBit i && mg_nb wd N x (mw_g wd N O B i)) (mw_n wd N O B) = mb_c (fun i => (fun y => mb_b M y && mg_nb wd N x y) (mg_g (mg_e wd N O B) N i)) (mb_c (mg_e wd N O B) N) := mb_c_eq fun i hi => by
      rw [s2 i hi]; rfl
    rw [a, ← mg_g_cnt (ed := mg_e wd N O B) (fun y => mb_b M y && mg_nb wd N x y) N]
    refine mb_c_eq fun y hy => ?_
    show (mg_e wd N O B y && (mb_b M y && mg_nb wd N x y)) = (mb_b M y && mg_nb wd N y x)
    rw [mg_nb_symm wd N y x]
    cases e1 : (mb_b M y && mg_nb wd N x y)
    · rw [Bool.and_false]
    · rw [Bool.and_eq_true] at e1
      have : mg_e wd N O B y = true := by
        unfold mg_e
        rw [mh y hy e1.1, Bool.true_and]
        exact mg_t_iff.mpr ⟨x, hx, ho, e1.2⟩
      rw [this]; rfl
  have sz : mw_sz wd N O B s = mb_c (fun x => mg_e wd N O B x && mb_b M x) N := by
    rw [mg_g_cnt]
    exact mb_c_eq fun i hi => s2 i hi
  have sp := mb_c_split (mb_b M) (mg_e wd N O B) N
  have sw : mb_c (fun i => mb_b M i && mg_e wd N O B i) N = mb_c (fun x => mg_e wd N O B x && mb_b M x) N := mb_c_eq fun i _ => Bool.and_comm _ _
  have mo : mb_c (fun i => mb_b M i && !(mg_e wd N O B i)) N ≤ mw_r wd N O B := by
    rw [mo_r]
    exact mb_c_mono fun i hi h => by
      rw [Bool.and_eq_true] at h ⊢
      exact ⟨mh i hi h.1, h.2⟩
  have lv : (mb_c (mb_b M) N : Int) - mw_sz wd N O B s = (mb_c (fun i => mb_b M i && !(mg_e wd N O B i)) N : Nat) := by
    rw [sz]; omega
  have mem : mp_i (mw_fit wd N M O B s) (mw_v wd N M O B s c) ≤ mw_H wd N M O B c (2 ^ mw_n wd N O B) := mp_s_mem (f := fun s => mp_i (mw_fit wd N M O B s) (mw_v wd N M O B s c)) s1
  rw [mp_i_t fit] at mem
  refine Nat.le_trans ?_ mem
  cases e : mg_e wd N O B c
  · have m1 : 1 ≤ mb_c (fun i => mb_b M i && !(mg_e wd N O B i)) N := mb_c_pos cN (by rw [hM, e]; rfl)
    unfold mw_v mw_2
    rw [e, if_neg (by decide), lv]
    obtain ⟨k, hk⟩ : ∃ k, mb_c (fun i => mb_b M i && !(mg_e wd N O B i)) N = k + 1 := ⟨mb_c (fun i => mb_b M i && !(mg_e wd N O B i)) N - 1, by omega⟩
    obtain ⟨r, hr⟩ : ∃ r, mw_r wd N O B = r + 1 := ⟨mw_r wd N O B - 1, by omega⟩
    rw [hk, hr, show (((r + 1 : Nat) : Int) - 1) = (r : Int) by omega, show (((k + 1 : Nat) : Int) - 1) = (k : Int) by omega, mp_ch_t (by omega)]
    exact mp_C_pos _ _ (by omega)
  · obtain ⟨x1, x2⟩ := mw_gx cN e
    unfold mw_v mw_1
    have tb : s.testBit (mb_c (mg_e wd N O B) c) = true := by
      rw [s2 _ x1]
      show mb_b M (mg_g (mg_e wd N O B) N (mb_c (mg_e wd N O B) c)) = true
      rw [x2]; exact hM
    rw [e, if_pos rfl, tb, if_pos rfl, lv, mp_ch_t mo]
    exact mp_C_pos _ _ mo
end
section
/-! ===== layouts, minedLayouts, verdict, safest ===== -/
section
variable {wd hd N : Nat} {bd : Int64} {ph : Int32} {M O F B : Int64} {gc cc : Int32} {tw fw : Int64} {nr bn : Nat → Int64} {cg gs gp : Nat → Int32} {gk gw : Nat → Int64} {od ch : Nat → Int32} {hst jo : Nat → Int64}
variable {yp : Int32} {tt : Int64} {cl ro mi co mq eg nu : Nat → Int32} {ho pa : Nat → Int64}
variable {k : Nat}
theorem mv_layouts (I : mr_I wd hd N bd ph M O F B nr bn cl ro mi co) : wpX_layouts (fun r u' => wpY_layouts (fun r' v' => r' = r ∧ i_Rel (k + 3) u' v') (nI wd, nI hd, nI N, ph, tt, cl, ro, mi, co, mq, eg, nu, ho, pa)) (nI wd, nI hd, nI N, bd, ph, M, O, F, B, gc, cc, tw, fw, nr, bn, cg, gs, gp, gk, gw, od, ch, hst, jo) := by
  unfold wpX_layouts
  refine mx_advise I (fun p hn gc' cc' tw' fw' cg' gs' gp' gk' gw' od' ch' hst' jo' W => ?_) (fun p hn => ?_) (fun p => ?_)
  · refine br_t (by decide) (br_t p (my_weigh I.2.1 I.2.2.1 I.2.2.2.1 (fun _ eg' nu' ho' pa' _ => br_f (by decide) ⟨W.1.symm, mr_mk I⟩) (fun h => absurd h (by omega))))
  · exact br_f (by decide) (br_t p (my_weigh I.2.1 I.2.2.1 I.2.2.2.1 (fun h => absurd h (by omega)) (fun _ eg' => br_t rfl ⟨rfl, mr_mk I⟩)))
  · exact br_f (by decide) (br_f p ⟨rfl, mr_mk I⟩)
theorem mx_mined {post : Int64 → SX → Prop} (I : mr_I wd hd N bd ph M O F B nr bn cl ro mi co) {p q : Int32} (h1 : ¬ ph = 1 → post (-2) (nI wd, nI hd, nI N, bd, ph, M, O, F, B, gc, cc, tw, fw, nr, bn, cg, gs, gp, gk, gw, od, ch, hst, jo)) (h2 : ph = 1 → ¬ mg_in wd hd p q → post (-1) (nI wd, nI hd, nI N, bd, ph, M, O, F, B, gc, cc, tw, fw, nr, bn, cg, gs, gp, gk, gw, od, ch, hst, jo))
    (h3 : ph = 1 → ∀ x y, x < wd → y < hd → p = nI x → q = nI y → ¬ mg_h N O B (y * wd + x) = true → post (-3) (nI wd, nI hd, nI N, bd, ph, M, O, F, B, gc, cc, tw, fw, nr, bn, cg, gs, gp, gk, gw, od, ch, hst, jo))
    (h4 : ph = 1 → ∀ x y, x < wd → y < hd → p = nI x → q = nI y → mg_h N O B (y * wd + x) = true → 12 < mw_n wd N O B → post (-7) (nI wd, nI hd, nI N, bd, ph, M, O, F, B, gc, cc, tw, fw, nr, bn, cg, gs, gp, gk, gw, od, ch, hst, jo))
    (h5 : ph = 1 → ∀ x y, x < wd → y < hd → p = nI x → q = nI y → mg_h N O B (y * wd + x) = true → mw_n wd N O B ≤ 12 → ∀ gc cc tw fw cg gs gp gk gw od ch hst jo, ma_W wd N M O B tw fw cg gw → post (lN (mw_H wd N M O B (y * wd + x) (2 ^ mw_n wd N O B))) (nI wd, nI hd, nI N, bd, ph, M, O, F, B, gc, cc, tw, fw, nr, bn, cg, gs, gp, gk, gw, od, ch, hst, jo)) : wpX_minedLayouts post (nI wd, nI hd, nI N, bd, ph, M, O, F, B, gc, cc, tw, fw, nr, bn, cg, gs, gp, gk, gw, od, ch, hst, jo) p q := by
  unfold wpX_minedLayouts
  have hX := I.1
  have hN := mg_N64 hX.1
  refine mx_ref hX (fun e => ?_) (fun e z => ?_) (fun e x y hx hy ep eq hz => ?_) (fun e x y hx hy ep eq hz => ?_)
  · exact br_f (by decide) (br_f (by decide) (h1 e))
  · exact br_f (by decide) (br_f (by decide) (h2 e z))
  · exact br_f (by decide) (br_f (by decide) (h3 e x y hx hy ep eq hz))
  · refine br_t rfl (mx_advise I (fun _ hn gc' cc' tw' fw' cg' gs' gp' gk' gw' od' ch' hst' jo' W => ?_) (fun _ hn => br_f (by decide) (h4 e x y hx hy ep eq hz hn)) (fun n => absurd e n))
    have s := h5 e x y hx hy ep eq hz hn gc' cc' tw' fw' cg' gs' gp' gk' gw' od' ch' hst' jo' W
    subst ep eq
    exact br_t (by decide) (mx_index (mx_ways hN W (mg_ix hX.1 hx hy) hz s))
theorem my_idx {x y : Nat} (hY : mg_BY wd hd N cl ro) (hx : x < wd) (hy : y < hd) : vp_in (nI y * nI wd + nI x) 64 ∧ (nI y * nI wd + nI x).toNatClampNeg = y * wd + x := by
  have hi := mg_ix hY.1 hx hy
  have hN := mg_N64 hY.1
  have ei : nI y * nI wd + nI x = nI (y * wd + x) := by rw [pk_mul, nI_add]
  rw [ei]
  exact ⟨vp_in_nI (by omega) (by omega), nI_clamp (by omega)⟩
theorem mv_mined (I : mr_I wd hd N bd ph M O F B nr bn cl ro mi co) (p q : Int32) : wpX_minedLayouts (fun r u' => wpY_minedLayouts (fun r' v' => r' = r ∧ i_Rel (k + 3) u' v') (nI wd, nI hd, nI N, ph, tt, cl, ro, mi, co, mq, eg, nu, ho, pa) p q) (nI wd, nI hd, nI N, bd, ph, M, O, F, B, gc, cc, tw, fw, nr, bn, cg, gs, gp, gk, gw, od, ch, hst, jo) p q := by
  have hY := I.2.1
  have hc := I.2.2.2.1
  unfold wpY_minedLayouts
  refine mx_mined I (fun e => ?_) (fun e z => ?_) (fun e x y hx hy ep eq hz => ?_) (fun e x y hx hy ep eq hz hn => ?_) (fun e x y hx hy ep eq hz hn gc' cc' tw' fw' cg' gs' gp' gk' gw' od' ch' hst' jo' W => ?_)
  · exact my_refP hY hc e (br_f (by decide) ⟨rfl, mr_mk I⟩)
  · exact my_refO hY hc e z (br_f (by decide) ⟨rfl, mr_mk I⟩)
  · subst ep eq
    exact my_refF hY hc hx hy e hz (br_f (by decide) ⟨rfl, mr_mk I⟩)
  · subst ep eq
    exact my_refT hY hc hx hy e hz (br_t rfl (my_weigh hY I.2.2.1 hc (fun h => absurd h (by omega)) (fun _ eg' => br_t rfl ⟨rfl, mr_mk I⟩)))
  · subst ep eq
    obtain ⟨v, ec⟩ := my_idx hY hx hy
    refine my_refT hY hc hx hy e hz (br_t rfl (my_weigh hY I.2.2.1 hc (fun _ eg' nu' ho' pa' hh => br_f (by decide) (And.intro v ⟨?_, mr_mk I⟩)) (fun h => absurd h (by omega))))
    rw [ec]
    exact hh _ (mg_ix hY.1 hx hy) hz
theorem mv_verdict (I : mr_I wd hd N bd ph M O F B nr bn cl ro mi co) (p q : Int32) : wpX_verdict (fun r u' => wpY_verdict (fun r' v' => r' = r ∧ i_Rel (k + 3) u' v') (nI wd, nI hd, nI N, ph, tt, cl, ro, mi, co, mq, eg, nu, ho, pa) p q) (nI wd, nI hd, nI N, bd, ph, M, O, F, B, gc, cc, tw, fw, nr, bn, cg, gs, gp, gk, gw, od, ch, hst, jo) p q := by
  have hY := I.2.1
  have hc := I.2.2.2.1
  have hN := mg_N64 hY.1
  unfold wpX_verdict wpY_verdict
  refine mx_mined I (fun e => ?_) (fun e z => ?_) (fun e x y hx hy ep eq hz => ?_) (fun e x y hx hy ep eq hz hn => ?_) (fun e x y hx hy ep eq hz hn gc' cc' tw' fw' cg' gs' gp' gk' gw' od' ch' hst' jo' W => ?_)
  · exact br_f (by decide) (my_refP hY hc e (br_f (by decide) ⟨rfl, mr_mk I⟩))
  · exact br_f (by decide) (my_refO hY hc e z (br_f (by decide) ⟨rfl, mr_mk I⟩))
  · subst ep eq
    exact br_f (by decide) (my_refF hY hc hx hy e hz (br_f (by decide) ⟨rfl, mr_mk I⟩))
  · subst ep eq
    exact br_f (by decide) (my_refT hY hc hx hy e hz (br_t rfl (my_weigh hY I.2.2.1 hc (fun h => absurd h (by omega)) (fun _ eg' => br_t rfl ⟨rfl, mr_mk I⟩))))
  · subst ep eq
    obtain ⟨v, ec⟩ := my_idx hY hx hy
    have hi := mg_ix hY.1 hx hy
    have lt := mo_lt (M := M) hN hn hz
    have z0 : (0 : Int64) ≤ lN (mw_H wd N M O B (y * wd + x) (2 ^ mw_n wd N O B)) := (pk_lLE (a := 0) (by decide) lt).mpr (Nat.zero_le _)
    refine br_t z0 (br_c (fun a => ?_) (fun a => br_c (fun b => ?_) (fun b => ?_)))
    · exact my_refT hY hc hx hy e hz (br_t rfl (my_weigh hY I.2.2.1 hc (fun _ eg' nu' ho' pa' hh => br_f (by decide) (And.intro v (br_t (by rw [ec, hh _ hi hz]; exact a) ⟨rfl, mr_mk I⟩))) (fun h => absurd h (by omega))))
    · exact my_refT hY hc hx hy e hz (br_t rfl (my_weigh hY I.2.2.1 hc (fun _ eg' nu' ho' pa' hh => br_f (by decide) (And.intro v (br_f (by rw [ec, hh _ hi hz]; exact a) (And.intro v (br_t (by rw [ec, hh _ hi hz, ← W.1]; exact b) ⟨rfl, mr_mk I⟩))))) (fun h => absurd h (by omega))))
    · exact my_refT hY hc hx hy e hz (br_t rfl (my_weigh hY I.2.2.1 hc (fun _ eg' nu' ho' pa' hh => br_f (by decide) (And.intro v (br_f (by rw [ec, hh _ hi hz]; exact a) (And.intro v (br_f (by rw [ec, hh _ hi hz, ← W.1]; exact b) ⟨rfl, mr_mk I⟩))))) (fun h => absurd h (by omega))))
/-! safest -/
def mv_bs (hid : Nat → Bool) (V : Nat → Int64) : Nat → Int32
  | 0 => -1
  | i + 1 => if hid i then (if mv_bs hid V i < 0 then nI i else if V (mv_bs hid V i).toNatClampNeg ≤ V i then mv_bs hid V i else nI i) else mv_bs hid V i
theorem mv_bs_in {hid : Nat → Bool} {V : Nat → Int64} : ∀ {i : Nat}, i ≤ 64 → mv_bs hid V i = -1 ∨ ∃ b, b < i ∧ hid b = true ∧ mv_bs hid V i = nI b
  | 0, _ => Or.inl rfl
  | i + 1, hi => by
    have ih := mv_bs_in (hid := hid) (V := V) (i := i) (by omega)
    show (if hid i then (if mv_bs hid V i < 0 then nI i else if V (mv_bs hid V i).toNatClampNeg ≤ V i then mv_bs hid V i else nI i) else mv_bs hid V i) = -1 ∨ ∃ b, b < i + 1 ∧ hid b = true ∧ (if hid i then (if mv_bs hid V i < 0 then nI i else if V (mv_bs hid V i).toNatClampNeg ≤ V i then mv_bs hid V i else nI i) else mv_bs hid V i) = nI b
    have keep : mv_bs hid V i = -1 ∨ ∃ b, b < i + 1 ∧ hid b = true ∧ mv_bs hid V i = nI b := by
      rcases ih with e | ⟨b, b1, b2⟩
      · exact Or.inl e
      · exact Or.inr ⟨b, by omega, b2⟩
    cases h : hid i
    · exact keep
    · rw [if_pos rfl]
      split
      · exact Or.inr ⟨i, by omega, h, rfl⟩
      · split
        · exact keep
        · exact Or.inr ⟨i, by omega, h, rfl⟩
theorem mx_sf_l {post : Int32 → SX → Prop} (hN : N ≤ 64) (W : ma_W wd N M O B tw fw cg gw) {R : Int64} (hR : ∀ c, mb_b R c = mg_h N O B c) (h : post (mv_bs (mg_h N O B) (fun c => lN (mw_H wd N M O B c (2 ^ mw_n wd N O B))) N) (nI wd, nI hd, nI N, bd, ph, M, O, F, B, gc, cc, tw, fw, nr, bn, cg, gs, gp, gk, gw, od, ch, hst, jo)) :
    ∀ (d i f : Nat), i + d = N → d < f → wX_safest_22 post R (nI wd) (nI hd) (nI N) bd ph M O F B gc cc tw fw nr bn cg gs gp gk gw od ch hst jo f (mv_bs (mg_h N O B) (fun c => lN (mw_H wd N M O B c (2 ^ mw_n wd N O B))) i) (nI i)
  | 0, i, f, hi, hf => by
    obtain ⟨m, rfl⟩ : ∃ m, f = m + 1 := ⟨f - 1, by omega⟩
    have : i = N := by omega
    subst this
    exact br_t (nI_le (Nat.le_refl _) (by omega)) h
  | d + 1, i, f, hi, hf => by
    obtain ⟨m, rfl⟩ : ∃ m, f = m + 1 := ⟨f - 1, by omega⟩
    have ih := mx_sf_l hN W hR h d (i + 1) m (by omega) (by omega)
    have e : mv_bs (mg_h N O B) (fun c => lN (mw_H wd N M O B c (2 ^ mw_n wd N O B))) (i + 1) = if mg_h N O B i then (if mv_bs (mg_h N O B) (fun c => lN (mw_H wd N M O B c (2 ^ mw_n wd N O B))) i < 0 then nI i else if lN (mw_H wd N M O B (mv_bs (mg_h N O B) (fun c => lN (mw_H wd N M O B c (2 ^ mw_n wd N O B))) i).toNatClampNeg (2 ^ mw_n wd N O B)) ≤ lN (mw_H wd N M O B i (2 ^ mw_n wd N O B)) then mv_bs (mg_h N O B) (fun c => lN (mw_H wd N M O B c (2 ^ mw_n wd N O B))) i else nI i) else mv_bs (mg_h N O B) (fun c => lN (mw_H wd N M O B c (2 ^ mw_n wd N O B))) i := rfl
    have bin := mv_bs_in (hid := mg_h N O B) (V := fun c => lN (mw_H wd N M O B c (2 ^ mw_n wd N O B))) (i := i) (by omega)
    rw [e] at ih
    generalize mv_bs (mg_h N O B) (fun c => lN (mw_H wd N M O B c (2 ^ mw_n wd N O B))) i = bs at *
    refine br_f (nI_ge (by omega) (by omega)) (mx_isSetB (by omega) (fun z => ?_) (fun z => br_c (fun z2 => ?_) (fun z2 => ?_)))
    · rw [hR] at z
      rw [z, if_neg (by decide)] at ih
      exact nm_r (nI_1 i) ih
    · rw [hR] at z
      rw [z, if_pos rfl, if_pos z2] at ih
      exact nm_r (nI_1 i) ih
    · rw [hR] at z
      rw [z, if_pos rfl, if_neg z2] at ih
      rcases bin with q | ⟨b, b1, b2, b3⟩
      · rw [q] at z2; exact absurd (by decide) z2
      · subst b3
        have eb : (nI b).toNatClampNeg = b := nI_clamp (by omega)
        rw [eb] at ih
        refine mx_ways hN W (by omega) z (mx_ways hN W (by omega) b2 (br_c (fun y => ?_) (fun y => ?_)))
        · rw [if_pos y] at ih
          exact nm_r (nI_1 i) ih
        · rw [if_neg y] at ih
          exact nm_r (nI_1 i) ih
theorem my_sf_l {post : Int32 → SY → Prop} (hN : N ≤ 64) (hc : mg_co N O F B co) {V : Nat → Int64} (hV : ∀ c, c < N → mg_h N O B c = true → ho c = V c) (h : post (mv_bs (mg_h N O B) V N) (nI wd, nI hd, nI N, yp, tt, cl, ro, mi, co, mq, eg, nu, ho, pa)) :
    ∀ (d i f : Nat), i + d = N → d < f → wY_safest_25 post (nI wd) (nI hd) (nI N) yp tt cl ro mi co mq eg nu ho pa f (mv_bs (mg_h N O B) V i) (nI i)
  | 0, i, f, hi, hf => by
    obtain ⟨m, rfl⟩ : ∃ m, f = m + 1 := ⟨f - 1, by omega⟩
    have : i = N := by omega
    subst this
    exact br_t (nI_le (Nat.le_refl _) (by omega)) h
  | d + 1, i, f, hi, hf => by
    obtain ⟨m, rfl⟩ : ∃ m, f = m + 1 := ⟨f - 1, by omega⟩
    have ih := my_sf_l hN hc hV h d (i + 1) m (by omega) (by omega)
    have e : mv_bs (mg_h N O B) V (i + 1) = if mg_h N O B i then (if mv_bs (mg_h N O B) V i < 0 then nI i else if V (mv_bs (mg_h N O B) V i).toNatClampNeg ≤ V i then mv_bs (mg_h N O B) V i else nI i) else mv_bs (mg_h N O B) V i := rfl
    have bin := mv_bs_in (hid := mg_h N O B) (V := V) (i := i) (by omega)
    rw [e] at ih
    generalize mv_bs (mg_h N O B) V i = bs at *
    refine br_f (nI_ge (by omega) (by omega)) (my_hiddenB hN hc (by omega) (fun z => ?_) (fun z => br_c (fun z2 => ?_) (fun z2 => ?_)))
    · rw [z, if_neg (by decide)] at ih
      exact nm_r (nI_1 i) ih
    · rw [z, if_pos rfl, if_pos z2] at ih
      exact nm_r (nI_1 i) ih
    · rw [z, if_pos rfl, if_neg z2] at ih
      rcases bin with q | ⟨b, b1, b2, b3⟩
      · rw [q] at z2; exact absurd (by decide) z2
      · subst b3
        have eb : (nI b).toNatClampNeg = b := nI_clamp (by omega)
        have ei : (nI i).toNatClampNeg = i := nI_clamp (by omega)
        rw [eb] at ih
        refine And.intro (vp_in_nI (by omega) (by omega)) (And.intro (vp_in_nI (by omega) (by omega)) ?_)
        rw [eb, ei, hV b (by omega) b2, hV i (by omega) z]
        refine br_c (fun y => ?_) (fun y => ?_)
        · rw [if_pos y] at ih
          exact nm_r (nI_1 i) ih
        · rw [if_neg y] at ih
          exact nm_r (nI_1 i) ih
theorem mv_safest (I : mr_I wd hd N bd ph M O F B nr bn cl ro mi co) : wpX_safest (fun r u' => wpY_safest (fun r' v' => r' = r ∧ i_Rel (k + 3) u' v') (nI wd, nI hd, nI N, ph, tt, cl, ro, mi, co, mq, eg, nu, ho, pa)) (nI wd, nI hd, nI N, bd, ph, M, O, F, B, gc, cc, tw, fw, nr, bn, cg, gs, gp, gk, gw, od, ch, hst, jo) := by
  have hY := I.2.1
  have hc := I.2.2.2.1
  have hN := mg_N64 hY.1
  unfold wpX_safest
  refine mx_advise I (fun p hn gc' cc' tw' fw' cg' gs' gp' gk' gw' od' ch' hst' jo' W => ?_) (fun p hn => ?_) (fun p => ?_)
  · refine br_t (by decide) (mx_hidden I.1 fun R hR => ⟨N + 1, mx_sf_l hN W hR ?_ N 0 (N + 1) (by omega) (by omega)⟩)
    exact br_t p (my_weigh hY I.2.2.1 hc (fun _ eg' nu' ho' pa' hh => br_f (by decide) ⟨N + 1, my_sf_l hN hc hh ⟨rfl, mr_mk I⟩ N 0 (N + 1) (by omega) (by omega)⟩) (fun h => absurd h (by omega)))
  · exact br_f (by decide) (br_t p (my_weigh hY I.2.2.1 hc (fun h => absurd h (by omega)) (fun _ eg' => br_t rfl ⟨rfl, mr_mk I⟩)))
  · exact br_f (by decide) (br_f p ⟨rfl, mr_mk I⟩)
end
end
section
/-! ===== flagSure, openSafe ===== -/
section
variable {wd hd N : Nat} {bd : Int64} {ph : Int32} {M O F B : Int64} {gc cc : Int32} {tw fw : Int64} {nr bn : Nat → Int64} {cg gs gp : Nat → Int32} {gk gw : Nat → Int64} {od ch : Nat → Int32} {hst jo : Nat → Int64}
variable {yp : Int32} {tt : Int64} {cl ro mi co mq eg nu : Nat → Int32} {ho pa : Nat → Int64}
theorem mx_fr_l {post : Int64 → Prop} (hN : N ≤ 64) (W : ma_W wd N M O B tw fw cg gw) {x fr : Int64} (hfr : ∀ c, mb_b fr c = ms_f N O F B c) (h : ∀ R : Int64, (∀ c, mb_b R c = true ↔ ms_f N O F B c = true ∧ lN (mw_H wd N M O B c (2 ^ mw_n wd N O B)) = x) → post R) :
    ∀ (d i f : Nat) (R : Int64), i + d = N → d < f → (∀ c, mb_b R c = true ↔ c < i ∧ ms_f N O F B c = true ∧ lN (mw_H wd N M O B c (2 ^ mw_n wd N O B)) = x) → wX_freeCellsIn_20 post x fr (nI wd) (nI hd) (nI N) bd ph M O F B gc cc tw fw nr bn cg gs gp gk gw od ch hst jo f R (nI i)
  | 0, i, f, R, hi, hf, hR => by
    obtain ⟨m, rfl⟩ : ∃ m, f = m + 1 := ⟨f - 1, by omega⟩
    have : i = N := by omega
    subst this
    refine br_t (nI_le (Nat.le_refl _) (by omega)) (h R fun c => ?_)
    rw [hR]
    exact ⟨fun z => z.2, fun z => ⟨ms_f_lt z.1, z⟩⟩
  | d + 1, i, f, R, hi, hf, hR => by
    obtain ⟨m, rfl⟩ : ∃ m, f = m + 1 := ⟨f - 1, by omega⟩
    have skip : (¬ (ms_f N O F B i = true ∧ lN (mw_H wd N M O B i (2 ^ mw_n wd N O B)) = x)) → wX_freeCellsIn_20 post x fr (nI wd) (nI hd) (nI N) bd ph M O F B gc cc tw fw nr bn cg gs gp gk gw od ch hst jo m R (nI (i + 1)) := fun q => mx_fr_l hN W hfr h d (i + 1) m R (by omega) (by omega) fun c => by
      rw [hR]
      constructor
      · rintro ⟨z1, z2⟩; exact ⟨by omega, z2⟩
      · rintro ⟨z1, z2⟩
        refine ⟨?_, z2⟩
        by_cases y : c = i
        · rw [y] at z2; exact absurd z2 q
        · omega
    refine br_f (nI_ge (by omega) (by omega)) (mx_isSetB (by omega) (fun z => ?_) (fun z => ?_))
    · rw [hfr] at z
      exact nm_r (nI_1 i) (skip fun y => by rw [z] at y; exact absurd y.1 (by decide))
    · rw [hfr] at z
      have hh : mg_h N O B i = true := by
        have z' := z
        unfold ms_f at z'
        rw [Bool.and_eq_true] at z'
        exact z'.1
      refine mx_ways hN W (by omega) hh (br_c (fun y => ?_) (fun y => ?_))
      · refine nm_e (nm_r (nI_1 i) (mx_fr_l hN W hfr h d (i + 1) m _ (by omega) (by omega) fun c => ?_))
        rw [mb_or, mb_one (by omega), Bool.or_eq_true, decide_eq_true_eq, hR]
        constructor
        · rintro (⟨z1, z2⟩ | z1)
          · exact ⟨by omega, z2⟩
          · rw [z1]; exact ⟨by omega, z, y⟩
        · rintro ⟨z1, z2⟩
          by_cases w : c = i
          · exact Or.inr w
          · exact Or.inl ⟨by omega, z2⟩
      · exact nm_r (nI_1 i) (skip fun w => y w.2)
theorem mx_free {post : Int64 → Prop} (hX : mg_BX wd hd N bd nr bn) (W : ma_W wd N M O B tw fw cg gw) {x : Int64} (h : ∀ R : Int64, (∀ c, mb_b R c = true ↔ ms_f N O F B c = true ∧ lN (mw_H wd N M O B c (2 ^ mw_n wd N O B)) = x) → post R) : wpX_freeCellsIn post (nI wd, nI hd, nI N, bd, ph, M, O, F, B, gc, cc, tw, fw, nr, bn, cg, gs, gp, gk, gw, od, ch, hst, jo) x := by
  have hN := mg_N64 hX.1
  unfold wpX_freeCellsIn
  refine mx_hidden hX fun R hR => nm_e ⟨N + 1, mx_fr_l hN W (fun c => ?_) h N 0 (N + 1) 0 (by omega) (by omega) fun c => ?_⟩
  · rw [mb_and, hR]
    unfold ms_f
    rcases Nat.lt_or_ge c 64 with w | w
    · rw [mb_not _ w]
    · have : mg_h N O B c = false := mb_f fun t => by have := (mg_h_iff.mp t).1; omega
      rw [this]; rfl
  · rw [mb_0]
    exact ⟨fun z => absurd z (by decide), fun z => absurd z.1 (Nat.not_lt_zero _)⟩
theorem my_fs_l {post : Int32 → SY → Prop} (hN : N ≤ 64) {co0 : Nat → Int32} (hc : mg_co N O F B co0) {R : Int64} (hR : ∀ c, c < N → (mb_b R c = true ↔ ms_f N O F B c = true ∧ ho c = tt))
    (h : ∀ co, (∀ c, c < N → co c = if mb_b R c then 10 else co0 c) → post (nI (mb_c (mb_b R) N)) (nI wd, nI hd, nI N, yp, tt, cl, ro, mi, co, mq, eg, nu, ho, pa)) :
    ∀ (d i f : Nat) (co : Nat → Int32), i + d = N → d < f → (∀ c, c < i → co c = if mb_b R c then 10 else co0 c) → (∀ c, i ≤ c → co c = co0 c) → wY_flagSure_25 post (nI wd) (nI hd) (nI N) yp tt f (nI (mb_c (mb_b R) i)) (nI i) cl ro mi co mq eg nu ho pa
  | 0, i, f, co, hi, hf, h1, h2 => by
    obtain ⟨m, rfl⟩ : ∃ m, f = m + 1 := ⟨f - 1, by omega⟩
    have : i = N := by omega
    subst this
    exact br_t (nI_le (Nat.le_refl _) (by omega)) (h co h1)
  | d + 1, i, f, co, hi, hf, h1, h2 => by
    obtain ⟨m, rfl⟩ : ∃ m, f = m + 1 := ⟨f - 1, by omega⟩
    have e : (nI i).toNatClampNeg = i := nI_clamp (by omega)
    have v : vp_in (nI i) 64 := vp_in_nI (by omega) (by omega)
    have eb : mb_c (mb_b R) (i + 1) = mb_c (mb_b R) i + (if mb_b R i then 1 else 0) := rfl
    have skip : mb_b R i = false → wY_flagSure_25 post (nI wd) (nI hd) (nI N) yp tt m (nI (mb_c (mb_b R) i)) (nI (i + 1)) cl ro mi co mq eg nu ho pa := fun q => by
      have ih := my_fs_l hN hc hR h d (i + 1) m co (by omega) (by omega) (fun c hc' => by
        by_cases y : c = i
        · rw [y, q, h2 i (Nat.le_refl _)]; rfl
        · exact h1 c (by omega)) (fun c hc' => h2 c (by omega))
      rw [eb, q, if_neg (by decide), Nat.add_zero] at ih
      exact ih
    have c9 : co (nI i).toNatClampNeg = 9 ↔ ms_f N O F B i = true := by
      rw [e, h2 i (Nat.le_refl _), hc i (by omega), ms_f9 (by omega)]
    refine br_f (nI_ge (by omega) (by omega)) (And.intro v (br_c (fun z => And.intro v (br_c (fun z2 => ?_) (fun z2 => ?_))) (fun z => ?_)))
    · rw [c9] at z
      rw [e] at z2
      have r : mb_b R i = true := (hR i (by omega)).mpr ⟨z, z2⟩
      have ih := my_fs_l hN hc hR h d (i + 1) m (upd co i 10) (by omega) (by omega) (fun c hc' => by
        by_cases y : c = i
        · rw [y, pk_us, r]; rfl
        · rw [pk_un y]; exact h1 c (by omega)) (fun c hc' => by rw [pk_un (by omega)]; exact h2 c (by omega))
      rw [eb, r, if_pos rfl] at ih
      exact And.intro v (nm_r (e' := upd co i 10) (by rw [e]) (nm_r (nI_1 _) (nm_r (nI_1 i) ih)))
    · rw [e] at z2
      exact nm_r (nI_1 i) (skip (mb_f fun y => z2 ((hR i (by omega)).mp y).2))
    · rw [c9] at z
      exact nm_r (nI_1 i) (skip (mb_f fun y => z ((hR i (by omega)).mp y).1))
theorem my_os_l {post : Int32 → SY → Prop} (hN : N ≤ 64) (hc : mg_co N O F B co) {S : Int64} (hS : ∀ c, c < N → (mb_b S c = true ↔ ms_f N O F B c = true ∧ ho c = 0))
    (h : ∀ mq, (∀ c, c < N → (ms_m mq c = true ↔ mb_b S c = true)) → wpY_spread post (nI wd, nI hd, nI N, yp, tt, cl, ro, mi, co, mq, eg, nu, ho, pa)) :
    ∀ (d i f : Nat) (mq : Nat → Int32), i + d = N → d < f → (∀ c, c < i → (ms_m mq c = true ↔ mb_b S c = true)) → wY_openSafe_23 post (nI wd) (nI hd) (nI N) yp tt f (nI i) cl ro mi co mq eg nu ho pa
  | 0, i, f, mq, hi, hf, h1 => by
    obtain ⟨m, rfl⟩ : ∃ m, f = m + 1 := ⟨f - 1, by omega⟩
    have : i = N := by omega
    subst this
    exact br_t (nI_le (Nat.le_refl _) (by omega)) (h mq h1)
  | d + 1, i, f, mq, hi, hf, h1 => by
    obtain ⟨m, rfl⟩ : ∃ m, f = m + 1 := ⟨f - 1, by omega⟩
    have e : (nI i).toNatClampNeg = i := nI_clamp (by omega)
    have v : vp_in (nI i) 64 := vp_in_nI (by omega) (by omega)
    have c9 : co (nI i).toNatClampNeg = 9 ↔ ms_f N O F B i = true := by
      rw [e, hc i (by omega), ms_f9 (by omega)]
    have no : mb_b S i = false → (∀ a : Nat → Int32, a = upd mq (nI i).toNatClampNeg (vp_nar .boolean 0) → ∀ x, x = nI i + 1 → wY_openSafe_23 post (nI wd) (nI hd) (nI N) yp tt m x cl ro mi co a eg nu ho pa) := fun q => nm_r (e' := upd mq i 0) (by rw [e]; rfl) (nm_r (nI_1 i) (my_os_l hN hc hS h d (i + 1) m _ (by omega) (by omega) fun c hc' => by
      by_cases y : c = i
      · rw [ms_m_t, y, pk_us, q]; exact ⟨fun w => absurd rfl w, fun w => absurd w (by decide)⟩
      · rw [ms_m_t, pk_un y, ← ms_m_t]; exact h1 c (by omega)))
    refine br_f (nI_ge (by omega) (by omega)) (And.intro v (br_c (fun z => And.intro v (br_c (fun z2 => And.intro v ?_) (fun z2 => And.intro v ?_))) (fun z => And.intro v ?_)))
    · rw [c9] at z
      rw [e] at z2
      have r : mb_b S i = true := (hS i (by omega)).mpr ⟨z, z2⟩
      exact nm_r (e' := upd mq i 1) (by rw [e]; rfl) (nm_r (nI_1 i) (my_os_l hN hc hS h d (i + 1) m _ (by omega) (by omega) fun c hc' => by
        by_cases y : c = i
        · rw [ms_m_t, y, pk_us, r]; exact ⟨fun _ => rfl, fun _ => by decide⟩
        · rw [ms_m_t, pk_un y, ← ms_m_t]; exact h1 c (by omega)))
    · rw [e] at z2
      exact no (mb_f fun y => z2 ((hS i (by omega)).mp y).2)
    · rw [c9] at z
      exact no (mb_f fun y => z ((hS i (by omega)).mp y).1)
variable {k : Nat}
theorem mv_flagSure (I : mr_I wd hd N bd ph M O F B nr bn cl ro mi co) : wpX_flagSure (fun r u' => wpY_flagSure (fun r' v' => r' = r ∧ i_Rel (k + 3) u' v') (nI wd, nI hd, nI N, ph, tt, cl, ro, mi, co, mq, eg, nu, ho, pa)) (nI wd, nI hd, nI N, bd, ph, M, O, F, B, gc, cc, tw, fw, nr, bn, cg, gs, gp, gk, gw, od, ch, hst, jo) := by
  have I0 := I
  obtain ⟨hX, hY, hm, hc, i1, i2, i3, i4, i5, i6, i7, i8, i9⟩ := I
  have hN := mg_N64 hX.1
  unfold wpX_flagSure
  refine mx_advise I0 (fun p hn gc' cc' tw' fw' cg' gs' gp' gk' gw' od' ch' hst' jo' W => ?_) (fun p hn => ?_) (fun p => ?_)
  · refine br_t (by decide) (mx_free hX W fun R hR => nm_e (mx_bitCount ?_))
    have rx : ∀ c, mb_b R c = true → c < N ∧ mb_b O c = false ∧ mb_b B c = false ∧ mb_b F c = false := fun c h => by
      have f := ((hR c).mp h).1
      unfold ms_f at f
      rw [Bool.and_eq_true, mg_h_iff, Bool.not_eq_true'] at f
      exact ⟨f.1.1, f.1.2.1, f.1.2.2, f.2⟩
    rw [mg_pcN hN (fun c h => (rx c h).1)]
    have e0 : ¬ ph = 0 := fun z => by rw [z] at p; exact absurd p (by decide)
    refine br_t p (my_weigh hY hm hc (fun _ eg' nu' ho' pa' hh => br_f (by decide) ⟨N + 1, my_fs_l (R := R) hN hc (fun c hcN => ?_) (fun co' hco => ⟨rfl, mr_mk ⟨hX, hY, hm, fun c hcN => ?_, i1, i2, fun i h => ?_, i4, fun i h => ?_, i6, fun i h => ?_, fun z => absurd z e0, i9⟩⟩) N 0 (N + 1) co (by omega) (by omega) (fun c h => absurd h (Nat.not_lt_zero _)) (fun _ _ => rfl)⟩) (fun h => absurd h (by omega)))
    · rw [hR]
      constructor
      · rintro ⟨a1, a2⟩
        have hd' : mg_h N O B c = true := by
          unfold ms_f at a1
          rw [Bool.and_eq_true] at a1
          exact a1.1
        exact ⟨a1, by rw [hh c hcN hd', a2, W.1]⟩
      · rintro ⟨a1, a2⟩
        have hd' : mg_h N O B c = true := by
          unfold ms_f at a1
          rw [Bool.and_eq_true] at a1
          exact a1.1
        exact ⟨a1, by rw [← hh c hcN hd', a2, W.1]⟩
    · rw [hco c hcN]
      cases e : mb_b R c
      · rw [if_neg (by decide), hc c hcN]
        unfold mg_cv
        rw [mb_or, e, Bool.or_false]
      · rw [if_pos rfl]
        obtain ⟨_, o1, o2, _⟩ := rx c e
        exact (mg_cv10.mpr ⟨o1, o2, by rw [mb_or, e, Bool.or_true]⟩).symm
    · rw [mb_or, Bool.or_eq_true] at h
      exact h.elim (i3 i) fun h => (rx i h).1
    · rw [mb_or, Bool.or_eq_true] at h
      rcases h.2 with h2 | h2
      · exact i5 i ⟨h.1, h2⟩
      · have := (rx i h2).2.1; rw [h.1] at this; exact absurd this (by decide)
    · rw [mb_or, Bool.or_eq_true] at h
      rcases h.1 with h2 | h2
      · exact i7 i ⟨h2, h.2⟩
      · have := (rx i h2).2.2.1; rw [h.2] at this; exact absurd this (by decide)
  · exact br_f (by decide) (br_t p (my_weigh hY hm hc (fun h => absurd h (by omega)) (fun _ eg' => br_t rfl ⟨rfl, mr_mk I0⟩)))
  · exact br_f (by decide) (br_f p ⟨rfl, mr_mk I0⟩)
theorem mv_openSafe (I : mr_I wd hd N bd ph M O F B nr bn cl ro mi co) : wpX_openSafe (fun r u' => wpY_openSafe (fun r' v' => r' = r ∧ i_Rel (k + 3) u' v') (nI wd, nI hd, nI N, ph, tt, cl, ro, mi, co, mq, eg, nu, ho, pa)) (nI wd, nI hd, nI N, bd, ph, M, O, F, B, gc, cc, tw, fw, nr, bn, cg, gs, gp, gk, gw, od, ch, hst, jo) := by
  have I0 := I
  obtain ⟨hX, hY, hm, hc, i1, i2, i3, i4, i5, i6, i7, i8, i9⟩ := I
  have hN := mg_N64 hX.1
  unfold wpX_openSafe
  refine mx_advise I0 (fun p hn gc' cc' tw' fw' cg' gs' gp' gk' gw' od' ch' hst' jo' W => ?_) (fun p hn => ?_) (fun p => ?_)
  · subst p
    obtain ⟨b0, hOM⟩ := i9 rfl
    refine br_t (by decide) (mx_free hX W fun S hS => ?_)
    have hSf : ∀ c, mb_b S c = true → ms_f N O F B c = true := fun c h => ((hS c).mp h).1
    have hSM : ∀ c, ¬ (mb_b S c = true ∧ mb_b M c = true) := fun c ⟨h1, h2⟩ => by
      obtain ⟨a1, a2⟩ := (hS c).mp h1
      have hd' : mg_h N O B c = true := by
        unfold ms_f at a1
        rw [Bool.and_eq_true] at a1
        exact a1.1
      have l := mo_lt (M := M) hN hn hd'
      have ps := mo_pos (wd := wd) b0 hOM hd' h2
      have := (pk_lEQ (b := 0) l (by decide)).mp a2
      omega
    refine mv_xs I0 hSf (fun R p' hR hp => br_t rfl (my_weigh hY hm hc (fun _ eg' nu' ho' pa' hh => br_f (by decide) ⟨N + 1, my_os_l (S := S) hN hc (fun c hcN => ?_) (fun mq' hq' => mv_ys I0 hSf hR hp hq' (fun co' mq'' hco => ⟨rfl, mr_mk (mr_open I0 hSf hSM hR hco ?_)⟩)) N 0 (N + 1) mq (by omega) (by omega) (fun c h => absurd h (Nat.not_lt_zero _))⟩) (fun h => absurd h (by omega))))
    · rw [hS]
      constructor
      · rintro ⟨a1, a2⟩
        have hd' : mg_h N O B c = true := by
          unfold ms_f at a1
          rw [Bool.and_eq_true] at a1
          exact a1.1
        exact ⟨a1, by rw [hh c hcN hd', a2]⟩
      · rintro ⟨a1, a2⟩
        have hd' : mg_h N O B c = true := by
          unfold ms_f at a1
          rw [Bool.and_eq_true] at a1
          exact a1.1
        exact ⟨a1, by rw [← hh c hcN hd', a2]⟩
    · rcases hp with e | e
      · exact Or.inr e.1
      · exact Or.inl e.1
  · exact br_f (by decide) (br_t p (my_weigh hY hm hc (fun h => absurd h (by omega)) (fun _ eg' => br_t rfl ⟨rfl, mr_mk I0⟩)))
  · exact br_f (by decide) (br_f p ⟨rfl, mr_mk I0⟩)
end
end
section
/-! ===== what is owed ===== -/
theorem i_vc_lay {k : Nat} {u : SX} {v : SY} (I : i_Rel k u v) (hk : k + 3 ≤ 1538) (a0 : Int64) : wpX_lay (fun r u' => wpY_lay (fun r' v' => r' = r ∧ i_Rel (k + 3) u' v') v a0) u a0 := by
  refine mr_el (P := fun u v => wpX_lay (fun r u' => wpY_lay (fun r' v' => r' = r ∧ i_Rel (k + 3) u' v') v a0) u a0) ?_ I
  intros; exact mv_lay (by assumption) a0
theorem i_vc_plant {k : Nat} {u : SX} {v : SY} (I : i_Rel k u v) (hk : k + 3 ≤ 1538) (v1 : Int32) (v2 : Int32) : wpX_plant (fun r u' => wpY_plant (fun r' v' => r' = r ∧ i_Rel (k + 3) u' v') v v1 v2) u v1 v2 := by
  refine mr_el (P := fun u v => wpX_plant (fun r u' => wpY_plant (fun r' v' => r' = r ∧ i_Rel (k + 3) u' v') v v1 v2) u v1 v2) ?_ I
  intros; exact mv_plant (by assumption) v1 v2
theorem i_vc_start {k : Nat} {u : SX} {v : SY} (I : i_Rel k u v) (hk : k + 3 ≤ 1538) : wpX_start (fun r u' => wpY_start (fun r' v' => r' = r ∧ i_Rel (k + 3) u' v') v) u := by
  refine mr_el (P := fun u v => wpX_start (fun r u' => wpY_start (fun r' v' => r' = r ∧ i_Rel (k + 3) u' v') v) u) ?_ I
  intros; exact mv_start (by assumption)
theorem i_vc_again {k : Nat} {u : SX} {v : SY} (I : i_Rel k u v) (hk : k + 3 ≤ 1538) : wpX_again (fun r u' => wpY_again (fun r' v' => r' = r ∧ i_Rel (k + 3) u' v') v) u := by
  refine mr_el (P := fun u v => wpX_again (fun r u' => wpY_again (fun r' v' => r' = r ∧ i_Rel (k + 3) u' v') v) u) ?_ I
  intros; exact mv_again (by assumption)
theorem i_vc_open {k : Nat} {u : SX} {v : SY} (I : i_Rel k u v) (hk : k + 3 ≤ 1538) (v1 : Int32) (v2 : Int32) : wpX_open (fun r u' => wpY_open (fun r' v' => r' = r ∧ i_Rel (k + 3) u' v') v v1 v2) u v1 v2 := by
  refine mr_el (P := fun u v => wpX_open (fun r u' => wpY_open (fun r' v' => r' = r ∧ i_Rel (k + 3) u' v') v v1 v2) u v1 v2) ?_ I
  intros; exact mv_open (by assumption) v1 v2
theorem i_vc_flag {k : Nat} {u : SX} {v : SY} (I : i_Rel k u v) (hk : k + 3 ≤ 1538) (v1 : Int32) (v2 : Int32) : wpX_flag (fun r u' => wpY_flag (fun r' v' => r' = r ∧ i_Rel (k + 3) u' v') v v1 v2) u v1 v2 := by
  refine mr_el (P := fun u v => wpX_flag (fun r u' => wpY_flag (fun r' v' => r' = r ∧ i_Rel (k + 3) u' v') v v1 v2) u v1 v2) ?_ I
  intros; exact mv_flag (by assumption) v1 v2
theorem i_vc_chord {k : Nat} {u : SX} {v : SY} (I : i_Rel k u v) (hk : k + 3 ≤ 1538) (v1 : Int32) (v2 : Int32) : wpX_chord (fun r u' => wpY_chord (fun r' v' => r' = r ∧ i_Rel (k + 3) u' v') v v1 v2) u v1 v2 := by
  refine mr_el (P := fun u v => wpX_chord (fun r u' => wpY_chord (fun r' v' => r' = r ∧ i_Rel (k + 3) u' v') v v1 v2) u v1 v2) ?_ I
  intros; exact mv_chord (by assumption) v1 v2
theorem i_vc_openSafe {k : Nat} {u : SX} {v : SY} (I : i_Rel k u v) (hk : k + 3 ≤ 1538) : wpX_openSafe (fun r u' => wpY_openSafe (fun r' v' => r' = r ∧ i_Rel (k + 3) u' v') v) u := by
  refine mr_el (P := fun u v => wpX_openSafe (fun r u' => wpY_openSafe (fun r' v' => r' = r ∧ i_Rel (k + 3) u' v') v) u) ?_ I
  intros; exact mv_openSafe (by assumption)
theorem i_vc_flagSure {k : Nat} {u : SX} {v : SY} (I : i_Rel k u v) (hk : k + 3 ≤ 1538) : wpX_flagSure (fun r u' => wpY_flagSure (fun r' v' => r' = r ∧ i_Rel (k + 3) u' v') v) u := by
  refine mr_el (P := fun u v => wpX_flagSure (fun r u' => wpY_flagSure (fun r' v' => r' = r ∧ i_Rel (k + 3) u' v') v) u) ?_ I
  intros; exact mv_flagSure (by assumption)
theorem i_vc_layouts {k : Nat} {u : SX} {v : SY} (I : i_Rel k u v) (hk : k + 3 ≤ 1538) : wpX_layouts (fun r u' => wpY_layouts (fun r' v' => r' = r ∧ i_Rel (k + 3) u' v') v) u := by
  refine mr_el (P := fun u v => wpX_layouts (fun r u' => wpY_layouts (fun r' v' => r' = r ∧ i_Rel (k + 3) u' v') v) u) ?_ I
  intros; exact mv_layouts (by assumption)
theorem i_vc_minedLayouts {k : Nat} {u : SX} {v : SY} (I : i_Rel k u v) (hk : k + 3 ≤ 1538) (v1 : Int32) (v2 : Int32) : wpX_minedLayouts (fun r u' => wpY_minedLayouts (fun r' v' => r' = r ∧ i_Rel (k + 3) u' v') v v1 v2) u v1 v2 := by
  refine mr_el (P := fun u v => wpX_minedLayouts (fun r u' => wpY_minedLayouts (fun r' v' => r' = r ∧ i_Rel (k + 3) u' v') v v1 v2) u v1 v2) ?_ I
  intros; exact mv_mined (by assumption) v1 v2
theorem i_vc_verdict {k : Nat} {u : SX} {v : SY} (I : i_Rel k u v) (hk : k + 3 ≤ 1538) (v1 : Int32) (v2 : Int32) : wpX_verdict (fun r u' => wpY_verdict (fun r' v' => r' = r ∧ i_Rel (k + 3) u' v') v v1 v2) u v1 v2 := by
  refine mr_el (P := fun u v => wpX_verdict (fun r u' => wpY_verdict (fun r' v' => r' = r ∧ i_Rel (k + 3) u' v') v v1 v2) u v1 v2) ?_ I
  intros; exact mv_verdict (by assumption) v1 v2
theorem i_vc_safest {k : Nat} {u : SX} {v : SY} (I : i_Rel k u v) (hk : k + 3 ≤ 1538) : wpX_safest (fun r u' => wpY_safest (fun r' v' => r' = r ∧ i_Rel (k + 3) u' v') v) u := by
  refine mr_el (P := fun u v => wpX_safest (fun r u' => wpY_safest (fun r' v' => r' = r ∧ i_Rel (k + 3) u' v') v) u) ?_ I
  intros; exact mv_safest (by assumption)
theorem i_vc_view {k : Nat} {u : SX} {v : SY} (I : i_Rel k u v) (hk : k + 3 ≤ 1538) (v1 : Int32) (v2 : Int32) : wpX_view (fun r => wpY_view (fun r' => r' = r ∧ i_Rel (k + 3) u v) v v1 v2) u v1 v2 := by
  refine mr_el (P := fun u v => wpX_view (fun r => wpY_view (fun r' => r' = r ∧ i_Rel (k + 3) u v) v v1 v2) u v1 v2) ?_ I
  intros; exact mv_view (by assumption) v1 v2
theorem i_vc_mineAt {k : Nat} {u : SX} {v : SY} (I : i_Rel k u v) (hk : k + 3 ≤ 1538) (v1 : Int32) (v2 : Int32) : wpX_mineAt (fun r => wpY_mineAt (fun r' => r' = r ∧ i_Rel (k + 3) u v) v v1 v2) u v1 v2 := by
  refine mr_el (P := fun u v => wpX_mineAt (fun r => wpY_mineAt (fun r' => r' = r ∧ i_Rel (k + 3) u v) v v1 v2) u v1 v2) ?_ I
  intros; exact mv_mineAt (by assumption) v1 v2
theorem i_vc_tally {k : Nat} {u : SX} {v : SY} (I : i_Rel k u v) (hk : k + 3 ≤ 1538) (v1 : Int32) : wpX_tally (fun r => wpY_tally (fun r' v' => r' = r ∧ i_Rel (k + 3) u v') v v1) u v1 := by
  refine mr_el (P := fun u v => wpX_tally (fun r => wpY_tally (fun r' v' => r' = r ∧ i_Rel (k + 3) u v') v v1) u v1) ?_ I
  intros; exact mv_tally (by assumption) v1
end
