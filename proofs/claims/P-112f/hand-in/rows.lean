section
/-! pure rows to paste: stores, nI and lN arithmetic, masks, shifts, narrowing, branches by naturals (pk_le, pk_lt, pk_eq), loops (lp1 .. lp16: the measure of the state; rp1 ..: recursion), negatives. Take what you need -/
theorem pk_us {f : Nat → Int32} {k : Nat} {x : Int32} : upd f k x k = x := if_pos rfl
theorem pk_un {f : Nat → Int32} {k j : Nat} {x : Int32} (h : j ≠ k) : upd f k x j = f j := if_neg h
theorem pk_uLs {f : Nat → Int64} {k : Nat} {x : Int64} : vp_updL f k x k = x := if_pos rfl
theorem pk_uLn {f : Nat → Int64} {k j : Nat} {x : Int64} (h : j ≠ k) : vp_updL f k x j = f j := if_neg h
theorem pk_sub {a b : Nat} (h : b ≤ a) : nI a - nI b = nI (a - b) := by
  obtain ⟨c, rfl⟩ : ∃ c, a = c + b := ⟨a - b, by omega⟩
  rw [← nI_add, Int32.add_sub_cancel, Nat.add_sub_cancel]
theorem pk_m1 (n : Nat) : nI (n + 1) + (-1) = nI n := by
  rw [← nI_1, Int32.add_assoc, show (1 : Int32) + (-1) = 0 from rfl, Int32.add_zero]
theorem pk_mul (a b : Nat) : nI a * nI b = nI (a * b) := (Int32.ofNat_mul a b).symm
theorem pk_div {a d : Nat} (ha : a < 2 ^ 31) (h0 : 0 < d) (hd : d < 2 ^ 31) : nI a / nI d = nI (a / d) := by
  apply Int32.toInt_inj.mp
  rw [lg_idiv_nonneg (by rw [nI_toInt ha]; omega) (by rw [nI_toInt hd]; omega), nI_toInt ha, nI_toInt hd, nI_toInt (Nat.lt_of_le_of_lt (Nat.div_le_self a d) ha)]
  first | rfl | exact (Int.natCast_ediv _ _).symm
theorem pk_rem {a d : Nat} (ha : a < 2 ^ 31) (h0 : 0 < d) (hd : d < 2 ^ 31) : nI a - nI a / nI d * nI d = nI (a % d) := by
  rw [pk_div ha h0 hd, pk_mul, pk_sub (Nat.div_mul_le_self a d)]
  exact congrArg nI (by have := Nat.div_add_mod' a d; omega)
theorem pk_sub_toInt {a b : Nat} (ha : a < 2 ^ 30) (hb : b < 2 ^ 30) : (nI a - nI b).toInt = (a : Int) - b := by
  rw [Int32.toInt_sub, nI_toInt (by omega), nI_toInt (by omega)]
  exact Int.bmod_eq_of_le (by omega) (by omega)
theorem pk_sneg {a b : Nat} (hb : b < 2 ^ 30) (h : a < b) : nI a - nI b < 0 := by
  rw [Int32.lt_iff_toInt_lt, pk_sub_toInt (by omega) hb, show (0 : Int32).toInt = 0 from by decide]
  omega
theorem pk_ix (x : Int32) {n : Nat} (hn : n < 2 ^ 31) : x < 0 ∨ nI n ≤ x ∨ ∃ j : Nat, j < n ∧ x = nI j := by
  by_cases h : x < 0
  · exact Or.inl h
  · obtain ⟨j, hj, rfl⟩ := nI_of h
    by_cases h2 : j < n
    · exact Or.inr (Or.inr ⟨j, h2, rfl⟩)
    · exact Or.inr (Or.inl (nI_le (by omega) hj))
theorem pk_le {x y : Int32} {A B : Prop} (a b : Nat) (f : a ≤ b → A) (g : b < a → B) (hx : x = nI a := by rfl) (hy : y = nI b := by rfl) (ha : a < 2 ^ 31 := by omega) (hb : b < 2 ^ 31 := by omega) : (x ≤ y → A) ∧ (¬ x ≤ y → B) := by
  subst hx hy
  rw [nI_leI ha hb]
  exact ⟨f, fun z => g (by omega)⟩
theorem pk_lt {x y : Int32} {A B : Prop} (a b : Nat) (f : a < b → A) (g : b ≤ a → B) (hx : x = nI a := by rfl) (hy : y = nI b := by rfl) (ha : a < 2 ^ 31 := by omega) (hb : b < 2 ^ 31 := by omega) : (x < y → A) ∧ (¬ x < y → B) := by
  subst hx hy
  rw [nI_ltI ha hb]
  exact ⟨f, fun z => g (by omega)⟩
theorem pk_eq {x y : Int32} {A B : Prop} (a b : Nat) (f : a = b → A) (g : a ≠ b → B) (hx : x = nI a := by rfl) (hy : y = nI b := by rfl) (ha : a < 2 ^ 31 := by omega) (hb : b < 2 ^ 31 := by omega) : (x = y → A) ∧ (¬ x = y → B) := by
  subst hx hy
  rw [nI_eq ha hb]
  exact ⟨f, g⟩
theorem pk_in {x : Int32} (n N : Nat) (h : n < N) (hx : x = nI n := by rfl) (hN : N < 2 ^ 31 := by omega) : vp_in x N := by
  subst hx
  exact vp_in_nI h hN
theorem pk_cl {x : Int32} (n : Nat) (hx : x = nI n := by rfl) (h : n < 2 ^ 31 := by omega) : x.toNatClampNeg = n := by
  subst hx
  exact nI_clamp h
theorem pk_tn {n : Nat} (h : n < 2 ^ 32) : (nI n).toBitVec.toNat = n := Nat.mod_eq_of_lt h
theorem pk_and (x : Int32) {m : Int32} (k : Nat) (hm : m.toBitVec.toNat = 2 ^ k - 1) : x &&& m = nI (x.toBitVec.toNat % 2 ^ k) := by
  apply Int32.toBitVec_inj.mp
  apply BitVec.eq_of_toNat_eq
  rw [Int32.toBitVec_and, BitVec.toNat_and, hm, Nat.and_two_pow_sub_one_eq_mod]
  show _ = (BitVec.ofNat 32 _).toNat
  rw [BitVec.toNat_ofNat]
  exact (Nat.mod_eq_of_lt (Nat.lt_of_le_of_lt (Nat.mod_le _ _) x.toBitVec.isLt)).symm
theorem pk_andN {n : Nat} (h : n < 2 ^ 32) {m : Int32} (k : Nat) (hm : m.toBitVec.toNat = 2 ^ k - 1) : nI n &&& m = nI (n % 2 ^ k) := by
  rw [pk_and _ k hm, pk_tn h]
theorem pk_andE (x : Int32) {m : Int32} (k : Nat) (hm : m.toBitVec.toNat = 2 ^ k - 1) : ∃ j : Nat, j < 2 ^ k ∧ x &&& m = nI j := ⟨_, Nat.mod_lt _ (Nat.two_pow_pos k), pk_and x k hm⟩
theorem pk_andIn (x : Int32) {m : Int32} (k : Nat) (hm : m.toBitVec.toNat = 2 ^ k - 1) (hk : k ≤ 30) : vp_in (x &&& m) (2 ^ k) := by
  obtain ⟨j, hj, e⟩ := pk_andE x k hm
  rw [e]
  exact vp_in_nI hj (Nat.lt_of_le_of_lt (Nat.pow_le_pow_right (by decide) hk) (by decide))
theorem pk_shl (a s : Int32) (k : Nat) (hs : (s.toBitVec.smod 32).toNat = k) : (a <<< s).toBitVec.toNat = a.toBitVec.toNat * 2 ^ k % 2 ^ 32 := by
  show (a.toBitVec <<< (s.toBitVec.smod 32).toNat).toNat = _
  rw [hs, BitVec.toNat_shiftLeft, Nat.shiftLeft_eq]
theorem pk_shlN {n : Nat} (s : Int32) (k : Nat) (hs : (s.toBitVec.smod 32).toNat = k) (h : n * 2 ^ k < 2 ^ 32) : nI n <<< s = nI (n * 2 ^ k) := by
  apply Int32.toBitVec_inj.mp
  apply BitVec.eq_of_toNat_eq
  have hn : n < 2 ^ 32 := Nat.lt_of_le_of_lt (Nat.le_mul_of_pos_right n (Nat.two_pow_pos k)) h
  rw [pk_shl _ _ k hs, pk_tn hn, pk_tn h, Nat.mod_eq_of_lt h]
theorem pk_shr (a s : Int32) (k : Nat) (hs : (s.toBitVec.smod 32).toNat = k) : (a >>> s).toInt = a.toInt >>> k := by
  show (a.toBitVec.sshiftRight (s.toBitVec.smod 32).toNat).toInt = _
  rw [hs, BitVec.toInt_sshiftRight]
  rfl
theorem pk_shrN {n : Nat} (h : n < 2 ^ 31) (s : Int32) (k : Nat) (hs : (s.toBitVec.smod 32).toNat = k) : nI n >>> s = nI (n / 2 ^ k) := by
  apply Int32.toInt_inj.mp
  have h2 : n / 2 ^ k ≤ n := Nat.div_le_self _ _
  rw [pk_shr _ _ k hs, nI_toInt h, nI_toInt (by omega), Int.shiftRight_eq_div_pow]
  rfl
theorem pk_ushr (x s : Int32) (k : Nat) (hs : ((s.toUInt32 &&& Int32.toUInt32 31).toBitVec % 32).toNat = k) : (x.toUInt32 >>> (s.toUInt32 &&& Int32.toUInt32 31)).toInt32.toBitVec.toNat = x.toBitVec.toNat / 2 ^ k := by
  have e : (x.toUInt32 >>> (s.toUInt32 &&& Int32.toUInt32 31)).toInt32.toBitVec = x.toBitVec >>> k := by
    rw [← hs]
    exact UInt32.toBitVec_shiftRight _ _
  rw [e, BitVec.toNat_ushiftRight, Nat.shiftRight_eq_div_pow]
theorem pk_ushrN {n : Nat} (hn : n < 2 ^ 32) (s : Int32) (k : Nat) (hs : ((s.toUInt32 &&& Int32.toUInt32 31).toBitVec % 32).toNat = k) : ((nI n).toUInt32 >>> (s.toUInt32 &&& Int32.toUInt32 31)).toInt32 = nI (n / 2 ^ k) := by
  apply Int32.toBitVec_inj.mp
  apply BitVec.eq_of_toNat_eq
  rw [pk_ushr _ s k hs, pk_tn hn, pk_tn (Nat.lt_of_le_of_lt (Nat.div_le_self _ _) hn)]
theorem pk_nb (z : Int32) : narrow .byte (.int z.toInt8.toInt32) = .int z.toInt8.toInt32 := congrArg Value.int (by simp)
theorem pk_ns (z : Int32) : narrow .short (.int z.toInt16.toInt32) = .int z.toInt16.toInt32 := congrArg Value.int (by simp)
theorem pk_fb (r : Int32) : fits .byte (.int r.toInt8.toInt32) = true := by
  have ⟨a, b⟩ := lg_i2b_range r
  have h1 : (-128 : Int32).toInt = -128 := by decide
  have h2 : (127 : Int32).toInt = 127 := by decide
  simp only [fits, Bool.and_eq_true, decide_eq_true_eq, Int32.le_iff_toInt_le, h1, h2]
  omega
theorem pk_fs (r : Int32) : fits .short (.int r.toInt16.toInt32) = true := by
  have ⟨a, b⟩ := lg_i2s_range r
  have h1 : (-32768 : Int32).toInt = -32768 := by decide
  have h2 : (32767 : Int32).toInt = 32767 := by decide
  simp only [fits, Bool.and_eq_true, decide_eq_true_eq, Int32.le_iff_toInt_le, h1, h2]
  omega
theorem pk_charN {q : Nat} (hq : q < 65536) : narrow .char (.int (nI q)) = .int (nI q) ∧ fits .char (.int (nI q)) = true := by
  constructor
  · have e : (nI q).toUInt32.toUInt16.toUInt32.toInt32 = nI q := by
      apply Int32.toBitVec_inj.mp
      apply BitVec.eq_of_toNat_eq
      show (nI q).toUInt32.toUInt16.toUInt32.toNat = q % 2 ^ 32
      rw [UInt16.toNat_toUInt32, UInt32.toNat_toUInt16, show (nI q).toUInt32.toNat = q % 2 ^ 32 from rfl]
      omega
    exact congrArg Value.int e
  · have a : (0 : Int32) ≤ nI q := nI_pos' (by omega)
    have b : nI q ≤ 65535 := nI_le (b := 65535) (by omega) (by decide)
    show (decide ((0 : Int32) ≤ nI q) && decide (nI q ≤ 65535)) = true
    rw [decide_eq_true a, decide_eq_true b]
    rfl
theorem pk_char (x : Int32) : (x.toUInt32 % 65536).toInt32 = nI (x.toBitVec.toNat % 65536) := by
  apply Int32.toBitVec_inj.mp
  apply BitVec.eq_of_toNat_eq
  rw [pk_tn (by omega)]
  show (x.toUInt32 % 65536).toNat = _
  rw [UInt32.toNat_mod]
  rfl
theorem pk_nc (x : Int32) : narrow .char (.int (x.toUInt32 % 65536).toInt32) = .int (x.toUInt32 % 65536).toInt32 := by
  rw [pk_char]
  exact (pk_charN (Nat.mod_lt _ (by decide))).1
theorem pk_fc (x : Int32) : fits .char (.int (x.toUInt32 % 65536).toInt32) = true := by
  rw [pk_char]
  exact (pk_charN (Nat.mod_lt _ (by decide))).2
theorem pk_vb (z : Int32) : vp_nar .byte z.toInt8.toInt32 = z.toInt8.toInt32 := by rw [vp_nar_byte]; simp
theorem pk_vs (z : Int32) : vp_nar .short z.toInt16.toInt32 = z.toInt16.toInt32 := by rw [vp_nar_short]; simp
theorem pk_vc (z : Int32) : vp_nar .char (z.toUInt32 % 65536).toInt32 = (z.toUInt32 % 65536).toInt32 := Value.int.inj (pk_nc z)
theorem pk_lT {n : Nat} (h : n < 2 ^ 63) : (lN n).toInt = (n : Int) := lg_ofNat_toInt h
theorem pk_lLT {a b : Nat} (ha : a < 2 ^ 63) (hb : b < 2 ^ 63) : lN a < lN b ↔ a < b := by
  rw [Int64.lt_iff_toInt_lt, pk_lT ha, pk_lT hb]; omega
theorem pk_lLE {a b : Nat} (ha : a < 2 ^ 63) (hb : b < 2 ^ 63) : lN a ≤ lN b ↔ a ≤ b := by
  rw [Int64.le_iff_toInt_le, pk_lT ha, pk_lT hb]; omega
theorem pk_lEQ {a b : Nat} (ha : a < 2 ^ 63) (hb : b < 2 ^ 63) : lN a = lN b ↔ a = b := by
  rw [← Int64.toInt_inj, pk_lT ha, pk_lT hb]; omega
theorem pk_lOf {x : Int64} (h : ¬ x < 0) : ∃ k : Nat, k < 2 ^ 63 ∧ x = lN k := by
  rw [Int64.lt_iff_toInt_lt] at h
  have h0 : (0 : Int64).toInt = 0 := by decide
  have hx := Int64.toInt_lt x
  refine ⟨x.toInt.toNat, by omega, Int64.toInt_inj.mp ?_⟩
  rw [pk_lT (by omega)]
  omega
theorem pk_lDiv {a b : Nat} (ha : a < 2 ^ 63) (h0 : 0 < b) (hb : b < 2 ^ 63) : lN a / lN b = lN (a / b) := by
  apply Int64.toInt_inj.mp
  rw [lg_ldiv_nonneg (by rw [pk_lT ha]; omega) (by rw [pk_lT hb]; omega), pk_lT ha, pk_lT hb, pk_lT (Nat.lt_of_le_of_lt (Nat.div_le_self a b) ha)]
  rfl
theorem pk_lRem {a b : Nat} (ha : a < 2 ^ 63) (h0 : 0 < b) (hb : b < 2 ^ 63) : lN a - lN a / lN b * lN b = lN (a % b) := by
  rw [pk_lDiv ha h0 hb, lN_mul, lN_sub (Nat.div_mul_le_self a b)]
  exact congrArg lN (by have := Nat.div_add_mod' a b; omega)
theorem pk_loop {σ : Type} (W : Nat → Nat → σ → Prop) (I : Nat → σ → Prop) (e i0 : Nat) (s : σ) (hi : i0 ≤ e) (h0 : I i0 s) (hx : ∀ n s, I e s → W (n + 1) e s)
    (hs : ∀ n i s, i < e → I i s → (∀ s', I (i + 1) s' → W n (i + 1) s') → W (n + 1) i s) : ∃ n, W n i0 s :=
  ⟨e + 1, loop_i W I e hx hs (e + 1) i0 s hi (by omega) h0⟩
theorem pk_loopD {σ : Type} (W : Nat → Nat → σ → Prop) (I : Nat → σ → Prop) (hx : ∀ n s, I 0 s → W (n + 1) 0 s)
    (hs : ∀ n i s, I (i + 1) s → (∀ s', I i s' → W n i s') → W (n + 1) (i + 1) s) : ∀ (e : Nat) (s : σ), I e s → W (e + 1) e s := by
  intro e
  induction e with
  | zero => exact fun s h => hx 0 s h
  | succ e ih => exact fun s h => hs (e + 1) e s h (fun s' h' => ih s' h')
theorem lp1 {A1 : Type} (W : Nat → A1 → Prop) (I : A1 → Prop) (μ : A1 → Nat) (hs : ∀ (n : Nat) (a1 : A1), I a1 → (∀ (b1 : A1), I b1 → μ b1 < μ a1 → W n b1) → W (n + 1) a1) (a1 : A1) (h : I a1) : ∃ n, W n a1 :=
  loop_m (σ := A1) (fun n s => W n s) (fun s => I s) (fun s => μ s) (fun n s hI hk => hs n s hI (fun b1 h9 hm => hk b1 h9 hm)) a1 h
theorem lp2 {A1 A2 : Type} (W : Nat → A1 → A2 → Prop) (I : A1 → A2 → Prop) (μ : A1 → A2 → Nat) (hs : ∀ (n : Nat) (a1 : A1) (a2 : A2), I a1 a2 → (∀ (b1 : A1) (b2 : A2), I b1 b2 → μ b1 b2 < μ a1 a2 → W n b1 b2) → W (n + 1) a1 a2) (a1 : A1) (a2 : A2) (h : I a1 a2) : ∃ n, W n a1 a2 :=
  loop_m (σ := A1 × A2) (fun n s => W n s.1 s.2) (fun s => I s.1 s.2) (fun s => μ s.1 s.2) (fun n s hI hk => hs n s.1 s.2 hI (fun b1 b2 h9 hm => hk (b1, b2) h9 hm)) (a1, a2) h
theorem lp3 {A1 A2 A3 : Type} (W : Nat → A1 → A2 → A3 → Prop) (I : A1 → A2 → A3 → Prop) (μ : A1 → A2 → A3 → Nat) (hs : ∀ (n : Nat) (a1 : A1) (a2 : A2) (a3 : A3), I a1 a2 a3 → (∀ (b1 : A1) (b2 : A2) (b3 : A3), I b1 b2 b3 → μ b1 b2 b3 < μ a1 a2 a3 → W n b1 b2 b3) → W (n + 1) a1 a2 a3) (a1 : A1) (a2 : A2) (a3 : A3) (h : I a1 a2 a3) : ∃ n, W n a1 a2 a3 :=
  loop_m (σ := A1 × A2 × A3) (fun n s => W n s.1 s.2.1 s.2.2) (fun s => I s.1 s.2.1 s.2.2) (fun s => μ s.1 s.2.1 s.2.2) (fun n s hI hk => hs n s.1 s.2.1 s.2.2 hI (fun b1 b2 b3 h9 hm => hk (b1, b2, b3) h9 hm)) (a1, a2, a3) h
theorem lp4 {A1 A2 A3 A4 : Type} (W : Nat → A1 → A2 → A3 → A4 → Prop) (I : A1 → A2 → A3 → A4 → Prop) (μ : A1 → A2 → A3 → A4 → Nat) (hs : ∀ (n : Nat) (a1 : A1) (a2 : A2) (a3 : A3) (a4 : A4), I a1 a2 a3 a4 → (∀ (b1 : A1) (b2 : A2) (b3 : A3) (b4 : A4), I b1 b2 b3 b4 → μ b1 b2 b3 b4 < μ a1 a2 a3 a4 → W n b1 b2 b3 b4) → W (n + 1) a1 a2 a3 a4) (a1 : A1) (a2 : A2) (a3 : A3) (a4 : A4) (h : I a1 a2 a3 a4) : ∃ n, W n a1 a2 a3 a4 :=
  loop_m (σ := A1 × A2 × A3 × A4) (fun n s => W n s.1 s.2.1 s.2.2.1 s.2.2.2) (fun s => I s.1 s.2.1 s.2.2.1 s.2.2.2) (fun s => μ s.1 s.2.1 s.2.2.1 s.2.2.2) (fun n s hI hk => hs n s.1 s.2.1 s.2.2.1 s.2.2.2 hI (fun b1 b2 b3 b4 h9 hm => hk (b1, b2, b3, b4) h9 hm)) (a1, a2, a3, a4) h
theorem lp5 {A1 A2 A3 A4 A5 : Type} (W : Nat → A1 → A2 → A3 → A4 → A5 → Prop) (I : A1 → A2 → A3 → A4 → A5 → Prop) (μ : A1 → A2 → A3 → A4 → A5 → Nat) (hs : ∀ (n : Nat) (a1 : A1) (a2 : A2) (a3 : A3) (a4 : A4) (a5 : A5), I a1 a2 a3 a4 a5 → (∀ (b1 : A1) (b2 : A2) (b3 : A3) (b4 : A4) (b5 : A5), I b1 b2 b3 b4 b5 → μ b1 b2 b3 b4 b5 < μ a1 a2 a3 a4 a5 → W n b1 b2 b3 b4 b5) → W (n + 1) a1 a2 a3 a4 a5) (a1 : A1) (a2 : A2) (a3 : A3) (a4 : A4) (a5 : A5) (h : I a1 a2 a3 a4 a5) : ∃ n, W n a1 a2 a3 a4 a5 :=
  loop_m (σ := A1 × A2 × A3 × A4 × A5) (fun n s => W n s.1 s.2.1 s.2.2.1 s.2.2.2.1 s.2.2.2.2) (fun s => I s.1 s.2.1 s.2.2.1 s.2.2.2.1 s.2.2.2.2) (fun s => μ s.1 s.2.1 s.2.2.1 s.2.2.2.1 s.2.2.2.2) (fun n s hI hk => hs n s.1 s.2.1 s.2.2.1 s.2.2.2.1 s.2.2.2.2 hI (fun b1 b2 b3 b4 b5 h9 hm => hk (b1, b2, b3, b4, b5) h9 hm)) (a1, a2, a3, a4, a5) h
theorem lp6 {A1 A2 A3 A4 A5 A6 : Type} (W : Nat → A1 → A2 → A3 → A4 → A5 → A6 → Prop) (I : A1 → A2 → A3 → A4 → A5 → A6 → Prop) (μ : A1 → A2 → A3 → A4 → A5 → A6 → Nat) (hs : ∀ (n : Nat) (a1 : A1) (a2 : A2) (a3 : A3) (a4 : A4) (a5 : A5) (a6 : A6), I a1 a2 a3 a4 a5 a6 → (∀ (b1 : A1) (b2 : A2) (b3 : A3) (b4 : A4) (b5 : A5) (b6 : A6), I b1 b2 b3 b4 b5 b6 → μ b1 b2 b3 b4 b5 b6 < μ a1 a2 a3 a4 a5 a6 → W n b1 b2 b3 b4 b5 b6) → W (n + 1) a1 a2 a3 a4 a5 a6) (a1 : A1) (a2 : A2) (a3 : A3) (a4 : A4) (a5 : A5) (a6 : A6) (h : I a1 a2 a3 a4 a5 a6) : ∃ n, W n a1 a2 a3 a4 a5 a6 :=
  loop_m (σ := A1 × A2 × A3 × A4 × A5 × A6) (fun n s => W n s.1 s.2.1 s.2.2.1 s.2.2.2.1 s.2.2.2.2.1 s.2.2.2.2.2) (fun s => I s.1 s.2.1 s.2.2.1 s.2.2.2.1 s.2.2.2.2.1 s.2.2.2.2.2) (fun s => μ s.1 s.2.1 s.2.2.1 s.2.2.2.1 s.2.2.2.2.1 s.2.2.2.2.2) (fun n s hI hk => hs n s.1 s.2.1 s.2.2.1 s.2.2.2.1 s.2.2.2.2.1 s.2.2.2.2.2 hI (fun b1 b2 b3 b4 b5 b6 h9 hm => hk (b1, b2, b3, b4, b5, b6) h9 hm)) (a1, a2, a3, a4, a5, a6) h
theorem lp7 {A1 A2 A3 A4 A5 A6 A7 : Type} (W : Nat → A1 → A2 → A3 → A4 → A5 → A6 → A7 → Prop) (I : A1 → A2 → A3 → A4 → A5 → A6 → A7 → Prop) (μ : A1 → A2 → A3 → A4 → A5 → A6 → A7 → Nat) (hs : ∀ (n : Nat) (a1 : A1) (a2 : A2) (a3 : A3) (a4 : A4) (a5 : A5) (a6 : A6) (a7 : A7), I a1 a2 a3 a4 a5 a6 a7 → (∀ (b1 : A1) (b2 : A2) (b3 : A3) (b4 : A4) (b5 : A5) (b6 : A6) (b7 : A7), I b1 b2 b3 b4 b5 b6 b7 → μ b1 b2 b3 b4 b5 b6 b7 < μ a1 a2 a3 a4 a5 a6 a7 → W n b1 b2 b3 b4 b5 b6 b7) → W (n + 1) a1 a2 a3 a4 a5 a6 a7) (a1 : A1) (a2 : A2) (a3 : A3) (a4 : A4) (a5 : A5) (a6 : A6) (a7 : A7) (h : I a1 a2 a3 a4 a5 a6 a7) : ∃ n, W n a1 a2 a3 a4 a5 a6 a7 :=
  loop_m (σ := A1 × A2 × A3 × A4 × A5 × A6 × A7) (fun n s => W n s.1 s.2.1 s.2.2.1 s.2.2.2.1 s.2.2.2.2.1 s.2.2.2.2.2.1 s.2.2.2.2.2.2) (fun s => I s.1 s.2.1 s.2.2.1 s.2.2.2.1 s.2.2.2.2.1 s.2.2.2.2.2.1 s.2.2.2.2.2.2) (fun s => μ s.1 s.2.1 s.2.2.1 s.2.2.2.1 s.2.2.2.2.1 s.2.2.2.2.2.1 s.2.2.2.2.2.2) (fun n s hI hk => hs n s.1 s.2.1 s.2.2.1 s.2.2.2.1 s.2.2.2.2.1 s.2.2.2.2.2.1 s.2.2.2.2.2.2 hI (fun b1 b2 b3 b4 b5 b6 b7 h9 hm => hk (b1, b2, b3, b4, b5, b6, b7) h9 hm)) (a1, a2, a3, a4, a5, a6, a7) h
theorem lp8 {A1 A2 A3 A4 A5 A6 A7 A8 : Type} (W : Nat → A1 → A2 → A3 → A4 → A5 → A6 → A7 → A8 → Prop) (I : A1 → A2 → A3 → A4 → A5 → A6 → A7 → A8 → Prop) (μ : A1 → A2 → A3 → A4 → A5 → A6 → A7 → A8 → Nat) (hs : ∀ (n : Nat) (a1 : A1) (a2 : A2) (a3 : A3) (a4 : A4) (a5 : A5) (a6 : A6) (a7 : A7) (a8 : A8), I a1 a2 a3 a4 a5 a6 a7 a8 → (∀ (b1 : A1) (b2 : A2) (b3 : A3) (b4 : A4) (b5 : A5) (b6 : A6) (b7 : A7) (b8 : A8), I b1 b2 b3 b4 b5 b6 b7 b8 → μ b1 b2 b3 b4 b5 b6 b7 b8 < μ a1 a2 a3 a4 a5 a6 a7 a8 → W n b1 b2 b3 b4 b5 b6 b7 b8) → W (n + 1) a1 a2 a3 a4 a5 a6 a7 a8) (a1 : A1) (a2 : A2) (a3 : A3) (a4 : A4) (a5 : A5) (a6 : A6) (a7 : A7) (a8 : A8) (h : I a1 a2 a3 a4 a5 a6 a7 a8) : ∃ n, W n a1 a2 a3 a4 a5 a6 a7 a8 :=
  loop_m (σ := A1 × A2 × A3 × A4 × A5 × A6 × A7 × A8) (fun n s => W n s.1 s.2.1 s.2.2.1 s.2.2.2.1 s.2.2.2.2.1 s.2.2.2.2.2.1 s.2.2.2.2.2.2.1 s.2.2.2.2.2.2.2) (fun s => I s.1 s.2.1 s.2.2.1 s.2.2.2.1 s.2.2.2.2.1 s.2.2.2.2.2.1 s.2.2.2.2.2.2.1 s.2.2.2.2.2.2.2) (fun s => μ s.1 s.2.1 s.2.2.1 s.2.2.2.1 s.2.2.2.2.1 s.2.2.2.2.2.1 s.2.2.2.2.2.2.1 s.2.2.2.2.2.2.2) (fun n s hI hk => hs n s.1 s.2.1 s.2.2.1 s.2.2.2.1 s.2.2.2.2.1 s.2.2.2.2.2.1 s.2.2.2.2.2.2.1 s.2.2.2.2.2.2.2 hI (fun b1 b2 b3 b4 b5 b6 b7 b8 h9 hm => hk (b1, b2, b3, b4, b5, b6, b7, b8) h9 hm)) (a1, a2, a3, a4, a5, a6, a7, a8) h
theorem lp9 {A1 A2 A3 A4 A5 A6 A7 A8 A9 : Type} (W : Nat → A1 → A2 → A3 → A4 → A5 → A6 → A7 → A8 → A9 → Prop) (I : A1 → A2 → A3 → A4 → A5 → A6 → A7 → A8 → A9 → Prop) (μ : A1 → A2 → A3 → A4 → A5 → A6 → A7 → A8 → A9 → Nat) (hs : ∀ (n : Nat) (a1 : A1) (a2 : A2) (a3 : A3) (a4 : A4) (a5 : A5) (a6 : A6) (a7 : A7) (a8 : A8) (a9 : A9), I a1 a2 a3 a4 a5 a6 a7 a8 a9 → (∀ (b1 : A1) (b2 : A2) (b3 : A3) (b4 : A4) (b5 : A5) (b6 : A6) (b7 : A7) (b8 : A8) (b9 : A9), I b1 b2 b3 b4 b5 b6 b7 b8 b9 → μ b1 b2 b3 b4 b5 b6 b7 b8 b9 < μ a1 a2 a3 a4 a5 a6 a7 a8 a9 → W n b1 b2 b3 b4 b5 b6 b7 b8 b9) → W (n + 1) a1 a2 a3 a4 a5 a6 a7 a8 a9) (a1 : A1) (a2 : A2) (a3 : A3) (a4 : A4) (a5 : A5) (a6 : A6) (a7 : A7) (a8 : A8) (a9 : A9) (h : I a1 a2 a3 a4 a5 a6 a7 a8 a9) : ∃ n, W n a1 a2 a3 a4 a5 a6 a7 a8 a9 :=
  loop_m (σ := A1 × A2 × A3 × A4 × A5 × A6 × A7 × A8 × A9) (fun n s => W n s.1 s.2.1 s.2.2.1 s.2.2.2.1 s.2.2.2.2.1 s.2.2.2.2.2.1 s.2.2.2.2.2.2.1 s.2.2.2.2.2.2.2.1 s.2.2.2.2.2.2.2.2) (fun s => I s.1 s.2.1 s.2.2.1 s.2.2.2.1 s.2.2.2.2.1 s.2.2.2.2.2.1 s.2.2.2.2.2.2.1 s.2.2.2.2.2.2.2.1 s.2.2.2.2.2.2.2.2) (fun s => μ s.1 s.2.1 s.2.2.1 s.2.2.2.1 s.2.2.2.2.1 s.2.2.2.2.2.1 s.2.2.2.2.2.2.1 s.2.2.2.2.2.2.2.1 s.2.2.2.2.2.2.2.2) (fun n s hI hk => hs n s.1 s.2.1 s.2.2.1 s.2.2.2.1 s.2.2.2.2.1 s.2.2.2.2.2.1 s.2.2.2.2.2.2.1 s.2.2.2.2.2.2.2.1 s.2.2.2.2.2.2.2.2 hI (fun b1 b2 b3 b4 b5 b6 b7 b8 b9 h9 hm => hk (b1, b2, b3, b4, b5, b6, b7, b8, b9) h9 hm)) (a1, a2, a3, a4, a5, a6, a7, a8, a9) h
theorem lp10 {A1 A2 A3 A4 A5 A6 A7 A8 A9 A10 : Type} (W : Nat → A1 → A2 → A3 → A4 → A5 → A6 → A7 → A8 → A9 → A10 → Prop) (I : A1 → A2 → A3 → A4 → A5 → A6 → A7 → A8 → A9 → A10 → Prop) (μ : A1 → A2 → A3 → A4 → A5 → A6 → A7 → A8 → A9 → A10 → Nat) (hs : ∀ (n : Nat) (a1 : A1) (a2 : A2) (a3 : A3) (a4 : A4) (a5 : A5) (a6 : A6) (a7 : A7) (a8 : A8) (a9 : A9) (a10 : A10), I a1 a2 a3 a4 a5 a6 a7 a8 a9 a10 → (∀ (b1 : A1) (b2 : A2) (b3 : A3) (b4 : A4) (b5 : A5) (b6 : A6) (b7 : A7) (b8 : A8) (b9 : A9) (b10 : A10), I b1 b2 b3 b4 b5 b6 b7 b8 b9 b10 → μ b1 b2 b3 b4 b5 b6 b7 b8 b9 b10 < μ a1 a2 a3 a4 a5 a6 a7 a8 a9 a10 → W n b1 b2 b3 b4 b5 b6 b7 b8 b9 b10) → W (n + 1) a1 a2 a3 a4 a5 a6 a7 a8 a9 a10) (a1 : A1) (a2 : A2) (a3 : A3) (a4 : A4) (a5 : A5) (a6 : A6) (a7 : A7) (a8 : A8) (a9 : A9) (a10 : A10) (h : I a1 a2 a3 a4 a5 a6 a7 a8 a9 a10) : ∃ n, W n a1 a2 a3 a4 a5 a6 a7 a8 a9 a10 :=
  loop_m (σ := A1 × A2 × A3 × A4 × A5 × A6 × A7 × A8 × A9 × A10) (fun n s => W n s.1 s.2.1 s.2.2.1 s.2.2.2.1 s.2.2.2.2.1 s.2.2.2.2.2.1 s.2.2.2.2.2.2.1 s.2.2.2.2.2.2.2.1 s.2.2.2.2.2.2.2.2.1 s.2.2.2.2.2.2.2.2.2) (fun s => I s.1 s.2.1 s.2.2.1 s.2.2.2.1 s.2.2.2.2.1 s.2.2.2.2.2.1 s.2.2.2.2.2.2.1 s.2.2.2.2.2.2.2.1 s.2.2.2.2.2.2.2.2.1 s.2.2.2.2.2.2.2.2.2) (fun s => μ s.1 s.2.1 s.2.2.1 s.2.2.2.1 s.2.2.2.2.1 s.2.2.2.2.2.1 s.2.2.2.2.2.2.1 s.2.2.2.2.2.2.2.1 s.2.2.2.2.2.2.2.2.1 s.2.2.2.2.2.2.2.2.2) (fun n s hI hk => hs n s.1 s.2.1 s.2.2.1 s.2.2.2.1 s.2.2.2.2.1 s.2.2.2.2.2.1 s.2.2.2.2.2.2.1 s.2.2.2.2.2.2.2.1 s.2.2.2.2.2.2.2.2.1 s.2.2.2.2.2.2.2.2.2 hI (fun b1 b2 b3 b4 b5 b6 b7 b8 b9 b10 h9 hm => hk (b1, b2, b3, b4, b5, b6, b7, b8, b9, b10) h9 hm)) (a1, a2, a3, a4, a5, a6, a7, a8, a9, a10) h
theorem lp11 {A1 A2 A3 A4 A5 A6 A7 A8 A9 A10 A11 : Type} (W : Nat → A1 → A2 → A3 → A4 → A5 → A6 → A7 → A8 → A9 → A10 → A11 → Prop) (I : A1 → A2 → A3 → A4 → A5 → A6 → A7 → A8 → A9 → A10 → A11 → Prop) (μ : A1 → A2 → A3 → A4 → A5 → A6 → A7 → A8 → A9 → A10 → A11 → Nat) (hs : ∀ (n : Nat) (a1 : A1) (a2 : A2) (a3 : A3) (a4 : A4) (a5 : A5) (a6 : A6) (a7 : A7) (a8 : A8) (a9 : A9) (a10 : A10) (a11 : A11), I a1 a2 a3 a4 a5 a6 a7 a8 a9 a10 a11 → (∀ (b1 : A1) (b2 : A2) (b3 : A3) (b4 : A4) (b5 : A5) (b6 : A6) (b7 : A7) (b8 : A8) (b9 : A9) (b10 : A10) (b11 : A11), I b1 b2 b3 b4 b5 b6 b7 b8 b9 b10 b11 → μ b1 b2 b3 b4 b5 b6 b7 b8 b9 b10 b11 < μ a1 a2 a3 a4 a5 a6 a7 a8 a9 a10 a11 → W n b1 b2 b3 b4 b5 b6 b7 b8 b9 b10 b11) → W (n + 1) a1 a2 a3 a4 a5 a6 a7 a8 a9 a10 a11) (a1 : A1) (a2 : A2) (a3 : A3) (a4 : A4) (a5 : A5) (a6 : A6) (a7 : A7) (a8 : A8) (a9 : A9) (a10 : A10) (a11 : A11) (h : I a1 a2 a3 a4 a5 a6 a7 a8 a9 a10 a11) : ∃ n, W n a1 a2 a3 a4 a5 a6 a7 a8 a9 a10 a11 :=
  loop_m (σ := A1 × A2 × A3 × A4 × A5 × A6 × A7 × A8 × A9 × A10 × A11) (fun n s => W n s.1 s.2.1 s.2.2.1 s.2.2.2.1 s.2.2.2.2.1 s.2.2.2.2.2.1 s.2.2.2.2.2.2.1 s.2.2.2.2.2.2.2.1 s.2.2.2.2.2.2.2.2.1 s.2.2.2.2.2.2.2.2.2.1 s.2.2.2.2.2.2.2.2.2.2) (fun s => I s.1 s.2.1 s.2.2.1 s.2.2.2.1 s.2.2.2.2.1 s.2.2.2.2.2.1 s.2.2.2.2.2.2.1 s.2.2.2.2.2.2.2.1 s.2.2.2.2.2.2.2.2.1 s.2.2.2.2.2.2.2.2.2.1 s.2.2.2.2.2.2.2.2.2.2) (fun s => μ s.1 s.2.1 s.2.2.1 s.2.2.2.1 s.2.2.2.2.1 s.2.2.2.2.2.1 s.2.2.2.2.2.2.1 s.2.2.2.2.2.2.2.1 s.2.2.2.2.2.2.2.2.1 s.2.2.2.2.2.2.2.2.2.1 s.2.2.2.2.2.2.2.2.2.2) (fun n s hI hk => hs n s.1 s.2.1 s.2.2.1 s.2.2.2.1 s.2.2.2.2.1 s.2.2.2.2.2.1 s.2.2.2.2.2.2.1 s.2.2.2.2.2.2.2.1 s.2.2.2.2.2.2.2.2.1 s.2.2.2.2.2.2.2.2.2.1 s.2.2.2.2.2.2.2.2.2.2 hI (fun b1 b2 b3 b4 b5 b6 b7 b8 b9 b10 b11 h9 hm => hk (b1, b2, b3, b4, b5, b6, b7, b8, b9, b10, b11) h9 hm)) (a1, a2, a3, a4, a5, a6, a7, a8, a9, a10, a11) h
theorem lp12 {A1 A2 A3 A4 A5 A6 A7 A8 A9 A10 A11 A12 : Type} (W : Nat → A1 → A2 → A3 → A4 → A5 → A6 → A7 → A8 → A9 → A10 → A11 → A12 → Prop) (I : A1 → A2 → A3 → A4 → A5 → A6 → A7 → A8 → A9 → A10 → A11 → A12 → Prop) (μ : A1 → A2 → A3 → A4 → A5 → A6 → A7 → A8 → A9 → A10 → A11 → A12 → Nat) (hs : ∀ (n : Nat) (a1 : A1) (a2 : A2) (a3 : A3) (a4 : A4) (a5 : A5) (a6 : A6) (a7 : A7) (a8 : A8) (a9 : A9) (a10 : A10) (a11 : A11) (a12 : A12), I a1 a2 a3 a4 a5 a6 a7 a8 a9 a10 a11 a12 → (∀ (b1 : A1) (b2 : A2) (b3 : A3) (b4 : A4) (b5 : A5) (b6 : A6) (b7 : A7) (b8 : A8) (b9 : A9) (b10 : A10) (b11 : A11) (b12 : A12), I b1 b2 b3 b4 b5 b6 b7 b8 b9 b10 b11 b12 → μ b1 b2 b3 b4 b5 b6 b7 b8 b9 b10 b11 b12 < μ a1 a2 a3 a4 a5 a6 a7 a8 a9 a10 a11 a12 → W n b1 b2 b3 b4 b5 b6 b7 b8 b9 b10 b11 b12) → W (n + 1) a1 a2 a3 a4 a5 a6 a7 a8 a9 a10 a11 a12) (a1 : A1) (a2 : A2) (a3 : A3) (a4 : A4) (a5 : A5) (a6 : A6) (a7 : A7) (a8 : A8) (a9 : A9) (a10 : A10) (a11 : A11) (a12 : A12) (h : I a1 a2 a3 a4 a5 a6 a7 a8 a9 a10 a11 a12) : ∃ n, W n a1 a2 a3 a4 a5 a6 a7 a8 a9 a10 a11 a12 :=
  loop_m (σ := A1 × A2 × A3 × A4 × A5 × A6 × A7 × A8 × A9 × A10 × A11 × A12) (fun n s => W n s.1 s.2.1 s.2.2.1 s.2.2.2.1 s.2.2.2.2.1 s.2.2.2.2.2.1 s.2.2.2.2.2.2.1 s.2.2.2.2.2.2.2.1 s.2.2.2.2.2.2.2.2.1 s.2.2.2.2.2.2.2.2.2.1 s.2.2.2.2.2.2.2.2.2.2.1 s.2.2.2.2.2.2.2.2.2.2.2) (fun s => I s.1 s.2.1 s.2.2.1 s.2.2.2.1 s.2.2.2.2.1 s.2.2.2.2.2.1 s.2.2.2.2.2.2.1 s.2.2.2.2.2.2.2.1 s.2.2.2.2.2.2.2.2.1 s.2.2.2.2.2.2.2.2.2.1 s.2.2.2.2.2.2.2.2.2.2.1 s.2.2.2.2.2.2.2.2.2.2.2) (fun s => μ s.1 s.2.1 s.2.2.1 s.2.2.2.1 s.2.2.2.2.1 s.2.2.2.2.2.1 s.2.2.2.2.2.2.1 s.2.2.2.2.2.2.2.1 s.2.2.2.2.2.2.2.2.1 s.2.2.2.2.2.2.2.2.2.1 s.2.2.2.2.2.2.2.2.2.2.1 s.2.2.2.2.2.2.2.2.2.2.2) (fun n s hI hk => hs n s.1 s.2.1 s.2.2.1 s.2.2.2.1 s.2.2.2.2.1 s.2.2.2.2.2.1 s.2.2.2.2.2.2.1 s.2.2.2.2.2.2.2.1 s.2.2.2.2.2.2.2.2.1 s.2.2.2.2.2.2.2.2.2.1 s.2.2.2.2.2.2.2.2.2.2.1 s.2.2.2.2.2.2.2.2.2.2.2 hI (fun b1 b2 b3 b4 b5 b6 b7 b8 b9 b10 b11 b12 h9 hm => hk (b1, b2, b3, b4, b5, b6, b7, b8, b9, b10, b11, b12) h9 hm)) (a1, a2, a3, a4, a5, a6, a7, a8, a9, a10, a11, a12) h
theorem lp13 {A1 A2 A3 A4 A5 A6 A7 A8 A9 A10 A11 A12 A13 : Type} (W : Nat → A1 → A2 → A3 → A4 → A5 → A6 → A7 → A8 → A9 → A10 → A11 → A12 → A13 → Prop) (I : A1 → A2 → A3 → A4 → A5 → A6 → A7 → A8 → A9 → A10 → A11 → A12 → A13 → Prop) (μ : A1 → A2 → A3 → A4 → A5 → A6 → A7 → A8 → A9 → A10 → A11 → A12 → A13 → Nat) (hs : ∀ (n : Nat) (a1 : A1) (a2 : A2) (a3 : A3) (a4 : A4) (a5 : A5) (a6 : A6) (a7 : A7) (a8 : A8) (a9 : A9) (a10 : A10) (a11 : A11) (a12 : A12) (a13 : A13), I a1 a2 a3 a4 a5 a6 a7 a8 a9 a10 a11 a12 a13 → (∀ (b1 : A1) (b2 : A2) (b3 : A3) (b4 : A4) (b5 : A5) (b6 : A6) (b7 : A7) (b8 : A8) (b9 : A9) (b10 : A10) (b11 : A11) (b12 : A12) (b13 : A13), I b1 b2 b3 b4 b5 b6 b7 b8 b9 b10 b11 b12 b13 → μ b1 b2 b3 b4 b5 b6 b7 b8 b9 b10 b11 b12 b13 < μ a1 a2 a3 a4 a5 a6 a7 a8 a9 a10 a11 a12 a13 → W n b1 b2 b3 b4 b5 b6 b7 b8 b9 b10 b11 b12 b13) → W (n + 1) a1 a2 a3 a4 a5 a6 a7 a8 a9 a10 a11 a12 a13) (a1 : A1) (a2 : A2) (a3 : A3) (a4 : A4) (a5 : A5) (a6 : A6) (a7 : A7) (a8 : A8) (a9 : A9) (a10 : A10) (a11 : A11) (a12 : A12) (a13 : A13) (h : I a1 a2 a3 a4 a5 a6 a7 a8 a9 a10 a11 a12 a13) : ∃ n, W n a1 a2 a3 a4 a5 a6 a7 a8 a9 a10 a11 a12 a13 :=
  loop_m (σ := A1 × A2 × A3 × A4 × A5 × A6 × A7 × A8 × A9 × A10 × A11 × A12 × A13) (fun n s => W n s.1 s.2.1 s.2.2.1 s.2.2.2.1 s.2.2.2.2.1 s.2.2.2.2.2.1 s.2.2.2.2.2.2.1 s.2.2.2.2.2.2.2.1 s.2.2.2.2.2.2.2.2.1 s.2.2.2.2.2.2.2.2.2.1 s.2.2.2.2.2.2.2.2.2.2.1 s.2.2.2.2.2.2.2.2.2.2.2.1 s.2.2.2.2.2.2.2.2.2.2.2.2) (fun s => I s.1 s.2.1 s.2.2.1 s.2.2.2.1 s.2.2.2.2.1 s.2.2.2.2.2.1 s.2.2.2.2.2.2.1 s.2.2.2.2.2.2.2.1 s.2.2.2.2.2.2.2.2.1 s.2.2.2.2.2.2.2.2.2.1 s.2.2.2.2.2.2.2.2.2.2.1 s.2.2.2.2.2.2.2.2.2.2.2.1 s.2.2.2.2.2.2.2.2.2.2.2.2) (fun s => μ s.1 s.2.1 s.2.2.1 s.2.2.2.1 s.2.2.2.2.1 s.2.2.2.2.2.1 s.2.2.2.2.2.2.1 s.2.2.2.2.2.2.2.1 s.2.2.2.2.2.2.2.2.1 s.2.2.2.2.2.2.2.2.2.1 s.2.2.2.2.2.2.2.2.2.2.1 s.2.2.2.2.2.2.2.2.2.2.2.1 s.2.2.2.2.2.2.2.2.2.2.2.2) (fun n s hI hk => hs n s.1 s.2.1 s.2.2.1 s.2.2.2.1 s.2.2.2.2.1 s.2.2.2.2.2.1 s.2.2.2.2.2.2.1 s.2.2.2.2.2.2.2.1 s.2.2.2.2.2.2.2.2.1 s.2.2.2.2.2.2.2.2.2.1 s.2.2.2.2.2.2.2.2.2.2.1 s.2.2.2.2.2.2.2.2.2.2.2.1 s.2.2.2.2.2.2.2.2.2.2.2.2 hI (fun b1 b2 b3 b4 b5 b6 b7 b8 b9 b10 b11 b12 b13 h9 hm => hk (b1, b2, b3, b4, b5, b6, b7, b8, b9, b10, b11, b12, b13) h9 hm)) (a1, a2, a3, a4, a5, a6, a7, a8, a9, a10, a11, a12, a13) h
theorem lp14 {A1 A2 A3 A4 A5 A6 A7 A8 A9 A10 A11 A12 A13 A14 : Type} (W : Nat → A1 → A2 → A3 → A4 → A5 → A6 → A7 → A8 → A9 → A10 → A11 → A12 → A13 → A14 → Prop) (I : A1 → A2 → A3 → A4 → A5 → A6 → A7 → A8 → A9 → A10 → A11 → A12 → A13 → A14 → Prop) (μ : A1 → A2 → A3 → A4 → A5 → A6 → A7 → A8 → A9 → A10 → A11 → A12 → A13 → A14 → Nat) (hs : ∀ (n : Nat) (a1 : A1) (a2 : A2) (a3 : A3) (a4 : A4) (a5 : A5) (a6 : A6) (a7 : A7) (a8 : A8) (a9 : A9) (a10 : A10) (a11 : A11) (a12 : A12) (a13 : A13) (a14 : A14), I a1 a2 a3 a4 a5 a6 a7 a8 a9 a10 a11 a12 a13 a14 → (∀ (b1 : A1) (b2 : A2) (b3 : A3) (b4 : A4) (b5 : A5) (b6 : A6) (b7 : A7) (b8 : A8) (b9 : A9) (b10 : A10) (b11 : A11) (b12 : A12) (b13 : A13) (b14 : A14), I b1 b2 b3 b4 b5 b6 b7 b8 b9 b10 b11 b12 b13 b14 → μ b1 b2 b3 b4 b5 b6 b7 b8 b9 b10 b11 b12 b13 b14 < μ a1 a2 a3 a4 a5 a6 a7 a8 a9 a10 a11 a12 a13 a14 → W n b1 b2 b3 b4 b5 b6 b7 b8 b9 b10 b11 b12 b13 b14) → W (n + 1) a1 a2 a3 a4 a5 a6 a7 a8 a9 a10 a11 a12 a13 a14) (a1 : A1) (a2 : A2) (a3 : A3) (a4 : A4) (a5 : A5) (a6 : A6) (a7 : A7) (a8 : A8) (a9 : A9) (a10 : A10) (a11 : A11) (a12 : A12) (a13 : A13) (a14 : A14) (h : I a1 a2 a3 a4 a5 a6 a7 a8 a9 a10 a11 a12 a13 a14) : ∃ n, W n a1 a2 a3 a4 a5 a6 a7 a8 a9 a10 a11 a12 a13 a14 :=
  loop_m (σ := A1 × A2 × A3 × A4 × A5 × A6 × A7 × A8 × A9 × A10 × A11 × A12 × A13 × A14) (fun n s => W n s.1 s.2.1 s.2.2.1 s.2.2.2.1 s.2.2.2.2.1 s.2.2.2.2.2.1 s.2.2.2.2.2.2.1 s.2.2.2.2.2.2.2.1 s.2.2.2.2.2.2.2.2.1 s.2.2.2.2.2.2.2.2.2.1 s.2.2.2.2.2.2.2.2.2.2.1 s.2.2.2.2.2.2.2.2.2.2.2.1 s.2.2.2.2.2.2.2.2.2.2.2.2.1 s.2.2.2.2.2.2.2.2.2.2.2.2.2) (fun s => I s.1 s.2.1 s.2.2.1 s.2.2.2.1 s.2.2.2.2.1 s.2.2.2.2.2.1 s.2.2.2.2.2.2.1 s.2.2.2.2.2.2.2.1 s.2.2.2.2.2.2.2.2.1 s.2.2.2.2.2.2.2.2.2.1 s.2.2.2.2.2.2.2.2.2.2.1 s.2.2.2.2.2.2.2.2.2.2.2.1 s.2.2.2.2.2.2.2.2.2.2.2.2.1 s.2.2.2.2.2.2.2.2.2.2.2.2.2) (fun s => μ s.1 s.2.1 s.2.2.1 s.2.2.2.1 s.2.2.2.2.1 s.2.2.2.2.2.1 s.2.2.2.2.2.2.1 s.2.2.2.2.2.2.2.1 s.2.2.2.2.2.2.2.2.1 s.2.2.2.2.2.2.2.2.2.1 s.2.2.2.2.2.2.2.2.2.2.1 s.2.2.2.2.2.2.2.2.2.2.2.1 s.2.2.2.2.2.2.2.2.2.2.2.2.1 s.2.2.2.2.2.2.2.2.2.2.2.2.2) (fun n s hI hk => hs n s.1 s.2.1 s.2.2.1 s.2.2.2.1 s.2.2.2.2.1 s.2.2.2.2.2.1 s.2.2.2.2.2.2.1 s.2.2.2.2.2.2.2.1 s.2.2.2.2.2.2.2.2.1 s.2.2.2.2.2.2.2.2.2.1 s.2.2.2.2.2.2.2.2.2.2.1 s.2.2.2.2.2.2.2.2.2.2.2.1 s.2.2.2.2.2.2.2.2.2.2.2.2.1 s.2.2.2.2.2.2.2.2.2.2.2.2.2 hI (fun b1 b2 b3 b4 b5 b6 b7 b8 b9 b10 b11 b12 b13 b14 h9 hm => hk (b1, b2, b3, b4, b5, b6, b7, b8, b9, b10, b11, b12, b13, b14) h9 hm)) (a1, a2, a3, a4, a5, a6, a7, a8, a9, a10, a11, a12, a13, a14) h
theorem lp15 {A1 A2 A3 A4 A5 A6 A7 A8 A9 A10 A11 A12 A13 A14 A15 : Type} (W : Nat → A1 → A2 → A3 → A4 → A5 → A6 → A7 → A8 → A9 → A10 → A11 → A12 → A13 → A14 → A15 → Prop) (I : A1 → A2 → A3 → A4 → A5 → A6 → A7 → A8 → A9 → A10 → A11 → A12 → A13 → A14 → A15 → Prop) (μ : A1 → A2 → A3 → A4 → A5 → A6 → A7 → A8 → A9 → A10 → A11 → A12 → A13 → A14 → A15 → Nat) (hs : ∀ (n : Nat) (a1 : A1) (a2 : A2) (a3 : A3) (a4 : A4) (a5 : A5) (a6 : A6) (a7 : A7) (a8 : A8) (a9 : A9) (a10 : A10) (a11 : A11) (a12 : A12) (a13 : A13) (a14 : A14) (a15 : A15), I a1 a2 a3 a4 a5 a6 a7 a8 a9 a10 a11 a12 a13 a14 a15 → (∀ (b1 : A1) (b2 : A2) (b3 : A3) (b4 : A4) (b5 : A5) (b6 : A6) (b7 : A7) (b8 : A8) (b9 : A9) (b10 : A10) (b11 : A11) (b12 : A12) (b13 : A13) (b14 : A14) (b15 : A15), I b1 b2 b3 b4 b5 b6 b7 b8 b9 b10 b11 b12 b13 b14 b15 → μ b1 b2 b3 b4 b5 b6 b7 b8 b9 b10 b11 b12 b13 b14 b15 < μ a1 a2 a3 a4 a5 a6 a7 a8 a9 a10 a11 a12 a13 a14 a15 → W n b1 b2 b3 b4 b5 b6 b7 b8 b9 b10 b11 b12 b13 b14 b15) → W (n + 1) a1 a2 a3 a4 a5 a6 a7 a8 a9 a10 a11 a12 a13 a14 a15) (a1 : A1) (a2 : A2) (a3 : A3) (a4 : A4) (a5 : A5) (a6 : A6) (a7 : A7) (a8 : A8) (a9 : A9) (a10 : A10) (a11 : A11) (a12 : A12) (a13 : A13) (a14 : A14) (a15 : A15) (h : I a1 a2 a3 a4 a5 a6 a7 a8 a9 a10 a11 a12 a13 a14 a15) : ∃ n, W n a1 a2 a3 a4 a5 a6 a7 a8 a9 a10 a11 a12 a13 a14 a15 :=
  loop_m (σ := A1 × A2 × A3 × A4 × A5 × A6 × A7 × A8 × A9 × A10 × A11 × A12 × A13 × A14 × A15) (fun n s => W n s.1 s.2.1 s.2.2.1 s.2.2.2.1 s.2.2.2.2.1 s.2.2.2.2.2.1 s.2.2.2.2.2.2.1 s.2.2.2.2.2.2.2.1 s.2.2.2.2.2.2.2.2.1 s.2.2.2.2.2.2.2.2.2.1 s.2.2.2.2.2.2.2.2.2.2.1 s.2.2.2.2.2.2.2.2.2.2.2.1 s.2.2.2.2.2.2.2.2.2.2.2.2.1 s.2.2.2.2.2.2.2.2.2.2.2.2.2.1 s.2.2.2.2.2.2.2.2.2.2.2.2.2.2) (fun s => I s.1 s.2.1 s.2.2.1 s.2.2.2.1 s.2.2.2.2.1 s.2.2.2.2.2.1 s.2.2.2.2.2.2.1 s.2.2.2.2.2.2.2.1 s.2.2.2.2.2.2.2.2.1 s.2.2.2.2.2.2.2.2.2.1 s.2.2.2.2.2.2.2.2.2.2.1 s.2.2.2.2.2.2.2.2.2.2.2.1 s.2.2.2.2.2.2.2.2.2.2.2.2.1 s.2.2.2.2.2.2.2.2.2.2.2.2.2.1 s.2.2.2.2.2.2.2.2.2.2.2.2.2.2) (fun s => μ s.1 s.2.1 s.2.2.1 s.2.2.2.1 s.2.2.2.2.1 s.2.2.2.2.2.1 s.2.2.2.2.2.2.1 s.2.2.2.2.2.2.2.1 s.2.2.2.2.2.2.2.2.1 s.2.2.2.2.2.2.2.2.2.1 s.2.2.2.2.2.2.2.2.2.2.1 s.2.2.2.2.2.2.2.2.2.2.2.1 s.2.2.2.2.2.2.2.2.2.2.2.2.1 s.2.2.2.2.2.2.2.2.2.2.2.2.2.1 s.2.2.2.2.2.2.2.2.2.2.2.2.2.2) (fun n s hI hk => hs n s.1 s.2.1 s.2.2.1 s.2.2.2.1 s.2.2.2.2.1 s.2.2.2.2.2.1 s.2.2.2.2.2.2.1 s.2.2.2.2.2.2.2.1 s.2.2.2.2.2.2.2.2.1 s.2.2.2.2.2.2.2.2.2.1 s.2.2.2.2.2.2.2.2.2.2.1 s.2.2.2.2.2.2.2.2.2.2.2.1 s.2.2.2.2.2.2.2.2.2.2.2.2.1 s.2.2.2.2.2.2.2.2.2.2.2.2.2.1 s.2.2.2.2.2.2.2.2.2.2.2.2.2.2 hI (fun b1 b2 b3 b4 b5 b6 b7 b8 b9 b10 b11 b12 b13 b14 b15 h9 hm => hk (b1, b2, b3, b4, b5, b6, b7, b8, b9, b10, b11, b12, b13, b14, b15) h9 hm)) (a1, a2, a3, a4, a5, a6, a7, a8, a9, a10, a11, a12, a13, a14, a15) h
theorem lp16 {A1 A2 A3 A4 A5 A6 A7 A8 A9 A10 A11 A12 A13 A14 A15 A16 : Type} (W : Nat → A1 → A2 → A3 → A4 → A5 → A6 → A7 → A8 → A9 → A10 → A11 → A12 → A13 → A14 → A15 → A16 → Prop) (I : A1 → A2 → A3 → A4 → A5 → A6 → A7 → A8 → A9 → A10 → A11 → A12 → A13 → A14 → A15 → A16 → Prop) (μ : A1 → A2 → A3 → A4 → A5 → A6 → A7 → A8 → A9 → A10 → A11 → A12 → A13 → A14 → A15 → A16 → Nat) (hs : ∀ (n : Nat) (a1 : A1) (a2 : A2) (a3 : A3) (a4 : A4) (a5 : A5) (a6 : A6) (a7 : A7) (a8 : A8) (a9 : A9) (a10 : A10) (a11 : A11) (a12 : A12) (a13 : A13) (a14 : A14) (a15 : A15) (a16 : A16), I a1 a2 a3 a4 a5 a6 a7 a8 a9 a10 a11 a12 a13 a14 a15 a16 → (∀ (b1 : A1) (b2 : A2) (b3 : A3) (b4 : A4) (b5 : A5) (b6 : A6) (b7 : A7) (b8 : A8) (b9 : A9) (b10 : A10) (b11 : A11) (b12 : A12) (b13 : A13) (b14 : A14) (b15 : A15) (b16 : A16), I b1 b2 b3 b4 b5 b6 b7 b8 b9 b10 b11 b12 b13 b14 b15 b16 → μ b1 b2 b3 b4 b5 b6 b7 b8 b9 b10 b11 b12 b13 b14 b15 b16 < μ a1 a2 a3 a4 a5 a6 a7 a8 a9 a10 a11 a12 a13 a14 a15 a16 → W n b1 b2 b3 b4 b5 b6 b7 b8 b9 b10 b11 b12 b13 b14 b15 b16) → W (n + 1) a1 a2 a3 a4 a5 a6 a7 a8 a9 a10 a11 a12 a13 a14 a15 a16) (a1 : A1) (a2 : A2) (a3 : A3) (a4 : A4) (a5 : A5) (a6 : A6) (a7 : A7) (a8 : A8) (a9 : A9) (a10 : A10) (a11 : A11) (a12 : A12) (a13 : A13) (a14 : A14) (a15 : A15) (a16 : A16) (h : I a1 a2 a3 a4 a5 a6 a7 a8 a9 a10 a11 a12 a13 a14 a15 a16) : ∃ n, W n a1 a2 a3 a4 a5 a6 a7 a8 a9 a10 a11 a12 a13 a14 a15 a16 :=
  loop_m (σ := A1 × A2 × A3 × A4 × A5 × A6 × A7 × A8 × A9 × A10 × A11 × A12 × A13 × A14 × A15 × A16) (fun n s => W n s.1 s.2.1 s.2.2.1 s.2.2.2.1 s.2.2.2.2.1 s.2.2.2.2.2.1 s.2.2.2.2.2.2.1 s.2.2.2.2.2.2.2.1 s.2.2.2.2.2.2.2.2.1 s.2.2.2.2.2.2.2.2.2.1 s.2.2.2.2.2.2.2.2.2.2.1 s.2.2.2.2.2.2.2.2.2.2.2.1 s.2.2.2.2.2.2.2.2.2.2.2.2.1 s.2.2.2.2.2.2.2.2.2.2.2.2.2.1 s.2.2.2.2.2.2.2.2.2.2.2.2.2.2.1 s.2.2.2.2.2.2.2.2.2.2.2.2.2.2.2) (fun s => I s.1 s.2.1 s.2.2.1 s.2.2.2.1 s.2.2.2.2.1 s.2.2.2.2.2.1 s.2.2.2.2.2.2.1 s.2.2.2.2.2.2.2.1 s.2.2.2.2.2.2.2.2.1 s.2.2.2.2.2.2.2.2.2.1 s.2.2.2.2.2.2.2.2.2.2.1 s.2.2.2.2.2.2.2.2.2.2.2.1 s.2.2.2.2.2.2.2.2.2.2.2.2.1 s.2.2.2.2.2.2.2.2.2.2.2.2.2.1 s.2.2.2.2.2.2.2.2.2.2.2.2.2.2.1 s.2.2.2.2.2.2.2.2.2.2.2.2.2.2.2) (fun s => μ s.1 s.2.1 s.2.2.1 s.2.2.2.1 s.2.2.2.2.1 s.2.2.2.2.2.1 s.2.2.2.2.2.2.1 s.2.2.2.2.2.2.2.1 s.2.2.2.2.2.2.2.2.1 s.2.2.2.2.2.2.2.2.2.1 s.2.2.2.2.2.2.2.2.2.2.1 s.2.2.2.2.2.2.2.2.2.2.2.1 s.2.2.2.2.2.2.2.2.2.2.2.2.1 s.2.2.2.2.2.2.2.2.2.2.2.2.2.1 s.2.2.2.2.2.2.2.2.2.2.2.2.2.2.1 s.2.2.2.2.2.2.2.2.2.2.2.2.2.2.2) (fun n s hI hk => hs n s.1 s.2.1 s.2.2.1 s.2.2.2.1 s.2.2.2.2.1 s.2.2.2.2.2.1 s.2.2.2.2.2.2.1 s.2.2.2.2.2.2.2.1 s.2.2.2.2.2.2.2.2.1 s.2.2.2.2.2.2.2.2.2.1 s.2.2.2.2.2.2.2.2.2.2.1 s.2.2.2.2.2.2.2.2.2.2.2.1 s.2.2.2.2.2.2.2.2.2.2.2.2.1 s.2.2.2.2.2.2.2.2.2.2.2.2.2.1 s.2.2.2.2.2.2.2.2.2.2.2.2.2.2.1 s.2.2.2.2.2.2.2.2.2.2.2.2.2.2.2 hI (fun b1 b2 b3 b4 b5 b6 b7 b8 b9 b10 b11 b12 b13 b14 b15 b16 h9 hm => hk (b1, b2, b3, b4, b5, b6, b7, b8, b9, b10, b11, b12, b13, b14, b15, b16) h9 hm)) (a1, a2, a3, a4, a5, a6, a7, a8, a9, a10, a11, a12, a13, a14, a15, a16) h
theorem pk_least (P : Nat → Prop) (h : ∃ k, P k) : ∃ k, P k ∧ ∀ j, j < k → ¬ P j := by
  obtain ⟨k, hk⟩ := h
  induction k using Nat.strongRecOn with
  | ind k ih =>
    by_cases e : ∃ j, j < k ∧ P j
    · obtain ⟨j, hj, pj⟩ := e
      exact ih j hj pj
    · exact ⟨k, hk, fun j hj pj => e ⟨j, hj, pj⟩⟩
theorem rp1 {ρ A1 : Type} (W : Nat → (ρ → Prop) → A1 → Prop) (ok : A1 → Prop) (μ : A1 → Nat) (val : A1 → ρ)
    (hs : ∀ (d : Nat) (post : ρ → Prop) (a1 : A1), ok a1 → post (val a1) → (∀ (post' : ρ → Prop) (b1 : A1), ok b1 → μ b1 < μ a1 → post' (val b1) → W d post' b1) → W (d + 1) post a1) :
    ∀ (d : Nat) (post : ρ → Prop) (a1 : A1), ok a1 → μ a1 < d → post (val a1) → W d post a1 := by
  intro d
  induction d with
  | zero => intro post a1 _ h; omega
  | succ d ih =>
    intro post a1 ho hm hp
    exact hs d post a1 ho hp (fun post' b1 ho' hm' hp' => ih post' b1 ho' (by omega) hp')
theorem rp2 {ρ A1 A2 : Type} (W : Nat → (ρ → Prop) → A1 → A2 → Prop) (ok : A1 → A2 → Prop) (μ : A1 → A2 → Nat) (val : A1 → A2 → ρ)
    (hs : ∀ (d : Nat) (post : ρ → Prop) (a1 : A1) (a2 : A2), ok a1 a2 → post (val a1 a2) → (∀ (post' : ρ → Prop) (b1 : A1) (b2 : A2), ok b1 b2 → μ b1 b2 < μ a1 a2 → post' (val b1 b2) → W d post' b1 b2) → W (d + 1) post a1 a2) :
    ∀ (d : Nat) (post : ρ → Prop) (a1 : A1) (a2 : A2), ok a1 a2 → μ a1 a2 < d → post (val a1 a2) → W d post a1 a2 := by
  intro d
  induction d with
  | zero => intro post a1 a2 _ h; omega
  | succ d ih =>
    intro post a1 a2 ho hm hp
    exact hs d post a1 a2 ho hp (fun post' b1 b2 ho' hm' hp' => ih post' b1 b2 ho' (by omega) hp')
theorem rp3 {ρ A1 A2 A3 : Type} (W : Nat → (ρ → Prop) → A1 → A2 → A3 → Prop) (ok : A1 → A2 → A3 → Prop) (μ : A1 → A2 → A3 → Nat) (val : A1 → A2 → A3 → ρ)
    (hs : ∀ (d : Nat) (post : ρ → Prop) (a1 : A1) (a2 : A2) (a3 : A3), ok a1 a2 a3 → post (val a1 a2 a3) → (∀ (post' : ρ → Prop) (b1 : A1) (b2 : A2) (b3 : A3), ok b1 b2 b3 → μ b1 b2 b3 < μ a1 a2 a3 → post' (val b1 b2 b3) → W d post' b1 b2 b3) → W (d + 1) post a1 a2 a3) :
    ∀ (d : Nat) (post : ρ → Prop) (a1 : A1) (a2 : A2) (a3 : A3), ok a1 a2 a3 → μ a1 a2 a3 < d → post (val a1 a2 a3) → W d post a1 a2 a3 := by
  intro d
  induction d with
  | zero => intro post a1 a2 a3 _ h; omega
  | succ d ih =>
    intro post a1 a2 a3 ho hm hp
    exact hs d post a1 a2 a3 ho hp (fun post' b1 b2 b3 ho' hm' hp' => ih post' b1 b2 b3 ho' (by omega) hp')
theorem rp4 {ρ A1 A2 A3 A4 : Type} (W : Nat → (ρ → Prop) → A1 → A2 → A3 → A4 → Prop) (ok : A1 → A2 → A3 → A4 → Prop) (μ : A1 → A2 → A3 → A4 → Nat) (val : A1 → A2 → A3 → A4 → ρ)
    (hs : ∀ (d : Nat) (post : ρ → Prop) (a1 : A1) (a2 : A2) (a3 : A3) (a4 : A4), ok a1 a2 a3 a4 → post (val a1 a2 a3 a4) → (∀ (post' : ρ → Prop) (b1 : A1) (b2 : A2) (b3 : A3) (b4 : A4), ok b1 b2 b3 b4 → μ b1 b2 b3 b4 < μ a1 a2 a3 a4 → post' (val b1 b2 b3 b4) → W d post' b1 b2 b3 b4) → W (d + 1) post a1 a2 a3 a4) :
    ∀ (d : Nat) (post : ρ → Prop) (a1 : A1) (a2 : A2) (a3 : A3) (a4 : A4), ok a1 a2 a3 a4 → μ a1 a2 a3 a4 < d → post (val a1 a2 a3 a4) → W d post a1 a2 a3 a4 := by
  intro d
  induction d with
  | zero => intro post a1 a2 a3 a4 _ h; omega
  | succ d ih =>
    intro post a1 a2 a3 a4 ho hm hp
    exact hs d post a1 a2 a3 a4 ho hp (fun post' b1 b2 b3 b4 ho' hm' hp' => ih post' b1 b2 b3 b4 ho' (by omega) hp')
theorem rp5 {ρ A1 A2 A3 A4 A5 : Type} (W : Nat → (ρ → Prop) → A1 → A2 → A3 → A4 → A5 → Prop) (ok : A1 → A2 → A3 → A4 → A5 → Prop) (μ : A1 → A2 → A3 → A4 → A5 → Nat) (val : A1 → A2 → A3 → A4 → A5 → ρ)
    (hs : ∀ (d : Nat) (post : ρ → Prop) (a1 : A1) (a2 : A2) (a3 : A3) (a4 : A4) (a5 : A5), ok a1 a2 a3 a4 a5 → post (val a1 a2 a3 a4 a5) → (∀ (post' : ρ → Prop) (b1 : A1) (b2 : A2) (b3 : A3) (b4 : A4) (b5 : A5), ok b1 b2 b3 b4 b5 → μ b1 b2 b3 b4 b5 < μ a1 a2 a3 a4 a5 → post' (val b1 b2 b3 b4 b5) → W d post' b1 b2 b3 b4 b5) → W (d + 1) post a1 a2 a3 a4 a5) :
    ∀ (d : Nat) (post : ρ → Prop) (a1 : A1) (a2 : A2) (a3 : A3) (a4 : A4) (a5 : A5), ok a1 a2 a3 a4 a5 → μ a1 a2 a3 a4 a5 < d → post (val a1 a2 a3 a4 a5) → W d post a1 a2 a3 a4 a5 := by
  intro d
  induction d with
  | zero => intro post a1 a2 a3 a4 a5 _ h; omega
  | succ d ih =>
    intro post a1 a2 a3 a4 a5 ho hm hp
    exact hs d post a1 a2 a3 a4 a5 ho hp (fun post' b1 b2 b3 b4 b5 ho' hm' hp' => ih post' b1 b2 b3 b4 b5 ho' (by omega) hp')
theorem rp6 {ρ A1 A2 A3 A4 A5 A6 : Type} (W : Nat → (ρ → Prop) → A1 → A2 → A3 → A4 → A5 → A6 → Prop) (ok : A1 → A2 → A3 → A4 → A5 → A6 → Prop) (μ : A1 → A2 → A3 → A4 → A5 → A6 → Nat) (val : A1 → A2 → A3 → A4 → A5 → A6 → ρ)
    (hs : ∀ (d : Nat) (post : ρ → Prop) (a1 : A1) (a2 : A2) (a3 : A3) (a4 : A4) (a5 : A5) (a6 : A6), ok a1 a2 a3 a4 a5 a6 → post (val a1 a2 a3 a4 a5 a6) → (∀ (post' : ρ → Prop) (b1 : A1) (b2 : A2) (b3 : A3) (b4 : A4) (b5 : A5) (b6 : A6), ok b1 b2 b3 b4 b5 b6 → μ b1 b2 b3 b4 b5 b6 < μ a1 a2 a3 a4 a5 a6 → post' (val b1 b2 b3 b4 b5 b6) → W d post' b1 b2 b3 b4 b5 b6) → W (d + 1) post a1 a2 a3 a4 a5 a6) :
    ∀ (d : Nat) (post : ρ → Prop) (a1 : A1) (a2 : A2) (a3 : A3) (a4 : A4) (a5 : A5) (a6 : A6), ok a1 a2 a3 a4 a5 a6 → μ a1 a2 a3 a4 a5 a6 < d → post (val a1 a2 a3 a4 a5 a6) → W d post a1 a2 a3 a4 a5 a6 := by
  intro d
  induction d with
  | zero => intro post a1 a2 a3 a4 a5 a6 _ h; omega
  | succ d ih =>
    intro post a1 a2 a3 a4 a5 a6 ho hm hp
    exact hs d post a1 a2 a3 a4 a5 a6 ho hp (fun post' b1 b2 b3 b4 b5 b6 ho' hm' hp' => ih post' b1 b2 b3 b4 b5 b6 ho' (by omega) hp')
theorem rec_p {σ ρ : Type} (W : Nat → (ρ → Prop) → σ → Prop) (ok : σ → Prop) (μ : σ → Nat) (val : σ → ρ)
    (hs : ∀ d s post, ok s → post (val s) → (∀ s' post', ok s' → μ s' < μ s → post' (val s') → W d post' s') → W (d + 1) post s) :
    ∀ d s post, ok s → μ s < d → post (val s) → W d post s := by
  intro d
  induction d with
  | zero => intro s post _ h; omega
  | succ d ih =>
    intro s post ho hm hp
    exact hs d s post ho hp (fun s' post' ho' hm' hp' => ih s' post' ho' (by omega) hp')
theorem rec_q {σ ρ : Type} (W : Nat → (ρ → Prop) → σ → Prop) (ok : σ → Prop) (μ : σ → Nat) (Q : σ → ρ → Prop)
    (hs : ∀ d s post, ok s → (∀ r, Q s r → post r) → (∀ s' post', ok s' → μ s' < μ s → (∀ r, Q s' r → post' r) → W d post' s') → W (d + 1) post s) :
    ∀ d s post, ok s → μ s < d → (∀ r, Q s r → post r) → W d post s := by
  intro d
  induction d with
  | zero => intro s post _ h; omega
  | succ d ih =>
    intro s post ho hm hp
    exact hs d s post ho hp (fun s' post' ho' hm' hp' => ih s' post' ho' (by omega) hp')
def bx_sum (f : Nat → Int32) : Nat → Int32
  | 0 => 0
  | n + 1 => bx_sum f n + f n
theorem ek_u {A : Prop} {B : Nat → Prop} {k N : Nat} (hk : k < N) (h : B k) : (some k = none → A) ∧ (∀ y : Nat, some k = some y → (y < N ∧ B y)) :=
  ⟨fun z => absurd z (Option.some_ne_none k), fun _ e => (by cases e; exact ⟨hk, h⟩)⟩
theorem ek_nu {A : Prop} {B : Nat → Prop} (h : A) : ((none : Option Nat) = none → A) ∧ (∀ y : Nat, (none : Option Nat) = some y → B y) :=
  ⟨fun _ => h, fun _ e => (by cases e)⟩
theorem ek_if {c d A B : Prop} (e : c ↔ d) (f : d → A) (g : ¬ d → B) : (c → A) ∧ (¬ c → B) :=
  ⟨fun z => f (e.mp z), fun z => g (fun y => z (e.mpr y))⟩
theorem ek_v {α : Sort _} {P : α → Prop} {a b : α} (e : a = b) (h : P b) : P a := e ▸ h
theorem co_some {x : Option Nat} {A : Prop} {B : Nat → Prop} (i : Nat) (h : B i) (hx : x = some i := by rfl) : (x = none → A) ∧ (∀ y : Nat, x = some y → B y) := by
  subst hx
  exact ⟨fun e => (nomatch e), fun y e => Option.some.inj e ▸ h⟩
theorem co_none {x : Option Nat} {A : Prop} {B : Nat → Prop} (h : A) (hx : x = none := by rfl) : (x = none → A) ∧ (∀ y : Nat, x = some y → B y) := by
  subst hx
  exact ⟨fun _ => h, fun y e => (nomatch e)⟩
theorem co_any {x : Option Nat} {A : Prop} {B : Nat → Prop} (hn : x = none → A) (hs : ∀ i : Nat, x = some i → B i) : (x = none → A) ∧ (∀ y : Nat, x = some y → B y) := ⟨hn, hs⟩
theorem co_2 {P : Nat → Prop} (h0 : P 0) (h1 : P 1) {i : Nat} (hi : i < 2) : P i :=
  match i, hi with
  | 0, _ => h0
  | 1, _ => h1
theorem co_3 {P : Nat → Prop} (h0 : P 0) (h1 : P 1) (h2 : P 2) {i : Nat} (hi : i < 3) : P i :=
  match i, hi with
  | 0, _ => h0
  | 1, _ => h1
  | 2, _ => h2
theorem co_4 {P : Nat → Prop} (h0 : P 0) (h1 : P 1) (h2 : P 2) (h3 : P 3) {i : Nat} (hi : i < 4) : P i :=
  match i, hi with
  | 0, _ => h0
  | 1, _ => h1
  | 2, _ => h2
  | 3, _ => h3
theorem co_dec {N : Nat} {P : Nat → Prop} [DecidablePred P] (h : (List.range N).all (fun i => decide (P i)) = true) {i : Nat} (hi : i < N) : P i := by
  have := List.all_eq_true.mp h i (List.mem_range.mpr hi)
  exact of_decide_eq_true this
theorem co_tab {α : Type} {l : List α} {d : α} {P : α → Prop} (h : ∀ a, a ∈ l → P a) {i : Nat} (hi : i < l.length) : P (l.getD i d) := by
  rw [List.getD_eq_getElem?_getD, List.getElem?_eq_getElem hi]
  exact h _ (List.getElem_mem hi)
theorem pk_mu {x : Int32} {L : Nat} (h0 : ¬ x < 0) (h : ¬ nI L ≤ x) (hL : L < 2 ^ 31) : ∃ j : Nat, j < L ∧ x = nI j ∧ x + 1 = nI (j + 1) ∧ x.toNatClampNeg = j ∧ L - (x + 1).toNatClampNeg < L - x.toNatClampNeg := by
  obtain ⟨j, hj, rfl⟩ := nI_of h0
  have hl : j < L := Nat.not_le.mp fun q => h (nI_le q hj)
  refine ⟨j, hl, rfl, nI_1 j, nI_clamp hj, ?_⟩
  rw [nI_1, nI_clamp (by omega), nI_clamp hj]
  omega
theorem op_s {α : Type} {r : Option α} {A : Prop} {B : α → Prop} {y : α} (h : r = some y) (b : B y) : (r = none → A) ∧ ∀ z, r = some z → B z :=
  ⟨fun e => (by rw [h] at e; cases e), fun z e => (by rw [h] at e; cases e; exact b)⟩
def l_holds {α : Type} (a : Nat → Option Nat) (LP : List Nat) (p : Nat → α) (c : Nat) (b : Nat → α) : Prop :=
  ∀ j, j < c → ∃ y, a j = some y ∧ y ∈ LP ∧ p y = b j
theorem l_holds_0 {α : Type} {a : Nat → Option Nat} {LP : List Nat} {p b : Nat → α} : l_holds a LP p 0 b := fun j h => absurd h (Nat.not_lt_zero j)
theorem l_in_new (LP : List Nat) (q : Nat) : q ∈ LP ++ [q] := List.mem_append.mpr (Or.inr (List.mem_singleton.mpr rfl))
def l_sum (b : Nat → Int32) : Nat → Int32
  | 0 => 0
  | k + 1 => l_sum b k + b k
theorem sb_shr0 (x : Int32) : x >>> ((0 : Int32) &&& 31) = x := by
  rw [show ((0 : Int32) &&& 31) = 0 by decide]
  simp
theorem sb_shl0 (x : Int32) : x <<< ((0 : Int32) &&& 31) = x := by
  rw [show ((0 : Int32) &&& 31) = 0 by decide]
  simp
theorem sb_cl0 : (0 : Int32).toNatClampNeg = 0 := by decide
theorem sb_m1 {p : Nat} (h : 0 < p) : nI p + (-1) = nI (p - 1) := by
  obtain ⟨q, rfl⟩ : ∃ q, p = q + 1 := ⟨p - 1, by omega⟩
  exact pk_m1 q
def sb_b (c : Nat) : Int32 := (nI c).toInt8.toInt32
theorem sb_byte : ∀ c, c < 256 → sb_b c &&& 255 = nI c ∧ ((nI c).toUInt32 % 65536).toInt32 = nI c ∧ nI c ≤ 255 := by decide +kernel
def sb_Fit (a : Nat → Int32) : Prop := ∀ j, fits .byte (.int (a j)) = true
def sb_Lat (t : Nat → Nat) (n : Nat) (a : Nat → Int32) : Prop := ∀ j, j < n → t j < 256 ∧ a j = sb_b (t j)
theorem sb_fitB (c : Nat) : fits .byte (.int (sb_b c)) = true := pk_fb _
theorem sb_fit0 : sb_Fit (fun _ => 0) := fun _ => by
  show fits .byte (.int 0) = true
  decide
theorem sb_fitU {a : Nat → Int32} {k : Nat} {x : Int32} (h : sb_Fit a) (hx : fits .byte (.int x) = true) : sb_Fit (upd a k x) := by
  intro j
  by_cases e : j = k
  · subst e
    rw [pk_us]
    exact hx
  · rw [pk_un e]
    exact h j
def sb_cat (t : Nat → Nat) (n : Nat) (s : Nat → Nat) : Nat → Nat := fun j => if j < n then t j else s (j - n)
theorem sb_cat_lo {t s : Nat → Nat} {n j : Nat} (h : j < n) : sb_cat t n s j = t j := if_pos h
theorem sb_cat_hi {t s : Nat → Nat} {n j : Nat} : sb_cat t n s (n + j) = s j := by
  show (if n + j < n then t (n + j) else s (n + j - n)) = s j
  rw [if_neg (by omega), Nat.add_sub_cancel_left]
theorem sb_latPut {t s : Nat → Nat} {n w : Nat} {a a' : Nat → Int32} (h : sb_Lat t n a) (hk : ∀ j, j < n → a' j = a j) (hs : ∀ i, i < w → s i < 256 ∧ a' (n + i) = sb_b (s i)) : sb_Lat (sb_cat t n s) (n + w) a' := by
  intro j hj
  by_cases e : j < n
  · rw [sb_cat_lo e, hk j e]
    exact h j e
  · obtain ⟨i, rfl⟩ : ∃ i, j = n + i := ⟨j - n, by omega⟩
    rw [sb_cat_hi]
    exact hs i (by omega)
theorem sb_latKeep {t : Nat → Nat} {n : Nat} {a a' : Nat → Int32} (h : sb_Lat t n a) (hk : ∀ j, j < n → a' j = a j) : sb_Lat t n a' := fun j hj => by
  rw [hk j hj]
  exact h j hj
def sb_cap (q m : Nat) : Nat := if q ≤ m then m else if 2 * m + 2 < q then q else 2 * m + 2
def sb_Room (q m mc ms : Nat) : Prop := q ≤ m ∨ (1 ≤ mc ∧ sb_cap q m ≤ ms ∧ sb_cap q m ≤ 65536)
theorem sb_cap_ge (q m : Nat) : q ≤ sb_cap q m := by
  unfold sb_cap
  split
  · omega
  · split <;> omega
theorem sb_cap_gem (q m : Nat) : m ≤ sb_cap q m := by
  unfold sb_cap
  split
  · omega
  · split <;> omega
theorem sb_cap_le {q m mc ms : Nat} (hm : m ≤ 65536) (hr : sb_Room q m mc ms) : sb_cap q m ≤ 65536 := by
  rcases hr with h | h
  · rw [sb_cap, if_pos h]
    exact hm
  · exact h.2.2
theorem sb_at {P : Int32 → Prop} {x y : Int32} (e : x = y) (h : P y) : P x := e ▸ h
def sb_dg (w : Nat) : Nat := if w < 10 then 1 else if w < 100 then 2 else if w < 1000 then 3 else if w < 10000 then 4 else if w < 100000 then 5 else if w < 1000000 then 6 else if w < 10000000 then 7 else if w < 100000000 then 8 else if w < 1000000000 then 9 else 10
def sb_dec (v : Nat) : Nat → Nat := fun i => 48 + v / 10 ^ (sb_dg v - 1 - i) % 10
theorem sb_dg_in (w : Nat) : 1 ≤ sb_dg w ∧ sb_dg w ≤ 10 := by
  unfold sb_dg
  constructor <;> (repeat' split) <;> omega
theorem sb_dg100 {w : Nat} (h : 100 ≤ w) (hw : w < 2 ^ 31) : sb_dg w = sb_dg (w / 100) + 2 := by
  rw [sb_dg, sb_dg, if_neg (show ¬ w < 10 by omega), if_neg (show ¬ w < 100 by omega)]
  by_cases h3 : w < 1000
  · rw [if_pos h3, if_pos (show w / 100 < 10 by omega)]
  rw [if_neg h3, if_neg (show ¬ w / 100 < 10 by omega)]
  by_cases h4 : w < 10000
  · rw [if_pos h4, if_pos (show w / 100 < 100 by omega)]
  rw [if_neg h4, if_neg (show ¬ w / 100 < 100 by omega)]
  by_cases h5 : w < 100000
  · rw [if_pos h5, if_pos (show w / 100 < 1000 by omega)]
  rw [if_neg h5, if_neg (show ¬ w / 100 < 1000 by omega)]
  by_cases h6 : w < 1000000
  · rw [if_pos h6, if_pos (show w / 100 < 10000 by omega)]
  rw [if_neg h6, if_neg (show ¬ w / 100 < 10000 by omega)]
  by_cases h7 : w < 10000000
  · rw [if_pos h7, if_pos (show w / 100 < 100000 by omega)]
  rw [if_neg h7, if_neg (show ¬ w / 100 < 100000 by omega)]
  by_cases h8 : w < 100000000
  · rw [if_pos h8, if_pos (show w / 100 < 1000000 by omega)]
  rw [if_neg h8, if_neg (show ¬ w / 100 < 1000000 by omega)]
  by_cases h9 : w < 1000000000
  · rw [if_pos h9, if_pos (show w / 100 < 10000000 by omega)]
  rw [if_neg h9, if_neg (show ¬ w / 100 < 10000000 by omega)]
  rw [if_pos (show w / 100 < 100000000 by omega)]
theorem sb_negT {w : Nat} (h : w < 2 ^ 31) : (-nI w).toInt = -(w : Int) := by
  rw [Int32.toInt_neg, nI_toInt h]
  exact Int.bmod_eq_of_le (by omega) (by omega)
theorem sb_nle {a b : Nat} (ha : a < 2 ^ 31) (hb : b < 2 ^ 31) : -nI a ≤ -nI b ↔ b ≤ a := by
  rw [Int32.le_iff_toInt_le, sb_negT ha, sb_negT hb]
  omega
theorem sb_nlt {a b : Nat} (ha : a < 2 ^ 31) (hb : b < 2 ^ 31) : -nI a < -nI b ↔ b < a := by
  rw [Int32.lt_iff_toInt_lt, sb_negT ha, sb_negT hb]
  omega
theorem sb_cmp {A B : Prop} {x : Int32} (v c : Nat) (f : c ≤ v → A) (g : v < c → B) (hv : v < 2 ^ 31) (hx : x = -nI c := by rfl) (hc : c < 2 ^ 31 := by omega) : (-nI v ≤ x → A) ∧ (¬ -nI v ≤ x → B) := by
  subst hx
  rw [sb_nle hv hc]
  exact ⟨f, fun z => g (by omega)⟩
theorem sb_ndiv {w : Nat} (hw : w < 2 ^ 31) : (-nI w) / 100 = -nI (w / 100) := by
  apply Int32.toInt_inj.mp
  have h100 : (100 : Int32).toInt = 100 := by decide
  rw [Int32.toInt_div, sb_negT hw, h100, sb_negT (by omega), Int.neg_tdiv, Int.tdiv_eq_ediv_of_nonneg (by omega), Int.bmod_eq_of_le (by omega) (by omega)]
  omega
theorem sb_nrem {w : Nat} (hw : w < 2 ^ 31) : (-nI (w / 100)) * 100 - (-nI w) = nI (w % 100) := by
  have h := pk_rem (a := w) (d := 100) hw (by decide) (by decide)
  rw [pk_div hw (by decide) (by decide)] at h
  rw [← h]
  show (-nI (w / 100)) * nI 100 - (-nI w) = nI w - nI (w / 100) * nI 100
  rw [Int32.neg_mul, Int32.sub_neg, Int32.add_comm, ← Int32.sub_eq_add_neg]
end
section
/-! ===== Int64 as an unsigned number: uN x ===== -/
def uN (x : Int64) : Nat := x.toUInt64.toNat
theorem uN_lt (x : Int64) : uN x < 18446744073709551616 := x.toUInt64.toNat_lt
theorem uN_inj {x y : Int64} (h : uN x = uN y) : x = y := congrArg UInt64.toInt64 (UInt64.toNat_inj.mp h)
theorem uN_add (x y : Int64) : uN (x + y) = (uN x + uN y) % 18446744073709551616 := by
  show (x.toUInt64 + y.toUInt64).toNat = _
  exact UInt64.toNat_add _ _
theorem uN_mul (x y : Int64) : uN (x * y) = (uN x * uN y) % 18446744073709551616 := by
  show (x.toUInt64 * y.toUInt64).toNat = _
  exact UInt64.toNat_mul _ _
theorem uN_shl (x : Int64) : uN (x <<< ((1 : Int32).toInt64 &&& 63)) = (2 * uN x) % 18446744073709551616 := by
  have h : (((1 : Int32).toInt64 &&& 63).toBitVec.smod 64).toNat = 1 := by decide
  show (x.toBitVec <<< (((1 : Int32).toInt64 &&& 63).toBitVec.smod 64).toNat).toNat = _
  rw [h, BitVec.toNat_shiftLeft, Nat.shiftLeft_eq, Nat.mul_comm]
  rfl
theorem uN_shr (x : Int64) (s : UInt64) : uN (x.toUInt64 >>> s).toInt64 = uN x / 2 ^ (s.toNat % 64) := by
  show (x.toUInt64 >>> s).toNat = _
  rw [UInt64.toNat_shiftRight, Nat.shiftRight_eq_div_pow]
  rfl
theorem uN_s32 (x : Int64) : uN (x.toUInt64 >>> ((32 : Int32).toInt64.toUInt64 &&& Int64.toUInt64 63)).toInt64 = uN x / 4294967296 := by
  have h : ((32 : Int32).toInt64.toUInt64 &&& Int64.toUInt64 63).toNat % 64 = 32 := by decide
  rw [uN_shr, h]
theorem uN_s63 (x : Int64) : uN (x.toUInt64 >>> ((63 : Int32).toInt64.toUInt64 &&& Int64.toUInt64 63)).toInt64 = uN x / 9223372036854775808 := by
  have h : ((63 : Int32).toInt64.toUInt64 &&& Int64.toUInt64 63).toNat % 64 = 63 := by decide
  rw [uN_shr, h]
theorem uN_lo (x : Int64) : uN (x &&& 4294967295) = uN x % 4294967296 := by
  show (x.toUInt64 &&& Int64.toUInt64 4294967295).toNat = _
  rw [UInt64.toNat_and]
  exact Nat.and_two_pow_sub_one_eq_mod _ 32
theorem uN_bit (x : Int64) : (x &&& 1) = 0 ↔ uN x % 2 = 0 := by
  have h : uN (x &&& 1) = uN x % 2 := by
    show (x.toUInt64 &&& Int64.toUInt64 1).toNat = _
    rw [UInt64.toNat_and]
    exact Nat.and_two_pow_sub_one_eq_mod _ 1
  rw [← h]
  exact ⟨fun z => by rw [z]; rfl, fun z => uN_inj (z.trans rfl)⟩
theorem uN_int (x : Int64) : x.toInt = if 2 * uN x < 18446744073709551616 then (uN x : Int) else (uN x : Int) - 18446744073709551616 := BitVec.toInt_eq_toNat_cond _
theorem uN_sk (x : Int64) {k : Nat} (hk : k < 64) : uN (x.toUInt64 >>> ((nI k).toInt64.toUInt64 &&& Int64.toUInt64 63)).toInt64 = uN x / 2 ^ k := by
  have h : ((nI k).toInt64.toUInt64 &&& Int64.toUInt64 63).toNat % 64 = k := by
    rw [nI_l (by omega), UInt64.toNat_and]
    have e : (lN k).toUInt64.toNat = k % 2 ^ 64 := rfl
    have e2 : (Int64.toUInt64 63).toNat = 2 ^ 6 - 1 := by decide
    rw [e, e2, Nat.and_two_pow_sub_one_eq_mod]
    omega
  rw [uN_shr, h]
/-! ===== this claim's own: one bit of the selection, three ways ===== -/
theorem wo_sshr (x : Int64) : (x >>> ((1 : Int32).toInt64 &&& 63)).toInt = x.toInt / 2 := by
  have h : (((1 : Int32).toInt64 &&& 63).toBitVec.smod 64).toNat = 1 := by decide
  show (x.toBitVec.sshiftRight (((1 : Int32).toInt64 &&& 63).toBitVec.smod 64).toNat).toInt = _
  rw [h, BitVec.toInt_sshiftRight, Int.shiftRight_eq_div_pow]
  rfl
theorem wo_shl (x y : Int64) (k : Nat) (hy : (y.toBitVec.smod 64).toNat = k) : uN (x <<< y) = uN x * 2 ^ k % 18446744073709551616 := by
  show (x.toBitVec <<< (y.toBitVec.smod 64).toNat).toNat = _
  rw [hy, BitVec.toNat_shiftLeft, Nat.shiftLeft_eq]
  rfl
theorem wo_nn (x : Int64) : 0 ≤ x ↔ uN x < 9223372036854775808 := by
  have h := uN_int x
  have l := uN_lt x
  rw [Int64.le_iff_toInt_le, show (0 : Int64).toInt = 0 from by decide, h]
  split <;> omega
/-- the bit i of a number, i < 3 -/
def wo_bit (x : Int64) (i : Nat) : Prop := ¬ uN x / 2 ^ i % 2 = 0
theorem wo_bX (x : Int64) {i : Nat} (hi : i < 3) : ((x.toUInt64 >>> ((nI i).toInt64.toUInt64 &&& Int64.toUInt64 63)).toInt64 &&& 1) = 0 ↔ ¬ wo_bit x i := by
  rw [uN_bit, uN_sk x (by omega)]
  exact Iff.symm Classical.not_not
theorem wo_m2 (n : Nat) : n * 9223372036854775808 % 18446744073709551616 < 9223372036854775808 ↔ n % 2 = 0 := by omega
theorem wo_m1 (n : Nat) : n * 4611686018427387904 % 18446744073709551616 < 9223372036854775808 ↔ n / 2 % 2 = 0 := by omega
theorem wo_m0 (n : Nat) : n * 2305843009213693952 % 18446744073709551616 < 9223372036854775808 ↔ n / 4 % 2 = 0 := by omega
theorem wo_bY (x : Int64) {i : Nat} (hi : i < 3) : 0 ≤ (x <<< ((63 - nI i).toInt64 &&& 63)) ↔ ¬ wo_bit x i := by
  unfold wo_bit
  rw [wo_nn, Classical.not_not]
  match i, hi with
  | 0, _ =>
    rw [wo_shl x _ 63 (by decide)]
    have := wo_m2 (uN x)
    simpa using this
  | 1, _ =>
    rw [wo_shl x _ 62 (by decide)]
    have := wo_m1 (uN x)
    simpa using this
  | 2, _ =>
    rw [wo_shl x _ 61 (by decide)]
    have := wo_m0 (uN x)
    simpa using this
theorem wo_t1 (x : Int64) : x.toInt % 2 = 0 ↔ uN x % 2 = 0 := by
  have h := uN_int x
  have l := uN_lt x
  rw [h]
  split <;> omega
theorem wo_t2 (x : Int64) : x.toInt / 2 % 2 = 0 ↔ uN x / 2 % 2 = 0 := by
  have h := uN_int x
  have l := uN_lt x
  rw [h]
  split <;> omega
theorem wo_t4 (x : Int64) : x.toInt / 4 % 2 = 0 ↔ uN x / 4 % 2 = 0 := by
  have h := uN_int x
  have l := uN_lt x
  rw [h]
  split <;> omega
/-- the third way: the number shifted i times, its last bit -/
theorem wo_bS (x y : Int64) {i : Nat} (hi : i < 3) (hy : y.toInt = x.toInt / 2 ^ i) : (y &&& 1) = 0 ↔ ¬ wo_bit x i := by
  unfold wo_bit
  rw [uN_bit, Classical.not_not]
  rw [← wo_t1 y, hy]
  match i, hi with
  | 0, _ =>
    have := wo_t1 x
    simpa using this
  | 1, _ => exact wo_t2 x
  | 2, _ => exact wo_t4 x
theorem wo_sS (x y : Int64) {i : Nat} (hy : y.toInt = x.toInt / 2 ^ i) : (y >>> ((1 : Int32).toInt64 &&& 63)).toInt = x.toInt / 2 ^ (i + 1) := by
  rw [wo_sshr, hy, Int.pow_succ, Int.ediv_ediv_of_nonneg (Int.pow_nonneg (by decide))]
end
section
theorem ts_nt' {x : Bool} (h : ¬ x = true) : x = false := by cases x <;> first | rfl | exact absurd rfl h
/-! ===== counts ===== -/
/-- number of j < m with p j -/
def wo_ct (p : Nat → Bool) : Nat → Nat
  | 0 => 0
  | m + 1 => wo_ct p m + (if p m = true then 1 else 0)
theorem wo_ct_s (p : Nat → Bool) (m : Nat) : wo_ct p (m + 1) = wo_ct p m + (if p m = true then 1 else 0) := rfl
theorem wo_ct_t {p : Nat → Bool} {m : Nat} (h : p m = true) : wo_ct p (m + 1) = wo_ct p m + 1 := by rw [wo_ct_s, if_pos h]
theorem wo_ct_f {p : Nat → Bool} {m : Nat} (h : ¬ p m = true) : wo_ct p (m + 1) = wo_ct p m := by rw [wo_ct_s, if_neg h, Nat.add_zero]
theorem wo_ct_cg {p q : Nat → Bool} : ∀ {m : Nat}, (∀ j, j < m → p j = q j) → wo_ct p m = wo_ct q m
  | 0, _ => rfl
  | m + 1, h => by rw [wo_ct_s, wo_ct_s, h m (by omega), wo_ct_cg (fun j hj => h j (by omega))]
theorem wo_ct_mono {p : Nat → Bool} {a : Nat} : ∀ {b : Nat}, a ≤ b → wo_ct p a ≤ wo_ct p b
  | 0, h => by
    have : a = 0 := by omega
    subst this
    exact Nat.le_refl _
  | b + 1, h => by
    by_cases e : a = b + 1
    · subst e
      exact Nat.le_refl _
    · have := wo_ct_mono (p := p) (show a ≤ b by omega)
      rw [wo_ct_s]
      omega
theorem wo_ct_lt {p : Nat → Bool} {a b : Nat} (h : a < b) (hp : p a = true) : wo_ct p a < wo_ct p b := by
  have h1 := wo_ct_mono (p := p) (show a + 1 ≤ b from h)
  rw [wo_ct_t hp] at h1
  omega
theorem wo_ct_le {p : Nat → Bool} : ∀ {m : Nat}, wo_ct p m ≤ m
  | 0 => Nat.le_refl _
  | m + 1 => by
    have := wo_ct_le (p := p) (m := m)
    rw [wo_ct_s]
    split <;> omega
/-- the members of p below n, in order, and counts over them -/
theorem wo_mem (p : Nat → Bool) : ∀ n : Nat, ∃ s : Nat → Nat,
    (∀ i, i < wo_ct p n → s i < n ∧ p (s i) = true ∧ wo_ct p (s i) = i) ∧
    (∀ j, j < n → p j = true → s (wo_ct p j) = j) ∧
    (∀ q : Nat → Bool, wo_ct (fun j => p j && q j) n = wo_ct (fun i => q (s i)) (wo_ct p n)) := by
  intro n
  induction n with
  | zero => exact ⟨fun _ => 0, fun i hi => absurd hi (Nat.not_lt_zero i), fun j hj => absurd hj (Nat.not_lt_zero j), fun _ => rfl⟩
  | succ n ih =>
    obtain ⟨s, h1, h2, h3⟩ := ih
    by_cases hp : p n = true
    · have hc := wo_ct_t hp
      refine ⟨fun i => if i = wo_ct p n then n else s i, ?_, ?_, ?_⟩
      · intro i hi
        dsimp only
        by_cases e : i = wo_ct p n
        · rw [if_pos e]
          exact ⟨by omega, hp, e.symm⟩
        · rw [if_neg e]
          obtain ⟨a, b, c⟩ := h1 i (by omega)
          exact ⟨by omega, b, c⟩
      · intro j hj pj
        dsimp only
        by_cases e : j = n
        · subst e
          exact if_pos rfl
        · have hl := wo_ct_lt (p := p) (show j < n by omega) pj
          rw [if_neg (by omega)]
          exact h2 j (by omega) pj
      · intro q
        have E : wo_ct (fun j => p j && q j) n = wo_ct (fun i => q (if i = wo_ct p n then n else s i)) (wo_ct p n) := (h3 q).trans (wo_ct_cg (fun i hi => by rw [if_neg (by omega)]))
        by_cases hq : q n = true
        · rw [wo_ct_t (p := fun j => p j && q j) (by rw [hp, hq]; rfl), hc, wo_ct_t (p := fun i => q (if i = wo_ct p n then n else s i)) (by rw [if_pos rfl]; exact hq), E]
        · rw [wo_ct_f (p := fun j => p j && q j) (by rw [hp, Bool.true_and]; exact hq), hc, wo_ct_f (p := fun i => q (if i = wo_ct p n then n else s i)) (by rw [if_pos rfl]; exact hq), E]
    · have hc := wo_ct_f hp
      refine ⟨s, ?_, ?_, ?_⟩
      · intro i hi
        obtain ⟨a, b, c⟩ := h1 i (by omega)
        exact ⟨by omega, b, c⟩
      · intro j hj pj
        by_cases e : j = n
        · subst e
          exact absurd pj hp
        · exact h2 j (by omega) pj
      · intro q
        have hq : ¬ (fun j => p j && q j) n = true := by
          dsimp only
          rw [ts_nt' hp, Bool.false_and]
          decide
        rw [hc, wo_ct_f hq, h3 q]
/-! ===== sums over the kinds ===== -/
def wo_sm (f : Nat → Nat) : Nat → Nat
  | 0 => 0
  | m + 1 => wo_sm f m + f m
theorem wo_sm_cg {f g : Nat → Nat} : ∀ {m : Nat}, (∀ j, j < m → f j = g j) → wo_sm f m = wo_sm g m
  | 0, _ => rfl
  | m + 1, h => by
    show wo_sm f m + f m = wo_sm g m + g m
    rw [h m (by omega), wo_sm_cg (fun j hj => h j (by omega))]
theorem wo_sm_add {f g : Nat → Nat} : ∀ {m : Nat}, wo_sm (fun k => f k + g k) m = wo_sm f m + wo_sm g m
  | 0 => rfl
  | m + 1 => by
    show wo_sm (fun k => f k + g k) m + (f m + g m) = wo_sm f m + f m + (wo_sm g m + g m)
    rw [wo_sm_add]
    omega
theorem wo_sm_0 : ∀ {m : Nat} {f : Nat → Nat}, (∀ k, k < m → f k = 0) → wo_sm f m = 0
  | 0, _, _ => rfl
  | m + 1, f, h => by
    show wo_sm f m + f m = 0
    rw [h m (by omega), wo_sm_0 (fun j hj => h j (by omega))]
theorem wo_sm_1 {f : Nat → Nat} {k0 : Nat} : ∀ {m : Nat}, k0 < m → (∀ k, k < m → k ≠ k0 → f k = 0) → wo_sm f m = f k0
  | 0, h, _ => absurd h (Nat.not_lt_zero _)
  | m + 1, h, z => by
    show wo_sm f m + f m = f k0
    by_cases e : k0 = m
    · subst e
      rw [wo_sm_0 (fun j hj => z j (by omega) (by omega)), Nat.zero_add]
    · rw [z m (by omega) (fun h => e h.symm), wo_sm_1 (show k0 < m by omega) (fun j hj => z j (by omega)), Nat.add_zero]
theorem wo_sm_le {f : Nat → Nat} {b : Nat} : ∀ {m : Nat}, (∀ k, k < m → f k ≤ b) → wo_sm f m ≤ m * b
  | 0, _ => Nat.zero_le _
  | m + 1, h => by
    show wo_sm f m + f m ≤ (m + 1) * b
    have h1 := wo_sm_le (f := f) (b := b) (m := m) (fun j hj => h j (by omega))
    have h2 := h m (by omega)
    rw [Nat.succ_mul]
    omega
theorem wo_sm_lt {f : Nat → Nat} {b k0 : Nat} : ∀ {m : Nat}, k0 < m → f k0 < b → (∀ k, k < m → f k ≤ b) → wo_sm f m < m * b
  | 0, h, _, _ => absurd h (Nat.not_lt_zero _)
  | m + 1, h, h0, z => by
    show wo_sm f m + f m < (m + 1) * b
    rw [Nat.succ_mul]
    by_cases e : k0 = m
    · subst e
      have h1 := wo_sm_le (f := f) (b := b) (m := k0) (fun j hj => z j (by omega))
      omega
    · have h1 := wo_sm_lt (f := f) (b := b) (m := m) (show k0 < m by omega) h0 (fun j hj => z j (by omega))
      have h2 := z m (by omega)
      omega
/-- every row has one kind: the counts by kinds add up -/
theorem wo_kinds {K : Nat} (p : Nat → Nat → Bool) (q : Nat → Bool) : ∀ n, (∀ j, j < n → ∃ k, k < K ∧ p k j = true ∧ ∀ k', k' < K → p k' j = true → k' = k) →
    wo_sm (fun k => wo_ct (fun j => p k j && q j) n) K = wo_ct q n := by
  intro n
  induction n with
  | zero => exact fun _ => wo_sm_0 (fun _ _ => rfl)
  | succ n ih =>
    intro h
    obtain ⟨k, hk, pk, un⟩ := h n (by omega)
    have e : wo_sm (fun k => wo_ct (fun j => p k j && q j) (n + 1)) K = wo_sm (fun k => wo_ct (fun j => p k j && q j) n) K + wo_sm (fun k => if (p k n && q n) = true then 1 else 0) K := wo_sm_add
    rw [e, ih (fun j hj => h j (by omega)), wo_ct_s]
    congr 1
    rw [wo_sm_1 hk ?_]
    · rw [pk, Bool.true_and]
    · intro k' hk' ne
      have : p k' n = false := ts_nt' (fun z => ne (un k' hk' z))
      rw [this, Bool.false_and]
      rfl
theorem wo_ct_true : ∀ n, wo_ct (fun _ => true) n = n
  | 0 => rfl
  | n + 1 => by rw [wo_ct_t rfl, wo_ct_true n]
end
section
/-! ===== who goes before whom ===== -/
def wo_85 (k : Int32) (a b : Nat) : Bool := if k = 7 ∨ k = 9 ∨ k = 11 then decide (b < a) else decide (a < b)
def wo_53 (k x y : Int32) (a b : Nat) : Bool := if (k = 8 ∨ k = 10) ∧ x ≠ y then decide (y < x) else wo_85 k a b
def wo_pb (k x y : Int32) (a b : Nat) : Bool := if (k = 2 ∨ k = 4) ∧ x ≠ y then decide (x < y) else wo_53 k x y a b
theorem wo_pb_mono {k x y : Int32} {a b a' b' : Nat} (h1 : a' < b' ↔ a < b) (h2 : b' < a' ↔ b < a) : wo_pb k x y a' b' = wo_pb k x y a b := by
  unfold wo_pb wo_53 wo_85
  rw [decide_eq_decide.mpr h1, decide_eq_decide.mpr h2]
/-- o lists the places below c by rank -/
def wo_Ord (P : Nat → Nat → Bool) (c : Nat) (o : Nat → Nat) : Prop := ∀ r, r < c → o r < c ∧ wo_ct (fun a => P a (o r)) c = r
theorem wo_ctlt (r : Nat) : ∀ c, r ≤ c → wo_ct (fun a => decide (a < r)) c = r
  | 0, h => by
    have : r = 0 := by omega
    subst this
    rfl
  | c + 1, h => by
    by_cases e : r = c + 1
    · subst e
      have : wo_ct (fun a => decide (a < c + 1)) (c + 1) = wo_ct (fun _ => true) (c + 1) := wo_ct_cg (fun j hj => decide_eq_true hj)
      rw [this, wo_ct_true]
    · rw [wo_ct_f (by simp; omega)]
      exact wo_ctlt r c (by omega)
theorem wo_ctgt (t : Nat) : ∀ c, wo_ct (fun a => decide (t < a)) c = c - (t + 1)
  | 0 => by
    show 0 = 0 - (t + 1)
    omega
  | c + 1 => by
    rw [wo_ct_s, wo_ctgt t c]
    simp only [decide_eq_true_eq]
    split <;> omega
theorem wo_Ord_id {P : Nat → Nat → Bool} (h : ∀ a b, P a b = decide (a < b)) (c : Nat) : wo_Ord P c (fun r => r) := by
  intro r hr
  refine ⟨hr, ?_⟩
  have e : wo_ct (fun a => P a r) c = wo_ct (fun a => decide (a < r)) c := wo_ct_cg (fun j _ => h j r)
  exact e.trans (wo_ctlt r c (by omega))
theorem wo_Ord_rev {P : Nat → Nat → Bool} (h : ∀ a b, P a b = decide (b < a)) (c : Nat) : wo_Ord P c (fun r => c - 1 - r) := by
  intro r hr
  dsimp only
  refine ⟨by omega, ?_⟩
  have e : wo_ct (fun a => P a (c - 1 - r)) c = wo_ct (fun a => decide (c - 1 - r < a)) c := wo_ct_cg (fun j _ => h j _)
  rw [e, wo_ctgt]
  omega
theorem wo_surj {P : Nat → Nat → Bool} {c : Nat} {o : Nat → Nat} (h : wo_Ord P c o) (hc : c ≤ 3) : ∀ b, b < c → ∃ r, r < c ∧ o r = b := by
  intro b hb
  have ne : ∀ r r', r < c → r' < c → r ≠ r' → o r ≠ o r' := by
    intro r r' hr hr' n e
    have h1 := (h r hr).2
    have h2 := (h r' hr').2
    rw [e] at h1
    exact n (h1.symm.trans h2)
  have lt : ∀ r, r < c → o r < c := fun r hr => (h r hr).1
  by_cases e0 : o 0 = b
  · exact ⟨0, by omega, e0⟩
  · have l0 := lt 0 (by omega)
    have c2 : 2 ≤ c := by omega
    by_cases e1 : o 1 = b
    · exact ⟨1, by omega, e1⟩
    · have l1 := lt 1 (by omega)
      have n1 := ne 0 1 (by omega) (by omega) (by decide)
      have c3 : c = 3 := by omega
      have l2 := lt 2 (by omega)
      have n2 := ne 0 2 (by omega) (by omega) (by decide)
      have n3 := ne 1 2 (by omega) (by omega) (by decide)
      exact ⟨2, by omega, by omega⟩
theorem wo_rank {P : Nat → Nat → Bool} {c : Nat} {o : Nat → Nat} (h : wo_Ord P c o) (hc : c ≤ 3) {b r : Nat} (hb : b < c) (e : wo_ct (fun a => P a b) c = r) : r < c ∧ o r = b := by
  obtain ⟨r', hr, rfl⟩ := wo_surj h hc b hb
  have h2 := (h r' hr).2
  have : r' = r := h2.symm.trans e
  subst this
  exact ⟨hr, rfl⟩
/-! ===== X's insertion sort, pure ===== -/
def wo_sw (o : Nat → Nat) (i j : Nat) : Nat → Nat := fun r => if r = j then o i else if r = i then o j else o r
def wo_ins (le : Nat → Nat → Bool) : Nat → (Nat → Nat) → Nat → Nat
  | 0, o => o
  | b + 1, o => if le (o b) (o (b + 1)) = true then o else wo_ins le b (wo_sw o b (b + 1))
def wo_srt (le : Nat → Nat → Bool) : Nat → Nat → (Nat → Nat) → Nat → Nat
  | 0, _, o => o
  | d + 1, a, o => wo_srt le d (a + 1) (wo_ins le a o)
theorem wo_ins_s (le : Nat → Nat → Bool) (b : Nat) (o : Nat → Nat) : wo_ins le (b + 1) o = if le (o b) (o (b + 1)) = true then o else wo_ins le b (wo_sw o b (b + 1)) := rfl
theorem wo_ins1 (le : Nat → Nat → Bool) (o : Nat → Nat) : wo_ins le 1 o = if le (o 0) (o 1) = true then o else wo_sw o 0 1 := rfl
theorem wo_ins2 (le : Nat → Nat → Bool) (o : Nat → Nat) : wo_ins le 2 o = if le (o 1) (o 2) = true then o else wo_ins le 1 (wo_sw o 1 2) := rfl
theorem wo_ct2 (p : Nat → Bool) : wo_ct p 2 = 0 + (if p 0 = true then 1 else 0) + (if p 1 = true then 1 else 0) := rfl
theorem wo_ct3 (p : Nat → Bool) : wo_ct p 3 = 0 + (if p 0 = true then 1 else 0) + (if p 1 = true then 1 else 0) + (if p 2 = true then 1 else 0) := rfl
theorem wo_sort {P le : Nat → Nat → Bool} (h1 : ∀ a b, a < b → P a b = le a b) (h2 : ∀ a b, a < b → P b a = !le a b) (h3 : ∀ a, P a a = false)
    (t1 : le 0 1 = true → le 1 2 = true → le 0 2 = true) (t2 : le 0 1 = false → le 1 2 = false → le 0 2 = false) {c : Nat} (hc : c ≤ 3) : wo_Ord P c (wo_srt le (c - 1) 1 (fun r => r)) := by
  have a01 := h1 0 1 (by decide)
  have a02 := h1 0 2 (by decide)
  have a12 := h1 1 2 (by decide)
  have b01 := h2 0 1 (by decide)
  have b02 := h2 0 2 (by decide)
  have b12 := h2 1 2 (by decide)
  have d0 := h3 0
  have d1 := h3 1
  have d2 := h3 2
  clear h1 h2 h3
  intro r hr
  rcases (by omega : c = 1 ∨ c = 2 ∨ c = 3) with rfl | rfl | rfl
  · have : r = 0 := by omega
    subst this
    refine ⟨Nat.lt_succ_self 0, ?_⟩
    show 0 + (if P 0 0 = true then 1 else 0) = 0
    rw [d0]
    rfl
  · have e : wo_srt le (2 - 1) 1 (fun r => r) = wo_ins le 1 (fun r => r) := rfl
    rw [e, wo_ins1]
    generalize hx : le 0 1 = x at *
    clear t1 t2 a02 a12 b02 b12 d2
    rcases (by omega : r = 0 ∨ r = 1) with rfl | rfl <;> cases x <;> simp [wo_ct2, wo_sw, a01, b01, d0, d1]
  · have e : wo_srt le (3 - 1) 1 (fun r => r) = wo_ins le 2 (wo_ins le 1 (fun r => r)) := rfl
    rw [e]
    generalize hx : le 0 1 = x at *
    generalize hy : le 0 2 = y at *
    generalize hz : le 1 2 = z at *
    rcases (by omega : r = 0 ∨ r = 1 ∨ r = 2) with rfl | rfl | rfl <;> cases x <;> cases y <;> cases z <;>
      first
      | exact absurd (t1 rfl rfl) (by decide)
      | exact absurd (t2 rfl rfl) (by decide)
      | simp [wo_ins1, wo_ins2, wo_ct3, wo_sw, hx, hy, hz, a01, b01, a02, b02, a12, b12, d0, d1, d2]
/-! ===== the kinds ===== -/
theorem wo_pb_rev {k : Nat} (h : k = 7 ∨ k = 9 ∨ k = 11) (x y : Int32) (a b : Nat) : wo_pb (nI k) x y a b = decide (b < a) := by
  unfold wo_pb wo_53 wo_85
  rcases h with rfl | rfl | rfl
  all_goals
    rw [if_neg (fun z => absurd z.1 (by decide)), if_neg (fun z => absurd z.1 (by decide)), if_pos (by decide)]
theorem wo_pb_id {k : Nat} (hk : k < 12) (h : ¬ (k = 7 ∨ k = 9 ∨ k = 11)) (h' : ¬ (k = 2 ∨ k = 4 ∨ k = 8 ∨ k = 10)) (x y : Int32) (a b : Nat) : wo_pb (nI k) x y a b = decide (a < b) := by
  unfold wo_pb wo_53 wo_85
  rcases (by omega : k = 0 ∨ k = 1 ∨ k = 3 ∨ k = 5 ∨ k = 6) with rfl | rfl | rfl | rfl | rfl
  all_goals
    rw [if_neg (fun z => absurd z.1 (by decide)), if_neg (fun z => absurd z.1 (by decide)), if_neg (by decide)]
theorem wo_pb_up {k : Nat} (h : k = 2 ∨ k = 4) (x y : Int32) (a b : Nat) : wo_pb (nI k) x y a b = if x ≠ y then decide (x < y) else decide (a < b) := by
  by_cases e : x = y
  · rw [if_neg (fun z => z e)]
    unfold wo_pb wo_53 wo_85
    rw [if_neg (fun z => z.2 e), if_neg (fun z => z.2 e), if_neg (by rcases h with rfl | rfl <;> decide)]
  · rw [if_pos e]
    unfold wo_pb
    rw [if_pos ⟨by rcases h with rfl | rfl <;> decide, e⟩]
theorem wo_pb_dn {k : Nat} (h : k = 8 ∨ k = 10) (x y : Int32) (a b : Nat) : wo_pb (nI k) x y a b = if x ≠ y then decide (y < x) else decide (a < b) := by
  by_cases e : x = y
  · rw [if_neg (fun z => z e)]
    unfold wo_pb wo_53 wo_85
    rw [if_neg (fun z => z.2 e), if_neg (fun z => z.2 e), if_neg (by rcases h with rfl | rfl <;> decide)]
  · rw [if_pos e]
    unfold wo_pb wo_53
    rw [if_neg (fun z => absurd z.1 (by rcases h with rfl | rfl <;> decide)), if_pos ⟨by rcases h with rfl | rfl <;> decide, e⟩]
theorem wo_lene {x y : Int32} (e : ¬ x = y) : x < y ↔ x ≤ y := by
  have : ¬ x.toInt = y.toInt := fun z => e (Int32.toInt_inj.mp z)
  rw [Int32.lt_iff_toInt_lt, Int32.le_iff_toInt_le]
  omega
theorem wo_ltnl {x y : Int32} : y < x ↔ ¬ x ≤ y := by
  rw [Int32.lt_iff_toInt_lt, Int32.le_iff_toInt_le]
  omega
theorem wo_Ord_up {k : Nat} (h : k = 2 ∨ k = 4) (d : Nat → Int32) {c : Nat} (hc : c ≤ 3) :
    wo_Ord (fun a b => wo_pb (nI k) (d a) (d b) a b) c (wo_srt (fun a b => decide (d a ≤ d b)) (c - 1) 1 (fun r => r)) := by
  apply wo_sort
  · intro a b hab
    rw [wo_pb_up h]
    by_cases e : d a = d b
    · rw [if_neg (fun z => z e), decide_eq_true hab, e, decide_eq_true (Int32.le_refl _)]
    · rw [if_pos e, decide_eq_decide]
      exact wo_lene e
  · intro a b hab
    rw [wo_pb_up h]
    by_cases e : d a = d b
    · rw [if_neg (fun z => z e.symm), decide_eq_false (by omega), e, decide_eq_true (Int32.le_refl _)]
      rfl
    · rw [if_pos (fun z => e z.symm), ← decide_not, decide_eq_decide]
      exact wo_ltnl
  · intro a
    rw [wo_pb_up h, if_neg (fun z => z rfl)]
    exact decide_eq_false (by omega)
  · simp only [decide_eq_true_eq]
    exact Int32.le_trans
  · simp only [decide_eq_false_iff_not, Int32.le_iff_toInt_le]
    omega
  · exact hc
theorem wo_Ord_dn {k : Nat} (h : k = 8 ∨ k = 10) (d : Nat → Int32) {c : Nat} (hc : c ≤ 3) :
    wo_Ord (fun a b => wo_pb (nI k) (d a) (d b) a b) c (wo_srt (fun a b => decide (d b ≤ d a)) (c - 1) 1 (fun r => r)) := by
  apply wo_sort
  · intro a b hab
    rw [wo_pb_dn h]
    by_cases e : d a = d b
    · rw [if_neg (fun z => z e), decide_eq_true hab, e, decide_eq_true (Int32.le_refl _)]
    · rw [if_pos e, decide_eq_decide]
      exact wo_lene (fun z => e z.symm)
  · intro a b hab
    rw [wo_pb_dn h]
    by_cases e : d a = d b
    · rw [if_neg (fun z => z e.symm), decide_eq_false (by omega), e, decide_eq_true (Int32.le_refl _)]
      rfl
    · rw [if_pos (fun z => e z.symm), ← decide_not, decide_eq_decide]
      exact wo_ltnl
  · intro a
    rw [wo_pb_dn h, if_neg (fun z => z rfl)]
    exact decide_eq_false (by omega)
  · simp only [decide_eq_true_eq]
    exact fun h1 h2 => Int32.le_trans h2 h1
  · simp only [decide_eq_false_iff_not, Int32.le_iff_toInt_le]
    omega
  · exact hc
end
section
/-! ===== the configurations ===== -/
def wo_p (kd : Nat → Int32) (k : Nat) : Nat → Bool := fun j => decide (kd j = nI k)
/-- rows of kind k below n -/
def wo_c (kd : Nat → Int32) (k n : Nat) : Nat := wo_ct (wo_p kd k) n
def wo_Cfg (ids dps bh cnt : Nat → Int32) (n : Nat) (kd idf df hw : Nat → Int32) : Prop :=
  n ≤ 36 ∧ (∀ j, j < n → ∃ k, k < 12 ∧ kd j = nI k) ∧
  (∀ k, k < 12 → cnt k = nI (wo_c kd k n) ∧ wo_c kd k n ≤ 3) ∧
  (∀ j k, j < n → k < 12 → kd j = nI k → ids (k * 3 + wo_c kd k j) = idf j ∧ dps (k * 3 + wo_c kd k j) = df j ∧ bh (k * 3 + wo_c kd k j) = hw j) ∧
  (∀ j, j < n → (hw j = 0 ∨ hw j = 1 ∨ hw j = 2) ∧ (idf j).toInt16.toInt32 = idf j)
def wo_bI (b : Bool) : Int32 := if b = true then 1 else 0
section
variable {n : Nat} {fl : Int32} {sel : Int64} {pc : Int32} {kd idf df hw li lb : Nat → Int32} {mk : Nat → Int64}
theorem wo_y103 {post : Int32 → Prop} {a b : Nat} (ha : a < 36) (hb : b < 36) (hp : post (wo_bI (decide (b < a)))) : wY_precedes_103 post (nI a) (nI b) (nI n) fl sel pc kd idf df hw li lb mk := by
  unfold wY_precedes_103
  refine pk_le a b (fun h => ?_) (fun h => ?_)
  · rw [decide_eq_false (by omega)] at hp
    exact hp
  · rw [decide_eq_true h] at hp
    exact hp
theorem wo_y85 {post : Int32 → Prop} {k : Int32} {a b : Nat} (ha : a < 36) (hb : b < 36) (hp : post (wo_bI (wo_85 k a b))) : wY_precedes_85 post (nI a) (nI b) k (nI n) fl sel pc kd idf df hw li lb mk := by
  unfold wY_precedes_85
  unfold wo_85 at hp
  refine br_c (fun h => ?_) (fun h => br_c (fun h2 => ?_) (fun h2 => br_c (fun h3 => ?_) (fun h3 => ?_)))
  · rw [if_pos (Or.inl h)] at hp
    exact wo_y103 ha hb hp
  · rw [if_pos (Or.inr (Or.inl h2))] at hp
    exact wo_y103 ha hb hp
  · rw [if_pos (Or.inr (Or.inr h3))] at hp
    exact wo_y103 ha hb hp
  · rw [if_neg (fun z => z.elim h (fun z => z.elim h2 h3))] at hp
    refine pk_le b a (fun h => ?_) (fun h => ?_)
    · rw [decide_eq_false (by omega)] at hp
      exact hp
    · rw [decide_eq_true h] at hp
      exact hp
theorem wo_y53 {post : Int32 → Prop} {k x y : Int32} {a b : Nat} (ha : a < 36) (hb : b < 36) (hp : post (wo_bI (wo_53 k x y a b))) : wY_precedes_53 post (nI a) (nI b) k x y (nI n) fl sel pc kd idf df hw li lb mk := by
  have h65 : (k = 8 ∨ k = 10) → wY_precedes_65 post (nI a) (nI b) k x y (nI n) fl sel pc kd idf df hw li lb mk := by
    intro hk
    unfold wY_precedes_65
    unfold wo_53 at hp
    refine br_c (fun e => ?_) (fun e => ?_)
    · rw [if_neg (fun z => z.2 e)] at hp
      exact wo_y85 ha hb hp
    · rw [if_pos ⟨hk, e⟩] at hp
      refine br_c (fun l => ?_) (fun l => ?_)
      · rw [decide_eq_false (fun z => wo_ltnl.mp z l)] at hp
        exact hp
      · rw [decide_eq_true (wo_ltnl.mpr l)] at hp
        exact hp
  unfold wY_precedes_53
  refine br_c (fun h => h65 (Or.inl h)) (fun h => br_c (fun h2 => h65 (Or.inr h2)) (fun h2 => ?_))
  unfold wo_53 at hp
  rw [if_neg (fun z => z.1.elim h h2)] at hp
  exact wo_y85 ha hb hp
theorem wo_y33 {post : Int32 → Prop} {k x y : Int32} {a b : Nat} (ha : a < 36) (hb : b < 36) (hk : k = 2 ∨ k = 4) (hp : post (wo_bI (wo_pb k x y a b))) : wY_precedes_33 post (nI a) (nI b) k x y (nI n) fl sel pc kd idf df hw li lb mk := by
  unfold wY_precedes_33
  unfold wo_pb at hp
  refine br_c (fun e => ?_) (fun e => ?_)
  · rw [if_neg (fun z => z.2 e)] at hp
    exact wo_y53 ha hb hp
  · rw [if_pos ⟨hk, e⟩] at hp
    refine br_c (fun l => ?_) (fun l => ?_)
    · rw [decide_eq_false (fun z => wo_ltnl.mp z l)] at hp
      exact hp
    · rw [decide_eq_true (wo_ltnl.mpr l)] at hp
      exact hp
theorem wo_prec {post : Int32 → Prop} {a b : Nat} (ha : a < 36) (hb : b < 36) (hp : post (wo_bI (wo_pb (kd a) (df a) (df b) a b))) : wpY_precedes post ((nI n), fl, sel, pc, kd, idf, df, hw, li, lb, mk) (nI a) (nI b) := by
  unfold wpY_precedes
  dsimp only
  refine ⟨pk_in a 36 ha, nm_r (e' := kd a) (congrArg kd (nI_clamp (by omega))) ⟨pk_in a 36 ha, nm_r (e' := df a) (congrArg df (nI_clamp (by omega))) ⟨pk_in b 36 hb, nm_r (e' := df b) (congrArg df (nI_clamp (by omega))) ?_⟩⟩⟩
  refine br_c (fun h => wo_y33 ha hb (Or.inl h) hp) (fun h => br_c (fun h2 => wo_y33 ha hb (Or.inr h2) hp) (fun h2 => ?_))
  unfold wo_pb at hp
  rw [if_neg (fun z => z.1.elim h h2)] at hp
  exact wo_y53 ha hb hp
theorem wo_prec_t {post : Int32 → Prop} {a b : Nat} (ha : a < 36) (hb : b < 36) (h : wo_pb (kd a) (df a) (df b) a b = true) (hp : post 1) : wpY_precedes post ((nI n), fl, sel, pc, kd, idf, df, hw, li, lb, mk) (nI a) (nI b) := wo_prec ha hb (by rw [h]; exact hp)
theorem wo_prec_f {post : Int32 → Prop} {a b : Nat} (ha : a < 36) (hb : b < 36) (h : wo_pb (kd a) (df a) (df b) a b = false) (hp : post 0) : wpY_precedes post ((nI n), fl, sel, pc, kd, idf, df, hw, li, lb, mk) (nI a) (nI b) := wo_prec ha hb (by rw [h]; exact hp)
/-- rows of kind kx that go before row j -/
def wo_Q (kd df : Nat → Int32) (kx : Int32) (j : Nat) : Nat → Bool := fun i => decide (kd i = kx) && wo_pb kx (df i) (df j) i j
theorem wo_y26 (hn : n ≤ 36) {post J2 : Int32 → Prop} {kx : Int32} {r j : Nat} (hj : j < n) (hr : r < 36)
    (h1 : wo_ct (wo_Q kd df kx j) n = r → post (nI j)) (h2 : ¬ wo_ct (wo_Q kd df kx j) n = r → J2 (nI (j + 1))) :
    ∀ d i, i + d = n → ∀ m, d < m → wY_pick_26 post J2 kx (nI r) (nI j) (nI n) fl sel pc kd idf df hw li lb mk m (nI (wo_ct (wo_Q kd df kx j) i)) (nI i) := by
  intro d
  induction d with
  | zero =>
    intro i hi m hm
    obtain ⟨m, rfl⟩ : ∃ m', m = m' + 1 := ⟨m - 1, by omega⟩
    have e : i = n := by omega
    have hc := wo_ct_le (p := wo_Q kd df kx j) (m := n)
    rw [e]
    exact br_t (nI_le (Nat.le_refl _) (by omega)) (pk_eq _ r h1 (fun z => nm_r (nI_1 j) (h2 z)))
  | succ d ih =>
    intro i hi m hm
    obtain ⟨m, rfl⟩ : ∃ m', m = m' + 1 := ⟨m - 1, by omega⟩
    have ec : (nI i).toNatClampNeg = i := nI_clamp (by omega)
    refine br_f (nI_ge (by omega) (by omega)) ⟨pk_in i 36 (by omega), ?_⟩
    rw [ec]
    by_cases hk : kd i = kx
    · refine br_t hk ?_
      by_cases hb : wo_pb (kd i) (df i) (df j) i j = true
      · have e : wo_ct (wo_Q kd df kx j) (i + 1) = wo_ct (wo_Q kd df kx j) i + 1 := by
          apply wo_ct_t
          unfold wo_Q
          rw [hk] at hb
          rw [decide_eq_true hk, hb]
          rfl
        refine wo_prec_t (by omega) (by omega) hb (br_f (by decide) (nm_r (nI_1 _) (nm_r (nI_1 _) ?_)))
        rw [← e]
        exact ih (i + 1) (by omega) m (by omega)
      · have hb' := ts_nt' hb
        have e : wo_ct (wo_Q kd df kx j) (i + 1) = wo_ct (wo_Q kd df kx j) i := by
          apply wo_ct_f
          unfold wo_Q
          rw [hk] at hb'
          rw [hb', Bool.and_false]
          decide
        refine wo_prec_f (by omega) (by omega) hb' (br_t rfl (nm_r (nI_1 _) ?_))
        rw [← e]
        exact ih (i + 1) (by omega) m (by omega)
    · have e : wo_ct (wo_Q kd df kx j) (i + 1) = wo_ct (wo_Q kd df kx j) i := by
        apply wo_ct_f
        unfold wo_Q
        rw [decide_eq_false hk, Bool.false_and]
        decide
      refine br_f hk (nm_r (nI_1 _) ?_)
      rw [← e]
      exact ih (i + 1) (by omega) m (by omega)
theorem wo_y2 (hn : n ≤ 36) {post : Int32 → Prop} {kx : Int32} {r : Nat} (hr : r < 36) {ans : Int32}
    (h1 : ∀ j, j < n → kd j = kx → wo_ct (wo_Q kd df kx j) n = r → ans = nI j)
    (h2 : (∀ j, j < n → kd j = kx → ¬ wo_ct (wo_Q kd df kx j) n = r) → ans = -1) (hp : post ans) :
    ∀ d j, j + d = n → (∀ j', j' < j → kd j' = kx → ¬ wo_ct (wo_Q kd df kx j') n = r) → ∀ m, d < m → wY_pick_2 post kx (nI r) (nI n) fl sel pc kd idf df hw li lb mk m (nI j) := by
  intro d
  induction d with
  | zero =>
    intro j hj hl m hm
    obtain ⟨m, rfl⟩ : ∃ m', m = m' + 1 := ⟨m - 1, by omega⟩
    have e := h2 (fun j' hj' => hl j' (by omega))
    rw [e] at hp
    exact br_t (nI_le (by omega) (by omega)) hp
  | succ d ih =>
    intro j hj hl m hm
    obtain ⟨m, rfl⟩ : ∃ m', m = m' + 1 := ⟨m - 1, by omega⟩
    have ec : (nI j).toNatClampNeg = j := nI_clamp (by omega)
    refine br_f (nI_ge (by omega) (by omega)) ⟨pk_in j 36 (by omega), ?_⟩
    rw [ec]
    by_cases hk : kd j = kx
    · refine br_t hk ⟨n + 1, wo_y26 hn (by omega) hr (fun e => ?_) (fun e => ?_) n 0 (by omega) (n + 1) (by omega)⟩
      · rw [← h1 j (by omega) hk e]
        exact hp
      · refine ih (j + 1) (by omega) (fun j' hj' hk' => ?_) m (by omega)
        by_cases z : j' = j
        · rw [z]
          exact e
        · exact hl j' (by omega) hk'
    · refine br_f hk (nm_r (nI_1 _) (ih (j + 1) (by omega) (fun j' hj' hk' => ?_) m (by omega)))
      by_cases z : j' = j
      · rw [z] at hk'
        exact absurd hk' hk
      · exact hl j' (by omega) hk'
end
/-- what pick answers: t r is the row of rank r -/
def wo_PK (ids bh : Nat → Int32) (n : Nat) (kd idf df hw : Nat → Int32) (k c : Nat) (o t : Nat → Nat) : Prop :=
  (∀ r, r < c → t r < n ∧ ids (k * 3 + o r) = idf (t r) ∧ bh (k * 3 + o r) = hw (t r)) ∧
  (∀ (fl : Int32) (sel : Int64) (pc : Int32) (li lb : Nat → Int32) (mk : Nat → Int64) (post : Int32 → Prop) (r : Nat), r < c → post (nI (t r)) → wpY_pick post ((nI n), fl, sel, pc, kd, idf, df, hw, li, lb, mk) (nI k) (nI r)) ∧
  (∀ (fl : Int32) (sel : Int64) (pc : Int32) (li lb : Nat → Int32) (mk : Nat → Int64) (post : Int32 → Prop) (r : Nat), c ≤ r → r < 36 → post (-1) → wpY_pick post ((nI n), fl, sel, pc, kd, idf, df, hw, li, lb, mk) (nI k) (nI r))
theorem wo_pick {ids dps bh cnt : Nat → Int32} {n : Nat} {kd idf df hw : Nat → Int32} (hC : wo_Cfg ids dps bh cnt n kd idf df hw) {k : Nat} (hk : k < 12) {o : Nat → Nat}
    (ho : wo_Ord (fun a b => wo_pb (nI k) (dps (k * 3 + a)) (dps (k * 3 + b)) a b) (wo_c kd k n) o) :
    ∃ t : Nat → Nat, wo_PK ids bh n kd idf df hw k (wo_c kd k n) o t := by
  obtain ⟨hn, -, hc, hs, -⟩ := hC
  have hc3 := (hc k hk).2
  obtain ⟨s, s1, s2, s3⟩ := wo_mem (wo_p kd k) n
  have kdv : ∀ j, wo_p kd k j = true → kd j = nI k := fun j h => of_decide_eq_true h
  have mono : ∀ a b, a < wo_c kd k n → b < wo_c kd k n → (s a < s b ↔ a < b) := by
    intro a b ha hb
    obtain ⟨a1, a2, a3⟩ := s1 a ha
    obtain ⟨b1, b2, b3⟩ := s1 b hb
    constructor
    · intro h
      have := wo_ct_lt h a2
      omega
    · intro h
      by_cases z : s a < s b
      · exact z
      · have := wo_ct_mono (p := wo_p kd k) (show s b ≤ s a by omega)
        omega
  have dv : ∀ a, a < wo_c kd k n → ids (k * 3 + a) = idf (s a) ∧ dps (k * 3 + a) = df (s a) ∧ bh (k * 3 + a) = hw (s a) := by
    intro a ha
    obtain ⟨a1, a2, a3⟩ := s1 a ha
    have h := hs (s a) k a1 hk (kdv _ a2)
    have e : wo_c kd k (s a) = a := a3
    rw [e] at h
    exact h
  have rk : ∀ b, b < wo_c kd k n → wo_ct (wo_Q kd df (nI k) (s b)) n = wo_ct (fun a => wo_pb (nI k) (dps (k * 3 + a)) (dps (k * 3 + b)) a b) (wo_c kd k n) := by
    intro b hb
    refine (s3 (fun i => wo_pb (nI k) (df i) (df (s b)) i (s b))).trans (wo_ct_cg (fun a ha => ?_))
    rw [(dv a ha).2.1, (dv b hb).2.1]
    exact wo_pb_mono (mono a b ha hb) (mono b a hb ha)
  have tot : ∀ j r, j < n → kd j = nI k → wo_ct (wo_Q kd df (nI k) j) n = r → r < wo_c kd k n ∧ s (o r) = j := by
    intro j r hj kj e
    have pj : wo_p kd k j = true := decide_eq_true kj
    have hb : wo_c kd k j < wo_c kd k n := wo_ct_lt hj pj
    have es : s (wo_c kd k j) = j := s2 j hj pj
    have h := rk _ hb
    rw [es, e] at h
    obtain ⟨h1, h2⟩ := wo_rank ho hc3 hb h.symm
    exact ⟨h1, by rw [h2, es]⟩
  refine ⟨fun r => s (o r), ?_, ?_, ?_⟩
  · intro r hr
    obtain ⟨o1, o2⟩ := ho r hr
    have := dv _ o1
    exact ⟨(s1 _ o1).1, this.1, this.2.2⟩
  · intro fl sel pc li lb mk post r hr hp
    obtain ⟨o1, o2⟩ := ho r hr
    obtain ⟨a1, a2, a3⟩ := s1 _ o1
    refine Exists.intro (n + 1) (wo_y2 hn (by omega) (ans := nI (s (o r))) (fun j hj kj e => ?_) (fun z => ?_) hp n 0 (by omega) (fun j' hj' => absurd hj' (Nat.not_lt_zero _)) (n + 1) (by omega))
    · rw [(tot j r hj kj e).2]
    · exact absurd ((rk _ o1).trans o2) (z _ a1 (kdv _ a2))
  · intro fl sel pc li lb mk post r hr h36 hp
    refine Exists.intro (n + 1) (wo_y2 hn h36 (ans := -1) (fun j hj kj e => ?_) (fun z => rfl) hp n 0 (by omega) (fun j' hj' => absurd hj' (Nat.not_lt_zero _)) (n + 1) (by omega))
    have := (tot j r hj kj e).1
    omega
end
section
/-! ===== X's phase: how it lays its order ===== -/
theorem wo_ne {k b : Nat} (hk : k < 12) (hb : b < 12) (h : k ≠ b) : ¬ nI k = nI b := fun z => h ((nI_eq (by omega) (by omega)).mp z)
section
variable {k c a : Nat} {fl fs ab : Int32} {ids dps bh cnt li lb : Nat → Int32} {mk : Nat → Int64}
theorem wo_x107 (hk : k < 12) (hc : c ≤ 3) : ∀ (b : Nat) (o : Nat → Nat) (od : Nat → Int32), b < c → (∀ r, r < c → od r = nI (o r) ∧ o r < c) →
    ∃ od' : Nat → Int32, (∀ r, r < c → od' r = nI (wo_ins (fun p q => decide (dps (k * 3 + p) ≤ dps (k * 3 + q))) b o r) ∧ wo_ins (fun p q => decide (dps (k * 3 + p) ≤ dps (k * 3 + q))) b o r < c) ∧
      ∀ (post : Int32 → SX → Prop) (J : Int32 → (Nat → Int32) → (Nat → Int32) → (Nat → Int32) → (Nat → Int32) → (Nat → Int32) → (Nat → Int32) → (Nat → Int64) → (Nat → Int32) → Prop), J (nI (a + 1)) ids dps bh cnt li lb mk od' →
        ∀ m, b < m → wX_phase_107 post J (nI k) (nI c) (nI (k * 3)) (nI a) fl fs ab m (nI b) ids dps bh cnt li lb mk od := by
  intro b
  induction b with
  | zero =>
    intro o od hb h
    refine ⟨od, h, fun post J hJ m hm => ?_⟩
    obtain ⟨m, rfl⟩ : ∃ m', m = m' + 1 := ⟨m - 1, by omega⟩
    exact br_t (nI_le (a := 0) (b := 0) (Nat.le_refl _) (by decide)) (nm_r (nI_1 a) hJ)
  | succ b ih =>
    intro o od hb h
    obtain ⟨ob, lb0⟩ := h b (by omega)
    obtain ⟨ob1, lb1⟩ := h (b + 1) (by omega)
    have e1 := nI_pred b
    have eb : (nI b).toNatClampNeg = b := nI_clamp (by omega)
    have eb1 : (nI (b + 1)).toNatClampNeg = b + 1 := nI_clamp (by omega)
    have c0 : (nI (k * 3 + o b)).toNatClampNeg = k * 3 + o b := nI_clamp (by omega)
    have c1 : (nI (k * 3 + o (b + 1))).toNatClampNeg = k * 3 + o (b + 1) := nI_clamp (by omega)
    have hnle : ¬ nI (b + 1) ≤ 0 := nI_nle (by omega) (by omega)
    have i0 : vp_in (nI b) 3 := pk_in b 3 (by omega)
    have i1 : vp_in (nI (b + 1)) 3 := pk_in (b + 1) 3 (by omega)
    have j0 : vp_in (nI (k * 3 + o b)) 36 := vp_in_nI (by omega) (by decide)
    have j1 : vp_in (nI (k * 3 + o (b + 1))) 36 := vp_in_nI (by omega) (by decide)
    by_cases hle : (fun p q => dps (k * 3 + p) ≤ dps (k * 3 + q)) (o b) (o (b + 1))
    · have e : wo_ins (fun p q => decide (dps (k * 3 + p) ≤ dps (k * 3 + q))) (b + 1) o = o := by
        rw [wo_ins_s]
        exact if_pos (decide_eq_true hle)
      dsimp only at hle
      refine ⟨od, by rw [e]; exact h, fun post J hJ m hm => ?_⟩
      obtain ⟨m, rfl⟩ : ∃ m', m = m' + 1 := ⟨m - 1, by omega⟩
      refine br_f hnle ?_
      simp only [e1, eb, eb1, ob, ob1, nI_add, c0, c1]
      exact ⟨i0, j0, i1, j1, br_t hle (nm_r (nI_1 a) hJ)⟩
    · have e : wo_ins (fun p q => decide (dps (k * 3 + p) ≤ dps (k * 3 + q))) (b + 1) o = wo_ins (fun p q => decide (dps (k * 3 + p) ≤ dps (k * 3 + q))) b (wo_sw o b (b + 1)) := by
        rw [wo_ins_s]
        exact if_neg (fun z => hle (of_decide_eq_true z))
      dsimp only at hle
      have h' : ∀ r, r < c → upd (upd od b (nI (o (b + 1)))) (b + 1) (nI (o b)) r = nI (wo_sw o b (b + 1) r) ∧ wo_sw o b (b + 1) r < c := by
        intro r hr
        unfold wo_sw upd
        by_cases z1 : r = b + 1
        · rw [if_pos z1, if_pos z1]
          exact ⟨rfl, lb0⟩
        · rw [if_neg z1, if_neg z1]
          by_cases z2 : r = b
          · rw [if_pos z2, if_pos z2]
            exact ⟨rfl, lb1⟩
          · rw [if_neg z2, if_neg z2]
            exact h r hr
      obtain ⟨od', h1, h2⟩ := ih (wo_sw o b (b + 1)) (upd (upd od b (nI (o (b + 1)))) (b + 1) (nI (o b))) (by omega) h'
      refine ⟨od', by rw [e]; exact h1, fun post J hJ m hm => ?_⟩
      obtain ⟨m, rfl⟩ : ∃ m', m = m' + 1 := ⟨m - 1, by omega⟩
      refine br_f hnle ?_
      simp only [e1, eb, eb1, ob, ob1, nI_add, c0, c1]
      exact ⟨i0, j0, i1, j1, br_f hle ⟨i0, nm_e ⟨i1, i0, nm_e ⟨i1, nm_e (nm_r (pk_m1 b) (h2 post J hJ m (by omega)))⟩⟩⟩⟩
theorem wo_x97 (hk : k < 12) (hc : c ≤ 3) : ∀ (d a : Nat) (o : Nat → Nat) (od : Nat → Int32), (a + d = c ∨ (d = 0 ∧ c ≤ a ∧ a ≤ 3)) → (∀ r, r < c → od r = nI (o r) ∧ o r < c) →
    ∃ od' : Nat → Int32, (∀ r, r < c → od' r = nI (wo_srt (fun p q => decide (dps (k * 3 + p) ≤ dps (k * 3 + q))) d a o r) ∧ wo_srt (fun p q => decide (dps (k * 3 + p) ≤ dps (k * 3 + q))) d a o r < c) ∧
      ∀ (post : Int32 → SX → Prop), wX_phase_307 post (nI k) (nI c) (nI (k * 3)) fl fs ab ids dps bh cnt li lb mk od' →
        ∀ m, d < m → wX_phase_97 post (nI k) (nI c) (nI (k * 3)) fl fs ab m (nI a) ids dps bh cnt li lb mk od := by
  intro d
  induction d with
  | zero =>
    intro a o od hd h
    refine ⟨od, h, fun post hp m hm => ?_⟩
    obtain ⟨m, rfl⟩ : ∃ m', m = m' + 1 := ⟨m - 1, by omega⟩
    exact br_t (nI_le (by omega) (by omega)) hp
  | succ d ih =>
    intro a o od hd h
    obtain ⟨od1, h1, h2⟩ := wo_x107 (a := a) (fl := fl) (fs := fs) (ab := ab) (ids := ids) (dps := dps) (bh := bh) (cnt := cnt) (li := li) (lb := lb) (mk := mk) hk hc a o od (by omega) h
    obtain ⟨od2, h3, h4⟩ := ih (a + 1) _ od1 (by omega) h1
    refine ⟨od2, h3, fun post hp m hm => ?_⟩
    obtain ⟨m, rfl⟩ : ∃ m', m = m' + 1 := ⟨m - 1, by omega⟩
    exact br_f (nI_ge (by omega) (by omega)) ⟨a + 1, h2 post _ (h4 post hp m (by omega)) (a + 1) (by omega)⟩
theorem wo_x221 (hk : k < 12) (hc : c ≤ 3) : ∀ (b : Nat) (o : Nat → Nat) (od : Nat → Int32), b < c → (∀ r, r < c → od r = nI (o r) ∧ o r < c) →
    ∃ od' : Nat → Int32, (∀ r, r < c → od' r = nI (wo_ins (fun p q => decide (dps (k * 3 + q) ≤ dps (k * 3 + p))) b o r) ∧ wo_ins (fun p q => decide (dps (k * 3 + q) ≤ dps (k * 3 + p))) b o r < c) ∧
      ∀ (post : Int32 → SX → Prop) (J : Int32 → (Nat → Int32) → (Nat → Int32) → (Nat → Int32) → (Nat → Int32) → (Nat → Int32) → (Nat → Int32) → (Nat → Int64) → (Nat → Int32) → Prop), J (nI (a + 1)) ids dps bh cnt li lb mk od' →
        ∀ m, b < m → wX_phase_221 post J (nI k) (nI c) (nI (k * 3)) (nI a) fl fs ab m (nI b) ids dps bh cnt li lb mk od := by
  intro b
  induction b with
  | zero =>
    intro o od hb h
    refine ⟨od, h, fun post J hJ m hm => ?_⟩
    obtain ⟨m, rfl⟩ : ∃ m', m = m' + 1 := ⟨m - 1, by omega⟩
    exact br_t (nI_le (a := 0) (b := 0) (Nat.le_refl _) (by decide)) (nm_r (nI_1 a) hJ)
  | succ b ih =>
    intro o od hb h
    obtain ⟨ob, lb0⟩ := h b (by omega)
    obtain ⟨ob1, lb1⟩ := h (b + 1) (by omega)
    have e1 := nI_pred b
    have eb : (nI b).toNatClampNeg = b := nI_clamp (by omega)
    have eb1 : (nI (b + 1)).toNatClampNeg = b + 1 := nI_clamp (by omega)
    have c0 : (nI (k * 3 + o b)).toNatClampNeg = k * 3 + o b := nI_clamp (by omega)
    have c1 : (nI (k * 3 + o (b + 1))).toNatClampNeg = k * 3 + o (b + 1) := nI_clamp (by omega)
    have hnle : ¬ nI (b + 1) ≤ 0 := nI_nle (by omega) (by omega)
    have i0 : vp_in (nI b) 3 := pk_in b 3 (by omega)
    have i1 : vp_in (nI (b + 1)) 3 := pk_in (b + 1) 3 (by omega)
    have j0 : vp_in (nI (k * 3 + o b)) 36 := vp_in_nI (by omega) (by decide)
    have j1 : vp_in (nI (k * 3 + o (b + 1))) 36 := vp_in_nI (by omega) (by decide)
    by_cases hle : (fun p q => dps (k * 3 + q) ≤ dps (k * 3 + p)) (o b) (o (b + 1))
    · have e : wo_ins (fun p q => decide (dps (k * 3 + q) ≤ dps (k * 3 + p))) (b + 1) o = o := by
        rw [wo_ins_s]
        exact if_pos (decide_eq_true hle)
      dsimp only at hle
      refine ⟨od, by rw [e]; exact h, fun post J hJ m hm => ?_⟩
      obtain ⟨m, rfl⟩ : ∃ m', m = m' + 1 := ⟨m - 1, by omega⟩
      refine br_f hnle ?_
      simp only [e1, eb, eb1, ob, ob1, nI_add, c0, c1]
      exact ⟨i0, j0, i1, j1, br_t hle (nm_r (nI_1 a) hJ)⟩
    · have e : wo_ins (fun p q => decide (dps (k * 3 + q) ≤ dps (k * 3 + p))) (b + 1) o = wo_ins (fun p q => decide (dps (k * 3 + q) ≤ dps (k * 3 + p))) b (wo_sw o b (b + 1)) := by
        rw [wo_ins_s]
        exact if_neg (fun z => hle (of_decide_eq_true z))
      dsimp only at hle
      have h' : ∀ r, r < c → upd (upd od b (nI (o (b + 1)))) (b + 1) (nI (o b)) r = nI (wo_sw o b (b + 1) r) ∧ wo_sw o b (b + 1) r < c := by
        intro r hr
        unfold wo_sw upd
        by_cases z1 : r = b + 1
        · rw [if_pos z1, if_pos z1]
          exact ⟨rfl, lb0⟩
        · rw [if_neg z1, if_neg z1]
          by_cases z2 : r = b
          · rw [if_pos z2, if_pos z2]
            exact ⟨rfl, lb1⟩
          · rw [if_neg z2, if_neg z2]
            exact h r hr
      obtain ⟨od', h1, h2⟩ := ih (wo_sw o b (b + 1)) (upd (upd od b (nI (o (b + 1)))) (b + 1) (nI (o b))) (by omega) h'
      refine ⟨od', by rw [e]; exact h1, fun post J hJ m hm => ?_⟩
      obtain ⟨m, rfl⟩ : ∃ m', m = m' + 1 := ⟨m - 1, by omega⟩
      refine br_f hnle ?_
      simp only [e1, eb, eb1, ob, ob1, nI_add, c0, c1]
      exact ⟨i0, j0, i1, j1, br_f hle ⟨i0, nm_e ⟨i1, i0, nm_e ⟨i1, nm_e (nm_r (pk_m1 b) (h2 post J hJ m (by omega)))⟩⟩⟩⟩
theorem wo_x211 (hk : k < 12) (hc : c ≤ 3) : ∀ (d a : Nat) (o : Nat → Nat) (od : Nat → Int32), (a + d = c ∨ (d = 0 ∧ c ≤ a ∧ a ≤ 3)) → (∀ r, r < c → od r = nI (o r) ∧ o r < c) →
    ∃ od' : Nat → Int32, (∀ r, r < c → od' r = nI (wo_srt (fun p q => decide (dps (k * 3 + q) ≤ dps (k * 3 + p))) d a o r) ∧ wo_srt (fun p q => decide (dps (k * 3 + q) ≤ dps (k * 3 + p))) d a o r < c) ∧
      ∀ (post : Int32 → SX → Prop), wX_phase_307 post (nI k) (nI c) (nI (k * 3)) fl fs ab ids dps bh cnt li lb mk od' →
        ∀ m, d < m → wX_phase_211 post (nI k) (nI c) (nI (k * 3)) fl fs ab m (nI a) ids dps bh cnt li lb mk od := by
  intro d
  induction d with
  | zero =>
    intro a o od hd h
    refine ⟨od, h, fun post hp m hm => ?_⟩
    obtain ⟨m, rfl⟩ : ∃ m', m = m' + 1 := ⟨m - 1, by omega⟩
    exact br_t (nI_le (by omega) (by omega)) hp
  | succ d ih =>
    intro a o od hd h
    obtain ⟨od1, h1, h2⟩ := wo_x221 (a := a) (fl := fl) (fs := fs) (ab := ab) (ids := ids) (dps := dps) (bh := bh) (cnt := cnt) (li := li) (lb := lb) (mk := mk) hk hc a o od (by omega) h
    obtain ⟨od2, h3, h4⟩ := ih (a + 1) _ od1 (by omega) h1
    refine ⟨od2, h3, fun post hp m hm => ?_⟩
    obtain ⟨m, rfl⟩ : ∃ m', m = m' + 1 := ⟨m - 1, by omega⟩
    exact br_f (nI_ge (by omega) (by omega)) ⟨a + 1, h2 post _ (h4 post hp m (by omega)) (a + 1) (by omega)⟩
theorem wo_x63 {x1 x3 : Int32} (hc : c ≤ 3) : ∀ (d i : Nat) (od : Nat → Int32), i + d = c → (∀ r, r < i → od r = nI r) →
    ∃ od' : Nat → Int32, (∀ r, r < c → od' r = nI r) ∧
      ∀ (post : Int32 → SX → Prop), wX_phase_63 post x1 (nI c) x3 fl fs ab 1 (nI c) ids dps bh cnt li lb mk od' → ∀ m, d < m → wX_phase_63 post x1 (nI c) x3 fl fs ab m (nI i) ids dps bh cnt li lb mk od := by
  intro d
  induction d with
  | zero =>
    intro i od hi h
    have e : i = c := by omega
    rw [e]
    rw [e] at h
    refine ⟨od, h, fun post hp m hm => ?_⟩
    obtain ⟨m, rfl⟩ : ∃ m', m = m' + 1 := ⟨m - 1, by omega⟩
    have l : nI c ≤ nI c := nI_le (Nat.le_refl _) (by omega)
    exact br_t l ((And.left hp) l)
  | succ d ih =>
    intro i od hi h
    have ec : (nI i).toNatClampNeg = i := nI_clamp (by omega)
    obtain ⟨od', h1, h2⟩ := ih (i + 1) (upd od i (nI i)) (by omega) (by
      intro r hr
      unfold upd
      by_cases z : r = i
      · rw [if_pos z, z]
      · rw [if_neg z]
        exact h r (by omega))
    refine ⟨od', h1, fun post hp m hm => ?_⟩
    obtain ⟨m, rfl⟩ : ∃ m', m = m' + 1 := ⟨m - 1, by omega⟩
    refine br_f (nI_ge (by omega) (by omega)) ⟨pk_in i 3 (by omega), nm_r (e' := upd od i (nI i)) (by rw [ec]) (nm_r (nI_1 i) (h2 post hp m (by omega)))⟩
theorem wo_x32 {x1 x3 : Int32} (hc : c ≤ 3) : ∀ (d i : Nat) (od : Nat → Int32), i + d = c → (∀ r, r < i → od r = nI (c - 1 - r)) →
    ∃ od' : Nat → Int32, (∀ r, r < c → od' r = nI (c - 1 - r)) ∧
      ∀ (post : Int32 → SX → Prop), wX_phase_307 post x1 (nI c) x3 fl fs ab ids dps bh cnt li lb mk od' → ∀ m, d < m → wX_phase_32 post x1 (nI c) x3 fl fs ab m (nI i) ids dps bh cnt li lb mk od := by
  intro d
  induction d with
  | zero =>
    intro i od hi h
    have e : i = c := by omega
    rw [e]
    rw [e] at h
    refine ⟨od, h, fun post hp m hm => ?_⟩
    obtain ⟨m, rfl⟩ : ∃ m', m = m' + 1 := ⟨m - 1, by omega⟩
    exact br_t (nI_le (Nat.le_refl _) (by omega)) hp
  | succ d ih =>
    intro i od hi h
    have ec : (nI i).toNatClampNeg = i := nI_clamp (by omega)
    have ev : nI c - 1 - nI i = nI (c - 1 - i) := by
      obtain ⟨c', rfl⟩ : ∃ c', c = c' + 1 := ⟨c - 1, by omega⟩
      rw [nI_pred, pk_sub (by omega)]
      exact congrArg nI (by omega)
    obtain ⟨od', h1, h2⟩ := ih (i + 1) (upd od i (nI (c - 1 - i))) (by omega) (by
      intro r hr
      unfold upd
      by_cases z : r = i
      · rw [if_pos z, z]
      · rw [if_neg z]
        exact h r (by omega))
    refine ⟨od', h1, fun post hp m hm => ?_⟩
    obtain ⟨m, rfl⟩ : ∃ m', m = m' + 1 := ⟨m - 1, by omega⟩
    refine br_f (nI_ge (by omega) (by omega)) ⟨pk_in i 3 (by omega), nm_r (e' := upd od i (nI (c - 1 - i))) (by rw [ec, ev]) (nm_r (nI_1 i) (h2 post hp m (by omega)))⟩
/-- the order that phase k lays, c of kind k -/
theorem wo_pre (hk : k < 12) (hc : c ≤ 3) (hcnt : cnt k = nI c) (od : Nat → Int32) :
    ∃ (od' : Nat → Int32) (o : Nat → Nat), wo_Ord (fun a b => wo_pb (nI k) (dps (k * 3 + a)) (dps (k * 3 + b)) a b) c o ∧ (∀ r, r < c → od' r = nI (o r)) ∧
      ∀ (post : Int32 → SX → Prop), wX_phase_307 post (nI k) (nI c) (nI (k * 3)) fl fs ab ids dps bh cnt li lb mk od' → wpX_phase post (fl, fs, ab, ids, dps, bh, cnt, li, lb, mk, od) (nI k) := by
  have ecn : cnt (nI k).toNatClampNeg = nI c := by rw [nI_clamp (by omega), hcnt]
  by_cases hr : k = 7 ∨ k = 9 ∨ k = 11
  · obtain ⟨od', h1, h2⟩ := wo_x32 (x1 := nI k) (x3 := nI (k * 3)) (fl := fl) (fs := fs) (ab := ab) (ids := ids) (dps := dps) (bh := bh) (cnt := cnt) (li := li) (lb := lb) (mk := mk) hc c 0 od (by omega) (fun r hr => absurd hr (Nat.not_lt_zero _))
    refine ⟨od', fun r => c - 1 - r, wo_Ord_rev (fun a b => wo_pb_rev hr _ _ _ _) c, h1, fun post hp => ?_⟩
    have h3 := h2 post hp (c + 1) (by omega)
    unfold wpX_phase
    dsimp only
    refine ⟨pk_in k 12 hk, nm_r ecn (nm_r (pk_mul k 3) ?_)⟩
    rcases hr with rfl | rfl | rfl
    · exact br_t (by decide) ⟨c + 1, h3⟩
    · exact br_f (by decide) (br_t (by decide) ⟨c + 1, h3⟩)
    · exact br_f (by decide) (br_f (by decide) (br_t (by decide) ⟨c + 1, h3⟩))
  · have n7 : ¬ nI k = 7 := wo_ne (b := 7) hk (by decide) (by omega)
    have n9 : ¬ nI k = 9 := wo_ne (b := 9) hk (by decide) (by omega)
    have n11 : ¬ nI k = 11 := wo_ne (b := 11) hk (by decide) (by omega)
    obtain ⟨od1, h1, h2⟩ := wo_x63 (x1 := nI k) (x3 := nI (k * 3)) (fl := fl) (fs := fs) (ab := ab) (ids := ids) (dps := dps) (bh := bh) (cnt := cnt) (li := li) (lb := lb) (mk := mk) hc c 0 od (by omega) (fun r hr => absurd hr (Nat.not_lt_zero _))
    have l : nI c ≤ nI c := nI_le (Nat.le_refl _) (by omega)
    have top : ∀ post : Int32 → SX → Prop, wX_phase_63 post (nI k) (nI c) (nI (k * 3)) fl fs ab 1 (nI c) ids dps bh cnt li lb mk od1 → wpX_phase post (fl, fs, ab, ids, dps, bh, cnt, li, lb, mk, od) (nI k) := by
      intro post hp
      unfold wpX_phase
      dsimp only
      exact ⟨pk_in k 12 hk, nm_r ecn (nm_r (pk_mul k 3) (br_f n7 (br_f n9 (br_f n11 ⟨c + 1, h2 post hp (c + 1) (by omega)⟩))))⟩
    by_cases hu : k = 2 ∨ k = 4
    · obtain ⟨od', h3, h4⟩ := wo_x97 (fl := fl) (fs := fs) (ab := ab) (ids := ids) (dps := dps) (bh := bh) (cnt := cnt) (li := li) (lb := lb) (mk := mk) hk hc (c - 1) 1 (fun r => r) od1 (by omega) (fun r hr => ⟨h1 r hr, hr⟩)
      refine ⟨od', _, wo_Ord_up hu (fun i => dps (k * 3 + i)) hc, fun r hr => (h3 r hr).1, fun post hp => top post ?_⟩
      have h5 := h4 post hp (c - 1 + 1) (by omega)
      rcases hu with rfl | rfl
      · exact br_t l (br_t (by decide) ⟨_, h5⟩)
      · exact br_t l (br_f (by decide) (br_t (by decide) ⟨_, h5⟩))
    · have n2 : ¬ nI k = 2 := wo_ne (b := 2) hk (by decide) (by omega)
      have n4 : ¬ nI k = 4 := wo_ne (b := 4) hk (by decide) (by omega)
      by_cases hd : k = 8 ∨ k = 10
      · obtain ⟨od', h3, h4⟩ := wo_x211 (fl := fl) (fs := fs) (ab := ab) (ids := ids) (dps := dps) (bh := bh) (cnt := cnt) (li := li) (lb := lb) (mk := mk) hk hc (c - 1) 1 (fun r => r) od1 (by omega) (fun r hr => ⟨h1 r hr, hr⟩)
        refine ⟨od', _, wo_Ord_dn hd (fun i => dps (k * 3 + i)) hc, fun r hr => (h3 r hr).1, fun post hp => top post ?_⟩
        have h5 := h4 post hp (c - 1 + 1) (by omega)
        rcases hd with rfl | rfl
        · exact br_t l (br_f n2 (br_f n4 (br_t (by decide) ⟨_, h5⟩)))
        · exact br_t l (br_f n2 (br_f n4 (br_f (by decide) (br_t (by decide) ⟨_, h5⟩))))
      · have n8 : ¬ nI k = 8 := wo_ne (b := 8) hk (by decide) (by omega)
        have n10 : ¬ nI k = 10 := wo_ne (b := 10) hk (by decide) (by omega)
        refine ⟨od1, fun r => r, wo_Ord_id (fun a b => wo_pb_id hk hr (by omega) _ _ _ _) c, h1, fun post hp => top post ?_⟩
        exact br_t l (br_f n2 (br_f n4 (br_f n8 (br_f n10 hp))))
end
end
section
/-! ===== the log, one call; the verdict as a fold over the log ===== -/
def wo_vs (v h : Int32) : Int32 := if h = 1 then 1 else if h = 2 ∧ v = 0 then 2 else v
def wo_vf (lb : Nat → Int32) (fr : Nat) : Nat → Int32
  | 0 => 0
  | d + 1 => wo_vs (wo_vf lb fr d) (lb (fr + d))
def wo_vx (fs ab : Int32) : Int32 := if fs = 0 then (if ab = 0 then 0 else 2) else 1
def wo_fs (h fs : Int32) : Int32 := if h = 1 then 1 else fs
def wo_as (h ab : Int32) : Int32 := if h = 2 then 1 else ab
theorem wo_vf_cg {lb lb' : Nat → Int32} {fr : Nat} : ∀ {d : Nat}, (∀ i, i < fr + d → lb i = lb' i) → wo_vf lb fr d = wo_vf lb' fr d
  | 0, _ => rfl
  | d + 1, h => by
    show wo_vs (wo_vf lb fr d) (lb (fr + d)) = wo_vs (wo_vf lb' fr d) (lb' (fr + d))
    rw [h (fr + d) (by omega), wo_vf_cg (fun i hi => h i (by omega))]
theorem wo_vf_st {lb : Nat → Int32} {fr L : Nat} (h : Int32) (hf : fr ≤ L) : wo_vf (upd lb L h) fr (L + 1 - fr) = wo_vs (wo_vf lb fr (L - fr)) h := by
  have e : L + 1 - fr = (L - fr) + 1 := by omega
  rw [e]
  show wo_vs (wo_vf (upd lb L h) fr (L - fr)) (upd lb L h (fr + (L - fr))) = _
  have e2 : fr + (L - fr) = L := by omega
  rw [e2, pk_us, wo_vf_cg (lb' := lb) (fun i hi => pk_un (by omega))]
theorem wo_fs0 (fs : Int32) : wo_fs 0 fs = fs := if_neg (by decide)
theorem wo_fs1 (fs : Int32) : wo_fs 1 fs = 1 := if_pos rfl
theorem wo_fs2 (fs : Int32) : wo_fs 2 fs = fs := if_neg (by decide)
theorem wo_as0 (ab : Int32) : wo_as 0 ab = ab := if_neg (by decide)
theorem wo_as1 (ab : Int32) : wo_as 1 ab = ab := if_neg (by decide)
theorem wo_as2 (ab : Int32) : wo_as 2 ab = 1 := if_pos rfl
theorem wo_vs0 (v : Int32) : wo_vs v 0 = v := by
  unfold wo_vs
  rw [if_neg (by decide), if_neg (fun z => absurd z.1 (by decide))]
theorem wo_vs1 (v : Int32) : wo_vs v 1 = 1 := if_pos rfl
theorem wo_vs2 (v : Int32) : wo_vs v 2 = if v = 0 then 2 else v := by
  unfold wo_vs
  rw [if_neg (by decide)]
  by_cases z : v = 0
  · rw [if_pos z, if_pos ⟨rfl, z⟩]
  · rw [if_neg z, if_neg (fun w => z w.2)]
theorem wo_vx_st {h : Int32} (h012 : h = 0 ∨ h = 1 ∨ h = 2) (fs ab : Int32) : wo_vs (wo_vx fs ab) h = wo_vx (wo_fs h fs) (wo_as h ab) := by
  rcases h012 with rfl | rfl | rfl
  · rw [wo_vs0, wo_fs0, wo_as0]
  · rw [wo_vs1, wo_fs1]
    exact (if_neg (by decide)).symm
  · rw [wo_vs2, wo_fs2, wo_as2]
    unfold wo_vx
    by_cases z : fs = 0
    · by_cases y : ab = 0
      · simp [z, y]
      · simp [z, y]
    · simp [z]
/-- at most m calls later: the flags still tell the log's verdict -/
def wo_Out (m L : Nat) (fs ab : Int32) (lb : Nat → Int32) (L' : Nat) (fs' ab' : Int32) (lb' : Nat → Int32) : Prop :=
  L ≤ L' ∧ L' ≤ L + m ∧ ∀ fr, fr ≤ L → wo_vf lb fr (L - fr) = wo_vx fs ab → wo_vf lb' fr (L' - fr) = wo_vx fs' ab'
theorem wo_Out_rf {m L : Nat} {fs ab : Int32} {lb : Nat → Int32} : wo_Out m L fs ab lb L fs ab lb := ⟨Nat.le_refl _, Nat.le_add_right _ _, fun _ _ h => h⟩
theorem wo_Out_tr {m m' M L L1 L2 : Nat} {fs ab fs1 ab1 fs2 ab2 : Int32} {lb lb1 lb2 : Nat → Int32} (h1 : wo_Out m L fs ab lb L1 fs1 ab1 lb1) (h2 : wo_Out m' L1 fs1 ab1 lb1 L2 fs2 ab2 lb2) (hM : m + m' ≤ M) : wo_Out M L fs ab lb L2 fs2 ab2 lb2 := by
  obtain ⟨a1, a2, a3⟩ := h1
  obtain ⟨b1, b2, b3⟩ := h2
  exact ⟨by omega, by omega, fun fr hf h => b3 fr (by omega) (a3 fr hf h)⟩
theorem wo_Out_st {L : Nat} {fs ab : Int32} {lb : Nat → Int32} {h : Int32} (h012 : h = 0 ∨ h = 1 ∨ h = 2) : wo_Out 1 L fs ab lb (L + 1) (wo_fs h fs) (wo_as h ab) (upd lb L h) :=
  ⟨by omega, Nat.le_refl _, fun fr hf e => by rw [wo_vf_st h hf, e, wo_vx_st h012]⟩
theorem wo_nb {h : Int32} (h012 : h = 0 ∨ h = 1 ∨ h = 2) : vp_nar .byte h = h := by
  rw [vp_nar_byte]
  rcases h012 with rfl | rfl | rfl <;> decide
theorem wo_nz {cl : Int32} (h : cl = 0 ∨ cl = 1) : narrow .boolean (.int cl) = .int cl := by
  rcases h with rfl | rfl
  · exact narrow_b0
  · exact narrow_b1
section
variable {n L : Nat} {fl fs ab : Int32} {ids dps bh cnt li lb od : Nat → Int32} {mk : Nat → Int64} {sel : Int64} {pc : Int32} {kd idf df hw : Nat → Int32}
theorem wo_inv {p : Nat} {h : Int32} (hp : p < 36) (hL : L < 128) (hs : (ids p).toInt16.toInt32 = ids p) (hb : bh p = h) (h012 : h = 0 ∨ h = 1 ∨ h = 2) {post : Int32 → SX → Prop}
    (H : post h (nI (L + 1), wo_fs h fs, wo_as h ab, ids, dps, bh, cnt, upd li L (ids p), upd lb L h, mk, od)) : wpX_invoke post ((nI L), fs, ab, ids, dps, bh, cnt, li, lb, mk, od) (nI p) := by
  have ec : (nI p).toNatClampNeg = p := nI_clamp (by omega)
  have el : (nI L).toNatClampNeg = L := nI_clamp (by omega)
  unfold wpX_invoke
  dsimp only
  refine ⟨pk_in p 36 hp, nm_r (e' := h) (by rw [ec, hb]) (br_f (nI_ge (b := 128) hL (by decide)) ⟨pk_in p 36 hp, pk_in L 128 hL, nm_r (e' := upd li L (ids p)) (by rw [ec, el, vp_nar_short, hs]) ⟨pk_in L 128 hL, nm_r (e' := upd lb L h) (by rw [el]) (nm_r (nI_1 L) ?_)⟩⟩)⟩
  unfold wX_invoke_52
  unfold wo_fs wo_as at H
  rcases h012 with e | e | e
  · rw [if_neg (by rw [e]; decide), if_neg (by rw [e]; decide)] at H
    exact br_f (by rw [e]; decide) (br_f (by rw [e]; decide) H)
  · rw [if_pos e, if_neg (by rw [e]; decide)] at H
    exact br_t e H
  · rw [if_neg (by rw [e]; decide), if_pos e] at H
    exact br_f (by rw [e]; decide) (br_t e H)
theorem wo_call {j : Nat} {h : Int32} (hj : j < 36) (hL : L < 128) (hs : (idf j).toInt16.toInt32 = idf j) (hb : hw j = h) (h012 : h = 0 ∨ h = 1 ∨ h = 2) {post : Int32 → SY → Prop}
    (H : post h ((nI n), nI (L + 1), sel, pc, kd, idf, df, hw, upd li L (idf j), upd lb L h, mk)) : wpY_call post ((nI n), (nI L), sel, pc, kd, idf, df, hw, li, lb, mk) (nI j) := by
  have ec : (nI j).toNatClampNeg = j := nI_clamp (by omega)
  have el : (nI L).toNatClampNeg = L := nI_clamp (by omega)
  have ea : nI L &&& 127 = nI L := by
    rw [pk_andN (n := L) (by omega) 7 (by decide)]
    exact congrArg nI (by omega)
  unfold wpY_call
  dsimp only
  rw [ec, hb]
  refine nm_r (nI_1 L) (nm_r ea ⟨pk_in j 36 hj, pk_in L 128 hL, nm_r (e' := upd li L (idf j)) (by rw [el, vp_nar_short, hs]) ⟨pk_in j 36 hj, pk_in L 128 hL, nm_r (e' := upd lb L h) (by rw [el, wo_nb h012]) ⟨pk_in j 36 hj, H⟩⟩⟩)
/-! ===== phase and walk in lockstep ===== -/
theorem wo_idle {k c : Nat} {o t : Nat → Nat} (hn : n ≤ 36) (hP : wo_PK ids bh n kd idf df hw k c o t) {st cl : Int32} (hcl : cl = 0 ∨ cl = 1) {post : Int32 → SY → Prop} (hp : post cl ((nI n), fl, sel, pc, kd, idf, df, hw, li, lb, mk)) :
    ∀ d r, r + d = 3 → (c ≤ r ∨ (cl = 0 ∧ st = 1)) → ∀ m, d < m → wY_walk_5 post (nI k) st m cl (nI r) (nI n) fl sel pc kd idf df hw li lb mk := by
  intro d
  induction d with
  | zero =>
    intro r hr hx m hm
    obtain ⟨m, rfl⟩ : ∃ m', m = m' + 1 := ⟨m - 1, by omega⟩
    exact br_t (nI_le (a := 3) (by omega) (by omega)) ⟨wo_nz hcl, hp⟩
  | succ d ih =>
    intro r hr hx m hm
    obtain ⟨m, rfl⟩ : ∃ m', m = m' + 1 := ⟨m - 1, by omega⟩
    have nx := ih (r + 1) (by omega) (hx.elim (fun z => Or.inl (by omega)) Or.inr) m (by omega)
    refine br_f (nI_ge (b := 3) (by omega) (by omega)) ?_
    by_cases h : r < c
    · have z : cl = 0 ∧ st = 1 := hx.elim (fun y => absurd h (by omega)) id
      have tn := (hP.1 r h).1
      exact hP.2.1 _ _ _ _ _ _ _ r h (br_f (nI_pos (by omega)) (br_t z.1 (br_f (by rw [z.2]; decide) (nm_r (nI_1 r) nx))))
    · exact hP.2.2 _ _ _ _ _ _ _ r (by omega) (by omega) (br_t (by decide) (nm_r (nI_1 r) nx))
theorem wo_lock (hC : wo_Cfg ids dps bh cnt n kd idf df hw) {k c : Nat} (hk : k < 12) (hc : c ≤ 3) {o t : Nat → Nat} (ho : ∀ r, r < c → o r < c) (hP : wo_PK ids bh n kd idf df hw k c o t) {st : Int32} (hst : st = 0 ∨ st = 1) (hod : ∀ r, r < c → od r = nI (o r)) :
    ∀ d r, r + d = 3 → ∀ (cl : Int32) (L : Nat) (fs ab : Int32) (li lb : Nat → Int32), (cl = 1 ∨ (cl = 0 ∧ st = 0)) → L + d ≤ 128 →
      ∃ (res : Int32) (L' : Nat) (fs' ab' : Int32) (li' lb' : Nat → Int32), (res = 0 ∨ res = 1) ∧ wo_Out d L fs ab lb L' fs' ab' lb' ∧
        (∀ post : Int32 → SX → Prop, post res (nI L', fs', ab', ids, dps, bh, cnt, li', lb', mk, od) → ∀ m, d < m → wX_phase_325 post (nI c) (nI (k * 3)) st m cl (nI r) (nI L) fs ab ids dps bh cnt li lb mk od) ∧
        (∀ post : Int32 → SY → Prop, post res ((nI n), nI L', sel, pc, kd, idf, df, hw, li', lb', mk) → ∀ m, d < m → wY_walk_5 post (nI k) st m cl (nI r) (nI n) (nI L) sel pc kd idf df hw li lb mk) := by
  have hn := hC.1
  have hrow := hC.2.2.2.2
  intro d
  induction d with
  | zero =>
    intro r hr cl L fs ab li lb hcl hL
    have hz : cl = 0 ∨ cl = 1 := hcl.elim Or.inr (fun z => Or.inl z.1)
    refine ⟨cl, L, fs, ab, li, lb, hz, wo_Out_rf, fun post hp m hm => ?_, fun post hp m hm => ?_⟩
    · obtain ⟨m, rfl⟩ : ∃ m', m = m' + 1 := ⟨m - 1, by omega⟩
      exact br_t (nI_le (by omega) (by omega)) ⟨wo_nz hz, hp⟩
    · exact wo_idle hn hP hz hp 0 r hr (Or.inl (by omega)) m hm
  | succ d ih =>
    intro r hr cl L fs ab li lb hcl hL
    have hz : cl = 0 ∨ cl = 1 := hcl.elim Or.inr (fun z => Or.inl z.1)
    by_cases h : r < c
    · obtain ⟨tn, ei, eb⟩ := hP.1 r h
      obtain ⟨h012, hsh⟩ := hrow (t r) tn
      have hor := ho r h
      have ex : nI (k * 3) + od (nI r).toNatClampNeg = nI (k * 3 + o r) := by rw [nI_clamp (by omega), hod r h, nI_add]
      have nr : ¬ nI c ≤ nI r := nI_ge h (by omega)
      have n3 : ¬ (3 : Int32) ≤ nI r := nI_ge (b := 3) (by omega) (by omega)
      have ir : vp_in (nI r) 3 := pk_in r 3 (by omega)
      have hsx : (ids (k * 3 + o r)).toInt16.toInt32 = ids (k * 3 + o r) := by rw [ei]; exact hsh
      have XX : ∀ (post : Int32 → SX → Prop) (m : Nat), (hw (t r) = 0 → wX_phase_325 post (nI c) (nI (k * 3)) st m cl (nI (r + 1)) (nI (L + 1)) (wo_fs (hw (t r)) fs) (wo_as (hw (t r)) ab) ids dps bh cnt (upd li L (idf (t r))) (upd lb L (hw (t r))) mk od) →
          (¬ hw (t r) = 0 → st = 0 → wX_phase_325 post (nI c) (nI (k * 3)) st m 0 (nI (r + 1)) (nI (L + 1)) (wo_fs (hw (t r)) fs) (wo_as (hw (t r)) ab) ids dps bh cnt (upd li L (idf (t r))) (upd lb L (hw (t r))) mk od) →
          (¬ hw (t r) = 0 → ¬ st = 0 → post 0 (nI (L + 1), wo_fs (hw (t r)) fs, wo_as (hw (t r)) ab, ids, dps, bh, cnt, upd li L (idf (t r)), upd lb L (hw (t r)), mk, od)) →
          wX_phase_325 post (nI c) (nI (k * 3)) st (m + 1) cl (nI r) (nI L) fs ab ids dps bh cnt li lb mk od := by
        intro post m q1 q2 q3
        refine br_f nr ⟨ir, ?_⟩
        rw [ex]
        rw [← ei] at q1 q2 q3
        exact wo_inv (by omega) (by omega) hsx eb h012 (br_c (fun z => nm_r (nI_1 r) (q1 z)) (fun z => br_c (fun y => nm_r (nI_1 r) (q2 z y)) (fun y => q3 z y)))
      have YY : ∀ (post : Int32 → SY → Prop) (m : Nat), (hw (t r) = 0 → wY_walk_5 post (nI k) st m cl (nI (r + 1)) (nI n) (nI (L + 1)) sel pc kd idf df hw (upd li L (idf (t r))) (upd lb L (hw (t r))) mk) →
          (¬ hw (t r) = 0 → wY_walk_5 post (nI k) st m 0 (nI (r + 1)) (nI n) (nI (L + 1)) sel pc kd idf df hw (upd li L (idf (t r))) (upd lb L (hw (t r))) mk) →
          wY_walk_5 post (nI k) st (m + 1) cl (nI r) (nI n) (nI L) sel pc kd idf df hw li lb mk := by
        intro post m q1 q2
        have W : wY_walk_33 post (wY_walk_5 post (nI k) st m) (nI k) st cl (nI r) (nI (t r)) (nI n) (nI L) sel pc kd idf df hw li lb mk := by
          unfold wY_walk_33
          exact wo_call (by omega) (by omega) hsh rfl h012 (br_c (fun z => nm_r (nI_1 r) (q1 z)) (fun z => nm_r (nI_1 r) (q2 z)))
        refine br_f n3 (hP.2.1 _ _ _ _ _ _ _ r h (br_f (nI_pos (by omega)) ?_))
        rcases hcl with e | e
        · exact br_f (by rw [e]; decide) W
        · exact br_t e.1 (br_t e.2 W)
      by_cases z : hw (t r) = 0
      · obtain ⟨res, L', fs', ab', li', lb', hres, hO, hX, hY⟩ := ih (r + 1) (by omega) cl (L + 1) (wo_fs (hw (t r)) fs) (wo_as (hw (t r)) ab) (upd li L (idf (t r))) (upd lb L (hw (t r))) hcl (by omega)
        refine ⟨res, L', fs', ab', li', lb', hres, wo_Out_tr (wo_Out_st h012) hO (by omega), fun post hp m hm => ?_, fun post hp m hm => ?_⟩
        · obtain ⟨m, rfl⟩ : ∃ m', m = m' + 1 := ⟨m - 1, by omega⟩
          exact XX post m (fun _ => hX post hp m (by omega)) (fun y => absurd z y) (fun y => absurd z y)
        · obtain ⟨m, rfl⟩ : ∃ m', m = m' + 1 := ⟨m - 1, by omega⟩
          exact YY post m (fun _ => hY post hp m (by omega)) (fun y => absurd z y)
      · rcases hst with hs | hs
        · obtain ⟨res, L', fs', ab', li', lb', hres, hO, hX, hY⟩ := ih (r + 1) (by omega) 0 (L + 1) (wo_fs (hw (t r)) fs) (wo_as (hw (t r)) ab) (upd li L (idf (t r))) (upd lb L (hw (t r))) (Or.inr ⟨rfl, hs⟩) (by omega)
          refine ⟨res, L', fs', ab', li', lb', hres, wo_Out_tr (wo_Out_st h012) hO (by omega), fun post hp m hm => ?_, fun post hp m hm => ?_⟩
          · obtain ⟨m, rfl⟩ : ∃ m', m = m' + 1 := ⟨m - 1, by omega⟩
            exact XX post m (fun y => absurd y z) (fun _ _ => hX post hp m (by omega)) (fun _ y => absurd hs y)
          · obtain ⟨m, rfl⟩ : ∃ m', m = m' + 1 := ⟨m - 1, by omega⟩
            exact YY post m (fun y => absurd y z) (fun _ => hY post hp m (by omega))
        · have sn : ¬ st = 0 := by rw [hs]; decide
          refine ⟨0, L + 1, wo_fs (hw (t r)) fs, wo_as (hw (t r)) ab, upd li L (idf (t r)), upd lb L (hw (t r)), Or.inl rfl, wo_Out_tr (wo_Out_st h012) (wo_Out_rf (m := 0)) (by omega), fun post hp m hm => ?_, fun post hp m hm => ?_⟩
          · obtain ⟨m, rfl⟩ : ∃ m', m = m' + 1 := ⟨m - 1, by omega⟩
            exact XX post m (fun y => absurd y z) (fun _ y => absurd y sn) (fun _ _ => hp)
          · obtain ⟨m, rfl⟩ : ∃ m', m = m' + 1 := ⟨m - 1, by omega⟩
            exact YY post m (fun y => absurd y z) (fun _ => wo_idle hn hP (Or.inl rfl) hp d (r + 1) (by omega) (Or.inr ⟨rfl, hs⟩) m (by omega))
    · refine ⟨cl, L, fs, ab, li, lb, hz, wo_Out_rf, fun post hp m hm => ?_, fun post hp m hm => ?_⟩
      · obtain ⟨m, rfl⟩ : ∃ m', m = m' + 1 := ⟨m - 1, by omega⟩
        exact br_t (nI_le (by omega) (by omega)) ⟨wo_nz hz, hp⟩
      · exact wo_idle hn hP hz hp (d + 1) r hr (Or.inl (by omega)) m hm
/-- a phase and its walk: one outcome -/
theorem wo_phase (hC : wo_Cfg ids dps bh cnt n kd idf df hw) (k : Nat) (st : Int32) (hk : k < 12) (hst : (k ≤ 5 ∧ st = 1) ∨ (5 < k ∧ st = 0)) (sel : Int64) (pc : Int32) (L : Nat) (fs ab : Int32) (li lb : Nat → Int32) (mk : Nat → Int64) (od : Nat → Int32) (hL : L + 3 ≤ 128) :
    ∃ (res : Int32) (L' : Nat) (fs' ab' : Int32) (li' lb' od' : Nat → Int32), (res = 0 ∨ res = 1) ∧ wo_Out 3 L fs ab lb L' fs' ab' lb' ∧
      (∀ post : Int32 → SX → Prop, post res (nI L', fs', ab', ids, dps, bh, cnt, li', lb', mk, od') → wpX_phase post ((nI L), fs, ab, ids, dps, bh, cnt, li, lb, mk, od) (nI k)) ∧
      (∀ post : Int32 → SY → Prop, post res ((nI n), nI L', sel, pc, kd, idf, df, hw, li', lb', mk) → wpY_walk post ((nI n), (nI L), sel, pc, kd, idf, df, hw, li, lb, mk) (nI k) st) := by
  obtain ⟨hcn, hc3⟩ := hC.2.2.1 k hk
  obtain ⟨od', o, ho, hod, hpre⟩ := wo_pre (fl := nI L) (fs := fs) (ab := ab) (ids := ids) (dps := dps) (bh := bh) (li := li) (lb := lb) (mk := mk) hk hc3 hcn od
  obtain ⟨t, hP⟩ := wo_pick hC hk ho
  obtain ⟨res, L', fs', ab', li', lb', hres, hO, hX, hY⟩ := wo_lock (od := od') (mk := mk) (sel := sel) (pc := pc) hC hk hc3 (fun r hr => (ho r hr).1) hP (st := st) (hst.elim (fun z => Or.inr z.2) (fun z => Or.inl z.2)) hod 3 0 (by omega) 1 L fs ab li lb (Or.inl rfl) (by omega)
  refine ⟨res, L', fs', ab', li', lb', od', hres, hO, fun post hp => hpre post ?_, fun post hp => Exists.intro 4 (hY post hp 4 (by omega))⟩
  have hx := hX post hp 4 (by omega)
  unfold wX_phase_307
  rcases hst with ⟨h5, e⟩ | ⟨h5, e⟩
  · rw [e] at hx
    exact br_f (nI_nlt (a := 5) (b := k) h5 (by omega)) ⟨4, hx⟩
  · rw [e] at hx
    exact br_t (nI_lt (a := 5) (b := k) h5 (by omega)) ⟨4, hx⟩
end
end
section
/-! ===== one test: runTest against test and the marks ===== -/
def wo_mk (mk : Nat → Int64) (v : Int32) (i : Nat) : Nat → Int64 := vp_updL mk v.toNatClampNeg ((mk v.toNatClampNeg) ||| ((1 : Int64) <<< ((nI i).toInt64 &&& 63)))
theorem wo_cl1 : (1 : Int32).toNatClampNeg = 1 := by decide
theorem wo_cl2 : (2 : Int32).toNatClampNeg = 2 := by decide
theorem wo_vs012 {v h : Int32} (hv : v = 0 ∨ v = 1 ∨ v = 2) : wo_vs v h = 0 ∨ wo_vs v h = 1 ∨ wo_vs v h = 2 := by
  unfold wo_vs
  split
  · exact Or.inr (Or.inl rfl)
  · split
    · exact Or.inr (Or.inr rfl)
    · exact hv
theorem wo_vf012 (lb : Nat → Int32) (fr : Nat) : ∀ d, wo_vf lb fr d = 0 ∨ wo_vf lb fr d = 1 ∨ wo_vf lb fr d = 2
  | 0 => Or.inl rfl
  | d + 1 => wo_vs012 (wo_vf012 lb fr d)
section
variable {n : Nat} {ids dps bh cnt : Nat → Int32} {kd idf df hw : Nat → Int32}
theorem wo_mark {v : Int32} (hv : v = 0 ∨ v = 1 ∨ v = 2) {i : Nat} {fl : Int32} {sel : Int64} {pc : Int32} {li lb : Nat → Int32} {mk : Nat → Int64} {post : Int64 → SY → Prop} (hp : ∀ r, post r ((nI n), fl, sel, pc, kd, idf, df, hw, li, lb, wo_mk mk v i)) : wpY_mark post ((nI n), fl, sel, pc, kd, idf, df, hw, li, lb, mk) v (nI i) := by
  have h : vp_in v 3 := by
    rcases hv with rfl | rfl | rfl
    · exact vp_in_nI (n := 0) (by decide) (by decide)
    · exact vp_in_nI (n := 1) (by decide) (by decide)
    · exact vp_in_nI (n := 2) (by decide) (by decide)
  unfold wpY_mark
  exact ⟨h, h, nm_e (hp _)⟩
theorem wo_y63 {i fr L : Nat} (hL : L ≤ 128) {sel : Int64} {pc : Int32} {li lb : Nat → Int32} {mk : Nat → Int64} {post : SY → Prop} {J : Int32 → Int32 → Int32 → Int64 → Int32 → (Nat → Int32) → (Nat → Int32) → (Nat → Int32) → (Nat → Int32) → (Nat → Int32) → (Nat → Int32) → (Nat → Int64) → Prop}
    (hJ : J (nI (i + 1)) (nI n) (nI L) sel pc kd idf df hw li lb (wo_mk mk (wo_vf lb fr (L - fr)) i)) :
    ∀ d p, p + d = L → fr ≤ p → ∀ m, d < m → wY_children_63 post J (nI i) (nI n) (nI L) sel pc kd idf df hw li lb mk m (wo_vf lb fr (p - fr)) (nI p) := by
  intro d
  induction d with
  | zero =>
    intro p hp hf m hm
    obtain ⟨m, rfl⟩ : ∃ m', m = m' + 1 := ⟨m - 1, by omega⟩
    have e : p = L := by omega
    rw [e]
    exact br_t (nI_le (Nat.le_refl _) (by omega)) (wo_mark (wo_vf012 _ _ _) (fun r => nm_r (nI_1 i) hJ))
  | succ d ih =>
    intro p hp hf m hm
    obtain ⟨m, rfl⟩ : ∃ m', m = m' + 1 := ⟨m - 1, by omega⟩
    have ea : nI p &&& 127 = nI p := by
      rw [pk_andN (n := p) (by omega) 7 (by decide)]
      exact congrArg nI (by omega)
    have ec : (nI p).toNatClampNeg = p := nI_clamp (by omega)
    have nx := ih (p + 1) (by omega) (by omega) m (by omega)
    have e : p + 1 - fr = (p - fr) + 1 := by omega
    have e2 : wo_vf lb fr (p + 1 - fr) = wo_vs (wo_vf lb fr (p - fr)) (lb p) := by
      rw [e]
      show wo_vs (wo_vf lb fr (p - fr)) (lb (fr + (p - fr))) = _
      rw [show fr + (p - fr) = p from by omega]
    rw [e2] at nx
    refine br_f (nI_ge (by omega) (by omega)) ?_
    rw [ea, ec]
    refine ⟨pk_in p 128 (by omega), nm_e ?_⟩
    unfold wo_vs at nx
    by_cases h1 : lb p = 1
    · rw [if_pos h1] at nx
      exact br_t h1 (nm_r (nI_1 p) nx)
    · rw [if_neg h1] at nx
      refine br_f h1 ?_
      by_cases h2 : lb p = 2
      · refine br_t h2 ?_
        by_cases h0 : wo_vf lb fr (p - fr) = 0
        · rw [if_pos ⟨h2, h0⟩] at nx
          exact br_t h0 (nm_r (nI_1 p) nx)
        · rw [if_neg (fun z => h0 z.2)] at nx
          exact br_f h0 (nm_r (nI_1 p) nx)
      · rw [if_neg (fun z => h2 z.1)] at nx
        exact br_f h2 (nm_r (nI_1 p) nx)
/-- from here on the test (slot i) makes at most m calls, then marks -/
def wo_TS (ids dps bh cnt : Nat → Int32) (n : Nat) (kd idf df hw : Nat → Int32) (sel : Int64) (pc : Int32) (i m L : Nat) (fs ab : Int32) (lb : Nat → Int32) (mk : Nat → Int64) (PX : (SX → Prop) → Prop) (PY : (SY → Prop) → Prop) : Prop :=
  ∃ (L' : Nat) (fs' ab' : Int32) (li' lb' od' : Nat → Int32), wo_Out m L fs ab lb L' fs' ab' lb' ∧
    (∀ post : SX → Prop, post (nI L', fs', ab', ids, dps, bh, cnt, li', lb', wo_mk mk (wo_vx fs' ab') i, od') → PX post) ∧
    (∀ post : SY → Prop, post ((nI n), nI L', sel, pc, kd, idf, df, hw, li', lb', mk) → PY post)
theorem wo_t67 (hC : wo_Cfg ids dps bh cnt n kd idf df hw) (sel : Int64) (pc : Int32) (i L : Nat) (fs ab : Int32) (li lb : Nat → Int32) (mk : Nat → Int64) (od : Nat → Int32) (hL : L + 3 ≤ 128) :
    wo_TS ids dps bh cnt n kd idf df hw sel pc i 3 L fs ab lb mk (fun post => wX_runTest_67 post (nI i) (nI L) fs ab ids dps bh cnt li lb mk od) (fun post => wY_test_49 post (nI n) (nI L) sel pc kd idf df hw li lb mk) := by
  obtain ⟨res, L1, fs1, ab1, li1, lb1, od1, hres, hO, hX, hY⟩ := wo_phase hC 9 0 (by decide) (Or.inr ⟨by decide, rfl⟩) sel pc L fs ab li lb mk od (by omega)
  refine ⟨L1, fs1, ab1, li1, lb1, od1, hO, fun post hp => ?_, fun post hp => ?_⟩
  · unfold wX_runTest_67
    refine hX _ (nm_e ?_)
    unfold wo_mk wo_vx at hp
    by_cases h1 : fs1 = 0
    · rw [if_pos h1] at hp
      refine br_t h1 ?_
      by_cases h2 : ab1 = 0
      · rw [if_pos h2, sb_cl0] at hp
        exact br_t h2 (nm_e hp)
      · rw [if_neg h2, wo_cl2] at hp
        exact br_f h2 (nm_e hp)
    · rw [if_neg h1, wo_cl1] at hp
      exact br_f h1 (nm_e hp)
  · unfold wY_test_49
    exact hY _ hp
theorem wo_t60 (hC : wo_Cfg ids dps bh cnt n kd idf df hw) (sel : Int64) (pc : Int32) (i L : Nat) (fs ab : Int32) (li lb : Nat → Int32) (mk : Nat → Int64) (od : Nat → Int32) (hL : L + 6 ≤ 128) :
    wo_TS ids dps bh cnt n kd idf df hw sel pc i 6 L fs ab lb mk (fun post => wX_runTest_60 post (nI i) (nI L) fs ab ids dps bh cnt li lb mk od) (fun post => wY_test_41 post (nI n) (nI L) sel pc kd idf df hw li lb mk) := by
  obtain ⟨res, L1, fs1, ab1, li1, lb1, od1, hres, hO, hX, hY⟩ := wo_phase hC 8 0 (by decide) (Or.inr ⟨by decide, rfl⟩) sel pc L fs ab li lb mk od (by omega)
  have l1 := hO.2.1
  obtain ⟨L2, fs2, ab2, li2, lb2, od2, hO2, hX2, hY2⟩ := wo_t67 hC sel pc i L1 fs1 ab1 li1 lb1 mk od1 (by omega)
  refine ⟨L2, fs2, ab2, li2, lb2, od2, wo_Out_tr hO hO2 (by omega), fun post hp => ?_, fun post hp => ?_⟩
  · unfold wX_runTest_60
    exact hX _ (hX2 post hp)
  · unfold wY_test_41
    exact hY _ (hY2 post hp)
theorem wo_t53 (hC : wo_Cfg ids dps bh cnt n kd idf df hw) (sel : Int64) (pc : Int32) (i L : Nat) (fs ab : Int32) (li lb : Nat → Int32) (mk : Nat → Int64) (od : Nat → Int32) (hL : L + 9 ≤ 128) :
    wo_TS ids dps bh cnt n kd idf df hw sel pc i 9 L fs ab lb mk (fun post => wX_runTest_53 post (nI i) (nI L) fs ab ids dps bh cnt li lb mk od) (fun post => wY_test_33 post (nI n) (nI L) sel pc kd idf df hw li lb mk) := by
  obtain ⟨res, L1, fs1, ab1, li1, lb1, od1, hres, hO, hX, hY⟩ := wo_phase hC 7 0 (by decide) (Or.inr ⟨by decide, rfl⟩) sel pc L fs ab li lb mk od (by omega)
  have l1 := hO.2.1
  obtain ⟨L2, fs2, ab2, li2, lb2, od2, hO2, hX2, hY2⟩ := wo_t60 hC sel pc i L1 fs1 ab1 li1 lb1 mk od1 (by omega)
  refine ⟨L2, fs2, ab2, li2, lb2, od2, wo_Out_tr hO hO2 (by omega), fun post hp => ?_, fun post hp => ?_⟩
  · unfold wX_runTest_53
    exact hX _ (hX2 post hp)
  · unfold wY_test_33
    exact hY _ (hY2 post hp)
theorem wo_t20 (hC : wo_Cfg ids dps bh cnt n kd idf df hw) (sel : Int64) (pc : Int32) (i j L : Nat) (fs ab : Int32) (li lb : Nat → Int32) (mk : Nat → Int64) (od : Nat → Int32) (hL : L + 19 ≤ 128)
    (hi : i < 3) (hj : j < n) (ei : ids (18 + i) = idf j) (eb : bh (18 + i) = hw j) :
    wo_TS ids dps bh cnt n kd idf df hw sel pc i 19 L fs ab lb mk (fun post => wX_runTest_20 post (nI i) (nI L) fs ab ids dps bh cnt li lb mk od) (fun post => wpY_test post ((nI n), (nI L), sel, pc, kd, idf, df, hw, li, lb, mk) (nI j)) := by
  have hn := hC.1
  obtain ⟨h012, hsh⟩ := hC.2.2.2.2 j hj
  have hsx : (ids (18 + i)).toInt16.toInt32 = ids (18 + i) := by rw [ei]; exact hsh
  have e18 : (18 : Int32) + nI i = nI (18 + i) := nI_add 18 i
  obtain ⟨r1, L1, fs1, ab1, li1, lb1, od1, hr1, hO1, hX1, hY1⟩ := wo_phase hC 3 1 (by decide) (Or.inl ⟨by decide, rfl⟩) sel pc L fs ab li lb mk od (by omega)
  have l1 := hO1.2.1
  rcases hr1 with rfl | rfl
  · obtain ⟨L2, fs2, ab2, li2, lb2, od2, hO2, hX2, hY2⟩ := wo_t67 hC sel pc i L1 fs1 ab1 li1 lb1 mk od1 (by omega)
    refine ⟨L2, fs2, ab2, li2, lb2, od2, wo_Out_tr hO1 hO2 (by omega), fun post hp => ?_, fun post hp => ?_⟩
    · unfold wX_runTest_20
      exact hX1 _ (br_t rfl (hX2 post hp))
    · unfold wpY_test
      exact hY1 _ (br_t rfl (hY2 post hp))
  · obtain ⟨r2, L2, fs2, ab2, li2, lb2, od2, hr2, hO2, hX2, hY2⟩ := wo_phase hC 4 1 (by decide) (Or.inl ⟨by decide, rfl⟩) sel pc L1 fs1 ab1 li1 lb1 mk od1 (by omega)
    have l2 := hO2.2.1
    rcases hr2 with rfl | rfl
    · obtain ⟨L3, fs3, ab3, li3, lb3, od3, hO3, hX3, hY3⟩ := wo_t60 hC sel pc i L2 fs2 ab2 li2 lb2 mk od2 (by omega)
      refine ⟨L3, fs3, ab3, li3, lb3, od3, wo_Out_tr hO1 (wo_Out_tr hO2 hO3 (Nat.le_refl _)) (by omega), fun post hp => ?_, fun post hp => ?_⟩
      · unfold wX_runTest_20
        exact hX1 _ (br_f (by decide) (hX2 _ (br_t rfl (hX3 post hp))))
      · unfold wpY_test
        exact hY1 _ (br_f (by decide) (hY2 _ (br_t rfl (hY3 post hp))))
    · obtain ⟨r3, L3, fs3, ab3, li3, lb3, od3, hr3, hO3, hX3, hY3⟩ := wo_phase hC 5 1 (by decide) (Or.inl ⟨by decide, rfl⟩) sel pc L2 fs2 ab2 li2 lb2 mk od2 (by omega)
      have l3 := hO3.2.1
      rcases hr3 with rfl | rfl
      · obtain ⟨L4, fs4, ab4, li4, lb4, od4, hO4, hX4, hY4⟩ := wo_t53 hC sel pc i L3 fs3 ab3 li3 lb3 mk od3 (by omega)
        refine ⟨L4, fs4, ab4, li4, lb4, od4, wo_Out_tr hO1 (wo_Out_tr hO2 (wo_Out_tr hO3 hO4 (Nat.le_refl _)) (Nat.le_refl _)) (by omega), fun post hp => ?_, fun post hp => ?_⟩
        · unfold wX_runTest_20
          exact hX1 _ (br_f (by decide) (hX2 _ (br_f (by decide) (hX3 _ (br_t rfl (hX4 post hp))))))
        · unfold wpY_test
          exact hY1 _ (br_f (by decide) (hY2 _ (br_f (by decide) (hY3 _ (br_t rfl (hY4 post hp))))))
      · obtain ⟨L4, fs4, ab4, li4, lb4, od4, hO4, hX4, hY4⟩ := wo_t53 hC sel pc i (L3 + 1) (wo_fs (hw j) fs3) (wo_as (hw j) ab3) (upd li3 L3 (idf j)) (upd lb3 L3 (hw j)) mk od3 (by omega)
        refine ⟨L4, fs4, ab4, li4, lb4, od4, wo_Out_tr hO1 (wo_Out_tr hO2 (wo_Out_tr hO3 (wo_Out_tr (wo_Out_st h012) hO4 (Nat.le_refl _)) (Nat.le_refl _)) (Nat.le_refl _)) (by omega), fun post hp => ?_, fun post hp => ?_⟩
        · unfold wX_runTest_20
          have hx := hX4 post hp
          rw [← ei] at hx
          rw [e18]
          exact hX1 _ (br_f (by decide) (hX2 _ (br_f (by decide) (hX3 _ (br_f (by decide) (wo_inv (by omega) (by omega) hsx eb h012 hx))))))
        · unfold wpY_test
          exact hY1 _ (br_f (by decide) (hY2 _ (br_f (by decide) (hY3 _ (br_f (by decide) (wo_call (by omega) (by omega) hsh rfl h012 (hY4 post hp)))))))
end
end
section
/-! ===== the tests of one run, and what stands around them ===== -/
section
variable {n : Nat} {ids dps bh cnt : Nat → Int32} {kd idf df hw : Nat → Int32}
theorem wo_c52 (hC : wo_Cfg ids dps bh cnt n kd idf df hw) (sel : Int64) (pc : Int32) (i j fr L : Nat) (fs ab : Int32) (li lb : Nat → Int32) (mk : Nat → Int64) (od : Nat → Int32) (hL : L + 19 ≤ 128)
    (hi : i < 3) (hj : j < n) (ei : ids (18 + i) = idf j) (eb : bh (18 + i) = hw j) (hf : fr ≤ L) (hv : wo_vf lb fr (L - fr) = wo_vx fs ab) :
    ∃ (L' : Nat) (fs' ab' : Int32) (li' lb' od' : Nat → Int32) (mk' : Nat → Int64), L' ≤ L + 19 ∧
      (∀ post : SX → Prop, post (nI L', fs', ab', ids, dps, bh, cnt, li', lb', mk', od') → wX_runTest_20 post (nI i) (nI L) fs ab ids dps bh cnt li lb mk od) ∧
      (∀ (post : SY → Prop) (J : Int32 → Int32 → Int32 → Int64 → Int32 → (Nat → Int32) → (Nat → Int32) → (Nat → Int32) → (Nat → Int32) → (Nat → Int32) → (Nat → Int32) → (Nat → Int64) → Prop), J (nI (i + 1)) (nI n) (nI L') sel pc kd idf df hw li' lb' mk' → wY_children_52 post J (nI i) (nI j) (nI fr) (nI n) (nI L) sel pc kd idf df hw li lb mk) := by
  obtain ⟨L1, fs1, ab1, li1, lb1, od1, hO, hX, hY⟩ := wo_t20 hC sel pc i j L fs ab li lb mk od hL hi hj ei eb
  have l1 := hO.1
  have l2 := hO.2.1
  refine ⟨L1, fs1, ab1, li1, lb1, od1, wo_mk mk (wo_vx fs1 ab1) i, hO.2.1, hX, fun post J hJ => ?_⟩
  have e := hO.2.2 fr hf hv
  rw [← e] at hJ
  have h := wo_y63 (n := n) (kd := kd) (idf := idf) (df := df) (hw := hw) (post := post) (i := i) (fr := fr) (L := L1) (by omega) hJ (L1 - fr) fr (by omega) (Nat.le_refl _) (L1 - fr + 1) (by omega)
  rw [Nat.sub_self] at h
  unfold wY_children_52
  exact hY _ (Exists.intro _ h)
theorem wo_cidle {c : Nat} {o t : Nat → Nat} (hP : wo_PK ids bh n kd idf df hw 6 c o t) {fl : Int32} {sel : Int64} {pc : Int32} {li lb : Nat → Int32} {mk : Nat → Int64} {post : SY → Prop} (hp : post ((nI n), fl, sel, pc, kd, idf, df, hw, li, lb, mk)) :
    ∀ d i, i + d = 3 → c ≤ i → ∀ m, d < m → wY_children_2 post m (nI i) (nI n) fl sel pc kd idf df hw li lb mk := by
  intro d
  induction d with
  | zero =>
    intro i hi hc m hm
    obtain ⟨m, rfl⟩ : ∃ m', m = m' + 1 := ⟨m - 1, by omega⟩
    exact br_t (nI_le (a := 3) (by omega) (by omega)) hp
  | succ d ih =>
    intro i hi hc m hm
    obtain ⟨m, rfl⟩ : ∃ m', m = m' + 1 := ⟨m - 1, by omega⟩
    exact br_f (nI_ge (b := 3) (by omega) (by omega)) (hP.2.2 _ _ _ _ _ _ _ i hc (by omega) (br_t (by decide) (nm_r (nI_1 i) (ih (i + 1) (by omega) (by omega) m (by omega)))))
theorem wo_tests (hC : wo_Cfg ids dps bh cnt n kd idf df hw) {c : Nat} {t : Nat → Nat} (hc : c ≤ 3) (hP : wo_PK ids bh n kd idf df hw 6 c (fun r => r) t) (sel : Int64) {md : Int32} (hmd : md = 0 ∨ md = 1) :
    ∀ d i, i + d = 3 → ∀ (L : Nat) (fs ab : Int32) (li lb : Nat → Int32) (mk : Nat → Int64) (od : Nat → Int32), L + 22 * d ≤ 122 →
      ∃ (L' : Nat) (fs' ab' : Int32) (li' lb' od' : Nat → Int32) (mk' : Nat → Int64), L' ≤ L + 22 * d ∧
        (∀ post : Int32 → SX → Prop, wX_runClass_195 post (nI L') fs' ab' ids dps bh cnt li' lb' mk' od' → ∀ m, d < m → wX_runClass_164 post md sel (nI c) m (nI i) (nI L) fs ab ids dps bh cnt li lb mk od) ∧
        (∀ post : SY → Prop, post ((nI n), nI L', sel, md, kd, idf, df, hw, li', lb', mk') → ∀ m, d < m → wY_children_2 post m (nI i) (nI n) (nI L) sel md kd idf df hw li lb mk) := by
  intro d
  induction d with
  | zero =>
    intro i hi L fs ab li lb mk od hL
    refine ⟨L, fs, ab, li, lb, od, mk, by omega, fun post hp m hm => ?_, fun post hp m hm => ?_⟩
    · obtain ⟨m, rfl⟩ : ∃ m', m = m' + 1 := ⟨m - 1, by omega⟩
      exact br_t (nI_le (by omega) (by omega)) hp
    · exact wo_cidle hP hp 0 i hi (by omega) m hm
  | succ d ih =>
    intro i hi L fs ab li lb mk od hL
    by_cases h : i < c
    · obtain ⟨tn, ei, eb⟩ := hP.1 i h
      have hn := hC.1
      have nr : ¬ nI c ≤ nI i := nI_ge h (by omega)
      have n3 : ¬ (3 : Int32) ≤ nI i := nI_ge (b := 3) (by omega) (by omega)
      have tp : ¬ nI (t i) < 0 := nI_pos (by omega)
      have bX := wo_bX sel (i := i) (by omega)
      have bY := wo_bY sel (i := i) (by omega)
      by_cases hb : wo_bit sel i
      · have sX : ¬ ((sel.toUInt64 >>> ((nI i).toInt64.toUInt64 &&& Int64.toUInt64 63)).toInt64 &&& 1) = 0 := fun z => bX.mp z hb
        have sY : ¬ 0 ≤ (sel <<< ((63 - nI i).toInt64 &&& 63)) := fun z => bY.mp z hb
        have hv0 : ∀ lb : Nat → Int32, wo_vf lb L (L - L) = wo_vx 0 0 := by
          intro lb
          rw [Nat.sub_self]
          rfl
        rcases hmd with rfl | rfl
        · obtain ⟨r1, L1, fs1, ab1, li1, lb1, od1, hr1, hO1, hX1, hY1⟩ := wo_phase hC 0 1 (by decide) (Or.inl ⟨by decide, rfl⟩) sel 0 L 0 0 li lb mk od (by omega)
          have l1 := hO1.1
          have l2 := hO1.2.1
          obtain ⟨L2, fs2, ab2, li2, lb2, od2, mk2, h2, hX2, hY2⟩ := wo_c52 hC sel 0 i (t i) L L1 fs1 ab1 li1 lb1 mk od1 (by omega) (by omega) tn ei eb l1 (hO1.2.2 L (Nat.le_refl _) (hv0 lb))
          obtain ⟨L3, fs3, ab3, li3, lb3, od3, mk3, h3, hX3, hY3⟩ := ih (i + 1) (by omega) L2 fs2 ab2 li2 lb2 mk2 od2 (by omega)
          refine ⟨L3, fs3, ab3, li3, lb3, od3, mk3, by omega, fun post hp m hm => ?_, fun post hp m hm => ?_⟩
          · obtain ⟨m, rfl⟩ : ∃ m', m = m' + 1 := ⟨m - 1, by omega⟩
            refine br_f nr (br_f sX ?_)
            unfold wpX_runTest
            exact br_t rfl (hX1 _ (hX2 _ (nm_r (nI_1 i) (hX3 post hp m (by omega)))))
          · obtain ⟨m, rfl⟩ : ∃ m', m = m' + 1 := ⟨m - 1, by omega⟩
            exact br_f n3 (hP.2.1 _ _ _ _ _ _ _ i h (br_f tp (br_f sY (br_t rfl (hY1 _ (hY2 post _ (hY3 post hp m (by omega))))))))
        · obtain ⟨L2, fs2, ab2, li2, lb2, od2, mk2, h2, hX2, hY2⟩ := wo_c52 hC sel 1 i (t i) L L 0 0 li lb mk od (by omega) (by omega) tn ei eb (Nat.le_refl _) (hv0 lb)
          obtain ⟨L3, fs3, ab3, li3, lb3, od3, mk3, h3, hX3, hY3⟩ := ih (i + 1) (by omega) L2 fs2 ab2 li2 lb2 mk2 od2 (by omega)
          refine ⟨L3, fs3, ab3, li3, lb3, od3, mk3, by omega, fun post hp m hm => ?_, fun post hp m hm => ?_⟩
          · obtain ⟨m, rfl⟩ : ∃ m', m = m' + 1 := ⟨m - 1, by omega⟩
            refine br_f nr (br_f sX ?_)
            unfold wpX_runTest
            exact br_f (by decide) (hX2 _ (nm_r (nI_1 i) (hX3 post hp m (by omega))))
          · obtain ⟨m, rfl⟩ : ∃ m', m = m' + 1 := ⟨m - 1, by omega⟩
            exact br_f n3 (hP.2.1 _ _ _ _ _ _ _ i h (br_f tp (br_f sY (br_f (by decide) (hY2 post _ (hY3 post hp m (by omega)))))))
      · have sX : ((sel.toUInt64 >>> ((nI i).toInt64.toUInt64 &&& Int64.toUInt64 63)).toInt64 &&& 1) = 0 := bX.mpr hb
        have sY : 0 ≤ (sel <<< ((63 - nI i).toInt64 &&& 63)) := bY.mpr hb
        obtain ⟨L3, fs3, ab3, li3, lb3, od3, mk3, h3, hX3, hY3⟩ := ih (i + 1) (by omega) L fs ab li lb mk od (by omega)
        refine ⟨L3, fs3, ab3, li3, lb3, od3, mk3, by omega, fun post hp m hm => ?_, fun post hp m hm => ?_⟩
        · obtain ⟨m, rfl⟩ : ∃ m', m = m' + 1 := ⟨m - 1, by omega⟩
          exact br_f nr (br_t sX (nm_r (nI_1 i) (hX3 post hp m (by omega))))
        · obtain ⟨m, rfl⟩ : ∃ m', m = m' + 1 := ⟨m - 1, by omega⟩
          exact br_f n3 (hP.2.1 _ _ _ _ _ _ _ i h (br_f tp (br_t sY (nm_r (nI_1 i) (hY3 post hp m (by omega))))))
    · refine ⟨L, fs, ab, li, lb, od, mk, by omega, fun post hp m hm => ?_, fun post hp m hm => ?_⟩
      · obtain ⟨m, rfl⟩ : ∃ m', m = m' + 1 := ⟨m - 1, by omega⟩
        exact br_t (nI_le (by omega) (by omega)) hp
      · exact wo_cidle hP hp (d + 1) i hi (by omega) m hm
/-- from here on the run makes at most m calls and answers the log's length -/
def wo_RS (ids dps bh cnt : Nat → Int32) (n : Nat) (kd idf df hw : Nat → Int32) (sel : Int64) (pc : Int32) (m L : Nat) (PX : (Int32 → SX → Prop) → Prop) (PY : (Int32 → SY → Prop) → Prop) : Prop :=
  ∃ (L' : Nat) (fs' ab' : Int32) (li' lb' od' : Nat → Int32) (mk' : Nat → Int64), L' ≤ L + m ∧
    (∀ post : Int32 → SX → Prop, post (nI L') (nI L', fs', ab', ids, dps, bh, cnt, li', lb', mk', od') → PX post) ∧
    (∀ post : Int32 → SY → Prop, post (nI L') ((nI n), nI L', sel, pc, kd, idf, df, hw, li', lb', mk') → PY post)
theorem wo_r202 (hC : wo_Cfg ids dps bh cnt n kd idf df hw) (sel : Int64) (pc : Int32) (L : Nat) (fs ab : Int32) (li lb : Nat → Int32) (mk : Nat → Int64) (od : Nat → Int32) (hL : L + 3 ≤ 128) :
    wo_RS ids dps bh cnt n kd idf df hw sel pc 3 L (fun post => wX_runClass_202 post (nI L) fs ab ids dps bh cnt li lb mk od) (fun post => wY_runClass_202 post (nI n) (nI L) sel pc kd idf df hw li lb mk) := by
  obtain ⟨res, L1, fs1, ab1, li1, lb1, od1, hres, hO, hX, hY⟩ := wo_phase hC 11 0 (by decide) (Or.inr ⟨by decide, rfl⟩) sel pc L fs ab li lb mk od (by omega)
  refine ⟨L1, fs1, ab1, li1, lb1, od1, mk, hO.2.1, fun post hp => ?_, fun post hp => ?_⟩
  · unfold wX_runClass_202
    exact hX _ hp
  · unfold wY_runClass_202
    exact hY _ hp
theorem wo_r195 (hC : wo_Cfg ids dps bh cnt n kd idf df hw) (sel : Int64) (pc : Int32) (L : Nat) (fs ab : Int32) (li lb : Nat → Int32) (mk : Nat → Int64) (od : Nat → Int32) (hL : L + 6 ≤ 128) :
    wo_RS ids dps bh cnt n kd idf df hw sel pc 6 L (fun post => wX_runClass_195 post (nI L) fs ab ids dps bh cnt li lb mk od) (fun post => wY_runClass_194 post (nI n) (nI L) sel pc kd idf df hw li lb mk) := by
  obtain ⟨res, L1, fs1, ab1, li1, lb1, od1, hres, hO, hX, hY⟩ := wo_phase hC 10 0 (by decide) (Or.inr ⟨by decide, rfl⟩) sel pc L fs ab li lb mk od (by omega)
  have l1 := hO.2.1
  obtain ⟨L2, fs2, ab2, li2, lb2, od2, mk2, h2, hX2, hY2⟩ := wo_r202 hC sel pc L1 fs1 ab1 li1 lb1 mk od1 (by omega)
  refine ⟨L2, fs2, ab2, li2, lb2, od2, mk2, by omega, fun post hp => ?_, fun post hp => ?_⟩
  · unfold wX_runClass_195
    exact hX _ (hX2 post hp)
  · unfold wY_runClass_194
    exact hY _ (hY2 post hp)
theorem wo_r145 (hC : wo_Cfg ids dps bh cnt n kd idf df hw) {c : Nat} {t : Nat → Nat} (hc : c ≤ 3) (hP : wo_PK ids bh n kd idf df hw 6 c (fun r => r) t) (sel : Int64) (md : Int32) (hmd : md = 0 ∨ md = 1) (L : Nat) (fs ab : Int32) (li lb : Nat → Int32) (mk : Nat → Int64) (od : Nat → Int32) (hL : L ≤ 3) :
    wo_RS ids dps bh cnt n kd idf df hw sel md 78 L (fun post => wX_runClass_145 post md sel (nI c) (nI L) fs ab ids dps bh cnt li lb mk od) (fun post => wY_runClass_172 post (nI n) (nI L) sel md kd idf df hw li lb mk) := by
  obtain ⟨r1, L1, fs1, ab1, li1, lb1, od1, hr1, hO1, hX1, hY1⟩ := wo_phase hC 1 1 (by decide) (Or.inl ⟨by decide, rfl⟩) sel md L fs ab li lb mk od (by omega)
  have l1 := hO1.2.1
  rcases hr1 with rfl | rfl
  · obtain ⟨L2, fs2, ab2, li2, lb2, od2, mk2, h2, hX2, hY2⟩ := wo_r202 hC sel md L1 fs1 ab1 li1 lb1 mk od1 (by omega)
    refine ⟨L2, fs2, ab2, li2, lb2, od2, mk2, by omega, fun post hp => ?_, fun post hp => ?_⟩
    · unfold wX_runClass_145
      exact hX1 _ (br_t rfl (hX2 post hp))
    · unfold wY_runClass_172
      exact hY1 _ (br_t rfl (hY2 post hp))
  · obtain ⟨r2, L2, fs2, ab2, li2, lb2, od2, hr2, hO2, hX2, hY2⟩ := wo_phase hC 2 1 (by decide) (Or.inl ⟨by decide, rfl⟩) sel md L1 fs1 ab1 li1 lb1 mk od1 (by omega)
    have l2 := hO2.2.1
    rcases hr2 with rfl | rfl
    · obtain ⟨L3, fs3, ab3, li3, lb3, od3, mk3, h3, hX3, hY3⟩ := wo_r195 hC sel md L2 fs2 ab2 li2 lb2 mk od2 (by omega)
      refine ⟨L3, fs3, ab3, li3, lb3, od3, mk3, by omega, fun post hp => ?_, fun post hp => ?_⟩
      · unfold wX_runClass_145
        exact hX1 _ (br_f (by decide) (hX2 _ (br_t rfl (hX3 post hp))))
      · unfold wY_runClass_172
        exact hY1 _ (br_f (by decide) (hY2 _ (br_t rfl (hY3 post hp))))
    · obtain ⟨L3, fs3, ab3, li3, lb3, od3, mk3, h3, hX3, hY3⟩ := wo_tests hC hc hP sel hmd 3 0 (by decide) L2 fs2 ab2 li2 lb2 mk od2 (by omega)
      obtain ⟨L4, fs4, ab4, li4, lb4, od4, mk4, h4, hX4, hY4⟩ := wo_r195 hC sel md L3 fs3 ab3 li3 lb3 mk3 od3 (by omega)
      refine ⟨L4, fs4, ab4, li4, lb4, od4, mk4, by omega, fun post hp => ?_, fun post hp => ?_⟩
      · unfold wX_runClass_145
        exact hX1 _ (br_f (by decide) (hX2 _ (br_f (by decide) (Exists.intro 4 (hX3 post (hX4 post hp) 4 (by decide))))))
      · unfold wY_runClass_172
        exact hY1 _ (br_f (by decide) (hY2 _ (br_f (by decide) (Exists.intro 4 (hY3 _ (hY4 post hp) 4 (by decide))))))
/-! ===== is any test selected ===== -/
theorem wo_aidle {c : Nat} {o t : Nat → Nat} (hP : wo_PK ids bh n kd idf df hw 6 c o t) {fl : Int32} {sel : Int64} {pc : Int32} {li lb : Nat → Int32} {mk : Nat → Int64} {post : Int32 → SY → Prop} {a : Int32} (hp : ∀ y : Int64, wY_runClass_110 post (nI n) fl sel pc kd idf df hw li lb mk 1 y a 3) :
    ∀ d i, i + d = 3 → c ≤ i → ∀ (y : Int64) (m : Nat), d < m → wY_runClass_110 post (nI n) fl sel pc kd idf df hw li lb mk m y a (nI i) := by
  intro d
  induction d with
  | zero =>
    intro i hi hc y m hm
    obtain ⟨m, rfl⟩ : ∃ m', m = m' + 1 := ⟨m - 1, by omega⟩
    have e : i = 3 := by omega
    have l : (3 : Int32) ≤ 3 := by decide
    rw [e]
    exact br_t l ((And.left (hp y)) l)
  | succ d ih =>
    intro i hi hc y m hm
    obtain ⟨m, rfl⟩ : ∃ m', m = m' + 1 := ⟨m - 1, by omega⟩
    exact br_f (nI_ge (b := 3) (by omega) (by omega)) (hP.2.2 _ _ _ _ _ _ _ i hc (by omega) (br_t (by decide) (nm_e (nm_r (nI_1 i) (ih (i + 1) (by omega) (by omega) _ m (by omega))))))
theorem wo_any {c : Nat} {o t : Nat → Nat} (hn : n ≤ 36) (hc : c ≤ 3) (hP : wo_PK ids bh n kd idf df hw 6 c o t) (md : Int32) (sel : Int64) (pc : Int32) (fl fs ab : Int32) (li lb : Nat → Int32) (mk : Nat → Int64) (od : Nat → Int32) :
    ∀ d i, i + d = 3 → i ≤ c → ∀ (a : Int32) (y : Int64), (a = 0 ∨ a = 1) → y.toInt = sel.toInt / 2 ^ i →
      ∃ a' : Int32, (a' = 0 ∨ a' = 1) ∧
        (∀ post : Int32 → SX → Prop, wX_runClass_93 post md sel (nI c) fl fs ab ids dps bh cnt li lb mk od 1 a' (nI c) → ∀ m, d < m → wX_runClass_93 post md sel (nI c) fl fs ab ids dps bh cnt li lb mk od m a (nI i)) ∧
        (∀ post : Int32 → SY → Prop, (∀ y' : Int64, wY_runClass_110 post (nI n) fl sel pc kd idf df hw li lb mk 1 y' a' 3) → ∀ m, d < m → wY_runClass_110 post (nI n) fl sel pc kd idf df hw li lb mk m y a (nI i)) := by
  have stop : ∀ d i, i + d = 3 → i = c → ∀ (a : Int32) (y : Int64), (a = 0 ∨ a = 1) →
      ∃ a' : Int32, (a' = 0 ∨ a' = 1) ∧
        (∀ post : Int32 → SX → Prop, wX_runClass_93 post md sel (nI c) fl fs ab ids dps bh cnt li lb mk od 1 a' (nI c) → ∀ m, d < m → wX_runClass_93 post md sel (nI c) fl fs ab ids dps bh cnt li lb mk od m a (nI i)) ∧
        (∀ post : Int32 → SY → Prop, (∀ y' : Int64, wY_runClass_110 post (nI n) fl sel pc kd idf df hw li lb mk 1 y' a' 3) → ∀ m, d < m → wY_runClass_110 post (nI n) fl sel pc kd idf df hw li lb mk m y a (nI i)) := by
    intro d i hi e a y ha
    refine ⟨a, ha, fun post hp m hm => ?_, fun post hp m hm => wo_aidle hP hp d i hi (by omega) y m hm⟩
    obtain ⟨m, rfl⟩ : ∃ m', m = m' + 1 := ⟨m - 1, by omega⟩
    have l : nI c ≤ nI c := nI_le (Nat.le_refl _) (by omega)
    rw [e]
    exact br_t l ((And.left hp) l)
  intro d
  induction d with
  | zero =>
    intro i hi hic a y ha hy
    exact stop 0 i hi (by omega) a y ha
  | succ d ih =>
    intro i hi hic a y ha hy
    by_cases h : i < c
    · have tn := (hP.1 i h).1
      have nr : ¬ nI c ≤ nI i := nI_ge h (by omega)
      have n3 : ¬ (3 : Int32) ≤ nI i := nI_ge (b := 3) (by omega) (by omega)
      have tp : ¬ nI (t i) < 0 := nI_pos (by omega)
      have bX := wo_bX sel (i := i) (by omega)
      have bY := wo_bS sel y (i := i) (by omega) hy
      have hy' := wo_sS sel y hy
      by_cases hb : wo_bit sel i
      · obtain ⟨a', ha', hX, hY⟩ := ih (i + 1) (by omega) (by omega) 1 _ (Or.inr rfl) hy'
        refine ⟨a', ha', fun post hp m hm => ?_, fun post hp m hm => ?_⟩
        · obtain ⟨m, rfl⟩ : ∃ m', m = m' + 1 := ⟨m - 1, by omega⟩
          exact br_f nr (br_f (fun z => bX.mp z hb) (nm_r (nI_1 i) (hX post hp m (by omega))))
        · obtain ⟨m, rfl⟩ : ∃ m', m = m' + 1 := ⟨m - 1, by omega⟩
          exact br_f n3 (hP.2.1 _ _ _ _ _ _ _ i h (br_f tp (br_f (fun z => bY.mp z hb) (nm_e (nm_r (nI_1 i) (hY post hp m (by omega)))))))
      · obtain ⟨a', ha', hX, hY⟩ := ih (i + 1) (by omega) (by omega) a _ ha hy'
        refine ⟨a', ha', fun post hp m hm => ?_, fun post hp m hm => ?_⟩
        · obtain ⟨m, rfl⟩ : ∃ m', m = m' + 1 := ⟨m - 1, by omega⟩
          exact br_f nr (br_t (bX.mpr hb) (nm_r (nI_1 i) (hX post hp m (by omega))))
        · obtain ⟨m, rfl⟩ : ∃ m', m = m' + 1 := ⟨m - 1, by omega⟩
          exact br_f n3 (hP.2.1 _ _ _ _ _ _ _ i h (br_f tp (br_t (bY.mpr hb) (nm_e (nm_r (nI_1 i) (hY post hp m (by omega)))))))
    · exact stop (d + 1) i hi (by omega) a y ha
end
end
section
/-! ===== runClass ===== -/
theorem wo_mz (mk : Nat → Int64) : vp_updL (vp_updL (vp_updL mk 2 0) 1 0) 0 0 = vp_updL (vp_updL (vp_updL mk 0 0) 1 0) 2 0 := by
  funext j
  unfold vp_updL
  by_cases h0 : j = 0
  · subst h0
    simp
  · by_cases h1 : j = 1
    · subst h1
      simp
    · by_cases h2 : j = 2
      · subst h2
        simp
      · simp [h0, h1, h2]
theorem wo_fitb {z : Int32} (h : z = 0 ∨ z = 1) : fits .boolean (.int z) = true := by
  rcases h with rfl | rfl <;> decide
section
variable {n : Nat} {ids dps bh cnt : Nat → Int32} {kd idf df hw : Nat → Int32}
theorem wo_r52 (hC : wo_Cfg ids dps bh cnt n kd idf df hw) (sel : Int64) (md : Int32) (hmd : md = 0 ∨ md = 1) (fl fs ab : Int32) (li lb : Nat → Int32) (mk : Nat → Int64) (od : Nat → Int32) (sel0 : Int64) (pc0 : Int32) :
    wo_RS ids dps bh cnt n kd idf df hw sel md 81 0 (fun post => wX_runClass_52 post md sel fl fs ab ids dps bh cnt li lb mk od) (fun post => wY_runClass_56 post md sel (nI n) fl sel0 pc0 kd idf df hw li lb mk) := by
  obtain ⟨hcn, hc3⟩ := hC.2.2.1 6 (by decide)
  obtain ⟨t, hP⟩ := wo_pick hC (k := 6) (by decide) (wo_Ord_id (fun a b => wo_pb_id (k := 6) (by decide) (by decide) (by decide) _ _ _ _) (wo_c kd 6 n))
  have hn := hC.1
  have l : nI (wo_c kd 6 n) ≤ nI (wo_c kd 6 n) := nI_le (Nat.le_refl _) (by omega)
  have l3 : (3 : Int32) ≤ 3 := by decide
  obtain ⟨a, ha, hXa, hYa⟩ := wo_any hn hc3 hP md sel md (nI 0) fs ab li lb (vp_updL (vp_updL (vp_updL mk 0 0) 1 0) 2 0) od 3 0 (by decide) (Nat.zero_le _) 0 sel (Or.inl rfl) (by simp)
  have topX : ∀ post : Int32 → SX → Prop, wX_runClass_93 post md sel (nI (wo_c kd 6 n)) (nI 0) fs ab ids dps bh cnt li lb (vp_updL (vp_updL (vp_updL mk 0 0) 1 0) 2 0) od 1 a (nI (wo_c kd 6 n)) → wX_runClass_52 post md sel fl fs ab ids dps bh cnt li lb mk od := by
    intro post hp
    unfold wX_runClass_52
    exact nm_e (nm_e (nm_e (nm_r hcn ⟨4, hXa post hp 4 (by decide)⟩)))
  have topY : ∀ post : Int32 → SY → Prop, (∀ y' : Int64, wY_runClass_110 post (nI n) (nI 0) sel md kd idf df hw li lb (vp_updL (vp_updL (vp_updL mk 0 0) 1 0) 2 0) 1 y' a 3) → wY_runClass_56 post md sel (nI n) fl sel0 pc0 kd idf df hw li lb mk := by
    intro post hp
    have h := hYa post hp 4 (by decide)
    have g : wY_runClass_75 post sel md (nI n) fl sel pc0 kd idf df hw li lb mk := by
      unfold wY_runClass_75
      exact ⟨wo_nz hmd, wo_fitb hmd, nm_e (nm_e (nm_r (wo_mz mk) ⟨4, h⟩))⟩
    unfold wY_runClass_56
    rcases hmd with rfl | rfl
    · exact br_f (by decide) g
    · exact br_t rfl g
  rcases ha with rfl | rfl
  · refine ⟨0, fs, ab, li, lb, od, vp_updL (vp_updL (vp_updL mk 0 0) 1 0) 2 0, by decide, fun post hp => topX post ?_, fun post hp => topY post (fun y' => ?_)⟩
    · exact br_t l (br_t rfl hp)
    · exact br_t l3 (br_t rfl hp)
  · rcases hmd with rfl | rfl
    · obtain ⟨L2, fs2, ab2, li2, lb2, od2, mk2, h2, hX2, hY2⟩ := wo_r145 hC hc3 hP sel 0 (Or.inl rfl) 0 fs ab li lb (vp_updL (vp_updL (vp_updL mk 0 0) 1 0) 2 0) od (by decide)
      refine ⟨L2, fs2, ab2, li2, lb2, od2, mk2, by omega, fun post hp => topX post ?_, fun post hp => topY post (fun y' => ?_)⟩
      · exact br_t l (br_f (by decide) (br_f (by decide) (hX2 post hp)))
      · exact br_t l3 (br_f (by decide) (br_t rfl (hY2 post hp)))
    · obtain ⟨r1, L1, fs1, ab1, li1, lb1, od1, hr1, hO1, hX1, hY1⟩ := wo_phase hC 0 1 (by decide) (Or.inl ⟨by decide, rfl⟩) sel 1 0 fs ab li lb (vp_updL (vp_updL (vp_updL mk 0 0) 1 0) 2 0) od (by decide)
      have l1 := hO1.2.1
      rcases hr1 with rfl | rfl
      · refine ⟨L1, fs1, ab1, li1, lb1, od1, vp_updL (vp_updL (vp_updL mk 0 0) 1 0) 2 0, by omega, fun post hp => topX post ?_, fun post hp => topY post (fun y' => ?_)⟩
        · exact br_t l (br_f (by decide) (br_t rfl (hX1 _ (br_t rfl hp))))
        · exact br_t l3 (br_f (by decide) (br_f (by decide) (hY1 _ (br_t rfl hp))))
      · obtain ⟨L2, fs2, ab2, li2, lb2, od2, mk2, h2, hX2, hY2⟩ := wo_r145 hC hc3 hP sel 1 (Or.inr rfl) L1 fs1 ab1 li1 lb1 (vp_updL (vp_updL (vp_updL mk 0 0) 1 0) 2 0) od1 (by omega)
        refine ⟨L2, fs2, ab2, li2, lb2, od2, mk2, by omega, fun post hp => topX post ?_, fun post hp => topY post (fun y' => ?_)⟩
        · exact br_t l (br_f (by decide) (br_t rfl (hX1 _ (br_f (by decide) (hX2 post hp)))))
        · exact br_t l3 (br_f (by decide) (br_f (by decide) (hY1 _ (br_f (by decide) (hY2 post hp)))))
/-! the check of mode 0: a constructor that would throw -/
theorem wo_x26 {c : Nat} (hc : c ≤ 36) {md : Int32} {sel : Int64} {fl fs ab : Int32} {li lb : Nat → Int32} {mk : Nat → Int64} {od : Nat → Int32} {post : Int32 → SX → Prop}
    (h1 : (∀ r, r < c → bh r = 0) → wX_runClass_52 post md sel fl fs ab ids dps bh cnt li lb mk od) (h2 : (∃ r, r < c ∧ ¬ bh r = 0) → post (-2) (fl, fs, ab, ids, dps, bh, cnt, li, lb, mk, od)) :
    ∀ d i, i + d = c → (∀ r, r < i → bh r = 0) → ∀ m, d < m → wX_runClass_26 post md sel (nI c) fl fs ab ids dps bh cnt li lb mk od m (nI i) := by
  intro d
  induction d with
  | zero =>
    intro i hi hz m hm
    obtain ⟨m, rfl⟩ : ∃ m', m = m' + 1 := ⟨m - 1, by omega⟩
    exact br_t (nI_le (by omega) (by omega)) (h1 (fun r hr => hz r (by omega)))
  | succ d ih =>
    intro i hi hz m hm
    obtain ⟨m, rfl⟩ : ∃ m', m = m' + 1 := ⟨m - 1, by omega⟩
    have ec : (nI i).toNatClampNeg = i := nI_clamp (by omega)
    refine br_f (nI_ge (by omega) (by omega)) ⟨pk_in i 36 (by omega), ?_⟩
    rw [ec]
    by_cases z : bh i = 0
    · refine br_t z (nm_r (nI_1 i) (ih (i + 1) (by omega) (fun r hr => ?_) m (by omega)))
      by_cases e : r = i
      · rw [e]
        exact z
      · exact hz r (by omega)
    · exact br_f z (h2 ⟨i, by omega, z⟩)
theorem wo_y18 (hn : n ≤ 36) {md : Int32} {sel : Int64} {fl : Int32} {sel0 : Int64} {pc0 : Int32} {li lb : Nat → Int32} {mk : Nat → Int64} {post : Int32 → SY → Prop}
    (h1 : (∀ j, j < n → kd j = 0 → hw j = 0) → wY_runClass_56 post md sel (nI n) fl sel0 pc0 kd idf df hw li lb mk) (h2 : (∃ j, j < n ∧ kd j = 0 ∧ ¬ hw j = 0) → post (-2) ((nI n), fl, sel0, pc0, kd, idf, df, hw, li, lb, mk)) :
    ∀ d i, i + d = n → (∀ j, j < i → kd j = 0 → hw j = 0) → ∀ m, d < m → wY_runClass_18 post md sel (nI n) fl sel0 pc0 kd idf df hw li lb mk m (nI i) := by
  intro d
  induction d with
  | zero =>
    intro i hi hz m hm
    obtain ⟨m, rfl⟩ : ∃ m', m = m' + 1 := ⟨m - 1, by omega⟩
    exact br_t (nI_le (by omega) (by omega)) (h1 (fun r hr => hz r (by omega)))
  | succ d ih =>
    intro i hi hz m hm
    obtain ⟨m, rfl⟩ : ∃ m', m = m' + 1 := ⟨m - 1, by omega⟩
    have ec : (nI i).toNatClampNeg = i := nI_clamp (by omega)
    have ii : vp_in (nI i) 36 := pk_in i 36 (by omega)
    refine br_f (nI_ge (by omega) (by omega)) ⟨ii, ?_⟩
    rw [ec]
    by_cases k0 : kd i = 0
    · refine br_t k0 ⟨ii, ?_⟩
      by_cases z : hw i = 0
      · refine br_t z (nm_r (nI_1 i) (ih (i + 1) (by omega) (fun r hr hk => ?_) m (by omega)))
        by_cases e : r = i
        · rw [e]
          exact z
        · exact hz r (by omega) hk
      · exact br_f z (h2 ⟨i, by omega, k0, z⟩)
    · refine br_f k0 (nm_r (nI_1 i) (ih (i + 1) (by omega) (fun r hr hk => ?_) m (by omega)))
      by_cases e : r = i
      · rw [e] at hk
        exact absurd hk k0
      · exact hz r (by omega) hk
theorem wo_zero (hC : wo_Cfg ids dps bh cnt n kd idf df hw) : (∀ r, r < wo_c kd 0 n → bh r = 0) ↔ (∀ j, j < n → kd j = 0 → hw j = 0) := by
  obtain ⟨s, s1, s2, s3⟩ := wo_mem (wo_p kd 0) n
  have hs := hC.2.2.2.1
  constructor
  · intro h j hj kj
    have e := (hs j 0 hj (by decide) kj).2.2
    have lt : wo_c kd 0 j < wo_c kd 0 n := wo_ct_lt hj (decide_eq_true kj)
    rw [← e, show 0 * 3 + wo_c kd 0 j = wo_c kd 0 j from by omega]
    exact h _ lt
  · intro h r hr
    obtain ⟨a1, a2, a3⟩ := s1 r hr
    have kj : kd (s r) = nI 0 := of_decide_eq_true a2
    have e := (hs (s r) 0 a1 (by decide) kj).2.2
    have e2 : wo_c kd 0 (s r) = r := a3
    rw [e2, show 0 * 3 + r = r from by omega] at e
    rw [e]
    exact h _ a1 kj
/-- a whole run: one outcome -/
theorem wo_run (hC : wo_Cfg ids dps bh cnt n kd idf df hw) (sel : Int64) (md : Int32) (L : Nat) (hL : L ≤ 100) (fs ab : Int32) (li lb : Nat → Int32) (mk : Nat → Int64) (od : Nat → Int32) (sel0 : Int64) (pc0 : Int32) :
    ∃ (res : Int32) (L' : Nat) (fs' ab' : Int32) (li' lb' od' : Nat → Int32) (mk' : Nat → Int64) (sel' : Int64) (pc' : Int32), L' ≤ 100 ∧
      (∀ post : Int32 → SX → Prop, post res (nI L', fs', ab', ids, dps, bh, cnt, li', lb', mk', od') → wpX_runClass post ((nI L), fs, ab, ids, dps, bh, cnt, li, lb, mk, od) md sel) ∧
      (∀ post : Int32 → SY → Prop, post res ((nI n), nI L', sel', pc', kd, idf, df, hw, li', lb', mk') → wpY_runClass post ((nI n), (nI L), sel0, pc0, kd, idf, df, hw, li, lb, mk) md sel) := by
  have hn := hC.1
  by_cases h0 : md = 0
  · obtain ⟨hcn, hc3⟩ := hC.2.2.1 0 (by decide)
    have zz := wo_zero hC
    by_cases Z : ∀ r, r < wo_c kd 0 n → bh r = 0
    · obtain ⟨L2, fs2, ab2, li2, lb2, od2, mk2, h2, hX2, hY2⟩ := wo_r52 hC sel md (Or.inl h0) (nI L) fs ab li lb mk od sel0 pc0
      refine ⟨nI L2, L2, fs2, ab2, li2, lb2, od2, mk2, sel, md, by omega, fun post hp => ?_, fun post hp => ?_⟩
      · have h := wo_x26 (c := wo_c kd 0 n) (by omega) (fun _ => hX2 post hp) (fun ⟨r, hr, nz⟩ => absurd (Z r hr) nz) (wo_c kd 0 n) 0 (by omega) (fun r hr => absurd hr (Nat.not_lt_zero _)) (wo_c kd 0 n + 1) (by omega)
        unfold wpX_runClass
        dsimp only
        unfold wX_runClass_11
        exact br_t h0 (br_t h0 (nm_r hcn ⟨_, h⟩))
      · have h := wo_y18 hn (fun _ => hY2 post hp) (fun ⟨r, hr, kz, nz⟩ => absurd (zz.mp Z r hr kz) nz) n 0 (by omega) (fun r hr => absurd hr (Nat.not_lt_zero _)) (n + 1) (by omega)
        unfold wpY_runClass
        dsimp only
        unfold wY_runClass_11
        exact br_t h0 (br_t h0 ⟨_, h⟩)
    · refine ⟨-2, L, fs, ab, li, lb, od, mk, sel0, pc0, hL, fun post hp => ?_, fun post hp => ?_⟩
      · have h := wo_x26 (md := md) (sel := sel) (c := wo_c kd 0 n) (by omega) (fun z => absurd z Z) (fun _ => hp) (wo_c kd 0 n) 0 (by omega) (fun r hr => absurd hr (Nat.not_lt_zero _)) (wo_c kd 0 n + 1) (by omega)
        unfold wpX_runClass
        dsimp only
        unfold wX_runClass_11
        exact br_t h0 (br_t h0 (nm_r hcn ⟨_, h⟩))
      · have h := wo_y18 (md := md) (sel := sel) hn (fun z => absurd (zz.mpr z) Z) (fun _ => hp) n 0 (by omega) (fun r hr => absurd hr (Nat.not_lt_zero _)) (n + 1) (by omega)
        unfold wpY_runClass
        dsimp only
        unfold wY_runClass_11
        exact br_t h0 (br_t h0 ⟨_, h⟩)
  · by_cases h1 : md = 1
    · obtain ⟨L2, fs2, ab2, li2, lb2, od2, mk2, h2, hX2, hY2⟩ := wo_r52 hC sel md (Or.inr h1) (nI L) fs ab li lb mk od sel0 pc0
      refine ⟨nI L2, L2, fs2, ab2, li2, lb2, od2, mk2, sel, md, by omega, fun post hp => ?_, fun post hp => ?_⟩
      · unfold wpX_runClass
        dsimp only
        unfold wX_runClass_11
        exact br_f h0 (br_t h1 (br_f h0 (hX2 post hp)))
      · unfold wpY_runClass
        dsimp only
        unfold wY_runClass_11
        exact br_f h0 (br_t h1 (br_f h0 (hY2 post hp)))
    · refine ⟨-1, L, fs, ab, li, lb, od, mk, sel0, pc0, hL, fun post hp => ?_, fun post hp => ?_⟩
      · unfold wpX_runClass
        dsimp only
        exact br_f h0 (br_f h1 hp)
      · unfold wpY_runClass
        dsimp only
        exact br_f h0 (br_f h1 hp)
end
end
section
/-! ===== register ===== -/
theorem wo_c_old {kd : Nat → Int32} {n : Nat} {v : Int32} {k j : Nat} (hj : j ≤ n) : wo_c (upd kd n v) k j = wo_c kd k j := by
  refine wo_ct_cg (fun i hi => ?_)
  unfold wo_p
  rw [pk_un (by omega)]
theorem wo_c_same {kd : Nat → Int32} {n k : Nat} : wo_c (upd kd n (nI k)) k (n + 1) = wo_c kd k n + 1 := by
  have h : wo_p (upd kd n (nI k)) k n = true := decide_eq_true pk_us
  have e : wo_c (upd kd n (nI k)) k (n + 1) = wo_c (upd kd n (nI k)) k n + 1 := wo_ct_t h
  rw [e, wo_c_old (Nat.le_refl _)]
theorem wo_c_other {kd : Nat → Int32} {n k k' : Nat} (hk : k < 12) (hk' : k' < 12) (h : k ≠ k') : wo_c (upd kd n (nI k)) k' (n + 1) = wo_c kd k' n := by
  have z : ¬ wo_p (upd kd n (nI k)) k' n = true := by
    intro z
    have z1 : upd kd n (nI k) n = nI k' := of_decide_eq_true z
    rw [pk_us] at z1
    exact wo_ne hk hk' h z1
  have e : wo_c (upd kd n (nI k)) k' (n + 1) = wo_c (upd kd n (nI k)) k' n := wo_ct_f z
  rw [e, wo_c_old (Nat.le_refl _)]
section
variable {n : Nat} {ids dps bh cnt : Nat → Int32} {kd idf df hw : Nat → Int32}
theorem wo_by_kinds (hC : wo_Cfg ids dps bh cnt n kd idf df hw) (q : Nat → Bool) : wo_sm (fun k => wo_ct (fun j => wo_p kd k j && q j) n) 12 = wo_ct q n := by
  refine wo_kinds (wo_p kd) q n (fun j hj => ?_)
  obtain ⟨k, hk, e⟩ := hC.2.1 j hj
  refine ⟨k, hk, decide_eq_true e, fun k' hk' z => ?_⟩
  have e' : kd j = nI k' := of_decide_eq_true z
  exact ((nI_eq (by omega) (by omega)).mp (e.symm.trans e')).symm
theorem wo_room (hC : wo_Cfg ids dps bh cnt n kd idf df hw) {k : Nat} (hk : k < 12) (hc : wo_c kd k n < 3) : n < 36 := by
  have h := wo_by_kinds hC (fun _ => true)
  rw [wo_ct_true] at h
  have e : wo_sm (fun k => wo_ct (fun j => wo_p kd k j && true) n) 12 = wo_sm (fun k => wo_c kd k n) 12 := by
    refine wo_sm_cg (fun k _ => wo_ct_cg (fun j _ => ?_))
    exact Bool.and_true _
  rw [e] at h
  have l := wo_sm_lt (f := fun k => wo_c kd k n) (b := 3) hk hc (fun k' hk' => (hC.2.2.1 k' hk').2)
  omega
theorem wo_Cfg_reg (hC : wo_Cfg ids dps bh cnt n kd idf df hw) {k : Nat} (hk : k < 12) (hc : wo_c kd k n < 3) (s dv : Int32) (hs : s.toInt16.toInt32 = s) :
    wo_Cfg (upd ids (k * 3 + wo_c kd k n) s) (upd dps (k * 3 + wo_c kd k n) dv) (upd bh (k * 3 + wo_c kd k n) 0) (upd cnt k (nI (wo_c kd k n + 1))) (n + 1) (upd kd n (nI k)) (upd idf n s) (upd df n dv) (upd hw n 0) := by
  have hr := wo_room hC hk hc
  obtain ⟨hn, h2, h3, h4, h5⟩ := hC
  refine ⟨by omega, ?_, ?_, ?_, ?_⟩
  · intro j hj
    by_cases e : j = n
    · exact ⟨k, hk, by rw [e, pk_us]⟩
    · rw [pk_un e]
      exact h2 j (by omega)
  · intro k' hk'
    by_cases e : k = k'
    · rw [← e, pk_us, wo_c_same]
      exact ⟨rfl, by omega⟩
    · rw [pk_un (fun z => e z.symm), wo_c_other hk hk' e]
      exact h3 k' hk'
  · intro j k' hj hk' kj
    by_cases e : j = n
    · rw [e, pk_us] at kj
      have ek : k = k' := (nI_eq (by omega) (by omega)).mp kj
      rw [e, ← ek, wo_c_old (Nat.le_refl _), pk_us, pk_us, pk_us, pk_us, pk_us, pk_us]
      exact ⟨rfl, rfl, rfl⟩
    · rw [pk_un e] at kj
      have lt : wo_c kd k' j < wo_c kd k' n := wo_ct_lt (show j < n by omega) (decide_eq_true kj)
      have le := (h3 k' hk').2
      have ne : k' * 3 + wo_c kd k' j ≠ k * 3 + wo_c kd k n := by
        by_cases ek : k' = k
        · subst ek
          omega
        · omega
      rw [wo_c_old (by omega), pk_un ne, pk_un ne, pk_un ne, pk_un e, pk_un e, pk_un e]
      exact h4 j k' (by omega) hk' kj
  · intro j hj
    by_cases e : j = n
    · rw [e, pk_us, pk_us]
      exact ⟨Or.inl rfl, hs⟩
    · rw [pk_un e, pk_un e]
      exact h5 j (by omega)
theorem wo_yreg (hn : n ≤ 36) {k : Nat} {p1 p2 : Int32} {fl : Int32} {sel : Int64} {pc : Int32} {li lb : Nat → Int32} {mk : Nat → Int64} {post : Int32 → SY → Prop} (hp : wY_register_18 post (nI k) p1 p2 (nI n) fl sel pc kd idf df hw li lb mk 1 (nI (wo_c kd k n)) (nI n)) :
    ∀ d i, i + d = n → ∀ m, d < m → wY_register_18 post (nI k) p1 p2 (nI n) fl sel pc kd idf df hw li lb mk m (nI (wo_c kd k i)) (nI i) := by
  intro d
  induction d with
  | zero =>
    intro i hi m hm
    obtain ⟨m, rfl⟩ : ∃ m', m = m' + 1 := ⟨m - 1, by omega⟩
    have e : i = n := by omega
    have l : nI n ≤ nI n := nI_le (Nat.le_refl _) (by omega)
    rw [e]
    exact br_t l ((And.left hp) l)
  | succ d ih =>
    intro i hi m hm
    obtain ⟨m, rfl⟩ : ∃ m', m = m' + 1 := ⟨m - 1, by omega⟩
    have ec : (nI i).toNatClampNeg = i := nI_clamp (by omega)
    have nx := ih (i + 1) (by omega) m (by omega)
    refine br_f (nI_ge (by omega) (by omega)) ⟨pk_in i 36 (by omega), ?_⟩
    rw [ec]
    by_cases z : kd i = nI k
    · have e : wo_c kd k (i + 1) = wo_c kd k i + 1 := wo_ct_t (decide_eq_true z)
      rw [e] at nx
      exact br_t z (nm_r (nI_1 _) (nm_r (nI_1 _) nx))
    · have e : wo_c kd k (i + 1) = wo_c kd k i := wo_ct_f (fun y => z (of_decide_eq_true y))
      rw [e] at nx
      exact br_f z (nm_r (nI_1 _) nx)
/-! ===== setBehaviour ===== -/
/-- X's behaviours while it walks: the places below q are new, the others old -/
def wo_IX (ids bh : Nat → Int32) (n : Nat) (kd : Nat → Int32) (s code : Int32) (q : Nat) (b : Nat → Int32) : Prop :=
  (∀ k i, k < 12 → i < wo_c kd k n → k * 3 + i < q → b (k * 3 + i) = if ids (k * 3 + i) = s then code else bh (k * 3 + i)) ∧ (∀ p, q ≤ p → b p = bh p)
def wo_G (ids : Nat → Int32) (s : Int32) (k : Nat) : Nat → Bool := fun i => decide (ids (k * 3 + i) = s)
theorem wo_x39 {k c : Nat} (hk : k < 12) (ec : wo_c kd k n = c) (hc : c ≤ 3) {s code fl fs ab : Int32} {li lb : Nat → Int32} {mk : Nat → Int64} {od : Nat → Int32} {f0 : Nat} {post : Int32 → SX → Prop}
    {J : Int32 → Int32 → (Nat → Int32) → (Nat → Int32) → (Nat → Int32) → (Nat → Int32) → (Nat → Int32) → (Nat → Int32) → (Nat → Int64) → (Nat → Int32) → Prop}
    (hJ : ∀ b, wo_IX ids bh n kd s code (k * 3 + c) b → J (nI (f0 + wo_ct (wo_G ids s k) c)) (nI (k + 1)) ids dps b cnt li lb mk od) :
    ∀ d j, j + d = c → ∀ b, wo_IX ids bh n kd s code (k * 3 + j) b → ∀ m, d < m → wX_setBehaviour_39 post J code s (nI k) (nI c) fl fs ab m (nI (f0 + wo_ct (wo_G ids s k) j)) (nI j) ids dps b cnt li lb mk od := by
  intro d
  induction d with
  | zero =>
    intro j hj b hb m hm
    obtain ⟨m, rfl⟩ : ∃ m', m = m' + 1 := ⟨m - 1, by omega⟩
    have e : j = c := by omega
    rw [e] at hb
    rw [e]
    exact br_t (nI_le (Nat.le_refl _) (by omega)) (nm_r (nI_1 k) (hJ b hb))
  | succ d ih =>
    intro j hj b hb m hm
    obtain ⟨m, rfl⟩ : ∃ m', m = m' + 1 := ⟨m - 1, by omega⟩
    have ep : nI k * 3 + nI j = nI (k * 3 + j) := by
      have e3 : nI k * 3 = nI (k * 3) := pk_mul k 3
      rw [e3, nI_add]
    have ecl : (nI (k * 3 + j)).toNatClampNeg = k * 3 + j := nI_clamp (by omega)
    have ii : vp_in (nI (k * 3 + j)) 36 := vp_in_nI (by omega) (by decide)
    refine br_f (nI_ge (by omega) (by omega)) (nm_r ep ⟨ii, ?_⟩)
    rw [ecl]
    by_cases z : ids (k * 3 + j) = s
    · have e : wo_ct (wo_G ids s k) (j + 1) = wo_ct (wo_G ids s k) j + 1 := wo_ct_t (decide_eq_true z)
      have hb' : wo_IX ids bh n kd s code (k * 3 + (j + 1)) (upd b (k * 3 + j) code) := by
        refine ⟨fun k' i hk' hi hq => ?_, fun p hp => ?_⟩
        · by_cases y : k' * 3 + i = k * 3 + j
          · rw [y, pk_us, if_pos z]
          · rw [pk_un y]
            exact hb.1 k' i hk' hi (by omega)
        · rw [pk_un (by omega)]
          exact hb.2 p (by omega)
      have nx := ih (j + 1) (by omega) _ hb' m (by omega)
      rw [e, ← Nat.add_assoc] at nx
      exact br_t z ⟨ii, nm_e (nm_r (nI_1 _) (nm_r (nI_1 _) nx))⟩
    · have e : wo_ct (wo_G ids s k) (j + 1) = wo_ct (wo_G ids s k) j := wo_ct_f (fun y => z (of_decide_eq_true y))
      have hb' : wo_IX ids bh n kd s code (k * 3 + (j + 1)) b := by
        refine ⟨fun k' i hk' hi hq => ?_, fun p hp => hb.2 p (by omega)⟩
        by_cases y : k' * 3 + i = k * 3 + j
        · rw [y, if_neg z]
          exact hb.2 _ (Nat.le_refl _)
        · exact hb.1 k' i hk' hi (by omega)
      have nx := ih (j + 1) (by omega) _ hb' m (by omega)
      rw [e] at nx
      exact br_f z (nm_r (nI_1 _) nx)
theorem wo_x20 (hC : wo_Cfg ids dps bh cnt n kd idf df hw) {s code fl fs ab : Int32} {li lb : Nat → Int32} {mk : Nat → Int64} {od : Nat → Int32} {post : Int32 → SX → Prop}
    (hp : ∀ b, wo_IX ids bh n kd s code 36 b → post (nI (wo_sm (fun k => wo_ct (wo_G ids s k) (wo_c kd k n)) 12)) (fl, fs, ab, ids, dps, b, cnt, li, lb, mk, od)) :
    ∀ d k, k + d = 12 → ∀ b, wo_IX ids bh n kd s code (k * 3) b → ∀ m, d < m → wX_setBehaviour_20 post code s fl fs ab m (nI (wo_sm (fun k => wo_ct (wo_G ids s k) (wo_c kd k n)) k)) (nI k) ids dps b cnt li lb mk od := by
  intro d
  induction d with
  | zero =>
    intro k hk b hb m hm
    obtain ⟨m, rfl⟩ : ∃ m', m = m' + 1 := ⟨m - 1, by omega⟩
    have e : k = 12 := by omega
    rw [e] at hb
    rw [e]
    exact br_t (nI_le (a := 12) (b := 12) (Nat.le_refl _) (by decide)) (hp b hb)
  | succ d ih =>
    intro k hk b hb m hm
    obtain ⟨m, rfl⟩ : ∃ m', m = m' + 1 := ⟨m - 1, by omega⟩
    obtain ⟨hcn, hc3⟩ := hC.2.2.1 k (by omega)
    have ecn : cnt (nI k).toNatClampNeg = nI (wo_c kd k n) := by rw [nI_clamp (by omega), hcn]
    refine br_f (nI_ge (b := 12) (by omega) (by decide)) ⟨pk_in k 12 (by omega), nm_r ecn ⟨wo_c kd k n + 1, ?_⟩⟩
    refine wo_x39 (by omega) rfl hc3 (fun b' hb' => ?_) (wo_c kd k n) 0 (by omega) b hb (wo_c kd k n + 1) (by omega)
    refine ih (k + 1) (by omega) b' ⟨fun k' i hk' hi hq => ?_, fun p hp => hb'.2 p (by omega)⟩ m (by omega)
    by_cases y : k' = k
    · rw [y] at hi ⊢
      exact hb'.1 k i (by omega) hi (by omega)
    · have := (hC.2.2.1 k' hk').2
      exact hb'.1 k' i hk' hi (by omega)
def wo_IY (idf hw : Nat → Int32) (s code : Int32) (q : Nat) (b : Nat → Int32) : Prop :=
  (∀ j, j < q → b j = if idf j = s then code else hw j) ∧ (∀ j, q ≤ j → b j = hw j)
theorem wo_y16 (hn : n ≤ 36) {x1 code fl : Int32} (h012 : code = 0 ∨ code = 1 ∨ code = 2) {sel : Int64} {pc : Int32} {li lb : Nat → Int32} {mk : Nat → Int64} {post : Int32 → SY → Prop}
    (hp : ∀ b, wo_IY idf hw x1.toInt16.toInt32 code n b → post (nI (wo_ct (fun j => decide (idf j = x1.toInt16.toInt32)) n)) ((nI n), fl, sel, pc, kd, idf, df, b, li, lb, mk)) :
    ∀ d i, i + d = n → ∀ b, wo_IY idf hw x1.toInt16.toInt32 code i b → ∀ m, d < m → wY_setBehaviour_16 post x1 code (nI n) fl sel pc m (nI (wo_ct (fun j => decide (idf j = x1.toInt16.toInt32)) i)) (nI i) kd idf df b li lb mk := by
  have e8 : vp_nar .byte code.toInt8.toInt32 = code := by
    have h := wo_nb h012
    rw [vp_nar_byte] at h
    rw [h]
    exact wo_nb h012
  intro d
  induction d with
  | zero =>
    intro i hi b hb m hm
    obtain ⟨m, rfl⟩ : ∃ m', m = m' + 1 := ⟨m - 1, by omega⟩
    have e : i = n := by omega
    rw [e] at hb
    rw [e]
    exact br_t (nI_le (Nat.le_refl _) (by omega)) (hp b hb)
  | succ d ih =>
    intro i hi b hb m hm
    obtain ⟨m, rfl⟩ : ∃ m', m = m' + 1 := ⟨m - 1, by omega⟩
    have ec : (nI i).toNatClampNeg = i := nI_clamp (by omega)
    have ii : vp_in (nI i) 36 := pk_in i 36 (by omega)
    refine br_f (nI_ge (by omega) (by omega)) ⟨ii, ?_⟩
    rw [ec, e8]
    by_cases z : idf i = x1.toInt16.toInt32
    · have e : wo_ct (fun j => decide (idf j = x1.toInt16.toInt32)) (i + 1) = wo_ct (fun j => decide (idf j = x1.toInt16.toInt32)) i + 1 := wo_ct_t (decide_eq_true z)
      have hb' : wo_IY idf hw x1.toInt16.toInt32 code (i + 1) (upd b i code) := by
        refine ⟨fun j hj => ?_, fun j hj => ?_⟩
        · by_cases y : j = i
          · rw [y, pk_us, if_pos z]
          · rw [pk_un y]
            exact hb.1 j (by omega)
        · rw [pk_un (by omega)]
          exact hb.2 j (by omega)
      have nx := ih (i + 1) (by omega) _ hb' m (by omega)
      rw [e] at nx
      exact br_t z ⟨ii, nm_e (nm_r (nI_1 _) (nm_r (nI_1 _) nx))⟩
    · have e : wo_ct (fun j => decide (idf j = x1.toInt16.toInt32)) (i + 1) = wo_ct (fun j => decide (idf j = x1.toInt16.toInt32)) i := wo_ct_f (fun y => z (of_decide_eq_true y))
      have hb' : wo_IY idf hw x1.toInt16.toInt32 code (i + 1) b := by
        refine ⟨fun j hj => ?_, fun j hj => hb.2 j (by omega)⟩
        by_cases y : j = i
        · rw [y, if_neg z]
          exact hb.2 _ (Nat.le_refl _)
        · exact hb.1 j (by omega)
      have nx := ih (i + 1) (by omega) _ hb' m (by omega)
      rw [e] at nx
      exact br_f z (nm_r (nI_1 _) nx)
theorem wo_Cfg_set (hC : wo_Cfg ids dps bh cnt n kd idf df hw) {s code : Int32} (h012 : code = 0 ∨ code = 1 ∨ code = 2) {b b' : Nat → Int32} (hX : wo_IX ids bh n kd s code 36 b) (hY : wo_IY idf hw s code n b') :
    wo_Cfg ids dps b cnt n kd idf df b' := by
  obtain ⟨hn, h2, h3, h4, h5⟩ := hC
  refine ⟨hn, h2, h3, fun j k hj hk kj => ?_, fun j hj => ?_⟩
  · obtain ⟨a1, a2, a3⟩ := h4 j k hj hk kj
    have lt : wo_c kd k j < wo_c kd k n := wo_ct_lt hj (decide_eq_true kj)
    have le := (h3 k hk).2
    refine ⟨a1, a2, ?_⟩
    rw [hX.1 k _ hk lt (by omega), hY.1 j hj, a1, a3]
  · refine ⟨?_, (h5 j hj).2⟩
    rw [hY.1 j hj]
    split
    · exact h012
    · exact (h5 j hj).1
theorem wo_cnt_set (hC : wo_Cfg ids dps bh cnt n kd idf df hw) (s : Int32) : wo_sm (fun k => wo_ct (wo_G ids s k) (wo_c kd k n)) 12 = wo_ct (fun j => decide (idf j = s)) n := by
  rw [← wo_by_kinds hC (fun j => decide (idf j = s))]
  refine wo_sm_cg (fun k hk => ?_)
  obtain ⟨t, s1, s2, s3⟩ := wo_mem (wo_p kd k) n
  refine Eq.trans ?_ (s3 (fun j => decide (idf j = s))).symm
  refine wo_ct_cg (fun i hi => ?_)
  obtain ⟨a1, a2, a3⟩ := s1 i hi
  have h := (hC.2.2.2.1 (t i) k a1 hk (of_decide_eq_true a2)).1
  have e : wo_c kd k (t i) = i := a3
  rw [e] at h
  unfold wo_G
  rw [h]
end
end
section
/-! ===== the relation and what is owed ===== -/
/-- X's places against Y's rows; one log, one set of masks -/
def wo_Rel : SX → SY → Prop := fun (fl, _, _, ids, dps, bh, cnt, li, lb, ms, _) (fn, fl', _, _, kd, idf, df, hw, li', lb', ms') =>
  ∃ L n : Nat, L ≤ 100 ∧ fl = nI L ∧ fl' = nI L ∧ fn = nI n ∧ li' = li ∧ lb' = lb ∧ ms' = ms ∧ wo_Cfg ids dps bh cnt n kd idf df hw
def i_Rel (_ : Nat) (u : SX) (v : SY) : Prop := wo_Rel u v
theorem wo_el {P : SX → SY → Prop} (h : ∀ (L n : Nat) (fs ab : Int32) (ids dps bh cnt li lb : Nat → Int32) (mk : Nat → Int64) (od : Nat → Int32) (sel : Int64) (pc : Int32) (kd idf df hw : Nat → Int32), L ≤ 100 → wo_Cfg ids dps bh cnt n kd idf df hw → P ((nI L), fs, ab, ids, dps, bh, cnt, li, lb, mk, od) ((nI n), (nI L), sel, pc, kd, idf, df, hw, li, lb, mk)) {k : Nat} {u : SX} {v : SY} (I : i_Rel k u v) : P u v := by
  obtain ⟨fl, fs, ab, ids, dps, bh, cnt, li, lb, mk, od⟩ := u
  obtain ⟨fn, fl', sel, pc, kd, idf, df, hw, li', lb', mk'⟩ := v
  obtain ⟨L, n, hL, e1, e2, e3, e4, e5, e6, hC⟩ := I
  subst e1 e2 e3 e4 e5 e6
  exact h L n fs ab ids dps bh cnt _ _ _ od sel pc kd idf df hw hL hC
theorem wo_mkRel {k L n : Nat} {fs ab : Int32} {ids dps bh cnt li lb : Nat → Int32} {mk : Nat → Int64} {od : Nat → Int32} {sel : Int64} {pc : Int32} {kd idf df hw : Nat → Int32} (hL : L ≤ 100) (hC : wo_Cfg ids dps bh cnt n kd idf df hw) : i_Rel k ((nI L), fs, ab, ids, dps, bh, cnt, li, lb, mk, od) ((nI n), (nI L), sel, pc, kd, idf, df, hw, li, lb, mk) :=
  ⟨L, n, hL, rfl, rfl, rfl, rfl, rfl, rfl, hC⟩
theorem i_up {k : Nat} {u : SX} {v : SY} (h : i_Rel k u v) : i_Rel (k + 4) u v := h
theorem i_vc0 : wpX_init (fun u => wpY_init (fun v => i_Rel 0 u v)) := by
  unfold wpX_init wpY_init
  refine wo_mkRel (k := 0) (L := 0) (n := 0) (by decide) ⟨by decide, fun j hj => absurd hj (Nat.not_lt_zero _), fun k _ => ⟨rfl, Nat.zero_le _⟩, fun j k hj => absurd hj (Nat.not_lt_zero _), fun j hj => absurd hj (Nat.not_lt_zero _)⟩
theorem wo_kb : ∀ k, k < 12 → vp_nar .byte (nI k).toInt8.toInt32 = nI k := by
  intro k hk
  rw [vp_nar_byte]
  revert k
  decide +kernel
theorem i_vc_register {k : Nat} {u : SX} {v : SY} (I : i_Rel k u v) (hk : k + 4 ≤ 2048) (v1 : Int32) (v2 : Int32) (v3 : Int32) : wpX_register (fun r u' => wpY_register (fun r' v' => r' = r ∧ i_Rel (k + 4) u' v') v v1 v2 v3) u v1 v2 v3 := by
  refine wo_el (P := fun u v => wpX_register (fun r u' => wpY_register (fun r' v' => r' = r ∧ i_Rel (k + 4) u' v') v v1 v2 v3) u v1 v2 v3) ?_ I
  intro L n fs ab ids dps bh cnt li lb mk od sel pc kd idf df hw hL hC
  have R : i_Rel (k + 4) ((nI L), fs, ab, ids, dps, bh, cnt, li, lb, mk, od) ((nI n), (nI L), sel, pc, kd, idf, df, hw, li, lb, mk) := wo_mkRel hL hC
  have hn := hC.1
  unfold wpX_register wpY_register
  dsimp only
  by_cases h0 : v1 < 0
  · exact br_t h0 (br_t h0 ⟨rfl, R⟩)
  · refine br_f h0 ?_
    by_cases h11 : v1 ≤ 11
    · obtain ⟨kk, hkk, rfl⟩ := nI_of2 (M := 11) (n := 11) (by decide) h0 h11
      have hk12 : kk < 12 := by omega
      obtain ⟨hcn, hc3⟩ := hC.2.2.1 kk hk12
      have ek : (nI kk).toNatClampNeg = kk := nI_clamp (by omega)
      have ln : nI n ≤ nI n := nI_le (Nat.le_refl _) (by omega)
      refine br_t h11 ⟨pk_in kk 12 hk12, nm_r (e' := nI (wo_c kd kk n)) (by rw [ek, hcn]) ?_⟩
      by_cases h3 : wo_c kd kk n < 3
      · have hr := wo_room hC hk12 h3
        have ep : nI kk * 3 + nI (wo_c kd kk n) = nI (kk * 3 + wo_c kd kk n) := by
          have e3 : nI kk * 3 = nI (kk * 3) := pk_mul kk 3
          rw [e3, nI_add]
        have ecl : (nI (kk * 3 + wo_c kd kk n)).toNatClampNeg = kk * 3 + wo_c kd kk n := nI_clamp (by omega)
        have ecn : (nI n).toNatClampNeg = n := nI_clamp (by omega)
        have ii : vp_in (nI (kk * 3 + wo_c kd kk n)) 36 := vp_in_nI (by omega) (by decide)
        have jj : vp_in (nI n) 36 := pk_in n 36 hr
        have CC := wo_Cfg_reg hC hk12 h3 (vp_nar .short v2.toInt16.toInt32) (vp_nar .char (v3.toUInt32 % 65536).toInt32) (by rw [pk_vs]; simp)
        refine br_t (nI_lt (b := 3) h3 (by decide)) (nm_r ep ?_)
        rw [ecl, ek]
        refine ⟨ii, nm_e ⟨ii, nm_e ⟨ii, nm_e ⟨pk_in kk 12 hk12, nm_r (e' := upd cnt kk (nI (wo_c kd kk n + 1))) (by rw [nI_1]) ?_⟩⟩⟩⟩
        refine br_f h0 (br_t h11 ⟨n + 1, wo_yreg hn (br_t ln (br_f (nI_ge (b := 3) h3 (by decide)) (br_t (nI_lt (b := 36) hr (by decide)) ?_))) n 0 (by omega) (n + 1) (by omega)⟩)
        rw [ecn, wo_kb kk hk12]
        refine ⟨jj, nm_e ⟨jj, nm_e ⟨jj, nm_r (e' := upd hw n 0) (by rw [wo_nb (Or.inl rfl)]) (nm_r (nI_1 n) ⟨jj, nm_e ⟨rfl, wo_mkRel hL CC⟩⟩)⟩⟩⟩
      · refine br_f (nI_nlt (b := 3) (by omega) (by omega)) ?_
        exact br_f h0 (br_t h11 ⟨n + 1, wo_yreg hn (br_t ln (br_t (nI_le (a := 3) (by omega) (by omega)) ⟨rfl, R⟩)) n 0 (by omega) (n + 1) (by omega)⟩)
    · exact br_f h11 (br_f h0 (br_f h11 ⟨rfl, R⟩))
theorem i_vc_setBehaviour {k : Nat} {u : SX} {v : SY} (I : i_Rel k u v) (hk : k + 4 ≤ 2048) (v1 : Int32) (v2 : Int32) : wpX_setBehaviour (fun r u' => wpY_setBehaviour (fun r' v' => r' = r ∧ i_Rel (k + 4) u' v') v v1 v2) u v1 v2 := by
  refine wo_el (P := fun u v => wpX_setBehaviour (fun r u' => wpY_setBehaviour (fun r' v' => r' = r ∧ i_Rel (k + 4) u' v') v v1 v2) u v1 v2) ?_ I
  intro L n fs ab ids dps bh cnt li lb mk od sel pc kd idf df hw hL hC
  have R : i_Rel (k + 4) ((nI L), fs, ab, ids, dps, bh, cnt, li, lb, mk, od) ((nI n), (nI L), sel, pc, kd, idf, df, hw, li, lb, mk) := wo_mkRel hL hC
  have hn := hC.1
  unfold wpX_setBehaviour wpY_setBehaviour
  dsimp only
  by_cases h0 : v2 < 0
  · exact br_t h0 (br_t h0 ⟨rfl, R⟩)
  · refine br_f h0 ?_
    by_cases h2 : v2 ≤ 2
    · have h012 : v2 = 0 ∨ v2 = 1 ∨ v2 = 2 := by
        obtain ⟨c, hc, rfl⟩ := nI_of2 (M := 2) (n := 2) (by decide) h0 h2
        rcases (by omega : c = 0 ∨ c = 1 ∨ c = 2) with rfl | rfl | rfl
        · exact Or.inl rfl
        · exact Or.inr (Or.inl rfl)
        · exact Or.inr (Or.inr rfl)
      refine br_t h2 ⟨13, wo_x20 hC (fun b hb => ?_) 12 0 (by decide) bh ⟨fun k' i _ _ hq => absurd hq (by omega), fun _ _ => rfl⟩ 13 (by decide)⟩
      refine br_f h0 (br_t h2 ⟨n + 1, wo_y16 hn h012 (fun b' hb' => ?_) n 0 (by omega) hw ⟨fun j hj => absurd hj (Nat.not_lt_zero _), fun _ _ => rfl⟩ (n + 1) (by omega)⟩)
      exact ⟨congrArg nI (wo_cnt_set hC _).symm, wo_mkRel hL (wo_Cfg_set hC h012 hb hb')⟩
    · exact br_f h2 (br_f h0 (br_f h2 ⟨rfl, R⟩))
theorem i_vc_runClass {k : Nat} {u : SX} {v : SY} (I : i_Rel k u v) (hk : k + 4 ≤ 2048) (v1 : Int32) (a1 : Int64) : wpX_runClass (fun r u' => wpY_runClass (fun r' v' => r' = r ∧ i_Rel (k + 4) u' v') v v1 a1) u v1 a1 := by
  refine wo_el (P := fun u v => wpX_runClass (fun r u' => wpY_runClass (fun r' v' => r' = r ∧ i_Rel (k + 4) u' v') v v1 a1) u v1 a1) ?_ I
  intro L n fs ab ids dps bh cnt li lb mk od sel pc kd idf df hw hL hC
  obtain ⟨res, L', fs', ab', li', lb', od', mk', sel', pc', hL', hX, hY⟩ := wo_run hC a1 v1 L hL fs ab li lb mk od sel pc
  exact hX _ (hY _ ⟨rfl, wo_mkRel hL' hC⟩)
theorem i_vc_logAt {k : Nat} {u : SX} {v : SY} (I : i_Rel k u v) (hk : k + 4 ≤ 2048) (v1 : Int32) : wpX_logAt (fun r => wpY_logAt (fun r' => r' = r ∧ i_Rel (k + 4) u v) v v1) u v1 := by
  refine wo_el (P := fun u v => wpX_logAt (fun r => wpY_logAt (fun r' => r' = r ∧ i_Rel (k + 4) u v) v v1) u v1) ?_ I
  intro L n fs ab ids dps bh cnt li lb mk od sel pc kd idf df hw hL hC
  have R : i_Rel (k + 4) ((nI L), fs, ab, ids, dps, bh, cnt, li, lb, mk, od) ((nI n), (nI L), sel, pc, kd, idf, df, hw, li, lb, mk) := wo_mkRel hL hC
  unfold wpX_logAt wpY_logAt
  dsimp only
  by_cases h0 : v1 < 0
  · exact br_t h0 (br_t h0 ⟨rfl, R⟩)
  · by_cases hl : v1 < nI L
    · obtain ⟨j, hj, rfl⟩ := nI_of h0
      have hjL := (nI_ltI hj (by omega)).mp hl
      have ea : nI j &&& 127 = nI j := by
        rw [pk_andN (n := j) (by omega) 7 (by decide)]
        exact congrArg nI (by omega)
      have ii : vp_in (nI j) 128 := pk_in j 128 (by omega)
      rw [ea]
      exact br_f h0 (br_t hl ⟨ii, br_f h0 (br_t hl ⟨ii, rfl, R⟩)⟩)
    · exact br_f h0 (br_f hl (br_f h0 (br_f hl ⟨rfl, R⟩)))
theorem i_vc_thrownAt {k : Nat} {u : SX} {v : SY} (I : i_Rel k u v) (hk : k + 4 ≤ 2048) (v1 : Int32) : wpX_thrownAt (fun r => wpY_thrownAt (fun r' => r' = r ∧ i_Rel (k + 4) u v) v v1) u v1 := by
  refine wo_el (P := fun u v => wpX_thrownAt (fun r => wpY_thrownAt (fun r' => r' = r ∧ i_Rel (k + 4) u v) v v1) u v1) ?_ I
  intro L n fs ab ids dps bh cnt li lb mk od sel pc kd idf df hw hL hC
  have R : i_Rel (k + 4) ((nI L), fs, ab, ids, dps, bh, cnt, li, lb, mk, od) ((nI n), (nI L), sel, pc, kd, idf, df, hw, li, lb, mk) := wo_mkRel hL hC
  unfold wpX_thrownAt wpY_thrownAt
  dsimp only
  by_cases h0 : v1 < 0
  · exact br_t h0 (br_t h0 ⟨rfl, R⟩)
  · by_cases hl : v1 < nI L
    · obtain ⟨j, hj, rfl⟩ := nI_of h0
      have hjL := (nI_ltI hj (by omega)).mp hl
      have ea : nI j &&& 127 = nI j := by
        rw [pk_andN (n := j) (by omega) 7 (by decide)]
        exact congrArg nI (by omega)
      have ii : vp_in (nI j) 128 := pk_in j 128 (by omega)
      rw [ea]
      exact br_f h0 (br_t hl ⟨ii, br_f h0 (br_t hl ⟨ii, rfl, R⟩)⟩)
    · exact br_f h0 (br_f hl (br_f h0 (br_f hl ⟨rfl, R⟩)))
theorem i_vc_verdictMask {k : Nat} {u : SX} {v : SY} (I : i_Rel k u v) (hk : k + 4 ≤ 2048) (v1 : Int32) : wpX_verdictMask (fun r => wpY_verdictMask (fun r' => r' = r ∧ i_Rel (k + 4) u v) v v1) u v1 := by
  refine wo_el (P := fun u v => wpX_verdictMask (fun r => wpY_verdictMask (fun r' => r' = r ∧ i_Rel (k + 4) u v) v v1) u v1) ?_ I
  intro L n fs ab ids dps bh cnt li lb mk od sel pc kd idf df hw hL hC
  have R : i_Rel (k + 4) ((nI L), fs, ab, ids, dps, bh, cnt, li, lb, mk, od) ((nI n), (nI L), sel, pc, kd, idf, df, hw, li, lb, mk) := wo_mkRel hL hC
  unfold wpX_verdictMask wpY_verdictMask
  dsimp only
  by_cases h0 : v1 < 0
  · exact br_t h0 (br_t h0 ⟨rfl, R⟩)
  · by_cases h2 : v1 ≤ 2
    · obtain ⟨j, hj, rfl⟩ := nI_of2 (M := 2) (n := 2) (by decide) h0 h2
      have ii : vp_in (nI j) 3 := pk_in j 3 (by omega)
      exact br_f h0 (br_t h2 ⟨ii, br_f h0 (br_t h2 ⟨ii, rfl, R⟩)⟩)
    · exact br_f h0 (br_f h2 (br_f h0 (br_f h2 ⟨rfl, R⟩)))
end
