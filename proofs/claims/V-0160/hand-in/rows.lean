section
/-! pure rows to paste: stores, nI and lN arithmetic, masks, shifts, narrowing, branches by naturals (pk_le, pk_lt, pk_eq), loops (lp1 .. lp16: the measure of the state; rp1 ..: recursion), negatives. Take what you need -/
theorem pk_us {f : Nat → Int32} {k : Nat} {x : Int32} : upd f k x k = x := if_pos rfl
theorem pk_un {f : Nat → Int32} {k j : Nat} {x : Int32} (h : j ≠ k) : upd f k x j = f j := if_neg h
theorem pk_uLs {f : Nat → Int64} {k : Nat} {x : Int64} : vp_updL f k x k = x := if_pos rfl
theorem pk_uLn {f : Nat → Int64} {k j : Nat} {x : Int64} (h : j ≠ k) : vp_updL f k x j = f j := if_neg h
theorem pk_sub {a b : Nat} (h : b ≤ a) : nI a - nI b = nI (a - b) := by
  obtain ⟨c, rfl⟩ : ∃ c, a = c + b := ⟨a - b, by omega⟩
  rw [← nI_add, Int32.add_sub_cancel, Nat.add_sub_cancel]
theorem pk_m1 (n : Nat) : nI (n + 1) + (-1) = nI n := by
  rw [← nI_1, Int32.add_assoc, show (1 : Int32) + (-1) = 0 from rfl, Int32.add_zero]
theorem pk_mul (a b : Nat) : nI a * nI b = nI (a * b) := (Int32.ofNat_mul a b).symm
theorem pk_div {a d : Nat} (ha : a < 2 ^ 31) (h0 : 0 < d) (hd : d < 2 ^ 31) : nI a / nI d = nI (a / d) := by
  apply Int32.toInt_inj.mp
  rw [lg_idiv_nonneg (by rw [nI_toInt ha]; omega) (by rw [nI_toInt hd]; omega), nI_toInt ha, nI_toInt hd, nI_toInt (Nat.lt_of_le_of_lt (Nat.div_le_self a d) ha)]
  first | rfl | exact (Int.natCast_ediv _ _).symm
theorem pk_rem {a d : Nat} (ha : a < 2 ^ 31) (h0 : 0 < d) (hd : d < 2 ^ 31) : nI a - nI a / nI d * nI d = nI (a % d) := by
  rw [pk_div ha h0 hd, pk_mul, pk_sub (Nat.div_mul_le_self a d)]
  exact congrArg nI (by have := Nat.div_add_mod' a d; omega)
theorem pk_sub_toInt {a b : Nat} (ha : a < 2 ^ 30) (hb : b < 2 ^ 30) : (nI a - nI b).toInt = (a : Int) - b := by
  rw [Int32.toInt_sub, nI_toInt (by omega), nI_toInt (by omega)]
  exact Int.bmod_eq_of_le (by omega) (by omega)
theorem pk_sneg {a b : Nat} (hb : b < 2 ^ 30) (h : a < b) : nI a - nI b < 0 := by
  rw [Int32.lt_iff_toInt_lt, pk_sub_toInt (by omega) hb, show (0 : Int32).toInt = 0 from by decide]
  omega
theorem pk_ix (x : Int32) {n : Nat} (hn : n < 2 ^ 31) : x < 0 ∨ nI n ≤ x ∨ ∃ j : Nat, j < n ∧ x = nI j := by
  by_cases h : x < 0
  · exact Or.inl h
  · obtain ⟨j, hj, rfl⟩ := nI_of h
    by_cases h2 : j < n
    · exact Or.inr (Or.inr ⟨j, h2, rfl⟩)
    · exact Or.inr (Or.inl (nI_le (by omega) hj))
theorem pk_le {x y : Int32} {A B : Prop} (a b : Nat) (f : a ≤ b → A) (g : b < a → B) (hx : x = nI a := by rfl) (hy : y = nI b := by rfl) (ha : a < 2 ^ 31 := by omega) (hb : b < 2 ^ 31 := by omega) : (x ≤ y → A) ∧ (¬ x ≤ y → B) := by
  subst hx hy
  rw [nI_leI ha hb]
  exact ⟨f, fun z => g (by omega)⟩
theorem pk_lt {x y : Int32} {A B : Prop} (a b : Nat) (f : a < b → A) (g : b ≤ a → B) (hx : x = nI a := by rfl) (hy : y = nI b := by rfl) (ha : a < 2 ^ 31 := by omega) (hb : b < 2 ^ 31 := by omega) : (x < y → A) ∧ (¬ x < y → B) := by
  subst hx hy
  rw [nI_ltI ha hb]
  exact ⟨f, fun z => g (by omega)⟩
theorem pk_eq {x y : Int32} {A B : Prop} (a b : Nat) (f : a = b → A) (g : a ≠ b → B) (hx : x = nI a := by rfl) (hy : y = nI b := by rfl) (ha : a < 2 ^ 31 := by omega) (hb : b < 2 ^ 31 := by omega) : (x = y → A) ∧ (¬ x = y → B) := by
  subst hx hy
  rw [nI_eq ha hb]
  exact ⟨f, g⟩
theorem pk_in {x : Int32} (n N : Nat) (h : n < N) (hx : x = nI n := by rfl) (hN : N < 2 ^ 31 := by omega) : vp_in x N := by
  subst hx
  exact vp_in_nI h hN
theorem pk_cl {x : Int32} (n : Nat) (hx : x = nI n := by rfl) (h : n < 2 ^ 31 := by omega) : x.toNatClampNeg = n := by
  subst hx
  exact nI_clamp h
theorem pk_tn {n : Nat} (h : n < 2 ^ 32) : (nI n).toBitVec.toNat = n := Nat.mod_eq_of_lt h
theorem pk_and (x : Int32) {m : Int32} (k : Nat) (hm : m.toBitVec.toNat = 2 ^ k - 1) : x &&& m = nI (x.toBitVec.toNat % 2 ^ k) := by
  apply Int32.toBitVec_inj.mp
  apply BitVec.eq_of_toNat_eq
  rw [Int32.toBitVec_and, BitVec.toNat_and, hm, Nat.and_two_pow_sub_one_eq_mod]
  show _ = (BitVec.ofNat 32 _).toNat
  rw [BitVec.toNat_ofNat]
  exact (Nat.mod_eq_of_lt (Nat.lt_of_le_of_lt (Nat.mod_le _ _) x.toBitVec.isLt)).symm
theorem pk_andN {n : Nat} (h : n < 2 ^ 32) {m : Int32} (k : Nat) (hm : m.toBitVec.toNat = 2 ^ k - 1) : nI n &&& m = nI (n % 2 ^ k) := by
  rw [pk_and _ k hm, pk_tn h]
theorem pk_andE (x : Int32) {m : Int32} (k : Nat) (hm : m.toBitVec.toNat = 2 ^ k - 1) : ∃ j : Nat, j < 2 ^ k ∧ x &&& m = nI j := ⟨_, Nat.mod_lt _ (Nat.two_pow_pos k), pk_and x k hm⟩
theorem pk_andIn (x : Int32) {m : Int32} (k : Nat) (hm : m.toBitVec.toNat = 2 ^ k - 1) (hk : k ≤ 30) : vp_in (x &&& m) (2 ^ k) := by
  obtain ⟨j, hj, e⟩ := pk_andE x k hm
  rw [e]
  exact vp_in_nI hj (Nat.lt_of_le_of_lt (Nat.pow_le_pow_right (by decide) hk) (by decide))
theorem pk_shl (a s : Int32) (k : Nat) (hs : (s.toBitVec.smod 32).toNat = k) : (a <<< s).toBitVec.toNat = a.toBitVec.toNat * 2 ^ k % 2 ^ 32 := by
  show (a.toBitVec <<< (s.toBitVec.smod 32).toNat).toNat = _
  rw [hs, BitVec.toNat_shiftLeft, Nat.shiftLeft_eq]
theorem pk_shlN {n : Nat} (s : Int32) (k : Nat) (hs : (s.toBitVec.smod 32).toNat = k) (h : n * 2 ^ k < 2 ^ 32) : nI n <<< s = nI (n * 2 ^ k) := by
  apply Int32.toBitVec_inj.mp
  apply BitVec.eq_of_toNat_eq
  have hn : n < 2 ^ 32 := Nat.lt_of_le_of_lt (Nat.le_mul_of_pos_right n (Nat.two_pow_pos k)) h
  rw [pk_shl _ _ k hs, pk_tn hn, pk_tn h, Nat.mod_eq_of_lt h]
theorem pk_shr (a s : Int32) (k : Nat) (hs : (s.toBitVec.smod 32).toNat = k) : (a >>> s).toInt = a.toInt >>> k := by
  show (a.toBitVec.sshiftRight (s.toBitVec.smod 32).toNat).toInt = _
  rw [hs, BitVec.toInt_sshiftRight]
  rfl
theorem pk_shrN {n : Nat} (h : n < 2 ^ 31) (s : Int32) (k : Nat) (hs : (s.toBitVec.smod 32).toNat = k) : nI n >>> s = nI (n / 2 ^ k) := by
  apply Int32.toInt_inj.mp
  have h2 : n / 2 ^ k ≤ n := Nat.div_le_self _ _
  rw [pk_shr _ _ k hs, nI_toInt h, nI_toInt (by omega), Int.shiftRight_eq_div_pow]
  rfl
theorem pk_ushr (x s : Int32) (k : Nat) (hs : ((s.toUInt32 &&& Int32.toUInt32 31).toBitVec % 32).toNat = k) : (x.toUInt32 >>> (s.toUInt32 &&& Int32.toUInt32 31)).toInt32.toBitVec.toNat = x.toBitVec.toNat / 2 ^ k := by
  have e : (x.toUInt32 >>> (s.toUInt32 &&& Int32.toUInt32 31)).toInt32.toBitVec = x.toBitVec >>> k := by
    rw [← hs]
    exact UInt32.toBitVec_shiftRight _ _
  rw [e, BitVec.toNat_ushiftRight, Nat.shiftRight_eq_div_pow]
theorem pk_ushrN {n : Nat} (hn : n < 2 ^ 32) (s : Int32) (k : Nat) (hs : ((s.toUInt32 &&& Int32.toUInt32 31).toBitVec % 32).toNat = k) : ((nI n).toUInt32 >>> (s.toUInt32 &&& Int32.toUInt32 31)).toInt32 = nI (n / 2 ^ k) := by
  apply Int32.toBitVec_inj.mp
  apply BitVec.eq_of_toNat_eq
  rw [pk_ushr _ s k hs, pk_tn hn, pk_tn (Nat.lt_of_le_of_lt (Nat.div_le_self _ _) hn)]
theorem pk_nb (z : Int32) : narrow .byte (.int z.toInt8.toInt32) = .int z.toInt8.toInt32 := congrArg Value.int (by simp)
theorem pk_ns (z : Int32) : narrow .short (.int z.toInt16.toInt32) = .int z.toInt16.toInt32 := congrArg Value.int (by simp)
theorem pk_fb (r : Int32) : fits .byte (.int r.toInt8.toInt32) = true := by
  have ⟨a, b⟩ := lg_i2b_range r
  have h1 : (-128 : Int32).toInt = -128 := by decide
  have h2 : (127 : Int32).toInt = 127 := by decide
  simp only [fits, Bool.and_eq_true, decide_eq_true_eq, Int32.le_iff_toInt_le, h1, h2]
  omega
theorem pk_fs (r : Int32) : fits .short (.int r.toInt16.toInt32) = true := by
  have ⟨a, b⟩ := lg_i2s_range r
  have h1 : (-32768 : Int32).toInt = -32768 := by decide
  have h2 : (32767 : Int32).toInt = 32767 := by decide
  simp only [fits, Bool.and_eq_true, decide_eq_true_eq, Int32.le_iff_toInt_le, h1, h2]
  omega
theorem pk_charN {q : Nat} (hq : q < 65536) : narrow .char (.int (nI q)) = .int (nI q) ∧ fits .char (.int (nI q)) = true := by
  constructor
  · have e : (nI q).toUInt32.toUInt16.toUInt32.toInt32 = nI q := by
      apply Int32.toBitVec_inj.mp
      apply BitVec.eq_of_toNat_eq
      show (nI q).toUInt32.toUInt16.toUInt32.toNat = q % 2 ^ 32
      rw [UInt16.toNat_toUInt32, UInt32.toNat_toUInt16, show (nI q).toUInt32.toNat = q % 2 ^ 32 from rfl]
      omega
    exact congrArg Value.int e
  · have a : (0 : Int32) ≤ nI q := nI_pos' (by omega)
    have b : nI q ≤ 65535 := nI_le (b := 65535) (by omega) (by decide)
    show (decide ((0 : Int32) ≤ nI q) && decide (nI q ≤ 65535)) = true
    rw [decide_eq_true a, decide_eq_true b]
    rfl
theorem pk_char (x : Int32) : (x.toUInt32 % 65536).toInt32 = nI (x.toBitVec.toNat % 65536) := by
  apply Int32.toBitVec_inj.mp
  apply BitVec.eq_of_toNat_eq
  rw [pk_tn (by omega)]
  show (x.toUInt32 % 65536).toNat = _
  rw [UInt32.toNat_mod]
  rfl
theorem pk_nc (x : Int32) : narrow .char (.int (x.toUInt32 % 65536).toInt32) = .int (x.toUInt32 % 65536).toInt32 := by
  rw [pk_char]
  exact (pk_charN (Nat.mod_lt _ (by decide))).1
theorem pk_fc (x : Int32) : fits .char (.int (x.toUInt32 % 65536).toInt32) = true := by
  rw [pk_char]
  exact (pk_charN (Nat.mod_lt _ (by decide))).2
theorem pk_vb (z : Int32) : vp_nar .byte z.toInt8.toInt32 = z.toInt8.toInt32 := by rw [vp_nar_byte]; simp
theorem pk_vs (z : Int32) : vp_nar .short z.toInt16.toInt32 = z.toInt16.toInt32 := by rw [vp_nar_short]; simp
theorem pk_vc (z : Int32) : vp_nar .char (z.toUInt32 % 65536).toInt32 = (z.toUInt32 % 65536).toInt32 := Value.int.inj (pk_nc z)
theorem pk_lT {n : Nat} (h : n < 2 ^ 63) : (lN n).toInt = (n : Int) := lg_ofNat_toInt h
theorem pk_lLT {a b : Nat} (ha : a < 2 ^ 63) (hb : b < 2 ^ 63) : lN a < lN b ↔ a < b := by
  rw [Int64.lt_iff_toInt_lt, pk_lT ha, pk_lT hb]; omega
theorem pk_lLE {a b : Nat} (ha : a < 2 ^ 63) (hb : b < 2 ^ 63) : lN a ≤ lN b ↔ a ≤ b := by
  rw [Int64.le_iff_toInt_le, pk_lT ha, pk_lT hb]; omega
theorem pk_lEQ {a b : Nat} (ha : a < 2 ^ 63) (hb : b < 2 ^ 63) : lN a = lN b ↔ a = b := by
  rw [← Int64.toInt_inj, pk_lT ha, pk_lT hb]; omega
theorem pk_lOf {x : Int64} (h : ¬ x < 0) : ∃ k : Nat, k < 2 ^ 63 ∧ x = lN k := by
  rw [Int64.lt_iff_toInt_lt] at h
  have h0 : (0 : Int64).toInt = 0 := by decide
  have hx := Int64.toInt_lt x
  refine ⟨x.toInt.toNat, by omega, Int64.toInt_inj.mp ?_⟩
  rw [pk_lT (by omega)]
  omega
theorem pk_lDiv {a b : Nat} (ha : a < 2 ^ 63) (h0 : 0 < b) (hb : b < 2 ^ 63) : lN a / lN b = lN (a / b) := by
  apply Int64.toInt_inj.mp
  rw [lg_ldiv_nonneg (by rw [pk_lT ha]; omega) (by rw [pk_lT hb]; omega), pk_lT ha, pk_lT hb, pk_lT (Nat.lt_of_le_of_lt (Nat.div_le_self a b) ha)]
  rfl
theorem pk_lRem {a b : Nat} (ha : a < 2 ^ 63) (h0 : 0 < b) (hb : b < 2 ^ 63) : lN a - lN a / lN b * lN b = lN (a % b) := by
  rw [pk_lDiv ha h0 hb, lN_mul, lN_sub (Nat.div_mul_le_self a b)]
  exact congrArg lN (by have := Nat.div_add_mod' a b; omega)
theorem pk_loop {σ : Type} (W : Nat → Nat → σ → Prop) (I : Nat → σ → Prop) (e i0 : Nat) (s : σ) (hi : i0 ≤ e) (h0 : I i0 s) (hx : ∀ n s, I e s → W (n + 1) e s)
    (hs : ∀ n i s, i < e → I i s → (∀ s', I (i + 1) s' → W n (i + 1) s') → W (n + 1) i s) : ∃ n, W n i0 s :=
  ⟨e + 1, loop_i W I e hx hs (e + 1) i0 s hi (by omega) h0⟩
theorem pk_loopD {σ : Type} (W : Nat → Nat → σ → Prop) (I : Nat → σ → Prop) (hx : ∀ n s, I 0 s → W (n + 1) 0 s)
    (hs : ∀ n i s, I (i + 1) s → (∀ s', I i s' → W n i s') → W (n + 1) (i + 1) s) : ∀ (e : Nat) (s : σ), I e s → W (e + 1) e s := by
  intro e
  induction e with
  | zero => exact fun s h => hx 0 s h
  | succ e ih => exact fun s h => hs (e + 1) e s h (fun s' h' => ih s' h')
theorem lp1 {A1 : Type} (W : Nat → A1 → Prop) (I : A1 → Prop) (μ : A1 → Nat) (hs : ∀ (n : Nat) (a1 : A1), I a1 → (∀ (b1 : A1), I b1 → μ b1 < μ a1 → W n b1) → W (n + 1) a1) (a1 : A1) (h : I a1) : ∃ n, W n a1 :=
  loop_m (σ := A1) (fun n s => W n s) (fun s => I s) (fun s => μ s) (fun n s hI hk => hs n s hI (fun b1 h9 hm => hk b1 h9 hm)) a1 h
theorem lp2 {A1 A2 : Type} (W : Nat → A1 → A2 → Prop) (I : A1 → A2 → Prop) (μ : A1 → A2 → Nat) (hs : ∀ (n : Nat) (a1 : A1) (a2 : A2), I a1 a2 → (∀ (b1 : A1) (b2 : A2), I b1 b2 → μ b1 b2 < μ a1 a2 → W n b1 b2) → W (n + 1) a1 a2) (a1 : A1) (a2 : A2) (h : I a1 a2) : ∃ n, W n a1 a2 :=
  loop_m (σ := A1 × A2) (fun n s => W n s.1 s.2) (fun s => I s.1 s.2) (fun s => μ s.1 s.2) (fun n s hI hk => hs n s.1 s.2 hI (fun b1 b2 h9 hm => hk (b1, b2) h9 hm)) (a1, a2) h
theorem lp3 {A1 A2 A3 : Type} (W : Nat → A1 → A2 → A3 → Prop) (I : A1 → A2 → A3 → Prop) (μ : A1 → A2 → A3 → Nat) (hs : ∀ (n : Nat) (a1 : A1) (a2 : A2) (a3 : A3), I a1 a2 a3 → (∀ (b1 : A1) (b2 : A2) (b3 : A3), I b1 b2 b3 → μ b1 b2 b3 < μ a1 a2 a3 → W n b1 b2 b3) → W (n + 1) a1 a2 a3) (a1 : A1) (a2 : A2) (a3 : A3) (h : I a1 a2 a3) : ∃ n, W n a1 a2 a3 :=
  loop_m (σ := A1 × A2 × A3) (fun n s => W n s.1 s.2.1 s.2.2) (fun s => I s.1 s.2.1 s.2.2) (fun s => μ s.1 s.2.1 s.2.2) (fun n s hI hk => hs n s.1 s.2.1 s.2.2 hI (fun b1 b2 b3 h9 hm => hk (b1, b2, b3) h9 hm)) (a1, a2, a3) h
theorem lp4 {A1 A2 A3 A4 : Type} (W : Nat → A1 → A2 → A3 → A4 → Prop) (I : A1 → A2 → A3 → A4 → Prop) (μ : A1 → A2 → A3 → A4 → Nat) (hs : ∀ (n : Nat) (a1 : A1) (a2 : A2) (a3 : A3) (a4 : A4), I a1 a2 a3 a4 → (∀ (b1 : A1) (b2 : A2) (b3 : A3) (b4 : A4), I b1 b2 b3 b4 → μ b1 b2 b3 b4 < μ a1 a2 a3 a4 → W n b1 b2 b3 b4) → W (n + 1) a1 a2 a3 a4) (a1 : A1) (a2 : A2) (a3 : A3) (a4 : A4) (h : I a1 a2 a3 a4) : ∃ n, W n a1 a2 a3 a4 :=
  loop_m (σ := A1 × A2 × A3 × A4) (fun n s => W n s.1 s.2.1 s.2.2.1 s.2.2.2) (fun s => I s.1 s.2.1 s.2.2.1 s.2.2.2) (fun s => μ s.1 s.2.1 s.2.2.1 s.2.2.2) (fun n s hI hk => hs n s.1 s.2.1 s.2.2.1 s.2.2.2 hI (fun b1 b2 b3 b4 h9 hm => hk (b1, b2, b3, b4) h9 hm)) (a1, a2, a3, a4) h
theorem lp5 {A1 A2 A3 A4 A5 : Type} (W : Nat → A1 → A2 → A3 → A4 → A5 → Prop) (I : A1 → A2 → A3 → A4 → A5 → Prop) (μ : A1 → A2 → A3 → A4 → A5 → Nat) (hs : ∀ (n : Nat) (a1 : A1) (a2 : A2) (a3 : A3) (a4 : A4) (a5 : A5), I a1 a2 a3 a4 a5 → (∀ (b1 : A1) (b2 : A2) (b3 : A3) (b4 : A4) (b5 : A5), I b1 b2 b3 b4 b5 → μ b1 b2 b3 b4 b5 < μ a1 a2 a3 a4 a5 → W n b1 b2 b3 b4 b5) → W (n + 1) a1 a2 a3 a4 a5) (a1 : A1) (a2 : A2) (a3 : A3) (a4 : A4) (a5 : A5) (h : I a1 a2 a3 a4 a5) : ∃ n, W n a1 a2 a3 a4 a5 :=
  loop_m (σ := A1 × A2 × A3 × A4 × A5) (fun n s => W n s.1 s.2.1 s.2.2.1 s.2.2.2.1 s.2.2.2.2) (fun s => I s.1 s.2.1 s.2.2.1 s.2.2.2.1 s.2.2.2.2) (fun s => μ s.1 s.2.1 s.2.2.1 s.2.2.2.1 s.2.2.2.2) (fun n s hI hk => hs n s.1 s.2.1 s.2.2.1 s.2.2.2.1 s.2.2.2.2 hI (fun b1 b2 b3 b4 b5 h9 hm => hk (b1, b2, b3, b4, b5) h9 hm)) (a1, a2, a3, a4, a5) h
theorem lp6 {A1 A2 A3 A4 A5 A6 : Type} (W : Nat → A1 → A2 → A3 → A4 → A5 → A6 → Prop) (I : A1 → A2 → A3 → A4 → A5 → A6 → Prop) (μ : A1 → A2 → A3 → A4 → A5 → A6 → Nat) (hs : ∀ (n : Nat) (a1 : A1) (a2 : A2) (a3 : A3) (a4 : A4) (a5 : A5) (a6 : A6), I a1 a2 a3 a4 a5 a6 → (∀ (b1 : A1) (b2 : A2) (b3 : A3) (b4 : A4) (b5 : A5) (b6 : A6), I b1 b2 b3 b4 b5 b6 → μ b1 b2 b3 b4 b5 b6 < μ a1 a2 a3 a4 a5 a6 → W n b1 b2 b3 b4 b5 b6) → W (n + 1) a1 a2 a3 a4 a5 a6) (a1 : A1) (a2 : A2) (a3 : A3) (a4 : A4) (a5 : A5) (a6 : A6) (h : I a1 a2 a3 a4 a5 a6) : ∃ n, W n a1 a2 a3 a4 a5 a6 :=
  loop_m (σ := A1 × A2 × A3 × A4 × A5 × A6) (fun n s => W n s.1 s.2.1 s.2.2.1 s.2.2.2.1 s.2.2.2.2.1 s.2.2.2.2.2) (fun s => I s.1 s.2.1 s.2.2.1 s.2.2.2.1 s.2.2.2.2.1 s.2.2.2.2.2) (fun s => μ s.1 s.2.1 s.2.2.1 s.2.2.2.1 s.2.2.2.2.1 s.2.2.2.2.2) (fun n s hI hk => hs n s.1 s.2.1 s.2.2.1 s.2.2.2.1 s.2.2.2.2.1 s.2.2.2.2.2 hI (fun b1 b2 b3 b4 b5 b6 h9 hm => hk (b1, b2, b3, b4, b5, b6) h9 hm)) (a1, a2, a3, a4, a5, a6) h
theorem lp7 {A1 A2 A3 A4 A5 A6 A7 : Type} (W : Nat → A1 → A2 → A3 → A4 → A5 → A6 → A7 → Prop) (I : A1 → A2 → A3 → A4 → A5 → A6 → A7 → Prop) (μ : A1 → A2 → A3 → A4 → A5 → A6 → A7 → Nat) (hs : ∀ (n : Nat) (a1 : A1) (a2 : A2) (a3 : A3) (a4 : A4) (a5 : A5) (a6 : A6) (a7 : A7), I a1 a2 a3 a4 a5 a6 a7 → (∀ (b1 : A1) (b2 : A2) (b3 : A3) (b4 : A4) (b5 : A5) (b6 : A6) (b7 : A7), I b1 b2 b3 b4 b5 b6 b7 → μ b1 b2 b3 b4 b5 b6 b7 < μ a1 a2 a3 a4 a5 a6 a7 → W n b1 b2 b3 b4 b5 b6 b7) → W (n + 1) a1 a2 a3 a4 a5 a6 a7) (a1 : A1) (a2 : A2) (a3 : A3) (a4 : A4) (a5 : A5) (a6 : A6) (a7 : A7) (h : I a1 a2 a3 a4 a5 a6 a7) : ∃ n, W n a1 a2 a3 a4 a5 a6 a7 :=
  loop_m (σ := A1 × A2 × A3 × A4 × A5 × A6 × A7) (fun n s => W n s.1 s.2.1 s.2.2.1 s.2.2.2.1 s.2.2.2.2.1 s.2.2.2.2.2.1 s.2.2.2.2.2.2) (fun s => I s.1 s.2.1 s.2.2.1 s.2.2.2.1 s.2.2.2.2.1 s.2.2.2.2.2.1 s.2.2.2.2.2.2) (fun s => μ s.1 s.2.1 s.2.2.1 s.2.2.2.1 s.2.2.2.2.1 s.2.2.2.2.2.1 s.2.2.2.2.2.2) (fun n s hI hk => hs n s.1 s.2.1 s.2.2.1 s.2.2.2.1 s.2.2.2.2.1 s.2.2.2.2.2.1 s.2.2.2.2.2.2 hI (fun b1 b2 b3 b4 b5 b6 b7 h9 hm => hk (b1, b2, b3, b4, b5, b6, b7) h9 hm)) (a1, a2, a3, a4, a5, a6, a7) h
theorem lp8 {A1 A2 A3 A4 A5 A6 A7 A8 : Type} (W : Nat → A1 → A2 → A3 → A4 → A5 → A6 → A7 → A8 → Prop) (I : A1 → A2 → A3 → A4 → A5 → A6 → A7 → A8 → Prop) (μ : A1 → A2 → A3 → A4 → A5 → A6 → A7 → A8 → Nat) (hs : ∀ (n : Nat) (a1 : A1) (a2 : A2) (a3 : A3) (a4 : A4) (a5 : A5) (a6 : A6) (a7 : A7) (a8 : A8), I a1 a2 a3 a4 a5 a6 a7 a8 → (∀ (b1 : A1) (b2 : A2) (b3 : A3) (b4 : A4) (b5 : A5) (b6 : A6) (b7 : A7) (b8 : A8), I b1 b2 b3 b4 b5 b6 b7 b8 → μ b1 b2 b3 b4 b5 b6 b7 b8 < μ a1 a2 a3 a4 a5 a6 a7 a8 → W n b1 b2 b3 b4 b5 b6 b7 b8) → W (n + 1) a1 a2 a3 a4 a5 a6 a7 a8) (a1 : A1) (a2 : A2) (a3 : A3) (a4 : A4) (a5 : A5) (a6 : A6) (a7 : A7) (a8 : A8) (h : I a1 a2 a3 a4 a5 a6 a7 a8) : ∃ n, W n a1 a2 a3 a4 a5 a6 a7 a8 :=
  loop_m (σ := A1 × A2 × A3 × A4 × A5 × A6 × A7 × A8) (fun n s => W n s.1 s.2.1 s.2.2.1 s.2.2.2.1 s.2.2.2.2.1 s.2.2.2.2.2.1 s.2.2.2.2.2.2.1 s.2.2.2.2.2.2.2) (fun s => I s.1 s.2.1 s.2.2.1 s.2.2.2.1 s.2.2.2.2.1 s.2.2.2.2.2.1 s.2.2.2.2.2.2.1 s.2.2.2.2.2.2.2) (fun s => μ s.1 s.2.1 s.2.2.1 s.2.2.2.1 s.2.2.2.2.1 s.2.2.2.2.2.1 s.2.2.2.2.2.2.1 s.2.2.2.2.2.2.2) (fun n s hI hk => hs n s.1 s.2.1 s.2.2.1 s.2.2.2.1 s.2.2.2.2.1 s.2.2.2.2.2.1 s.2.2.2.2.2.2.1 s.2.2.2.2.2.2.2 hI (fun b1 b2 b3 b4 b5 b6 b7 b8 h9 hm => hk (b1, b2, b3, b4, b5, b6, b7, b8) h9 hm)) (a1, a2, a3, a4, a5, a6, a7, a8) h
theorem lp9 {A1 A2 A3 A4 A5 A6 A7 A8 A9 : Type} (W : Nat → A1 → A2 → A3 → A4 → A5 → A6 → A7 → A8 → A9 → Prop) (I : A1 → A2 → A3 → A4 → A5 → A6 → A7 → A8 → A9 → Prop) (μ : A1 → A2 → A3 → A4 → A5 → A6 → A7 → A8 → A9 → Nat) (hs : ∀ (n : Nat) (a1 : A1) (a2 : A2) (a3 : A3) (a4 : A4) (a5 : A5) (a6 : A6) (a7 : A7) (a8 : A8) (a9 : A9), I a1 a2 a3 a4 a5 a6 a7 a8 a9 → (∀ (b1 : A1) (b2 : A2) (b3 : A3) (b4 : A4) (b5 : A5) (b6 : A6) (b7 : A7) (b8 : A8) (b9 : A9), I b1 b2 b3 b4 b5 b6 b7 b8 b9 → μ b1 b2 b3 b4 b5 b6 b7 b8 b9 < μ a1 a2 a3 a4 a5 a6 a7 a8 a9 → W n b1 b2 b3 b4 b5 b6 b7 b8 b9) → W (n + 1) a1 a2 a3 a4 a5 a6 a7 a8 a9) (a1 : A1) (a2 : A2) (a3 : A3) (a4 : A4) (a5 : A5) (a6 : A6) (a7 : A7) (a8 : A8) (a9 : A9) (h : I a1 a2 a3 a4 a5 a6 a7 a8 a9) : ∃ n, W n a1 a2 a3 a4 a5 a6 a7 a8 a9 :=
  loop_m (σ := A1 × A2 × A3 × A4 × A5 × A6 × A7 × A8 × A9) (fun n s => W n s.1 s.2.1 s.2.2.1 s.2.2.2.1 s.2.2.2.2.1 s.2.2.2.2.2.1 s.2.2.2.2.2.2.1 s.2.2.2.2.2.2.2.1 s.2.2.2.2.2.2.2.2) (fun s => I s.1 s.2.1 s.2.2.1 s.2.2.2.1 s.2.2.2.2.1 s.2.2.2.2.2.1 s.2.2.2.2.2.2.1 s.2.2.2.2.2.2.2.1 s.2.2.2.2.2.2.2.2) (fun s => μ s.1 s.2.1 s.2.2.1 s.2.2.2.1 s.2.2.2.2.1 s.2.2.2.2.2.1 s.2.2.2.2.2.2.1 s.2.2.2.2.2.2.2.1 s.2.2.2.2.2.2.2.2) (fun n s hI hk => hs n s.1 s.2.1 s.2.2.1 s.2.2.2.1 s.2.2.2.2.1 s.2.2.2.2.2.1 s.2.2.2.2.2.2.1 s.2.2.2.2.2.2.2.1 s.2.2.2.2.2.2.2.2 hI (fun b1 b2 b3 b4 b5 b6 b7 b8 b9 h9 hm => hk (b1, b2, b3, b4, b5, b6, b7, b8, b9) h9 hm)) (a1, a2, a3, a4, a5, a6, a7, a8, a9) h
theorem lp10 {A1 A2 A3 A4 A5 A6 A7 A8 A9 A10 : Type} (W : Nat → A1 → A2 → A3 → A4 → A5 → A6 → A7 → A8 → A9 → A10 → Prop) (I : A1 → A2 → A3 → A4 → A5 → A6 → A7 → A8 → A9 → A10 → Prop) (μ : A1 → A2 → A3 → A4 → A5 → A6 → A7 → A8 → A9 → A10 → Nat) (hs : ∀ (n : Nat) (a1 : A1) (a2 : A2) (a3 : A3) (a4 : A4) (a5 : A5) (a6 : A6) (a7 : A7) (a8 : A8) (a9 : A9) (a10 : A10), I a1 a2 a3 a4 a5 a6 a7 a8 a9 a10 → (∀ (b1 : A1) (b2 : A2) (b3 : A3) (b4 : A4) (b5 : A5) (b6 : A6) (b7 : A7) (b8 : A8) (b9 : A9) (b10 : A10), I b1 b2 b3 b4 b5 b6 b7 b8 b9 b10 → μ b1 b2 b3 b4 b5 b6 b7 b8 b9 b10 < μ a1 a2 a3 a4 a5 a6 a7 a8 a9 a10 → W n b1 b2 b3 b4 b5 b6 b7 b8 b9 b10) → W (n + 1) a1 a2 a3 a4 a5 a6 a7 a8 a9 a10) (a1 : A1) (a2 : A2) (a3 : A3) (a4 : A4) (a5 : A5) (a6 : A6) (a7 : A7) (a8 : A8) (a9 : A9) (a10 : A10) (h : I a1 a2 a3 a4 a5 a6 a7 a8 a9 a10) : ∃ n, W n a1 a2 a3 a4 a5 a6 a7 a8 a9 a10 :=
  loop_m (σ := A1 × A2 × A3 × A4 × A5 × A6 × A7 × A8 × A9 × A10) (fun n s => W n s.1 s.2.1 s.2.2.1 s.2.2.2.1 s.2.2.2.2.1 s.2.2.2.2.2.1 s.2.2.2.2.2.2.1 s.2.2.2.2.2.2.2.1 s.2.2.2.2.2.2.2.2.1 s.2.2.2.2.2.2.2.2.2) (fun s => I s.1 s.2.1 s.2.2.1 s.2.2.2.1 s.2.2.2.2.1 s.2.2.2.2.2.1 s.2.2.2.2.2.2.1 s.2.2.2.2.2.2.2.1 s.2.2.2.2.2.2.2.2.1 s.2.2.2.2.2.2.2.2.2) (fun s => μ s.1 s.2.1 s.2.2.1 s.2.2.2.1 s.2.2.2.2.1 s.2.2.2.2.2.1 s.2.2.2.2.2.2.1 s.2.2.2.2.2.2.2.1 s.2.2.2.2.2.2.2.2.1 s.2.2.2.2.2.2.2.2.2) (fun n s hI hk => hs n s.1 s.2.1 s.2.2.1 s.2.2.2.1 s.2.2.2.2.1 s.2.2.2.2.2.1 s.2.2.2.2.2.2.1 s.2.2.2.2.2.2.2.1 s.2.2.2.2.2.2.2.2.1 s.2.2.2.2.2.2.2.2.2 hI (fun b1 b2 b3 b4 b5 b6 b7 b8 b9 b10 h9 hm => hk (b1, b2, b3, b4, b5, b6, b7, b8, b9, b10) h9 hm)) (a1, a2, a3, a4, a5, a6, a7, a8, a9, a10) h
theorem lp11 {A1 A2 A3 A4 A5 A6 A7 A8 A9 A10 A11 : Type} (W : Nat → A1 → A2 → A3 → A4 → A5 → A6 → A7 → A8 → A9 → A10 → A11 → Prop) (I : A1 → A2 → A3 → A4 → A5 → A6 → A7 → A8 → A9 → A10 → A11 → Prop) (μ : A1 → A2 → A3 → A4 → A5 → A6 → A7 → A8 → A9 → A10 → A11 → Nat) (hs : ∀ (n : Nat) (a1 : A1) (a2 : A2) (a3 : A3) (a4 : A4) (a5 : A5) (a6 : A6) (a7 : A7) (a8 : A8) (a9 : A9) (a10 : A10) (a11 : A11), I a1 a2 a3 a4 a5 a6 a7 a8 a9 a10 a11 → (∀ (b1 : A1) (b2 : A2) (b3 : A3) (b4 : A4) (b5 : A5) (b6 : A6) (b7 : A7) (b8 : A8) (b9 : A9) (b10 : A10) (b11 : A11), I b1 b2 b3 b4 b5 b6 b7 b8 b9 b10 b11 → μ b1 b2 b3 b4 b5 b6 b7 b8 b9 b10 b11 < μ a1 a2 a3 a4 a5 a6 a7 a8 a9 a10 a11 → W n b1 b2 b3 b4 b5 b6 b7 b8 b9 b10 b11) → W (n + 1) a1 a2 a3 a4 a5 a6 a7 a8 a9 a10 a11) (a1 : A1) (a2 : A2) (a3 : A3) (a4 : A4) (a5 : A5) (a6 : A6) (a7 : A7) (a8 : A8) (a9 : A9) (a10 : A10) (a11 : A11) (h : I a1 a2 a3 a4 a5 a6 a7 a8 a9 a10 a11) : ∃ n, W n a1 a2 a3 a4 a5 a6 a7 a8 a9 a10 a11 :=
  loop_m (σ := A1 × A2 × A3 × A4 × A5 × A6 × A7 × A8 × A9 × A10 × A11) (fun n s => W n s.1 s.2.1 s.2.2.1 s.2.2.2.1 s.2.2.2.2.1 s.2.2.2.2.2.1 s.2.2.2.2.2.2.1 s.2.2.2.2.2.2.2.1 s.2.2.2.2.2.2.2.2.1 s.2.2.2.2.2.2.2.2.2.1 s.2.2.2.2.2.2.2.2.2.2) (fun s => I s.1 s.2.1 s.2.2.1 s.2.2.2.1 s.2.2.2.2.1 s.2.2.2.2.2.1 s.2.2.2.2.2.2.1 s.2.2.2.2.2.2.2.1 s.2.2.2.2.2.2.2.2.1 s.2.2.2.2.2.2.2.2.2.1 s.2.2.2.2.2.2.2.2.2.2) (fun s => μ s.1 s.2.1 s.2.2.1 s.2.2.2.1 s.2.2.2.2.1 s.2.2.2.2.2.1 s.2.2.2.2.2.2.1 s.2.2.2.2.2.2.2.1 s.2.2.2.2.2.2.2.2.1 s.2.2.2.2.2.2.2.2.2.1 s.2.2.2.2.2.2.2.2.2.2) (fun n s hI hk => hs n s.1 s.2.1 s.2.2.1 s.2.2.2.1 s.2.2.2.2.1 s.2.2.2.2.2.1 s.2.2.2.2.2.2.1 s.2.2.2.2.2.2.2.1 s.2.2.2.2.2.2.2.2.1 s.2.2.2.2.2.2.2.2.2.1 s.2.2.2.2.2.2.2.2.2.2 hI (fun b1 b2 b3 b4 b5 b6 b7 b8 b9 b10 b11 h9 hm => hk (b1, b2, b3, b4, b5, b6, b7, b8, b9, b10, b11) h9 hm)) (a1, a2, a3, a4, a5, a6, a7, a8, a9, a10, a11) h
theorem lp12 {A1 A2 A3 A4 A5 A6 A7 A8 A9 A10 A11 A12 : Type} (W : Nat → A1 → A2 → A3 → A4 → A5 → A6 → A7 → A8 → A9 → A10 → A11 → A12 → Prop) (I : A1 → A2 → A3 → A4 → A5 → A6 → A7 → A8 → A9 → A10 → A11 → A12 → Prop) (μ : A1 → A2 → A3 → A4 → A5 → A6 → A7 → A8 → A9 → A10 → A11 → A12 → Nat) (hs : ∀ (n : Nat) (a1 : A1) (a2 : A2) (a3 : A3) (a4 : A4) (a5 : A5) (a6 : A6) (a7 : A7) (a8 : A8) (a9 : A9) (a10 : A10) (a11 : A11) (a12 : A12), I a1 a2 a3 a4 a5 a6 a7 a8 a9 a10 a11 a12 → (∀ (b1 : A1) (b2 : A2) (b3 : A3) (b4 : A4) (b5 : A5) (b6 : A6) (b7 : A7) (b8 : A8) (b9 : A9) (b10 : A10) (b11 : A11) (b12 : A12), I b1 b2 b3 b4 b5 b6 b7 b8 b9 b10 b11 b12 → μ b1 b2 b3 b4 b5 b6 b7 b8 b9 b10 b11 b12 < μ a1 a2 a3 a4 a5 a6 a7 a8 a9 a10 a11 a12 → W n b1 b2 b3 b4 b5 b6 b7 b8 b9 b10 b11 b12) → W (n + 1) a1 a2 a3 a4 a5 a6 a7 a8 a9 a10 a11 a12) (a1 : A1) (a2 : A2) (a3 : A3) (a4 : A4) (a5 : A5) (a6 : A6) (a7 : A7) (a8 : A8) (a9 : A9) (a10 : A10) (a11 : A11) (a12 : A12) (h : I a1 a2 a3 a4 a5 a6 a7 a8 a9 a10 a11 a12) : ∃ n, W n a1 a2 a3 a4 a5 a6 a7 a8 a9 a10 a11 a12 :=
  loop_m (σ := A1 × A2 × A3 × A4 × A5 × A6 × A7 × A8 × A9 × A10 × A11 × A12) (fun n s => W n s.1 s.2.1 s.2.2.1 s.2.2.2.1 s.2.2.2.2.1 s.2.2.2.2.2.1 s.2.2.2.2.2.2.1 s.2.2.2.2.2.2.2.1 s.2.2.2.2.2.2.2.2.1 s.2.2.2.2.2.2.2.2.2.1 s.2.2.2.2.2.2.2.2.2.2.1 s.2.2.2.2.2.2.2.2.2.2.2) (fun s => I s.1 s.2.1 s.2.2.1 s.2.2.2.1 s.2.2.2.2.1 s.2.2.2.2.2.1 s.2.2.2.2.2.2.1 s.2.2.2.2.2.2.2.1 s.2.2.2.2.2.2.2.2.1 s.2.2.2.2.2.2.2.2.2.1 s.2.2.2.2.2.2.2.2.2.2.1 s.2.2.2.2.2.2.2.2.2.2.2) (fun s => μ s.1 s.2.1 s.2.2.1 s.2.2.2.1 s.2.2.2.2.1 s.2.2.2.2.2.1 s.2.2.2.2.2.2.1 s.2.2.2.2.2.2.2.1 s.2.2.2.2.2.2.2.2.1 s.2.2.2.2.2.2.2.2.2.1 s.2.2.2.2.2.2.2.2.2.2.1 s.2.2.2.2.2.2.2.2.2.2.2) (fun n s hI hk => hs n s.1 s.2.1 s.2.2.1 s.2.2.2.1 s.2.2.2.2.1 s.2.2.2.2.2.1 s.2.2.2.2.2.2.1 s.2.2.2.2.2.2.2.1 s.2.2.2.2.2.2.2.2.1 s.2.2.2.2.2.2.2.2.2.1 s.2.2.2.2.2.2.2.2.2.2.1 s.2.2.2.2.2.2.2.2.2.2.2 hI (fun b1 b2 b3 b4 b5 b6 b7 b8 b9 b10 b11 b12 h9 hm => hk (b1, b2, b3, b4, b5, b6, b7, b8, b9, b10, b11, b12) h9 hm)) (a1, a2, a3, a4, a5, a6, a7, a8, a9, a10, a11, a12) h
theorem lp13 {A1 A2 A3 A4 A5 A6 A7 A8 A9 A10 A11 A12 A13 : Type} (W : Nat → A1 → A2 → A3 → A4 → A5 → A6 → A7 → A8 → A9 → A10 → A11 → A12 → A13 → Prop) (I : A1 → A2 → A3 → A4 → A5 → A6 → A7 → A8 → A9 → A10 → A11 → A12 → A13 → Prop) (μ : A1 → A2 → A3 → A4 → A5 → A6 → A7 → A8 → A9 → A10 → A11 → A12 → A13 → Nat) (hs : ∀ (n : Nat) (a1 : A1) (a2 : A2) (a3 : A3) (a4 : A4) (a5 : A5) (a6 : A6) (a7 : A7) (a8 : A8) (a9 : A9) (a10 : A10) (a11 : A11) (a12 : A12) (a13 : A13), I a1 a2 a3 a4 a5 a6 a7 a8 a9 a10 a11 a12 a13 → (∀ (b1 : A1) (b2 : A2) (b3 : A3) (b4 : A4) (b5 : A5) (b6 : A6) (b7 : A7) (b8 : A8) (b9 : A9) (b10 : A10) (b11 : A11) (b12 : A12) (b13 : A13), I b1 b2 b3 b4 b5 b6 b7 b8 b9 b10 b11 b12 b13 → μ b1 b2 b3 b4 b5 b6 b7 b8 b9 b10 b11 b12 b13 < μ a1 a2 a3 a4 a5 a6 a7 a8 a9 a10 a11 a12 a13 → W n b1 b2 b3 b4 b5 b6 b7 b8 b9 b10 b11 b12 b13) → W (n + 1) a1 a2 a3 a4 a5 a6 a7 a8 a9 a10 a11 a12 a13) (a1 : A1) (a2 : A2) (a3 : A3) (a4 : A4) (a5 : A5) (a6 : A6) (a7 : A7) (a8 : A8) (a9 : A9) (a10 : A10) (a11 : A11) (a12 : A12) (a13 : A13) (h : I a1 a2 a3 a4 a5 a6 a7 a8 a9 a10 a11 a12 a13) : ∃ n, W n a1 a2 a3 a4 a5 a6 a7 a8 a9 a10 a11 a12 a13 :=
  loop_m (σ := A1 × A2 × A3 × A4 × A5 × A6 × A7 × A8 × A9 × A10 × A11 × A12 × A13) (fun n s => W n s.1 s.2.1 s.2.2.1 s.2.2.2.1 s.2.2.2.2.1 s.2.2.2.2.2.1 s.2.2.2.2.2.2.1 s.2.2.2.2.2.2.2.1 s.2.2.2.2.2.2.2.2.1 s.2.2.2.2.2.2.2.2.2.1 s.2.2.2.2.2.2.2.2.2.2.1 s.2.2.2.2.2.2.2.2.2.2.2.1 s.2.2.2.2.2.2.2.2.2.2.2.2) (fun s => I s.1 s.2.1 s.2.2.1 s.2.2.2.1 s.2.2.2.2.1 s.2.2.2.2.2.1 s.2.2.2.2.2.2.1 s.2.2.2.2.2.2.2.1 s.2.2.2.2.2.2.2.2.1 s.2.2.2.2.2.2.2.2.2.1 s.2.2.2.2.2.2.2.2.2.2.1 s.2.2.2.2.2.2.2.2.2.2.2.1 s.2.2.2.2.2.2.2.2.2.2.2.2) (fun s => μ s.1 s.2.1 s.2.2.1 s.2.2.2.1 s.2.2.2.2.1 s.2.2.2.2.2.1 s.2.2.2.2.2.2.1 s.2.2.2.2.2.2.2.1 s.2.2.2.2.2.2.2.2.1 s.2.2.2.2.2.2.2.2.2.1 s.2.2.2.2.2.2.2.2.2.2.1 s.2.2.2.2.2.2.2.2.2.2.2.1 s.2.2.2.2.2.2.2.2.2.2.2.2) (fun n s hI hk => hs n s.1 s.2.1 s.2.2.1 s.2.2.2.1 s.2.2.2.2.1 s.2.2.2.2.2.1 s.2.2.2.2.2.2.1 s.2.2.2.2.2.2.2.1 s.2.2.2.2.2.2.2.2.1 s.2.2.2.2.2.2.2.2.2.1 s.2.2.2.2.2.2.2.2.2.2.1 s.2.2.2.2.2.2.2.2.2.2.2.1 s.2.2.2.2.2.2.2.2.2.2.2.2 hI (fun b1 b2 b3 b4 b5 b6 b7 b8 b9 b10 b11 b12 b13 h9 hm => hk (b1, b2, b3, b4, b5, b6, b7, b8, b9, b10, b11, b12, b13) h9 hm)) (a1, a2, a3, a4, a5, a6, a7, a8, a9, a10, a11, a12, a13) h
theorem lp14 {A1 A2 A3 A4 A5 A6 A7 A8 A9 A10 A11 A12 A13 A14 : Type} (W : Nat → A1 → A2 → A3 → A4 → A5 → A6 → A7 → A8 → A9 → A10 → A11 → A12 → A13 → A14 → Prop) (I : A1 → A2 → A3 → A4 → A5 → A6 → A7 → A8 → A9 → A10 → A11 → A12 → A13 → A14 → Prop) (μ : A1 → A2 → A3 → A4 → A5 → A6 → A7 → A8 → A9 → A10 → A11 → A12 → A13 → A14 → Nat) (hs : ∀ (n : Nat) (a1 : A1) (a2 : A2) (a3 : A3) (a4 : A4) (a5 : A5) (a6 : A6) (a7 : A7) (a8 : A8) (a9 : A9) (a10 : A10) (a11 : A11) (a12 : A12) (a13 : A13) (a14 : A14), I a1 a2 a3 a4 a5 a6 a7 a8 a9 a10 a11 a12 a13 a14 → (∀ (b1 : A1) (b2 : A2) (b3 : A3) (b4 : A4) (b5 : A5) (b6 : A6) (b7 : A7) (b8 : A8) (b9 : A9) (b10 : A10) (b11 : A11) (b12 : A12) (b13 : A13) (b14 : A14), I b1 b2 b3 b4 b5 b6 b7 b8 b9 b10 b11 b12 b13 b14 → μ b1 b2 b3 b4 b5 b6 b7 b8 b9 b10 b11 b12 b13 b14 < μ a1 a2 a3 a4 a5 a6 a7 a8 a9 a10 a11 a12 a13 a14 → W n b1 b2 b3 b4 b5 b6 b7 b8 b9 b10 b11 b12 b13 b14) → W (n + 1) a1 a2 a3 a4 a5 a6 a7 a8 a9 a10 a11 a12 a13 a14) (a1 : A1) (a2 : A2) (a3 : A3) (a4 : A4) (a5 : A5) (a6 : A6) (a7 : A7) (a8 : A8) (a9 : A9) (a10 : A10) (a11 : A11) (a12 : A12) (a13 : A13) (a14 : A14) (h : I a1 a2 a3 a4 a5 a6 a7 a8 a9 a10 a11 a12 a13 a14) : ∃ n, W n a1 a2 a3 a4 a5 a6 a7 a8 a9 a10 a11 a12 a13 a14 :=
  loop_m (σ := A1 × A2 × A3 × A4 × A5 × A6 × A7 × A8 × A9 × A10 × A11 × A12 × A13 × A14) (fun n s => W n s.1 s.2.1 s.2.2.1 s.2.2.2.1 s.2.2.2.2.1 s.2.2.2.2.2.1 s.2.2.2.2.2.2.1 s.2.2.2.2.2.2.2.1 s.2.2.2.2.2.2.2.2.1 s.2.2.2.2.2.2.2.2.2.1 s.2.2.2.2.2.2.2.2.2.2.1 s.2.2.2.2.2.2.2.2.2.2.2.1 s.2.2.2.2.2.2.2.2.2.2.2.2.1 s.2.2.2.2.2.2.2.2.2.2.2.2.2) (fun s => I s.1 s.2.1 s.2.2.1 s.2.2.2.1 s.2.2.2.2.1 s.2.2.2.2.2.1 s.2.2.2.2.2.2.1 s.2.2.2.2.2.2.2.1 s.2.2.2.2.2.2.2.2.1 s.2.2.2.2.2.2.2.2.2.1 s.2.2.2.2.2.2.2.2.2.2.1 s.2.2.2.2.2.2.2.2.2.2.2.1 s.2.2.2.2.2.2.2.2.2.2.2.2.1 s.2.2.2.2.2.2.2.2.2.2.2.2.2) (fun s => μ s.1 s.2.1 s.2.2.1 s.2.2.2.1 s.2.2.2.2.1 s.2.2.2.2.2.1 s.2.2.2.2.2.2.1 s.2.2.2.2.2.2.2.1 s.2.2.2.2.2.2.2.2.1 s.2.2.2.2.2.2.2.2.2.1 s.2.2.2.2.2.2.2.2.2.2.1 s.2.2.2.2.2.2.2.2.2.2.2.1 s.2.2.2.2.2.2.2.2.2.2.2.2.1 s.2.2.2.2.2.2.2.2.2.2.2.2.2) (fun n s hI hk => hs n s.1 s.2.1 s.2.2.1 s.2.2.2.1 s.2.2.2.2.1 s.2.2.2.2.2.1 s.2.2.2.2.2.2.1 s.2.2.2.2.2.2.2.1 s.2.2.2.2.2.2.2.2.1 s.2.2.2.2.2.2.2.2.2.1 s.2.2.2.2.2.2.2.2.2.2.1 s.2.2.2.2.2.2.2.2.2.2.2.1 s.2.2.2.2.2.2.2.2.2.2.2.2.1 s.2.2.2.2.2.2.2.2.2.2.2.2.2 hI (fun b1 b2 b3 b4 b5 b6 b7 b8 b9 b10 b11 b12 b13 b14 h9 hm => hk (b1, b2, b3, b4, b5, b6, b7, b8, b9, b10, b11, b12, b13, b14) h9 hm)) (a1, a2, a3, a4, a5, a6, a7, a8, a9, a10, a11, a12, a13, a14) h
theorem lp15 {A1 A2 A3 A4 A5 A6 A7 A8 A9 A10 A11 A12 A13 A14 A15 : Type} (W : Nat → A1 → A2 → A3 → A4 → A5 → A6 → A7 → A8 → A9 → A10 → A11 → A12 → A13 → A14 → A15 → Prop) (I : A1 → A2 → A3 → A4 → A5 → A6 → A7 → A8 → A9 → A10 → A11 → A12 → A13 → A14 → A15 → Prop) (μ : A1 → A2 → A3 → A4 → A5 → A6 → A7 → A8 → A9 → A10 → A11 → A12 → A13 → A14 → A15 → Nat) (hs : ∀ (n : Nat) (a1 : A1) (a2 : A2) (a3 : A3) (a4 : A4) (a5 : A5) (a6 : A6) (a7 : A7) (a8 : A8) (a9 : A9) (a10 : A10) (a11 : A11) (a12 : A12) (a13 : A13) (a14 : A14) (a15 : A15), I a1 a2 a3 a4 a5 a6 a7 a8 a9 a10 a11 a12 a13 a14 a15 → (∀ (b1 : A1) (b2 : A2) (b3 : A3) (b4 : A4) (b5 : A5) (b6 : A6) (b7 : A7) (b8 : A8) (b9 : A9) (b10 : A10) (b11 : A11) (b12 : A12) (b13 : A13) (b14 : A14) (b15 : A15), I b1 b2 b3 b4 b5 b6 b7 b8 b9 b10 b11 b12 b13 b14 b15 → μ b1 b2 b3 b4 b5 b6 b7 b8 b9 b10 b11 b12 b13 b14 b15 < μ a1 a2 a3 a4 a5 a6 a7 a8 a9 a10 a11 a12 a13 a14 a15 → W n b1 b2 b3 b4 b5 b6 b7 b8 b9 b10 b11 b12 b13 b14 b15) → W (n + 1) a1 a2 a3 a4 a5 a6 a7 a8 a9 a10 a11 a12 a13 a14 a15) (a1 : A1) (a2 : A2) (a3 : A3) (a4 : A4) (a5 : A5) (a6 : A6) (a7 : A7) (a8 : A8) (a9 : A9) (a10 : A10) (a11 : A11) (a12 : A12) (a13 : A13) (a14 : A14) (a15 : A15) (h : I a1 a2 a3 a4 a5 a6 a7 a8 a9 a10 a11 a12 a13 a14 a15) : ∃ n, W n a1 a2 a3 a4 a5 a6 a7 a8 a9 a10 a11 a12 a13 a14 a15 :=
  loop_m (σ := A1 × A2 × A3 × A4 × A5 × A6 × A7 × A8 × A9 × A10 × A11 × A12 × A13 × A14 × A15) (fun n s => W n s.1 s.2.1 s.2.2.1 s.2.2.2.1 s.2.2.2.2.1 s.2.2.2.2.2.1 s.2.2.2.2.2.2.1 s.2.2.2.2.2.2.2.1 s.2.2.2.2.2.2.2.2.1 s.2.2.2.2.2.2.2.2.2.1 s.2.2.2.2.2.2.2.2.2.2.1 s.2.2.2.2.2.2.2.2.2.2.2.1 s.2.2.2.2.2.2.2.2.2.2.2.2.1 s.2.2.2.2.2.2.2.2.2.2.2.2.2.1 s.2.2.2.2.2.2.2.2.2.2.2.2.2.2) (fun s => I s.1 s.2.1 s.2.2.1 s.2.2.2.1 s.2.2.2.2.1 s.2.2.2.2.2.1 s.2.2.2.2.2.2.1 s.2.2.2.2.2.2.2.1 s.2.2.2.2.2.2.2.2.1 s.2.2.2.2.2.2.2.2.2.1 s.2.2.2.2.2.2.2.2.2.2.1 s.2.2.2.2.2.2.2.2.2.2.2.1 s.2.2.2.2.2.2.2.2.2.2.2.2.1 s.2.2.2.2.2.2.2.2.2.2.2.2.2.1 s.2.2.2.2.2.2.2.2.2.2.2.2.2.2) (fun s => μ s.1 s.2.1 s.2.2.1 s.2.2.2.1 s.2.2.2.2.1 s.2.2.2.2.2.1 s.2.2.2.2.2.2.1 s.2.2.2.2.2.2.2.1 s.2.2.2.2.2.2.2.2.1 s.2.2.2.2.2.2.2.2.2.1 s.2.2.2.2.2.2.2.2.2.2.1 s.2.2.2.2.2.2.2.2.2.2.2.1 s.2.2.2.2.2.2.2.2.2.2.2.2.1 s.2.2.2.2.2.2.2.2.2.2.2.2.2.1 s.2.2.2.2.2.2.2.2.2.2.2.2.2.2) (fun n s hI hk => hs n s.1 s.2.1 s.2.2.1 s.2.2.2.1 s.2.2.2.2.1 s.2.2.2.2.2.1 s.2.2.2.2.2.2.1 s.2.2.2.2.2.2.2.1 s.2.2.2.2.2.2.2.2.1 s.2.2.2.2.2.2.2.2.2.1 s.2.2.2.2.2.2.2.2.2.2.1 s.2.2.2.2.2.2.2.2.2.2.2.1 s.2.2.2.2.2.2.2.2.2.2.2.2.1 s.2.2.2.2.2.2.2.2.2.2.2.2.2.1 s.2.2.2.2.2.2.2.2.2.2.2.2.2.2 hI (fun b1 b2 b3 b4 b5 b6 b7 b8 b9 b10 b11 b12 b13 b14 b15 h9 hm => hk (b1, b2, b3, b4, b5, b6, b7, b8, b9, b10, b11, b12, b13, b14, b15) h9 hm)) (a1, a2, a3, a4, a5, a6, a7, a8, a9, a10, a11, a12, a13, a14, a15) h
theorem lp16 {A1 A2 A3 A4 A5 A6 A7 A8 A9 A10 A11 A12 A13 A14 A15 A16 : Type} (W : Nat → A1 → A2 → A3 → A4 → A5 → A6 → A7 → A8 → A9 → A10 → A11 → A12 → A13 → A14 → A15 → A16 → Prop) (I : A1 → A2 → A3 → A4 → A5 → A6 → A7 → A8 → A9 → A10 → A11 → A12 → A13 → A14 → A15 → A16 → Prop) (μ : A1 → A2 → A3 → A4 → A5 → A6 → A7 → A8 → A9 → A10 → A11 → A12 → A13 → A14 → A15 → A16 → Nat) (hs : ∀ (n : Nat) (a1 : A1) (a2 : A2) (a3 : A3) (a4 : A4) (a5 : A5) (a6 : A6) (a7 : A7) (a8 : A8) (a9 : A9) (a10 : A10) (a11 : A11) (a12 : A12) (a13 : A13) (a14 : A14) (a15 : A15) (a16 : A16), I a1 a2 a3 a4 a5 a6 a7 a8 a9 a10 a11 a12 a13 a14 a15 a16 → (∀ (b1 : A1) (b2 : A2) (b3 : A3) (b4 : A4) (b5 : A5) (b6 : A6) (b7 : A7) (b8 : A8) (b9 : A9) (b10 : A10) (b11 : A11) (b12 : A12) (b13 : A13) (b14 : A14) (b15 : A15) (b16 : A16), I b1 b2 b3 b4 b5 b6 b7 b8 b9 b10 b11 b12 b13 b14 b15 b16 → μ b1 b2 b3 b4 b5 b6 b7 b8 b9 b10 b11 b12 b13 b14 b15 b16 < μ a1 a2 a3 a4 a5 a6 a7 a8 a9 a10 a11 a12 a13 a14 a15 a16 → W n b1 b2 b3 b4 b5 b6 b7 b8 b9 b10 b11 b12 b13 b14 b15 b16) → W (n + 1) a1 a2 a3 a4 a5 a6 a7 a8 a9 a10 a11 a12 a13 a14 a15 a16) (a1 : A1) (a2 : A2) (a3 : A3) (a4 : A4) (a5 : A5) (a6 : A6) (a7 : A7) (a8 : A8) (a9 : A9) (a10 : A10) (a11 : A11) (a12 : A12) (a13 : A13) (a14 : A14) (a15 : A15) (a16 : A16) (h : I a1 a2 a3 a4 a5 a6 a7 a8 a9 a10 a11 a12 a13 a14 a15 a16) : ∃ n, W n a1 a2 a3 a4 a5 a6 a7 a8 a9 a10 a11 a12 a13 a14 a15 a16 :=
  loop_m (σ := A1 × A2 × A3 × A4 × A5 × A6 × A7 × A8 × A9 × A10 × A11 × A12 × A13 × A14 × A15 × A16) (fun n s => W n s.1 s.2.1 s.2.2.1 s.2.2.2.1 s.2.2.2.2.1 s.2.2.2.2.2.1 s.2.2.2.2.2.2.1 s.2.2.2.2.2.2.2.1 s.2.2.2.2.2.2.2.2.1 s.2.2.2.2.2.2.2.2.2.1 s.2.2.2.2.2.2.2.2.2.2.1 s.2.2.2.2.2.2.2.2.2.2.2.1 s.2.2.2.2.2.2.2.2.2.2.2.2.1 s.2.2.2.2.2.2.2.2.2.2.2.2.2.1 s.2.2.2.2.2.2.2.2.2.2.2.2.2.2.1 s.2.2.2.2.2.2.2.2.2.2.2.2.2.2.2) (fun s => I s.1 s.2.1 s.2.2.1 s.2.2.2.1 s.2.2.2.2.1 s.2.2.2.2.2.1 s.2.2.2.2.2.2.1 s.2.2.2.2.2.2.2.1 s.2.2.2.2.2.2.2.2.1 s.2.2.2.2.2.2.2.2.2.1 s.2.2.2.2.2.2.2.2.2.2.1 s.2.2.2.2.2.2.2.2.2.2.2.1 s.2.2.2.2.2.2.2.2.2.2.2.2.1 s.2.2.2.2.2.2.2.2.2.2.2.2.2.1 s.2.2.2.2.2.2.2.2.2.2.2.2.2.2.1 s.2.2.2.2.2.2.2.2.2.2.2.2.2.2.2) (fun s => μ s.1 s.2.1 s.2.2.1 s.2.2.2.1 s.2.2.2.2.1 s.2.2.2.2.2.1 s.2.2.2.2.2.2.1 s.2.2.2.2.2.2.2.1 s.2.2.2.2.2.2.2.2.1 s.2.2.2.2.2.2.2.2.2.1 s.2.2.2.2.2.2.2.2.2.2.1 s.2.2.2.2.2.2.2.2.2.2.2.1 s.2.2.2.2.2.2.2.2.2.2.2.2.1 s.2.2.2.2.2.2.2.2.2.2.2.2.2.1 s.2.2.2.2.2.2.2.2.2.2.2.2.2.2.1 s.2.2.2.2.2.2.2.2.2.2.2.2.2.2.2) (fun n s hI hk => hs n s.1 s.2.1 s.2.2.1 s.2.2.2.1 s.2.2.2.2.1 s.2.2.2.2.2.1 s.2.2.2.2.2.2.1 s.2.2.2.2.2.2.2.1 s.2.2.2.2.2.2.2.2.1 s.2.2.2.2.2.2.2.2.2.1 s.2.2.2.2.2.2.2.2.2.2.1 s.2.2.2.2.2.2.2.2.2.2.2.1 s.2.2.2.2.2.2.2.2.2.2.2.2.1 s.2.2.2.2.2.2.2.2.2.2.2.2.2.1 s.2.2.2.2.2.2.2.2.2.2.2.2.2.2.1 s.2.2.2.2.2.2.2.2.2.2.2.2.2.2.2 hI (fun b1 b2 b3 b4 b5 b6 b7 b8 b9 b10 b11 b12 b13 b14 b15 b16 h9 hm => hk (b1, b2, b3, b4, b5, b6, b7, b8, b9, b10, b11, b12, b13, b14, b15, b16) h9 hm)) (a1, a2, a3, a4, a5, a6, a7, a8, a9, a10, a11, a12, a13, a14, a15, a16) h
theorem pk_least (P : Nat → Prop) (h : ∃ k, P k) : ∃ k, P k ∧ ∀ j, j < k → ¬ P j := by
  obtain ⟨k, hk⟩ := h
  induction k using Nat.strongRecOn with
  | ind k ih =>
    by_cases e : ∃ j, j < k ∧ P j
    · obtain ⟨j, hj, pj⟩ := e
      exact ih j hj pj
    · exact ⟨k, hk, fun j hj pj => e ⟨j, hj, pj⟩⟩
theorem rp1 {ρ A1 : Type} (W : Nat → (ρ → Prop) → A1 → Prop) (ok : A1 → Prop) (μ : A1 → Nat) (val : A1 → ρ)
    (hs : ∀ (d : Nat) (post : ρ → Prop) (a1 : A1), ok a1 → post (val a1) → (∀ (post' : ρ → Prop) (b1 : A1), ok b1 → μ b1 < μ a1 → post' (val b1) → W d post' b1) → W (d + 1) post a1) :
    ∀ (d : Nat) (post : ρ → Prop) (a1 : A1), ok a1 → μ a1 < d → post (val a1) → W d post a1 := by
  intro d
  induction d with
  | zero => intro post a1 _ h; omega
  | succ d ih =>
    intro post a1 ho hm hp
    exact hs d post a1 ho hp (fun post' b1 ho' hm' hp' => ih post' b1 ho' (by omega) hp')
theorem rp2 {ρ A1 A2 : Type} (W : Nat → (ρ → Prop) → A1 → A2 → Prop) (ok : A1 → A2 → Prop) (μ : A1 → A2 → Nat) (val : A1 → A2 → ρ)
    (hs : ∀ (d : Nat) (post : ρ → Prop) (a1 : A1) (a2 : A2), ok a1 a2 → post (val a1 a2) → (∀ (post' : ρ → Prop) (b1 : A1) (b2 : A2), ok b1 b2 → μ b1 b2 < μ a1 a2 → post' (val b1 b2) → W d post' b1 b2) → W (d + 1) post a1 a2) :
    ∀ (d : Nat) (post : ρ → Prop) (a1 : A1) (a2 : A2), ok a1 a2 → μ a1 a2 < d → post (val a1 a2) → W d post a1 a2 := by
  intro d
  induction d with
  | zero => intro post a1 a2 _ h; omega
  | succ d ih =>
    intro post a1 a2 ho hm hp
    exact hs d post a1 a2 ho hp (fun post' b1 b2 ho' hm' hp' => ih post' b1 b2 ho' (by omega) hp')
theorem rp3 {ρ A1 A2 A3 : Type} (W : Nat → (ρ → Prop) → A1 → A2 → A3 → Prop) (ok : A1 → A2 → A3 → Prop) (μ : A1 → A2 → A3 → Nat) (val : A1 → A2 → A3 → ρ)
    (hs : ∀ (d : Nat) (post : ρ → Prop) (a1 : A1) (a2 : A2) (a3 : A3), ok a1 a2 a3 → post (val a1 a2 a3) → (∀ (post' : ρ → Prop) (b1 : A1) (b2 : A2) (b3 : A3), ok b1 b2 b3 → μ b1 b2 b3 < μ a1 a2 a3 → post' (val b1 b2 b3) → W d post' b1 b2 b3) → W (d + 1) post a1 a2 a3) :
    ∀ (d : Nat) (post : ρ → Prop) (a1 : A1) (a2 : A2) (a3 : A3), ok a1 a2 a3 → μ a1 a2 a3 < d → post (val a1 a2 a3) → W d post a1 a2 a3 := by
  intro d
  induction d with
  | zero => intro post a1 a2 a3 _ h; omega
  | succ d ih =>
    intro post a1 a2 a3 ho hm hp
    exact hs d post a1 a2 a3 ho hp (fun post' b1 b2 b3 ho' hm' hp' => ih post' b1 b2 b3 ho' (by omega) hp')
theorem rp4 {ρ A1 A2 A3 A4 : Type} (W : Nat → (ρ → Prop) → A1 → A2 → A3 → A4 → Prop) (ok : A1 → A2 → A3 → A4 → Prop) (μ : A1 → A2 → A3 → A4 → Nat) (val : A1 → A2 → A3 → A4 → ρ)
    (hs : ∀ (d : Nat) (post : ρ → Prop) (a1 : A1) (a2 : A2) (a3 : A3) (a4 : A4), ok a1 a2 a3 a4 → post (val a1 a2 a3 a4) → (∀ (post' : ρ → Prop) (b1 : A1) (b2 : A2) (b3 : A3) (b4 : A4), ok b1 b2 b3 b4 → μ b1 b2 b3 b4 < μ a1 a2 a3 a4 → post' (val b1 b2 b3 b4) → W d post' b1 b2 b3 b4) → W (d + 1) post a1 a2 a3 a4) :
    ∀ (d : Nat) (post : ρ → Prop) (a1 : A1) (a2 : A2) (a3 : A3) (a4 : A4), ok a1 a2 a3 a4 → μ a1 a2 a3 a4 < d → post (val a1 a2 a3 a4) → W d post a1 a2 a3 a4 := by
  intro d
  induction d with
  | zero => intro post a1 a2 a3 a4 _ h; omega
  | succ d ih =>
    intro post a1 a2 a3 a4 ho hm hp
    exact hs d post a1 a2 a3 a4 ho hp (fun post' b1 b2 b3 b4 ho' hm' hp' => ih post' b1 b2 b3 b4 ho' (by omega) hp')
theorem rp5 {ρ A1 A2 A3 A4 A5 : Type} (W : Nat → (ρ → Prop) → A1 → A2 → A3 → A4 → A5 → Prop) (ok : A1 → A2 → A3 → A4 → A5 → Prop) (μ : A1 → A2 → A3 → A4 → A5 → Nat) (val : A1 → A2 → A3 → A4 → A5 → ρ)
    (hs : ∀ (d : Nat) (post : ρ → Prop) (a1 : A1) (a2 : A2) (a3 : A3) (a4 : A4) (a5 : A5), ok a1 a2 a3 a4 a5 → post (val a1 a2 a3 a4 a5) → (∀ (post' : ρ → Prop) (b1 : A1) (b2 : A2) (b3 : A3) (b4 : A4) (b5 : A5), ok b1 b2 b3 b4 b5 → μ b1 b2 b3 b4 b5 < μ a1 a2 a3 a4 a5 → post' (val b1 b2 b3 b4 b5) → W d post' b1 b2 b3 b4 b5) → W (d + 1) post a1 a2 a3 a4 a5) :
    ∀ (d : Nat) (post : ρ → Prop) (a1 : A1) (a2 : A2) (a3 : A3) (a4 : A4) (a5 : A5), ok a1 a2 a3 a4 a5 → μ a1 a2 a3 a4 a5 < d → post (val a1 a2 a3 a4 a5) → W d post a1 a2 a3 a4 a5 := by
  intro d
  induction d with
  | zero => intro post a1 a2 a3 a4 a5 _ h; omega
  | succ d ih =>
    intro post a1 a2 a3 a4 a5 ho hm hp
    exact hs d post a1 a2 a3 a4 a5 ho hp (fun post' b1 b2 b3 b4 b5 ho' hm' hp' => ih post' b1 b2 b3 b4 b5 ho' (by omega) hp')
theorem rp6 {ρ A1 A2 A3 A4 A5 A6 : Type} (W : Nat → (ρ → Prop) → A1 → A2 → A3 → A4 → A5 → A6 → Prop) (ok : A1 → A2 → A3 → A4 → A5 → A6 → Prop) (μ : A1 → A2 → A3 → A4 → A5 → A6 → Nat) (val : A1 → A2 → A3 → A4 → A5 → A6 → ρ)
    (hs : ∀ (d : Nat) (post : ρ → Prop) (a1 : A1) (a2 : A2) (a3 : A3) (a4 : A4) (a5 : A5) (a6 : A6), ok a1 a2 a3 a4 a5 a6 → post (val a1 a2 a3 a4 a5 a6) → (∀ (post' : ρ → Prop) (b1 : A1) (b2 : A2) (b3 : A3) (b4 : A4) (b5 : A5) (b6 : A6), ok b1 b2 b3 b4 b5 b6 → μ b1 b2 b3 b4 b5 b6 < μ a1 a2 a3 a4 a5 a6 → post' (val b1 b2 b3 b4 b5 b6) → W d post' b1 b2 b3 b4 b5 b6) → W (d + 1) post a1 a2 a3 a4 a5 a6) :
    ∀ (d : Nat) (post : ρ → Prop) (a1 : A1) (a2 : A2) (a3 : A3) (a4 : A4) (a5 : A5) (a6 : A6), ok a1 a2 a3 a4 a5 a6 → μ a1 a2 a3 a4 a5 a6 < d → post (val a1 a2 a3 a4 a5 a6) → W d post a1 a2 a3 a4 a5 a6 := by
  intro d
  induction d with
  | zero => intro post a1 a2 a3 a4 a5 a6 _ h; omega
  | succ d ih =>
    intro post a1 a2 a3 a4 a5 a6 ho hm hp
    exact hs d post a1 a2 a3 a4 a5 a6 ho hp (fun post' b1 b2 b3 b4 b5 b6 ho' hm' hp' => ih post' b1 b2 b3 b4 b5 b6 ho' (by omega) hp')
theorem rec_p {σ ρ : Type} (W : Nat → (ρ → Prop) → σ → Prop) (ok : σ → Prop) (μ : σ → Nat) (val : σ → ρ)
    (hs : ∀ d s post, ok s → post (val s) → (∀ s' post', ok s' → μ s' < μ s → post' (val s') → W d post' s') → W (d + 1) post s) :
    ∀ d s post, ok s → μ s < d → post (val s) → W d post s := by
  intro d
  induction d with
  | zero => intro s post _ h; omega
  | succ d ih =>
    intro s post ho hm hp
    exact hs d s post ho hp (fun s' post' ho' hm' hp' => ih s' post' ho' (by omega) hp')
theorem rec_q {σ ρ : Type} (W : Nat → (ρ → Prop) → σ → Prop) (ok : σ → Prop) (μ : σ → Nat) (Q : σ → ρ → Prop)
    (hs : ∀ d s post, ok s → (∀ r, Q s r → post r) → (∀ s' post', ok s' → μ s' < μ s → (∀ r, Q s' r → post' r) → W d post' s') → W (d + 1) post s) :
    ∀ d s post, ok s → μ s < d → (∀ r, Q s r → post r) → W d post s := by
  intro d
  induction d with
  | zero => intro s post _ h; omega
  | succ d ih =>
    intro s post ho hm hp
    exact hs d s post ho hp (fun s' post' ho' hm' hp' => ih s' post' ho' (by omega) hp')
def bx_sum (f : Nat → Int32) : Nat → Int32
  | 0 => 0
  | n + 1 => bx_sum f n + f n
theorem ek_u {A : Prop} {B : Nat → Prop} {k N : Nat} (hk : k < N) (h : B k) : (some k = none → A) ∧ (∀ y : Nat, some k = some y → (y < N ∧ B y)) :=
  ⟨fun z => absurd z (Option.some_ne_none k), fun _ e => (by cases e; exact ⟨hk, h⟩)⟩
theorem ek_nu {A : Prop} {B : Nat → Prop} (h : A) : ((none : Option Nat) = none → A) ∧ (∀ y : Nat, (none : Option Nat) = some y → B y) :=
  ⟨fun _ => h, fun _ e => (by cases e)⟩
theorem ek_if {c d A B : Prop} (e : c ↔ d) (f : d → A) (g : ¬ d → B) : (c → A) ∧ (¬ c → B) :=
  ⟨fun z => f (e.mp z), fun z => g (fun y => z (e.mpr y))⟩
theorem ek_v {α : Sort _} {P : α → Prop} {a b : α} (e : a = b) (h : P b) : P a := e ▸ h
theorem co_some {x : Option Nat} {A : Prop} {B : Nat → Prop} (i : Nat) (h : B i) (hx : x = some i := by rfl) : (x = none → A) ∧ (∀ y : Nat, x = some y → B y) := by
  subst hx
  exact ⟨fun e => (nomatch e), fun y e => Option.some.inj e ▸ h⟩
theorem co_none {x : Option Nat} {A : Prop} {B : Nat → Prop} (h : A) (hx : x = none := by rfl) : (x = none → A) ∧ (∀ y : Nat, x = some y → B y) := by
  subst hx
  exact ⟨fun _ => h, fun y e => (nomatch e)⟩
theorem co_any {x : Option Nat} {A : Prop} {B : Nat → Prop} (hn : x = none → A) (hs : ∀ i : Nat, x = some i → B i) : (x = none → A) ∧ (∀ y : Nat, x = some y → B y) := ⟨hn, hs⟩
theorem co_2 {P : Nat → Prop} (h0 : P 0) (h1 : P 1) {i : Nat} (hi : i < 2) : P i :=
  match i, hi with
  | 0, _ => h0
  | 1, _ => h1
theorem co_3 {P : Nat → Prop} (h0 : P 0) (h1 : P 1) (h2 : P 2) {i : Nat} (hi : i < 3) : P i :=
  match i, hi with
  | 0, _ => h0
  | 1, _ => h1
  | 2, _ => h2
theorem co_4 {P : Nat → Prop} (h0 : P 0) (h1 : P 1) (h2 : P 2) (h3 : P 3) {i : Nat} (hi : i < 4) : P i :=
  match i, hi with
  | 0, _ => h0
  | 1, _ => h1
  | 2, _ => h2
  | 3, _ => h3
theorem co_dec {N : Nat} {P : Nat → Prop} [DecidablePred P] (h : (List.range N).all (fun i => decide (P i)) = true) {i : Nat} (hi : i < N) : P i := by
  have := List.all_eq_true.mp h i (List.mem_range.mpr hi)
  exact of_decide_eq_true this
theorem co_tab {α : Type} {l : List α} {d : α} {P : α → Prop} (h : ∀ a, a ∈ l → P a) {i : Nat} (hi : i < l.length) : P (l.getD i d) := by
  rw [List.getD_eq_getElem?_getD, List.getElem?_eq_getElem hi]
  exact h _ (List.getElem_mem hi)
theorem pk_mu {x : Int32} {L : Nat} (h0 : ¬ x < 0) (h : ¬ nI L ≤ x) (hL : L < 2 ^ 31) : ∃ j : Nat, j < L ∧ x = nI j ∧ x + 1 = nI (j + 1) ∧ x.toNatClampNeg = j ∧ L - (x + 1).toNatClampNeg < L - x.toNatClampNeg := by
  obtain ⟨j, hj, rfl⟩ := nI_of h0
  have hl : j < L := Nat.not_le.mp fun q => h (nI_le q hj)
  refine ⟨j, hl, rfl, nI_1 j, nI_clamp hj, ?_⟩
  rw [nI_1, nI_clamp (by omega), nI_clamp hj]
  omega
theorem op_s {α : Type} {r : Option α} {A : Prop} {B : α → Prop} {y : α} (h : r = some y) (b : B y) : (r = none → A) ∧ ∀ z, r = some z → B z :=
  ⟨fun e => (by rw [h] at e; cases e), fun z e => (by rw [h] at e; cases e; exact b)⟩
def l_holds {α : Type} (a : Nat → Option Nat) (LP : List Nat) (p : Nat → α) (c : Nat) (b : Nat → α) : Prop :=
  ∀ j, j < c → ∃ y, a j = some y ∧ y ∈ LP ∧ p y = b j
theorem l_holds_0 {α : Type} {a : Nat → Option Nat} {LP : List Nat} {p b : Nat → α} : l_holds a LP p 0 b := fun j h => absurd h (Nat.not_lt_zero j)
theorem l_in_new (LP : List Nat) (q : Nat) : q ∈ LP ++ [q] := List.mem_append.mpr (Or.inr (List.mem_singleton.mpr rfl))
def l_sum (b : Nat → Int32) : Nat → Int32
  | 0 => 0
  | k + 1 => l_sum b k + b k
theorem sb_shr0 (x : Int32) : x >>> ((0 : Int32) &&& 31) = x := by
  rw [show ((0 : Int32) &&& 31) = 0 by decide]
  simp
theorem sb_shl0 (x : Int32) : x <<< ((0 : Int32) &&& 31) = x := by
  rw [show ((0 : Int32) &&& 31) = 0 by decide]
  simp
theorem sb_cl0 : (0 : Int32).toNatClampNeg = 0 := by decide
theorem sb_m1 {p : Nat} (h : 0 < p) : nI p + (-1) = nI (p - 1) := by
  obtain ⟨q, rfl⟩ : ∃ q, p = q + 1 := ⟨p - 1, by omega⟩
  exact pk_m1 q
def sb_b (c : Nat) : Int32 := (nI c).toInt8.toInt32
theorem sb_byte : ∀ c, c < 256 → sb_b c &&& 255 = nI c ∧ ((nI c).toUInt32 % 65536).toInt32 = nI c ∧ nI c ≤ 255 := by decide +kernel
def sb_Fit (a : Nat → Int32) : Prop := ∀ j, fits .byte (.int (a j)) = true
def sb_Lat (t : Nat → Nat) (n : Nat) (a : Nat → Int32) : Prop := ∀ j, j < n → t j < 256 ∧ a j = sb_b (t j)
theorem sb_fitB (c : Nat) : fits .byte (.int (sb_b c)) = true := pk_fb _
theorem sb_fit0 : sb_Fit (fun _ => 0) := fun _ => by
  show fits .byte (.int 0) = true
  decide
theorem sb_fitU {a : Nat → Int32} {k : Nat} {x : Int32} (h : sb_Fit a) (hx : fits .byte (.int x) = true) : sb_Fit (upd a k x) := by
  intro j
  by_cases e : j = k
  · subst e
    rw [pk_us]
    exact hx
  · rw [pk_un e]
    exact h j
def sb_cat (t : Nat → Nat) (n : Nat) (s : Nat → Nat) : Nat → Nat := fun j => if j < n then t j else s (j - n)
theorem sb_cat_lo {t s : Nat → Nat} {n j : Nat} (h : j < n) : sb_cat t n s j = t j := if_pos h
theorem sb_cat_hi {t s : Nat → Nat} {n j : Nat} : sb_cat t n s (n + j) = s j := by
  show (if n + j < n then t (n + j) else s (n + j - n)) = s j
  rw [if_neg (by omega), Nat.add_sub_cancel_left]
theorem sb_latPut {t s : Nat → Nat} {n w : Nat} {a a' : Nat → Int32} (h : sb_Lat t n a) (hk : ∀ j, j < n → a' j = a j) (hs : ∀ i, i < w → s i < 256 ∧ a' (n + i) = sb_b (s i)) : sb_Lat (sb_cat t n s) (n + w) a' := by
  intro j hj
  by_cases e : j < n
  · rw [sb_cat_lo e, hk j e]
    exact h j e
  · obtain ⟨i, rfl⟩ : ∃ i, j = n + i := ⟨j - n, by omega⟩
    rw [sb_cat_hi]
    exact hs i (by omega)
theorem sb_latKeep {t : Nat → Nat} {n : Nat} {a a' : Nat → Int32} (h : sb_Lat t n a) (hk : ∀ j, j < n → a' j = a j) : sb_Lat t n a' := fun j hj => by
  rw [hk j hj]
  exact h j hj
def sb_cap (q m : Nat) : Nat := if q ≤ m then m else if 2 * m + 2 < q then q else 2 * m + 2
def sb_Room (q m mc ms : Nat) : Prop := q ≤ m ∨ (1 ≤ mc ∧ sb_cap q m ≤ ms ∧ sb_cap q m ≤ 65536)
theorem sb_cap_ge (q m : Nat) : q ≤ sb_cap q m := by
  unfold sb_cap
  split
  · omega
  · split <;> omega
theorem sb_cap_gem (q m : Nat) : m ≤ sb_cap q m := by
  unfold sb_cap
  split
  · omega
  · split <;> omega
theorem sb_cap_le {q m mc ms : Nat} (hm : m ≤ 65536) (hr : sb_Room q m mc ms) : sb_cap q m ≤ 65536 := by
  rcases hr with h | h
  · rw [sb_cap, if_pos h]
    exact hm
  · exact h.2.2
theorem sb_at {P : Int32 → Prop} {x y : Int32} (e : x = y) (h : P y) : P x := e ▸ h
def sb_dg (w : Nat) : Nat := if w < 10 then 1 else if w < 100 then 2 else if w < 1000 then 3 else if w < 10000 then 4 else if w < 100000 then 5 else if w < 1000000 then 6 else if w < 10000000 then 7 else if w < 100000000 then 8 else if w < 1000000000 then 9 else 10
def sb_dec (v : Nat) : Nat → Nat := fun i => 48 + v / 10 ^ (sb_dg v - 1 - i) % 10
theorem sb_dg_in (w : Nat) : 1 ≤ sb_dg w ∧ sb_dg w ≤ 10 := by
  unfold sb_dg
  constructor <;> (repeat' split) <;> omega
theorem sb_dg100 {w : Nat} (h : 100 ≤ w) (hw : w < 2 ^ 31) : sb_dg w = sb_dg (w / 100) + 2 := by
  rw [sb_dg, sb_dg, if_neg (show ¬ w < 10 by omega), if_neg (show ¬ w < 100 by omega)]
  by_cases h3 : w < 1000
  · rw [if_pos h3, if_pos (show w / 100 < 10 by omega)]
  rw [if_neg h3, if_neg (show ¬ w / 100 < 10 by omega)]
  by_cases h4 : w < 10000
  · rw [if_pos h4, if_pos (show w / 100 < 100 by omega)]
  rw [if_neg h4, if_neg (show ¬ w / 100 < 100 by omega)]
  by_cases h5 : w < 100000
  · rw [if_pos h5, if_pos (show w / 100 < 1000 by omega)]
  rw [if_neg h5, if_neg (show ¬ w / 100 < 1000 by omega)]
  by_cases h6 : w < 1000000
  · rw [if_pos h6, if_pos (show w / 100 < 10000 by omega)]
  rw [if_neg h6, if_neg (show ¬ w / 100 < 10000 by omega)]
  by_cases h7 : w < 10000000
  · rw [if_pos h7, if_pos (show w / 100 < 100000 by omega)]
  rw [if_neg h7, if_neg (show ¬ w / 100 < 100000 by omega)]
  by_cases h8 : w < 100000000
  · rw [if_pos h8, if_pos (show w / 100 < 1000000 by omega)]
  rw [if_neg h8, if_neg (show ¬ w / 100 < 1000000 by omega)]
  by_cases h9 : w < 1000000000
  · rw [if_pos h9, if_pos (show w / 100 < 10000000 by omega)]
  rw [if_neg h9, if_neg (show ¬ w / 100 < 10000000 by omega)]
  rw [if_pos (show w / 100 < 100000000 by omega)]
theorem sb_negT {w : Nat} (h : w < 2 ^ 31) : (-nI w).toInt = -(w : Int) := by
  rw [Int32.toInt_neg, nI_toInt h]
  exact Int.bmod_eq_of_le (by omega) (by omega)
theorem sb_nle {a b : Nat} (ha : a < 2 ^ 31) (hb : b < 2 ^ 31) : -nI a ≤ -nI b ↔ b ≤ a := by
  rw [Int32.le_iff_toInt_le, sb_negT ha, sb_negT hb]
  omega
theorem sb_nlt {a b : Nat} (ha : a < 2 ^ 31) (hb : b < 2 ^ 31) : -nI a < -nI b ↔ b < a := by
  rw [Int32.lt_iff_toInt_lt, sb_negT ha, sb_negT hb]
  omega
theorem sb_cmp {A B : Prop} {x : Int32} (v c : Nat) (f : c ≤ v → A) (g : v < c → B) (hv : v < 2 ^ 31) (hx : x = -nI c := by rfl) (hc : c < 2 ^ 31 := by omega) : (-nI v ≤ x → A) ∧ (¬ -nI v ≤ x → B) := by
  subst hx
  rw [sb_nle hv hc]
  exact ⟨f, fun z => g (by omega)⟩
theorem sb_ndiv {w : Nat} (hw : w < 2 ^ 31) : (-nI w) / 100 = -nI (w / 100) := by
  apply Int32.toInt_inj.mp
  have h100 : (100 : Int32).toInt = 100 := by decide
  rw [Int32.toInt_div, sb_negT hw, h100, sb_negT (by omega), Int.neg_tdiv, Int.tdiv_eq_ediv_of_nonneg (by omega), Int.bmod_eq_of_le (by omega) (by omega)]
  omega
theorem sb_nrem {w : Nat} (hw : w < 2 ^ 31) : (-nI (w / 100)) * 100 - (-nI w) = nI (w % 100) := by
  have h := pk_rem (a := w) (d := 100) hw (by decide) (by decide)
  rw [pk_div hw (by decide) (by decide)] at h
  rw [← h]
  show (-nI (w / 100)) * nI 100 - (-nI w) = nI w - nI (w / 100) * nI 100
  rw [Int32.neg_mul, Int32.sub_neg, Int32.add_comm, ← Int32.sub_eq_add_neg]
end
section
/-! names: hc_ pure rows, hx_ the component's walks, hy_ the reference's, hr_ the relation -/
theorem hc_at {a : Nat → Int32} {x v : Int32} {n : Nat} (ex : x = nI n) (hn : n < 2 ^ 31) (h : a n = v) : a x.toNatClampNeg = v := by
  subst ex
  rw [nI_clamp hn]
  exact h
theorem hc_up {a : Nat → Int32} {x v w : Int32} {n : Nat} (ex : x = nI n) (hn : n < 2 ^ 31) (hv : v = w) : upd a x.toNatClampNeg v = upd a n w := by
  subst ex hv
  rw [nI_clamp hn]
theorem hc_i {x : Int32} {n N : Nat} (ex : x = nI n) (h : n < N) (hN : N < 2 ^ 31) : vp_in x N := by
  subst ex
  exact vp_in_nI h hN
theorem hc_add {x y : Int32} {a b : Nat} (hx : x = nI a) (hy : y = nI b) : x + y = nI (a + b) := by
  subst hx hy
  exact nI_add a b
theorem hc_mul {x y : Int32} {a b : Nat} (hx : x = nI a) (hy : y = nI b) : x * y = nI (a * b) := by
  subst hx hy
  exact pk_mul a b
theorem hc_sub {x y : Int32} {a b : Nat} (hx : x = nI a) (hy : y = nI b) (h : b ≤ a) : x - y = nI (a - b) := by
  subst hx hy
  exact pk_sub h
theorem hc_nx {x : Int32} {a b : Nat} (hx : x = nI a) (h : a = b) : x = nI b := by
  subst h
  exact hx
theorem hc_nar : ∀ x, x < 128 → (nI x).toInt8.toInt32 = nI x := by decide +kernel
theorem hc_nar1 {x : Nat} (h : x < 128) : vp_nar .byte (nI x) = nI x := by rw [vp_nar_byte, hc_nar x h]
theorem hc_nar2 {x : Nat} (h : x < 128) : vp_nar .byte (nI x).toInt8.toInt32 = nI x := by rw [hc_nar x h, hc_nar1 h]
theorem hc_m1 {x : Int32} {n : Nat} (hx : x = nI n) (h : 0 < n) : x + (-1) = nI (n - 1) := by
  subst hx
  obtain ⟨k, rfl⟩ : ∃ k, n = k + 1 := ⟨n - 1, by omega⟩
  exact pk_m1 k
/-- the mask of b bits, and masking by it -/
theorem hc_msk : ∀ b, b < 16 → ((1 : Int32) <<< (nI b &&& 31)) - 1 = nI (2 ^ b - 1) := by decide +kernel
theorem hc_mbn : ∀ b, b < 16 → (nI (2 ^ b - 1)).toBitVec.toNat = 2 ^ b - 1 := by decide +kernel
theorem hc_and {n b : Nat} (hn : n < 2 ^ 32) (hb : b < 16) : nI n &&& nI (2 ^ b - 1) = nI (n % 2 ^ b) := pk_andN hn b (hc_mbn b hb)
theorem hc_sl : ∀ n, n < 32 → ((nI n &&& 31).toBitVec.smod 32).toNat = n := by decide +kernel
theorem hc_shl {a k : Nat} (hk : k < 32) (h : a * 2 ^ k < 2 ^ 32) : nI a <<< (nI k &&& 31) = nI (a * 2 ^ k) := pk_shlN _ k (hc_sl k hk) h
theorem hc_shr {a k : Nat} (hk : k < 32) (h : a < 2 ^ 31) : nI a >>> (nI k &&& 31) = nI (a / 2 ^ k) := pk_shrN h _ k (hc_sl k hk)
theorem hc_or (a b : Nat) : nI a ||| nI b = nI (a ||| b) := by
  apply Int32.toBitVec_inj.mp
  show BitVec.ofNat 32 a ||| BitVec.ofNat 32 b = BitVec.ofNat 32 (a ||| b)
  apply BitVec.eq_of_getLsbD_eq
  intro i hi
  simp [hi]
theorem hc_orN {a k b : Nat} (h : b < 2 ^ k) : a * 2 ^ k ||| b = a * 2 ^ k + b := by
  rw [Nat.mul_comm]
  exact (Nat.two_pow_add_eq_or_of_lt h a).symm

/-! ### lists -/
theorem hc_ga {α : Type} (l : List α) (c d : α) (j : Nat) : (l ++ [c]).getD j d = if j < l.length then l.getD j d else if j = l.length then c else d := by
  by_cases h : j < l.length
  · rw [if_pos h, List.getD_eq_getElem?_getD, List.getD_eq_getElem?_getD, List.getElem?_append_left h]
  · rw [if_neg h, List.getD_eq_getElem?_getD, List.getElem?_append_right (by omega)]
    by_cases h2 : j = l.length
    · subst h2
      simp
    · rw [if_neg h2]
      obtain ⟨k, hk⟩ : ∃ k, j - l.length = k + 1 := ⟨j - l.length - 1, by omega⟩
      rw [hk]
      rfl
theorem hc_ext : ∀ (l m : List Nat), l.length = m.length → (∀ j, j < l.length → l.getD j 0 = m.getD j 0) → l = m
  | [], [], _, _ => rfl
  | [], _ :: _, h, _ => by simp at h
  | _ :: _, [], h, _ => by simp at h
  | a :: l, b :: m, h, h2 => by
    have h0 : a = b := h2 0 (by simp)
    have e := hc_ext l m (by simpa using h) (fun j hj => h2 (j + 1) (by simpa using hj))
    rw [h0, e]
theorem hc_gm : ∀ (l : List Nat) (j : Nat), j < l.length → l.getD j 0 ∈ l
  | [], _, h => by simp at h
  | a :: l, 0, _ => List.mem_cons_self
  | a :: l, j + 1, h => List.mem_cons_of_mem _ (hc_gm l j (by simpa using h))
theorem hc_mg : ∀ (l : List Nat) (x : Nat), x ∈ l → ∃ j, j < l.length ∧ l.getD j 0 = x
  | [], _, h => by simp at h
  | a :: l, x, h => by
    rcases List.mem_cons.mp h with rfl | h
    · exact ⟨0, by simp, rfl⟩
    · obtain ⟨j, hj, e⟩ := hc_mg l x h
      exact ⟨j + 1, by simpa using hj, e⟩
theorem hc_gt {α : Type} : ∀ (l : List α) (d : α) (k i : Nat), i < k → (l.take k).getD i d = l.getD i d
  | [], _, k, i, _ => by simp
  | a :: l, d, 0, i, h => by omega
  | a :: l, d, k + 1, 0, _ => rfl
  | a :: l, d, k + 1, i + 1, h => hc_gt l d k i (by omega)

/-! ### texts and fields -/
abbrev hc_Fd : Type := List Nat × List Nat
def hc_f0 : hc_Fd := ([], [])
def hc_ut (T : Nat → List Nat) (k : Nat) (l : List Nat) : Nat → List Nat := fun j => if j = k then l else T j
theorem hc_us {T : Nat → List Nat} {k : Nat} {l : List Nat} : hc_ut T k l k = l := if_pos rfl
theorem hc_un {T : Nat → List Nat} {k j : Nat} {l : List Nat} (h : j ≠ k) : hc_ut T k l j = T j := if_neg h
def hc_fl (T : Nat → List Nat) (s : Nat) : hc_Fd := (T (2 * s), T (2 * s + 1))
def hc_uf (T : Nat → List Nat) (s : Nat) (f : hc_Fd) : Nat → List Nat := hc_ut (hc_ut T (2 * s) f.1) (2 * s + 1) f.2
theorem hc_ufn {T : Nat → List Nat} {s x : Nat} {f : hc_Fd} (h : x ≠ 2 * s) (h1 : x ≠ 2 * s + 1) : hc_uf T s f x = T x := by
  unfold hc_uf
  rw [hc_un h1, hc_un h]
theorem hc_ufs {T : Nat → List Nat} {s : Nat} {f : hc_Fd} : hc_fl (hc_uf T s f) s = f := by
  unfold hc_fl hc_uf
  rw [hc_us, hc_un (by omega), hc_us]
theorem hc_ufo {T : Nat → List Nat} {s r : Nat} {f : hc_Fd} (h : r ≠ s) : hc_fl (hc_uf T s f) r = hc_fl T r := by
  unfold hc_fl
  rw [hc_ufn (by omega) (by omega), hc_ufn (by omega) (by omega)]
theorem hc_flc {T T' : Nat → List Nat} {s s' : Nat} (h : T' (2 * s') = T (2 * s)) (h1 : T' (2 * s' + 1) = T (2 * s + 1)) : hc_fl T' s' = hc_fl T s := by
  unfold hc_fl
  rw [h, h1]
def hc_fz (f : hc_Fd) : Nat := f.1.length + f.2.length + 8
def hc_ts : List hc_Fd → Nat
  | [] => 0
  | f :: r => hc_fz f + hc_ts r
theorem hc_ts8 : ∀ l : List hc_Fd, 8 * l.length ≤ hc_ts l
  | [] => Nat.le_refl 0
  | f :: r => by
    have := hc_ts8 r
    simp only [hc_ts, hc_fz, List.length_cons]
    omega
theorem hc_tsS : ∀ (l : List hc_Fd) (k : Nat), k < l.length → hc_ts (l.take (k + 1)) = hc_ts (l.take k) + hc_fz (l.getD k hc_f0)
  | [], _, h => by simp at h
  | f :: r, 0, _ => by simp [hc_ts]
  | f :: r, k + 1, h => by
    have := hc_tsS r k (by simpa using h)
    simp only [List.take_succ_cons, hc_ts, List.getD_cons_succ]
    omega
/-- what is left of the first k entries when the oldest go until the size and e fit into cap -/
def hc_en (tb : List hc_Fd) (e cap : Nat) : Nat → Nat
  | 0 => 0
  | k + 1 => if cap < hc_ts (tb.take (k + 1)) + e then hc_en tb e cap k else k + 1
def hc_ev (tb : List hc_Fd) (e cap : Nat) : List hc_Fd := tb.take (hc_en tb e cap tb.length)
theorem hc_enL (tb : List hc_Fd) (e cap : Nat) : ∀ k, hc_en tb e cap k ≤ k
  | 0 => Nat.le_refl 0
  | k + 1 => by
    have := hc_enL tb e cap k
    unfold hc_en
    split <;> omega
theorem hc_enF (tb : List hc_Fd) (e cap : Nat) : ∀ k, hc_en tb e cap k = 0 ∨ hc_ts (tb.take (hc_en tb e cap k)) + e ≤ cap
  | 0 => Or.inl rfl
  | k + 1 => by
    have := hc_enF tb e cap k
    unfold hc_en
    split
    · exact this
    · exact Or.inr (by omega)
theorem hc_evL (tb : List hc_Fd) (e cap : Nat) : (hc_ev tb e cap).length = hc_en tb e cap tb.length := by
  unfold hc_ev
  rw [List.length_take]
  exact Nat.min_eq_left (hc_enL tb e cap tb.length)
theorem hc_evF (tb : List hc_Fd) (e cap : Nat) (h : e ≤ cap) : hc_ts (hc_ev tb e cap) + e ≤ cap := by
  unfold hc_ev
  rcases hc_enF tb e cap tb.length with z | z
  · rw [z]
    simp only [List.take_zero, hc_ts]
    omega
  · exact z
theorem hc_evZ (tb : List hc_Fd) (e cap : Nat) (h : cap < e) : hc_ev tb e cap = [] := by
  unfold hc_ev
  rcases hc_enF tb e cap tb.length with z | z
  · rw [z]
    rfl
  · omega
def hc_in (tb : List hc_Fd) (f : hc_Fd) (cap : Nat) : List hc_Fd := if hc_fz f ≤ cap then f :: hc_ev tb (hc_fz f) cap else hc_ev tb (hc_fz f) cap
theorem hc_inF (tb : List hc_Fd) (f : hc_Fd) (cap : Nat) : hc_ts (hc_in tb f cap) ≤ cap := by
  unfold hc_in
  split
  · rename_i h
    have := hc_evF tb (hc_fz f) cap h
    simp only [hc_ts]
    omega
  · rename_i h
    rw [hc_evZ tb _ cap (by omega)]
    exact Nat.zero_le _
end
section
/-! ### the code: bits and numbers of the words, the octets by number -/
def hc_cbl : List Nat := [14, 14, 14, 14, 14, 14, 14, 14, 14, 14, 14, 14, 14, 14, 14, 14, 14, 14, 14, 14, 14, 14, 14, 14, 14, 14, 14, 14, 14, 14, 14, 14, 6, 14, 14, 14, 14, 6, 8, 14, 14, 14, 8, 14, 8, 6, 6, 6, 5, 5, 5, 6, 6, 6, 6, 6, 6, 6, 7, 8, 14, 6, 14, 14, 14, 6, 7, 7, 7, 7, 7, 7, 7, 7, 7, 7, 7, 7, 7, 7, 7, 7, 7, 7, 7, 7, 7, 7, 8, 7, 8, 14, 14, 14, 14, 6, 14, 5, 6, 5, 6, 5, 6, 6, 6, 5, 7, 7, 6, 6, 6, 5, 6, 7, 6, 5, 5, 6, 7, 7, 7, 7, 7, 14, 14, 14, 14, 14]
def hc_cwl : List Nat := [16256, 16257, 16258, 16259, 16260, 16261, 16262, 16263, 16264, 16265, 16266, 16267, 16268, 16269, 16270, 16271, 16272, 16273, 16274, 16275, 16276, 16277, 16278, 16279, 16280, 16281, 16282, 16283, 16284, 16285, 16286, 16287, 20, 16288, 16289, 16290, 16291, 21, 248, 16292, 16293, 16294, 249, 16295, 250, 22, 23, 24, 0, 1, 2, 25, 26, 27, 28, 29, 30, 31, 92, 251, 16296, 32, 16297, 16298, 16299, 33, 93, 94, 95, 96, 97, 98, 99, 100, 101, 102, 103, 104, 105, 106, 107, 108, 109, 110, 111, 112, 113, 114, 252, 115, 253, 16300, 16301, 16302, 16303, 34, 16304, 3, 35, 4, 36, 5, 37, 38, 39, 6, 116, 117, 40, 41, 42, 7, 43, 118, 44, 8, 9, 45, 119, 120, 121, 122, 123, 16305, 16306, 16307, 16308, 16309]
def hc_syl : List Nat := [48, 49, 50, 97, 99, 101, 105, 111, 115, 116, 32, 37, 45, 46, 47, 51, 52, 53, 54, 55, 56, 57, 61, 65, 95, 98, 100, 102, 103, 104, 108, 109, 110, 112, 114, 117, 58, 66, 67, 68, 69, 70, 71, 72, 73, 74, 75, 76, 77, 78, 79, 80, 81, 82, 83, 84, 85, 86, 87, 89, 106, 107, 113, 118, 119, 120, 121, 122, 38, 42, 44, 59, 88, 90, 0, 1, 2, 3, 4, 5, 6, 7, 8, 9, 10, 11, 12, 13, 14, 15, 16, 17, 18, 19, 20, 21, 22, 23, 24, 25, 26, 27, 28, 29, 30, 31, 33, 34, 35, 36, 39, 40, 41, 43, 60, 62, 63, 64, 91, 92, 93, 94, 96, 123, 124, 125, 126, 127]
def hc_cb (c : Nat) : Nat := hc_cbl.getD c 14
def hc_cw (c : Nat) : Nat := hc_cwl.getD c 0
def hc_sy (j : Nat) : Nat := hc_syl.getD j 0
/-- number of octets below m with words of b bits -/
def hc_rk (b : Nat) : Nat → Nat
  | 0 => 0
  | m + 1 => hc_rk b m + if hc_cb m = b then 1 else 0
def hc_cf (b : Nat) : Nat := if b = 5 then 0 else if b = 6 then 20 else if b = 7 then 92 else if b = 8 then 248 else 16256
def hc_cs (b : Nat) : Nat := if b = 5 then 0 else if b = 6 then 10 else if b = 7 then 36 else if b = 8 then 68 else 74
def hc_cn (b : Nat) : Nat := if b = 5 then 10 else if b = 6 then 26 else if b = 7 then 32 else if b = 8 then 6 else 54
/-- the bits of the k-th kind of words -/
def hc_kb (k : Nat) : Nat := if k = 0 then 5 else if k = 1 then 6 else if k = 2 then 7 else if k = 3 then 8 else 14
theorem hc_cwr : ∀ c, c < 128 → hc_cw c = hc_cf (hc_cb c) + hc_rk (hc_cb c) c := by decide +kernel
theorem hc_syr : ∀ c, c < 128 → hc_sy (hc_cs (hc_cb c) + hc_rk (hc_cb c) c) = c ∧ hc_cs (hc_cb c) + hc_rk (hc_cb c) c < 128 := by decide +kernel
theorem hc_rk128 : hc_rk 5 128 = 10 ∧ hc_rk 6 128 = 26 ∧ hc_rk 7 128 = 32 ∧ hc_rk 8 128 = 6 ∧ hc_rk 14 128 = 54 := by decide +kernel
/-- where the words of each length lie -/
def hc_rg (b w : Nat) : Prop := (b = 5 ∧ w < 10) ∨ (b = 6 ∧ 20 ≤ w ∧ w < 46) ∨ (b = 7 ∧ 92 ≤ w ∧ w < 124) ∨ (b = 8 ∧ 248 ≤ w ∧ w < 254) ∨ (b = 14 ∧ 16256 ≤ w ∧ w < 16310)
theorem hc_rng : ∀ c, c < 128 → hc_rg (hc_cb c) (hc_cw c) := by unfold hc_rg; decide +kernel
theorem hc_syb : ∀ j, j < 128 → hc_sy j < 128 := by decide +kernel
theorem hc_sy5 : ∀ r, r < 10 → hc_cb (hc_sy (0 + r)) = 5 ∧ hc_cw (hc_sy (0 + r)) = 0 + r := by decide +kernel
theorem hc_sy6 : ∀ r, r < 26 → hc_cb (hc_sy (10 + r)) = 6 ∧ hc_cw (hc_sy (10 + r)) = 20 + r := by decide +kernel
theorem hc_sy7 : ∀ r, r < 32 → hc_cb (hc_sy (36 + r)) = 7 ∧ hc_cw (hc_sy (36 + r)) = 92 + r := by decide +kernel
theorem hc_sy8 : ∀ r, r < 6 → hc_cb (hc_sy (68 + r)) = 8 ∧ hc_cw (hc_sy (68 + r)) = 248 + r := by decide +kernel
theorem hc_sy14 : ∀ r, r < 54 → hc_cb (hc_sy (74 + r)) = 14 ∧ hc_cw (hc_sy (74 + r)) = 16256 + r := by decide +kernel
theorem hc_syk {k r : Nat} (hk : k < 5) (hr : r < hc_cn (hc_kb k)) : hc_cs (hc_kb k) + r < 128 ∧ hc_sy (hc_cs (hc_kb k) + r) < 128 ∧ hc_cb (hc_sy (hc_cs (hc_kb k) + r)) = hc_kb k ∧ hc_cw (hc_sy (hc_cs (hc_kb k) + r)) = hc_cf (hc_kb k) + r := by
  have e : k = 0 ∨ k = 1 ∨ k = 2 ∨ k = 3 ∨ k = 4 := by omega
  rcases e with rfl | rfl | rfl | rfl | rfl
  · have hr : r < 10 := hr
    exact ⟨by show 0 + r < 128; omega, hc_syb _ (by show 0 + r < 128; omega), hc_sy5 r hr⟩
  · have hr : r < 26 := hr
    exact ⟨by show 10 + r < 128; omega, hc_syb _ (by show 10 + r < 128; omega), hc_sy6 r hr⟩
  · have hr : r < 32 := hr
    exact ⟨by show 36 + r < 128; omega, hc_syb _ (by show 36 + r < 128; omega), hc_sy7 r hr⟩
  · have hr : r < 6 := hr
    exact ⟨by show 68 + r < 128; omega, hc_syb _ (by show 68 + r < 128; omega), hc_sy8 r hr⟩
  · have hr : r < 54 := hr
    exact ⟨by show 74 + r < 128; omega, hc_syb _ (by show 74 + r < 128; omega), hc_sy14 r hr⟩
theorem hc_cb14 {c : Nat} (h : c < 128) : 5 ≤ hc_cb c ∧ hc_cb c ≤ 14 := by
  rcases hc_rng c h with z | z | z | z | z <;> omega
theorem hc_cw14 {c : Nat} (h : c < 128) : hc_cw c < 2 ^ hc_cb c := by
  rcases hc_rng c h with ⟨e, z⟩ | ⟨e, z⟩ | ⟨e, z⟩ | ⟨e, z⟩ | ⟨e, z⟩ <;> rw [e] <;> omega
theorem hc_kc {c : Nat} (h : c < 128) : ∃ k, k < 5 ∧ hc_cb c = hc_kb k ∧ hc_cf (hc_kb k) ≤ hc_cw c ∧ hc_cw c < hc_cf (hc_kb k) + hc_cn (hc_kb k) := by
  rcases hc_rng c h with ⟨e, z⟩ | ⟨e, z⟩ | ⟨e, z⟩ | ⟨e, z⟩ | ⟨e, z⟩
  · exact ⟨0, by decide, e, by show 0 ≤ _; omega, by show _ < 0 + 10; omega⟩
  · exact ⟨1, by decide, e, by show 20 ≤ _; omega, by show _ < 20 + 26; omega⟩
  · exact ⟨2, by decide, e, by show 92 ≤ _; omega, by show _ < 92 + 32; omega⟩
  · exact ⟨3, by decide, e, by show 248 ≤ _; omega, by show _ < 248 + 6; omega⟩
  · exact ⟨4, by decide, e, by show 16256 ≤ _; omega, by show _ < 16256 + 54; omega⟩
/-- no word is the beginning of another -/
theorem hc_inj {c d : Nat} (hc : c < 128) (hd : d < 128) (eb : hc_cb c = hc_cb d) (ew : hc_cw c = hc_cw d) : c = d := by
  have h1 := hc_syr c hc
  have h2 := hc_syr d hd
  have e1 := hc_cwr c hc
  have e2 := hc_cwr d hd
  rw [eb] at h1 e1
  have e3 : hc_rk (hc_cb d) c = hc_rk (hc_cb d) d := by omega
  rw [e3] at h1
  exact h1.1.symm.trans h2.1
theorem hc_pre {b b' w w' : Nat} (h : hc_rg b w) (h' : hc_rg b' w') (hl : b ≤ b') (e : w' / 2 ^ (b' - b) = w) : b = b' ∧ w = w' := by
  unfold hc_rg at h h'
  rcases h with ⟨rfl, z⟩ | ⟨rfl, z⟩ | ⟨rfl, z⟩ | ⟨rfl, z⟩ | ⟨rfl, z⟩ <;> rcases h' with ⟨rfl, y⟩ | ⟨rfl, y⟩ | ⟨rfl, y⟩ | ⟨rfl, y⟩ | ⟨rfl, y⟩ <;> simp at e hl ⊢ <;> omega

/-! ### numbers written in bits -/
def hc_bv (β : Nat → Nat) (p : Nat) : Nat → Nat
  | 0 => 0
  | n + 1 => 2 * hc_bv β p n + β (p + n)
theorem hc_bvA (β : Nat → Nat) (p a : Nat) : ∀ b, hc_bv β p (a + b) = hc_bv β p a * 2 ^ b + hc_bv β (p + a) b
  | 0 => by simp [hc_bv]
  | b + 1 => by
    have := hc_bvA β p a b
    show 2 * hc_bv β p (a + b) + β (p + (a + b)) = _ * 2 ^ (b + 1) + (2 * hc_bv β (p + a) b + β (p + a + b))
    rw [this, Nat.add_assoc p a b, Nat.pow_succ, Nat.mul_add, ← Nat.mul_assoc, Nat.mul_comm 2 (hc_bv β p a), Nat.mul_assoc, Nat.mul_comm 2 (2 ^ b)]
    omega
theorem hc_bvL {β : Nat → Nat} (h : ∀ j, β j < 2) (p : Nat) : ∀ n, hc_bv β p n < 2 ^ n
  | 0 => by simp [hc_bv]
  | n + 1 => by
    have h1 := hc_bvL h p n
    have h2 := h (p + n)
    rw [Nat.pow_succ]
    show 2 * hc_bv β p n + β (p + n) < _
    omega
theorem hc_bvC {β γ : Nat → Nat} {p : Nat} : ∀ {n : Nat}, (∀ j, p ≤ j → j < p + n → β j = γ j) → hc_bv β p n = hc_bv γ p n
  | 0, _ => rfl
  | n + 1, h => by
    show 2 * hc_bv β p n + β (p + n) = 2 * hc_bv γ p n + γ (p + n)
    rw [hc_bvC (fun j h1 h2 => h j h1 (by omega)), h (p + n) (by omega) (by omega)]
theorem hc_bvS {β γ : Nat → Nat} {p q : Nat} : ∀ {n : Nat}, (∀ j, j < n → β (p + j) = γ (q + j)) → hc_bv β p n = hc_bv γ q n
  | 0, _ => rfl
  | n + 1, h => by
    show 2 * hc_bv β p n + β (p + n) = 2 * hc_bv γ q n + γ (q + n)
    rw [hc_bvS (fun j h1 => h j (by omega)), h n (by omega)]
theorem hc_bvD {β : Nat → Nat} (h : ∀ j, β j < 2) (p a b : Nat) : hc_bv β p (a + b) / 2 ^ b = hc_bv β p a := by
  rw [hc_bvA, Nat.mul_comm, Nat.mul_add_div (Nat.two_pow_pos b), Nat.div_eq_of_lt (hc_bvL h _ b), Nat.add_zero]
theorem hc_bvM {β : Nat → Nat} (h : ∀ j, β j < 2) (p a b : Nat) : hc_bv β p (a + b) % 2 ^ b = hc_bv β (p + a) b := by
  rw [hc_bvA, Nat.mul_comm, Nat.mul_add_mod, Nat.mod_eq_of_lt (hc_bvL h _ b)]
theorem hc_bvW (v n : Nat) (hv : v < 2 ^ n) : ∀ k, k ≤ n → hc_bv (fun j => v / 2 ^ (n - 1 - j) % 2) 0 k = v / 2 ^ (n - k)
  | 0, _ => (Nat.div_eq_of_lt hv).symm
  | k + 1, h => by
    have e := hc_bvW v n hv k (by omega)
    show 2 * hc_bv (fun j => v / 2 ^ (n - 1 - j) % 2) 0 k + v / 2 ^ (n - 1 - (0 + k)) % 2 = _
    rw [e]
    have e1 : n - k = (n - (k + 1)) + 1 := by omega
    have e2 : n - 1 - (0 + k) = n - (k + 1) := by omega
    rw [e1, e2, Nat.pow_succ, ← Nat.div_div_eq_div_mul]
    generalize v / 2 ^ (n - (k + 1)) = x
    omega
theorem hc_bv1 (p : Nat) : ∀ n (β : Nat → Nat), (∀ j, p ≤ j → j < p + n → β j = 1) → hc_bv β p n = 2 ^ n - 1
  | 0, _, _ => rfl
  | n + 1, β, h => by
    show 2 * hc_bv β p n + β (p + n) = _
    rw [hc_bv1 p n β (fun j h1 h2 => h j h1 (by omega)), h (p + n) (by omega) (by omega), Nat.pow_succ]
    have := Nat.two_pow_pos n
    omega
/-- cutting one bit out -/
theorem hc_bvX {β γ : Nat → Nat} {p q : Nat} (hb : β q = 1) (hg : γ q = 0) (hs : ∀ j, j ≠ q → γ j = β j) : ∀ n, p ≤ q → q < p + n → hc_bv γ p n + 2 ^ (p + n - 1 - q) = hc_bv β p n
  | 0, h1, h2 => by omega
  | n + 1, h1, h2 => by
    show 2 * hc_bv γ p n + γ (p + n) + _ = 2 * hc_bv β p n + β (p + n)
    by_cases e : q = p + n
    · subst e
      have e1 : p + (n + 1) - 1 - (p + n) = 0 := by omega
      rw [hb, hg, e1, hc_bvC (β := γ) (γ := β) (fun j h1 h2 => hs j (by omega))]
    · have := hc_bvX hb hg hs n h1 (by omega)
      have e1 : p + (n + 1) - 1 - q = (p + n - 1 - q) + 1 := by omega
      rw [hs (p + n) (by omega), e1, Nat.pow_succ]
      omega

/-! ### a text's words one behind another; ones follow -/
def hc_sb : List Nat → Nat → Nat
  | [], _ => 1
  | c :: r, j => if j < hc_cb c then hc_cw c / 2 ^ (hc_cb c - 1 - j) % 2 else hc_sb r (j - hc_cb c)
def hc_tt : List Nat → Nat
  | [] => 0
  | c :: r => hc_cb c + hc_tt r
theorem hc_sb2 : ∀ (l : List Nat) (j : Nat), hc_sb l j < 2
  | [], _ => by simp [hc_sb]
  | c :: r, j => by
    unfold hc_sb
    split
    · exact Nat.mod_lt _ (by decide)
    · exact hc_sb2 r _
theorem hc_sb1 : ∀ (l : List Nat) (j : Nat), hc_tt l ≤ j → hc_sb l j = 1
  | [], _, _ => rfl
  | c :: r, j, h => by
    unfold hc_tt at h
    unfold hc_sb
    rw [if_neg (by omega)]
    exact hc_sb1 r _ (by omega)
theorem hc_ttS : ∀ (l : List Nat) (j : Nat), j < l.length → hc_tt (l.take (j + 1)) = hc_tt (l.take j) + hc_cb (l.getD j 0)
  | [], _, h => by simp at h
  | c :: r, 0, _ => by simp [hc_tt]
  | c :: r, j + 1, h => by
    have := hc_ttS r j (by simpa using h)
    simp only [List.take_succ_cons, hc_tt, List.getD_cons_succ]
    omega
theorem hc_ttL (l : List Nat) : hc_tt (l.take l.length) = hc_tt l := by rw [List.take_length]
theorem hc_ttM : ∀ (l : List Nat) (j : Nat), hc_tt (l.take j) ≤ hc_tt l
  | [], j => by simp
  | c :: r, 0 => by simp [hc_tt]
  | c :: r, j + 1 => by
    have := hc_ttM r j
    simp only [List.take_succ_cons, hc_tt]
    omega
theorem hc_tt14 : ∀ l : List Nat, (∀ x, x ∈ l → x < 128) → hc_tt l ≤ 14 * l.length
  | [], _ => by simp [hc_tt]
  | c :: r, h => by
    have h1 := hc_tt14 r (fun x hx => h x (List.mem_cons_of_mem _ hx))
    have h2 := hc_cb14 (h c List.mem_cons_self)
    simp only [hc_tt, List.length_cons]
    omega
/-- the bits from the j-th octet's place on are its word -/
theorem hc_sbW : ∀ (l : List Nat) (j : Nat), j < l.length → l.getD j 0 < 128 → ∀ i, i < hc_cb (l.getD j 0) → hc_sb l (hc_tt (l.take j) + i) = hc_cw (l.getD j 0) / 2 ^ (hc_cb (l.getD j 0) - 1 - i) % 2
  | [], _, h, _, _, _ => by simp at h
  | c :: r, 0, _, _, i, hi => by
    have hi : i < hc_cb c := hi
    show hc_sb (c :: r) (0 + i) = _
    rw [Nat.zero_add]
    unfold hc_sb
    rw [if_pos hi]
    rfl
  | c :: r, j + 1, h, h2, i, hi => by
    have e := hc_sbW r j (by simpa using h) h2 i hi
    show hc_sb (c :: r) (hc_cb c + hc_tt (r.take j) + i) = _
    conv => lhs; unfold hc_sb
    rw [if_neg (by omega), show hc_cb c + hc_tt (r.take j) + i - hc_cb c = hc_tt (r.take j) + i from by omega]
    exact e
theorem hc_bvw {l : List Nat} {j : Nat} (hj : j < l.length) (hc : l.getD j 0 < 128) : hc_bv (hc_sb l) (hc_tt (l.take j)) (hc_cb (l.getD j 0)) = hc_cw (l.getD j 0) := by
  rw [hc_bvS (γ := fun i => hc_cw (l.getD j 0) / 2 ^ (hc_cb (l.getD j 0) - 1 - i) % 2) (q := 0) (fun i hi => by rw [hc_sbW l j hj hc i hi, Nat.zero_add])]
  rw [hc_bvW _ _ (hc_cw14 hc) _ (Nat.le_refl _), Nat.sub_self, Nat.pow_zero, Nat.div_one]
end
section
/-! ### entries, and what is written -/
def hc_stl : List hc_Fd := [([58, 97, 117, 116, 104, 111, 114, 105, 116, 121], []), ([58, 109, 101, 116, 104, 111, 100], [71, 69, 84]), ([58, 109, 101, 116, 104, 111, 100], [80, 79, 83, 84]), ([58, 112, 97, 116, 104], [47]), ([58, 112, 97, 116, 104], [47, 105, 110, 100, 101, 120, 46, 104, 116, 109, 108]), ([58, 115, 99, 104, 101, 109, 101], [104, 116, 116, 112]), ([58, 115, 99, 104, 101, 109, 101], [104, 116, 116, 112, 115]), ([58, 115, 116, 97, 116, 117, 115], [50, 48, 48]), ([58, 115, 116, 97, 116, 117, 115], [52, 48, 52]), ([97, 99, 99, 101, 112, 116], [116, 101, 120, 116, 47, 104, 116, 109, 108]), ([97, 103, 101], []), ([99, 111, 111, 107, 105, 101], []), ([104, 111, 115, 116], []), ([118, 105, 97], [])]
def hc_st (i : Nat) : hc_Fd := hc_stl.getD i hc_f0
def hc_et (tb : List hc_Fd) (i : Nat) : hc_Fd := if i ≤ 14 then hc_st (i - 1) else tb.getD (i - 15) hc_f0
def hc_fe (tb : List hc_Fd) (f : hc_Fd) (wh : Nat) : Nat → Nat → Nat
  | 0, _ => 0
  | n + 1, i => if (hc_et tb i).1 = f.1 ∧ (wh = 0 ∨ (hc_et tb i).2 = f.2) then i else hc_fe tb f wh n (i + 1)
def hc_fd (tb : List hc_Fd) (f : hc_Fd) (wh : Nat) : Nat := hc_fe tb f wh (14 + tb.length) 1
theorem hc_feL (tb : List hc_Fd) (f : hc_Fd) (wh : Nat) : ∀ n i, 1 ≤ i → hc_fe tb f wh n i < i + n
  | 0, i, h => by simp only [hc_fe]; omega
  | n + 1, i, h => by
    have := hc_feL tb f wh n (i + 1) (by omega)
    unfold hc_fe
    split <;> omega
theorem hc_fdL (tb : List hc_Fd) (f : hc_Fd) (wh : Nat) : hc_fd tb f wh ≤ 14 + tb.length := by
  have := hc_feL tb f wh (14 + tb.length) 1 (by omega)
  unfold hc_fd
  omega
def hc_wi (ty b v : Nat) : List Nat := if v < 2 ^ b - 1 then [ty + v] else [ty + (2 ^ b - 1), v - (2 ^ b - 1)]
def hc_pk (l : List Nat) : List Nat := (List.range ((hc_tt l + 7) / 8)).map (fun i => hc_bv (hc_sb l) (8 * i) 8)
def hc_ws (l : List Nat) : List Nat := if (hc_tt l + 7) / 8 < l.length then hc_wi 128 7 ((hc_tt l + 7) / 8) ++ hc_pk l else hc_wi 0 7 l.length ++ l
def hc_wl (w : List Nat) (ty b k : Nat) (f : hc_Fd) : List Nat := (if k = 0 then (w ++ hc_wi ty b k) ++ hc_ws f.1 else w ++ hc_wi ty b k) ++ hc_ws f.2
def hc_ef (tb : List hc_Fd) (cap : Nat) (w : List Nat) (f : hc_Fd) (m : Nat) : List Nat × List hc_Fd :=
  if m = 2 then (hc_wl w 16 4 (hc_fd tb f 0) f, tb)
  else if 0 < hc_fd tb f 1 then (w ++ hc_wi 128 7 (hc_fd tb f 1), tb)
  else if m = 0 ∧ hc_fz f ≤ cap then (hc_wl w 64 6 (hc_fd tb f 0) f, hc_in tb f cap)
  else (hc_wl w 0 4 (hc_fd tb f 0) f, tb)
def hc_el (ls : List (hc_Fd × Nat)) (cap : Nat) : Nat → Nat → List Nat → List hc_Fd → List Nat × List hc_Fd
  | 0, _, w, tb => (w, tb)
  | n + 1, i, w, tb => hc_el ls cap n (i + 1) (hc_ef tb cap w (ls.getD i (hc_f0, 0)).1 (ls.getD i (hc_f0, 0)).2).1 (hc_ef tb cap w (ls.getD i (hc_f0, 0)).1 (ls.getD i (hc_f0, 0)).2).2
def hc_ok (f : hc_Fd) : Prop := f.1.length ≤ 16 ∧ f.2.length ≤ 16 ∧ (∀ x, x ∈ f.1 → x < 128) ∧ (∀ x, x ∈ f.2 → x < 128)
theorem hc_wiL (ty b v : Nat) : (hc_wi ty b v).length ≤ 2 := by
  unfold hc_wi
  split <;> simp
theorem hc_wi1 {ty b v : Nat} (h : v < 2 ^ b - 1) : (hc_wi ty b v).length = 1 := by
  unfold hc_wi
  rw [if_pos h]
  rfl
theorem hc_pkL (l : List Nat) : (hc_pk l).length = (hc_tt l + 7) / 8 := by
  unfold hc_pk
  rw [List.length_map, List.length_range]
theorem hc_wsL {l : List Nat} (h : l.length ≤ 16) : (hc_ws l).length ≤ 17 := by
  unfold hc_ws
  split
  · rename_i z
    rw [List.length_append, hc_pkL, hc_wi1 (by omega)]
    omega
  · rw [List.length_append, hc_wi1 (by omega)]
    omega
theorem hc_wlL {w : List Nat} {ty b k : Nat} {f : hc_Fd} (hf : hc_ok f) (hb : b = 4 ∨ b = 6) : (hc_wl w ty b k f).length ≤ w.length + 35 := by
  have h1 := hc_wsL hf.1
  have h2 := hc_wsL hf.2.1
  unfold hc_wl
  by_cases hk : k = 0
  · subst hk
    rw [if_pos rfl]
    have h3 : (hc_wi ty b 0).length = 1 := hc_wi1 (by rcases hb with rfl | rfl <;> decide)
    simp only [List.length_append]
    omega
  · rw [if_neg hk]
    have h3 := hc_wiL ty b k
    simp only [List.length_append]
    omega
theorem hc_efL {tb : List hc_Fd} {cap : Nat} {w : List Nat} {f : hc_Fd} {m : Nat} (hf : hc_ok f) : (hc_ef tb cap w f m).1.length ≤ w.length + 35 := by
  unfold hc_ef
  split
  · exact hc_wlL hf (Or.inl rfl)
  · split
    · have := hc_wiL 128 7 (hc_fd tb f 1)
      simp only [List.length_append]
      omega
    · split
      · exact hc_wlL hf (Or.inr rfl)
      · exact hc_wlL hf (Or.inl rfl)
def hc_by (w : List Nat) : Prop := ∀ x, x ∈ w → x < 256
theorem hc_byA {w v : List Nat} (h : hc_by w) (h2 : hc_by v) : hc_by (w ++ v) := by
  intro x hx
  rcases List.mem_append.mp hx with z | z
  · exact h x z
  · exact h2 x z
theorem hc_by1 {x : Nat} (h : x < 256) : hc_by [x] := by
  intro y hy
  rw [List.mem_singleton.mp hy]
  exact h
theorem hc_byI {ty b v : Nat} (h1 : ty + (2 ^ b - 1) < 256) (h2 : v < 256) : hc_by (hc_wi ty b v) := by
  unfold hc_wi
  split
  · exact hc_by1 (by omega)
  · intro x hx
    simp only [List.mem_cons, List.not_mem_nil, or_false] at hx
    rcases hx with rfl | rfl <;> omega
theorem hc_byP (l : List Nat) : hc_by (hc_pk l) := by
  intro x hx
  unfold hc_pk at hx
  obtain ⟨i, _, rfl⟩ := List.mem_map.mp hx
  exact hc_bvL (hc_sb2 l) _ 8
theorem hc_byS {l : List Nat} (h : l.length ≤ 16) (h2 : ∀ x, x ∈ l → x < 128) : hc_by (hc_ws l) := by
  unfold hc_ws
  split
  · exact hc_byA (hc_byI (by decide) (by omega)) (hc_byP l)
  · exact hc_byA (hc_byI (by decide) (by omega)) (fun x hx => by have := h2 x hx; omega)
theorem hc_byL {w : List Nat} {ty b k : Nat} {f : hc_Fd} (hw : hc_by w) (hf : hc_ok f) (h1 : ty + (2 ^ b - 1) < 256) (h2 : k < 256) : hc_by (hc_wl w ty b k f) := by
  unfold hc_wl
  split
  · exact hc_byA (hc_byA (hc_byA hw (hc_byI h1 h2)) (hc_byS hf.1 hf.2.2.1)) (hc_byS hf.2.1 hf.2.2.2)
  · exact hc_byA (hc_byA hw (hc_byI h1 h2)) (hc_byS hf.2.1 hf.2.2.2)
theorem hc_byF {tb : List hc_Fd} {cap : Nat} {w : List Nat} {f : hc_Fd} {m : Nat} (hw : hc_by w) (hf : hc_ok f) (ht : tb.length ≤ 16) : hc_by (hc_ef tb cap w f m).1 := by
  have h0 := hc_fdL tb f 0
  have h1 := hc_fdL tb f 1
  unfold hc_ef
  split
  · exact hc_byL hw hf (by decide) (by omega)
  · split
    · exact hc_byA hw (hc_byI (by decide) (by omega))
    · split
      · exact hc_byL hw hf (by decide) (by omega)
      · exact hc_byL hw hf (by decide) (by omega)

/-! ### what is read -/
def hc_wb (w : Nat → Nat) (j : Nat) : Nat := w (j / 8) / 2 ^ (7 - j % 8) % 2
theorem hc_wb2 (w : Nat → Nat) (j : Nat) : hc_wb w j < 2 := Nat.mod_lt _ (by decide)
/-- the octet whose whole word lies at p, with r bits left; 128: none -/
def hc_ms (β : Nat → Nat) (p r : Nat) : Nat → Nat → Nat
  | 0, _ => 128
  | n + 1, c => if hc_cb c ≤ r ∧ hc_bv β p (hc_cb c) = hc_cw c then c else hc_ms β p r n (c + 1)
def hc_mw (β : Nat → Nat) (p r : Nat) : Nat := hc_ms β p r 128 0
theorem hc_msN (β : Nat → Nat) (p r : Nat) : ∀ n c, (∀ d, c ≤ d → d < c + n → ¬ (hc_cb d ≤ r ∧ hc_bv β p (hc_cb d) = hc_cw d)) → hc_ms β p r n c = 128
  | 0, _, _ => rfl
  | n + 1, c, h => by
    unfold hc_ms
    rw [if_neg (h c (Nat.le_refl c) (by omega))]
    exact hc_msN β p r n (c + 1) (fun d h1 h2 => h d (by omega) (by omega))
theorem hc_msS (β : Nat → Nat) (p r : Nat) {d : Nat} (hd : hc_cb d ≤ r ∧ hc_bv β p (hc_cb d) = hc_cw d) : ∀ n c, c ≤ d → d < c + n → (∀ e, c ≤ e → e < d → ¬ (hc_cb e ≤ r ∧ hc_bv β p (hc_cb e) = hc_cw e)) → hc_ms β p r n c = d
  | 0, c, h1, h2, _ => by omega
  | n + 1, c, h1, h2, h => by
    unfold hc_ms
    by_cases e : c = d
    · subst e
      rw [if_pos hd]
    · rw [if_neg (h c (Nat.le_refl c) (by omega))]
      exact hc_msS β p r hd n (c + 1) (by omega) (by omega) (fun x h3 h4 => h x (by omega) h4)
theorem hc_msP (β : Nat → Nat) (p r : Nat) : ∀ n c, c + n ≤ 128 → hc_ms β p r n c = 128 ∨ (hc_ms β p r n c < 128 ∧ hc_cb (hc_ms β p r n c) ≤ r ∧ hc_bv β p (hc_cb (hc_ms β p r n c)) = hc_cw (hc_ms β p r n c))
  | 0, _, _ => Or.inl rfl
  | n + 1, c, h => by
    unfold hc_ms
    split
    · rename_i z
      exact Or.inr ⟨by omega, z⟩
    · exact hc_msP β p r n (c + 1) (by omega)
theorem hc_mwP (β : Nat → Nat) (p r : Nat) : hc_mw β p r = 128 ∨ (hc_mw β p r < 128 ∧ hc_cb (hc_mw β p r) ≤ r ∧ hc_bv β p (hc_cb (hc_mw β p r)) = hc_cw (hc_mw β p r)) := hc_msP β p r 128 0 (by omega)
theorem hc_mwU {β : Nat → Nat} (hb : ∀ j, β j < 2) {p c d : Nat} (hc : c < 128) (hd : d < 128) (ec : hc_bv β p (hc_cb c) = hc_cw c) (ed : hc_bv β p (hc_cb d) = hc_cw d) (hl : hc_cb c ≤ hc_cb d) : c = d := by
  have e : hc_cw d / 2 ^ (hc_cb d - hc_cb c) = hc_cw c := by
    have := hc_bvD hb p (hc_cb c) (hc_cb d - hc_cb c)
    rw [show hc_cb c + (hc_cb d - hc_cb c) = hc_cb d from by omega, ed, ec] at this
    exact this
  have := hc_pre (hc_rng c hc) (hc_rng d hd) hl e
  exact hc_inj hc hd this.1 this.2
theorem hc_mwS {β : Nat → Nat} (hb : ∀ j, β j < 2) {p r d : Nat} (hd : d < 128) (h1 : hc_cb d ≤ r) (h2 : hc_bv β p (hc_cb d) = hc_cw d) : hc_mw β p r = d := by
  refine hc_msS β p r ⟨h1, h2⟩ 128 0 (Nat.zero_le _) (by omega) ?_
  intro e _ he z
  rcases Nat.le_total (hc_cb e) (hc_cb d) with l | l
  · have := hc_mwU hb (by omega) hd z.2 h2 l
    omega
  · have := hc_mwU hb hd (by omega) h2 z.2 l
    omega
theorem hc_mwN {β : Nat → Nat} {p r : Nat} (h : ∀ d, d < 128 → hc_cb d ≤ r → hc_bv β p (hc_cb d) = hc_cw d → False) : hc_mw β p r = 128 :=
  hc_msN β p r 128 0 (fun d _ h2 z => h d (by omega) z.1 z.2)
/-- fault, value, place -/
def hc_rl (w : Nat → Nat) (n : Nat) : Nat → Nat → Nat → Nat × Nat × Nat
  | 0, p, v => (11, v, p)
  | k + 1, p, v => if n ≤ p then (10, v, p) else if k = 0 ∧ 128 ≤ w p then (11, v, p + 1) else if w p < 128 then (0, v + w p % 128 * 128 ^ (2 - k), p + 1) else hc_rl w n k (p + 1) (v + w p % 128 * 128 ^ (2 - k))
def hc_ri (w : Nat → Nat) (n p o b : Nat) : Nat × Nat × Nat := if o % 2 ^ b < 2 ^ b - 1 then (0, o % 2 ^ b, p) else hc_rl w n 3 p (o % 2 ^ b)
theorem hc_rlB (w : Nat → Nat) (n : Nat) : ∀ k p v, k ≤ 3 → p ≤ n → p ≤ (hc_rl w n k p v).2.2 ∧ (hc_rl w n k p v).2.2 ≤ n ∧ (hc_rl w n k p v).2.2 ≤ p + k ∧ (hc_rl w n k p v).2.1 ≤ v + k * 2080768 ∧ (hc_rl w n k p v).1 ≤ 11
  | 0, p, v, _, hp => by simp only [hc_rl]; omega
  | k + 1, p, v, hk, hp => by
    have h1 : w p % 128 * 128 ^ (2 - k) ≤ 127 * 16384 := Nat.mul_le_mul (by omega) (Nat.pow_le_pow_right (by decide) (show 2 - k ≤ 2 by omega))
    unfold hc_rl
    split
    · dsimp only
      omega
    · split
      · dsimp only
        omega
      · split
        · dsimp only
          omega
        · have := hc_rlB w n k (p + 1) (v + w p % 128 * 128 ^ (2 - k)) (by omega) (by omega)
          omega
theorem hc_riB (w : Nat → Nat) (n p o b : Nat) (hb : b ≤ 7) (hp : p ≤ n) : p ≤ (hc_ri w n p o b).2.2 ∧ (hc_ri w n p o b).2.2 ≤ n ∧ (hc_ri w n p o b).2.1 < 10000000 ∧ (hc_ri w n p o b).1 ≤ 11 := by
  have h1 : o % 2 ^ b < 2 ^ b := Nat.mod_lt _ (Nat.two_pow_pos b)
  have h2 : 2 ^ b ≤ 2 ^ 7 := Nat.pow_le_pow_right (by decide) hb
  unfold hc_ri
  split
  · dsimp only
    omega
  · have := hc_rlB w n 3 p (o % 2 ^ b) (by omega) hp
    omega
/-- the packed octets from bit p to bit e: fault, text -/
def hc_rp (β : Nat → Nat) (e : Nat) : Nat → Nat → List Nat → Nat × List Nat
  | 0, _, l => (17, l)
  | n + 1, p, l =>
    if e - p ≤ 7 ∧ hc_bv β p (e - p) = 2 ^ (e - p) - 1 then (0, l)
    else if hc_mw β p (e - p) = 128 then (if e - p ≤ 7 then 20 else 19, l)
    else if 16 ≤ l.length then (17, l)
    else hc_rp β e n (p + hc_cb (hc_mw β p (e - p))) (l ++ [hc_mw β p (e - p)])
def hc_rr (w : Nat → Nat) (p n : Nat) : List Nat := (List.range n).map (fun j => w (p + j))
def hc_r2 (w : Nat → Nat) (n o : Nat) (r : Nat × Nat × Nat) : Nat × List Nat × Nat :=
  if r.1 ≠ 0 then (r.1, [], r.2.2)
  else if n < r.2.2 + r.2.1 then (10, [], r.2.2)
  else if o < 128 then (if 16 < r.2.1 then (17, [], r.2.2) else if ∀ j, j < r.2.1 → w (r.2.2 + j) < 128 then (0, hc_rr w r.2.2 r.2.1, r.2.2 + r.2.1) else (18, [], r.2.2))
  else ((hc_rp (hc_wb w) (8 * (r.2.2 + r.2.1)) 17 (8 * r.2.2) []).1, (hc_rp (hc_wb w) (8 * (r.2.2 + r.2.1)) 17 (8 * r.2.2) []).2, r.2.2 + r.2.1)
/-- a string: fault, text, place -/
def hc_rs (w : Nat → Nat) (n p : Nat) : Nat × List Nat × Nat := if n ≤ p then (10, [], p) else hc_r2 w n (w p) (hc_ri w n (p + 1) (w p) 7)
def hc_fm (o : Nat) : Nat := if 128 ≤ o then 0 else if 64 ≤ o then 1 else if 16 ≤ o then 3 else 2
def hc_fb (o : Nat) : Nat := if 128 ≤ o then 7 else if 64 ≤ o then 6 else 4
/-- the value behind a name: fault, field, place -/
def hc_d3 (nm : List Nat) (s : Nat × List Nat × Nat) : Nat × hc_Fd × Nat := (s.1, (nm, s.2.1), s.2.2)
def hc_d4 (w : Nat → Nat) (n : Nat) (s : Nat × List Nat × Nat) : Nat × hc_Fd × Nat := if s.1 ≠ 0 then (s.1, hc_f0, s.2.2) else hc_d3 s.2.1 (hc_rs w n s.2.2)
def hc_d2 (w : Nat → Nat) (n : Nat) (tb : List hc_Fd) (o : Nat) (r : Nat × Nat × Nat) : Nat × hc_Fd × Nat :=
  if r.1 ≠ 0 then (r.1, hc_f0, r.2.2)
  else if 14 + tb.length < r.2.1 ∨ (r.2.1 = 0 ∧ 128 ≤ o) then (12, hc_f0, r.2.2)
  else if 128 ≤ o then (0, hc_et tb r.2.1, r.2.2)
  else if r.2.1 = 0 then hc_d4 w n (hc_rs w n r.2.2)
  else hc_d3 (hc_et tb r.2.1).1 (hc_rs w n r.2.2)
def hc_df (w : Nat → Nat) (n mf : Nat) (tb : List hc_Fd) (k o p : Nat) : Nat × hc_Fd × Nat :=
  if mf ≤ k then (16, hc_f0, p) else hc_d2 w n tb o (hc_ri w n p o (hc_fb o))
/-- a draft: table, capacity, fields, place, is an update due -/
abbrev hc_Dr : Type := List hc_Fd × Nat × List (hc_Fd × Nat) × Nat × Nat
def hc_s1 (lim low : Nat) (D : hc_Dr) (r : Nat × Nat × Nat) : Nat × hc_Dr :=
  if r.1 ≠ 0 then (r.1, D) else if lim < r.2.1 then (14, D)
  else (0, (hc_ev D.1 0 r.2.1, r.2.1, D.2.2.1, r.2.2, if r.2.1 ≤ low then 0 else D.2.2.2.2))
def hc_s2 (o : Nat) (D : hc_Dr) (d : Nat × hc_Fd × Nat) : Nat × hc_Dr :=
  if d.1 ≠ 0 then (d.1, D)
  else (0, (if hc_fm o = 1 then hc_in D.1 d.2.1 D.2.1 else D.1, D.2.1, D.2.2.1 ++ [(d.2.1, hc_fm o)], d.2.2, D.2.2.2.2))
def hc_sp (w : Nat → Nat) (n lim low mf : Nat) (D : hc_Dr) (o p : Nat) : Nat × hc_Dr :=
  if 32 ≤ o ∧ o < 64 then (if 0 < D.2.2.1.length then (13, D) else hc_s1 lim low D (hc_ri w n p o 5))
  else if D.2.2.1.length = 0 ∧ D.2.2.2.2 ≠ 0 then (15, D) else hc_s2 o D (hc_df w n mf D.1 D.2.2.1.length o p)
def hc_bl (w : Nat → Nat) (n lim low mf : Nat) : Nat → hc_Dr → Nat × hc_Dr
  | 0, D => (0, D)
  | k + 1, D => if n ≤ D.2.2.2.1 then (0, D) else
    if (hc_sp w n lim low mf D (w D.2.2.2.1) (D.2.2.2.1 + 1)).1 ≠ 0 then hc_sp w n lim low mf D (w D.2.2.2.1) (D.2.2.2.1 + 1)
    else hc_bl w n lim low mf k (hc_sp w n lim low mf D (w D.2.2.2.1) (D.2.2.2.1 + 1)).2
end
section
section
variable {qs1 qs2 qs3 qs4 qs5 qs6 qs7 qs8 qlc qgc qdc qwc qin qfl qmf qli qlo qta qlt qcu qrv qrs : Int32} {qoc qln qcn qhd qsz qcp qcw qcb qsy qk1 qk2 qk3 qk4 qlm qgf qdf qwi : Nat → Int32}
/-- the component's texts -/
def hx_M (o l : Nat → Int32) (T : Nat → List Nat) : Prop := ∀ t, l t = nI (T t).length ∧ (T t).length ≤ 16 ∧ (∀ x, x ∈ T t → x < 128) ∧ ∀ j, j < (T t).length → o (16 * t + j) = nI ((T t).getD j 0)
theorem hx_mA {o l : Nat → Int32} {T : Nat → List Nat} {t c : Nat} (h : hx_M o l T) (hl : (T t).length < 16) (hc : c < 128) : hx_M (upd o (16 * t + (T t).length) (nI c)) (upd l t (nI ((T t).length + 1))) (hc_ut T t (T t ++ [c])) := by
  intro s
  obtain ⟨h1, h2, h3, h4⟩ := h s
  by_cases e : s = t
  · subst e
    rw [hc_us, pk_us, List.length_append]
    refine ⟨rfl, by show (T s).length + 1 ≤ 16; omega, ?_, ?_⟩
    · intro x hx
      rcases List.mem_append.mp hx with z | z
      · exact h3 x z
      · rw [List.mem_singleton.mp z]
        exact hc
    · intro j hj
      have hj : j < (T s).length + 1 := hj
      rw [hc_ga]
      by_cases e : j = (T s).length
      · subst e
        rw [pk_us, if_neg (by omega), if_pos rfl]
      · rw [pk_un (by omega), if_pos (by omega)]
        exact h4 j (by omega)
  · rw [hc_un e, pk_un e]
    refine ⟨h1, h2, h3, ?_⟩
    intro j hj
    rw [pk_un (by omega)]
    exact h4 j hj
theorem hx_m0 {o l : Nat → Int32} {T : Nat → List Nat} {t : Nat} (h : hx_M o l T) : hx_M o (upd l t 0) (hc_ut T t []) := by
  intro s
  by_cases e : s = t
  · subst e
    rw [hc_us, pk_us]
    exact ⟨rfl, by simp, by simp, fun j hj => absurd hj (by simp)⟩
  · rw [hc_un e, pk_un e]
    exact h s
def hx_cp (o o' : Nat → Int32) (a b j : Nat) : Prop := ∀ i, o' i = if 16 * b ≤ i ∧ i < 16 * b + j then o (16 * a + (i - 16 * b)) else o i
theorem hx_mC {o o' l : Nat → Int32} {T : Nat → List Nat} {a b : Nat} (h : hx_M o l T) (hc : hx_cp o o' a b (T a).length) : hx_M o' (upd l b (nI (T a).length)) (hc_ut T b (T a)) := by
  intro s
  obtain ⟨h1, h2, h3, h4⟩ := h s
  obtain ⟨g1, g2, g3, g4⟩ := h a
  by_cases e : s = b
  · subst e
    rw [hc_us, pk_us]
    refine ⟨rfl, g2, g3, ?_⟩
    intro j hj
    rw [hc, if_pos (by omega), show 16 * a + (16 * s + j - 16 * s) = 16 * a + j from by omega]
    exact g4 j hj
  · rw [hc_un e, pk_un e]
    refine ⟨h1, h2, h3, ?_⟩
    intro j hj
    rw [hc, if_neg (by omega)]
    exact h4 j hj
theorem hx_append {post : SX → Prop} {T : Nat → List Nat} {t c : Nat} {x y : Int32} (hm : hx_M qoc qln T) (ht : t < 164) (hl : (T t).length < 16) (hc : c < 128) (ex : x = nI t) (ey : y = nI c) (H : ∀ o l, hx_M o l (hc_ut T t (T t ++ [c])) → post (qs1, qs2, qs3, qs4, qs5, qs6, qs7, qs8, qlc, qgc, qdc, qwc, qin, qfl, qmf, qli, qlo, qta, qlt, qcu, qrv, qrs, o, l, qcn, qhd, qsz, qcp, qcw, qcb, qsy, qk1, qk2, qk3, qk4, qlm, qgf, qdf, qwi)) : wpX_append post (qs1, qs2, qs3, qs4, qs5, qs6, qs7, qs8, qlc, qgc, qdc, qwc, qin, qfl, qmf, qli, qlo, qta, qlt, qcu, qrv, qrs, qoc, qln, qcn, qhd, qsz, qcp, qcw, qcb, qsy, qk1, qk2, qk3, qk4, qlm, qgf, qdf, qwi) x y := by
  subst ex ey
  have h := hm t
  have e16 : (16 : Int32) * nI t + nI (T t).length = nI (16 * t + (T t).length) := hc_add (hc_mul rfl rfl) rfl
  refine And.intro (vp_in_nI ht (by decide)) (nm_r (e' := nI (T t).length) (hc_at rfl (by omega) h.1) ?_)
  exact pk_le 16 (T t).length (fun z => absurd z (by omega)) (fun _ => And.intro (hc_i e16 (by omega) (by decide)) (nm_r (hc_up e16 (by omega) (hc_nar2 hc)) (And.intro (vp_in_nI ht (by decide)) (nm_r (hc_up rfl (by omega) (nI_1 _)) (H _ _ (hx_mA hm hl hc))))))
theorem hx_ctl {post : SX → Prop} {o l : Nat → Int32} {a b n : Nat} (hn : n ≤ 16) (ha : a < 164) (hb : b < 164) (hby : ∀ i, i < n → vp_nar .byte (o (16 * a + i)) = o (16 * a + i)) (H : ∀ o', hx_cp o o' a b n → post (qs1, qs2, qs3, qs4, qs5, qs6, qs7, qs8, qlc, qgc, qdc, qwc, qin, qfl, qmf, qli, qlo, qta, qlt, qcu, qrv, qrs, o', upd l b (nI n), qcn, qhd, qsz, qcp, qcw, qcb, qsy, qk1, qk2, qk3, qk4, qlm, qgf, qdf, qwi)) : ∀ d j o', j + d = n → hx_cp o o' a b j → ∀ f, d < f → wX_copyText_10 post (nI a) (nI b) (nI n) qs1 qs2 qs3 qs4 qs5 qs6 qs7 qs8 qlc qgc qdc qwc qin qfl qmf qli qlo qta qlt qcu qrv qrs f (nI j) o' l qcn qhd qsz qcp qcw qcb qsy qk1 qk2 qk3 qk4 qlm qgf qdf qwi := by
  intro d
  induction d with
  | zero =>
    intro j o' hj hc f hf
    obtain ⟨f, rfl⟩ : ∃ g, f = g + 1 := ⟨f - 1, by omega⟩
    have e : j = n := by omega
    subst e
    exact pk_le j j (fun _ => And.intro (vp_in_nI hb (by decide)) (nm_r (hc_up rfl (by omega) rfl) (H o' hc))) (fun z => absurd z (by omega))
  | succ d ih =>
    intro j o' hj hc f hf
    obtain ⟨f, rfl⟩ : ∃ g, f = g + 1 := ⟨f - 1, by omega⟩
    have ea : (16 : Int32) * nI a + nI j = nI (16 * a + j) := hc_add (hc_mul rfl rfl) rfl
    have eb : (16 : Int32) * nI b + nI j = nI (16 * b + j) := hc_add (hc_mul rfl rfl) rfl
    have ev : o' (16 * a + j) = o (16 * a + j) := by rw [hc, if_neg (by omega)]
    have ew : vp_nar .byte (o' ((16 : Int32) * nI a + nI j).toNatClampNeg) = o (16 * a + j) := by
      rw [hc_at ea (by omega) ev]
      exact hby j (by omega)
    refine pk_le n j (fun z => absurd z (by omega)) (fun _ => And.intro (hc_i ea (by omega) (by decide)) (And.intro (hc_i eb (by omega) (by decide)) (nm_r (hc_up eb (by omega) ew) (nm_r (nI_1 j) ?_))))
    refine ih (j + 1) _ (by omega) ?_ f (by omega)
    intro i
    by_cases e : i = 16 * b + j
    · subst e
      rw [pk_us, if_pos (by omega), show 16 * a + (16 * b + j - 16 * b) = 16 * a + j from by omega]
    · rw [pk_un e, hc i]
      by_cases z : 16 * b ≤ i ∧ i < 16 * b + j
      · rw [if_pos z, if_pos (by omega)]
      · rw [if_neg z, if_neg (by omega)]
theorem hx_copyText {post : SX → Prop} {T : Nat → List Nat} {a b : Nat} {x y : Int32} (hm : hx_M qoc qln T) (ha : a < 164) (hb : b < 164) (ex : x = nI a) (ey : y = nI b) (H : ∀ o l, hx_M o l (hc_ut T b (T a)) → post (qs1, qs2, qs3, qs4, qs5, qs6, qs7, qs8, qlc, qgc, qdc, qwc, qin, qfl, qmf, qli, qlo, qta, qlt, qcu, qrv, qrs, o, l, qcn, qhd, qsz, qcp, qcw, qcb, qsy, qk1, qk2, qk3, qk4, qlm, qgf, qdf, qwi)) : wpX_copyText post (qs1, qs2, qs3, qs4, qs5, qs6, qs7, qs8, qlc, qgc, qdc, qwc, qin, qfl, qmf, qli, qlo, qta, qlt, qcu, qrv, qrs, qoc, qln, qcn, qhd, qsz, qcp, qcw, qcb, qsy, qk1, qk2, qk3, qk4, qlm, qgf, qdf, qwi) x y := by
  subst ex ey
  obtain ⟨h1, h2, h3, h4⟩ := hm a
  refine And.intro (vp_in_nI ha (by decide)) (nm_r (e' := nI (T a).length) (hc_at rfl (by omega) h1) ⟨(T a).length + 1, ?_⟩)
  refine hx_ctl (o := qoc) h2 ha hb ?_ (fun o' hc => H _ _ (hx_mC hm hc)) (T a).length 0 qoc (by omega) ?_ _ (by omega)
  · intro i hi
    rw [h4 i hi]
    exact hc_nar1 (h3 _ (hc_gm _ _ hi))
  · intro i
    rw [if_neg (by omega)]
theorem hx_copyField {post : SX → Prop} {T : Nat → List Nat} {a b : Nat} {x y : Int32} (hm : hx_M qoc qln T) (ha : a < 82) (hb : b < 82) (hab : a ≠ b) (ex : x = nI a) (ey : y = nI b) (H : ∀ o l, hx_M o l (hc_uf T b (hc_fl T a)) → post (qs1, qs2, qs3, qs4, qs5, qs6, qs7, qs8, qlc, qgc, qdc, qwc, qin, qfl, qmf, qli, qlo, qta, qlt, qcu, qrv, qrs, o, l, qcn, qhd, qsz, qcp, qcw, qcb, qsy, qk1, qk2, qk3, qk4, qlm, qgf, qdf, qwi)) : wpX_copyField post (qs1, qs2, qs3, qs4, qs5, qs6, qs7, qs8, qlc, qgc, qdc, qwc, qin, qfl, qmf, qli, qlo, qta, qlt, qcu, qrv, qrs, qoc, qln, qcn, qhd, qsz, qcp, qcw, qcb, qsy, qk1, qk2, qk3, qk4, qlm, qgf, qdf, qwi) x y := by
  subst ex ey
  unfold wpX_copyField
  refine hx_copyText (T := T) (a := 2 * a) (b := 2 * b) hm (by omega) (by omega) (hc_mul rfl rfl) (hc_mul rfl rfl) (fun o l h => ?_)
  refine hx_copyText (T := hc_ut T (2 * b) (T (2 * a))) (a := 2 * a + 1) (b := 2 * b + 1) h (by omega) (by omega) (hc_add (hc_mul rfl rfl) rfl) (hc_add (hc_mul rfl rfl) rfl) (fun o l h => ?_)
  rw [hc_un (show 2 * a + 1 ≠ 2 * b by omega)] at h
  exact H o l h
theorem hx_fieldSize {post : Int32 → Prop} {T : Nat → List Nat} {a : Nat} {x : Int32} (hm : hx_M qoc qln T) (ha : a < 82) (ex : x = nI a) (H : post (nI (hc_fz (hc_fl T a)))) : wpX_fieldSize post (qs1, qs2, qs3, qs4, qs5, qs6, qs7, qs8, qlc, qgc, qdc, qwc, qin, qfl, qmf, qli, qlo, qta, qlt, qcu, qrv, qrs, qoc, qln, qcn, qhd, qsz, qcp, qcw, qcb, qsy, qk1, qk2, qk3, qk4, qlm, qgf, qdf, qwi) x := by
  subst ex
  have h1 := (hm (2 * a)).1
  have h2 := (hm (2 * a + 1)).1
  refine And.intro (hc_i (hc_mul rfl rfl) (show 2 * a < 164 by omega) (by decide)) (And.intro (hc_i (hc_add (hc_mul rfl rfl) rfl) (show 2 * a + 1 < 164 by omega) (by decide)) ?_)
  have e1 : (2 : Int32) * nI a = nI (2 * a) := hc_mul rfl rfl
  have e2 : (2 : Int32) * nI a + 1 = nI (2 * a + 1) := hc_add e1 rfl
  rw [hc_at e1 (by omega) h1, hc_at e2 (by omega) h2]
  rw [show nI (T (2 * a)).length + nI (T (2 * a + 1)).length + 8 = nI (hc_fz (hc_fl T a)) from hc_add (hc_add rfl rfl) rfl]
  exact H
theorem hx_stl {post : Int32 → Prop} {T : Nat → List Nat} {a b : Nat} (hm : hx_M qoc qln T) (ha : a < 164) (hb : b < 164) (hl : (T a).length = (T b).length) (H1 : T a = T b → post 1) (H0 : T a ≠ T b → post 0) : ∀ d j, j + d = (T a).length → (∀ i, i < j → (T a).getD i 0 = (T b).getD i 0) → ∀ f, d < f → wX_sameText_22 post (nI a) (nI b) (nI (T a).length) qs1 qs2 qs3 qs4 qs5 qs6 qs7 qs8 qlc qgc qdc qwc qin qfl qmf qli qlo qta qlt qcu qrv qrs qoc qln qcn qhd qsz qcp qcw qcb qsy qk1 qk2 qk3 qk4 qlm qgf qdf qwi f (nI j) := by
  obtain ⟨h1, h2, h3, h4⟩ := hm a
  obtain ⟨g1, g2, g3, g4⟩ := hm b
  intro d
  induction d with
  | zero =>
    intro j hj hs f hf
    obtain ⟨f, rfl⟩ : ∃ g, f = g + 1 := ⟨f - 1, by omega⟩
    exact pk_le (T a).length j (fun _ => H1 (hc_ext _ _ hl (fun i hi => hs i (by omega)))) (fun z => absurd z (by omega))
  | succ d ih =>
    intro j hj hs f hf
    obtain ⟨f, rfl⟩ : ∃ g, f = g + 1 := ⟨f - 1, by omega⟩
    have ea : (16 : Int32) * nI a + nI j = nI (16 * a + j) := hc_add (hc_mul rfl rfl) rfl
    have eb : (16 : Int32) * nI b + nI j = nI (16 * b + j) := hc_add (hc_mul rfl rfl) rfl
    have va := hc_at ea (by omega) (h4 j (by omega))
    have vb := hc_at eb (by omega) (g4 j (by omega))
    have la := h3 _ (hc_gm (T a) j (by omega))
    have lb := g3 _ (hc_gm (T b) j (by omega))
    refine pk_le (T a).length j (fun z => absurd z (by omega)) (fun _ => And.intro (hc_i ea (by omega) (by decide)) (And.intro (hc_i eb (by omega) (by decide)) ?_))
    refine pk_eq ((T a).getD j 0) ((T b).getD j 0) (fun e => nm_r (nI_1 j) (ih (j + 1) (by omega) (fun i hi => ?_) f (by omega))) (fun e => H0 (fun z => e (by rw [z]))) va vb
    by_cases z : i = j
    · subst z
      exact e
    · exact hs i (by omega)
theorem hx_sameText {post : Int32 → Prop} {T : Nat → List Nat} {a b : Nat} {x y : Int32} (hm : hx_M qoc qln T) (ha : a < 164) (hb : b < 164) (ex : x = nI a) (ey : y = nI b) (H1 : T a = T b → post 1) (H0 : T a ≠ T b → post 0) : wpX_sameText post (qs1, qs2, qs3, qs4, qs5, qs6, qs7, qs8, qlc, qgc, qdc, qwc, qin, qfl, qmf, qli, qlo, qta, qlt, qcu, qrv, qrs, qoc, qln, qcn, qhd, qsz, qcp, qcw, qcb, qsy, qk1, qk2, qk3, qk4, qlm, qgf, qdf, qwi) x y := by
  subst ex ey
  have h := hm a
  have g := hm b
  refine And.intro (vp_in_nI ha (by decide)) (nm_r (e' := nI (T a).length) (hc_at rfl (by omega) h.1) (And.intro (vp_in_nI hb (by decide)) ?_))
  refine pk_eq (T a).length (T b).length (fun e => ⟨(T a).length + 1, ?_⟩) (fun e => H0 (fun z => e (by rw [z]))) rfl (hc_at rfl (by omega) g.1)
  exact hx_stl hm ha hb e H1 H0 (T a).length 0 (by omega) (fun i hi => absurd hi (by omega)) _ (by omega)
/-- the slot of the entry with index i -/
def hx_es (t h i : Nat) : Nat := if i ≤ 14 then i - 1 else 33 + 16 * t + (h + i - 15) % 16
theorem hx_entrySlot {post : Int32 → Prop} {t n h : Nat} {x y : Int32} (ht : t < 3) (ex : x = nI t) (hn : n ≤ 16) (hh : h < 16) (en : qcn t = nI n) (eh : qhd t = nI h) (H0 : (∀ i, 1 ≤ i → i ≤ 14 + n → y ≠ nI i) → post (-1)) (H1 : ∀ i, 1 ≤ i → i ≤ 14 + n → y = nI i → post (nI (hx_es t h i))) : wpX_entrySlot post (qs1, qs2, qs3, qs4, qs5, qs6, qs7, qs8, qlc, qgc, qdc, qwc, qin, qfl, qmf, qli, qlo, qta, qlt, qcu, qrv, qrs, qoc, qln, qcn, qhd, qsz, qcp, qcw, qcb, qsy, qk1, qk2, qk3, qk4, qlm, qgf, qdf, qwi) x y := by
  subst ex
  have e14 : (14 : Int32) + qcn (nI t).toNatClampNeg = nI (14 + n) := hc_add rfl (hc_at rfl (by omega) en)
  by_cases hy : y < 1
  · refine br_t hy (H0 (fun i hi _ e => ?_))
    subst e
    exact nI_nlt (b := 1) hi (by omega) hy
  · have hy0 : ¬ y < 0 := fun z => hy (Int32.lt_of_lt_of_le z (by decide))
    obtain ⟨i, hi, rfl⟩ := nI_of hy0
    have hi1 : 1 ≤ i := by
      by_cases z : 1 ≤ i
      · exact z
      · exact absurd (nI_lt (a := i) (b := 1) (by omega) (by decide)) hy
    refine br_f hy (And.intro (vp_in_nI ht (by decide)) ?_)
    refine pk_le i (14 + n) (fun z => ?_) (fun z => H0 (fun k h1 h2 e => ?_)) rfl e14
    · have H := H1 i hi1 z rfl
      unfold hx_es at H
      refine pk_lt 14 i (fun y => And.intro (vp_in_nI ht (by decide)) ?_) (fun y => ?_)
      · rw [if_neg (by omega)] at H
        have e1 : qhd (nI t).toNatClampNeg + nI i - 15 = nI (h + i - 15) := hc_sub (hc_add (hc_at rfl (by omega) eh) rfl) rfl (by omega)
        have e2 : (qhd (nI t).toNatClampNeg + nI i - 15) &&& 15 = nI ((h + i - 15) % 16) := by
          rw [e1]
          exact hc_and (b := 4) (by omega) (by decide)
        rw [show (33 : Int32) + 16 * nI t + ((qhd (nI t).toNatClampNeg + nI i - 15) &&& 15) = nI (33 + 16 * t + (h + i - 15) % 16) from hc_add (hc_add rfl (hc_mul rfl rfl)) e2]
        exact H
      · rw [if_pos (by omega)] at H
        rw [show nI i - 1 = nI (i - 1) from hc_sub rfl rfl hi1]
        exact H
    · rw [nI_eq hi (by omega)] at e
      omega
theorem hx_clearStage {post : SX → Prop} {T : Nat → List Nat} (hm : hx_M qoc qln T) (H : ∀ l, hx_M qoc l (hc_uf T 14 ([], [])) → post (qs1, qs2, qs3, qs4, qs5, qs6, qs7, qs8, qlc, qgc, qdc, qwc, qin, qfl, qmf, qli, qlo, qta, qlt, qcu, qrv, qrs, qoc, l, qcn, qhd, qsz, qcp, qcw, qcb, qsy, qk1, qk2, qk3, qk4, qlm, qgf, qdf, qwi)) : wpX_clearStage post (qs1, qs2, qs3, qs4, qs5, qs6, qs7, qs8, qlc, qgc, qdc, qwc, qin, qfl, qmf, qli, qlo, qta, qlt, qcu, qrv, qrs, qoc, qln, qcn, qhd, qsz, qcp, qcw, qcb, qsy, qk1, qk2, qk3, qk4, qlm, qgf, qdf, qwi) := by
  exact nm_e (nm_e (H _ (hx_m0 (hx_m0 hm))))
end
end
section
section
variable {zfl zmf zwl zpo zfa zfi zin : Int32} {zce znu zca zse zwi zle zwo : Nat → Int32}
/-- the reference's texts and marks -/
def hy_M (C : Nat → Int32) (T : Nat → List Nat) (mk : Nat → Nat) : Prop := (∀ r p, p < 2 → C (35 * r + 17 * p) = nI (T (2 * r + p)).length ∧ (T (2 * r + p)).length ≤ 16 ∧ (∀ x, x ∈ T (2 * r + p) → x < 128) ∧ ∀ j, j < (T (2 * r + p)).length → C (35 * r + 17 * p + 1 + j) = nI ((T (2 * r + p)).getD j 0)) ∧ ∀ r, C (35 * r + 34) = nI (mk r)
def hy_um (mk : Nat → Nat) (k v : Nat) : Nat → Nat := fun j => if j = k then v else mk j
def hy_cp (C C' : Nat → Int32) (a b n : Nat) : Prop := ∀ i, C' i = if b ≤ i ∧ i < b + n then C (a + (i - b)) else C i
theorem hy_mA {C : Nat → Int32} {T : Nat → List Nat} {mk : Nat → Nat} {r p c : Nat} (h : hy_M C T mk) (hp : p < 2) (hl : (T (2 * r + p)).length < 16) (hc : c < 128) : hy_M (upd (upd C (35 * r + 17 * p) (nI ((T (2 * r + p)).length + 1))) (35 * r + 17 * p + ((T (2 * r + p)).length + 1)) (nI c)) (hc_ut T (2 * r + p) (T (2 * r + p) ++ [c])) mk := by
  refine ⟨fun s q hq => ?_, fun s => ?_⟩
  · obtain ⟨h1, h2, h3, h4⟩ := h.1 s q hq
    by_cases e : 2 * s + q = 2 * r + p
    · have e1 : s = r := by omega
      have e2 : q = p := by omega
      subst e1 e2
      rw [hc_us, pk_un (by omega), pk_us, List.length_append]
      refine ⟨rfl, by show (T (2 * s + q)).length + 1 ≤ 16; omega, ?_, ?_⟩
      · intro x hx
        rcases List.mem_append.mp hx with z | z
        · exact h3 x z
        · rw [List.mem_singleton.mp z]
          exact hc
      · intro j hj
        have hj : j < (T (2 * s + q)).length + 1 := hj
        rw [hc_ga]
        by_cases e : j = (T (2 * s + q)).length
        · subst e
          rw [show 35 * s + 17 * q + 1 + (T (2 * s + q)).length = 35 * s + 17 * q + ((T (2 * s + q)).length + 1) from by omega, pk_us, if_neg (by omega), if_pos rfl]
        · rw [pk_un (by omega), pk_un (by omega), if_pos (by omega)]
          exact h4 j (by omega)
    · rw [hc_un e, pk_un (by omega), pk_un (by omega)]
      refine ⟨h1, h2, h3, ?_⟩
      intro j hj
      rw [pk_un (by omega), pk_un (by omega)]
      exact h4 j hj
  · have z : p = 0 ∨ p = 1 := by omega
    rw [pk_un (by rcases z with rfl | rfl <;> omega), pk_un (by rcases z with rfl | rfl <;> omega)]
    exact h.2 s
theorem hy_m0 {C : Nat → Int32} {T : Nat → List Nat} {mk : Nat → Nat} {r p : Nat} (h : hy_M C T mk) (hp : p < 2) : hy_M (upd C (35 * r + 17 * p) 0) (hc_ut T (2 * r + p) []) mk := by
  refine ⟨fun s q hq => ?_, fun s => ?_⟩
  · obtain ⟨h1, h2, h3, h4⟩ := h.1 s q hq
    by_cases e : 2 * s + q = 2 * r + p
    · have e1 : s = r := by omega
      have e2 : q = p := by omega
      subst e1 e2
      rw [hc_us, pk_us]
      exact ⟨rfl, by simp, by simp, fun j hj => absurd hj (by simp)⟩
    · rw [hc_un e, pk_un (by omega)]
      refine ⟨h1, h2, h3, ?_⟩
      intro j hj
      rw [pk_un (by omega)]
      exact h4 j hj
  · rw [pk_un (by omega)]
    exact h.2 s
theorem hy_mK {C : Nat → Int32} {T : Nat → List Nat} {mk : Nat → Nat} {r v : Nat} (h : hy_M C T mk) : hy_M (upd C (35 * r + 34) (nI v)) T (hy_um mk r v) := by
  refine ⟨fun s q hq => ?_, fun s => ?_⟩
  · obtain ⟨h1, h2, h3, h4⟩ := h.1 s q hq
    have z : q = 0 ∨ q = 1 := by omega
    rw [pk_un (by rcases z with rfl | rfl <;> omega)]
    refine ⟨h1, h2, h3, ?_⟩
    intro j hj
    rw [pk_un (by rcases z with rfl | rfl <;> omega)]
    exact h4 j hj
  · unfold hy_um
    by_cases e : s = r
    · subst e
      rw [pk_us, if_pos rfl]
    · rw [pk_un (by omega), if_neg e]
      exact h.2 s
theorem hy_mR {C C' : Nat → Int32} {T : Nat → List Nat} {mk : Nat → Nat} {a b : Nat} (h : hy_M C T mk) (hc : hy_cp C C' (35 * a) (35 * b) 34) : hy_M C' (hc_uf T b (hc_fl T a)) mk := by
  refine ⟨fun s q hq => ?_, fun s => ?_⟩
  · obtain ⟨h1, h2, h3, h4⟩ := h.1 s q hq
    obtain ⟨g1, g2, g3, g4⟩ := h.1 a q hq
    by_cases e : s = b
    · subst e
      have et : hc_uf T s (hc_fl T a) (2 * s + q) = T (2 * a + q) := by
        have z : q = 0 ∨ q = 1 := by omega
        rcases z with rfl | rfl
        · show hc_ut (hc_ut T (2 * s) (T (2 * a))) (2 * s + 1) (T (2 * a + 1)) (2 * s) = T (2 * a)
          rw [hc_un (by omega), hc_us]
        · show hc_ut (hc_ut T (2 * s) (T (2 * a))) (2 * s + 1) (T (2 * a + 1)) (2 * s + 1) = T (2 * a + 1)
          rw [hc_us]
      rw [et]
      refine ⟨?_, g2, g3, ?_⟩
      · rw [hc, if_pos (by omega), show 35 * a + (35 * s + 17 * q - 35 * s) = 35 * a + 17 * q from by omega]
        exact g1
      · intro j hj
        rw [hc, if_pos (by omega), show 35 * a + (35 * s + 17 * q + 1 + j - 35 * s) = 35 * a + 17 * q + 1 + j from by omega]
        exact g4 j hj
    · rw [hc_ufn (by omega) (by omega), hc, if_neg (by omega)]
      refine ⟨h1, h2, h3, ?_⟩
      intro j hj
      rw [hc, if_neg (by omega)]
      exact h4 j hj
  · rw [hc, if_neg (by omega)]
    exact h.2 s
theorem hy_mT {C C' : Nat → Int32} {T : Nat → List Nat} {mk : Nat → Nat} {a b : Nat} (h : hy_M C T mk) (hc : hy_cp C C' (35 * a) (35 * b) 17) : hy_M C' (hc_ut T (2 * b) (T (2 * a))) mk := by
  refine ⟨fun s q hq => ?_, fun s => ?_⟩
  · obtain ⟨h1, h2, h3, h4⟩ := h.1 s q hq
    obtain ⟨g1, g2, g3, g4⟩ := h.1 a 0 (by omega)
    by_cases e : 2 * s + q = 2 * b
    · have e1 : s = b := by omega
      have e2 : q = 0 := by omega
      subst e1 e2
      rw [show hc_ut T (2 * s) (T (2 * a)) (2 * s + 0) = T (2 * a) from hc_us]
      refine ⟨?_, g2, g3, ?_⟩
      · rw [hc, if_pos (by omega), show 35 * a + (35 * s + 17 * 0 - 35 * s) = 35 * a + 17 * 0 from by omega]
        exact g1
      · intro j hj
        have : (T (2 * a)).length ≤ 16 := g2
        rw [hc, if_pos (by omega), show 35 * a + (35 * s + 17 * 0 + 1 + j - 35 * s) = 35 * a + 17 * 0 + 1 + j from by omega]
        exact g4 j hj
    · rw [hc_un e, hc, if_neg (by omega)]
      refine ⟨h1, h2, h3, ?_⟩
      intro j hj
      rw [hc, if_neg (by omega)]
      exact h4 j hj
  · rw [hc, if_neg (by omega)]
    exact h.2 s
theorem hy_mR5 {C C' : Nat → Int32} {T : Nat → List Nat} {mk : Nat → Nat} {a b : Nat} (h : hy_M C T mk) (hc : hy_cp C C' (35 * a) (35 * b) 35) : hy_M C' (hc_uf T b (hc_fl T a)) (hy_um mk b (mk a)) := by
  have h1 : hy_cp C (fun i => if 35 * b ≤ i ∧ i < 35 * b + 34 then C (35 * a + (i - 35 * b)) else C i) (35 * a) (35 * b) 34 := fun _ => rfl
  have h2 := hy_mK (r := b) (v := mk a) (hy_mR h h1)
  have e : upd (fun i => if 35 * b ≤ i ∧ i < 35 * b + 34 then C (35 * a + (i - 35 * b)) else C i) (35 * b + 34) (nI (mk a)) = C' := by
    funext i
    rw [hc]
    by_cases e : i = 35 * b + 34
    · subst e
      rw [pk_us, if_pos (by omega), show 35 * a + (35 * b + 34 - 35 * b) = 35 * a + 34 from by omega]
      exact (h.2 a).symm
    · rw [pk_un e]
      by_cases z : 35 * b ≤ i ∧ i < 35 * b + 34
      · rw [if_pos z, if_pos (by omega)]
      · rw [if_neg z, if_neg (by omega)]
  rw [e] at h2
  exact h2
def hy_pt (T : Nat → List Nat) (a b : Nat) : Nat → List Nat := fun t => if 64 * b ≤ t ∧ t < 64 * b + 64 then T (64 * a + (t - 64 * b)) else T t
def hy_pm (mk : Nat → Nat) (a b : Nat) : Nat → Nat := fun r => if 32 * b ≤ r ∧ r < 32 * b + 32 then mk (32 * a + (r - 32 * b)) else mk r
theorem hy_mP {C C' : Nat → Int32} {T : Nat → List Nat} {mk : Nat → Nat} {a b : Nat} (h : hy_M C T mk) (hc : hy_cp C C' (1120 * a) (1120 * b) 1120) : hy_M C' (hy_pt T a b) (hy_pm mk a b) := by
  refine ⟨fun s q hq => ?_, fun s => ?_⟩
  · obtain ⟨h1, h2, h3, h4⟩ := h.1 s q hq
    by_cases e : 32 * b ≤ s ∧ s < 32 * b + 32
    · obtain ⟨g1, g2, g3, g4⟩ := h.1 (32 * a + (s - 32 * b)) q hq
      have et : hy_pt T a b (2 * s + q) = T (2 * (32 * a + (s - 32 * b)) + q) := by
        unfold hy_pt
        rw [if_pos (by omega), show 64 * a + (2 * s + q - 64 * b) = 2 * (32 * a + (s - 32 * b)) + q from by omega]
      rw [et]
      refine ⟨?_, g2, g3, ?_⟩
      · rw [hc, if_pos (by omega), show 1120 * a + (35 * s + 17 * q - 1120 * b) = 35 * (32 * a + (s - 32 * b)) + 17 * q from by omega]
        exact g1
      · intro j hj
        rw [hc, if_pos (by omega), show 1120 * a + (35 * s + 17 * q + 1 + j - 1120 * b) = 35 * (32 * a + (s - 32 * b)) + 17 * q + 1 + j from by omega]
        exact g4 j hj
    · have et : hy_pt T a b (2 * s + q) = T (2 * s + q) := by
        unfold hy_pt
        rw [if_neg (by omega)]
      rw [et, hc, if_neg (by omega)]
      refine ⟨h1, h2, h3, ?_⟩
      intro j hj
      rw [hc, if_neg (by omega)]
      exact h4 j hj
  · rw [hc]
    unfold hy_pm
    by_cases e : 32 * b ≤ s ∧ s < 32 * b + 32
    · rw [if_pos e, if_pos (by omega), show 1120 * a + (35 * s + 34 - 1120 * b) = 35 * (32 * a + (s - 32 * b)) + 34 from by omega]
      exact h.2 _
    · rw [if_neg e, if_neg (by omega)]
      exact h.2 s
theorem hy_append {post : Int32 → SY → Prop} {T : Nat → List Nat} {mk : Nat → Nat} {r p : Nat} {x y : Int32} (hm : hy_M zce T mk) (hr : r < 256) (hp : p < 2) (ex : x = nI (35 * r + 17 * p)) (H1 : (∀ c, c < 128 → y ≠ nI c) → post 1 (zfl, zmf, zwl, zpo, zfa, zfi, zin, zce, znu, zca, zse, zwi, zle, zwo)) (H4 : ∀ c, c < 128 → y = nI c → 16 ≤ (T (2 * r + p)).length → post 4 (zfl, zmf, zwl, zpo, zfa, zfi, zin, zce, znu, zca, zse, zwi, zle, zwo)) (H0 : ∀ c, c < 128 → y = nI c → (T (2 * r + p)).length < 16 → ∀ C, hy_M C (hc_ut T (2 * r + p) (T (2 * r + p) ++ [c])) mk → post 0 (zfl, zmf, zwl, zpo, zfa, zfi, zin, C, znu, zca, zse, zwi, zle, zwo)) : wpY_append post (zfl, zmf, zwl, zpo, zfa, zfi, zin, zce, znu, zca, zse, zwi, zle, zwo) x y := by
  subst ex
  have h := hm.1 r p hp
  by_cases hy : y < 0
  · refine br_t hy (H1 (fun c hc e => ?_))
    subst e
    exact nI_pos (by omega) hy
  · refine br_f hy ?_
    obtain ⟨c, hc, rfl⟩ := nI_of hy
    have ev := hc_at (a := zce) (x := nI (35 * r + 17 * p)) rfl (by omega) h.1
    have hi : vp_in (nI (35 * r + 17 * p)) 8960 := vp_in_nI (by omega) (by decide)
    refine pk_le c 127 (fun z => And.intro hi ?_) (fun z => H1 (fun k hk e => ?_))
    · refine pk_lt (T (2 * r + p)).length 16 (fun l => And.intro hi (And.intro hi (nm_r (hc_up rfl (by omega) (hc_add ev rfl)) ?_))) (fun l => H4 c (by omega) rfl l) ev
      have e2 : nI (35 * r + 17 * p) + upd zce (35 * r + 17 * p) (nI ((T (2 * r + p)).length + 1)) (nI (35 * r + 17 * p)).toNatClampNeg = nI (35 * r + 17 * p + ((T (2 * r + p)).length + 1)) := hc_add rfl (hc_at rfl (by omega) pk_us)
      refine And.intro hi (And.intro (hc_i e2 (by omega) (by decide)) (nm_r (hc_up e2 (by omega) rfl) (H0 c (by omega) rfl l _ (hy_mA hm hp l (by omega)))))
    · rw [nI_eq hc (by omega)] at e
      omega
theorem hy_cpl {post : SY → Prop} {C : Nat → Int32} {a b n : Nat} (ha : a + n ≤ 8960) (hb : b + n ≤ 8960) (hd : a + n ≤ b ∨ b + n ≤ a) (H : ∀ C', hy_cp C C' a b n → post (zfl, zmf, zwl, zpo, zfa, zfi, zin, C', znu, zca, zse, zwi, zle, zwo)) : ∀ d j C', j + d = n → hy_cp C C' a b j → ∀ f, d < f → wY_copy_3 post (nI a) (nI b) (nI n) zfl zmf zwl zpo zfa zfi zin f (nI j) C' znu zca zse zwi zle zwo := by
  intro d
  induction d with
  | zero =>
    intro j C' hj hc f hf
    obtain ⟨f, rfl⟩ : ∃ g, f = g + 1 := ⟨f - 1, by omega⟩
    have e : j = n := by omega
    subst e
    exact pk_le j j (fun _ => H C' hc) (fun z => absurd z (by omega))
  | succ d ih =>
    intro j C' hj hc f hf
    obtain ⟨f, rfl⟩ : ∃ g, f = g + 1 := ⟨f - 1, by omega⟩
    have ea : nI a + nI j = nI (a + j) := hc_add rfl rfl
    have eb : nI b + nI j = nI (b + j) := hc_add rfl rfl
    have ev : C' (a + j) = C (a + j) := by rw [hc, if_neg (by omega)]
    refine pk_le n j (fun z => absurd z (by omega)) (fun _ => And.intro (hc_i ea (by omega) (by decide)) (And.intro (hc_i eb (by omega) (by decide)) (nm_r (hc_up eb (by omega) (hc_at ea (by omega) ev)) (nm_r (nI_1 j) ?_))))
    refine ih (j + 1) _ (by omega) ?_ f (by omega)
    intro i
    by_cases e : i = b + j
    · subst e
      rw [pk_us, if_pos (by omega), show a + (b + j - b) = a + j from by omega]
    · rw [pk_un e, hc i]
      by_cases z : b ≤ i ∧ i < b + j
      · rw [if_pos z, if_pos (by omega)]
      · rw [if_neg z, if_neg (by omega)]
theorem hy_copy {post : SY → Prop} {a b n : Nat} {x y z : Int32} (ha : a + n ≤ 8960) (hb : b + n ≤ 8960) (hd : a + n ≤ b ∨ b + n ≤ a) (ex : x = nI a) (ey : y = nI b) (ez : z = nI n) (H : ∀ C, hy_cp zce C a b n → post (zfl, zmf, zwl, zpo, zfa, zfi, zin, C, znu, zca, zse, zwi, zle, zwo)) : wpY_copy post (zfl, zmf, zwl, zpo, zfa, zfi, zin, zce, znu, zca, zse, zwi, zle, zwo) x y z := by
  subst ex ey ez
  exact ⟨n + 1, hy_cpl (C := zce) ha hb hd H n 0 zce (by omega) (fun i => by rw [if_neg (by omega)]) _ (by omega)⟩
/-- the row of entry or field i in place w -/
def hy_ro (w i : Nat) : Nat := if 3 ≤ w ∧ w ≤ 5 ∧ i < 15 then 224 + i else 32 * w + i
theorem hy_at {post : Int32 → Prop} {w i : Nat} {x y : Int32} (hw : w < 8) (hi : i < 2 ^ 31) (ex : x = nI w) (ey : y = nI i) (H : post (nI (35 * hy_ro w i))) : wpY_at post (zfl, zmf, zwl, zpo, zfa, zfi, zin, zce, znu, zca, zse, zwi, zle, zwo) x y := by
  subst ex ey
  unfold hy_ro at H
  have e : (nI w * 32 + nI i) * 35 = nI ((w * 32 + i) * 35) := hc_mul (hc_add (hc_mul rfl rfl) rfl) rfl
  have e7 : ((7 : Int32) * 32 + nI i) * 35 = nI ((7 * 32 + i) * 35) := hc_mul (hc_add (hc_mul rfl rfl) rfl) rfl
  have g : ¬ (3 ≤ w ∧ w ≤ 5 ∧ i < 15) → post ((nI w * 32 + nI i) * 35) := by
    intro z
    rw [if_neg z, show 35 * (32 * w + i) = (w * 32 + i) * 35 from by omega] at H
    rw [e]
    exact H
  refine pk_lt w 3 (fun z => g (by omega)) (fun z => ?_)
  refine pk_lt 5 w (fun z => g (by omega)) (fun z => ?_)
  refine pk_le 15 i (fun z => g (by omega)) (fun z => ?_)
  rw [if_pos (by omega), show 35 * (224 + i) = (7 * 32 + i) * 35 from by omega] at H
  rw [e7]
  exact H
theorem hy_entrySize {post : Int32 → Prop} {T : Nat → List Nat} {mk : Nat → Nat} {r : Nat} {x : Int32} (hm : hy_M zce T mk) (hr : r < 256) (ex : x = nI (35 * r)) (H : post (nI (hc_fz (hc_fl T r)))) : wpY_entrySize post (zfl, zmf, zwl, zpo, zfa, zfi, zin, zce, znu, zca, zse, zwi, zle, zwo) x := by
  subst ex
  have h1 := (hm.1 r 0 (by omega)).1
  have h2 := (hm.1 r 1 (by omega)).1
  refine And.intro (vp_in_nI (by omega) (by decide)) (And.intro (hc_i (hc_add rfl rfl) (show 35 * r + 17 < 8960 by omega) (by decide)) ?_)
  have e2 : nI (35 * r) + 17 = nI (35 * r + 17) := hc_add rfl rfl
  rw [hc_at (a := zce) (x := nI (35 * r)) rfl (by omega) h1, hc_at (a := zce) e2 (by omega) h2]
  rw [show nI (T (2 * r + 0)).length + nI (T (2 * r + 1)).length + 8 = nI (hc_fz (hc_fl T r)) from hc_add (hc_add rfl rfl) rfl]
  exact H
theorem hy_sml {post : Int32 → Prop} {T : Nat → List Nat} {mk : Nat → Nat} {r p s q : Nat} (hm : hy_M zce T mk) (hr : r < 256) (hp : p < 2) (hs : s < 256) (hq : q < 2) (H1 : T (2 * r + p) = T (2 * s + q) → post 1) (H0 : T (2 * r + p) ≠ T (2 * s + q) → post 0) : ∀ d j, j + d = (T (2 * r + p)).length → (T (2 * r + p)).length = (T (2 * s + q)).length → (∀ i, i < j → (T (2 * r + p)).getD i 0 = (T (2 * s + q)).getD i 0) → ∀ f, d < f → wY_same_2 post (nI (35 * r + 17 * p)) (nI (35 * s + 17 * q)) zfl zmf zwl zpo zfa zfi zin zce znu zca zse zwi zle zwo f (nI (j + 1)) := by
  obtain ⟨h1, h2, h3, h4⟩ := hm.1 r p hp
  obtain ⟨g1, g2, g3, g4⟩ := hm.1 s q hq
  intro d
  induction d with
  | zero =>
    intro j hj hl he f hf
    obtain ⟨f, rfl⟩ : ∃ g, f = g + 1 := ⟨f - 1, by omega⟩
    refine And.intro (vp_in_nI (by omega) (by decide)) ?_
    exact pk_lt (T (2 * r + p)).length (j + 1) (fun _ => H1 (hc_ext _ _ hl (fun i hi => he i (by omega)))) (fun z => absurd z (by omega)) (hc_at rfl (by omega) h1)
  | succ d ih =>
    intro j hj hl he f hf
    obtain ⟨f, rfl⟩ : ∃ g, f = g + 1 := ⟨f - 1, by omega⟩
    have ea : nI (35 * r + 17 * p) + nI (j + 1) = nI (35 * r + 17 * p + 1 + j) := hc_nx (hc_add rfl rfl) (by omega)
    have eb : nI (35 * s + 17 * q) + nI (j + 1) = nI (35 * s + 17 * q + 1 + j) := hc_nx (hc_add rfl rfl) (by omega)
    have va := hc_at ea (by omega) (h4 j (by omega))
    have vb := hc_at eb (by omega) (g4 j (by omega))
    have la := h3 _ (hc_gm (T (2 * r + p)) j (by omega))
    have lb := g3 _ (hc_gm (T (2 * s + q)) j (by omega))
    refine And.intro (vp_in_nI (by omega) (by decide)) ?_
    refine pk_lt (T (2 * r + p)).length (j + 1) (fun z => absurd z (by omega)) (fun _ => And.intro (hc_i ea (by omega) (by decide)) (And.intro (hc_i eb (by omega) (by decide)) ?_)) (hc_at rfl (by omega) h1)
    refine pk_eq ((T (2 * r + p)).getD j 0) ((T (2 * s + q)).getD j 0) (fun e => nm_r (nI_1 (j + 1)) (ih (j + 1) (by omega) hl (fun i hi => ?_) f (by omega))) (fun e => H0 (fun z => e (by rw [z]))) va vb
    by_cases z : i = j
    · subst z
      exact e
    · exact he i (by omega)
theorem hy_same {post : Int32 → Prop} {T : Nat → List Nat} {mk : Nat → Nat} {r p s q : Nat} {x y : Int32} (hm : hy_M zce T mk) (hr : r < 256) (hp : p < 2) (hs : s < 256) (hq : q < 2) (ex : x = nI (35 * r + 17 * p)) (ey : y = nI (35 * s + 17 * q)) (H1 : T (2 * r + p) = T (2 * s + q) → post 1) (H0 : T (2 * r + p) ≠ T (2 * s + q) → post 0) : wpY_same post (zfl, zmf, zwl, zpo, zfa, zfi, zin, zce, znu, zca, zse, zwi, zle, zwo) x y := by
  subst ex ey
  obtain ⟨h1, h2, h3, h4⟩ := hm.1 r p hp
  obtain ⟨g1, g2, g3, g4⟩ := hm.1 s q hq
  refine ⟨(T (2 * r + p)).length + 2, ?_⟩
  have ea : nI (35 * r + 17 * p) + 0 = nI (35 * r + 17 * p) := hc_add (b := 0) rfl rfl
  have eb : nI (35 * s + 17 * q) + 0 = nI (35 * s + 17 * q) := hc_add (b := 0) rfl rfl
  refine And.intro (vp_in_nI (by omega) (by decide)) ?_
  refine pk_lt (T (2 * r + p)).length 0 (fun z => absurd z (by omega)) (fun _ => And.intro (hc_i ea (by omega) (by decide)) (And.intro (hc_i eb (by omega) (by decide)) ?_)) (hc_at rfl (by omega) h1)
  refine pk_eq (T (2 * r + p)).length (T (2 * s + q)).length (fun e => nm_r (e' := nI 1) (nI_1 0) ?_) (fun e => H0 (fun z => e (by rw [z]))) (hc_at ea (by omega) h1) (hc_at eb (by omega) g1)
  exact hy_sml hm hr hp hs hq H1 H0 (T (2 * r + p)).length 0 (by omega) e (fun i hi => absurd hi (by omega)) _ (by omega)
theorem hy_clearStage {post : SY → Prop} {T : Nat → List Nat} {mk : Nat → Nat} (hm : hy_M zce T mk) (H : ∀ C, hy_M C (hc_uf T 0 ([], [])) mk → post (zfl, zmf, zwl, zpo, zfa, zfi, zin, C, znu, zca, zse, zwi, zle, zwo)) : wpY_clearStage post (zfl, zmf, zwl, zpo, zfa, zfi, zin, zce, znu, zca, zse, zwi, zle, zwo) := by
  exact nm_e (nm_e (H _ (hy_m0 (r := 0) (p := 1) (hy_m0 (r := 0) (p := 0) hm (by omega)) (by omega))))
end
end
section
section
variable {qs1 qs2 qs3 qs4 qs5 qs6 qs7 qs8 qlc qgc qdc qwc qin qfl qmf qli qlo qta qlt qcu qrv qrs : Int32} {qoc qln qcn qhd qsz qcp qcw qcb qsy qk1 qk2 qk3 qk4 qlm qgf qdf qwi : Nat → Int32}
/-- table t, the newest in ring place h -/
def hx_Tb (T : Nat → List Nat) (t h : Nat) (tb : List hc_Fd) : Prop := ∀ i, i < tb.length → hc_fl T (33 + 16 * t + (h + i) % 16) = tb.getD i hc_f0
def hx_tab (T : Nat → List Nat) (cn hd sz cp : Nat → Int32) (t : Nat) (tb : List hc_Fd) (cap : Nat) : Prop := cn t = nI tb.length ∧ sz t = nI (hc_ts tb) ∧ cp t = nI cap ∧ hc_ts tb ≤ cap ∧ cap ≤ 128 ∧ ∃ h, h < 16 ∧ hd t = nI h ∧ hx_Tb T t h tb
theorem hx_tabL {T : Nat → List Nat} {cn hd sz cp : Nat → Int32} {t : Nat} {tb : List hc_Fd} {cap : Nat} (h : hx_tab T cn hd sz cp t tb cap) : tb.length ≤ 16 := by
  have h1 := hc_ts8 tb
  have h2 := h.2.2.2.1
  have h3 := h.2.2.2.2.1
  omega
theorem hx_tabC {T T' : Nat → List Nat} {cn hd sz cp cn' hd' sz' cp' : Nat → Int32} {t : Nat} {tb : List hc_Fd} {cap : Nat} (h : hx_tab T cn hd sz cp t tb cap) (e1 : cn' t = cn t) (e2 : hd' t = hd t) (e3 : sz' t = sz t) (e4 : cp' t = cp t) (eT : ∀ x, 66 + 32 * t ≤ x → x < 98 + 32 * t → T' x = T x) : hx_tab T' cn' hd' sz' cp' t tb cap := by
  obtain ⟨h1, h2, h3, h4, h5, k, h6, h7, h8⟩ := h
  refine ⟨e1.trans h1, e3.trans h2, e4.trans h3, h4, h5, k, h6, e2.trans h7, fun i hi => ?_⟩
  rw [← h8 i hi]
  exact hc_flc (eT _ (by omega) (by omega)) (eT _ (by omega) (by omega))
theorem hx_TbT {T : Nat → List Nat} {t h : Nat} {tb : List hc_Fd} (hb : hx_Tb T t h tb) (k : Nat) : hx_Tb T t h (tb.take k) := by
  intro i hi
  rw [List.length_take] at hi
  rw [hc_gt _ _ _ _ (by omega)]
  exact hb i (by omega)
theorem hx_room {room : Int32} {S e cap : Nat} (er : room.toInt = (cap : Int) - e) (hS : S < 2 ^ 31) : nI S ≤ room ↔ S + e ≤ cap := by
  rw [Int32.le_iff_toInt_le, nI_toInt hS, er]
  omega
theorem hx_evl {post : SX → Prop} {T : Nat → List Nat} {t h e cap : Nat} {tb : List hc_Fd} {room : Int32} (hm : hx_M qoc qln T) (ht : t < 3) (hh : h < 16) (hL : tb.length ≤ 16) (hS : ∀ k, hc_ts (tb.take k) < 2 ^ 31) (hb : hx_Tb T t h tb) (eh : qhd t = nI h) (er : room.toInt = (cap : Int) - e) : ∀ k, k ≤ tb.length → ∀ cn sz, (∀ j, j ≠ t → cn j = qcn j ∧ sz j = qsz j) → cn t = nI k → sz t = nI (hc_ts (tb.take k)) → (∀ cn sz, (∀ j, j ≠ t → cn j = qcn j ∧ sz j = qsz j) → cn t = nI (hc_en tb e cap k) → sz t = nI (hc_ts (tb.take (hc_en tb e cap k))) → post (qs1, qs2, qs3, qs4, qs5, qs6, qs7, qs8, qlc, qgc, qdc, qwc, qin, qfl, qmf, qli, qlo, qta, qlt, qcu, qrv, qrs, qoc, qln, cn, qhd, sz, qcp, qcw, qcb, qsy, qk1, qk2, qk3, qk4, qlm, qgf, qdf, qwi)) → ∀ f, k < f → wX_evict_7 post (nI t) room qs1 qs2 qs3 qs4 qs5 qs6 qs7 qs8 qlc qgc qdc qwc qin qfl qmf qli qlo qta qlt qcu qrv qrs f (nI k) qoc qln cn qhd sz qcp qcw qcb qsy qk1 qk2 qk3 qk4 qlm qgf qdf qwi := by
  intro k
  induction k with
  | zero =>
    intro hk cn sz hf h1 h2 H f hf0
    obtain ⟨f, rfl⟩ : ∃ g, f = g + 1 := ⟨f - 1, by omega⟩
    exact pk_le 0 0 (fun _ => H cn sz hf h1 h2) (fun z => absurd z (by omega))
  | succ k ih =>
    intro hk cn sz hf h1 h2 H f hf0
    obtain ⟨f, rfl⟩ : ∃ g, f = g + 1 := ⟨f - 1, by omega⟩
    have hi : vp_in (nI t) 3 := vp_in_nI ht (by decide)
    have es : sz (nI t).toNatClampNeg = nI (hc_ts (tb.take (k + 1))) := hc_at rfl (by omega) h2
    refine pk_le (k + 1) 0 (fun z => absurd z (by omega)) (fun _ => And.intro hi ?_)
    by_cases c : hc_ts (tb.take (k + 1)) + e ≤ cap
    · refine br_t (by rw [es]; exact (hx_room er (hS _)).mpr c) ?_
      have en : hc_en tb e cap (k + 1) = k + 1 := if_neg (by omega)
      exact H cn sz hf (by rw [en]; exact h1) (by rw [en]; exact h2)
    · refine br_f (by rw [es, hx_room er (hS _)]; exact c) (And.intro hi ?_)
      have en : hc_en tb e cap (k + 1) = hc_en tb e cap k := if_pos (by omega)
      have e1 : qhd (nI t).toNatClampNeg + nI (k + 1) - 1 = nI (h + k) := hc_nx (hc_sub (b := 1) (hc_add (hc_at rfl (by omega) eh) rfl) rfl (by omega)) (by omega)
      have e2 : (33 : Int32) + 16 * nI t + ((qhd (nI t).toNatClampNeg + nI (k + 1) - 1) &&& 15) = nI (33 + 16 * t + (h + k) % 16) := by
        rw [e1]
        exact hc_add (hc_add rfl (hc_mul rfl rfl)) (hc_and (b := 4) (by omega) (by decide))
      have ts := hc_tsS tb k (by omega)
      have tz := hS (k + 1)
      refine nm_r e2 (And.intro hi ?_)
      refine hx_fieldSize (T := T) hm (show 33 + 16 * t + (h + k) % 16 < 82 by omega) rfl ?_
      rw [hb k (by omega)]
      have e3 : sz (nI t).toNatClampNeg - nI (hc_fz (tb.getD k hc_f0)) = nI (hc_ts (tb.take k)) := hc_nx (hc_sub es rfl (by omega)) (by omega)
      have e4 : nI (k + 1) - 1 = nI k := nI_pred k
      refine And.intro hi (nm_r (hc_up rfl (by omega) e3) (And.intro hi (nm_r (hc_up rfl (by omega) e4) (nm_r (pk_m1 k) ?_))))
      refine ih (by omega) _ _ (fun j hj => ?_) pk_us pk_us ?_ f (by omega)
      · rw [pk_un hj, pk_un hj]
        exact hf j hj
      · rw [en] at H
        exact H
theorem hx_evict {post : SX → Prop} {T : Nat → List Nat} {t h e cap : Nat} {tb : List hc_Fd} {room x : Int32} (hm : hx_M qoc qln T) (ht : t < 3) (hh : h < 16) (hL : tb.length ≤ 16) (hS : hc_ts tb ≤ 1000) (hb : hx_Tb T t h tb) (eh : qhd t = nI h) (en : qcn t = nI tb.length) (ez : qsz t = nI (hc_ts tb)) (er : room.toInt = (cap : Int) - e) (ex : x = nI t) (H : ∀ cn sz, (∀ j, j ≠ t → cn j = qcn j ∧ sz j = qsz j) → cn t = nI (hc_ev tb e cap).length → sz t = nI (hc_ts (hc_ev tb e cap)) → post (qs1, qs2, qs3, qs4, qs5, qs6, qs7, qs8, qlc, qgc, qdc, qwc, qin, qfl, qmf, qli, qlo, qta, qlt, qcu, qrv, qrs, qoc, qln, cn, qhd, sz, qcp, qcw, qcb, qsy, qk1, qk2, qk3, qk4, qlm, qgf, qdf, qwi)) : wpX_evict post (qs1, qs2, qs3, qs4, qs5, qs6, qs7, qs8, qlc, qgc, qdc, qwc, qin, qfl, qmf, qli, qlo, qta, qlt, qcu, qrv, qrs, qoc, qln, qcn, qhd, qsz, qcp, qcw, qcb, qsy, qk1, qk2, qk3, qk4, qlm, qgf, qdf, qwi) x room := by
  subst ex
  have hS2 : ∀ k, hc_ts (tb.take k) < 2 ^ 31 := by
    have g : ∀ (l : List hc_Fd) (k : Nat), hc_ts (l.take k) ≤ hc_ts l := by
      intro l
      induction l with
      | nil => intro k; simp
      | cons a l ih =>
        intro k
        cases k with
        | zero => simp [hc_ts]
        | succ k =>
          have := ih k
          simp only [List.take_succ_cons, hc_ts]
          omega
    intro k
    have := g tb k
    omega
  refine And.intro (vp_in_nI ht (by decide)) (nm_r (e' := nI tb.length) (hc_at rfl (by omega) en) ⟨tb.length + 1, ?_⟩)
  refine hx_evl hm ht hh hL hS2 hb eh er tb.length (Nat.le_refl _) qcn qsz (fun j _ => ⟨rfl, rfl⟩) en (by rw [List.take_length]; exact ez) (fun cn sz hf h1 h2 => H cn sz hf ?_ h2) _ (by omega)
  rw [hc_evL]
  exact h1
theorem hx_setCapacity {post : SX → Prop} {T : Nat → List Nat} {t cap c : Nat} {tb : List hc_Fd} {x y : Int32} (hm : hx_M qoc qln T) (ht : t < 3) (hc : c ≤ 128) (hb : hx_tab T qcn qhd qsz qcp t tb cap) (ex : x = nI t) (ey : y = nI c) (H : ∀ cn sz cp, (∀ j, j ≠ t → cn j = qcn j ∧ sz j = qsz j ∧ cp j = qcp j) → hx_tab T cn qhd sz cp t (hc_ev tb 0 c) c → post (qs1, qs2, qs3, qs4, qs5, qs6, qs7, qs8, qlc, qgc, qdc, qwc, qin, qfl, qmf, qli, qlo, qta, qlt, qcu, qrv, qrs, qoc, qln, cn, qhd, sz, cp, qcw, qcb, qsy, qk1, qk2, qk3, qk4, qlm, qgf, qdf, qwi)) : wpX_setCapacity post (qs1, qs2, qs3, qs4, qs5, qs6, qs7, qs8, qlc, qgc, qdc, qwc, qin, qfl, qmf, qli, qlo, qta, qlt, qcu, qrv, qrs, qoc, qln, qcn, qhd, qsz, qcp, qcw, qcb, qsy, qk1, qk2, qk3, qk4, qlm, qgf, qdf, qwi) x y := by
  subst ex ey
  have hL := hx_tabL hb
  obtain ⟨h1, h2, h3, h4, h5, h, h6, h7, h8⟩ := hb
  refine And.intro (vp_in_nI ht (by decide)) (nm_r (hc_up (w := nI c) rfl (by omega) rfl) ?_)
  refine hx_evict (T := T) (tb := tb) (e := 0) (cap := c) hm ht h6 hL (by omega) h8 h7 h1 h2 (by rw [nI_toInt (by omega)]; simp) rfl (fun cn sz hf g1 g2 => ?_)
  refine H cn sz _ (fun j hj => ⟨(hf j hj).1, (hf j hj).2, pk_un hj⟩) ⟨g1, g2, pk_us, ?_, hc, h, h6, h7, hx_TbT h8 _⟩
  exact hc_evF tb 0 c (by omega)
theorem hx_insert {post : SX → Prop} {T : Nat → List Nat} {t cap s : Nat} {tb : List hc_Fd} {x y : Int32} (hm : hx_M qoc qln T) (ht : t < 3) (hs : s < 82) (hst : s < 33 + 16 * t ∨ 49 + 16 * t ≤ s) (hb : hx_tab T qcn qhd qsz qcp t tb cap) (ex : x = nI t) (ey : y = nI s) (H : ∀ o l cn hd sz T', hx_M o l T' → (∀ z, z < 66 + 32 * t ∨ 98 + 32 * t ≤ z → T' z = T z) → (∀ j, j ≠ t → cn j = qcn j ∧ hd j = qhd j ∧ sz j = qsz j) → hx_tab T' cn hd sz qcp t (hc_in tb (hc_fl T s) cap) cap → post (qs1, qs2, qs3, qs4, qs5, qs6, qs7, qs8, qlc, qgc, qdc, qwc, qin, qfl, qmf, qli, qlo, qta, qlt, qcu, qrv, qrs, o, l, cn, hd, sz, qcp, qcw, qcb, qsy, qk1, qk2, qk3, qk4, qlm, qgf, qdf, qwi)) : wpX_insert post (qs1, qs2, qs3, qs4, qs5, qs6, qs7, qs8, qlc, qgc, qdc, qwc, qin, qfl, qmf, qli, qlo, qta, qlt, qcu, qrv, qrs, qoc, qln, qcn, qhd, qsz, qcp, qcw, qcb, qsy, qk1, qk2, qk3, qk4, qlm, qgf, qdf, qwi) x y := by
  subst ex ey
  have hL := hx_tabL hb
  obtain ⟨h1, h2, h3, h4, h5, h, h6, h7, h8⟩ := hb
  have hi : vp_in (nI t) 3 := vp_in_nI ht (by decide)
  have l1 := (hm (2 * s)).2.1
  have l2 := (hm (2 * s + 1)).2.1
  have le : hc_fz (hc_fl T s) ≤ 40 := by
    show (T (2 * s)).length + (T (2 * s + 1)).length + 8 ≤ 40
    omega
  have ec : qcp (nI t).toNatClampNeg = nI cap := hc_at rfl (by omega) h3
  unfold wpX_insert
  refine hx_fieldSize (T := T) hm hs rfl ?_
  refine And.intro hi ?_
  refine hx_evict (T := T) (tb := tb) (e := hc_fz (hc_fl T s)) (cap := cap) hm ht h6 hL (by omega) h8 h7 h1 h2 (by rw [ec, pk_sub_toInt (by omega) (by omega)]) rfl (fun cn sz hf g1 g2 => And.intro hi ?_)
  refine pk_lt cap (hc_fz (hc_fl T s)) (fun z => ?_) (fun z => And.intro hi ?_) ec
  · refine H _ _ cn _ sz T hm (fun _ _ => rfl) (fun j hj => ⟨(hf j hj).1, rfl, (hf j hj).2⟩) ?_
    have e : hc_in tb (hc_fl T s) cap = hc_ev tb (hc_fz (hc_fl T s)) cap := if_neg (by omega)
    have e0 := hc_evZ tb _ _ z
    rw [e]
    refine ⟨g1, g2, h3, ?_, h5, h, h6, h7, hx_TbT h8 _⟩
    rw [e0]
    exact Nat.zero_le _
  · have e : hc_in tb (hc_fl T s) cap = hc_fl T s :: hc_ev tb (hc_fz (hc_fl T s)) cap := if_pos z
    have f1 := hc_evF tb _ _ z
    have f2 := hc_ts8 (hc_ev tb (hc_fz (hc_fl T s)) cap)
    have f3 : 8 ≤ hc_fz (hc_fl T s) := Nat.le_add_left _ _
    have e1 : qhd (nI t).toNatClampNeg + 15 = nI (h + 15) := hc_add (hc_at rfl (by omega) h7) rfl
    have e2 : (qhd (nI t).toNatClampNeg + 15) &&& 15 = nI ((h + 15) % 16) := by
      rw [e1]
      exact hc_and (b := 4) (by omega) (by decide)
    refine nm_r e2 ?_
    refine hx_copyField (T := T) (a := s) (b := 33 + 16 * t + (h + 15) % 16) hm hs (by omega) (by omega) rfl (hc_add (hc_add rfl (hc_mul rfl rfl)) rfl) (fun o l hm' => And.intro hi ?_)
    refine nm_r (hc_up rfl (by omega) rfl) (And.intro hi (And.intro hi (nm_r (hc_up (w := nI ((hc_ev tb (hc_fz (hc_fl T s)) cap).length + 1)) rfl (by omega) (hc_add (hc_at rfl (by omega) g1) rfl)) (And.intro hi (And.intro hi (nm_r (hc_up (w := nI (hc_ts (hc_ev tb (hc_fz (hc_fl T s)) cap) + hc_fz (hc_fl T s))) rfl (by omega) (hc_add (hc_at rfl (by omega) g2) rfl)) ?_))))))
    refine H o l _ _ _ _ hm' (fun z hz => hc_ufn (by omega) (by omega)) (fun j hj => ⟨(pk_un hj).trans (hf j hj).1, pk_un hj, (pk_un hj).trans (hf j hj).2⟩) ?_
    rw [e]
    refine ⟨pk_us, pk_us.trans (congrArg nI (Nat.add_comm _ _)), h3, ?_, h5, (h + 15) % 16, by omega, pk_us, ?_⟩
    · show hc_fz _ + hc_ts _ ≤ cap
      omega
    · intro i hi
      cases i with
      | zero =>
        show hc_fl _ (33 + 16 * t + ((h + 15) % 16 + 0) % 16) = hc_fl T s
        rw [show ((h + 15) % 16 + 0) % 16 = (h + 15) % 16 from by omega, hc_ufs]
      | succ i =>
        have hi : i < (hc_ev tb (hc_fz (hc_fl T s)) cap).length := by simpa using hi
        show hc_fl _ (33 + 16 * t + ((h + 15) % 16 + (i + 1)) % 16) = (hc_ev tb (hc_fz (hc_fl T s)) cap).getD i hc_f0
        rw [show ((h + 15) % 16 + (i + 1)) % 16 = (h + i) % 16 from by omega, hc_ufo (by omega)]
        exact hx_TbT h8 _ i hi
/-- the first k slots of ring a copied to ring b -/
def hx_ct (T : Nat → List Nat) (a b k : Nat) : Nat → List Nat := fun x => if 66 + 32 * b ≤ x ∧ x < 66 + 32 * b + 2 * k then T (66 + 32 * a + (x - (66 + 32 * b))) else T x
theorem hx_ctS {T : Nat → List Nat} {a b k : Nat} (ha : a < 3) (hb : b < 3) (hab : a ≠ b) (hk : k < 16) : hc_uf (hx_ct T a b k) (33 + 16 * b + k) (hc_fl (hx_ct T a b k) (33 + 16 * a + k)) = hx_ct T a b (k + 1) := by
  have e : hc_fl (hx_ct T a b k) (33 + 16 * a + k) = hc_fl T (33 + 16 * a + k) := by
    refine hc_flc ?_ ?_
    · exact if_neg (by omega)
    · exact if_neg (by omega)
  rw [e]
  funext x
  unfold hx_ct
  by_cases h1 : x = 2 * (33 + 16 * b + k) + 1
  · subst h1
    unfold hc_uf hc_fl
    rw [hc_us, if_pos (by omega), show 66 + 32 * a + (2 * (33 + 16 * b + k) + 1 - (66 + 32 * b)) = 2 * (33 + 16 * a + k) + 1 from by omega]
  · by_cases h2 : x = 2 * (33 + 16 * b + k)
    · subst h2
      unfold hc_uf hc_fl
      rw [hc_un h1, hc_us, if_pos (by omega), show 66 + 32 * a + (2 * (33 + 16 * b + k) - (66 + 32 * b)) = 2 * (33 + 16 * a + k) from by omega]
    · rw [hc_ufn h2 h1]
      by_cases h3 : 66 + 32 * b ≤ x ∧ x < 66 + 32 * b + 2 * k
      · rw [if_pos h3, if_pos (by omega)]
      · rw [if_neg h3, if_neg (by omega)]
theorem hx_ctlp {post : SX → Prop} {T : Nat → List Nat} {a b : Nat} (ha : a < 3) (hb : b < 3) (hab : a ≠ b) (H : ∀ o l, hx_M o l (hx_ct T a b 16) → post (qs1, qs2, qs3, qs4, qs5, qs6, qs7, qs8, qlc, qgc, qdc, qwc, qin, qfl, qmf, qli, qlo, qta, qlt, qcu, qrv, qrs, o, l, upd qcn b (qcn a), upd qhd b (qhd a), upd qsz b (qsz a), upd qcp b (qcp a), qcw, qcb, qsy, qk1, qk2, qk3, qk4, qlm, qgf, qdf, qwi)) : ∀ d k o l, k + d = 16 → hx_M o l (hx_ct T a b k) → ∀ f, d < f → wX_copyTable_2 post (nI a) (nI b) f (nI k) qs1 qs2 qs3 qs4 qs5 qs6 qs7 qs8 qlc qgc qdc qwc qin qfl qmf qli qlo qta qlt qcu qrv qrs o l qcn qhd qsz qcp qcw qcb qsy qk1 qk2 qk3 qk4 qlm qgf qdf qwi := by
  have ia : vp_in (nI a) 3 := vp_in_nI ha (by decide)
  have ib : vp_in (nI b) 3 := vp_in_nI hb (by decide)
  intro d
  induction d with
  | zero =>
    intro k o l hk hm f hf
    obtain ⟨f, rfl⟩ : ∃ g, f = g + 1 := ⟨f - 1, by omega⟩
    have e : k = 16 := by omega
    subst e
    exact pk_le 16 16 (fun _ => And.intro ia (And.intro ib (nm_r (hc_up rfl (by omega) (hc_at rfl (by omega) rfl)) (And.intro ia (And.intro ib (nm_r (hc_up rfl (by omega) (hc_at rfl (by omega) rfl)) (And.intro ia (And.intro ib (nm_r (hc_up rfl (by omega) (hc_at rfl (by omega) rfl)) (And.intro ia (And.intro ib (nm_r (hc_up rfl (by omega) (hc_at rfl (by omega) rfl)) (H o l hm))))))))))))) (fun z => absurd z (by omega))
  | succ d ih =>
    intro k o l hk hm f hf
    obtain ⟨f, rfl⟩ : ∃ g, f = g + 1 := ⟨f - 1, by omega⟩
    refine pk_le 16 k (fun z => absurd z (by omega)) (fun _ => ?_)
    refine hx_copyField (T := hx_ct T a b k) (a := 33 + 16 * a + k) (b := 33 + 16 * b + k) hm (by omega) (by omega) (by omega) (hc_add (hc_add rfl (hc_mul rfl rfl)) rfl) (hc_add (hc_add rfl (hc_mul rfl rfl)) rfl) (fun o l hm' => nm_r (nI_1 k) ?_)
    rw [hx_ctS ha hb hab (by omega)] at hm'
    exact ih (k + 1) o l (by omega) hm' f (by omega)
theorem hx_copyTable {post : SX → Prop} {T : Nat → List Nat} {a b : Nat} {x y : Int32} (hm : hx_M qoc qln T) (ha : a < 3) (hb : b < 3) (hab : a ≠ b) (ex : x = nI a) (ey : y = nI b) (H : ∀ o l, hx_M o l (hx_ct T a b 16) → post (qs1, qs2, qs3, qs4, qs5, qs6, qs7, qs8, qlc, qgc, qdc, qwc, qin, qfl, qmf, qli, qlo, qta, qlt, qcu, qrv, qrs, o, l, upd qcn b (qcn a), upd qhd b (qhd a), upd qsz b (qsz a), upd qcp b (qcp a), qcw, qcb, qsy, qk1, qk2, qk3, qk4, qlm, qgf, qdf, qwi)) : wpX_copyTable post (qs1, qs2, qs3, qs4, qs5, qs6, qs7, qs8, qlc, qgc, qdc, qwc, qin, qfl, qmf, qli, qlo, qta, qlt, qcu, qrv, qrs, qoc, qln, qcn, qhd, qsz, qcp, qcw, qcb, qsy, qk1, qk2, qk3, qk4, qlm, qgf, qdf, qwi) x y := by
  subst ex ey
  refine ⟨17, hx_ctlp (T := T) ha hb hab H 16 0 qoc qln (by omega) ?_ 17 (by omega)⟩
  have e : hx_ct T a b 0 = T := by
    funext x
    exact if_neg (by omega)
  rw [e]
  exact hm
theorem hx_ctb {T : Nat → List Nat} {a b : Nat} {tb : List hc_Fd} {cap : Nat} (h : hx_tab T qcn qhd qsz qcp a tb cap) : hx_tab (hx_ct T a b 16) (upd qcn b (qcn a)) (upd qhd b (qhd a)) (upd qsz b (qsz a)) (upd qcp b (qcp a)) b tb cap := by
  obtain ⟨h1, h2, h3, h4, h5, h, h6, h7, h8⟩ := h
  refine ⟨pk_us.trans h1, pk_us.trans h2, pk_us.trans h3, h4, h5, h, h6, pk_us.trans h7, fun i hi => ?_⟩
  rw [← h8 i hi]
  unfold hx_ct
  refine hc_flc ?_ ?_
  · rw [if_pos (by omega), show 66 + 32 * a + (2 * (33 + 16 * b + (h + i) % 16) - (66 + 32 * b)) = 2 * (33 + 16 * a + (h + i) % 16) from by omega]
  · rw [if_pos (by omega), show 66 + 32 * a + (2 * (33 + 16 * b + (h + i) % 16) + 1 - (66 + 32 * b)) = 2 * (33 + 16 * a + (h + i) % 16) + 1 from by omega]
theorem hx_cto {T : Nat → List Nat} {a b t : Nat} {tb : List hc_Fd} {cap : Nat} (hn : t ≠ b) (h : hx_tab T qcn qhd qsz qcp t tb cap) : hx_tab (hx_ct T a b 16) (upd qcn b (qcn a)) (upd qhd b (qhd a)) (upd qsz b (qsz a)) (upd qcp b (qcp a)) t tb cap :=
  hx_tabC h (pk_un hn) (pk_un hn) (pk_un hn) (pk_un hn) (fun x h1 h2 => if_neg (by omega))
end
end
section
section
variable {zfl zmf zwl zpo zfa zfi zin : Int32} {zce znu zca zse zwi zle zwo : Nat → Int32}
def hy_Tb (T : Nat → List Nat) (t : Nat) (tb : List hc_Fd) : Prop := ∀ i, i < tb.length → hc_fl T (32 * t + 15 + i) = tb.getD i hc_f0
def hy_tab (T : Nat → List Nat) (nu ca : Nat → Int32) (t : Nat) (tb : List hc_Fd) (cap : Nat) : Prop := nu t = nI tb.length ∧ ca t = nI cap ∧ hc_ts tb ≤ cap ∧ cap ≤ 128 ∧ hy_Tb T t tb
theorem hy_tabL {T : Nat → List Nat} {nu ca : Nat → Int32} {t : Nat} {tb : List hc_Fd} {cap : Nat} (h : hy_tab T nu ca t tb cap) : tb.length ≤ 16 := by
  have h1 := hc_ts8 tb
  have h2 := h.2.2.1
  have h3 := h.2.2.2.1
  omega
theorem hy_tabC {T T' : Nat → List Nat} {nu ca nu' ca' : Nat → Int32} {t : Nat} {tb : List hc_Fd} {cap : Nat} (h : hy_tab T nu ca t tb cap) (hL : tb.length ≤ 16) (e1 : nu' t = nu t) (e2 : ca' t = ca t) (eT : ∀ x, 64 * t ≤ x → x < 64 * t + 64 → T' x = T x) : hy_tab T' nu' ca' t tb cap := by
  obtain ⟨h1, h2, h3, h4, h8⟩ := h
  refine ⟨e1.trans h1, e2.trans h2, h3, h4, fun i hi => ?_⟩
  rw [← h8 i hi]
  exact hc_flc (eT _ (by omega) (by omega)) (eT _ (by omega) (by omega))
theorem hy_TbT {T : Nat → List Nat} {t : Nat} {tb : List hc_Fd} (hb : hy_Tb T t tb) (k : Nat) : hy_Tb T t (tb.take k) := by
  intro i hi
  rw [List.length_take] at hi
  rw [hc_gt _ _ _ _ (by omega)]
  exact hb i (by omega)
theorem hc_tsT : ∀ (l : List hc_Fd) (k : Nat), hc_ts (l.take k) ≤ hc_ts l
  | [], k => by simp
  | a :: l, 0 => by simp [hc_ts]
  | a :: l, k + 1 => by
    have := hc_tsT l k
    simp only [List.take_succ_cons, hc_ts]
    omega
theorem hy_szl {post : Int32 → Prop} {T : Nat → List Nat} {mk : Nat → Nat} {t : Nat} {tb : List hc_Fd} (hm : hy_M zce T mk) (ht : t < 7) (hL : tb.length ≤ 16) (hb : hy_Tb T t tb) (en : znu t = nI tb.length) (H : post (nI (hc_ts tb))) : ∀ d i, i + d = tb.length → ∀ f, d < f → wY_size_4 post (nI t) zfl zmf zwl zpo zfa zfi zin zce znu zca zse zwi zle zwo f (nI (hc_ts (tb.take i))) (nI i) := by
  have hi : vp_in (nI t) 8 := vp_in_nI (by omega) (by decide)
  intro d
  induction d with
  | zero =>
    intro i hd f hf
    obtain ⟨f, rfl⟩ : ∃ g, f = g + 1 := ⟨f - 1, by omega⟩
    refine And.intro hi ?_
    refine pk_le tb.length i (fun _ => ?_) (fun z => absurd z (by omega)) (hc_at rfl (by omega) en)
    rw [show i = tb.length from by omega, List.take_length]
    exact H
  | succ d ih =>
    intro i hd f hf
    obtain ⟨f, rfl⟩ : ∃ g, f = g + 1 := ⟨f - 1, by omega⟩
    refine And.intro hi ?_
    refine pk_le tb.length i (fun z => absurd z (by omega)) (fun _ => ?_) (hc_at rfl (by omega) en)
    refine hy_entrySize (T := T) (r := 32 * t + 15 + i) hm (by omega) (hc_nx (hc_mul (b := 35) (hc_add (hc_add (b := 15) (hc_mul (b := 32) rfl rfl) rfl) rfl) rfl) (by omega)) ?_
    rw [hb i (by omega)]
    refine nm_r (e' := nI (hc_ts (tb.take (i + 1)))) (hc_nx (hc_add rfl rfl) (hc_tsS tb i (by omega)).symm) (nm_r (nI_1 i) ?_)
    exact ih (i + 1) (by omega) f (by omega)
theorem hy_size {post : Int32 → Prop} {T : Nat → List Nat} {mk : Nat → Nat} {t : Nat} {tb : List hc_Fd} {x : Int32} (hm : hy_M zce T mk) (ht : t < 7) (hL : tb.length ≤ 16) (hb : hy_Tb T t tb) (en : znu t = nI tb.length) (ex : x = nI t) (H : post (nI (hc_ts tb))) : wpY_size post (zfl, zmf, zwl, zpo, zfa, zfi, zin, zce, znu, zca, zse, zwi, zle, zwo) x := by
  subst ex
  refine ⟨tb.length + 1, ?_⟩
  exact hy_szl hm ht hL hb en H tb.length 0 (by omega) _ (by omega)
theorem hy_scl {post : SY → Prop} {T : Nat → List Nat} {mk : Nat → Nat} {t c : Nat} {tb : List hc_Fd} (hm : hy_M zce T mk) (ht : t < 7) (hc : c ≤ 128) (hL : tb.length ≤ 16) (hS : hc_ts tb ≤ 1000) (hb : hy_Tb T t tb) : ∀ k j nu, k ≤ tb.length → j + k ≤ 16 → (∀ i, i ≠ t → nu i = znu i) → nu t = nI k → (∀ nu, (∀ i, i ≠ t → nu i = znu i) → nu t = nI (hc_en tb 0 c k) → post (zfl, zmf, zwl, zpo, zfa, zfi, zin, zce, nu, zca, zse, zwi, zle, zwo)) → ∀ f, k < f → wY_setCapacity_9 post (nI t) (nI c) zfl zmf zwl zpo zfa zfi zin f (nI j) zce nu zca zse zwi zle zwo := by
  have hi : vp_in (nI t) 8 := vp_in_nI (by omega) (by decide)
  intro k
  induction k with
  | zero =>
    intro j nu hk hj hf hn H f hf0
    obtain ⟨f, rfl⟩ : ∃ g, f = g + 1 := ⟨f - 1, by omega⟩
    refine pk_le 16 j (fun _ => H nu hf hn) (fun _ => ?_)
    refine hy_size (T := T) (tb := []) hm ht (by simp) (fun i h => absurd h (by simp)) hn rfl ?_
    exact pk_le 0 c (fun _ => H nu hf hn) (fun z => absurd z (by omega))
  | succ k ih =>
    intro j nu hk hj hf hn H f hf0
    obtain ⟨f, rfl⟩ : ∃ g, f = g + 1 := ⟨f - 1, by omega⟩
    have ll : (tb.take (k + 1)).length = k + 1 := by rw [List.length_take]; omega
    have ls := hc_tsT tb (k + 1)
    refine pk_le 16 j (fun z => absurd z (by omega)) (fun _ => ?_)
    refine hy_size (T := T) (tb := tb.take (k + 1)) hm ht (by omega) (hy_TbT hb _) (by rw [ll]; exact hn) rfl ?_
    refine pk_le (hc_ts (tb.take (k + 1))) c (fun z => ?_) (fun z => And.intro hi (And.intro hi ?_))
    · have en : hc_en tb 0 c (k + 1) = k + 1 := if_neg (by omega)
      exact H nu hf (by rw [en]; exact hn)
    · have en : hc_en tb 0 c (k + 1) = hc_en tb 0 c k := if_pos (by omega)
      refine nm_r (hc_up (w := nI k) rfl (by omega) (hc_nx (hc_sub (b := 1) (hc_at rfl (by omega) hn) rfl (by omega)) (by omega))) (nm_r (nI_1 j) ?_)
      refine ih (j + 1) _ (by omega) (by omega) (fun i h => (pk_un h).trans (hf i h)) pk_us ?_ f (by omega)
      rw [en] at H
      exact H
theorem hy_setCapacity {post : SY → Prop} {T : Nat → List Nat} {mk : Nat → Nat} {t cap c : Nat} {tb : List hc_Fd} {x y : Int32} (hm : hy_M zce T mk) (ht : t < 7) (hc : c ≤ 128) (hb : hy_tab T znu zca t tb cap) (ex : x = nI t) (ey : y = nI c) (H : ∀ nu ca, (∀ i, i ≠ t → nu i = znu i ∧ ca i = zca i) → hy_tab T nu ca t (hc_ev tb 0 c) c → post (zfl, zmf, zwl, zpo, zfa, zfi, zin, zce, nu, ca, zse, zwi, zle, zwo)) : wpY_setCapacity post (zfl, zmf, zwl, zpo, zfa, zfi, zin, zce, znu, zca, zse, zwi, zle, zwo) x y := by
  subst ex ey
  have hL := hy_tabL hb
  obtain ⟨h1, h2, h3, h4, h5⟩ := hb
  refine And.intro (vp_in_nI (by omega) (by decide)) (nm_r (hc_up (w := nI c) rfl (by omega) rfl) ⟨tb.length + 1, ?_⟩)
  refine hy_scl (T := T) (mk := mk) (tb := tb) hm ht hc hL (by omega) h5 tb.length 0 znu (Nat.le_refl _) (by omega) (fun _ _ => rfl) h1 (fun nu hf hn => ?_) _ (by omega)
  refine H nu _ (fun i h => ⟨hf i h, pk_un h⟩) ⟨by rw [hc_evL]; exact hn, pk_us, ?_, hc, hy_TbT h5 _⟩
  exact hc_evF tb 0 c (by omega)
theorem hy_inl {post : SY → Prop} {T : Nat → List Nat} {mk : Nat → Nat} {t e cap : Nat} {tb : List hc_Fd} {x2 x4 : Int32} (hm : hy_M zce T mk) (ht : t < 7) (hcap : cap ≤ 128) (he : e ≤ 1000) (hL : tb.length ≤ 16) (hS : hc_ts tb ≤ 1000) (hb : hy_Tb T t tb) (ec : zca t = nI cap) : ∀ k j nu, k ≤ tb.length → j + k ≤ 16 → (∀ i, i ≠ t → nu i = znu i) → nu t = nI k → (∀ nu, (∀ i, i ≠ t → nu i = znu i) → nu t = nI (hc_en tb e cap k) → wY_insert_66 post (nI t) x2 (nI e) x4 zfl zmf zwl zpo zfa zfi zin zce nu zca zse zwi zle zwo) → ∀ f, k < f → wY_insert_18 post (nI t) x2 (nI e) x4 zfl zmf zwl zpo zfa zfi zin f (nI j) zce nu zca zse zwi zle zwo := by
  have hi : vp_in (nI t) 8 := vp_in_nI (by omega) (by decide)
  intro k
  induction k with
  | zero =>
    intro j nu hk hj hf hn H f hf0
    obtain ⟨f, rfl⟩ : ∃ g, f = g + 1 := ⟨f - 1, by omega⟩
    refine pk_le 16 j (fun _ => H nu hf hn) (fun _ => And.intro hi ?_)
    exact pk_le 0 0 (fun _ => H nu hf hn) (fun z => absurd z (by omega)) (hc_at rfl (by omega) hn)
  | succ k ih =>
    intro j nu hk hj hf hn H f hf0
    obtain ⟨f, rfl⟩ : ∃ g, f = g + 1 := ⟨f - 1, by omega⟩
    have ll : (tb.take (k + 1)).length = k + 1 := by rw [List.length_take]; omega
    have ls := hc_tsT tb (k + 1)
    refine pk_le 16 j (fun z => absurd z (by omega)) (fun _ => And.intro hi ?_)
    refine pk_le (k + 1) 0 (fun z => absurd z (by omega)) (fun _ => ?_) (hc_at rfl (by omega) hn)
    refine hy_size (T := T) (tb := tb.take (k + 1)) hm ht (by omega) (hy_TbT hb _) (by rw [ll]; exact hn) rfl (And.intro hi ?_)
    refine pk_le (hc_ts (tb.take (k + 1)) + e) cap (fun z => ?_) (fun z => And.intro hi (And.intro hi ?_)) (hc_add rfl rfl) (hc_at rfl (by omega) ec)
    · have en : hc_en tb e cap (k + 1) = k + 1 := if_neg (by omega)
      exact H nu hf (by rw [en]; exact hn)
    · have en : hc_en tb e cap (k + 1) = hc_en tb e cap k := if_pos (by omega)
      refine nm_r (hc_up (w := nI k) rfl (by omega) (hc_nx (hc_sub (b := 1) (hc_at rfl (by omega) hn) rfl (by omega)) (by omega))) (nm_r (nI_1 j) ?_)
      refine ih (j + 1) _ (by omega) (by omega) (fun i h => (pk_un h).trans (hf i h)) pk_us ?_ f (by omega)
      rw [en] at H
      exact H
/-- the entries k .. n-1 of place t moved by one row -/
def hy_sh (T : Nat → List Nat) (t n k : Nat) : Nat → List Nat := fun x => if 64 * t + 30 + 2 * (k + 1) ≤ x ∧ x < 64 * t + 30 + 2 * (n + 1) then T (x - 2) else T x
theorem hy_shS {T : Nat → List Nat} {t n k : Nat} (hk : k < n) : hc_uf (hy_sh T t n (k + 1)) (32 * t + 15 + (k + 1)) (hc_fl (hy_sh T t n (k + 1)) (32 * t + 15 + k)) = hy_sh T t n k := by
  have e : hc_fl (hy_sh T t n (k + 1)) (32 * t + 15 + k) = hc_fl T (32 * t + 15 + k) := by
    refine hc_flc ?_ ?_
    · exact if_neg (by omega)
    · exact if_neg (by omega)
  rw [e]
  funext x
  unfold hy_sh
  by_cases h1 : x = 2 * (32 * t + 15 + (k + 1)) + 1
  · subst h1
    unfold hc_uf hc_fl
    rw [hc_us, if_pos (by omega), show 2 * (32 * t + 15 + (k + 1)) + 1 - 2 = 2 * (32 * t + 15 + k) + 1 from by omega]
  · by_cases h2 : x = 2 * (32 * t + 15 + (k + 1))
    · subst h2
      unfold hc_uf hc_fl
      rw [hc_un h1, hc_us, if_pos (by omega), show 2 * (32 * t + 15 + (k + 1)) - 2 = 2 * (32 * t + 15 + k) from by omega]
    · rw [hc_ufn h2 h1]
      by_cases h3 : 64 * t + 30 + 2 * (k + 1 + 1) ≤ x ∧ x < 64 * t + 30 + 2 * (n + 1)
      · rw [if_pos h3, if_pos (by omega)]
      · rw [if_neg h3, if_neg (by omega)]
theorem hy_shl {post : SY → Prop} {T : Nat → List Nat} {mk : Nat → Nat} {t s n : Nat} (ht : t < 7) (hs : s < 256) (hst : s < 32 * t ∨ 32 * t + 32 ≤ s) (hn : n ≤ 15) (H : ∀ C mk', hy_M C (hc_uf (hy_sh T t n 0) (32 * t + 15) (hc_fl T s)) mk' → (∀ r, r < 32 * t ∨ 32 * t + 32 ≤ r → mk' r = mk r) → post (zfl, zmf, zwl, zpo, zfa, zfi, zin, C, upd znu t (znu t + 1), zca, zse, zwi, zle, zwo)) : ∀ k C mk', k ≤ n → hy_M C (hy_sh T t n k) mk' → (∀ r, r < 32 * t ∨ 32 * t + 32 ≤ r → mk' r = mk r) → ∀ f, k < f → wY_insert_85 post (nI t) (nI (35 * s)) (nI (35 * (32 * t + 15))) f (nI k) zfl zmf zwl zpo zfa zfi zin C znu zca zse zwi zle zwo := by
  have hi : vp_in (nI t) 8 := vp_in_nI (by omega) (by decide)
  intro k
  induction k with
  | zero =>
    intro C mk' hk hm hf f hf0
    obtain ⟨f, rfl⟩ : ∃ g, f = g + 1 := ⟨f - 1, by omega⟩
    refine pk_le 0 0 (fun _ => ?_) (fun z => absurd z (by omega))
    refine hy_copy (a := 35 * s) (b := 35 * (32 * t + 15)) (n := 35) (by omega) (by omega) (by omega) rfl rfl rfl (fun C' hc => And.intro hi (And.intro hi ?_))
    refine nm_r (hc_up rfl (by omega) (congrArg (fun z => z + 1) (hc_at rfl (by omega) rfl))) ?_
    have e : hc_fl (hy_sh T t n 0) s = hc_fl T s := by
      refine hc_flc ?_ ?_
      · exact if_neg (by omega)
      · exact if_neg (by omega)
    have h2 := hy_mR5 hm hc
    rw [e] at h2
    refine H C' _ h2 (fun r hr => ?_)
    unfold hy_um
    rw [if_neg (by omega)]
    exact hf r hr
  | succ k ih =>
    intro C mk' hk hm hf f hf0
    obtain ⟨f, rfl⟩ : ∃ g, f = g + 1 := ⟨f - 1, by omega⟩
    refine pk_le (k + 1) 0 (fun z => absurd z (by omega)) (fun _ => ?_)
    have ea : nI (35 * (32 * t + 15)) + (nI (k + 1) - 1) * 35 = nI (35 * (32 * t + 15 + k)) := hc_nx (hc_add rfl (hc_mul (b := 35) (nI_pred k) rfl)) (by omega)
    have eb : nI (35 * (32 * t + 15)) + nI (k + 1) * 35 = nI (35 * (32 * t + 15 + (k + 1))) := hc_nx (hc_add rfl (hc_mul (b := 35) rfl rfl)) (by omega)
    refine hy_copy (a := 35 * (32 * t + 15 + k)) (b := 35 * (32 * t + 15 + (k + 1))) (n := 35) (by omega) (by omega) (by omega) ea eb rfl (fun C' hc => nm_r (pk_m1 k) ?_)
    have h2 := hy_mR5 hm hc
    rw [hy_shS (by omega)] at h2
    refine ih C' _ (by omega) h2 (fun r hr => ?_) f (by omega)
    unfold hy_um
    rw [if_neg (by omega)]
    exact hf r hr
theorem hy_insert {post : SY → Prop} {T : Nat → List Nat} {mk : Nat → Nat} {t cap s : Nat} {tb : List hc_Fd} {x y : Int32} (hm : hy_M zce T mk) (ht : 3 ≤ t ∧ t < 6) (hs : s < 256) (hst : s < 32 * t ∨ 32 * t + 32 ≤ s) (hb : hy_tab T znu zca t tb cap) (ex : x = nI t) (ey : y = nI (35 * s)) (H : ∀ C nu T' mk', hy_M C T' mk' → (∀ z, z < 64 * t ∨ 64 * t + 64 ≤ z → T' z = T z) → (∀ r, r < 32 * t ∨ 32 * t + 32 ≤ r → mk' r = mk r) → (∀ i, i ≠ t → nu i = znu i) → hy_tab T' nu zca t (hc_in tb (hc_fl T s) cap) cap → post (zfl, zmf, zwl, zpo, zfa, zfi, zin, C, nu, zca, zse, zwi, zle, zwo)) : wpY_insert post (zfl, zmf, zwl, zpo, zfa, zfi, zin, zce, znu, zca, zse, zwi, zle, zwo) x y := by
  subst ex ey
  have hL := hy_tabL hb
  obtain ⟨h1, h2, h3, h4, h5⟩ := hb
  have hi : vp_in (nI t) 8 := vp_in_nI (by omega) (by decide)
  have l1 : (T (2 * s)).length ≤ 16 := (hm.1 s 0 (by omega)).2.1
  have l2 := (hm.1 s 1 (by omega)).2.1
  have le : hc_fz (hc_fl T s) ≤ 40 := by
    show (T (2 * s)).length + (T (2 * s + 1)).length + 8 ≤ 40
    omega
  unfold wpY_insert
  refine hy_entrySize (T := T) hm hs rfl ?_
  refine hy_at (w := t) (i := 15) (by omega) (by decide) rfl rfl ⟨tb.length + 1, ?_⟩
  rw [show hy_ro t 15 = 32 * t + 15 from if_neg (by omega)]
  refine hy_inl (T := T) (mk := mk) (tb := tb) (e := hc_fz (hc_fl T s)) (cap := cap) hm (by omega) h4 (by omega) hL (by omega) h5 h2 tb.length 0 znu (Nat.le_refl _) (by omega) (fun _ _ => rfl) h1 (fun nu hf hn => And.intro hi ?_) _ (by omega)
  rw [← hc_evL] at hn
  refine pk_le (hc_fz (hc_fl T s)) cap (fun z => And.intro hi ?_) (fun z => ?_) rfl (hc_at rfl (by omega) h2)
  · have e : hc_in tb (hc_fl T s) cap = hc_fl T s :: hc_ev tb (hc_fz (hc_fl T s)) cap := if_pos z
    have f1 := hc_evF tb _ _ z
    have f2 := hc_ts8 (hc_ev tb (hc_fz (hc_fl T s)) cap)
    have f3 : 8 ≤ hc_fz (hc_fl T s) := Nat.le_add_left _ _
    refine nm_r (e' := nI (hc_ev tb (hc_fz (hc_fl T s)) cap).length) (hc_at rfl (by omega) hn) ⟨(hc_ev tb (hc_fz (hc_fl T s)) cap).length + 1, ?_⟩
    refine hy_shl (T := T) (mk := mk) (n := (hc_ev tb (hc_fz (hc_fl T s)) cap).length) (by omega) hs hst (by omega) (fun C mk' hm' hk => ?_) (hc_ev tb (hc_fz (hc_fl T s)) cap).length zce mk (Nat.le_refl _) ?_ (fun _ _ => rfl) _ (by omega)
    · refine H C _ _ mk' hm' (fun x hx => ?_) hk (fun i h => (pk_un h).trans (hf i h)) ?_
      · rw [hc_ufn (by omega) (by omega)]
        exact if_neg (by omega)
      · rw [e]
        refine ⟨pk_us.trans (hc_add hn rfl), h2, ?_, h4, ?_⟩
        · show hc_fz _ + hc_ts _ ≤ cap
          omega
        · intro i hi
          cases i with
          | zero => exact hc_ufs
          | succ i =>
            have hi : i < (hc_ev tb (hc_fz (hc_fl T s)) cap).length := by simpa using hi
            show _ = (hc_ev tb (hc_fz (hc_fl T s)) cap).getD i hc_f0
            rw [hc_ufo (by omega)]
            refine Eq.trans ?_ (hy_TbT h5 _ i hi)
            refine hc_flc ?_ ?_
            · exact (if_pos (by omega)).trans (congrArg T (by omega))
            · exact (if_pos (by omega)).trans (congrArg T (by omega))
    · have e0 : hy_sh T t (hc_ev tb (hc_fz (hc_fl T s)) cap).length (hc_ev tb (hc_fz (hc_fl T s)) cap).length = T := by
        funext x
        exact if_neg (by omega)
      rw [e0]
      exact hm
  · refine H _ nu T mk hm (fun _ _ => rfl) (fun _ _ => rfl) hf ?_
    have e : hc_in tb (hc_fl T s) cap = hc_ev tb (hc_fz (hc_fl T s)) cap := if_neg (by omega)
    have e0 := hc_evZ tb _ _ z
    rw [e]
    refine ⟨hn, h2, ?_, h4, hy_TbT h5 _⟩
    rw [e0]
    exact Nat.zero_le _
theorem hy_copyPlace {post : SY → Prop} {T : Nat → List Nat} {mk : Nat → Nat} {a b : Nat} {x y : Int32} (hm : hy_M zce T mk) (ha : a < 8) (hb : b < 8) (hab : a ≠ b) (ex : x = nI a) (ey : y = nI b) (H : ∀ C, hy_M C (hy_pt T a b) (hy_pm mk a b) → post (zfl, zmf, zwl, zpo, zfa, zfi, zin, C, upd znu b (znu a), upd zca b (zca a), zse, zwi, zle, zwo)) : wpY_copyPlace post (zfl, zmf, zwl, zpo, zfa, zfi, zin, zce, znu, zca, zse, zwi, zle, zwo) x y := by
  subst ex ey
  have ia : vp_in (nI a) 8 := vp_in_nI ha (by decide)
  have ib : vp_in (nI b) 8 := vp_in_nI hb (by decide)
  unfold wpY_copyPlace
  refine hy_copy (a := 1120 * a) (b := 1120 * b) (n := 1120) (by omega) (by omega) (by omega) (hc_nx (hc_mul (b := 1120) rfl rfl) (by omega)) (hc_nx (hc_mul (b := 1120) rfl rfl) (by omega)) rfl (fun C hc => And.intro ia (And.intro ib ?_))
  exact nm_r (hc_up rfl (by omega) (hc_at rfl (by omega) rfl)) (And.intro ia (And.intro ib (nm_r (hc_up rfl (by omega) (hc_at rfl (by omega) rfl)) (H C (hy_mP hm hc)))))
end
end
section
/-- the first k packed octets -/
def hc_pb (l : List Nat) (k : Nat) : List Nat := (List.range k).map (fun i => hc_bv (hc_sb l) (8 * i) 8)
theorem hc_pbS (l : List Nat) (k : Nat) : hc_pb l (k + 1) = hc_pb l k ++ [hc_bv (hc_sb l) (8 * k) 8] := by
  unfold hc_pb
  rw [List.range_succ, List.map_append]
  rfl
theorem hc_pbL (l : List Nat) (k : Nat) : (hc_pb l k).length = k := by
  unfold hc_pb
  rw [List.length_map, List.length_range]
theorem hc_m8 {h : Nat} (h8 : 8 ≤ h) : nI h + (-8) = nI (h - 8) := by
  obtain ⟨k, rfl⟩ : ∃ k, h = k + 8 := ⟨h - 8, by omega⟩
  rw [← nI_add, Int32.add_assoc, show nI 8 + (-8) = 0 from by decide, Int32.add_zero, Nat.add_sub_cancel]
theorem hc_pb0 (l : List Nat) : hc_pb l (hc_tt (l.take 0) / 8) = [] := by
  rw [List.take_zero]
  rfl
/-- the wire -/
def hx_W (a : Nat → Int32) (w : List Nat) : Prop := ∀ i, i < w.length → a i = nI (w.getD i 0)
theorem hx_WA {a : Nat → Int32} {w : List Nat} (h : hx_W a w) (b : Nat) : hx_W (upd a w.length (nI b)) (w ++ [b]) := by
  intro i hi
  rw [List.length_append] at hi
  have hi : i < w.length + 1 := hi
  rw [hc_ga]
  by_cases e : i = w.length
  · subst e
    rw [pk_us, if_neg (by omega), if_pos rfl]
  · rw [pk_un e, if_pos (by omega)]
    exact h i (by omega)
section
variable {qs1 qs2 qs3 qs4 qs5 qs6 qs7 qs8 qlc qgc qdc qwc qin qfl qmf qli qlo qta qlt qcu qrv qrs : Int32} {qoc qln qcn qhd qsz qcp qcw qcb qsy qk1 qk2 qk3 qk4 qlm qgf qdf qwi : Nat → Int32}
theorem hx_writeOctet {post : SX → Prop} {w : List Nat} {b : Nat} {x : Int32} (hw : hx_W qwi w) (hl : w.length < 256) (ex : x = nI b) (H : ∀ a, hx_W a (w ++ [b]) → post (qs1, qs2, qs3, qs4, qs5, qs6, qs7, qs8, qlc, qgc, qdc, nI (w ++ [b]).length, qin, qfl, qmf, qli, qlo, qta, qlt, qcu, qrv, qrs, qoc, qln, qcn, qhd, qsz, qcp, qcw, qcb, qsy, qk1, qk2, qk3, qk4, qlm, qgf, qdf, a)) : wpX_writeOctet post (qs1, qs2, qs3, qs4, qs5, qs6, qs7, qs8, qlc, qgc, qdc, nI w.length, qin, qfl, qmf, qli, qlo, qta, qlt, qcu, qrv, qrs, qoc, qln, qcn, qhd, qsz, qcp, qcw, qcb, qsy, qk1, qk2, qk3, qk4, qlm, qgf, qdf, qwi) x := by
  subst ex
  have e : nI w.length + 1 = nI (w ++ [b]).length := by
    rw [List.length_append]
    exact nI_1 _
  exact pk_le 256 w.length (fun z => absurd z (by omega)) (fun _ => And.intro (vp_in_nI hl (by decide)) (nm_r (hc_up rfl (by omega) rfl) (nm_r e (H _ (hx_WA hw b)))))
theorem hx_writeInteger {post : SX → Prop} {w : List Nat} {ty b v : Nat} {x y z : Int32} (hw : hx_W qwi w) (hb : b < 16) (hv : v < 128 + (2 ^ b - 1)) (hl : (w ++ hc_wi ty b v).length ≤ 256) (ex : x = nI ty) (ey : y = nI b) (ez : z = nI v) (H : ∀ a, hx_W a (w ++ hc_wi ty b v) → post (qs1, qs2, qs3, qs4, qs5, qs6, qs7, qs8, qlc, qgc, qdc, nI (w ++ hc_wi ty b v).length, qin, qfl, qmf, qli, qlo, qta, qlt, qcu, qrv, qrs, qoc, qln, qcn, qhd, qsz, qcp, qcw, qcb, qsy, qk1, qk2, qk3, qk4, qlm, qgf, qdf, a)) : wpX_writeInteger post (qs1, qs2, qs3, qs4, qs5, qs6, qs7, qs8, qlc, qgc, qdc, nI w.length, qin, qfl, qmf, qli, qlo, qta, qlt, qcu, qrv, qrs, qoc, qln, qcn, qhd, qsz, qcp, qcw, qcb, qsy, qk1, qk2, qk3, qk4, qlm, qgf, qdf, qwi) x y z := by
  subst ex ey ez
  have h2 : 2 ^ b ≤ 2 ^ 15 := Nat.pow_le_pow_right (by decide) (by omega)
  refine nm_r (hc_msk b hb) ?_
  unfold hc_wi at hl H
  refine pk_le (2 ^ b - 1) v (fun c => ?_) (fun c => ?_)
  · rw [if_neg (by omega)] at hl H
    rw [List.length_append] at hl
    have hl : w.length + 2 ≤ 256 := hl
    refine hx_writeOctet (w := w) hw (by omega) (hc_add rfl rfl) (fun a ha => nm_r (e' := nI (v - (2 ^ b - 1))) (pk_sub c) ⟨1, ?_⟩)
    refine pk_le 4 0 (fun c => absurd c (by omega)) (fun _ => pk_lt (v - (2 ^ b - 1)) 128 (fun _ => ?_) (fun c => absurd c (by omega)))
    refine hx_writeOctet (w := w ++ [ty + (2 ^ b - 1)]) ha (by rw [List.length_append]; show w.length + 1 < 256; omega) rfl (fun a ha => ?_)
    rw [show w ++ [ty + (2 ^ b - 1)] ++ [v - (2 ^ b - 1)] = w ++ [ty + (2 ^ b - 1), v - (2 ^ b - 1)] from List.append_assoc _ _ _] at ha ⊢
    exact H a ha
  · rw [if_pos (by omega)] at hl H
    rw [List.length_append] at hl
    have hl : w.length + 1 ≤ 256 := hl
    exact hx_writeOctet (w := w) hw (by omega) (hc_add rfl rfl) (fun a ha => H a ha)
/-- the code's tables -/
def hx_C (cw cb : Nat → Int32) : Prop := ∀ c, c < 128 → cw c = nI (hc_cw c) ∧ cb c = nI (hc_cb c)
theorem hx_wp5 {post : SX → Prop} {J : Int32 → Int32 → Int32 → Int32 → Int32 → Int32 → Int32 → Int32 → Int32 → Int32 → Int32 → Int32 → Int32 → Int32 → Int32 → Int32 → Int32 → Int32 → Int32 → Int32 → Int32 → Int32 → Int32 → Int32 → Int32 → (Nat → Int32) → (Nat → Int32) → (Nat → Int32) → (Nat → Int32) → (Nat → Int32) → (Nat → Int32) → (Nat → Int32) → (Nat → Int32) → (Nat → Int32) → (Nat → Int32) → (Nat → Int32) → (Nat → Int32) → (Nat → Int32) → (Nat → Int32) → (Nat → Int32) → (Nat → Int32) → (Nat → Int32) → Prop} {w l : List Nat} {k0 B j P : Nat} {x1 x2 : Int32} (hB : B < 24) (hP : P = 8 * k0 + B) (hl : w.length + P / 8 ≤ 256) (HJ : ∀ a, hx_W a (w ++ hc_pb l (P / 8)) → J (nI (hc_bv (hc_sb l) (8 * (P / 8)) (P % 8))) (nI (P % 8)) (nI (j + 1)) qs1 qs2 qs3 qs4 qs5 qs6 qs7 qs8 qlc qgc qdc (nI (w ++ hc_pb l (P / 8)).length) qin qfl qmf qli qlo qta qlt qcu qrv qrs qoc qln qcn qhd qsz qcp qcw qcb qsy qk1 qk2 qk3 qk4 qlm qgf qdf a) : ∀ m h k a, h / 8 = m → 8 * k + h = P → k0 ≤ k → hx_W a (w ++ hc_pb l k) → ∀ f, m < f → wX_writePacked_65 post J x1 x2 (nI (hc_bv (hc_sb l) (8 * k0) B)) (nI j) f (nI h) qs1 qs2 qs3 qs4 qs5 qs6 qs7 qs8 qlc qgc qdc (nI (w ++ hc_pb l k).length) qin qfl qmf qli qlo qta qlt qcu qrv qrs qoc qln qcn qhd qsz qcp qcw qcb qsy qk1 qk2 qk3 qk4 qlm qgf qdf a := by
  have hb := hc_sb2 l
  have hacc := hc_bvL hb (8 * k0) B
  have hacc2 : 2 ^ B ≤ 2 ^ 23 := Nat.pow_le_pow_right (by decide) (by omega)
  intro m
  induction m with
  | zero =>
    intro h k a hm hk hkk ha f hf
    obtain ⟨f, rfl⟩ : ∃ g, f = g + 1 := ⟨f - 1, by omega⟩
    have e1 : P / 8 = k := by omega
    have e2 : P % 8 = h := by omega
    rw [e1, e2] at HJ
    have e3 : nI (hc_bv (hc_sb l) (8 * k0) B) &&& (((1 : Int32) <<< (nI h &&& 31)) - 1) = nI (hc_bv (hc_sb l) (8 * k) h) := by
      rw [hc_msk h (by omega), hc_and (by omega) (by omega)]
      have := hc_bvM hb (8 * k0) (B - h) h
      rw [show B - h + h = B from by omega, show 8 * k0 + (B - h) = 8 * k from by omega] at this
      rw [this]
    exact pk_lt h 8 (fun _ => nm_r e3 (nm_r (nI_1 j) (HJ a ha))) (fun z => absurd z (by omega))
  | succ m ih =>
    intro h k a hm hk hkk ha f hf
    obtain ⟨f, rfl⟩ : ∃ g, f = g + 1 := ⟨f - 1, by omega⟩
    have e3 : (nI (hc_bv (hc_sb l) (8 * k0) B) >>> (nI (h - 8) &&& 31)) &&& 255 = nI (hc_bv (hc_sb l) (8 * k) 8) := by
      rw [hc_shr (by omega) (by omega)]
      have d := hc_bvD hb (8 * k0) (B - (h - 8)) (h - 8)
      rw [show B - (h - 8) + (h - 8) = B from by omega] at d
      rw [d]
      have m8 := hc_bvM hb (8 * k0) (B - h) 8
      rw [show B - h + 8 = B - (h - 8) from by omega, show 8 * k0 + (B - h) = 8 * k from by omega] at m8
      have l8 := hc_bvL hb (8 * k0) (B - (h - 8))
      have l9 : 2 ^ (B - (h - 8)) ≤ 2 ^ 23 := Nat.pow_le_pow_right (by decide) (by omega)
      exact (hc_and (b := 8) (by omega) (by decide)).trans (congrArg nI m8)
    refine pk_lt h 8 (fun z => absurd z (by omega)) (fun z => nm_r (hc_m8 z) ?_)
    refine hx_writeOctet (w := w ++ hc_pb l k) ha (by rw [List.length_append, hc_pbL]; omega) e3 (fun a ha => ?_)
    rw [List.append_assoc, ← hc_pbS] at ha ⊢
    exact ih (h - 8) (k + 1) a (by omega) (by omega) (by omega) ha f (by omega)
theorem hx_wpl {post : SX → Prop} {T : Nat → List Nat} {w : List Nat} {t : Nat} (hm : hx_M qoc qln T) (hC : hx_C qcw qcb) (ht : t < 164) (hl : w.length + (hc_tt (T t) + 7) / 8 ≤ 256) (H : ∀ a, hx_W a (w ++ hc_pk (T t)) → post (qs1, qs2, qs3, qs4, qs5, qs6, qs7, qs8, qlc, qgc, qdc, nI (w ++ hc_pk (T t)).length, qin, qfl, qmf, qli, qlo, qta, qlt, qcu, qrv, qrs, qoc, qln, qcn, qhd, qsz, qcp, qcw, qcb, qsy, qk1, qk2, qk3, qk4, qlm, qgf, qdf, a)) : ∀ d j a, j + d = (T t).length → hx_W a (w ++ hc_pb (T t) (hc_tt ((T t).take j) / 8)) → ∀ f, d < f → wX_writePacked_15 post (nI t) (nI (T t).length) f (nI (hc_bv (hc_sb (T t)) (8 * (hc_tt ((T t).take j) / 8)) (hc_tt ((T t).take j) % 8))) (nI (hc_tt ((T t).take j) % 8)) (nI j) qs1 qs2 qs3 qs4 qs5 qs6 qs7 qs8 qlc qgc qdc (nI (w ++ hc_pb (T t) (hc_tt ((T t).take j) / 8)).length) qin qfl qmf qli qlo qta qlt qcu qrv qrs qoc qln qcn qhd qsz qcp qcw qcb qsy qk1 qk2 qk3 qk4 qlm qgf qdf a := by
  obtain ⟨h1, h2, h3, h4⟩ := hm t
  have hb := hc_sb2 (T t)
  intro d
  induction d with
  | zero =>
    intro j a hj ha f hf
    obtain ⟨f, rfl⟩ : ∃ g, f = g + 1 := ⟨f - 1, by omega⟩
    rw [show j = (T t).length from by omega, List.take_length] at ha ⊢
    refine pk_le (T t).length (T t).length (fun _ => ?_) (fun z => absurd z (by omega))
    have hp : hc_pk (T t) = hc_pb (T t) ((hc_tt (T t) + 7) / 8) := rfl
    refine pk_le (hc_tt (T t) % 8) 0 (fun z => ?_) (fun z => ?_)
    · rw [hp, show (hc_tt (T t) + 7) / 8 = hc_tt (T t) / 8 from by omega] at H
      exact H a ha
    · rw [hp, show (hc_tt (T t) + 7) / 8 = hc_tt (T t) / 8 + 1 from by omega, hc_pbS, ← List.append_assoc] at H
      have lb := hc_bvL hb (8 * (hc_tt (T t) / 8)) (hc_tt (T t) % 8)
      have e0 : (8 : Int32) - nI (hc_tt (T t) % 8) = nI (8 - hc_tt (T t) % 8) := hc_sub (a := 8) rfl rfl (by omega)
      refine nm_r e0 ?_
      refine hx_writeOctet (w := w ++ hc_pb (T t) (hc_tt (T t) / 8)) (b := hc_bv (hc_sb (T t)) (8 * (hc_tt (T t) / 8)) 8) ha (by rw [List.length_append, hc_pbL]; omega) ?_ (fun a ha => H a ha)
      have e1 := hc_bvA (hc_sb (T t)) (8 * (hc_tt (T t) / 8)) (hc_tt (T t) % 8) (8 - hc_tt (T t) % 8)
      have e2 := hc_bv1 (8 * (hc_tt (T t) / 8) + hc_tt (T t) % 8) (8 - hc_tt (T t) % 8) (hc_sb (T t)) (fun i hi _ => hc_sb1 _ _ (by omega))
      rw [show hc_tt (T t) % 8 + (8 - hc_tt (T t) % 8) = 8 from by omega, e2] at e1
      have l3 : hc_bv (hc_sb (T t)) (8 * (hc_tt (T t) / 8)) (hc_tt (T t) % 8) * 2 ^ (8 - hc_tt (T t) % 8) < 2 ^ 32 := by
        have l8 := hc_bvL hb (8 * (hc_tt (T t) / 8)) 8
        rw [e1] at l8
        omega
      rw [hc_shl (by omega) l3, hc_msk _ (by omega), hc_or, hc_orN (by have := Nat.two_pow_pos (8 - hc_tt (T t) % 8); omega), ← e1]
  | succ d ih =>
    intro j a hj ha f hf
    obtain ⟨f, rfl⟩ : ∃ g, f = g + 1 := ⟨f - 1, by omega⟩
    have hc : (T t).getD j 0 < 128 := h3 _ (hc_gm (T t) j (by omega))
    have e16 : (16 : Int32) * nI t + nI j = nI (16 * t + j) := hc_add (hc_mul rfl rfl) rfl
    have ic : vp_in (nI ((T t).getD j 0)) 128 := vp_in_nI hc (by decide)
    have b14 := hc_cb14 hc
    have s1 := hc_ttS (T t) j (by omega)
    have s2 := hc_ttM (T t) (j + 1)
    have lb := hc_bvL hb (8 * (hc_tt ((T t).take j) / 8)) (hc_tt ((T t).take j) % 8)
    have lb2 : 2 ^ (hc_tt ((T t).take j) % 8) ≤ 2 ^ 7 := Nat.pow_le_pow_right (by decide) (by omega)
    have lc : 2 ^ hc_cb ((T t).getD j 0) ≤ 2 ^ 14 := Nat.pow_le_pow_right (by decide) (by omega)
    have e1 := hc_bvA (hc_sb (T t)) (8 * (hc_tt ((T t).take j) / 8)) (hc_tt ((T t).take j) % 8) (hc_cb ((T t).getD j 0))
    rw [show 8 * (hc_tt ((T t).take j) / 8) + hc_tt ((T t).take j) % 8 = hc_tt ((T t).take j) from by omega, hc_bvw (by omega) hc] at e1
    have l3 : hc_bv (hc_sb (T t)) (8 * (hc_tt ((T t).take j) / 8)) (hc_tt ((T t).take j) % 8) * 2 ^ hc_cb ((T t).getD j 0) < 2 ^ 32 :=
      Nat.lt_of_le_of_lt (Nat.mul_le_mul (show _ ≤ 128 by omega) lc) (by decide)
    have e3 : (nI (hc_bv (hc_sb (T t)) (8 * (hc_tt ((T t).take j) / 8)) (hc_tt ((T t).take j) % 8)) <<< ((qcb (nI ((T t).getD j 0)).toNatClampNeg) &&& 31)) ||| (qcw (nI ((T t).getD j 0)).toNatClampNeg) = nI (hc_bv (hc_sb (T t)) (8 * (hc_tt ((T t).take j) / 8)) (hc_tt ((T t).take j) % 8 + hc_cb ((T t).getD j 0))) := by
      rw [hc_at rfl (by omega) (hC _ hc).2, hc_at rfl (by omega) (hC _ hc).1, hc_shl (by omega) l3, hc_or, hc_orN (hc_cw14 hc), ← e1]
    have e4 : nI (hc_tt ((T t).take j) % 8) + qcb (nI ((T t).getD j 0)).toNatClampNeg = nI (hc_tt ((T t).take j) % 8 + hc_cb ((T t).getD j 0)) := hc_add rfl (hc_at rfl (by omega) (hC _ hc).2)
    refine pk_le (T t).length j (fun z => absurd z (by omega)) (fun _ => And.intro (hc_i e16 (by omega) (by decide)) (nm_r (hc_at e16 (by omega) (h4 j (by omega))) (And.intro ic (And.intro ic (nm_r e3 (And.intro ic (nm_r e4 ⟨4, ?_⟩)))))))
    refine hx_wp5 (w := w) (l := T t) (P := hc_tt ((T t).take (j + 1))) (by omega) (by omega) (by omega) (fun a ha => ih (j + 1) a (by omega) ha f (by omega)) _ _ _ a rfl (by omega) (Nat.le_refl _) ha 4 (by omega)
theorem hx_writePacked {post : SX → Prop} {T : Nat → List Nat} {w : List Nat} {t : Nat} {x : Int32} (hm : hx_M qoc qln T) (hC : hx_C qcw qcb) (ht : t < 164) (hw : hx_W qwi w) (hl : w.length + (hc_tt (T t) + 7) / 8 ≤ 256) (ex : x = nI t) (H : ∀ a, hx_W a (w ++ hc_pk (T t)) → post (qs1, qs2, qs3, qs4, qs5, qs6, qs7, qs8, qlc, qgc, qdc, nI (w ++ hc_pk (T t)).length, qin, qfl, qmf, qli, qlo, qta, qlt, qcu, qrv, qrs, qoc, qln, qcn, qhd, qsz, qcp, qcw, qcb, qsy, qk1, qk2, qk3, qk4, qlm, qgf, qdf, a)) : wpX_writePacked post (qs1, qs2, qs3, qs4, qs5, qs6, qs7, qs8, qlc, qgc, qdc, nI w.length, qin, qfl, qmf, qli, qlo, qta, qlt, qcu, qrv, qrs, qoc, qln, qcn, qhd, qsz, qcp, qcw, qcb, qsy, qk1, qk2, qk3, qk4, qlm, qgf, qdf, qwi) x := by
  subst ex
  have h := hm t
  refine And.intro (vp_in_nI ht (by decide)) (nm_r (e' := nI (T t).length) (hc_at rfl (by omega) h.1) ⟨(T t).length + 1, ?_⟩)
  have g := hx_wpl (post := post) (w := w) hm hC ht hl H (T t).length 0 qwi (by omega) (by rw [hc_pb0, List.append_nil]; exact hw) ((T t).length + 1) (by omega)
  rw [hc_pb0, List.append_nil] at g
  exact g
theorem hx_ws8 {post : SX → Prop} {T : Nat → List Nat} {w : List Nat} {t : Nat} (hm : hx_M qoc qln T) (ht : t < 164) (hl : w.length + (T t).length ≤ 256) (H : ∀ a, hx_W a (w ++ T t) → post (qs1, qs2, qs3, qs4, qs5, qs6, qs7, qs8, qlc, qgc, qdc, nI (w ++ T t).length, qin, qfl, qmf, qli, qlo, qta, qlt, qcu, qrv, qrs, qoc, qln, qcn, qhd, qsz, qcp, qcw, qcb, qsy, qk1, qk2, qk3, qk4, qlm, qgf, qdf, a)) : ∀ d j a, j + d = (T t).length → hx_W a (w ++ (T t).take j) → ∀ f, d < f → wX_writeString_88 post (nI t) (nI (T t).length) f (nI j) qs1 qs2 qs3 qs4 qs5 qs6 qs7 qs8 qlc qgc qdc (nI (w ++ (T t).take j).length) qin qfl qmf qli qlo qta qlt qcu qrv qrs qoc qln qcn qhd qsz qcp qcw qcb qsy qk1 qk2 qk3 qk4 qlm qgf qdf a := by
  obtain ⟨h1, h2, h3, h4⟩ := hm t
  intro d
  induction d with
  | zero =>
    intro j a hj ha f hf
    obtain ⟨f, rfl⟩ : ∃ g, f = g + 1 := ⟨f - 1, by omega⟩
    rw [show j = (T t).length from by omega, List.take_length] at ha ⊢
    exact pk_le (T t).length (T t).length (fun _ => H a ha) (fun z => absurd z (by omega))
  | succ d ih =>
    intro j a hj ha f hf
    obtain ⟨f, rfl⟩ : ∃ g, f = g + 1 := ⟨f - 1, by omega⟩
    have e16 : (16 : Int32) * nI t + nI j = nI (16 * t + j) := hc_add (hc_mul rfl rfl) rfl
    have lt : ((T t).take j).length = j := by rw [List.length_take]; omega
    refine pk_le (T t).length j (fun z => absurd z (by omega)) (fun _ => And.intro (hc_i e16 (by omega) (by decide)) ?_)
    refine hx_writeOctet (w := w ++ (T t).take j) (b := (T t).getD j 0) ha (by rw [List.length_append, lt]; omega) (hc_at e16 (by omega) (h4 j (by omega))) (fun a ha => nm_r (nI_1 j) ?_)
    have e : w ++ (T t).take j ++ [(T t).getD j 0] = w ++ (T t).take (j + 1) := by
      rw [List.append_assoc]
      congr 1
      have hj2 : j < (T t).length := by omega
      rw [List.take_succ, List.getD_eq_getElem?_getD, List.getElem?_eq_getElem hj2]
      rfl
    rw [e] at ha ⊢
    exact ih (j + 1) a (by omega) ha f (by omega)
theorem hx_ws12 {post : SX → Prop} {T : Nat → List Nat} {w : List Nat} {t : Nat} (hm : hx_M qoc qln T) (hC : hx_C qcw qcb) (ht : t < 164) (hw : hx_W qwi w) (hl : (w ++ hc_ws (T t)).length ≤ 256) (H : ∀ a, hx_W a (w ++ hc_ws (T t)) → post (qs1, qs2, qs3, qs4, qs5, qs6, qs7, qs8, qlc, qgc, qdc, nI (w ++ hc_ws (T t)).length, qin, qfl, qmf, qli, qlo, qta, qlt, qcu, qrv, qrs, qoc, qln, qcn, qhd, qsz, qcp, qcw, qcb, qsy, qk1, qk2, qk3, qk4, qlm, qgf, qdf, a)) : ∀ d j, j + d = (T t).length → ∀ f, d < f → wX_writeString_12 post (nI t) (nI (T t).length) qs1 qs2 qs3 qs4 qs5 qs6 qs7 qs8 qlc qgc qdc (nI w.length) qin qfl qmf qli qlo qta qlt qcu qrv qrs qoc qln qcn qhd qsz qcp qcw qcb qsy qk1 qk2 qk3 qk4 qlm qgf qdf qwi f (nI (hc_tt ((T t).take j))) (nI j) := by
  obtain ⟨h1, h2, h3, h4⟩ := hm t
  have t14 := hc_tt14 (T t) h3
  intro d
  induction d with
  | zero =>
    intro j hj f hf
    obtain ⟨f, rfl⟩ : ∃ g, f = g + 1 := ⟨f - 1, by omega⟩
    rw [show j = (T t).length from by omega, List.take_length]
    have e : (nI (hc_tt (T t)) + 7) >>> ((3 : Int32) &&& 31) = nI ((hc_tt (T t) + 7) / 8) := by
      rw [show nI (hc_tt (T t)) + 7 = nI (hc_tt (T t) + 7) from hc_add rfl rfl]
      exact hc_shr (k := 3) (by decide) (by omega)
    refine pk_le (T t).length (T t).length (fun _ => nm_r e ?_) (fun z => absurd z (by omega))
    unfold hc_ws at hl H
    refine pk_le (T t).length ((hc_tt (T t) + 7) / 8) (fun z => ?_) (fun z => ?_)
    · rw [if_neg (by omega), ← List.append_assoc] at hl H
      rw [List.length_append] at hl
      refine hx_writeInteger (w := w) (ty := 0) (b := 7) (v := (T t).length) hw (by decide) (by omega) (by omega) rfl rfl rfl (fun a ha => ⟨(T t).length + 1, ?_⟩)
      have g := hx_ws8 (w := w ++ hc_wi 0 7 (T t).length) (post := post) hm ht (by omega) H (T t).length 0 a (by omega) (by rw [List.take_zero, List.append_nil]; exact ha) ((T t).length + 1) (by omega)
      rw [List.take_zero, List.append_nil] at g
      exact g
    · rw [if_pos (by omega), ← List.append_assoc] at hl H
      rw [List.length_append, hc_pkL] at hl
      refine hx_writeInteger (w := w) (ty := 128) (b := 7) (v := (hc_tt (T t) + 7) / 8) hw (by decide) (by omega) (by omega) rfl rfl rfl (fun a ha => ?_)
      exact hx_writePacked (w := w ++ hc_wi 128 7 ((hc_tt (T t) + 7) / 8)) hm hC ht ha (by omega) rfl H
  | succ d ih =>
    intro j hj f hf
    obtain ⟨f, rfl⟩ : ∃ g, f = g + 1 := ⟨f - 1, by omega⟩
    have hc : (T t).getD j 0 < 128 := h3 _ (hc_gm (T t) j (by omega))
    have e16 : (16 : Int32) * nI t + nI j = nI (16 * t + j) := hc_add (hc_mul rfl rfl) rfl
    have ev := hc_at (a := qoc) e16 (by omega) (h4 j (by omega))
    refine pk_le (T t).length j (fun z => absurd z (by omega)) (fun _ => And.intro (hc_i e16 (by omega) (by decide)) (And.intro (hc_i ev hc (by decide)) ?_))
    refine nm_r (e' := nI (hc_tt ((T t).take (j + 1)))) (hc_nx (hc_add rfl (hc_at ev (by omega) (hC _ hc).2)) (hc_ttS (T t) j (by omega)).symm) (nm_r (nI_1 j) ?_)
    exact ih (j + 1) (by omega) f (by omega)
theorem hx_writeString {post : SX → Prop} {T : Nat → List Nat} {w : List Nat} {t : Nat} {x : Int32} (hm : hx_M qoc qln T) (hC : hx_C qcw qcb) (ht : t < 164) (hw : hx_W qwi w) (hl : (w ++ hc_ws (T t)).length ≤ 256) (ex : x = nI t) (H : ∀ a, hx_W a (w ++ hc_ws (T t)) → post (qs1, qs2, qs3, qs4, qs5, qs6, qs7, qs8, qlc, qgc, qdc, nI (w ++ hc_ws (T t)).length, qin, qfl, qmf, qli, qlo, qta, qlt, qcu, qrv, qrs, qoc, qln, qcn, qhd, qsz, qcp, qcw, qcb, qsy, qk1, qk2, qk3, qk4, qlm, qgf, qdf, a)) : wpX_writeString post (qs1, qs2, qs3, qs4, qs5, qs6, qs7, qs8, qlc, qgc, qdc, nI w.length, qin, qfl, qmf, qli, qlo, qta, qlt, qcu, qrv, qrs, qoc, qln, qcn, qhd, qsz, qcp, qcw, qcb, qsy, qk1, qk2, qk3, qk4, qlm, qgf, qdf, qwi) x := by
  subst ex
  have h := hm t
  refine And.intro (vp_in_nI ht (by decide)) (nm_r (e' := nI (T t).length) (hc_at rfl (by omega) h.1) ⟨(T t).length + 1, ?_⟩)
  exact hx_ws12 (w := w) hm hC ht hw hl H (T t).length 0 (by omega) _ (by omega)
end
end
section
/-- the two updates ahead of the fields -/
def hc_uA (w : List Nat) (tb : List hc_Fd) (cap ltg : Nat) : List Nat × List hc_Fd × Nat := if ltg < cap then (w ++ hc_wi 32 5 ltg, hc_ev tb 0 ltg, ltg) else (w, tb, cap)
def hc_uB (tgt : Nat) (r : List Nat × List hc_Fd × Nat) : List Nat × List hc_Fd × Nat := if tgt = r.2.2 then r else (r.1 ++ hc_wi 32 5 tgt, hc_ev r.2.1 0 tgt, tgt)
theorem hc_uAL (w : List Nat) (tb : List hc_Fd) (cap ltg : Nat) : (hc_uA w tb cap ltg).1.length ≤ w.length + 2 := by
  unfold hc_uA
  have := hc_wiL 32 5 ltg
  split
  · rw [List.length_append]
    omega
  · exact Nat.le_add_right _ _
theorem hc_uBL (tgt : Nat) (r : List Nat × List hc_Fd × Nat) : (hc_uB tgt r).1.length ≤ r.1.length + 2 := by
  unfold hc_uB
  have := hc_wiL 32 5 tgt
  split
  · exact Nat.le_add_right _ _
  · rw [List.length_append]
    omega
theorem hc_byUA {w : List Nat} {tb : List hc_Fd} {cap ltg : Nat} (hw : hc_by w) (h : ltg < 256) : hc_by (hc_uA w tb cap ltg).1 := by
  unfold hc_uA
  split
  · exact hc_byA hw (hc_byI (by decide) h)
  · exact hw
theorem hc_byUB {tgt : Nat} {r : List Nat × List hc_Fd × Nat} (hw : hc_by r.1) (h : tgt < 256) : hc_by (hc_uB tgt r).1 := by
  unfold hc_uB
  split
  · exact hw
  · exact hc_byA hw (hc_byI (by decide) h)
section
variable {qs1 qs2 qs3 qs4 qs5 qs6 qs7 qs8 qlc qgc qdc qwc qin qfl qmf qli qlo qta qlt qcu qrv qrs : Int32} {qoc qln qcn qhd qsz qcp qcw qcb qsy qk1 qk2 qk3 qk4 qlm qgf qdf qwi : Nat → Int32}
def hx_S (T : Nat → List Nat) : Prop := ∀ i, i < 14 → hc_fl T i = hc_st i
theorem hx_ent {T : Nat → List Nat} {tb : List hc_Fd} {t h i : Nat} (hS : hx_S T) (hb : hx_Tb T t h tb) (h1 : 1 ≤ i) (h2 : i ≤ 14 + tb.length) : hc_fl T (hx_es t h i) = hc_et tb i := by
  unfold hx_es hc_et
  by_cases z : i ≤ 14
  · rw [if_pos z, if_pos z]
    exact hS _ (by omega)
  · rw [if_neg z, if_neg z, ← hb (i - 15) (by omega), show h + (i - 15) = h + i - 15 from by omega]
theorem hx_esB {t h i : Nat} (ht : t < 3) : hx_es t h i < 82 := by
  unfold hx_es
  split <;> omega
theorem hx_okf {o l : Nat → Int32} {T : Nat → List Nat} (hm : hx_M o l T) (s : Nat) : hc_ok (hc_fl T s) := ⟨(hm (2 * s)).2.1, (hm (2 * s + 1)).2.1, (hm (2 * s)).2.2.1, (hm (2 * s + 1)).2.2.1⟩
theorem hx_fel {post : Int32 → Prop} {T : Nat → List Nat} {tb : List hc_Fd} {s wh h : Nat} (hm : hx_M qoc qln T) (hS : hx_S T) (hs : s < 82) (hwh : wh < 2) (hL : tb.length ≤ 16) (hh : h < 16) (en : qcn 0 = nI tb.length) (eh : qhd 0 = nI h) (hb : hx_Tb T 0 h tb) : ∀ n i, i + n = 15 + tb.length → 1 ≤ i → post (nI (hc_fe tb (hc_fl T s) wh n i)) → ∀ f, n < f → wX_findEntry_13 post (nI s) (nI wh) (nI (14 + tb.length)) qs1 qs2 qs3 qs4 qs5 qs6 qs7 qs8 qlc qgc qdc qwc qin qfl qmf qli qlo qta qlt qcu qrv qrs qoc qln qcn qhd qsz qcp qcw qcb qsy qk1 qk2 qk3 qk4 qlm qgf qdf qwi f (nI i) := by
  intro n
  induction n with
  | zero =>
    intro i hi h1 H f hf
    obtain ⟨f, rfl⟩ : ∃ g, f = g + 1 := ⟨f - 1, by omega⟩
    exact pk_lt (14 + tb.length) i (fun _ => H) (fun z => absurd z (by omega))
  | succ n ih =>
    intro i hi h1 H f hf
    obtain ⟨f, rfl⟩ : ∃ g, f = g + 1 := ⟨f - 1, by omega⟩
    refine pk_lt (14 + tb.length) i (fun z => absurd z (by omega)) (fun _ => ?_)
    refine hx_entrySlot (t := 0) (n := tb.length) (h := h) (by omega) rfl hL hh en eh (fun z => absurd rfl (z i h1 (by omega))) (fun k g1 g2 e => ?_)
    rw [nI_eq (by omega) (by omega)] at e
    subst e
    have eE := hx_ent (t := 0) hS hb h1 (by omega)
    have bE := hx_esB (t := 0) (h := h) (i := i) (by omega)
    unfold hc_fe at H
    refine pk_lt (hx_es 0 h i) 0 (fun z => absurd z (by omega)) (fun _ => ?_)
    refine hx_sameText (T := T) (a := 2 * hx_es 0 h i) (b := 2 * s) hm (by omega) (by omega) (hc_mul rfl rfl) (hc_mul rfl rfl) (fun e1 => ?_) (fun e1 => ?_)
    · have e1 : (hc_et tb i).1 = (hc_fl T s).1 := by rw [← eE]; exact e1
      refine br_f (by decide) ?_
      refine pk_eq wh 0 (fun z => ?_) (fun z => ?_)
      · rw [if_pos ⟨e1, Or.inl z⟩] at H
        exact H
      · refine hx_sameText (T := T) (a := 2 * hx_es 0 h i + 1) (b := 2 * s + 1) hm (by omega) (by omega) (hc_add (hc_mul rfl rfl) rfl) (hc_add (hc_mul rfl rfl) rfl) (fun e2 => ?_) (fun e2 => ?_)
        · have e2 : (hc_et tb i).2 = (hc_fl T s).2 := by rw [← eE]; exact e2
          rw [if_pos ⟨e1, Or.inr e2⟩] at H
          exact br_f (by decide) H
        · have e2 : (hc_et tb i).2 ≠ (hc_fl T s).2 := by rw [← eE]; exact e2
          rw [if_neg (fun c => c.2.elim z e2)] at H
          exact br_t rfl (nm_r (nI_1 i) (ih (i + 1) (by omega) (by omega) H f (by omega)))
    · have e1 : (hc_et tb i).1 ≠ (hc_fl T s).1 := by rw [← eE]; exact e1
      rw [if_neg (fun c => e1 c.1)] at H
      exact br_t rfl (nm_r (nI_1 i) (ih (i + 1) (by omega) (by omega) H f (by omega)))
theorem hx_findEntry {post : Int32 → Prop} {T : Nat → List Nat} {tb : List hc_Fd} {s wh cap : Nat} {x y : Int32} (hm : hx_M qoc qln T) (hS : hx_S T) (hs : s < 82) (hwh : wh < 2) (hb : hx_tab T qcn qhd qsz qcp 0 tb cap) (ex : x = nI s) (ey : y = nI wh) (H : post (nI (hc_fd tb (hc_fl T s) wh))) : wpX_findEntry post (qs1, qs2, qs3, qs4, qs5, qs6, qs7, qs8, qlc, qgc, qdc, qwc, qin, qfl, qmf, qli, qlo, qta, qlt, qcu, qrv, qrs, qoc, qln, qcn, qhd, qsz, qcp, qcw, qcb, qsy, qk1, qk2, qk3, qk4, qlm, qgf, qdf, qwi) x y := by
  subst ex ey
  have hL := hx_tabL hb
  obtain ⟨h1, h2, h3, h4, h5, h, h6, h7, h8⟩ := hb
  refine nm_r (e' := nI (14 + tb.length)) (hc_add rfl h1) ⟨14 + tb.length + 1, ?_⟩
  exact hx_fel hm hS hs hwh hL h6 h1 h7 h8 (14 + tb.length) 1 (by omega) (by omega) H _ (by omega)
theorem hx_writeLiteral {post : SX → Prop} {T : Nat → List Nat} {w : List Nat} {ty b k s : Nat} {x y z v : Int32} (hm : hx_M qoc qln T) (hC : hx_C qcw qcb) (hs : s < 82) (hw : hx_W qwi w) (hb : b < 16) (hk : k < 128 + (2 ^ b - 1)) (hk2 : k < 2 ^ 31) (hl : (hc_wl w ty b k (hc_fl T s)).length ≤ 256) (ex : x = nI ty) (ey : y = nI b) (ez : z = nI k) (ev : v = nI s) (H : ∀ a, hx_W a (hc_wl w ty b k (hc_fl T s)) → post (qs1, qs2, qs3, qs4, qs5, qs6, qs7, qs8, qlc, qgc, qdc, nI (hc_wl w ty b k (hc_fl T s)).length, qin, qfl, qmf, qli, qlo, qta, qlt, qcu, qrv, qrs, qoc, qln, qcn, qhd, qsz, qcp, qcw, qcb, qsy, qk1, qk2, qk3, qk4, qlm, qgf, qdf, a)) : wpX_writeLiteral post (qs1, qs2, qs3, qs4, qs5, qs6, qs7, qs8, qlc, qgc, qdc, nI w.length, qin, qfl, qmf, qli, qlo, qta, qlt, qcu, qrv, qrs, qoc, qln, qcn, qhd, qsz, qcp, qcw, qcb, qsy, qk1, qk2, qk3, qk4, qlm, qgf, qdf, qwi) x y z v := by
  subst ev
  unfold hc_wl at hl H
  have e2 : (2 : Int32) * nI s = nI (2 * s) := hc_mul rfl rfl
  have e3 : (2 : Int32) * nI s + 1 = nI (2 * s + 1) := hc_add e2 rfl
  have hl2 := hl
  rw [List.length_append] at hl2
  have hl3 : (w ++ hc_wi ty b k).length ≤ 256 := by
    by_cases c : k = 0
    · rw [if_pos c, List.length_append] at hl2
      omega
    · rw [if_neg c] at hl2
      omega
  unfold wpX_writeLiteral
  refine hx_writeInteger (w := w) (ty := ty) (b := b) (v := k) hw hb hk hl3 ex ey ez (fun a ha => ?_)
  refine pk_eq k 0 (fun c => ?_) (fun c => ?_) ez rfl
  · rw [if_pos c] at hl H hl2
    refine hx_writeString (T := T) (t := 2 * s) (w := w ++ hc_wi ty b k) hm hC (by omega) ha (Nat.le_trans (Nat.le_add_right _ _) hl2) e2 (fun a ha => ?_)
    exact hx_writeString (T := T) (t := 2 * s + 1) (w := w ++ hc_wi ty b k ++ hc_ws (T (2 * s))) hm hC (by omega) ha hl e3 H
  · rw [if_neg c] at hl H
    exact hx_writeString (T := T) (t := 2 * s + 1) (w := w ++ hc_wi ty b k) hm hC (by omega) ha hl e3 H
theorem hx_encodeField {post : SX → Prop} {T : Nat → List Nat} {w : List Nat} {tb : List hc_Fd} {cap s m : Nat} {x y : Int32} (hm : hx_M qoc qln T) (hC : hx_C qcw qcb) (hS : hx_S T) (hs : 15 ≤ s ∧ s < 33) (hmo : m < 2 ^ 31) (hw : hx_W qwi w) (hl : w.length + 35 ≤ 256) (hb : hx_tab T qcn qhd qsz qcp 0 tb cap) (ex : x = nI s) (ey : y = nI m) (H : ∀ o l cn hd sz a T', hx_M o l T' → (∀ z, z < 66 ∨ 98 ≤ z → T' z = T z) → (∀ j, j ≠ 0 → cn j = qcn j ∧ hd j = qhd j ∧ sz j = qsz j) → hx_tab T' cn hd sz qcp 0 (hc_ef tb cap w (hc_fl T s) m).2 cap → hx_W a (hc_ef tb cap w (hc_fl T s) m).1 → post (qs1, qs2, qs3, qs4, qs5, qs6, qs7, qs8, qlc, qgc, qdc, nI (hc_ef tb cap w (hc_fl T s) m).1.length, qin, qfl, qmf, qli, qlo, qta, qlt, qcu, qrv, qrs, o, l, cn, hd, sz, qcp, qcw, qcb, qsy, qk1, qk2, qk3, qk4, qlm, qgf, qdf, a)) : wpX_encodeField post (qs1, qs2, qs3, qs4, qs5, qs6, qs7, qs8, qlc, qgc, qdc, nI w.length, qin, qfl, qmf, qli, qlo, qta, qlt, qcu, qrv, qrs, qoc, qln, qcn, qhd, qsz, qcp, qcw, qcb, qsy, qk1, qk2, qk3, qk4, qlm, qgf, qdf, qwi) x y := by
  subst ex ey
  have hL := hx_tabL hb
  have f0 := hc_fdL tb (hc_fl T s) 0
  have f1 := hc_fdL tb (hc_fl T s) 1
  have hok := hx_okf hm s
  have hlen := hc_efL (tb := tb) (cap := cap) (w := w) (m := m) hok
  have ec : qcp 0 = nI cap := hb.2.2.1
  have hcap : cap ≤ 128 := hb.2.2.2.2.1
  have hfz : hc_fz (hc_fl T s) < 2 ^ 31 := by
    have := hok.1
    have := hok.2.1
    unfold hc_fz
    omega
  unfold wpX_encodeField
  refine hx_findEntry (T := T) (tb := tb) (s := s) (wh := 0) hm hS (by omega) (by omega) hb rfl rfl ?_
  unfold hc_ef at H hlen
  refine pk_eq m 2 (fun c => ?_) (fun c => ?_)
  · rw [if_pos c] at H hlen
    exact hx_writeLiteral (T := T) (w := w) (ty := 16) (b := 4) (k := hc_fd tb (hc_fl T s) 0) (s := s) hm hC (by omega) hw (by decide) (by omega) (by omega) (Nat.le_trans hlen hl) rfl rfl rfl rfl (fun a ha => H _ _ _ _ _ a T hm (fun _ _ => rfl) (fun _ _ => ⟨rfl, rfl, rfl⟩) hb ha)
  · rw [if_neg c] at H hlen
    refine hx_findEntry (T := T) (tb := tb) (s := s) (wh := 1) hm hS (by omega) (by omega) hb rfl rfl ?_
    refine pk_le (hc_fd tb (hc_fl T s) 1) 0 (fun d => ?_) (fun d => ?_)
    · rw [if_neg (by omega)] at H hlen
      refine hx_fieldSize (T := T) (a := s) hm (by omega) rfl ?_
      refine pk_eq m 0 (fun e => ?_) (fun e => ?_)
      · refine pk_lt cap (hc_fz (hc_fl T s)) (fun g => ?_) (fun g => ?_) ec rfl
        · rw [if_neg (by omega)] at H hlen
          exact hx_writeLiteral (T := T) (w := w) (ty := 0) (b := 4) (k := hc_fd tb (hc_fl T s) 0) (s := s) hm hC (by omega) hw (by decide) (by omega) (by omega) (Nat.le_trans hlen hl) rfl rfl rfl rfl (fun a ha => H _ _ _ _ _ a T hm (fun _ _ => rfl) (fun _ _ => ⟨rfl, rfl, rfl⟩) hb ha)
        · rw [if_pos ⟨e, g⟩] at H hlen
          refine hx_writeLiteral (T := T) (w := w) (ty := 64) (b := 6) (k := hc_fd tb (hc_fl T s) 0) (s := s) hm hC (by omega) hw (by decide) (by omega) (by omega) (Nat.le_trans hlen hl) rfl rfl rfl rfl (fun a ha => ?_)
          exact hx_insert (T := T) (t := 0) (s := s) (tb := tb) (cap := cap) hm (by omega) (by omega) (by omega) hb rfl rfl (fun o l cn hd sz T' h1 h2 h3 h4 => H o l cn hd sz a T' h1 h2 h3 h4 ha)
      · rw [if_neg (by omega)] at H hlen
        exact hx_writeLiteral (T := T) (w := w) (ty := 0) (b := 4) (k := hc_fd tb (hc_fl T s) 0) (s := s) hm hC (by omega) hw (by decide) (by omega) (by omega) (Nat.le_trans hlen hl) rfl rfl rfl rfl (fun a ha => H _ _ _ _ _ a T hm (fun _ _ => rfl) (fun _ _ => ⟨rfl, rfl, rfl⟩) hb ha)
    · rw [if_pos d] at H hlen
      exact hx_writeInteger (w := w) (ty := 128) (b := 7) (v := hc_fd tb (hc_fl T s) 1) hw (by decide) (by omega) (Nat.le_trans hlen hl) rfl rfl rfl (fun a ha => H _ _ _ _ _ a T hm (fun _ _ => rfl) (fun _ _ => ⟨rfl, rfl, rfl⟩) hb ha)
theorem hx_eu3 {post : SX → Prop} {T : Nat → List Nat} {r : List Nat × List hc_Fd × Nat} {tgt : Nat} (hm : hx_M qoc qln T) (ht : tgt ≤ 128) (hw : hx_W qwi r.1) (hl : r.1.length + 2 ≤ 256) (hb : hx_tab T qcn qhd qsz qcp 0 r.2.1 r.2.2) (H : ∀ cn sz cp a, (∀ j, j ≠ 0 → cn j = qcn j ∧ sz j = qsz j ∧ cp j = qcp j) → hx_tab T cn qhd sz cp 0 (hc_uB tgt r).2.1 (hc_uB tgt r).2.2 → hx_W a (hc_uB tgt r).1 → post (qs1, qs2, qs3, qs4, qs5, qs6, qs7, qs8, qlc, qgc, qdc, nI (hc_uB tgt r).1.length, qin, qfl, qmf, qli, qlo, nI tgt, nI tgt, qcu, qrv, qrs, qoc, qln, cn, qhd, sz, cp, qcw, qcb, qsy, qk1, qk2, qk3, qk4, qlm, qgf, qdf, a)) : wX_encodeUpdates_33 post qs1 qs2 qs3 qs4 qs5 qs6 qs7 qs8 qlc qgc qdc (nI r.1.length) qin qfl qmf qli qlo (nI tgt) qlt qcu qrv qrs qoc qln qcn qhd qsz qcp qcw qcb qsy qk1 qk2 qk3 qk4 qlm qgf qdf qwi := by
  have ec : qcp 0 = nI r.2.2 := hb.2.2.1
  have hcap : r.2.2 ≤ 128 := hb.2.2.2.2.1
  have hlen := hc_wiL 32 5 tgt
  unfold hc_uB at H
  refine pk_eq tgt r.2.2 (fun c => ?_) (fun c => ?_) rfl ec
  · rw [if_pos c] at H
    exact H _ _ _ _ (fun _ _ => ⟨rfl, rfl, rfl⟩) hb hw
  · rw [if_neg c] at H
    refine hx_writeInteger (w := r.1) (ty := 32) (b := 5) (v := tgt) hw (by decide) (by omega) (by rw [List.length_append]; omega) rfl rfl rfl (fun a ha => ?_)
    exact hx_setCapacity (T := T) (t := 0) (c := tgt) (tb := r.2.1) (cap := r.2.2) hm (by omega) ht hb rfl rfl (fun cn sz cp h1 h2 => H cn sz cp a h1 h2 ha)
theorem hx_encodeUpdates {post : SX → Prop} {T : Nat → List Nat} {w : List Nat} {tb : List hc_Fd} {cap tgt ltg : Nat} (hm : hx_M qoc qln T) (ht : tgt ≤ 128) (hlt : ltg ≤ 128) (hw : hx_W qwi w) (hl : w.length + 4 ≤ 256) (hb : hx_tab T qcn qhd qsz qcp 0 tb cap) (H : ∀ cn sz cp a, (∀ j, j ≠ 0 → cn j = qcn j ∧ sz j = qsz j ∧ cp j = qcp j) → hx_tab T cn qhd sz cp 0 (hc_uB tgt (hc_uA w tb cap ltg)).2.1 (hc_uB tgt (hc_uA w tb cap ltg)).2.2 → hx_W a (hc_uB tgt (hc_uA w tb cap ltg)).1 → post (qs1, qs2, qs3, qs4, qs5, qs6, qs7, qs8, qlc, qgc, qdc, nI (hc_uB tgt (hc_uA w tb cap ltg)).1.length, qin, qfl, qmf, qli, qlo, nI tgt, nI tgt, qcu, qrv, qrs, qoc, qln, cn, qhd, sz, cp, qcw, qcb, qsy, qk1, qk2, qk3, qk4, qlm, qgf, qdf, a)) : wpX_encodeUpdates post (qs1, qs2, qs3, qs4, qs5, qs6, qs7, qs8, qlc, qgc, qdc, nI w.length, qin, qfl, qmf, qli, qlo, nI tgt, nI ltg, qcu, qrv, qrs, qoc, qln, qcn, qhd, qsz, qcp, qcw, qcb, qsy, qk1, qk2, qk3, qk4, qlm, qgf, qdf, qwi) := by
  have ec : qcp 0 = nI cap := hb.2.2.1
  have hcap : cap ≤ 128 := hb.2.2.2.2.1
  have hlen := hc_wiL 32 5 ltg
  unfold wpX_encodeUpdates
  refine pk_le cap ltg (fun c => ?_) (fun c => ?_) ec rfl
  · have e : hc_uA w tb cap ltg = (w, tb, cap) := if_neg (by omega)
    rw [e] at H
    exact hx_eu3 (r := (w, tb, cap)) hm ht hw (show w.length + 2 ≤ 256 by omega) hb H
  · have e : hc_uA w tb cap ltg = (w ++ hc_wi 32 5 ltg, hc_ev tb 0 ltg, ltg) := if_pos c
    rw [e] at H
    refine hx_writeInteger (w := w) (ty := 32) (b := 5) (v := ltg) hw (by decide) (by omega) (by rw [List.length_append]; omega) rfl rfl rfl (fun a ha => ?_)
    refine hx_setCapacity (T := T) (t := 0) (c := ltg) (tb := tb) (cap := cap) hm (by omega) hlt hb rfl rfl (fun cn sz cp h1 h2 => ?_)
    exact hx_eu3 (r := (w ++ hc_wi 32 5 ltg, hc_ev tb 0 ltg, ltg)) hm ht ha (show (w ++ hc_wi 32 5 ltg).length + 2 ≤ 256 by rw [List.length_append]; omega) h2 (fun cn' sz' cp' a' g1 g2 g3 => H cn' sz' cp' a' (fun j hj => ⟨(g1 j hj).1.trans (h1 j hj).1, (g1 j hj).2.1.trans (h1 j hj).2.1, (g1 j hj).2.2.trans (h1 j hj).2.2⟩) g2 g3)
theorem hx_enl {post : Int32 → SX → Prop} {T0 : Nat → List Nat} {ls : List (hc_Fd × Nat)} {cap : Nat} (hC : hx_C qcw qcb) (hS : hx_S T0) (hls : ls.length ≤ 6) (hlf : ∀ k, k < ls.length → hc_fl T0 (15 + k) = (ls.getD k (hc_f0, 0)).1 ∧ qlm k = nI (ls.getD k (hc_f0, 0)).2 ∧ (ls.getD k (hc_f0, 0)).2 < 3) : ∀ n i w tb T o l cn hd sz a, i + n = ls.length → hx_M o l T → (∀ z, z < 66 ∨ 98 ≤ z → T z = T0 z) → (∀ j, j ≠ 0 → cn j = qcn j ∧ hd j = qhd j ∧ sz j = qsz j) → hx_tab T cn hd sz qcp 0 tb cap → hx_W a w → w.length + 35 * n ≤ 256 → (∀ o l cn hd sz a T', hx_M o l T' → (∀ z, z < 66 ∨ 98 ≤ z → T' z = T0 z) → (∀ j, j ≠ 0 → cn j = qcn j ∧ hd j = qhd j ∧ sz j = qsz j) → hx_tab T' cn hd sz qcp 0 (hc_el ls cap n i w tb).2 cap → hx_W a (hc_el ls cap n i w tb).1 → post 0 (qs1, qs2, qs3, qs4, qs5, qs6, qs7, qs8, nI ls.length, qgc, qdc, nI (hc_el ls cap n i w tb).1.length, qin, qfl, qmf, qli, qlo, qta, qlt, qcu, qrv, qrs, o, l, cn, hd, sz, qcp, qcw, qcb, qsy, qk1, qk2, qk3, qk4, qlm, qgf, qdf, a)) → ∀ f, n < f → wX_encode_24 post f (nI i) qs1 qs2 qs3 qs4 qs5 qs6 qs7 qs8 (nI ls.length) qgc qdc (nI w.length) qin qfl qmf qli qlo qta qlt qcu qrv qrs o l cn hd sz qcp qcw qcb qsy qk1 qk2 qk3 qk4 qlm qgf qdf a := by
  intro n
  induction n with
  | zero =>
    intro i w tb T o l cn hd sz a hi hm hT hf hb hw hl H f hf0
    obtain ⟨f, rfl⟩ : ∃ g, f = g + 1 := ⟨f - 1, by omega⟩
    exact pk_le ls.length i (fun _ => H o l cn hd sz a T hm hT hf hb hw) (fun z => absurd z (by omega))
  | succ n ih =>
    intro i w tb T o l cn hd sz a hi hm hT hf hb hw hl H f hf0
    obtain ⟨f, rfl⟩ : ∃ g, f = g + 1 := ⟨f - 1, by omega⟩
    obtain ⟨g1, g2, g3⟩ := hlf i (by omega)
    have hS2 : hx_S T := by
      intro k hk
      rw [← hS k hk]
      exact hc_flc (hT _ (by omega)) (hT _ (by omega))
    have eF : hc_fl T (15 + i) = (ls.getD i (hc_f0, 0)).1 := by
      rw [← g1]
      exact hc_flc (hT _ (by omega)) (hT _ (by omega))
    refine pk_le ls.length i (fun z => absurd z (by omega)) (fun _ => And.intro (vp_in_nI (by omega) (by decide)) ?_)
    have hlen := hc_efL (tb := tb) (cap := cap) (w := w) (m := (ls.getD i (hc_f0, 0)).2) (hx_okf hm (15 + i))
    refine hx_encodeField (T := T) (w := w) (tb := tb) (cap := cap) (s := 15 + i) (m := (ls.getD i (hc_f0, 0)).2) hm hC hS2 (by omega) (by omega) hw (by omega) hb (hc_add rfl rfl) (hc_at rfl (by omega) g2) (fun o l cn' hd' sz' a T' h1 h2 h3 h4 h5 => nm_r (nI_1 i) ?_)
    rw [eF] at h4 h5 hlen ⊢
    exact ih (i + 1) _ _ T' o l cn' hd' sz' a (by omega) h1 (fun z hz => (h2 z hz).trans (hT z hz)) (fun j hj => ⟨(h3 j hj).1.trans (hf j hj).1, (h3 j hj).2.1.trans (hf j hj).2.1, (h3 j hj).2.2.trans (hf j hj).2.2⟩) h4 h5 (by omega) H f (by omega)
theorem hx_encode {post : Int32 → SX → Prop} {T : Nat → List Nat} {ls : List (hc_Fd × Nat)} {w : List Nat} {tb : List hc_Fd} {cap tgt ltg : Nat} (hm : hx_M qoc qln T) (hC : hx_C qcw qcb) (hS : hx_S T) (hls : ls.length ≤ 6) (hlf : ∀ k, k < ls.length → hc_fl T (15 + k) = (ls.getD k (hc_f0, 0)).1 ∧ qlm k = nI (ls.getD k (hc_f0, 0)).2 ∧ (ls.getD k (hc_f0, 0)).2 < 3) (ht : tgt ≤ 128) (hlt : ltg ≤ 128) (hw : hx_W qwi w) (hwl : w.length ≤ 256) (hb : hx_tab T qcn qhd qsz qcp 0 tb cap)
    (H2 : 0 < w.length → post 2 (qs1, qs2, qs3, qs4, qs5, qs6, qs7, qs8, nI ls.length, qgc, qdc, nI w.length, qin, qfl, qmf, qli, qlo, nI tgt, nI ltg, qcu, qrv, qrs, qoc, qln, qcn, qhd, qsz, qcp, qcw, qcb, qsy, qk1, qk2, qk3, qk4, qlm, qgf, qdf, qwi))
    (H3 : w = [] → ls.length = 0 → post 3 (qs1, qs2, qs3, qs4, qs5, qs6, qs7, qs8, nI ls.length, qgc, qdc, nI w.length, qin, qfl, qmf, qli, qlo, nI tgt, nI ltg, qcu, qrv, qrs, qoc, qln, qcn, qhd, qsz, qcp, qcw, qcb, qsy, qk1, qk2, qk3, qk4, qlm, qgf, qdf, qwi))
    (H : w = [] → 0 < ls.length → ∀ o l cn hd sz cp a T', hx_M o l T' → (∀ z, z < 66 ∨ 98 ≤ z → T' z = T z) → (∀ j, j ≠ 0 → cn j = qcn j ∧ hd j = qhd j ∧ sz j = qsz j ∧ cp j = qcp j) → hx_tab T' cn hd sz cp 0 (hc_el ls (hc_uB tgt (hc_uA [] tb cap ltg)).2.2 ls.length 0 (hc_uB tgt (hc_uA [] tb cap ltg)).1 (hc_uB tgt (hc_uA [] tb cap ltg)).2.1).2 (hc_uB tgt (hc_uA [] tb cap ltg)).2.2 → hx_W a (hc_el ls (hc_uB tgt (hc_uA [] tb cap ltg)).2.2 ls.length 0 (hc_uB tgt (hc_uA [] tb cap ltg)).1 (hc_uB tgt (hc_uA [] tb cap ltg)).2.1).1 → post 0 (qs1, qs2, qs3, qs4, qs5, qs6, qs7, qs8, nI ls.length, qgc, qdc, nI (hc_el ls (hc_uB tgt (hc_uA [] tb cap ltg)).2.2 ls.length 0 (hc_uB tgt (hc_uA [] tb cap ltg)).1 (hc_uB tgt (hc_uA [] tb cap ltg)).2.1).1.length, qin, qfl, qmf, qli, qlo, nI tgt, nI tgt, qcu, qrv, qrs, o, l, cn, hd, sz, cp, qcw, qcb, qsy, qk1, qk2, qk3, qk4, qlm, qgf, qdf, a)) : wpX_encode post (qs1, qs2, qs3, qs4, qs5, qs6, qs7, qs8, nI ls.length, qgc, qdc, nI w.length, qin, qfl, qmf, qli, qlo, nI tgt, nI ltg, qcu, qrv, qrs, qoc, qln, qcn, qhd, qsz, qcp, qcw, qcb, qsy, qk1, qk2, qk3, qk4, qlm, qgf, qdf, qwi) := by
  unfold wpX_encode
  refine pk_le w.length 0 (fun c => ?_) (fun c => H2 c)
  have e : w = [] := List.length_eq_zero_iff.mp (by omega)
  subst e
  refine pk_eq ls.length 0 (fun d => H3 rfl d) (fun d => ?_)
  have l1 := hc_uAL [] tb cap ltg
  have l2 := hc_uBL tgt (hc_uA [] tb cap ltg)
  have l0 : ([] : List Nat).length = 0 := rfl
  refine hx_encodeUpdates (T := T) (w := []) (tb := tb) (cap := cap) (tgt := tgt) (ltg := ltg) hm ht hlt hw (by decide) hb (fun cn sz cp a h1 h2 h3 => ⟨ls.length + 1, ?_⟩)
  refine hx_enl (T0 := T) (ls := ls) (cap := (hc_uB tgt (hc_uA [] tb cap ltg)).2.2) hC hS hls hlf ls.length 0 _ _ T _ _ cn _ sz a (by omega) hm (fun _ _ => rfl) (fun _ _ => ⟨rfl, rfl, rfl⟩) h2 h3 (by omega) (fun o l cn' hd' sz' a' T' g1 g2 g3 g4 g5 => ?_) _ (by omega)
  exact H rfl (by omega) o l cn' hd' sz' cp a' T' g1 g2 (fun j hj => ⟨(g3 j hj).1.trans (h1 j hj).1, (g3 j hj).2.1, (g3 j hj).2.2.trans (h1 j hj).2.1, (h1 j hj).2.2⟩) g4 g5
end
end
section
/-- the words' bits below P, ones from there on -/
def hc_cu (l : List Nat) (P j : Nat) : Nat := if j < P then hc_sb l j else 1
def hc_cl (l : List Nat) (K P : Nat) : List Nat := (List.range K).map (fun i => hc_bv (hc_cu l P) (8 * i) 8)
theorem hc_clL (l : List Nat) (K P : Nat) : (hc_cl l K P).length = K := by
  unfold hc_cl
  rw [List.length_map, List.length_range]
theorem hc_clG {l : List Nat} {K P i : Nat} (h : i < K) : (hc_cl l K P).getD i 0 = hc_bv (hc_cu l P) (8 * i) 8 := by
  unfold hc_cl
  rw [List.getD_eq_getElem?_getD, List.getElem?_map, List.getElem?_range h]
  rfl
theorem hc_cl0 (l : List Nat) (K : Nat) : hc_cl l (K + 1) 0 = hc_cl l K 0 ++ [255] := by
  unfold hc_cl
  rw [List.range_succ, List.map_append]
  have e : hc_bv (hc_cu l 0) (8 * K) 8 = 255 := hc_bv1 (8 * K) 8 (hc_cu l 0) (fun j _ _ => if_neg (by omega))
  show _ ++ [hc_bv (hc_cu l 0) (8 * K) 8] = _
  rw [e]
theorem hc_clP (l : List Nat) : hc_cl l ((hc_tt l + 7) / 8) (hc_tt l) = hc_pk l := by
  have e : hc_cu l (hc_tt l) = hc_sb l := by
    funext j
    unfold hc_cu
    by_cases h : j < hc_tt l
    · rw [if_pos h]
    · rw [if_neg h, hc_sb1 l j (by omega)]
  unfold hc_cl
  rw [e]
  rfl
theorem hc_cu1 {l : List Nat} {P : Nat} (h : hc_sb l P = 1) : hc_cu l (P + 1) = hc_cu l P := by
  funext j
  unfold hc_cu
  by_cases e : j = P
  · subst e
    rw [if_pos (by omega), if_neg (by omega), h]
  · by_cases z : j < P
    · rw [if_pos (by omega), if_pos z]
    · rw [if_neg (by omega), if_neg z]
theorem hc_cu0 {l : List Nat} {P : Nat} (h : hc_sb l P = 0) (i : Nat) : (i ≠ P / 8 → hc_bv (hc_cu l (P + 1)) (8 * i) 8 = hc_bv (hc_cu l P) (8 * i) 8) ∧ (i = P / 8 → hc_bv (hc_cu l (P + 1)) (8 * i) 8 + 2 ^ (7 - P % 8) = hc_bv (hc_cu l P) (8 * i) 8) := by
  have hs : ∀ j, j ≠ P → hc_cu l (P + 1) j = hc_cu l P j := by
    intro j e
    unfold hc_cu
    by_cases z : j < P
    · rw [if_pos (by omega), if_pos z]
    · rw [if_neg (by omega), if_neg z]
  refine ⟨fun hi => hc_bvC (fun j h1 h2 => hs j (by omega)), fun hi => ?_⟩
  have h1 : hc_cu l P P = 1 := if_neg (by omega)
  have h0 : hc_cu l (P + 1) P = 0 := (if_pos (by omega)).trans h
  have := hc_bvX h1 h0 hs (p := 8 * i) 8 (by omega) (by omega)
  rw [show 8 * i + 8 - 1 - P = 7 - P % 8 from by omega] at this
  exact this
theorem hc_gap {w v : List Nat} {i : Nat} : (w ++ v).getD i 0 = if i < w.length then w.getD i 0 else v.getD (i - w.length) 0 := by
  by_cases h : i < w.length
  · rw [if_pos h, List.getD_eq_getElem?_getD, List.getD_eq_getElem?_getD, List.getElem?_append_left h]
  · rw [if_neg h, List.getD_eq_getElem?_getD, List.getD_eq_getElem?_getD, List.getElem?_append_right (by omega)]
theorem hc_sh128 : ∀ m, m < 8 → (128 : Int32) >>> (nI m &&& 31) = nI (2 ^ (7 - m)) := by decide +kernel
/-- cutting a 0 bit out of the wire -/
theorem hy_cut {a : Nat → Int32} {w l : List Nat} {K P : Nat} (hP : P < 8 * K) (ha : hx_W a (w ++ hc_cl l K P)) (h : hc_sb l P = 0) : hx_W (upd a (w.length + P / 8) (a (w.length + P / 8) - nI (2 ^ (7 - P % 8)))) (w ++ hc_cl l K (P + 1)) := by
  intro i hi
  rw [List.length_append, hc_clL] at hi
  have hv := ha i (by rw [List.length_append, hc_clL]; exact hi)
  rw [hc_gap] at hv ⊢
  by_cases z : i < w.length
  · rw [if_pos z] at hv ⊢
    rw [pk_un (by omega)]
    exact hv
  · rw [if_neg z] at hv ⊢
    rw [hc_clG (by omega)] at hv ⊢
    have c := hc_cu0 h (i - w.length)
    by_cases e : i = w.length + P / 8
    · have e2 := c.2 (by omega)
      subst e
      rw [pk_us, hv, ← e2, pk_sub (by omega)]
      congr 1
      omega
    · rw [pk_un e, c.1 (by omega)]
      exact hv
section
variable {zfl zmf zwl zpo zfa zfi zin : Int32} {zce znu zca zse zwi zle zwo : Nat → Int32}
theorem hy_emit {post : SY → Prop} {w : List Nat} {b : Nat} {x : Int32} (hw : hx_W zwi w) (hl : w.length < 256) (ex : x = nI b) (H : ∀ a, hx_W a (w ++ [b]) → post (zfl, zmf, nI (w ++ [b]).length, zpo, zfa, zfi, zin, zce, znu, zca, zse, a, zle, zwo)) : wpY_emit post (zfl, zmf, nI w.length, zpo, zfa, zfi, zin, zce, znu, zca, zse, zwi, zle, zwo) x := by
  subst ex
  have e : nI w.length + 1 = nI (w ++ [b]).length := by
    rw [List.length_append]
    exact nI_1 _
  exact pk_le 256 w.length (fun z => absurd z (by omega)) (fun _ => And.intro (vp_in_nI hl (by decide)) (nm_r (hc_up rfl (by omega) rfl) (nm_r e (H _ (hx_WA hw b)))))
theorem hy_writeInt {post : SY → Prop} {w : List Nat} {ty b v : Nat} {x y z : Int32} (hw : hx_W zwi w) (hb : b < 16) (hv : v < 128 + (2 ^ b - 1)) (hl : (w ++ hc_wi ty b v).length ≤ 256) (ex : x = nI ty) (ey : y = nI b) (ez : z = nI v) (H : ∀ a, hx_W a (w ++ hc_wi ty b v) → post (zfl, zmf, nI (w ++ hc_wi ty b v).length, zpo, zfa, zfi, zin, zce, znu, zca, zse, a, zle, zwo)) : wpY_writeInt post (zfl, zmf, nI w.length, zpo, zfa, zfi, zin, zce, znu, zca, zse, zwi, zle, zwo) x y z := by
  subst ex ey ez
  have h2 : 2 ^ b ≤ 2 ^ 15 := Nat.pow_le_pow_right (by decide) (by omega)
  refine nm_r (hc_msk b hb) ?_
  unfold hc_wi at hl H
  refine nm_e ?_
  refine pk_le (2 ^ b - 1) v (fun c => ?_) (fun c => ?_)
  · rw [if_neg (by omega)] at hl H
    rw [List.length_append] at hl
    have hl : w.length + 2 ≤ 256 := hl
    rw [pk_sub c]
    unfold wY_writeInt_30
    refine hy_emit (w := w) hw (by omega) (hc_add rfl rfl) (fun a ha => ⟨1, ?_⟩)
    refine pk_le 3 0 (fun c => absurd c (by omega)) (fun _ => pk_lt (v - (2 ^ b - 1)) 128 (fun _ => ?_) (fun c => absurd c (by omega)))
    refine br_f (nI_pos (by omega)) ?_
    refine hy_emit (w := w ++ [ty + (2 ^ b - 1)]) ha (by rw [List.length_append]; show w.length + 1 < 256; omega) rfl (fun a ha => ?_)
    rw [show w ++ [ty + (2 ^ b - 1)] ++ [v - (2 ^ b - 1)] = w ++ [ty + (2 ^ b - 1), v - (2 ^ b - 1)] from List.append_assoc _ _ _] at ha ⊢
    exact H a ha
  · rw [if_pos (by omega)] at hl H
    rw [List.length_append] at hl
    have hl : w.length + 1 ≤ 256 := hl
    have hn : nI v - nI (2 ^ b - 1) < 0 := pk_sneg (by omega) c
    unfold wY_writeInt_30
    refine hy_emit (w := w) hw (by omega) (hc_add rfl rfl) (fun a ha => ⟨1, ?_⟩)
    refine pk_le 3 0 (fun c => absurd c (by omega)) (fun _ => br_t (Int32.lt_trans hn (by decide)) ?_)
    exact br_t hn (H a ha)
theorem hy_ws7 {post : SY → Prop} {J : Int32 → Int32 → Int32 → Int32 → Int32 → Int32 → Int32 → Int32 → Int32 → (Nat → Int32) → (Nat → Int32) → (Nat → Int32) → (Nat → Int32) → (Nat → Int32) → (Nat → Int32) → (Nat → Int32) → Prop} {w l : List Nat} {K j : Nat} {x1 : Int32} (hC : hx_C zwo zle) (hj : j < l.length) (hc : l.getD j 0 < 128) (hK : w.length + K ≤ 256) (hP : hc_tt (l.take (j + 1)) ≤ 8 * K) (HJ : ∀ a, hx_W a (w ++ hc_cl l K (hc_tt (l.take (j + 1)))) → J (nI (8 * w.length + hc_tt (l.take (j + 1)))) (nI (j + 1 + 1)) zfl zmf zwl zpo zfa zfi zin zce znu zca zse a zle zwo) : ∀ d i a, i + d = hc_cb (l.getD j 0) → hx_W a (w ++ hc_cl l K (hc_tt (l.take j) + i)) → ∀ f, d < f → wY_writeString_177 post J x1 1 (nI (j + 1)) (nI (l.getD j 0)) zfl zmf zwl zpo zfa zfi zin f (nI (8 * w.length + (hc_tt (l.take j) + i))) (nI d - 1) zce znu zca zse a zle zwo := by
  have ts := hc_ttS l j hj
  have c14 := hc_cb14 hc
  have cw := hc_cw14 hc
  have cw2 : 2 ^ hc_cb (l.getD j 0) ≤ 2 ^ 14 := Nat.pow_le_pow_right (by decide) c14.2
  intro d
  induction d with
  | zero =>
    intro i a hi ha f hf
    obtain ⟨f, rfl⟩ : ∃ g, f = g + 1 := ⟨f - 1, by omega⟩
    rw [show hc_tt (l.take j) + i = hc_tt (l.take (j + 1)) from by omega] at ha ⊢
    refine br_f (by decide) (br_t (by decide) ?_)
    exact nm_r (nI_1 (j + 1)) (HJ a ha)
  | succ d ih =>
    intro i a hi ha f hf
    obtain ⟨f, rfl⟩ : ∃ g, f = g + 1 := ⟨f - 1, by omega⟩
    have eb : (zwo (nI (l.getD j 0)).toNatClampNeg >>> (nI d &&& 31)) &&& 1 = nI (hc_sb l (hc_tt (l.take j) + i)) := by
      rw [hc_at rfl (by omega) (hC _ hc).1, hc_shr (by omega) (by omega), hc_sbW l j hj hc i (by omega), show hc_cb (l.getD j 0) - 1 - i = d from by omega]
      have : hc_cw (l.getD j 0) / 2 ^ d ≤ hc_cw (l.getD j 0) := Nat.div_le_self _ _
      exact hc_and (b := 1) (by omega) (by decide)
    have b2 := hc_sb2 l (hc_tt (l.take j) + i)
    have e8 : nI (8 * w.length + (hc_tt (l.take j) + i)) / 8 = nI (w.length + (hc_tt (l.take j) + i) / 8) := by
      refine (pk_div (d := 8) (by omega) (by decide) (by decide)).trans ?_
      congr 1
      omega
    have e9 : nI (8 * w.length + (hc_tt (l.take j) + i)) - nI (8 * w.length + (hc_tt (l.take j) + i)) / 8 * 8 = nI ((hc_tt (l.take j) + i) % 8) := by
      refine (pk_rem (d := 8) (by omega) (by decide) (by decide)).trans ?_
      congr 1
      omega
    have ew : (128 : Int32) >>> ((nI (8 * w.length + (hc_tt (l.take j) + i)) - nI (8 * w.length + (hc_tt (l.take j) + i)) / 8 * 8) &&& 31) = nI (2 ^ (7 - (hc_tt (l.take j) + i) % 8)) := by
      rw [e9]
      exact hc_sh128 _ (by omega)
    have en : nI d + (-1) = nI d - 1 := (Int32.sub_eq_add_neg _ _).symm
    have i8 : vp_in (nI (8 * w.length + (hc_tt (l.take j) + i)) / 8) 256 := hc_i e8 (by omega) (by decide)
    have n8 : ¬ (8 : Int32) = 0 := by decide
    rw [nI_pred]
    refine br_f (by decide) (br_f (nI_pos (by omega)) (And.intro (vp_in_nI hc (by decide)) ?_))
    refine pk_eq (hc_sb l (hc_tt (l.take j) + i)) 0 (fun z => And.intro n8 (And.intro i8 (And.intro n8 (And.intro i8 ?_)))) (fun z => ?_) eb
    · have ea : a (nI (8 * w.length + (hc_tt (l.take j) + i)) / 8).toNatClampNeg - ((128 : Int32) >>> ((nI (8 * w.length + (hc_tt (l.take j) + i)) - nI (8 * w.length + (hc_tt (l.take j) + i)) / 8 * 8) &&& 31)) = a (w.length + (hc_tt (l.take j) + i) / 8) - nI (2 ^ (7 - (hc_tt (l.take j) + i) % 8)) := by
        rw [ew, hc_at (a := a) e8 (by omega) rfl]
      refine nm_r (hc_up e8 (by omega) ea) (nm_r en (nm_r (nI_1 _) ?_))
      exact ih (i + 1) _ (by omega) (hy_cut (P := hc_tt (l.take j) + i) (by omega) ha z) f (by omega)
    · refine nm_r en (nm_r (nI_1 _) ?_)
      have h1 : hc_sb l (hc_tt (l.take j) + i) = 1 := by omega
      refine ih (i + 1) a (by omega) ?_ f (by omega)
      rw [show hc_cl l K (hc_tt (l.take j) + (i + 1)) = hc_cl l K (hc_tt (l.take j) + i) from by unfold hc_cl; rw [show hc_tt (l.take j) + (i + 1) = hc_tt (l.take j) + i + 1 from rfl, hc_cu1 h1]]
      exact ha
theorem hy_ws3 {post : SY → Prop} {T : Nat → List Nat} {mk : Nat → Nat} {w : List Nat} {r p : Nat} (hm : hy_M zce T mk) (hC : hx_C zwo zle) (hr : r < 256) (hp : p < 2) (hl : w.length + (hc_tt (T (2 * r + p)) + 7) / 8 ≤ 256) (H : ∀ a, hx_W a (w ++ hc_pk (T (2 * r + p))) → post (zfl, zmf, zwl, zpo, zfa, zfi, zin, zce, znu, zca, zse, a, zle, zwo)) : ∀ d j a, j + d = (T (2 * r + p)).length → hx_W a (w ++ hc_cl (T (2 * r + p)) ((hc_tt (T (2 * r + p)) + 7) / 8) (hc_tt ((T (2 * r + p)).take j))) → ∀ f, d < f → wY_writeString_133 post (nI (35 * r + 17 * p)) 1 f (nI (8 * w.length + hc_tt ((T (2 * r + p)).take j))) (nI (j + 1)) zfl zmf zwl zpo zfa zfi zin zce znu zca zse a zle zwo := by
  obtain ⟨h1, h2, h3, h4⟩ := hm.1 r p hp
  intro d
  induction d with
  | zero =>
    intro j a hj ha f hf
    obtain ⟨f, rfl⟩ : ∃ g, f = g + 1 := ⟨f - 1, by omega⟩
    rw [show j = (T (2 * r + p)).length from by omega, List.take_length, hc_clP] at ha
    refine And.intro (vp_in_nI (by omega) (by decide)) ?_
    exact pk_lt (T (2 * r + p)).length (j + 1) (fun _ => H a ha) (fun z => absurd z (by omega)) (hc_at rfl (by omega) h1)
  | succ d ih =>
    intro j a hj ha f hf
    obtain ⟨f, rfl⟩ : ∃ g, f = g + 1 := ⟨f - 1, by omega⟩
    have hc : (T (2 * r + p)).getD j 0 < 128 := h3 _ (hc_gm _ j (by omega))
    have ea : nI (35 * r + 17 * p) + nI (j + 1) = nI (35 * r + 17 * p + 1 + j) := hc_nx (hc_add rfl rfl) (by omega)
    have s2 := hc_ttM (T (2 * r + p)) (j + 1)
    refine And.intro (vp_in_nI (by omega) (by decide)) ?_
    refine pk_lt (T (2 * r + p)).length (j + 1) (fun z => absurd z (by omega)) (fun _ => And.intro (hc_i ea (by omega) (by decide)) (nm_r (hc_at ea (by omega) (h4 j (by omega))) ?_)) (hc_at rfl (by omega) h1)
    refine br_f (by decide) (And.intro (vp_in_nI hc (by decide)) (nm_r (congrArg (fun z => z - 1) (hc_at rfl (by omega) (hC _ hc).2)) ⟨hc_cb ((T (2 * r + p)).getD j 0) + 1, ?_⟩))
    exact hy_ws7 (w := w) (l := T (2 * r + p)) (K := (hc_tt (T (2 * r + p)) + 7) / 8) (j := j) hC (by omega) hc hl (by omega) (fun a ha => ih (j + 1) a (by omega) ha f (by omega)) _ 0 a (by omega) ha _ (by omega)
theorem hy_ws6 {post : SY → Prop} {T : Nat → List Nat} {mk : Nat → Nat} {w : List Nat} {r p : Nat} (hm : hy_M zce T mk) (hC : hx_C zwo zle) (hr : r < 256) (hp : p < 2) (hl : w.length + (hc_tt (T (2 * r + p)) + 7) / 8 ≤ 256) (H : ∀ a, hx_W a (w ++ hc_pk (T (2 * r + p))) → post (zfl, zmf, nI (w ++ hc_pk (T (2 * r + p))).length, zpo, zfa, zfi, zin, zce, znu, zca, zse, a, zle, zwo)) : ∀ d k a, k + d = (hc_tt (T (2 * r + p)) + 7) / 8 → hx_W a (w ++ hc_cl (T (2 * r + p)) k 0) → ∀ f, d < f → wY_writeString_106 post (nI (35 * r + 17 * p)) (nI ((hc_tt (T (2 * r + p)) + 7) / 8)) 1 (nI (8 * w.length)) f (nI k) zfl zmf (nI (w ++ hc_cl (T (2 * r + p)) k 0).length) zpo zfa zfi zin zce znu zca zse a zle zwo := by
  intro d
  induction d with
  | zero =>
    intro k a hk ha f hf
    obtain ⟨f, rfl⟩ : ∃ g, f = g + 1 := ⟨f - 1, by omega⟩
    refine br_f (by decide) ?_
    refine pk_le ((hc_tt (T (2 * r + p)) + 7) / 8) k (fun _ => ⟨(T (2 * r + p)).length + 1, ?_⟩) (fun z => absurd z (by omega))
    rw [show k = (hc_tt (T (2 * r + p)) + 7) / 8 from by omega] at ha ⊢
    rw [List.length_append, hc_pkL] at H
    rw [List.length_append, hc_clL]
    exact hy_ws3 (w := w) hm hC hr hp hl H (T (2 * r + p)).length 0 a (by omega) (by rw [List.take_zero]; exact ha) _ (by omega)
  | succ d ih =>
    intro k a hk ha f hf
    obtain ⟨f, rfl⟩ : ∃ g, f = g + 1 := ⟨f - 1, by omega⟩
    refine br_f (by decide) ?_
    refine pk_le ((hc_tt (T (2 * r + p)) + 7) / 8) k (fun z => absurd z (by omega)) (fun _ => ?_)
    refine hy_emit (w := w ++ hc_cl (T (2 * r + p)) k 0) (b := 255) ha (by rw [List.length_append, hc_clL]; omega) rfl (fun a ha => nm_r (nI_1 k) ?_)
    rw [List.append_assoc, ← hc_cl0] at ha ⊢
    exact ih (k + 1) a (by omega) ha f (by omega)
theorem hy_wsr {post : SY → Prop} {T : Nat → List Nat} {mk : Nat → Nat} {w : List Nat} {r p : Nat} {x5 : Int32} (hm : hy_M zce T mk) (hC : hx_C zwo zle) (hr : r < 256) (hp : p < 2) (hl : w.length + (T (2 * r + p)).length ≤ 256) (H : ∀ a, hx_W a (w ++ T (2 * r + p)) → post (zfl, zmf, nI (w ++ T (2 * r + p)).length, zpo, zfa, zfi, zin, zce, znu, zca, zse, a, zle, zwo)) : ∀ d j a, j + d = (T (2 * r + p)).length → hx_W a (w ++ (T (2 * r + p)).take j) → ∀ f, d < f → wY_writeString_133 post (nI (35 * r + 17 * p)) 0 f x5 (nI (j + 1)) zfl zmf (nI (w ++ (T (2 * r + p)).take j).length) zpo zfa zfi zin zce znu zca zse a zle zwo := by
  obtain ⟨h1, h2, h3, h4⟩ := hm.1 r p hp
  intro d
  induction d with
  | zero =>
    intro j a hj ha f hf
    obtain ⟨f, rfl⟩ : ∃ g, f = g + 1 := ⟨f - 1, by omega⟩
    rw [show (T (2 * r + p)).take j = T (2 * r + p) from List.take_of_length_le (by omega)] at ha ⊢
    refine And.intro (vp_in_nI (by omega) (by decide)) ?_
    exact pk_lt (T (2 * r + p)).length (j + 1) (fun _ => H a ha) (fun z => absurd z (by omega)) (hc_at rfl (by omega) h1)
  | succ d ih =>
    intro j a hj ha f hf
    obtain ⟨f, rfl⟩ : ∃ g, f = g + 1 := ⟨f - 1, by omega⟩
    have hc : (T (2 * r + p)).getD j 0 < 128 := h3 _ (hc_gm _ j (by omega))
    have ea : nI (35 * r + 17 * p) + nI (j + 1) = nI (35 * r + 17 * p + 1 + j) := hc_nx (hc_add rfl rfl) (by omega)
    have lt : ((T (2 * r + p)).take j).length = j := by rw [List.length_take]; omega
    refine And.intro (vp_in_nI (by omega) (by decide)) ?_
    refine pk_lt (T (2 * r + p)).length (j + 1) (fun z => absurd z (by omega)) (fun _ => And.intro (hc_i ea (by omega) (by decide)) (nm_r (hc_at ea (by omega) (h4 j (by omega))) ?_)) (hc_at rfl (by omega) h1)
    refine br_t rfl ?_
    refine hy_emit (w := w ++ (T (2 * r + p)).take j) (b := (T (2 * r + p)).getD j 0) ha (by rw [List.length_append, lt]; omega) rfl (fun a ha => And.intro (vp_in_nI hc (by decide)) (nm_e ⟨1, ?_⟩))
    have e : w ++ (T (2 * r + p)).take j ++ [(T (2 * r + p)).getD j 0] = w ++ (T (2 * r + p)).take (j + 1) := by
      rw [List.append_assoc]
      congr 1
      have hj2 : j < (T (2 * r + p)).length := by omega
      rw [List.take_succ, List.getD_eq_getElem?_getD, List.getElem?_eq_getElem hj2]
      rfl
    rw [e] at ha ⊢
    exact br_t rfl (nm_r (nI_1 (j + 1)) (ih (j + 1) a (by omega) ha f (by omega)))
theorem hy_ws4 {post : SY → Prop} {T : Nat → List Nat} {mk : Nat → Nat} {w : List Nat} {r p : Nat} (hm : hy_M zce T mk) (hC : hx_C zwo zle) (hr : r < 256) (hp : p < 2) (hw : hx_W zwi w) (hl : (w ++ hc_ws (T (2 * r + p))).length ≤ 256) (H : ∀ a, hx_W a (w ++ hc_ws (T (2 * r + p))) → post (zfl, zmf, nI (w ++ hc_ws (T (2 * r + p))).length, zpo, zfa, zfi, zin, zce, znu, zca, zse, a, zle, zwo)) : ∀ d j, j + d = (T (2 * r + p)).length → ∀ f, d < f → wY_writeString_4 post (nI (35 * r + 17 * p)) zfl zmf (nI w.length) zpo zfa zfi zin zce znu zca zse zwi zle zwo f (nI (hc_tt ((T (2 * r + p)).take j))) (nI (j + 1)) := by
  obtain ⟨h1, h2, h3, h4⟩ := hm.1 r p hp
  have t14 := hc_tt14 (T (2 * r + p)) h3
  have ia : vp_in (nI (35 * r + 17 * p)) 8960 := vp_in_nI (by omega) (by decide)
  have el := hc_at (a := zce) (x := nI (35 * r + 17 * p)) rfl (by omega) h1
  intro d
  induction d with
  | zero =>
    intro j hj f hf
    obtain ⟨f, rfl⟩ : ∃ g, f = g + 1 := ⟨f - 1, by omega⟩
    rw [show j = (T (2 * r + p)).length from by omega, List.take_length]
    have e : (nI (hc_tt (T (2 * r + p))) + 7) / 8 = nI ((hc_tt (T (2 * r + p)) + 7) / 8) := by
      rw [show nI (hc_tt (T (2 * r + p))) + 7 = nI (hc_tt (T (2 * r + p)) + 7) from hc_add rfl rfl]
      exact pk_div (d := 8) (by omega) (by decide) (by decide)
    refine And.intro ia ?_
    refine pk_lt (T (2 * r + p)).length ((T (2 * r + p)).length + 1) (fun _ => And.intro (by decide) (nm_r e (And.intro ia ?_))) (fun z => absurd z (by omega)) el
    unfold hc_ws at hl H
    refine pk_le (T (2 * r + p)).length ((hc_tt (T (2 * r + p)) + 7) / 8) (fun z => ?_) (fun z => ?_) el
    · rw [if_neg (by omega), ← List.append_assoc] at hl H
      rw [List.length_append] at hl
      refine br_t rfl (br_t rfl (And.intro ia ?_))
      unfold wY_writeString_91
      refine hy_writeInt (w := w) (ty := 0) (b := 7) (v := (T (2 * r + p)).length) hw (by decide) (by omega) (by omega) rfl rfl el (fun a ha => nm_e ⟨1, br_t rfl ⟨(T (2 * r + p)).length + 1, ?_⟩⟩)
      have g := hy_wsr (w := w ++ hc_wi 0 7 (T (2 * r + p)).length) (post := post) (x5 := nI (w ++ hc_wi 0 7 (T (2 * r + p)).length).length * 8) hm hC hr hp (by omega) H (T (2 * r + p)).length 0 a (by omega) (by rw [List.take_zero, List.append_nil]; exact ha) ((T (2 * r + p)).length + 1) (by omega)
      rw [List.take_zero, List.append_nil] at g
      exact g
    · rw [if_pos (by omega), ← List.append_assoc] at hl H
      rw [List.length_append, hc_pkL] at hl
      refine br_f (by decide) (br_f (by decide) ?_)
      unfold wY_writeString_91
      refine hy_writeInt (w := w) (ty := 128) (b := 7) (v := (hc_tt (T (2 * r + p)) + 7) / 8) hw (by decide) (by omega) (by omega) rfl rfl rfl (fun a ha => nm_r (e' := nI (8 * (w ++ hc_wi 128 7 ((hc_tt (T (2 * r + p)) + 7) / 8)).length)) (hc_nx (hc_mul (b := 8) rfl rfl) (Nat.mul_comm _ _)) ⟨(hc_tt (T (2 * r + p)) + 7) / 8 + 1, ?_⟩)
      have g := hy_ws6 (w := w ++ hc_wi 128 7 ((hc_tt (T (2 * r + p)) + 7) / 8)) (post := post) hm hC hr hp (by omega) H ((hc_tt (T (2 * r + p)) + 7) / 8) 0 a (by omega) (by rw [show hc_cl (T (2 * r + p)) 0 0 = [] from rfl, List.append_nil]; exact ha) ((hc_tt (T (2 * r + p)) + 7) / 8 + 1) (by omega)
      rw [show hc_cl (T (2 * r + p)) 0 0 = [] from rfl, List.append_nil] at g
      exact g
  | succ d ih =>
    intro j hj f hf
    obtain ⟨f, rfl⟩ : ∃ g, f = g + 1 := ⟨f - 1, by omega⟩
    have hc : (T (2 * r + p)).getD j 0 < 128 := h3 _ (hc_gm _ j (by omega))
    have ea : nI (35 * r + 17 * p) + nI (j + 1) = nI (35 * r + 17 * p + 1 + j) := hc_nx (hc_add rfl rfl) (by omega)
    have ev := hc_at (a := zce) ea (by omega) (h4 j (by omega))
    refine And.intro ia ?_
    refine pk_lt (T (2 * r + p)).length (j + 1) (fun z => absurd z (by omega)) (fun _ => And.intro (hc_i ea (by omega) (by decide)) (And.intro (hc_i ev hc (by decide)) ?_)) el
    refine nm_r (e' := nI (hc_tt ((T (2 * r + p)).take (j + 1)))) (hc_nx (hc_add rfl (hc_at ev (by omega) (hC _ hc).2)) (hc_ttS _ j (by omega)).symm) (nm_r (nI_1 (j + 1)) ?_)
    exact ih (j + 1) (by omega) f (by omega)
theorem hy_writeString {post : SY → Prop} {T : Nat → List Nat} {mk : Nat → Nat} {w : List Nat} {r p : Nat} {x : Int32} (hm : hy_M zce T mk) (hC : hx_C zwo zle) (hr : r < 256) (hp : p < 2) (hw : hx_W zwi w) (hl : (w ++ hc_ws (T (2 * r + p))).length ≤ 256) (ex : x = nI (35 * r + 17 * p)) (H : ∀ a, hx_W a (w ++ hc_ws (T (2 * r + p))) → post (zfl, zmf, nI (w ++ hc_ws (T (2 * r + p))).length, zpo, zfa, zfi, zin, zce, znu, zca, zse, a, zle, zwo)) : wpY_writeString post (zfl, zmf, nI w.length, zpo, zfa, zfi, zin, zce, znu, zca, zse, zwi, zle, zwo) x := by
  subst ex
  refine ⟨(T (2 * r + p)).length + 1, ?_⟩
  exact hy_ws4 (w := w) hm hC hr hp hw hl H (T (2 * r + p)).length 0 (by omega) _ (by omega)
end
end
section
section
variable {zfl zmf zwl zpo zfa zfi zin : Int32} {zce znu zca zse zwi zle zwo : Nat → Int32}
def hy_S (T : Nat → List Nat) : Prop := ∀ i, i < 14 → hc_fl T (225 + i) = hc_st i
theorem hy_ent {T : Nat → List Nat} {tb : List hc_Fd} {t i : Nat} (ht : 3 ≤ t ∧ t ≤ 5) (hS : hy_S T) (hb : hy_Tb T t tb) (h1 : 1 ≤ i) (h2 : i ≤ 14 + tb.length) : hc_fl T (hy_ro t i) = hc_et tb i := by
  unfold hy_ro hc_et
  by_cases z : i ≤ 14
  · rw [if_pos (by omega), if_pos z, ← hS (i - 1) (by omega), show 225 + (i - 1) = 224 + i from by omega]
  · rw [if_neg (by omega), if_neg z, ← hb (i - 15) (by omega), show 32 * t + 15 + (i - 15) = 32 * t + i from by omega]
theorem hy_roB {t i : Nat} (ht : t ≤ 5) (hi : i < 32) : hy_ro t i < 256 := by
  unfold hy_ro
  split <;> omega
theorem hy_okf {C : Nat → Int32} {T : Nat → List Nat} {mk : Nat → Nat} (hm : hy_M C T mk) (s : Nat) : hc_ok (hc_fl T s) := ⟨(hm.1 s 0 (by omega)).2.1, (hm.1 s 1 (by omega)).2.1, (hm.1 s 0 (by omega)).2.2.1, (hm.1 s 1 (by omega)).2.2.1⟩
theorem hy_lol {post : Int32 → Prop} {T : Nat → List Nat} {mk : Nat → Nat} {tb : List hc_Fd} {s wh : Nat} (hm : hy_M zce T mk) (hS : hy_S T) (hs : s < 256) (hwh : wh < 2) (hL : tb.length ≤ 16) (en : znu 3 = nI tb.length) (hb : hy_Tb T 3 tb) : ∀ n i, i + n = 15 + tb.length → 1 ≤ i → post (nI (hc_fe tb (hc_fl T s) wh n i)) → ∀ f, n < f → wY_lookup_2 post (nI (35 * s)) (nI wh) zfl zmf zwl zpo zfa zfi zin zce znu zca zse zwi zle zwo f (nI i) := by
  have e14 : (14 : Int32) + znu 3 = nI (14 + tb.length) := hc_add rfl en
  intro n
  induction n with
  | zero =>
    intro i hi h1 H f hf
    obtain ⟨f, rfl⟩ : ∃ g, f = g + 1 := ⟨f - 1, by omega⟩
    exact pk_lt (14 + tb.length) i (fun _ => H) (fun z => absurd z (by omega)) e14
  | succ n ih =>
    intro i hi h1 H f hf
    obtain ⟨f, rfl⟩ : ∃ g, f = g + 1 := ⟨f - 1, by omega⟩
    refine pk_lt (14 + tb.length) i (fun z => absurd z (by omega)) (fun _ => ?_) e14
    refine hy_at (w := 3) (i := i) (by omega) (by omega) rfl rfl ?_
    have eE := hy_ent (t := 3) (by omega) hS hb h1 (by omega)
    have bE := hy_roB (t := 3) (i := i) (by omega) (by omega)
    unfold hc_fe at H
    refine hy_same (T := T) (r := s) (p := 0) (s := hy_ro 3 i) (q := 0) hm hs (by omega) bE (by omega) rfl rfl (fun e1 => ?_) (fun e1 => ?_)
    · have e1 : (hc_et tb i).1 = (hc_fl T s).1 := by rw [← eE]; exact e1.symm
      refine br_f (by decide) ?_
      refine pk_eq wh 0 (fun z => ?_) (fun z => ?_)
      · rw [if_pos ⟨e1, Or.inl z⟩] at H
        exact H
      · refine hy_same (T := T) (r := s) (p := 1) (s := hy_ro 3 i) (q := 1) hm hs (by omega) bE (by omega) (hc_add rfl rfl) (hc_add rfl rfl) (fun e2 => ?_) (fun e2 => ?_)
        · have e2 : (hc_et tb i).2 = (hc_fl T s).2 := by rw [← eE]; exact e2.symm
          rw [if_pos ⟨e1, Or.inr e2⟩] at H
          exact br_f (by decide) H
        · have e2 : (hc_et tb i).2 ≠ (hc_fl T s).2 := by rw [← eE]; exact fun z => e2 z.symm
          rw [if_neg (fun c => c.2.elim z e2)] at H
          exact br_t rfl (nm_r (nI_1 i) (ih (i + 1) (by omega) (by omega) H f (by omega)))
    · have e1 : (hc_et tb i).1 ≠ (hc_fl T s).1 := by rw [← eE]; exact fun z => e1 z.symm
      rw [if_neg (fun c => e1 c.1)] at H
      exact br_t rfl (nm_r (nI_1 i) (ih (i + 1) (by omega) (by omega) H f (by omega)))
theorem hy_lookup {post : Int32 → Prop} {T : Nat → List Nat} {mk : Nat → Nat} {tb : List hc_Fd} {s wh cap : Nat} {x y : Int32} (hm : hy_M zce T mk) (hS : hy_S T) (hs : s < 256) (hwh : wh < 2) (hb : hy_tab T znu zca 3 tb cap) (ex : x = nI (35 * s)) (ey : y = nI wh) (H : post (nI (hc_fd tb (hc_fl T s) wh))) : wpY_lookup post (zfl, zmf, zwl, zpo, zfa, zfi, zin, zce, znu, zca, zse, zwi, zle, zwo) x y := by
  subst ex ey
  have hL := hy_tabL hb
  refine ⟨14 + tb.length + 1, ?_⟩
  exact hy_lol hm hS hs hwh hL hb.1 hb.2.2.2.2 (14 + tb.length) 1 (by omega) (by omega) H _ (by omega)
theorem hy_wl {post : SY → Prop} {T : Nat → List Nat} {mk : Nat → Nat} {w : List Nat} {ty b k s : Nat} {x6 x y z v : Int32} (hm : hy_M zce T mk) (hC : hx_C zwo zle) (hs : s < 256) (hw : hx_W zwi w) (hb : b < 16) (hk : k < 128 + (2 ^ b - 1)) (hk2 : k < 2 ^ 31) (hl : (hc_wl w ty b k (hc_fl T s)).length ≤ 256) (ex : x = nI ty) (ey : y = nI b) (ez : z = nI k) (ev : v = nI (35 * s)) (H : ∀ a, hx_W a (hc_wl w ty b k (hc_fl T s)) → (x6 = 0 → post (zfl, zmf, nI (hc_wl w ty b k (hc_fl T s)).length, zpo, zfa, zfi, zin, zce, znu, zca, zse, a, zle, zwo)) ∧ (¬ x6 = 0 → wpY_insert post (zfl, zmf, nI (hc_wl w ty b k (hc_fl T s)).length, zpo, zfa, zfi, zin, zce, znu, zca, zse, a, zle, zwo) 3 v)) : wY_writeField_114 post v z x6 y x zfl zmf (nI w.length) zpo zfa zfi zin zce znu zca zse zwi zle zwo := by
  subst ev
  unfold hc_wl at hl H
  have e3 : nI (35 * s) + 17 = nI (35 * s + 17 * 1) := hc_add rfl rfl
  have hl2 := hl
  rw [List.length_append] at hl2
  have hl3 : (w ++ hc_wi ty b k).length ≤ 256 := by
    by_cases c : k = 0
    · rw [if_pos c, List.length_append] at hl2
      omega
    · rw [if_neg c] at hl2
      omega
  unfold wY_writeField_114
  refine hy_writeInt (w := w) (ty := ty) (b := b) (v := k) hw hb hk hl3 ex ey ez (fun a ha => ?_)
  refine pk_eq k 0 (fun c => ?_) (fun c => ?_) ez rfl
  · rw [if_pos c] at hl H hl2
    refine hy_writeString (T := T) (r := s) (p := 0) (w := w ++ hc_wi ty b k) hm hC hs (by omega) ha (Nat.le_trans (Nat.le_add_right _ _) hl2) rfl (fun a ha => ?_)
    exact hy_writeString (T := T) (r := s) (p := 1) (w := w ++ hc_wi ty b k ++ hc_ws (T (2 * s))) hm hC hs (by omega) ha hl e3 H
  · rw [if_neg c] at hl H
    exact hy_writeString (T := T) (r := s) (p := 1) (w := w ++ hc_wi ty b k) hm hC hs (by omega) ha hl e3 H
theorem hy_writeField {post : SY → Prop} {T : Nat → List Nat} {mk : Nat → Nat} {w : List Nat} {tb : List hc_Fd} {cap i : Nat} {x : Int32} (hm : hy_M zce T mk) (hC : hx_C zwo zle) (hS : hy_S T) (hi : i < 6) (hmo : mk (32 + i) < 2 ^ 31) (hw : hx_W zwi w) (hl : w.length + 35 ≤ 256) (hb : hy_tab T znu zca 3 tb cap) (ex : x = nI i) (H : ∀ C nu a T' mk', hy_M C T' mk' → (∀ z, z < 192 ∨ 256 ≤ z → T' z = T z) → (∀ r, r < 96 ∨ 128 ≤ r → mk' r = mk r) → (∀ j, j ≠ 3 → nu j = znu j) → hy_tab T' nu zca 3 (hc_ef tb cap w (hc_fl T (32 + i)) (mk (32 + i))).2 cap → hx_W a (hc_ef tb cap w (hc_fl T (32 + i)) (mk (32 + i))).1 → post (zfl, zmf, nI (hc_ef tb cap w (hc_fl T (32 + i)) (mk (32 + i))).1.length, zpo, zfa, zfi, zin, C, nu, zca, zse, a, zle, zwo)) : wpY_writeField post (zfl, zmf, nI w.length, zpo, zfa, zfi, zin, zce, znu, zca, zse, zwi, zle, zwo) x := by
  subst ex
  have hL := hy_tabL hb
  have f0 := hc_fdL tb (hc_fl T (32 + i)) 0
  have f1 := hc_fdL tb (hc_fl T (32 + i)) 1
  have hok := hy_okf hm (32 + i)
  have hlen := hc_efL (tb := tb) (cap := cap) (w := w) (m := mk (32 + i)) hok
  have ec : zca 3 = nI cap := hb.2.1
  have hcap : cap ≤ 128 := hb.2.2.2.1
  have hfz : hc_fz (hc_fl T (32 + i)) < 2 ^ 31 := by
    have := hok.1
    have := hok.2.1
    unfold hc_fz
    omega
  have e34 : nI (35 * (32 + i)) + 34 = nI (35 * (32 + i) + 34) := hc_add rfl rfl
  unfold wpY_writeField
  refine hy_at (w := 1) (i := i) (by omega) (by omega) rfl rfl ?_
  rw [show hy_ro 1 i = 32 + i from if_neg (by omega)]
  refine hy_lookup (T := T) (tb := tb) (s := 32 + i) (wh := 1) hm hS (by omega) (by omega) hb rfl rfl ?_
  refine hy_lookup (T := T) (tb := tb) (s := 32 + i) (wh := 0) hm hS (by omega) (by omega) hb rfl rfl ?_
  refine And.intro (hc_i e34 (by omega) (by decide)) (nm_r (hc_at e34 (by omega) (hm.2 (32 + i))) ?_)
  unfold hc_ef at H hlen
  have H0 : ∀ (ty b : Nat), (hc_wl w ty b (hc_fd tb (hc_fl T (32 + i)) 0) (hc_fl T (32 + i))).length ≤ 256 → b < 16 → 4 ≤ b → (∀ C nu a T' mk', hy_M C T' mk' → (∀ z, z < 192 ∨ 256 ≤ z → T' z = T z) → (∀ r, r < 96 ∨ 128 ≤ r → mk' r = mk r) → (∀ j, j ≠ 3 → nu j = znu j) → hy_tab T' nu zca 3 tb cap → hx_W a (hc_wl w ty b (hc_fd tb (hc_fl T (32 + i)) 0) (hc_fl T (32 + i))) → post (zfl, zmf, nI (hc_wl w ty b (hc_fd tb (hc_fl T (32 + i)) 0) (hc_fl T (32 + i))).length, zpo, zfa, zfi, zin, C, nu, zca, zse, a, zle, zwo)) → wY_writeField_114 post (nI (35 * (32 + i))) (nI (hc_fd tb (hc_fl T (32 + i)) 0)) 0 (nI b) (nI ty) zfl zmf (nI w.length) zpo zfa zfi zin zce znu zca zse zwi zle zwo := by
    intro ty b g1 g2 g3 g4
    exact hy_wl (T := T) (w := w) (ty := ty) (b := b) (k := hc_fd tb (hc_fl T (32 + i)) 0) (s := 32 + i) hm hC (by omega) hw g2 (by omega) (by omega) g1 rfl rfl rfl rfl (fun a ha => br_t rfl (g4 _ _ a T mk hm (fun _ _ => rfl) (fun _ _ => rfl) (fun _ _ => rfl) hb ha))
  refine pk_eq (mk (32 + i)) 2 (fun c => ?_) (fun c => ?_)
  · rw [if_pos c] at H hlen
    have e0 : ¬ nI (mk (32 + i)) = 0 := nI_ne0 (by omega) (by omega)
    have e2 : nI (mk (32 + i)) = 2 := by rw [c]; rfl
    exact br_f e0 (br_t rfl (br_t e2 (br_t rfl (H0 16 4 (Nat.le_trans hlen hl) (by decide) (by decide) H))))
  · rw [if_neg c] at H hlen
    have e2 : ¬ nI (mk (32 + i)) = 2 := by
      intro z
      exact c ((nI_eq hmo (by decide)).mp z)
    refine pk_le (hc_fd tb (hc_fl T (32 + i)) 1) 0 (fun d => ?_) (fun d => ?_)
    · rw [if_neg (by omega)] at H hlen
      refine pk_eq (mk (32 + i)) 0 (fun e => ?_) (fun e => ?_)
      · refine hy_entrySize (T := T) (r := 32 + i) hm (by omega) rfl ?_
        refine pk_lt cap (hc_fz (hc_fl T (32 + i))) (fun g => ?_) (fun g => ?_) ec rfl
        · rw [if_neg (by omega)] at H hlen
          exact br_t rfl (br_f e2 (br_t rfl (H0 0 4 (Nat.le_trans hlen hl) (by decide) (by decide) H)))
        · rw [if_pos ⟨e, g⟩] at H hlen
          refine br_f (by decide) (br_f (by decide) ?_)
          refine hy_wl (T := T) (w := w) (ty := 64) (b := 6) (k := hc_fd tb (hc_fl T (32 + i)) 0) (s := 32 + i) hm hC (by omega) hw (by decide) (by omega) (by omega) (Nat.le_trans hlen hl) rfl rfl rfl rfl (fun a ha => br_f (by decide) ?_)
          exact hy_insert (T := T) (mk := mk) (t := 3) (s := 32 + i) (tb := tb) (cap := cap) hm (by omega) (by omega) (by omega) hb rfl rfl (fun C nu T' mk' h1 h2 h3 h4 h5 => H C nu a T' mk' h1 h2 h3 h4 h5 ha)
      · rw [if_neg (by omega)] at H hlen
        exact br_t rfl (br_f e2 (br_t rfl (H0 0 4 (Nat.le_trans hlen hl) (by decide) (by decide) H)))
    · rw [if_pos d] at H hlen
      exact hy_writeInt (w := w) (ty := 128) (b := 7) (v := hc_fd tb (hc_fl T (32 + i)) 1) hw (by decide) (by omega) (Nat.le_trans hlen hl) rfl rfl rfl (fun a ha => H _ _ a T mk hm (fun _ _ => rfl) (fun _ _ => rfl) (fun _ _ => rfl) hb ha)
theorem hy_update {post : SY → Prop} {T : Nat → List Nat} {mk : Nat → Nat} {w : List Nat} {tb : List hc_Fd} {cap v : Nat} {x : Int32} (hm : hy_M zce T mk) (hv : v ≤ 128) (hw : hx_W zwi w) (hl : w.length + 2 ≤ 256) (hb : hy_tab T znu zca 3 tb cap) (ex : x = nI v) (H : ∀ nu ca a, (∀ j, j ≠ 3 → nu j = znu j ∧ ca j = zca j) → hy_tab T nu ca 3 (hc_ev tb 0 v) v → hx_W a (w ++ hc_wi 32 5 v) → post (zfl, zmf, nI (w ++ hc_wi 32 5 v).length, zpo, zfa, zfi, zin, zce, nu, ca, zse, a, zle, zwo)) : wpY_update post (zfl, zmf, nI w.length, zpo, zfa, zfi, zin, zce, znu, zca, zse, zwi, zle, zwo) x := by
  have hlen := hc_wiL 32 5 v
  unfold wpY_update
  refine hy_writeInt (w := w) (ty := 32) (b := 5) (v := v) hw (by decide) (by omega) (by rw [List.length_append]; omega) rfl rfl ex (fun a ha => ?_)
  exact hy_setCapacity (T := T) (mk := mk) (t := 3) (c := v) (tb := tb) (cap := cap) hm (by omega) hv hb rfl ex (fun nu ca h1 h2 => H nu ca a h1 h2 ha)
theorem hy_enl {post : Int32 → SY → Prop} {T0 : Nat → List Nat} {mk0 : Nat → Nat} {ls : List (hc_Fd × Nat)} {cap : Nat} (hC : hx_C zwo zle) (hS : hy_S T0) (hls : ls.length ≤ 6) (en : znu 1 = nI ls.length) (hlf : ∀ k, k < ls.length → hc_fl T0 (32 + k) = (ls.getD k (hc_f0, 0)).1 ∧ mk0 (32 + k) = (ls.getD k (hc_f0, 0)).2 ∧ (ls.getD k (hc_f0, 0)).2 < 3) : ∀ n i w tb T mk C nu a, i + n = ls.length → hy_M C T mk → (∀ z, z < 192 ∨ 256 ≤ z → T z = T0 z) → (∀ r, r < 96 ∨ 128 ≤ r → mk r = mk0 r) → (∀ j, j ≠ 3 → nu j = znu j) → hy_tab T nu zca 3 tb cap → hx_W a w → w.length + 35 * n ≤ 256 → (∀ C nu a T' mk', hy_M C T' mk' → (∀ z, z < 192 ∨ 256 ≤ z → T' z = T0 z) → (∀ r, r < 96 ∨ 128 ≤ r → mk' r = mk0 r) → (∀ j, j ≠ 3 → nu j = znu j) → hy_tab T' nu zca 3 (hc_el ls cap n i w tb).2 cap → hx_W a (hc_el ls cap n i w tb).1 → post 0 (zfl, zmf, nI (hc_el ls cap n i w tb).1.length, zpo, zfa, zfi, zin, C, nu, zca, zse, a, zle, zwo)) → ∀ f, n < f → wY_encode_84 post f (nI i) zfl zmf (nI w.length) zpo zfa zfi zin C nu zca zse a zle zwo := by
  intro n
  induction n with
  | zero =>
    intro i w tb T mk C nu a hi hm hT hk hf hb hw hl H f hf0
    obtain ⟨f, rfl⟩ : ∃ g, f = g + 1 := ⟨f - 1, by omega⟩
    exact pk_le ls.length i (fun _ => H C nu a T mk hm hT hk hf hb hw) (fun z => absurd z (by omega)) ((hf 1 (by omega)).trans en)
  | succ n ih =>
    intro i w tb T mk C nu a hi hm hT hk hf hb hw hl H f hf0
    obtain ⟨f, rfl⟩ : ∃ g, f = g + 1 := ⟨f - 1, by omega⟩
    obtain ⟨g1, g2, g3⟩ := hlf i (by omega)
    have hS2 : hy_S T := by
      intro k hk
      rw [← hS k hk]
      exact hc_flc (hT _ (by omega)) (hT _ (by omega))
    have eF : hc_fl T (32 + i) = (ls.getD i (hc_f0, 0)).1 := by
      rw [← g1]
      exact hc_flc (hT _ (by omega)) (hT _ (by omega))
    have eM : mk (32 + i) = (ls.getD i (hc_f0, 0)).2 := (hk _ (by omega)).trans g2
    refine pk_le ls.length i (fun z => absurd z (by omega)) (fun _ => ?_) ((hf 1 (by omega)).trans en)
    have hlen := hc_efL (tb := tb) (cap := cap) (w := w) (m := mk (32 + i)) (hy_okf hm (32 + i))
    refine hy_writeField (T := T) (mk := mk) (w := w) (tb := tb) (cap := cap) (i := i) hm hC hS2 (by omega) (by omega) hw (by omega) hb rfl (fun C' nu' a T' mk' h1 h2 h3 h4 h5 h6 => nm_r (nI_1 i) ?_)
    rw [eF, eM] at h5 h6 hlen ⊢
    exact ih (i + 1) _ _ T' mk' C' nu' a (by omega) h1 (fun z hz => (h2 z hz).trans (hT z hz)) (fun r hr => (h3 r hr).trans (hk r hr)) (fun j hj => (h4 j hj).trans (hf j hj)) h5 h6 (by omega) H f (by omega)
theorem hy_en70 {post : Int32 → SY → Prop} {T : Nat → List Nat} {mk : Nat → Nat} {ls : List (hc_Fd × Nat)} {w : List Nat} {tb : List hc_Fd} {cap tgt : Nat} (hm : hy_M zce T mk) (hC : hx_C zwo zle) (hS : hy_S T) (hls : ls.length ≤ 6) (en : znu 1 = nI ls.length) (hlf : ∀ k, k < ls.length → hc_fl T (32 + k) = (ls.getD k (hc_f0, 0)).1 ∧ mk (32 + k) = (ls.getD k (hc_f0, 0)).2 ∧ (ls.getD k (hc_f0, 0)).2 < 3) (e2 : zse 2 = nI tgt) (hw : hx_W zwi w) (hl : w.length + 210 ≤ 256) (hb : hy_tab T znu zca 3 tb cap)
    (H : ∀ C nu a T' mk', hy_M C T' mk' → (∀ z, z < 192 ∨ 256 ≤ z → T' z = T z) → (∀ r, r < 96 ∨ 128 ≤ r → mk' r = mk r) → (∀ j, j ≠ 3 → nu j = znu j) → hy_tab T' nu zca 3 (hc_el ls cap ls.length 0 w tb).2 cap → hx_W a (hc_el ls cap ls.length 0 w tb).1 → post 0 (zfl, zmf, nI (hc_el ls cap ls.length 0 w tb).1.length, zpo, zfa, zfi, zin, C, nu, zca, upd zse 3 (nI tgt), a, zle, zwo)) : wY_encode_70 post zfl zmf (nI w.length) zpo zfa zfi zin zce znu zca zse zwi zle zwo := by
  refine nm_r (congrArg (upd zse 3) e2) ⟨ls.length + 1, ?_⟩
  exact hy_enl (T0 := T) (mk0 := mk) (ls := ls) (cap := cap) hC hS hls en hlf ls.length 0 w tb T mk zce znu zwi (by omega) hm (fun _ _ => rfl) (fun _ _ => rfl) (fun _ _ => rfl) hb hw (by omega) H _ (by omega)
theorem hy_en45 {post : Int32 → SY → Prop} {T : Nat → List Nat} {mk : Nat → Nat} {ls : List (hc_Fd × Nat)} {r : List Nat × List hc_Fd × Nat} {tgt : Nat} (hm : hy_M zce T mk) (hC : hx_C zwo zle) (hS : hy_S T) (hls : ls.length ≤ 6) (en : znu 1 = nI ls.length) (hlf : ∀ k, k < ls.length → hc_fl T (32 + k) = (ls.getD k (hc_f0, 0)).1 ∧ mk (32 + k) = (ls.getD k (hc_f0, 0)).2 ∧ (ls.getD k (hc_f0, 0)).2 < 3) (ht : tgt ≤ 128) (e2 : zse 2 = nI tgt) (hw : hx_W zwi r.1) (hl : r.1.length ≤ 2) (hb : hy_tab T znu zca 3 r.2.1 r.2.2)
    (H : ∀ C nu ca a T' mk', hy_M C T' mk' → (∀ z, z < 192 ∨ 256 ≤ z → T' z = T z) → (∀ x, x < 96 ∨ 128 ≤ x → mk' x = mk x) → (∀ j, j ≠ 3 → nu j = znu j ∧ ca j = zca j) → hy_tab T' nu ca 3 (hc_el ls (hc_uB tgt r).2.2 ls.length 0 (hc_uB tgt r).1 (hc_uB tgt r).2.1).2 (hc_uB tgt r).2.2 → hx_W a (hc_el ls (hc_uB tgt r).2.2 ls.length 0 (hc_uB tgt r).1 (hc_uB tgt r).2.1).1 → post 0 (zfl, zmf, nI (hc_el ls (hc_uB tgt r).2.2 ls.length 0 (hc_uB tgt r).1 (hc_uB tgt r).2.1).1.length, zpo, zfa, zfi, zin, C, nu, ca, upd zse 3 (nI tgt), a, zle, zwo)) : wY_encode_45 post zfl zmf (nI r.1.length) zpo zfa zfi zin zce znu zca zse zwi zle zwo := by
  have ec : zca 3 = nI r.2.2 := hb.2.1
  have hcap : r.2.2 ≤ 128 := hb.2.2.2.1
  have hlen := hc_wiL 32 5 tgt
  unfold hc_uB at H
  refine pk_eq tgt r.2.2 (fun c => ?_) (fun c => ?_) e2 ec
  · rw [if_pos c] at H
    exact hy_en70 (w := r.1) (tb := r.2.1) (cap := r.2.2) hm hC hS hls en hlf e2 hw (by omega) hb (fun C nu a T' mk' h1 h2 h3 h4 h5 h6 => H C nu _ a T' mk' h1 h2 h3 (fun j hj => ⟨h4 j hj, rfl⟩) h5 h6)
  · rw [if_neg c] at H
    refine hy_update (T := T) (mk := mk) (w := r.1) (tb := r.2.1) (cap := r.2.2) (v := tgt) hm ht hw (by omega) hb e2 (fun nu ca a h1 h2 h3 => ?_)
    exact hy_en70 (w := r.1 ++ hc_wi 32 5 tgt) (tb := hc_ev r.2.1 0 tgt) (cap := tgt) hm hC hS hls ((h1 1 (by omega)).1.trans en) hlf e2 h3 (by rw [List.length_append]; omega) h2 (fun C nu' a' T' mk' g1 g2 g3 g4 g5 g6 => H C nu' ca a' T' mk' g1 g2 g3 (fun j hj => ⟨(g4 j hj).trans (h1 j hj).1, (h1 j hj).2⟩) g5 g6)
theorem hy_encode {post : Int32 → SY → Prop} {T : Nat → List Nat} {mk : Nat → Nat} {ls : List (hc_Fd × Nat)} {w : List Nat} {tb : List hc_Fd} {cap tgt ltg : Nat} (hm : hy_M zce T mk) (hC : hx_C zwo zle) (hS : hy_S T) (hls : ls.length ≤ 6) (en : znu 1 = nI ls.length) (hlf : ∀ k, k < ls.length → hc_fl T (32 + k) = (ls.getD k (hc_f0, 0)).1 ∧ mk (32 + k) = (ls.getD k (hc_f0, 0)).2 ∧ (ls.getD k (hc_f0, 0)).2 < 3) (ht : tgt ≤ 128) (hlt : ltg ≤ 128) (e2 : zse 2 = nI tgt) (e3 : zse 3 = nI ltg) (hw : hx_W zwi w) (hwl : w.length ≤ 256) (hb : hy_tab T znu zca 3 tb cap)
    (H2 : 0 < w.length → post 2 (zfl, zmf, nI w.length, zpo, zfa, zfi, zin, zce, znu, zca, zse, zwi, zle, zwo))
    (H3 : w = [] → ls.length = 0 → post 3 (zfl, zmf, nI w.length, zpo, zfa, zfi, zin, zce, znu, zca, zse, zwi, zle, zwo))
    (H : w = [] → 0 < ls.length → ∀ C nu ca a T' mk', hy_M C T' mk' → (∀ z, z < 192 ∨ 256 ≤ z → T' z = T z) → (∀ x, x < 96 ∨ 128 ≤ x → mk' x = mk x) → (∀ j, j ≠ 3 → nu j = znu j ∧ ca j = zca j) → hy_tab T' nu ca 3 (hc_el ls (hc_uB tgt (hc_uA [] tb cap ltg)).2.2 ls.length 0 (hc_uB tgt (hc_uA [] tb cap ltg)).1 (hc_uB tgt (hc_uA [] tb cap ltg)).2.1).2 (hc_uB tgt (hc_uA [] tb cap ltg)).2.2 → hx_W a (hc_el ls (hc_uB tgt (hc_uA [] tb cap ltg)).2.2 ls.length 0 (hc_uB tgt (hc_uA [] tb cap ltg)).1 (hc_uB tgt (hc_uA [] tb cap ltg)).2.1).1 → post 0 (zfl, zmf, nI (hc_el ls (hc_uB tgt (hc_uA [] tb cap ltg)).2.2 ls.length 0 (hc_uB tgt (hc_uA [] tb cap ltg)).1 (hc_uB tgt (hc_uA [] tb cap ltg)).2.1).1.length, zpo, zfa, zfi, zin, C, nu, ca, upd zse 3 (nI tgt), a, zle, zwo)) : wpY_encode post (zfl, zmf, nI w.length, zpo, zfa, zfi, zin, zce, znu, zca, zse, zwi, zle, zwo) := by
  have ec : zca 3 = nI cap := hb.2.1
  have hcap : cap ≤ 128 := hb.2.2.2.1
  unfold wpY_encode
  refine pk_le w.length 0 (fun c => ?_) (fun c => H2 c)
  have e : w = [] := List.length_eq_zero_iff.mp (by omega)
  subst e
  refine pk_eq ls.length 0 (fun d => H3 rfl d) (fun d => ?_) en
  have H := H rfl (by omega)
  refine pk_le cap ltg (fun c => ?_) (fun c => ?_) ec e3
  · have e : hc_uA [] tb cap ltg = ([], tb, cap) := if_neg (by omega)
    rw [e] at H
    exact hy_en45 (r := ([], tb, cap)) hm hC hS hls en hlf ht e2 hw (Nat.zero_le 2) hb H
  · have e : hc_uA [] tb cap ltg = ([] ++ hc_wi 32 5 ltg, hc_ev tb 0 ltg, ltg) := if_pos c
    rw [e] at H
    refine hy_update (T := T) (mk := mk) (w := []) (tb := tb) (cap := cap) (v := ltg) hm hlt hw (by decide) hb e3 (fun nu ca a h1 h2 h3 => ?_)
    exact hy_en45 (r := ([] ++ hc_wi 32 5 ltg, hc_ev tb 0 ltg, ltg)) hm hC hS hls ((h1 1 (by omega)).1.trans en) hlf ht e2 h3 (hc_wiL 32 5 ltg) h2 (fun C nu' ca' a' T' mk' g1 g2 g3 g4 g5 g6 => H C nu' ca' a' T' mk' g1 g2 g3 (fun j hj => ⟨(g4 j hj).1.trans (h1 j hj).1, (g4 j hj).2.trans (h1 j hj).2⟩) g5 g6)
end
end
section
theorem hc_utt {T : Nat → List Nat} {t : Nat} {l m : List Nat} : hc_ut (hc_ut T t l) t m = hc_ut T t m := by
  funext x
  unfold hc_ut
  split <;> rfl
theorem hc_rrS (w : Nat → Nat) (p j : Nat) : hc_rr w p (j + 1) = hc_rr w p j ++ [w (p + j)] := by
  unfold hc_rr
  rw [List.range_succ, List.map_append]
  rfl
theorem hc_rrL (w : Nat → Nat) (p j : Nat) : (hc_rr w p j).length = j := by
  unfold hc_rr
  rw [List.length_map, List.length_range]
theorem hc_p7 : ∀ i, i < 3 → 2 ^ (7 * i) = 128 ^ i := by decide +kernel
section
variable {qs1 qs2 qs3 qs4 qs5 qs6 qs7 qs8 qlc qgc qdc qwc qin qfl qmf qli qlo qta qlt qcu qrv qrs : Int32} {qoc qln qcn qhd qsz qcp qcw qcb qsy qk1 qk2 qk3 qk4 qlm qgf qdf qwi : Nat → Int32}
theorem hx_ril {post : Int32 → SX → Prop} {wv : Nat → Nat} {n : Nat} (hn : n ≤ 256) (hw : ∀ i, i < n → qwi i = nI (wv i)) (hb : ∀ i, wv i < 256) : ∀ k p v, k ≤ 3 → p ≤ n → post (nI (hc_rl wv n k p v).1) (qs1, qs2, qs3, qs4, qs5, qs6, qs7, qs8, qlc, qgc, qdc, nI n, qin, qfl, qmf, qli, qlo, qta, qlt, nI (hc_rl wv n k p v).2.2, nI (hc_rl wv n k p v).2.1, qrs, qoc, qln, qcn, qhd, qsz, qcp, qcw, qcb, qsy, qk1, qk2, qk3, qk4, qlm, qgf, qdf, qwi) → ∀ f, k < f → wX_readInteger_26 post qs1 qs2 qs3 qs4 qs5 qs6 qs7 qs8 qlc qgc qdc (nI n) qin qfl qmf qli qlo qta qlt qrs qoc qln qcn qhd qsz qcp qcw qcb qsy qk1 qk2 qk3 qk4 qlm qgf qdf qwi f (nI (3 - k)) (nI p) (nI v) := by
  intro k
  induction k with
  | zero =>
    intro p v hk hp H f hf
    obtain ⟨f, rfl⟩ : ∃ g, f = g + 1 := ⟨f - 1, by omega⟩
    exact pk_le 3 3 (fun _ => H) (fun z => absurd z (by omega))
  | succ k ih =>
    intro p v hk hp H f hf
    obtain ⟨f, rfl⟩ : ∃ g, f = g + 1 := ⟨f - 1, by omega⟩
    unfold hc_rl at H
    have hwp := hb p
    refine pk_le 3 (3 - (k + 1)) (fun z => absurd z (by omega)) (fun _ => ?_)
    refine pk_lt p n (fun c => And.intro (vp_in_nI (by omega) (by decide)) (nm_r (hc_at rfl (by omega) (hw p c)) (nm_r (nI_1 p) ?_))) (fun c => ?_)
    · rw [if_neg (by omega)] at H
      have e1 : nI (wv p) &&& 127 = nI (wv p % 128) := hc_and (b := 7) (by omega) (by decide)
      have e2 : nI v + ((nI (wv p) &&& 127) <<< ((7 * nI (3 - (k + 1))) &&& 31)) = nI (v + wv p % 128 * 128 ^ (2 - k)) := by
        rw [e1, show (7 : Int32) * nI (3 - (k + 1)) = nI (7 * (3 - (k + 1))) from hc_mul rfl rfl]
        have p7 := hc_p7 (3 - (k + 1)) (by omega)
        have l7 : wv p % 128 * 2 ^ (7 * (3 - (k + 1))) < 2 ^ 32 := Nat.lt_of_le_of_lt (Nat.mul_le_mul (show wv p % 128 ≤ 127 by omega) (Nat.pow_le_pow_right (by decide) (show 7 * (3 - (k + 1)) ≤ 14 by omega))) (by decide)
        rw [hc_shl (by omega) l7, p7, show 3 - (k + 1) = 2 - k from by omega]
        exact hc_add rfl rfl
      have g : ¬ (k = 0 ∧ 128 ≤ wv p) → wX_readInteger_84 post (wX_readInteger_26 post qs1 qs2 qs3 qs4 qs5 qs6 qs7 qs8 qlc qgc qdc (nI n) qin qfl qmf qli qlo qta qlt qrs qoc qln qcn qhd qsz qcp qcw qcb qsy qk1 qk2 qk3 qk4 qlm qgf qdf qwi f) (nI (3 - (k + 1))) (nI (wv p)) qs1 qs2 qs3 qs4 qs5 qs6 qs7 qs8 qlc qgc qdc (nI n) qin qfl qmf qli qlo qta qlt (nI (p + 1)) (nI v) qrs qoc qln qcn qhd qsz qcp qcw qcb qsy qk1 qk2 qk3 qk4 qlm qgf qdf qwi := by
        intro d
        rw [if_neg d] at H
        refine nm_r e2 ?_
        refine pk_le 128 (wv p) (fun z => nm_r (e' := nI (3 - k)) (hc_nx (nI_1 _) (by omega)) ?_) (fun z => ?_)
        · rw [if_neg (by omega)] at H
          exact ih (p + 1) _ (by omega) (by omega) H f (by omega)
        · rw [if_pos z] at H
          exact H
      refine pk_eq (3 - (k + 1)) 2 (fun d => ?_) (fun d => g (by omega))
      refine pk_lt (wv p) 128 (fun z => g (by omega)) (fun z => ?_)
      rw [if_pos (by omega)] at H
      exact H
    · rw [if_pos c] at H
      exact H
theorem hx_readInteger {post : Int32 → SX → Prop} {wv : Nat → Nat} {n p o b : Nat} {x y : Int32} (hn : n ≤ 256) (hw : ∀ i, i < n → qwi i = nI (wv i)) (hb : ∀ i, wv i < 256) (hp : p ≤ n) (ho : o < 256) (hb8 : b < 16) (ex : x = nI o) (ey : y = nI b) (H : post (nI (hc_ri wv n p o b).1) (qs1, qs2, qs3, qs4, qs5, qs6, qs7, qs8, qlc, qgc, qdc, nI n, qin, qfl, qmf, qli, qlo, qta, qlt, nI (hc_ri wv n p o b).2.2, nI (hc_ri wv n p o b).2.1, qrs, qoc, qln, qcn, qhd, qsz, qcp, qcw, qcb, qsy, qk1, qk2, qk3, qk4, qlm, qgf, qdf, qwi)) : wpX_readInteger post (qs1, qs2, qs3, qs4, qs5, qs6, qs7, qs8, qlc, qgc, qdc, nI n, qin, qfl, qmf, qli, qlo, qta, qlt, nI p, qrv, qrs, qoc, qln, qcn, qhd, qsz, qcp, qcw, qcb, qsy, qk1, qk2, qk3, qk4, qlm, qgf, qdf, qwi) x y := by
  subst ex ey
  unfold hc_ri at H
  have l1 : o % 2 ^ b ≤ o := Nat.mod_le _ _
  have l2 : 2 ^ b ≤ 2 ^ 15 := Nat.pow_le_pow_right (by decide) (by omega)
  refine nm_r (hc_msk b hb8) (nm_r (hc_and (by omega) hb8) ?_)
  refine pk_le (2 ^ b - 1) (o % 2 ^ b) (fun c => ⟨4, ?_⟩) (fun c => ?_)
  · rw [if_neg (by omega)] at H
    exact hx_ril hn hw hb 3 p (o % 2 ^ b) (by omega) hp H 4 (by omega)
  · rw [if_pos c] at H
    exact H
theorem hx_pbl {post : Int32 → Prop} {wv : Nat → Nat} {n p m : Nat} (hn : n ≤ 256) (hw : ∀ i, i < n → qwi i = nI (wv i)) (hb : ∀ i, wv i < 256) (hm : m ≤ 14) (hp : p + m ≤ 8 * n) (H : post (nI (hc_bv (hc_wb wv) p m))) : ∀ d j, j + d = m → ∀ f, d < f → wX_peekBits_5 post (nI p) (nI m) qs1 qs2 qs3 qs4 qs5 qs6 qs7 qs8 qlc qgc qdc qwc qin qfl qmf qli qlo qta qlt qcu qrv qrs qoc qln qcn qhd qsz qcp qcw qcb qsy qk1 qk2 qk3 qk4 qlm qgf qdf qwi f (nI (hc_bv (hc_wb wv) p j)) (nI j) := by
  intro d
  induction d with
  | zero =>
    intro j hj f hf
    obtain ⟨f, rfl⟩ : ∃ g, f = g + 1 := ⟨f - 1, by omega⟩
    rw [show j = m from by omega]
    exact pk_le m m (fun _ => H) (fun z => absurd z (by omega))
  | succ d ih =>
    intro j hj f hf
    obtain ⟨f, rfl⟩ : ∃ g, f = g + 1 := ⟨f - 1, by omega⟩
    have e6 : nI (p + j) >>> ((3 : Int32) &&& 31) = nI ((p + j) / 8) := hc_shr (k := 3) (by decide) (by omega)
    have e7 : (7 : Int32) - (nI (p + j) &&& 7) = nI (7 - (p + j) % 8) := by
      rw [show nI (p + j) &&& 7 = nI ((p + j) % 8) from hc_and (b := 3) (by omega) (by decide)]
      exact hc_sub (a := 7) rfl rfl (by omega)
    have hwb := hb ((p + j) / 8)
    have e8 : (qwi (nI ((p + j) / 8)).toNatClampNeg >>> (((7 : Int32) - (nI (p + j) &&& 7)) &&& 31)) &&& 1 = nI (hc_wb wv (p + j)) := by
      rw [hc_at rfl (by omega) (hw ((p + j) / 8) (by omega)), e7, hc_shr (by omega) (by omega)]
      have : wv ((p + j) / 8) / 2 ^ (7 - (p + j) % 8) ≤ wv ((p + j) / 8) := Nat.div_le_self _ _
      exact hc_and (b := 1) (by omega) (by decide)
    have lb := hc_bvL (hc_wb2 wv) p j
    have lb2 : 2 ^ j ≤ 2 ^ 13 := Nat.pow_le_pow_right (by decide) (by omega)
    have e9 : (nI (hc_bv (hc_wb wv) p j) <<< ((1 : Int32) &&& 31)) ||| nI (hc_wb wv (p + j)) = nI (hc_bv (hc_wb wv) p (j + 1)) := by
      rw [show (nI (hc_bv (hc_wb wv) p j) <<< ((1 : Int32) &&& 31)) = nI (hc_bv (hc_wb wv) p j * 2 ^ 1) from hc_shl (k := 1) (by decide) (by omega), hc_or, hc_orN (hc_wb2 wv (p + j))]
      congr 1
      show _ = 2 * hc_bv (hc_wb wv) p j + hc_wb wv (p + j)
      omega
    refine pk_le m j (fun z => absurd z (by omega)) (fun _ => nm_r (nI_add p j) (nm_r e6 ?_))
    refine br_f (nI_pos (by omega)) ?_
    refine pk_le 256 ((p + j) / 8) (fun z => absurd z (by omega)) (fun _ => And.intro (vp_in_nI (by omega) (by decide)) (nm_r e8 (nm_r e9 (nm_r (nI_1 j) ?_))))
    exact ih (j + 1) (by omega) f (by omega)
theorem hx_peekBits {post : Int32 → Prop} {wv : Nat → Nat} {n p m : Nat} {x y : Int32} (hn : n ≤ 256) (hw : ∀ i, i < n → qwi i = nI (wv i)) (hb : ∀ i, wv i < 256) (hm : m ≤ 14) (hp : p + m ≤ 8 * n) (ex : x = nI p) (ey : y = nI m) (H : post (nI (hc_bv (hc_wb wv) p m))) : wpX_peekBits post (qs1, qs2, qs3, qs4, qs5, qs6, qs7, qs8, qlc, qgc, qdc, qwc, qin, qfl, qmf, qli, qlo, qta, qlt, qcu, qrv, qrs, qoc, qln, qcn, qhd, qsz, qcp, qcw, qcb, qsy, qk1, qk2, qk3, qk4, qlm, qgf, qdf, qwi) x y := by
  subst ex ey
  exact ⟨m + 1, hx_pbl hn hw hb hm hp H m 0 (by omega) _ (by omega)⟩
theorem hx_allOnes {post : Int32 → Prop} {wv : Nat → Nat} {n p m : Nat} {x y : Int32} (hn : n ≤ 256) (hw : ∀ i, i < n → qwi i = nI (wv i)) (hb : ∀ i, wv i < 256) (hm : m ≤ 14) (hp : p + m ≤ 8 * n) (ex : x = nI p) (ey : y = nI m) (H1 : hc_bv (hc_wb wv) p m = 2 ^ m - 1 → post 1) (H0 : hc_bv (hc_wb wv) p m ≠ 2 ^ m - 1 → post 0) : wpX_allOnes post (qs1, qs2, qs3, qs4, qs5, qs6, qs7, qs8, qlc, qgc, qdc, qwc, qin, qfl, qmf, qli, qlo, qta, qlt, qcu, qrv, qrs, qoc, qln, qcn, qhd, qsz, qcp, qcw, qcb, qsy, qk1, qk2, qk3, qk4, qlm, qgf, qdf, qwi) x y := by
  subst ex ey
  have lb := hc_bvL (hc_wb2 wv) p m
  have lb2 : 2 ^ m ≤ 2 ^ 14 := Nat.pow_le_pow_right (by decide) hm
  unfold wpX_allOnes
  refine hx_peekBits (p := p) (m := m) hn hw hb hm hp rfl rfl ?_
  exact pk_eq (hc_bv (hc_wb wv) p m) (2 ^ m - 1) H1 H0 rfl (hc_msk m (by omega))
/-- the five kinds of words -/
def hx_K (k1 k2 k3 k4 sy : Nat → Int32) : Prop := (∀ k, k < 5 → k1 k = nI (hc_kb k) ∧ k2 k = nI (hc_cf (hc_kb k)) ∧ k3 k = nI (hc_cn (hc_kb k)) ∧ k4 k = nI (hc_cs (hc_kb k))) ∧ ∀ j, j < 128 → sy j = nI (hc_sy j)
theorem hc_kbB {k : Nat} : hc_kb k ≤ 14 := by
  unfold hc_kb
  repeat' split
  all_goals omega
theorem hc_cfB {b : Nat} : hc_cf b ≤ 16256 := by
  unfold hc_cf
  repeat' split
  all_goals omega
theorem hc_cnB {b : Nat} : hc_cn b ≤ 54 := by
  unfold hc_cn
  repeat' split
  all_goals omega
theorem hx_mwl {post : Int32 → Prop} {wv : Nat → Nat} {n p r : Nat} (hn : n ≤ 256) (hw : ∀ i, i < n → qwi i = nI (wv i)) (hb : ∀ i, wv i < 256) (hK : hx_K qk1 qk2 qk3 qk4 qsy) (hp : p + r ≤ 8 * n) (H1 : ∀ c, c < 128 → hc_mw (hc_wb wv) p r = c → post (nI c)) (H0 : hc_mw (hc_wb wv) p r = 128 → post (-1)) : ∀ d k, k + d = 5 → (∀ i, i < k → ¬ (hc_kb i ≤ r ∧ hc_cf (hc_kb i) ≤ hc_bv (hc_wb wv) p (hc_kb i) ∧ hc_bv (hc_wb wv) p (hc_kb i) < hc_cf (hc_kb i) + hc_cn (hc_kb i))) → ∀ f, d < f → wX_matchWord_2 post (nI p) (nI r) qs1 qs2 qs3 qs4 qs5 qs6 qs7 qs8 qlc qgc qdc qwc qin qfl qmf qli qlo qta qlt qcu qrv qrs qoc qln qcn qhd qsz qcp qcw qcb qsy qk1 qk2 qk3 qk4 qlm qgf qdf qwi f (nI k) := by
  intro d
  induction d with
  | zero =>
    intro k hk hz f hf
    obtain ⟨f, rfl⟩ : ∃ g, f = g + 1 := ⟨f - 1, by omega⟩
    refine pk_le 5 k (fun _ => H0 (hc_mwN (fun c hc h1 h2 => ?_))) (fun z => absurd z (by omega))
    obtain ⟨i, hi, e1, e2, e3⟩ := hc_kc hc
    rw [e1] at h1 h2
    rw [← h2] at e2 e3
    exact hz i (by omega) ⟨h1, e2, e3⟩
  | succ d ih =>
    intro k hk hz f hf
    obtain ⟨f, rfl⟩ : ∃ g, f = g + 1 := ⟨f - 1, by omega⟩
    obtain ⟨g1, g2, g3, g4⟩ := hK.1 k (by omega)
    have ik : vp_in (nI k) 5 := vp_in_nI (by omega) (by decide)
    have b1 := hc_kbB (k := k)
    have b2 := hc_cfB (b := hc_kb k)
    have b3 := hc_cnB (b := hc_kb k)
    have lb := hc_bvL (hc_wb2 wv) p (hc_kb k)
    have lb2 : 2 ^ hc_kb k ≤ 2 ^ 14 := Nat.pow_le_pow_right (by decide) b1
    have nx : ¬ (hc_kb k ≤ r ∧ hc_cf (hc_kb k) ≤ hc_bv (hc_wb wv) p (hc_kb k) ∧ hc_bv (hc_wb wv) p (hc_kb k) < hc_cf (hc_kb k) + hc_cn (hc_kb k)) → ∀ y, y = nI k + 1 → wX_matchWord_2 post (nI p) (nI r) qs1 qs2 qs3 qs4 qs5 qs6 qs7 qs8 qlc qgc qdc qwc qin qfl qmf qli qlo qta qlt qcu qrv qrs qoc qln qcn qhd qsz qcp qcw qcb qsy qk1 qk2 qk3 qk4 qlm qgf qdf qwi f y := by
      intro z
      refine nm_r (nI_1 k) (ih (k + 1) (by omega) (fun i hi => ?_) f (by omega))
      by_cases e : i = k
      · subst e
        exact z
      · exact hz i (by omega)
    have a1 := hc_at (a := qk1) (x := nI k) rfl (by omega) g1
    have a2 := hc_at (a := qk2) (x := nI k) rfl (by omega) g2
    have a3 := hc_at (a := qk3) (x := nI k) rfl (by omega) g3
    have a4 := hc_at (a := qk4) (x := nI k) rfl (by omega) g4
    refine pk_le 5 k (fun z => absurd z (by omega)) (fun _ => And.intro ik ?_)
    refine pk_lt r (hc_kb k) (fun z => nx (fun q => by omega)) (fun z => And.intro ik ?_) rfl a1
    refine hx_peekBits (wv := wv) (n := n) (p := p) (m := hc_kb k) hn hw hb b1 (by omega) rfl a1 ?_
    refine And.intro ik (nm_r (congrArg (fun q => nI (hc_bv (hc_wb wv) p (hc_kb k)) - q) a2) ?_)
    by_cases c : hc_cf (hc_kb k) ≤ hc_bv (hc_wb wv) p (hc_kb k)
    · rw [pk_sub c]
      refine br_f (nI_pos (by omega)) (And.intro ik ?_)
      refine pk_le (hc_cn (hc_kb k)) (hc_bv (hc_wb wv) p (hc_kb k) - hc_cf (hc_kb k)) (fun q => nx (by omega)) (fun q => And.intro ik ?_) a3
      obtain ⟨s1, s2, s3, s4⟩ := hc_syk (k := k) (by omega) q
      have e : qk4 (nI k).toNatClampNeg + nI (hc_bv (hc_wb wv) p (hc_kb k) - hc_cf (hc_kb k)) = nI (hc_cs (hc_kb k) + (hc_bv (hc_wb wv) p (hc_kb k) - hc_cf (hc_kb k))) := hc_add a4 rfl
      refine And.intro (hc_i e s1 (by decide)) ?_
      rw [hc_at e (by omega) (hK.2 _ s1)]
      refine H1 _ s2 (hc_mwS (hc_wb2 wv) s2 (by rw [s3]; exact z) ?_)
      rw [s3, s4]
      omega
    · exact br_t (pk_sneg (by omega) (by omega)) (nx (by omega))
theorem hx_matchWord {post : Int32 → Prop} {wv : Nat → Nat} {n p r : Nat} {x y : Int32} (hn : n ≤ 256) (hw : ∀ i, i < n → qwi i = nI (wv i)) (hb : ∀ i, wv i < 256) (hK : hx_K qk1 qk2 qk3 qk4 qsy) (hp : p + r ≤ 8 * n) (ex : x = nI p) (ey : y = nI r) (H1 : ∀ c, c < 128 → hc_mw (hc_wb wv) p r = c → post (nI c)) (H0 : hc_mw (hc_wb wv) p r = 128 → post (-1)) : wpX_matchWord post (qs1, qs2, qs3, qs4, qs5, qs6, qs7, qs8, qlc, qgc, qdc, qwc, qin, qfl, qmf, qli, qlo, qta, qlt, qcu, qrv, qrs, qoc, qln, qcn, qhd, qsz, qcp, qcw, qcb, qsy, qk1, qk2, qk3, qk4, qlm, qgf, qdf, qwi) x y := by
  subst ex ey
  exact ⟨6, hx_mwl hn hw hb hK hp H1 H0 5 0 (by omega) (fun i hi => absurd hi (by omega)) 6 (by omega)⟩
theorem hx_rpl {post : Int32 → SX → Prop} {wv : Nat → Nat} {T : Nat → List Nat} {n q m t : Nat} (hn : n ≤ 256) (hw : ∀ i, i < n → qwi i = nI (wv i)) (hb : ∀ i, wv i < 256) (hC : hx_C qcw qcb) (hK : hx_K qk1 qk2 qk3 qk4 qsy) (ht : t < 164) (hq : q + m ≤ n) : ∀ k p l o ln, k ≤ 17 → p ≤ 8 * (q + m) → hx_M o ln (hc_ut T t l) → ((hc_rp (hc_wb wv) (8 * (q + m)) k p l).1 = 0 → ∀ o ln, hx_M o ln (hc_ut T t (hc_rp (hc_wb wv) (8 * (q + m)) k p l).2) → post 0 (qs1, qs2, qs3, qs4, qs5, qs6, qs7, qs8, qlc, qgc, qdc, qwc, qin, qfl, qmf, qli, qlo, qta, qlt, nI (q + m), qrv, qrs, o, ln, qcn, qhd, qsz, qcp, qcw, qcb, qsy, qk1, qk2, qk3, qk4, qlm, qgf, qdf, qwi)) → ((hc_rp (hc_wb wv) (8 * (q + m)) k p l).1 ≠ 0 → ∀ o ln, hx_M o ln (hc_ut T t (hc_rp (hc_wb wv) (8 * (q + m)) k p l).2) → post (nI (hc_rp (hc_wb wv) (8 * (q + m)) k p l).1) (qs1, qs2, qs3, qs4, qs5, qs6, qs7, qs8, qlc, qgc, qdc, qwc, qin, qfl, qmf, qli, qlo, qta, qlt, nI q, qrv, qrs, o, ln, qcn, qhd, qsz, qcp, qcw, qcb, qsy, qk1, qk2, qk3, qk4, qlm, qgf, qdf, qwi)) → ∀ f, k < f → wX_readPacked_22 post (nI t) (nI m) (nI (8 * (q + m))) f (nI p) (nI (17 - k)) qs1 qs2 qs3 qs4 qs5 qs6 qs7 qs8 qlc qgc qdc qwc qin qfl qmf qli qlo qta qlt (nI q) qrv qrs o ln qcn qhd qsz qcp qcw qcb qsy qk1 qk2 qk3 qk4 qlm qgf qdf qwi := by
  intro k
  induction k with
  | zero =>
    intro p l o ln hk hp hm H0 HF f hf
    obtain ⟨f, rfl⟩ : ∃ g, f = g + 1 := ⟨f - 1, by omega⟩
    exact pk_lt 16 17 (fun _ => HF (Nat.succ_ne_zero _) o ln hm) (fun z => absurd z (by omega))
  | succ k ih =>
    intro p l o ln hk hp hm H0 HF f hf
    obtain ⟨f, rfl⟩ : ∃ g, f = g + 1 := ⟨f - 1, by omega⟩
    unfold hc_rp at H0 HF
    refine pk_lt 16 (17 - (k + 1)) (fun z => absurd z (by omega)) (fun _ => nm_r (e' := nI (8 * (q + m) - p)) (pk_sub hp) ?_)
    have g : ¬ (8 * (q + m) - p ≤ 7 ∧ hc_bv (hc_wb wv) p (8 * (q + m) - p) = 2 ^ (8 * (q + m) - p) - 1) → wX_readPacked_64 post (wX_readPacked_22 post (nI t) (nI m) (nI (8 * (q + m))) f) (nI t) (nI m) (nI p) (nI (8 * (q + m))) (nI (17 - (k + 1))) (nI (8 * (q + m) - p)) qs1 qs2 qs3 qs4 qs5 qs6 qs7 qs8 qlc qgc qdc qwc qin qfl qmf qli qlo qta qlt (nI q) qrv qrs o ln qcn qhd qsz qcp qcw qcb qsy qk1 qk2 qk3 qk4 qlm qgf qdf qwi := by
      intro c
      rw [if_neg c] at H0 HF
      unfold wX_readPacked_64
      refine hx_matchWord (wv := wv) (n := n) (p := p) (r := 8 * (q + m) - p) hn hw hb hK (by omega) rfl rfl (fun d hd ed => ?_) (fun e => ?_)
      · rw [if_neg (by omega)] at H0 HF
        have hlt := (hm t).1
        rw [hc_us] at hlt
        have hl16 := (hm t).2.1
        rw [hc_us] at hl16
        have hmp := hc_mwP (hc_wb wv) p (8 * (q + m) - p)
        rw [ed] at hmp H0 HF
        refine br_t (nI_pos' (by omega)) (And.intro (vp_in_nI ht (by decide)) ?_)
        refine pk_lt l.length 16 (fun z => ?_) (fun z => ?_) (hc_at rfl (by omega) hlt)
        · rw [if_neg (by omega)] at H0 HF
          refine hx_append (T := hc_ut T t l) (t := t) (c := d) hm ht (by rw [hc_us]; exact z) hd rfl rfl (fun o ln hm' => And.intro (vp_in_nI hd (by decide)) ?_)
          rw [hc_utt, hc_us] at hm'
          refine nm_r (e' := nI (p + hc_cb d)) (hc_add rfl (hc_at rfl (by omega) (hC d hd).2)) (nm_r (e' := nI (17 - k)) (hc_nx (nI_1 _) (by omega)) ?_)
          exact ih (p + hc_cb d) (l ++ [d]) o ln (by omega) (by omega) hm' H0 HF f (by omega)
        · rw [if_pos z] at H0 HF
          exact HF (Nat.succ_ne_zero _) o ln hm
      · rw [if_pos e] at H0 HF
        refine br_f (by decide) ?_
        refine pk_lt 7 (8 * (q + m) - p) (fun z => ?_) (fun z => ?_)
        · rw [if_neg (by omega)] at H0 HF
          exact HF (Nat.succ_ne_zero _) o ln hm
        · rw [if_pos z] at H0 HF
          exact HF (Nat.succ_ne_zero _) o ln hm
    refine pk_lt 7 (8 * (q + m) - p) (fun z => g (by omega)) (fun z => ?_)
    refine hx_allOnes (wv := wv) (n := n) (p := p) (m := 8 * (q + m) - p) hn hw hb (by omega) (by omega) rfl rfl (fun c => ?_) (fun c => br_t rfl (g (fun y => c y.2)))
    rw [if_pos ⟨z, c⟩] at H0 HF
    exact br_f (by decide) (nm_r (e' := nI (q + m)) (hc_add rfl rfl) (H0 rfl o ln hm))
theorem hx_readPacked {post : Int32 → SX → Prop} {wv : Nat → Nat} {T : Nat → List Nat} {n q m t : Nat} {x y : Int32} (hn : n ≤ 256) (hw : ∀ i, i < n → qwi i = nI (wv i)) (hb : ∀ i, wv i < 256) (hC : hx_C qcw qcb) (hK : hx_K qk1 qk2 qk3 qk4 qsy) (ht : t < 164) (hq : q + m ≤ n) (hm : hx_M qoc qln (hc_ut T t [])) (ex : x = nI t) (ey : y = nI m) (H0 : (hc_rp (hc_wb wv) (8 * (q + m)) 17 (8 * q) []).1 = 0 → ∀ o ln, hx_M o ln (hc_ut T t (hc_rp (hc_wb wv) (8 * (q + m)) 17 (8 * q) []).2) → post 0 (qs1, qs2, qs3, qs4, qs5, qs6, qs7, qs8, qlc, qgc, qdc, qwc, qin, qfl, qmf, qli, qlo, qta, qlt, nI (q + m), qrv, qrs, o, ln, qcn, qhd, qsz, qcp, qcw, qcb, qsy, qk1, qk2, qk3, qk4, qlm, qgf, qdf, qwi)) (HF : (hc_rp (hc_wb wv) (8 * (q + m)) 17 (8 * q) []).1 ≠ 0 → ∀ o ln, hx_M o ln (hc_ut T t (hc_rp (hc_wb wv) (8 * (q + m)) 17 (8 * q) []).2) → post (nI (hc_rp (hc_wb wv) (8 * (q + m)) 17 (8 * q) []).1) (qs1, qs2, qs3, qs4, qs5, qs6, qs7, qs8, qlc, qgc, qdc, qwc, qin, qfl, qmf, qli, qlo, qta, qlt, nI q, qrv, qrs, o, ln, qcn, qhd, qsz, qcp, qcw, qcb, qsy, qk1, qk2, qk3, qk4, qlm, qgf, qdf, qwi)) : wpX_readPacked post (qs1, qs2, qs3, qs4, qs5, qs6, qs7, qs8, qlc, qgc, qdc, qwc, qin, qfl, qmf, qli, qlo, qta, qlt, nI q, qrv, qrs, qoc, qln, qcn, qhd, qsz, qcp, qcw, qcb, qsy, qk1, qk2, qk3, qk4, qlm, qgf, qdf, qwi) x y := by
  subst ex ey
  refine nm_r (e' := nI (8 * q)) (hc_mul rfl rfl) (nm_r (e' := nI (8 * (q + m))) (hc_mul rfl (hc_add rfl rfl)) ⟨18, ?_⟩)
  exact hx_rpl (T := T) hn hw hb hC hK ht hq 17 (8 * q) [] qoc qln (by omega) (by omega) hm H0 HF 18 (by omega)
theorem hx_rrl {post : Int32 → SX → Prop} {wv : Nat → Nat} {T : Nat → List Nat} {n q m t : Nat} (hn : n ≤ 256) (hw : ∀ i, i < n → qwi i = nI (wv i)) (hb : ∀ i, wv i < 256) (ht : t < 164) (hq : q + m ≤ n) (hm16 : m ≤ 16) (H0 : (∀ j, j < m → wv (q + j) < 128) → ∀ o ln, hx_M o ln (hc_ut T t (hc_rr wv q m)) → post 0 (qs1, qs2, qs3, qs4, qs5, qs6, qs7, qs8, qlc, qgc, qdc, qwc, qin, qfl, qmf, qli, qlo, qta, qlt, nI (q + m), qrv, qrs, o, ln, qcn, qhd, qsz, qcp, qcw, qcb, qsy, qk1, qk2, qk3, qk4, qlm, qgf, qdf, qwi)) (HF : (¬ ∀ j, j < m → wv (q + j) < 128) → ∀ o ln l, hx_M o ln (hc_ut T t l) → post 18 (qs1, qs2, qs3, qs4, qs5, qs6, qs7, qs8, qlc, qgc, qdc, qwc, qin, qfl, qmf, qli, qlo, qta, qlt, nI q, qrv, qrs, o, ln, qcn, qhd, qsz, qcp, qcw, qcb, qsy, qk1, qk2, qk3, qk4, qlm, qgf, qdf, qwi)) : ∀ d j o ln, j + d = m → (∀ i, i < j → wv (q + i) < 128) → hx_M o ln (hc_ut T t (hc_rr wv q j)) → ∀ f, d < f → wX_readRaw_11 post (nI t) (nI m) f (nI j) qs1 qs2 qs3 qs4 qs5 qs6 qs7 qs8 qlc qgc qdc qwc qin qfl qmf qli qlo qta qlt (nI q) qrv qrs o ln qcn qhd qsz qcp qcw qcb qsy qk1 qk2 qk3 qk4 qlm qgf qdf qwi := by
  intro d
  induction d with
  | zero =>
    intro j o ln hj hz hm f hf
    obtain ⟨f, rfl⟩ : ∃ g, f = g + 1 := ⟨f - 1, by omega⟩
    rw [show j = m from by omega] at hz hm ⊢
    exact pk_le m m (fun _ => nm_r (e' := nI (q + m)) (hc_add rfl rfl) (H0 hz o ln hm)) (fun z => absurd z (by omega))
  | succ d ih =>
    intro j o ln hj hz hm f hf
    obtain ⟨f, rfl⟩ : ∃ g, f = g + 1 := ⟨f - 1, by omega⟩
    have e : nI q + nI j = nI (q + j) := hc_add rfl rfl
    have hwb := hb (q + j)
    refine pk_le m j (fun z => absurd z (by omega)) (fun _ => And.intro (hc_i e (by omega) (by decide)) (nm_r (hc_at e (by omega) (hw (q + j) (by omega))) ?_))
    refine pk_lt (wv (q + j)) 128 (fun z => ?_) (fun z => HF (fun y => absurd (y j (by omega)) (by omega)) o ln _ hm)
    refine hx_append (T := hc_ut T t (hc_rr wv q j)) (t := t) (c := wv (q + j)) hm ht (by rw [hc_us, hc_rrL]; omega) z rfl rfl (fun o ln hm' => nm_r (nI_1 j) ?_)
    rw [hc_utt, hc_us, ← hc_rrS] at hm'
    refine ih (j + 1) o ln (by omega) (fun i hi => ?_) hm' f (by omega)
    by_cases c : i = j
    · subst c
      exact z
    · exact hz i (by omega)
theorem hx_readString {post : Int32 → SX → Prop} {wv : Nat → Nat} {T : Nat → List Nat} {n p t : Nat} {x : Int32} (hn : n ≤ 256) (hw : ∀ i, i < n → qwi i = nI (wv i)) (hb : ∀ i, wv i < 256) (hC : hx_C qcw qcb) (hK : hx_K qk1 qk2 qk3 qk4 qsy) (ht : t < 164) (hp : p ≤ n) (hm : hx_M qoc qln T) (ex : x = nI t) (H0 : (hc_rs wv n p).1 = 0 → ∀ o ln rv, hx_M o ln (hc_ut T t (hc_rs wv n p).2.1) → post 0 (qs1, qs2, qs3, qs4, qs5, qs6, qs7, qs8, qlc, qgc, qdc, nI n, qin, qfl, qmf, qli, qlo, qta, qlt, nI (hc_rs wv n p).2.2, rv, qrs, o, ln, qcn, qhd, qsz, qcp, qcw, qcb, qsy, qk1, qk2, qk3, qk4, qlm, qgf, qdf, qwi)) (HF : (hc_rs wv n p).1 ≠ 0 → ∀ o ln cu rv l, hx_M o ln (hc_ut T t l) → post (nI (hc_rs wv n p).1) (qs1, qs2, qs3, qs4, qs5, qs6, qs7, qs8, qlc, qgc, qdc, nI n, qin, qfl, qmf, qli, qlo, qta, qlt, cu, rv, qrs, o, ln, qcn, qhd, qsz, qcp, qcw, qcb, qsy, qk1, qk2, qk3, qk4, qlm, qgf, qdf, qwi)) : wpX_readString post (qs1, qs2, qs3, qs4, qs5, qs6, qs7, qs8, qlc, qgc, qdc, nI n, qin, qfl, qmf, qli, qlo, qta, qlt, nI p, qrv, qrs, qoc, qln, qcn, qhd, qsz, qcp, qcw, qcb, qsy, qk1, qk2, qk3, qk4, qlm, qgf, qdf, qwi) x := by
  subst ex
  have hm0 := hx_m0 (t := t) hm
  unfold hc_rs at H0 HF
  refine And.intro (vp_in_nI ht (by decide)) (nm_r (hc_up (w := 0) rfl (by omega) rfl) ?_)
  refine pk_lt p n (fun c => And.intro (vp_in_nI (by omega) (by decide)) (nm_r (hc_at rfl (by omega) (hw p c)) (nm_r (nI_1 p) ?_))) (fun c => ?_)
  · rw [if_neg (by omega)] at H0 HF
    have hwp := hb p
    obtain ⟨b1, b2, b3, b4⟩ := hc_riB wv n (p + 1) (wv p) 7 (by decide) (by omega)
    refine hx_readInteger (wv := wv) (n := n) (p := p + 1) (o := wv p) (b := 7) hn hw hb (by omega) hwp (by decide) rfl rfl ?_
    generalize hc_ri wv n (p + 1) (wv p) 7 = r at H0 HF b1 b2 b3 b4 ⊢
    unfold hc_r2 at H0 HF
    refine pk_eq r.1 0 (fun d => ?_) (fun d => ?_)
    · rw [if_neg (fun z => z d)] at H0 HF
      refine pk_le r.2.1 (n - r.2.2) (fun e => ?_) (fun e => ?_) rfl (pk_sub b2)
      · rw [if_neg (by omega)] at H0 HF
        refine pk_lt (wv p) 128 (fun g => ?_) (fun g => ?_)
        · rw [if_pos g] at H0 HF
          refine pk_le r.2.1 16 (fun h => ⟨r.2.1 + 1, ?_⟩) (fun h => ?_)
          · rw [if_neg (by omega)] at H0 HF
            refine hx_rrl (T := T) (q := r.2.2) (m := r.2.1) hn hw hb ht (by omega) h (fun z o ln hm' => ?_) (fun z o ln l hm' => ?_) r.2.1 0 qoc _ (by omega) (fun i hi => absurd hi (by omega)) hm0 _ (by omega)
            · rw [if_pos z] at H0
              exact H0 rfl o ln _ hm'
            · rw [if_neg z] at HF
              exact HF (Nat.succ_ne_zero _) o ln _ _ l hm'
          · rw [if_pos h] at HF
            exact HF (Nat.succ_ne_zero _) _ _ _ _ [] hm0
        · rw [if_neg (by omega)] at H0 HF
          refine hx_readPacked (T := T) (q := r.2.2) (m := r.2.1) hn hw hb hC hK ht (by omega) hm0 rfl rfl (fun z o ln hm' => ?_) (fun z o ln hm' => ?_)
          · exact H0 z o ln _ hm'
          · exact HF z o ln _ _ _ hm'
      · rw [if_pos (by omega)] at HF
        exact HF (Nat.succ_ne_zero _) _ _ _ _ [] hm0
    · rw [if_pos d] at HF
      exact HF d _ _ _ _ [] hm0
  · rw [if_pos c] at HF
    exact HF (Nat.succ_ne_zero _) _ _ _ _ [] hm0
end
end
section
theorem hc_utI {T : Nat → List Nat} {t : Nat} : hc_ut T t (T t) = T := by
  funext x
  unfold hc_ut
  by_cases h : x = t
  · rw [if_pos h, h]
  · rw [if_neg h]
section
variable {zfl zmf zwl zpo zfa zfi zin : Int32} {zce znu zca zse zwi zle zwo : Nat → Int32}
theorem hy_ril {post : Int32 → SY → Prop} {wv : Nat → Nat} {n o b : Nat} (hn : n ≤ 256) (hw : ∀ i, i < n → zwi i = nI (wv i)) (hb : ∀ i, wv i < 256) (ho : nI o &&& nI (2 ^ b - 1) = nI (2 ^ b - 1)) : ∀ k p v, 1 ≤ k → k ≤ 3 → p ≤ n → ((hc_rl wv n k p v).1 = 0 → post (nI (hc_rl wv n k p v).2.1) (zfl, zmf, nI n, nI (hc_rl wv n k p v).2.2, zfa, zfi, zin, zce, znu, zca, zse, zwi, zle, zwo)) → ((hc_rl wv n k p v).1 ≠ 0 → post 0 (zfl, zmf, nI n, nI (hc_rl wv n k p v).2.2, nI (hc_rl wv n k p v).1, zfi, zin, zce, znu, zca, zse, zwi, zle, zwo)) → ∀ f, k < f → wY_readInt_17 post (nI o) (nI (2 ^ b - 1)) zfl zmf (nI n) zfa zfi zin zce znu zca zse zwi zle zwo f (nI v) (nI (128 ^ (3 - k))) (nI (3 - k)) (nI p) := by
  intro k
  induction k with
  | zero =>
    intro p v h1
    exact absurd h1 (by omega)
  | succ k ih =>
    intro p v h1 hk hp H0 HF f hf
    obtain ⟨f, rfl⟩ : ∃ g, f = g + 1 := ⟨f - 1, by omega⟩
    unfold hc_rl at H0 HF
    have hwp := hb p
    refine pk_le 3 (3 - (k + 1)) (fun z => absurd z (by omega)) (fun _ => br_t ho ?_)
    refine pk_lt p n (fun c => nm_r (nI_1 p) (And.intro (vp_in_nI (by omega) (by decide)) (nm_r (hc_at rfl (by omega) (hw p c)) ?_))) (fun c => ?_)
    · rw [if_neg (by omega)] at H0 HF
      have e1 : nI (wv p) - nI (wv p) / 128 * 128 = nI (wv p % 128) := pk_rem (d := 128) (by omega) (by decide) (by decide)
      have e2 : nI v + (nI (wv p) - nI (wv p) / 128 * 128) * nI (128 ^ (3 - (k + 1))) = nI (v + wv p % 128 * 128 ^ (2 - k)) := by
        rw [e1, show 3 - (k + 1) = 2 - k from by omega]
        exact hc_add rfl (hc_mul rfl rfl)
      have e3 : nI (128 ^ (3 - (k + 1))) * 128 = nI (128 ^ (3 - k)) := by
        refine (hc_mul (b := 128) rfl rfl).trans ?_
        rw [← Nat.pow_succ, show (3 - (k + 1)).succ = 3 - (k + 1) + 1 from rfl]
        by_cases z : k = 3
        · omega
        · rw [show 3 - (k + 1) + 1 = 3 - k from by omega]
      have g : ¬ (k = 0 ∧ 128 ≤ wv p) → wY_readInt_89 post (wY_readInt_17 post (nI o) (nI (2 ^ b - 1)) zfl zmf (nI n) zfa zfi zin zce znu zca zse zwi zle zwo f) (nI o) (nI (2 ^ b - 1)) (nI v) (nI (128 ^ (3 - (k + 1)))) (nI (3 - (k + 1))) (nI (wv p)) zfl zmf (nI n) (nI (p + 1)) zfa zfi zin zce znu zca zse zwi zle zwo := by
        intro d
        rw [if_neg d] at H0 HF
        refine And.intro (by decide) (nm_r e2 (nm_r e3 ?_))
        refine pk_le 128 (wv p) (fun z => nm_r (e' := nI (3 - k)) (hc_nx (nI_1 _) (by omega)) ?_) (fun z => ?_)
        · rw [if_neg (by omega)] at H0 HF
          exact ih (p + 1) _ (by omega) (by omega) (by omega) H0 HF f (by omega)
        · rw [if_pos z] at H0
          exact H0 rfl
      refine pk_eq (3 - (k + 1)) 2 (fun d => ?_) (fun d => g (by omega))
      refine pk_lt (wv p) 128 (fun z => g (by omega)) (fun z => ?_)
      rw [if_pos (by omega)] at HF
      exact HF (Nat.succ_ne_zero _)
    · rw [if_pos c] at HF
      exact HF (Nat.succ_ne_zero _)
theorem hy_readInt {post : Int32 → SY → Prop} {wv : Nat → Nat} {n p o b : Nat} {x y : Int32} (hn : n ≤ 256) (hw : ∀ i, i < n → zwi i = nI (wv i)) (hb : ∀ i, wv i < 256) (hp : p ≤ n) (ho : o < 256) (hb8 : b < 16) (ex : x = nI o) (ey : y = nI b) (H0 : (hc_ri wv n p o b).1 = 0 → post (nI (hc_ri wv n p o b).2.1) (zfl, zmf, nI n, nI (hc_ri wv n p o b).2.2, zfa, zfi, zin, zce, znu, zca, zse, zwi, zle, zwo)) (HF : (hc_ri wv n p o b).1 ≠ 0 → post 0 (zfl, zmf, nI n, nI (hc_ri wv n p o b).2.2, nI (hc_ri wv n p o b).1, zfi, zin, zce, znu, zca, zse, zwi, zle, zwo)) : wpY_readInt post (zfl, zmf, nI n, nI p, zfa, zfi, zin, zce, znu, zca, zse, zwi, zle, zwo) x y := by
  subst ex ey
  unfold hc_ri at H0 HF
  have l1 : o % 2 ^ b ≤ o := Nat.mod_le _ _
  have l2 : 2 ^ b ≤ 2 ^ 15 := Nat.pow_le_pow_right (by decide) (by omega)
  have l3 : o % 2 ^ b < 2 ^ b := Nat.mod_lt _ (Nat.two_pow_pos b)
  have ea : nI o &&& nI (2 ^ b - 1) = nI (o % 2 ^ b) := hc_and (by omega) hb8
  refine nm_r (hc_msk b hb8) (nm_r ea ⟨4, ?_⟩)
  by_cases c : o % 2 ^ b < 2 ^ b - 1
  · rw [if_pos c] at H0
    refine pk_le 3 0 (fun z => absurd z (by omega)) (fun _ => br_f ?_ (H0 rfl))
    rw [ea, nI_eq (by omega) (by omega)]
    omega
  · rw [if_neg c] at H0 HF
    have e2 : o % 2 ^ b = 2 ^ b - 1 := by omega
    exact hy_ril hn hw hb (by rw [ea, e2]) 3 p (o % 2 ^ b) (by omega) (by omega) hp H0 HF 4 (by omega)
theorem hy_bal {post : Int32 → Prop} {wv : Nat → Nat} {n p m : Nat} (hn : n ≤ 256) (hw : ∀ i, i < n → zwi i = nI (wv i)) (hb : ∀ i, wv i < 256) (hm : m ≤ 14) (hp : p + m ≤ 8 * n) (H : post (nI (hc_bv (hc_wb wv) p m))) : ∀ d j, j + d = m → ∀ f, d < f → wY_bitsAt_5 post (nI p) (nI m) zfl zmf zwl zpo zfa zfi zin zce znu zca zse zwi zle zwo f (nI (hc_bv (hc_wb wv) p j)) (nI (p + j)) := by
  intro d
  induction d with
  | zero =>
    intro j hj f hf
    obtain ⟨f, rfl⟩ : ∃ g, f = g + 1 := ⟨f - 1, by omega⟩
    rw [show j = m from by omega]
    exact pk_le (p + m) (p + m) (fun _ => H) (fun z => absurd z (by omega)) (nI_add p m)
  | succ d ih =>
    intro j hj f hf
    obtain ⟨f, rfl⟩ : ∃ g, f = g + 1 := ⟨f - 1, by omega⟩
    have e6 : nI (p + j) / 8 = nI ((p + j) / 8) := pk_div (d := 8) (by omega) (by decide) (by decide)
    have e7 : (7 : Int32) - (nI (p + j) - nI (p + j) / 8 * 8) = nI (7 - (p + j) % 8) := by
      rw [show nI (p + j) - nI (p + j) / 8 * 8 = nI ((p + j) % 8) from pk_rem (d := 8) (by omega) (by decide) (by decide)]
      exact hc_sub (a := 7) rfl rfl (by omega)
    have hwb := hb ((p + j) / 8)
    have e8 : (zwi (nI (p + j) / 8).toNatClampNeg >>> (((7 : Int32) - (nI (p + j) - nI (p + j) / 8 * 8)) &&& 31)) &&& 1 = nI (hc_wb wv (p + j)) := by
      rw [hc_at e6 (by omega) (hw ((p + j) / 8) (by omega)), e7, hc_shr (by omega) (by omega)]
      have : wv ((p + j) / 8) / 2 ^ (7 - (p + j) % 8) ≤ wv ((p + j) / 8) := Nat.div_le_self _ _
      exact hc_and (b := 1) (by omega) (by decide)
    have e9 : nI (hc_bv (hc_wb wv) p j) * 2 + ((zwi (nI (p + j) / 8).toNatClampNeg >>> (((7 : Int32) - (nI (p + j) - nI (p + j) / 8 * 8)) &&& 31)) &&& 1) = nI (hc_bv (hc_wb wv) p (j + 1)) := by
      rw [e8]
      refine hc_nx (hc_add (hc_mul (b := 2) rfl rfl) rfl) ?_
      show _ = 2 * hc_bv (hc_wb wv) p j + hc_wb wv (p + j)
      omega
    have n8 : ¬ (8 : Int32) = 0 := by decide
    refine pk_le (p + m) (p + j) (fun z => absurd z (by omega)) (fun _ => And.intro n8 (And.intro (hc_i e6 (by omega) (by decide)) (And.intro n8 (nm_r e9 (nm_r (nI_1 (p + j)) ?_))))) (nI_add p m)
    exact ih (j + 1) (by omega) f (by omega)
theorem hy_bitsAt {post : Int32 → Prop} {wv : Nat → Nat} {n p m : Nat} {x y : Int32} (hn : n ≤ 256) (hw : ∀ i, i < n → zwi i = nI (wv i)) (hb : ∀ i, wv i < 256) (hm : m ≤ 14) (hp : p + m ≤ 8 * n) (ex : x = nI p) (ey : y = nI m) (H : post (nI (hc_bv (hc_wb wv) p m))) : wpY_bitsAt post (zfl, zmf, zwl, zpo, zfa, zfi, zin, zce, znu, zca, zse, zwi, zle, zwo) x y := by
  subst ex ey
  exact ⟨m + 1, hy_bal hn hw hb hm hp H m 0 (by omega) _ (by omega)⟩
theorem hy_wal {post : Int32 → Prop} {wv : Nat → Nat} {n p r : Nat} (hn : n ≤ 256) (hw : ∀ i, i < n → zwi i = nI (wv i)) (hb : ∀ i, wv i < 256) (hC : hx_C zwo zle) (hp : p + r ≤ 8 * n) : ∀ k c, c + k = 128 → (∀ d, d < 128 → hc_ms (hc_wb wv) p r k c = d → post (nI d)) → (hc_ms (hc_wb wv) p r k c = 128 → post (-1)) → ∀ f, k < f → wY_wordAt_2 post (nI p) (nI r) zfl zmf zwl zpo zfa zfi zin zce znu zca zse zwi zle zwo f (nI c) := by
  intro k
  induction k with
  | zero =>
    intro c hc H1 H0 f hf
    obtain ⟨f, rfl⟩ : ∃ g, f = g + 1 := ⟨f - 1, by omega⟩
    exact pk_le 128 c (fun _ => H0 rfl) (fun z => absurd z (by omega))
  | succ k ih =>
    intro c hc H1 H0 f hf
    obtain ⟨f, rfl⟩ : ∃ g, f = g + 1 := ⟨f - 1, by omega⟩
    have ic : vp_in (nI c) 128 := vp_in_nI (by omega) (by decide)
    have b14 := hc_cb14 (c := c) (by omega)
    have al := hc_at (a := zle) (x := nI c) rfl (by omega) (hC c (by omega)).2
    have aw := hc_at (a := zwo) (x := nI c) rfl (by omega) (hC c (by omega)).1
    have lw := hc_cw14 (c := c) (by omega)
    have lb := hc_bvL (hc_wb2 wv) p (hc_cb c)
    have lb2 : 2 ^ hc_cb c ≤ 2 ^ 14 := Nat.pow_le_pow_right (by decide) b14.2
    unfold hc_ms at H1 H0
    refine pk_le 128 c (fun z => absurd z (by omega)) (fun _ => And.intro ic ?_)
    refine pk_lt r (hc_cb c) (fun z => ?_) (fun z => And.intro ic ?_) rfl al
    · rw [if_neg (by omega)] at H1 H0
      exact nm_r (nI_1 c) (ih (c + 1) (by omega) H1 H0 f (by omega))
    · refine hy_bitsAt (wv := wv) (n := n) (p := p) (m := hc_cb c) hn hw hb b14.2 (by omega) rfl al (And.intro ic ?_)
      refine pk_eq (hc_bv (hc_wb wv) p (hc_cb c)) (hc_cw c) (fun e => ?_) (fun e => ?_) rfl aw
      · rw [if_pos ⟨z, e⟩] at H1
        exact H1 c (by omega) rfl
      · rw [if_neg (fun y => e y.2)] at H1 H0
        exact nm_r (nI_1 c) (ih (c + 1) (by omega) H1 H0 f (by omega))
theorem hy_wordAt {post : Int32 → Prop} {wv : Nat → Nat} {n p r : Nat} {x y : Int32} (hn : n ≤ 256) (hw : ∀ i, i < n → zwi i = nI (wv i)) (hb : ∀ i, wv i < 256) (hC : hx_C zwo zle) (hp : p + r ≤ 8 * n) (ex : x = nI p) (ey : y = nI r) (H1 : ∀ c, c < 128 → hc_mw (hc_wb wv) p r = c → post (nI c)) (H0 : hc_mw (hc_wb wv) p r = 128 → post (-1)) : wpY_wordAt post (zfl, zmf, zwl, zpo, zfa, zfi, zin, zce, znu, zca, zse, zwi, zle, zwo) x y := by
  subst ex ey
  exact ⟨129, hy_wal hn hw hb hC hp 128 0 (by omega) H1 H0 129 (by omega)⟩
theorem hc_m1ne {c : Nat} (h : c < 2 ^ 31) : ¬ nI c = -1 := by
  intro e
  have := nI_toInt h
  rw [e] at this
  have z : (-1 : Int32).toInt = -1 := by decide
  rw [z] at this
  omega
theorem hy_rpl {post : SY → Prop} {wv : Nat → Nat} {T : Nat → List Nat} {mk : Nat → Nat} {n e r p o : Nat} (hn : n ≤ 256) (hw : ∀ i, i < n → zwi i = nI (wv i)) (hb : ∀ i, wv i < 256) (hC : hx_C zwo zle) (hr : r < 256) (hp2 : p < 2) (he : e ≤ n) (ho : 128 ≤ o) (ho2 : o < 256) : ∀ k q l C, k ≤ 17 → l.length + k = 17 → q ≤ 8 * e → hy_M C (hc_ut T (2 * r + p) l) mk → ((hc_rp (hc_wb wv) (8 * e) k q l).1 = 0 → ∀ C, hy_M C (hc_ut T (2 * r + p) (hc_rp (hc_wb wv) (8 * e) k q l).2) mk → post (zfl, zmf, zwl, nI e, 0, zfi, zin, C, znu, zca, zse, zwi, zle, zwo)) → ((hc_rp (hc_wb wv) (8 * e) k q l).1 ≠ 0 → ∀ C l', hy_M C (hc_ut T (2 * r + p) l') mk → post (zfl, zmf, zwl, nI e, nI (hc_rp (hc_wb wv) (8 * e) k q l).1, zfi, zin, C, znu, zca, zse, zwi, zle, zwo)) → ∀ f, k + 1 < f → wY_readString_182 post (nI (35 * r + 17 * p)) (nI o) f (nI q) (nI (17 - k)) zfl zmf zwl (nI e) 0 zfi zin C znu zca zse zwi zle zwo := by
  intro k
  induction k with
  | zero =>
    intro q l C hk hl hq hm H0 HF f hf
    have := (hm.1 r p hp2).2.1
    rw [hc_us] at this
    omega
  | succ k ih =>
    intro q l C hk hl hq hm H0 HF f hf
    obtain ⟨f, rfl⟩ : ∃ g, f = g + 1 := ⟨f - 1, by omega⟩
    obtain ⟨f', rfl⟩ : ∃ g, f = g + 1 := ⟨f - 1, by omega⟩
    have hl16 := (hm.1 r p hp2).2.1
    rw [hc_us] at hl16
    unfold hc_rp at H0 HF
    have hfa : ∀ (fa : Nat) (q' : Int32) (x5 : Nat) (C' : Nat → Int32), 0 < fa → fa < 2 ^ 31 → x5 < 2 ^ 31 → post (zfl, zmf, zwl, nI e, nI fa, zfi, zin, C', znu, zca, zse, zwi, zle, zwo) → wY_readString_182 post (nI (35 * r + 17 * p)) (nI o) (f' + 1) q' (nI x5) zfl zmf zwl (nI e) (nI fa) zfi zin C' znu zca zse zwi zle zwo := by
      intro fa q' x5 C' h1 h2 h3 hpo
      refine pk_lt o 128 (fun z => absurd z (by omega)) (fun _ => pk_le 17 x5 (fun _ => hpo) (fun _ => br_f (nI_ne0 h1 h2) hpo))
    refine pk_lt o 128 (fun z => absurd z (by omega)) (fun _ => pk_le 17 (17 - (k + 1)) (fun z => absurd z (by omega)) (fun _ => br_t rfl (nm_r (e' := nI (8 * e - q)) ?_ ?_)))
    · rw [show nI e * 8 = nI (8 * e) from hc_nx (hc_mul (b := 8) rfl rfl) (by omega)]
      exact pk_sub hq
    have g : ¬ (8 * e - q ≤ 7 ∧ hc_bv (hc_wb wv) q (8 * e - q) = 2 ^ (8 * e - q) - 1) → wY_readString_240 post (wY_readString_182 post (nI (35 * r + 17 * p)) (nI o) (f' + 1)) (nI (35 * r + 17 * p)) (nI o) (nI q) (nI (17 - (k + 1))) (nI (8 * e - q)) zfl zmf zwl (nI e) 0 zfi zin C znu zca zse zwi zle zwo := by
      intro c
      rw [if_neg c] at H0 HF
      have e5 : nI (17 - (k + 1)) + 1 = nI (17 - k) := hc_nx (nI_1 _) (by omega)
      unfold wY_readString_240
      refine hy_wordAt (wv := wv) (n := n) (p := q) (r := 8 * e - q) hn hw hb hC (by omega) rfl rfl (fun d hd ed => ?_) (fun ed => ?_)
      · rw [if_neg (by omega)] at H0 HF
        have hmp := hc_mwP (hc_wb wv) q (8 * e - q)
        rw [ed] at hmp H0 HF
        refine br_f (hc_m1ne (by omega)) ?_
        refine hy_append (T := hc_ut T (2 * r + p) l) (mk := mk) (r := r) (p := p) hm hr hp2 rfl (fun z => absurd rfl (z d hd)) (fun c' hc' ec' z => ?_) (fun c' hc' ec' z C' hm' => ?_)
        · rw [hc_us] at z
          rw [if_pos z] at HF
          refine br_t rfl (nm_r e5 (hfa 17 _ _ C (by decide) (by decide) (by omega) (HF (Nat.succ_ne_zero _) C l hm)))
        · rw [hc_us] at z
          rw [if_neg (by omega)] at H0 HF
          rw [nI_eq (by omega) (by omega)] at ec'
          subst ec'
          rw [hc_utt, hc_us] at hm'
          refine br_f (by decide) (And.intro (vp_in_nI hd (by decide)) (nm_r (e' := nI (q + hc_cb d)) (hc_add rfl (hc_at rfl (by omega) (hC d hd).2)) (nm_r e5 ?_)))
          exact ih (q + hc_cb d) (l ++ [d]) C' (by omega) (by rw [List.length_append]; show l.length + 1 + k = 17; omega) (by omega) hm' H0 HF (f' + 1) (by omega)
      · rw [if_pos ed] at H0 HF
        refine br_t rfl ?_
        refine pk_lt 7 (8 * e - q) (fun z => nm_r e5 ?_) (fun z => nm_r e5 ?_)
        · rw [if_neg (by omega)] at HF
          exact hfa 19 _ _ C (by decide) (by decide) (by omega) (HF (Nat.succ_ne_zero _) C l hm)
        · rw [if_pos z] at HF
          exact hfa 20 _ _ C (by decide) (by decide) (by omega) (HF (Nat.succ_ne_zero _) C l hm)
    refine pk_lt 7 (8 * e - q) (fun z => g (by omega)) (fun z => ?_)
    have lb := hc_bvL (hc_wb2 wv) q (8 * e - q)
    have lb2 : 2 ^ (8 * e - q) ≤ 2 ^ 7 := Nat.pow_le_pow_right (by decide) z
    refine hy_bitsAt (wv := wv) (n := n) (p := q) (m := 8 * e - q) hn hw hb (by omega) (by omega) rfl rfl ?_
    refine pk_eq (hc_bv (hc_wb wv) q (8 * e - q)) (2 ^ (8 * e - q) - 1) (fun c => ?_) (fun c => g (fun y => c y.2)) rfl (hc_msk _ (by omega))
    rw [if_pos ⟨z, c⟩] at H0
    exact H0 rfl C hm
theorem hy_rrb {post : SY → Prop} {wv : Nat → Nat} {T : Nat → List Nat} {mk : Nat → Nat} {n q m r p o : Nat} {pos : Int32} (hn : n ≤ 256) (hw : ∀ i, i < n → zwi i = nI (wv i)) (hr : r < 256) (hp2 : p < 2) (hq : q + m ≤ n) (ho : o < 128) (H : ∀ C l, hy_M C (hc_ut T (2 * r + p) l) mk → post (zfl, zmf, zwl, pos, 18, zfi, zin, C, znu, zca, zse, zwi, zle, zwo)) : ∀ d j l C, j + d = m → hy_M C (hc_ut T (2 * r + p) l) mk → ∀ f, d < f → wY_readString_132 post (nI (35 * r + 17 * p)) (nI o) (nI m) (nI (8 * q)) f (nI j) zfl zmf zwl pos 18 zfi zin C znu zca zse zwi zle zwo := by
  intro d
  induction d with
  | zero =>
    intro j l C hj hm f hf
    obtain ⟨f, rfl⟩ : ∃ g, f = g + 1 := ⟨f - 1, by omega⟩
    refine pk_le 128 o (fun z => absurd z (by omega)) (fun _ => pk_le m j (fun _ => ⟨1, ?_⟩) (fun z => absurd z (by omega)))
    exact pk_lt o 128 (fun _ => H C l hm) (fun z => absurd z (by omega))
  | succ d ih =>
    intro j l C hj hm f hf
    obtain ⟨f, rfl⟩ : ∃ g, f = g + 1 := ⟨f - 1, by omega⟩
    have e8 : nI (8 * q) / 8 = nI q := (pk_div (d := 8) (by omega) (by decide) (by decide)).trans (congrArg nI (by omega))
    have e : nI (8 * q) / 8 + nI j = nI (q + j) := hc_add e8 rfl
    refine pk_le 128 o (fun z => absurd z (by omega)) (fun _ => pk_le m j (fun z => absurd z (by omega)) (fun _ => And.intro (by decide) (And.intro (hc_i e (by omega) (by decide)) ?_)))
    refine hy_append (T := hc_ut T (2 * r + p) l) (mk := mk) (r := r) (p := p) hm hr hp2 rfl (fun z => br_t rfl (nm_r (nI_1 j) (ih (j + 1) l C (by omega) hm f (by omega)))) (fun c hc ec z => br_f (by decide) (nm_r (nI_1 j) (ih (j + 1) l C (by omega) hm f (by omega)))) (fun c hc ec z C' hm' => br_f (by decide) (nm_r (nI_1 j) ?_))
    rw [hc_utt] at hm'
    exact ih (j + 1) _ C' (by omega) hm' f (by omega)
theorem hy_rrl {post : SY → Prop} {wv : Nat → Nat} {T : Nat → List Nat} {mk : Nat → Nat} {n q m r p o : Nat} {pos : Int32} (hn : n ≤ 256) (hw : ∀ i, i < n → zwi i = nI (wv i)) (hb : ∀ i, wv i < 256) (hr : r < 256) (hp2 : p < 2) (hq : q + m ≤ n) (hm16 : m ≤ 16) (ho : o < 128) (H0 : (∀ j, j < m → wv (q + j) < 128) → ∀ C, hy_M C (hc_ut T (2 * r + p) (hc_rr wv q m)) mk → post (zfl, zmf, zwl, pos, 0, zfi, zin, C, znu, zca, zse, zwi, zle, zwo)) (HF : (¬ ∀ j, j < m → wv (q + j) < 128) → ∀ C l, hy_M C (hc_ut T (2 * r + p) l) mk → post (zfl, zmf, zwl, pos, 18, zfi, zin, C, znu, zca, zse, zwi, zle, zwo)) : ∀ d j C, j + d = m → (∀ i, i < j → wv (q + i) < 128) → hy_M C (hc_ut T (2 * r + p) (hc_rr wv q j)) mk → ∀ f, d < f → wY_readString_132 post (nI (35 * r + 17 * p)) (nI o) (nI m) (nI (8 * q)) f (nI j) zfl zmf zwl pos 0 zfi zin C znu zca zse zwi zle zwo := by
  intro d
  induction d with
  | zero =>
    intro j C hj hz hm f hf
    obtain ⟨f, rfl⟩ : ∃ g, f = g + 1 := ⟨f - 1, by omega⟩
    rw [show j = m from by omega] at hz hm ⊢
    refine pk_le 128 o (fun z => absurd z (by omega)) (fun _ => pk_le m m (fun _ => ⟨1, ?_⟩) (fun z => absurd z (by omega)))
    exact pk_lt o 128 (fun _ => H0 hz C hm) (fun z => absurd z (by omega))
  | succ d ih =>
    intro j C hj hz hm f hf
    obtain ⟨f, rfl⟩ : ∃ g, f = g + 1 := ⟨f - 1, by omega⟩
    have e8 : nI (8 * q) / 8 = nI q := (pk_div (d := 8) (by omega) (by decide) (by decide)).trans (congrArg nI (by omega))
    have e : nI (8 * q) / 8 + nI j = nI (q + j) := hc_add e8 rfl
    have hwb := hb (q + j)
    have ev := hc_at e (by omega) (hw (q + j) (by omega))
    refine pk_le 128 o (fun z => absurd z (by omega)) (fun _ => pk_le m j (fun z => absurd z (by omega)) (fun _ => And.intro (by decide) (And.intro (hc_i e (by omega) (by decide)) ?_)))
    refine hy_append (T := hc_ut T (2 * r + p) (hc_rr wv q j)) (mk := mk) (r := r) (p := p) hm hr hp2 rfl (fun z => ?_) (fun c hc ec z => ?_) (fun c hc ec z C' hm' => ?_)
    · have hbad : 128 ≤ wv (q + j) := by
        by_cases y : wv (q + j) < 128
        · exact absurd ev (z _ y)
        · omega
      refine br_t rfl (nm_r (nI_1 j) ?_)
      exact hy_rrb hn hw hr hp2 hq ho (HF (fun y => absurd (y j (by omega)) (by omega))) d (j + 1) _ C (by omega) hm f (by omega)
    · rw [hc_us, hc_rrL] at z
      omega
    · rw [ev, nI_eq (by omega) (by omega)] at ec
      subst ec
      rw [hc_utt, hc_us, ← hc_rrS] at hm'
      refine br_f (by decide) (nm_r (nI_1 j) (ih (j + 1) C' (by omega) (fun i hi => ?_) hm' f (by omega)))
      by_cases c : i = j
      · subst c
        exact hc
      · exact hz i (by omega)
theorem hy_rs95 {post : SY → Prop} {x1 x2 x3 : Int32} {fa : Nat} (h1 : 0 < fa) (h2 : fa < 2 ^ 31) (H : post (zfl, zmf, zwl, zpo, nI fa, zfi, zin, zce, znu, zca, zse, zwi, zle, zwo)) : wY_readString_95 post x1 x2 x3 zfl zmf zwl zpo (nI fa) zfi zin zce znu zca zse zwi zle zwo := br_f (nI_ne0 h1 h2) H
theorem hy_readString {post : SY → Prop} {wv : Nat → Nat} {T : Nat → List Nat} {mk : Nat → Nat} {n q r p : Nat} {x : Int32} (hn : n ≤ 256) (hw : ∀ i, i < n → zwi i = nI (wv i)) (hb : ∀ i, wv i < 256) (hC : hx_C zwo zle) (hr : r < 256) (hp2 : p < 2) (hq : q ≤ n) (hm : hy_M zce T mk) (ex : x = nI (35 * r + 17 * p)) (H0 : (hc_rs wv n q).1 = 0 → ∀ C, hy_M C (hc_ut T (2 * r + p) (hc_rs wv n q).2.1) mk → post (zfl, zmf, nI n, nI (hc_rs wv n q).2.2, 0, zfi, zin, C, znu, zca, zse, zwi, zle, zwo)) (HF : (hc_rs wv n q).1 ≠ 0 → ∀ C po l, hy_M C (hc_ut T (2 * r + p) l) mk → post (zfl, zmf, nI n, po, nI (hc_rs wv n q).1, zfi, zin, C, znu, zca, zse, zwi, zle, zwo)) : wpY_readString post (zfl, zmf, nI n, nI q, 0, zfi, zin, zce, znu, zca, zse, zwi, zle, zwo) x := by
  subst ex
  have hmI : hy_M zce (hc_ut T (2 * r + p) (T (2 * r + p))) mk := by rw [hc_utI]; exact hm
  have hm0 := hy_m0 (r := r) (p := p) hm hp2
  unfold hc_rs at H0 HF
  refine pk_lt q n (fun c => nm_r (nI_1 q) (And.intro (vp_in_nI (by omega) (by decide)) (nm_r (hc_at rfl (by omega) (hw q c)) ?_))) (fun c => ?_)
  · rw [if_neg (by omega)] at H0 HF
    have hwp := hb q
    obtain ⟨b1, b2, b3, b4⟩ := hc_riB wv n (q + 1) (wv q) 7 (by decide) (by omega)
    refine hy_readInt (wv := wv) (n := n) (p := q + 1) (o := wv q) (b := 7) hn hw hb (by omega) hwp (by decide) rfl rfl (fun d => ?_) (fun d => ?_)
    · generalize hc_ri wv n (q + 1) (wv q) 7 = s at H0 HF b1 b2 b3 b4 d ⊢
      unfold hc_r2 at H0 HF
      rw [if_neg (fun z => z d)] at H0 HF
      refine br_t rfl ?_
      refine pk_le s.2.1 (n - s.2.2) (fun e => ?_) (fun e => ?_) rfl (pk_sub b2)
      · rw [if_neg (by omega)] at H0 HF
        have g : (wv q < 128 → s.2.1 ≤ 16) → wY_readString_95 post (nI (35 * r + 17 * p)) (nI (wv q)) (nI s.2.1) zfl zmf (nI n) (nI s.2.2) 0 zfi zin zce znu zca zse zwi zle zwo := by
          intro h16
          have e4 : nI s.2.2 * 8 = nI (8 * s.2.2) := hc_nx (hc_mul (b := 8) rfl rfl) (by omega)
          refine br_t rfl (nm_r e4 (nm_r (e' := nI (s.2.2 + s.2.1)) (hc_add rfl rfl) (And.intro (vp_in_nI (by omega) (by decide)) (nm_r (hc_up (w := 0) rfl (by omega) rfl) ?_))))
          by_cases g : wv q < 128
          · rw [if_pos g] at H0 HF
            rw [if_neg (by have := h16 g; omega)] at H0 HF
            refine ⟨s.2.1 + 1, ?_⟩
            refine hy_rrl (T := T) (mk := mk) (q := s.2.2) (m := s.2.1) hn hw hb hr hp2 (by omega) (h16 g) g (fun z C hm' => ?_) (fun z C l hm' => ?_) s.2.1 0 _ (by omega) (fun i hi => absurd hi (by omega)) hm0 _ (by omega)
            · rw [if_pos z] at H0
              exact H0 rfl C hm'
            · rw [if_neg z] at HF
              exact HF (Nat.succ_ne_zero _) C _ l hm'
          · rw [if_neg g] at H0 HF
            refine ⟨1, pk_le 128 (wv q) (fun _ => ⟨19, ?_⟩) (fun z => absurd z (by omega))⟩
            refine hy_rpl (T := T) (mk := mk) (e := s.2.2 + s.2.1) hn hw hb hC hr hp2 (by omega) (by omega) hwp 17 (8 * s.2.2) [] _ (by omega) rfl (by omega) hm0 (fun z C hm' => ?_) (fun z C l hm' => ?_) 19 (by omega)
            · exact H0 z C hm'
            · exact HF z C _ l hm'
        refine br_t rfl ?_
        refine pk_le 128 (wv q) (fun z => g (fun y => absurd y (by omega))) (fun z => ?_)
        refine pk_le s.2.1 16 (fun y => g (fun _ => y)) (fun y => ?_)
        rw [if_pos z, if_pos y] at HF
        exact hy_rs95 (fa := 17) (by decide) (by decide) (HF (Nat.succ_ne_zero _) _ _ _ hmI)
      · rw [if_pos (by omega)] at HF
        exact br_f (by decide) (hy_rs95 (fa := 10) (by decide) (by decide) (HF (Nat.succ_ne_zero _) _ _ _ hmI))
    · generalize hc_ri wv n (q + 1) (wv q) 7 = s at H0 HF b1 b2 b3 b4 d ⊢
      unfold hc_r2 at H0 HF
      rw [if_pos d] at HF
      have nz : ¬ nI s.1 = 0 := nI_ne0 (by omega) (by omega)
      refine br_f nz (br_f nz (hy_rs95 (fa := s.1) (by omega) (by omega) (HF d _ _ _ hmI)))
  · rw [if_pos c] at HF
    exact HF (Nat.succ_ne_zero _) _ _ _ hmI
end
end
section
section
variable {qs1 qs2 qs3 qs4 qs5 qs6 qs7 qs8 qlc qgc qdc qwc qin qfl qmf qli qlo qta qlt qcu qrv qrs : Int32} {qoc qln qcn qhd qsz qcp qcw qcb qsy qk1 qk2 qk3 qk4 qlm qgf qdf qwi : Nat → Int32}
theorem hx_redm {post : Int32 → Prop} {low rcap r : Nat} (hl : low < 2 ^ 31) (hc : rcap < 2 ^ 31) (hr : r < 2 ^ 31) (ec : qcp 1 = nI rcap) (H1 : low < rcap ∧ r = 0 → post 1) (H0 : ¬ (low < rcap ∧ r = 0) → post 0) : wpX_reductionMissing post (qs1, qs2, qs3, qs4, qs5, qs6, qs7, qs8, qlc, qgc, qdc, qwc, qin, qfl, qmf, qli, nI low, qta, qlt, qcu, qrv, nI r, qoc, qln, qcn, qhd, qsz, qcp, qcw, qcb, qsy, qk1, qk2, qk3, qk4, qlm, qgf, qdf, qwi) := by
  refine pk_le rcap low (fun z => H0 (by omega)) (fun z => ?_) ec
  exact pk_eq r 0 (fun y => H1 ⟨z, y⟩) (fun y => H0 (by omega))
theorem hx_l31 {post : Int32 → SX → Prop} {wv : Nat → Nat} {T : Nat → List Nat} {n q s : Nat} {x : Int32} (hn : n ≤ 256) (hw : ∀ i, i < n → qwi i = nI (wv i)) (hb : ∀ i, wv i < 256) (hC : hx_C qcw qcb) (hK : hx_K qk1 qk2 qk3 qk4 qsy) (hs : s < 82) (hq : q ≤ n) (hm : hx_M qoc qln T) (ex : x = nI s) (H0 : (hc_rs wv n q).1 = 0 → ∀ o ln rv T', hx_M o ln T' → (∀ z, z ≠ 2 * s → z ≠ 2 * s + 1 → T' z = T z) → hc_fl T' s = (T (2 * s), (hc_rs wv n q).2.1) → post 0 (qs1, qs2, qs3, qs4, qs5, qs6, qs7, qs8, qlc, qgc, qdc, nI n, qin, qfl, qmf, qli, qlo, qta, qlt, nI (hc_rs wv n q).2.2, rv, qrs, o, ln, qcn, qhd, qsz, qcp, qcw, qcb, qsy, qk1, qk2, qk3, qk4, qlm, qgf, qdf, qwi)) (HF : (hc_rs wv n q).1 ≠ 0 → ∀ o ln cu rv T', hx_M o ln T' → (∀ z, z ≠ 2 * s → z ≠ 2 * s + 1 → T' z = T z) → post (nI (hc_rs wv n q).1) (qs1, qs2, qs3, qs4, qs5, qs6, qs7, qs8, qlc, qgc, qdc, nI n, qin, qfl, qmf, qli, qlo, qta, qlt, cu, rv, qrs, o, ln, qcn, qhd, qsz, qcp, qcw, qcb, qsy, qk1, qk2, qk3, qk4, qlm, qgf, qdf, qwi)) : wX_readLiteral_31 post x qs1 qs2 qs3 qs4 qs5 qs6 qs7 qs8 qlc qgc qdc (nI n) qin qfl qmf qli qlo qta qlt (nI q) qrv qrs qoc qln qcn qhd qsz qcp qcw qcb qsy qk1 qk2 qk3 qk4 qlm qgf qdf qwi := by
  subst ex
  have e3 : (2 : Int32) * nI s + 1 = nI (2 * s + 1) := hc_add (hc_mul rfl rfl) rfl
  unfold wX_readLiteral_31
  refine hx_readString (T := T) (t := 2 * s + 1) hn hw hb hC hK (by omega) hq hm e3 (fun z o ln rv hm' => ?_) (fun z o ln cu rv l hm' => ?_)
  · refine H0 z o ln rv _ hm' (fun y _ h2 => hc_un h2) ?_
    unfold hc_fl
    rw [hc_us, hc_un (by omega)]
  · exact HF z o ln cu rv _ hm' (fun y _ h2 => hc_un h2)
/-- a literal: the name out of the entry at slot c, or read -/
theorem hx_litE {post : Int32 → SX → Prop} {wv : Nat → Nat} {T : Nat → List Nat} {n q s c : Nat} {x y : Int32} (hn : n ≤ 256) (hw : ∀ i, i < n → qwi i = nI (wv i)) (hb : ∀ i, wv i < 256) (hC : hx_C qcw qcb) (hK : hx_K qk1 qk2 qk3 qk4 qsy) (hs : s < 82) (hc : c < 82) (hq : q ≤ n) (hm : hx_M qoc qln T) (ex : x = nI c) (ey : y = nI s) (H0 : (hc_d3 (hc_fl T c).1 (hc_rs wv n q)).1 = 0 → ∀ o ln rv T', hx_M o ln T' → (∀ z, z ≠ 2 * s → z ≠ 2 * s + 1 → T' z = T z) → hc_fl T' s = (hc_d3 (hc_fl T c).1 (hc_rs wv n q)).2.1 → post 0 (qs1, qs2, qs3, qs4, qs5, qs6, qs7, qs8, qlc, qgc, qdc, nI n, qin, qfl, qmf, qli, qlo, qta, qlt, nI (hc_d3 (hc_fl T c).1 (hc_rs wv n q)).2.2, rv, qrs, o, ln, qcn, qhd, qsz, qcp, qcw, qcb, qsy, qk1, qk2, qk3, qk4, qlm, qgf, qdf, qwi)) (HF : (hc_d3 (hc_fl T c).1 (hc_rs wv n q)).1 ≠ 0 → ∀ o ln cu rv T', hx_M o ln T' → (∀ z, z ≠ 2 * s → z ≠ 2 * s + 1 → T' z = T z) → post (nI (hc_d3 (hc_fl T c).1 (hc_rs wv n q)).1) (qs1, qs2, qs3, qs4, qs5, qs6, qs7, qs8, qlc, qgc, qdc, nI n, qin, qfl, qmf, qli, qlo, qta, qlt, cu, rv, qrs, o, ln, qcn, qhd, qsz, qcp, qcw, qcb, qsy, qk1, qk2, qk3, qk4, qlm, qgf, qdf, qwi)) : wpX_readLiteral post (qs1, qs2, qs3, qs4, qs5, qs6, qs7, qs8, qlc, qgc, qdc, nI n, qin, qfl, qmf, qli, qlo, qta, qlt, nI q, qrv, qrs, qoc, qln, qcn, qhd, qsz, qcp, qcw, qcb, qsy, qk1, qk2, qk3, qk4, qlm, qgf, qdf, qwi) x y := by
  subst ex ey
  refine br_f (nI_pos (by omega)) ?_
  refine hx_copyText (T := T) (a := 2 * c) (b := 2 * s) hm (by omega) (by omega) (hc_mul rfl rfl) (hc_mul rfl rfl) (fun o ln hm' => ?_)
  refine hx_l31 (T := hc_ut T (2 * s) (T (2 * c))) hn hw hb hC hK hs hq hm' rfl (fun z o ln rv T' g1 g2 g3 => ?_) (fun z o ln cu rv T' g1 g2 => ?_)
  · rw [hc_us] at g3
    exact H0 z o ln rv T' g1 (fun y h1 h2 => (g2 y h1 h2).trans (hc_un h1)) g3
  · exact HF z o ln cu rv T' g1 (fun y h1 h2 => (g2 y h1 h2).trans (hc_un h1))
theorem hx_litR {post : Int32 → SX → Prop} {wv : Nat → Nat} {T : Nat → List Nat} {n q s : Nat} {y : Int32} (hn : n ≤ 256) (hw : ∀ i, i < n → qwi i = nI (wv i)) (hb : ∀ i, wv i < 256) (hC : hx_C qcw qcb) (hK : hx_K qk1 qk2 qk3 qk4 qsy) (hs : s < 82) (hq : q ≤ n) (hq2 : (hc_rs wv n q).1 = 0 → (hc_rs wv n q).2.2 ≤ n) (hm : hx_M qoc qln T) (hf : (hc_rs wv n q).1 < 2 ^ 31) (ey : y = nI s) (H0 : (hc_d4 wv n (hc_rs wv n q)).1 = 0 → ∀ o ln rv T', hx_M o ln T' → (∀ z, z ≠ 2 * s → z ≠ 2 * s + 1 → T' z = T z) → hc_fl T' s = (hc_d4 wv n (hc_rs wv n q)).2.1 → post 0 (qs1, qs2, qs3, qs4, qs5, qs6, qs7, qs8, qlc, qgc, qdc, nI n, qin, qfl, qmf, qli, qlo, qta, qlt, nI (hc_d4 wv n (hc_rs wv n q)).2.2, rv, qrs, o, ln, qcn, qhd, qsz, qcp, qcw, qcb, qsy, qk1, qk2, qk3, qk4, qlm, qgf, qdf, qwi)) (HF : (hc_d4 wv n (hc_rs wv n q)).1 ≠ 0 → ∀ o ln cu rv T', hx_M o ln T' → (∀ z, z ≠ 2 * s → z ≠ 2 * s + 1 → T' z = T z) → post (nI (hc_d4 wv n (hc_rs wv n q)).1) (qs1, qs2, qs3, qs4, qs5, qs6, qs7, qs8, qlc, qgc, qdc, nI n, qin, qfl, qmf, qli, qlo, qta, qlt, cu, rv, qrs, o, ln, qcn, qhd, qsz, qcp, qcw, qcb, qsy, qk1, qk2, qk3, qk4, qlm, qgf, qdf, qwi)) : wpX_readLiteral post (qs1, qs2, qs3, qs4, qs5, qs6, qs7, qs8, qlc, qgc, qdc, nI n, qin, qfl, qmf, qli, qlo, qta, qlt, nI q, qrv, qrs, qoc, qln, qcn, qhd, qsz, qcp, qcw, qcb, qsy, qk1, qk2, qk3, qk4, qlm, qgf, qdf, qwi) (-1) y := by
  subst ey
  unfold hc_d4 at H0 HF
  refine br_t (by decide) ?_
  refine hx_readString (T := T) (t := 2 * s) hn hw hb hC hK (by omega) hq hm (hc_mul rfl rfl) (fun z o ln rv hm' => br_t rfl ?_) (fun z o ln cu rv l hm' => br_f (nI_ne0 (by omega) hf) ?_)
  · rw [if_neg (fun y => y z)] at H0 HF
    refine hx_l31 (T := hc_ut T (2 * s) (hc_rs wv n q).2.1) hn hw hb hC hK hs (hq2 z) hm' rfl (fun z o ln rv T' g1 g2 g3 => ?_) (fun z o ln cu rv T' g1 g2 => ?_)
    · rw [hc_us] at g3
      exact H0 z o ln rv T' g1 (fun y h1 h2 => (g2 y h1 h2).trans (hc_un h1)) g3
    · exact HF z o ln cu rv T' g1 (fun y h1 h2 => (g2 y h1 h2).trans (hc_un h1))
  · rw [if_pos z] at HF
    exact HF z o ln cu rv _ hm' (fun y h1 _ => hc_un h1)
theorem hc_rpF (β : Nat → Nat) (e : Nat) : ∀ k p l, (hc_rp β e k p l).1 ≤ 20
  | 0, p, l => by simp [hc_rp]
  | k + 1, p, l => by
    unfold hc_rp
    split
    · exact Nat.zero_le _
    · split
      · show (if e - p ≤ 7 then 20 else 19) ≤ 20
        split <;> omega
      · split
        · show 17 ≤ 20
          omega
        · exact hc_rpF β e k _ _
theorem hc_rsB {w : Nat → Nat} {n p : Nat} (hp : p ≤ n) : (hc_rs w n p).1 ≤ 20 ∧ ((hc_rs w n p).1 = 0 → (hc_rs w n p).2.2 ≤ n) := by
  unfold hc_rs
  split
  · exact ⟨by show 10 ≤ 20; omega, fun z => absurd z (Nat.succ_ne_zero _)⟩
  · obtain ⟨b1, b2, b3, b4⟩ := hc_riB w n (p + 1) (w p) 7 (by decide) (by omega)
    generalize hc_ri w n (p + 1) (w p) 7 = r at b1 b2 b3 b4 ⊢
    unfold hc_r2
    split
    · rename_i z
      exact ⟨by show r.1 ≤ 20; omega, fun y => absurd y z⟩
    · split
      · exact ⟨by show 10 ≤ 20; omega, fun z => absurd z (Nat.succ_ne_zero _)⟩
      · split
        · split
          · exact ⟨by show 17 ≤ 20; omega, fun z => absurd z (Nat.succ_ne_zero _)⟩
          · split
            · exact ⟨by show 0 ≤ 20; omega, fun _ => by show r.2.2 + r.2.1 ≤ n; omega⟩
            · exact ⟨by show 18 ≤ 20; omega, fun z => absurd z (Nat.succ_ne_zero _)⟩
        · exact ⟨hc_rpF _ _ _ _ _, fun _ => by show r.2.2 + r.2.1 ≤ n; omega⟩
theorem hc_d3B {nm : List Nat} {w : Nat → Nat} {n p : Nat} (hp : p ≤ n) : (hc_d3 nm (hc_rs w n p)).1 ≤ 20 ∧ ((hc_d3 nm (hc_rs w n p)).1 = 0 → (hc_d3 nm (hc_rs w n p)).2.2 ≤ n) := hc_rsB hp
theorem hc_d2B {w : Nat → Nat} {n : Nat} {tb : List hc_Fd} {o : Nat} {r : Nat × Nat × Nat} (h1 : r.1 ≤ 11) (h2 : r.2.2 ≤ n) : (hc_d2 w n tb o r).1 ≤ 20 ∧ ((hc_d2 w n tb o r).1 = 0 → (hc_d2 w n tb o r).2.2 ≤ n) := by
  unfold hc_d2
  split
  · rename_i z
    exact ⟨by show r.1 ≤ 20; omega, fun y => absurd y z⟩
  · split
    · exact ⟨by show 12 ≤ 20; omega, fun z => absurd z (Nat.succ_ne_zero _)⟩
    · split
      · exact ⟨by show 0 ≤ 20; omega, fun _ => h2⟩
      · split
        · have b := hc_rsB (w := w) h2
          unfold hc_d4
          split
          · rename_i z
            exact ⟨b.1, fun y => absurd y z⟩
          · rename_i z
            exact hc_d3B (b.2 (by omega))
        · exact hc_d3B h2
theorem hc_fbB (o : Nat) : hc_fb o ≤ 7 := by
  unfold hc_fb
  repeat' split
  all_goals omega
theorem hc_dfB {w : Nat → Nat} {n mf : Nat} {tb : List hc_Fd} {k o p : Nat} (hp : p ≤ n) : (hc_df w n mf tb k o p).1 ≤ 20 ∧ ((hc_df w n mf tb k o p).1 = 0 → (hc_df w n mf tb k o p).2.2 ≤ n ∧ k < mf) := by
  unfold hc_df
  split
  · exact ⟨by show 16 ≤ 20; omega, fun z => absurd z (Nat.succ_ne_zero _)⟩
  · obtain ⟨b1, b2, b3, b4⟩ := hc_riB w n p o (hc_fb o) (hc_fbB o) hp
    have b := hc_d2B (w := w) (tb := tb) (o := o) b4 b2
    exact ⟨b.1, fun z => ⟨b.2 z, by omega⟩⟩
theorem hx_f162 {post : Int32 → SX → Prop} {T : Nat → List Nat} {k fm cap : Nat} {tb : List hc_Fd} {x y : Int32} (hm : hx_M qoc qln T) (hk : k < 6) (hf : fm < 4) (hb : hx_tab T qcn qhd qsz qcp 2 tb cap) (ex : x = nI fm) (ey : y = nI (27 + k)) (H : ∀ o ln cn hd sz T', hx_M o ln T' → (∀ z, z < 130 → T' z = T z) → (∀ j, j ≠ 2 → cn j = qcn j ∧ hd j = qhd j ∧ sz j = qsz j) → hx_tab T' cn hd sz qcp 2 (if fm = 1 then hc_in tb (hc_fl T (27 + k)) cap else tb) cap → post 0 (qs1, qs2, qs3, qs4, qs5, qs6, qs7, qs8, qlc, qgc, nI (k + 1), qwc, qin, qfl, qmf, qli, qlo, qta, qlt, qcu, qrv, qrs, o, ln, cn, hd, sz, qcp, qcw, qcb, qsy, qk1, qk2, qk3, qk4, qlm, qgf, upd qdf k (nI fm), qwi)) : wX_decodeField_162 post x y qs1 qs2 qs3 qs4 qs5 qs6 qs7 qs8 qlc qgc (nI k) qwc qin qfl qmf qli qlo qta qlt qcu qrv qrs qoc qln qcn qhd qsz qcp qcw qcb qsy qk1 qk2 qk3 qk4 qlm qgf qdf qwi := by
  subst ex ey
  refine And.intro (vp_in_nI hk (by decide)) (nm_r (hc_up rfl (by omega) rfl) (nm_r (nI_1 k) ?_))
  refine pk_eq fm 1 (fun z => ?_) (fun z => ?_)
  · rw [if_pos z] at H
    exact hx_insert (T := T) (t := 2) (s := 27 + k) (tb := tb) (cap := cap) hm (by omega) (by omega) (by omega) hb rfl rfl (fun o l cn hd sz T' h1 h2 h3 h4 => H o l cn hd sz T' h1 (fun z hz => h2 z (by omega)) h3 h4)
  · rw [if_neg z] at H
    exact H _ _ _ _ _ T hm (fun _ _ => rfl) (fun _ _ => ⟨rfl, rfl, rfl⟩) hb
theorem hx_f72 {post : Int32 → SX → Prop} {wv : Nat → Nat} {T : Nat → List Nat} {n p o k cap : Nat} {tb : List hc_Fd} {x1 x2 x3 : Int32} (hn : n ≤ 256) (hw : ∀ i, i < n → qwi i = nI (wv i)) (hbw : ∀ i, wv i < 256) (hC : hx_C qcw qcb) (hK : hx_K qk1 qk2 qk3 qk4 qsy) (hS : hx_S T) (hm : hx_M qoc qln T) (hb : hx_tab T qcn qhd qsz qcp 2 tb cap) (hk : k < 6) (hp : p ≤ n) (ho : o < 256) (e1 : x1 = nI o) (e2 : x2 = nI (hc_fm o)) (e3 : x3 = nI (hc_fb o))
    (H0 : (hc_d2 wv n tb o (hc_ri wv n p o (hc_fb o))).1 = 0 → ∀ oc ln cn hd sz rv T', hx_M oc ln T' → (∀ z, z < 130 → z ≠ 2 * (27 + k) → z ≠ 2 * (27 + k) + 1 → T' z = T z) → (∀ j, j ≠ 2 → cn j = qcn j ∧ hd j = qhd j ∧ sz j = qsz j) → hx_tab T' cn hd sz qcp 2 (if hc_fm o = 1 then hc_in tb (hc_d2 wv n tb o (hc_ri wv n p o (hc_fb o))).2.1 cap else tb) cap → hc_fl T' (27 + k) = (hc_d2 wv n tb o (hc_ri wv n p o (hc_fb o))).2.1 → post 0 (qs1, qs2, qs3, qs4, qs5, qs6, qs7, qs8, qlc, qgc, nI (k + 1), nI n, qin, qfl, qmf, qli, qlo, qta, qlt, nI (hc_d2 wv n tb o (hc_ri wv n p o (hc_fb o))).2.2, rv, qrs, oc, ln, cn, hd, sz, qcp, qcw, qcb, qsy, qk1, qk2, qk3, qk4, qlm, qgf, upd qdf k (nI (hc_fm o)), qwi))
    (HF : (hc_d2 wv n tb o (hc_ri wv n p o (hc_fb o))).1 ≠ 0 → ∀ oc ln cu rv T', hx_M oc ln T' → (∀ z, z < 130 → z ≠ 2 * (27 + k) → z ≠ 2 * (27 + k) + 1 → T' z = T z) → post (nI (hc_d2 wv n tb o (hc_ri wv n p o (hc_fb o))).1) (qs1, qs2, qs3, qs4, qs5, qs6, qs7, qs8, qlc, qgc, nI k, nI n, qin, qfl, qmf, qli, qlo, qta, qlt, cu, rv, qrs, oc, ln, qcn, qhd, qsz, qcp, qcw, qcb, qsy, qk1, qk2, qk3, qk4, qlm, qgf, qdf, qwi)) : wX_decodeField_72 post x1 x2 x3 qs1 qs2 qs3 qs4 qs5 qs6 qs7 qs8 qlc qgc (nI k) (nI n) qin qfl qmf qli qlo qta qlt (nI p) qrv qrs qoc qln qcn qhd qsz qcp qcw qcb qsy qk1 qk2 qk3 qk4 qlm qgf qdf qwi := by
  subst e1 e2 e3
  have hL := hx_tabL hb
  obtain ⟨t1, t2, t3, t4, t5, h, t6, t7, t8⟩ := id hb
  have hfb := hc_fbB o
  have hfm : hc_fm o < 4 := by
    unfold hc_fm
    repeat' split
    all_goals omega
  have hfm0 : hc_fm o = 0 ↔ 128 ≤ o := by
    unfold hc_fm
    repeat' split
    all_goals omega
  obtain ⟨b1, b2, b3, b4⟩ := hc_riB wv n p o (hc_fb o) hfb hp
  unfold wX_decodeField_72
  refine hx_readInteger (wv := wv) (n := n) (p := p) (o := o) (b := hc_fb o) hn hw hbw hp ho (by omega) rfl rfl ?_
  generalize hc_ri wv n p o (hc_fb o) = r at H0 HF b1 b2 b3 b4 ⊢
  unfold hc_d2 at H0 HF
  refine pk_eq r.1 0 (fun d => ?_) (fun d => ?_)
  · rw [if_neg (fun z => z d)] at H0 HF
    refine hx_entrySlot (t := 2) (n := tb.length) (h := h) (by omega) rfl hL t6 t1 t7 (fun z => ?_) (fun i g1 g2 e => ?_)
    · refine br_f (by decide) ?_
      refine pk_eq r.2.1 0 (fun c => ?_) (fun c => ?_)
      · refine pk_eq (hc_fm o) 0 (fun c2 => ?_) (fun c2 => ?_)
        · rw [if_pos (Or.inr ⟨c, hfm0.mp c2⟩)] at HF
          exact HF (Nat.succ_ne_zero _) _ _ _ _ T hm (fun _ _ _ _ => rfl)
        · rw [if_neg (by omega), if_neg (by omega), if_pos c] at H0 HF
          have rb := hc_rsB (w := wv) b2
          refine nm_r (e' := nI (27 + k)) (hc_add rfl rfl) (br_f (nI_ne0 (by omega) (by omega)) ?_)
          refine hx_litR (T := T) (s := 27 + k) hn hw hbw hC hK (by omega) b2 rb.2 hm (by omega) rfl (fun z o' ln rv T' h1 h2 h3 => br_t rfl ?_) (fun z o' ln cu rv T' h1 h2 => br_f ?_ ?_)
          · refine hx_f162 (T := T') (k := k) (fm := hc_fm o) (tb := tb) (cap := cap) h1 hk hfm (hx_tabC hb rfl rfl rfl rfl (fun x y1 y2 => h2 x (by omega) (by omega))) rfl rfl (fun oc ln cn hd sz T2 y1 y2 y3 y4 => ?_)
            rw [h3] at y4
            exact H0 z oc ln cn hd sz rv T2 y1 (fun x q1 q2 q3 => (y2 x q1).trans (h2 x q2 q3)) y3 y4 ((hc_flc (y2 _ (by omega)) (y2 _ (by omega))).trans h3)
          · have q := hc_d2B (w := wv) (tb := tb) (o := o) b4 b2
            unfold hc_d2 at q
            rw [if_neg (fun z => z d), if_neg (by omega), if_neg (by omega), if_pos c] at q
            exact nI_ne0 (by omega) (by omega)
          · exact HF z o' ln cu rv T' h1 (fun x _ q2 q3 => h2 x q2 q3)
      · have : 14 + tb.length < r.2.1 := by
          by_cases y : r.2.1 ≤ 14 + tb.length
          · exact absurd rfl (z r.2.1 (by omega) y)
          · omega
        rw [if_pos (Or.inl this)] at HF
        exact HF (Nat.succ_ne_zero _) _ _ _ _ T hm (fun _ _ _ _ => rfl)
    · rw [nI_eq (by omega) (by omega)] at e
      have eE := hx_ent (t := 2) hS t8 g1 g2
      have bE := hx_esB (t := 2) (h := h) (i := i) (by omega)
      have hes : hx_es 2 h i < 27 ∨ 65 ≤ hx_es 2 h i := by
        unfold hx_es
        split <;> omega
      rw [if_neg (by omega)] at H0 HF
      refine br_t (nI_pos' (by omega)) (nm_r (e' := nI (27 + k)) (hc_add rfl rfl) ?_)
      rw [e, ← eE] at H0 HF
      refine pk_eq (hc_fm o) 0 (fun c => ?_) (fun c => ?_)
      · rw [if_pos (hfm0.mp c)] at H0
        refine hx_copyField (T := T) (a := hx_es 2 h i) (b := 27 + k) hm (by omega) (by omega) (by omega) rfl rfl (fun o' ln hm' => ?_)
        refine hx_f162 (T := hc_uf T (27 + k) (hc_fl T (hx_es 2 h i))) (k := k) (fm := hc_fm o) (tb := tb) (cap := cap) hm' hk hfm (hx_tabC hb rfl rfl rfl rfl (fun x y1 y2 => hc_ufn (by omega) (by omega))) rfl rfl (fun oc ln cn hd sz T2 y1 y2 y3 y4 => ?_)
        rw [hc_ufs] at y4
        exact H0 rfl oc ln cn hd sz _ T2 y1 (fun x q1 q2 q3 => (y2 x q1).trans (hc_ufn q2 q3)) y3 y4 ((hc_flc (y2 _ (by omega)) (y2 _ (by omega))).trans hc_ufs)
      · rw [if_neg (by omega), if_neg (by omega)] at H0 HF
        refine hx_litE (T := T) (s := 27 + k) (c := hx_es 2 h i) hn hw hbw hC hK (by omega) bE b2 hm rfl rfl (fun z o' ln rv T' h1 h2 h3 => br_t rfl ?_) (fun z o' ln cu rv T' h1 h2 => br_f ?_ ?_)
        · refine hx_f162 (T := T') (k := k) (fm := hc_fm o) (tb := tb) (cap := cap) h1 hk hfm (hx_tabC hb rfl rfl rfl rfl (fun x y1 y2 => h2 x (by omega) (by omega))) rfl rfl (fun oc ln cn hd sz T2 y1 y2 y3 y4 => ?_)
          rw [h3] at y4
          exact H0 z oc ln cn hd sz rv T2 y1 (fun x q1 q2 q3 => (y2 x q1).trans (h2 x q2 q3)) y3 y4 ((hc_flc (y2 _ (by omega)) (y2 _ (by omega))).trans h3)
        · have q := hc_d3B (nm := (hc_fl T (hx_es 2 h i)).1) (w := wv) b2
          exact nI_ne0 (by omega) (by omega)
        · exact HF z o' ln cu rv T' h1 (fun x _ q2 q3 => h2 x q2 q3)
  · rw [if_pos d] at HF
    exact HF d _ _ _ _ T hm (fun _ _ _ _ => rfl)
theorem hx_f17 {post : Int32 → SX → Prop} {wv : Nat → Nat} {T : Nat → List Nat} {n p o k cap mf : Nat} {tb : List hc_Fd} {x1 : Int32} (hn : n ≤ 256) (hw : ∀ i, i < n → qwi i = nI (wv i)) (hbw : ∀ i, wv i < 256) (hC : hx_C qcw qcb) (hK : hx_K qk1 qk2 qk3 qk4 qsy) (hS : hx_S T) (hm : hx_M qoc qln T) (hb : hx_tab T qcn qhd qsz qcp 2 tb cap) (hk : k ≤ 6) (hmf : mf ≤ 6) (hp : p ≤ n) (ho : o < 256) (e1 : x1 = nI o)
    (H0 : (hc_df wv n mf tb k o p).1 = 0 → ∀ oc ln cn hd sz rv T', hx_M oc ln T' → (∀ z, z < 130 → z ≠ 2 * (27 + k) → z ≠ 2 * (27 + k) + 1 → T' z = T z) → (∀ j, j ≠ 2 → cn j = qcn j ∧ hd j = qhd j ∧ sz j = qsz j) → hx_tab T' cn hd sz qcp 2 (if hc_fm o = 1 then hc_in tb (hc_df wv n mf tb k o p).2.1 cap else tb) cap → hc_fl T' (27 + k) = (hc_df wv n mf tb k o p).2.1 → post 0 (qs1, qs2, qs3, qs4, qs5, qs6, qs7, qs8, qlc, qgc, nI (k + 1), nI n, qin, qfl, nI mf, qli, qlo, qta, qlt, nI (hc_df wv n mf tb k o p).2.2, rv, qrs, oc, ln, cn, hd, sz, qcp, qcw, qcb, qsy, qk1, qk2, qk3, qk4, qlm, qgf, upd qdf k (nI (hc_fm o)), qwi))
    (HF : (hc_df wv n mf tb k o p).1 ≠ 0 → ∀ oc ln cu rv T', hx_M oc ln T' → (∀ z, z < 54 ∨ (66 ≤ z ∧ z < 130) → T' z = T z) → post (nI (hc_df wv n mf tb k o p).1) (qs1, qs2, qs3, qs4, qs5, qs6, qs7, qs8, qlc, qgc, nI k, nI n, qin, qfl, nI mf, qli, qlo, qta, qlt, cu, rv, qrs, oc, ln, qcn, qhd, qsz, qcp, qcw, qcb, qsy, qk1, qk2, qk3, qk4, qlm, qgf, qdf, qwi)) : wX_decodeField_17 post x1 qs1 qs2 qs3 qs4 qs5 qs6 qs7 qs8 qlc qgc (nI k) (nI n) qin qfl (nI mf) qli qlo qta qlt (nI p) qrv qrs qoc qln qcn qhd qsz qcp qcw qcb qsy qk1 qk2 qk3 qk4 qlm qgf qdf qwi := by
  subst e1
  unfold hc_df at H0 HF
  refine pk_lt k mf (fun c => ?_) (fun c => ?_)
  · rw [if_neg (by omega)] at H0 HF
    have g : ∀ (x2 x3 : Int32), x2 = nI (hc_fm o) → x3 = nI (hc_fb o) → wX_decodeField_72 post (nI o) x2 x3 qs1 qs2 qs3 qs4 qs5 qs6 qs7 qs8 qlc qgc (nI k) (nI n) qin qfl (nI mf) qli qlo qta qlt (nI p) qrv qrs qoc qln qcn qhd qsz qcp qcw qcb qsy qk1 qk2 qk3 qk4 qlm qgf qdf qwi := fun x2 x3 e2 e3 => hx_f72 hn hw hbw hC hK hS hm hb (by omega) hp ho rfl e2 e3 H0 (fun z oc ln cu rv T' h1 h2 => HF z oc ln cu rv T' h1 (fun x hx => h2 x (by omega) (by omega) (by omega)))
    refine pk_lt o 128 (fun z => ?_) (fun z => ?_)
    · refine pk_lt o 64 (fun y => ?_) (fun y => ?_)
      · refine pk_lt o 16 (fun x => ?_) (fun x => ?_)
        · exact g _ _ (by unfold hc_fm; rw [if_neg (by omega), if_neg (by omega), if_neg (by omega)]; rfl) (by unfold hc_fb; rw [if_neg (by omega), if_neg (by omega)]; rfl)
        · exact g _ _ (by unfold hc_fm; rw [if_neg (by omega), if_neg (by omega), if_pos (by omega)]; rfl) (by unfold hc_fb; rw [if_neg (by omega), if_neg (by omega)]; rfl)
      · exact g _ _ (by unfold hc_fm; rw [if_neg (by omega), if_pos (by omega)]; rfl) (by unfold hc_fb; rw [if_neg (by omega), if_pos (by omega)]; rfl)
    · exact g _ _ (by unfold hc_fm; rw [if_pos (by omega)]; rfl) (by unfold hc_fb; rw [if_pos (by omega)]; rfl)
  · rw [if_pos c] at HF
    exact HF (Nat.succ_ne_zero _) _ _ _ _ T hm (fun _ _ => rfl)
end
end
section
/-- the block's end: the fault -/
def hc_fi (R : Nat × hc_Dr) : Nat := if R.1 ≠ 0 then R.1 else if R.2.2.2.1.length = 0 ∧ R.2.2.2.2.2 ≠ 0 then 15 else 0
def hc_dv (w : Nat → Nat) (n lim low mf : Nat) (tb : List hc_Fd) (cap : Nat) : Nat × hc_Dr := hc_bl w n lim low mf 256 (tb, cap, [], 0, if low < cap then 1 else 0)
theorem hc_spB {w : Nat → Nat} {n lim low mf : Nat} {D : hc_Dr} {o p : Nat} (hp : p ≤ n) : (hc_sp w n lim low mf D o p).1 ≤ 20 ∧ ((hc_sp w n lim low mf D o p).1 = 0 → (hc_sp w n lim low mf D o p).2.2.2.2.1 ≤ n) := by
  unfold hc_sp
  split
  · split
    · exact ⟨by show 13 ≤ 20; omega, fun z => absurd z (Nat.succ_ne_zero _)⟩
    · obtain ⟨b1, b2, b3, b4⟩ := hc_riB w n p o 5 (by decide) hp
      generalize hc_ri w n p o 5 = r at b1 b2 b3 b4 ⊢
      unfold hc_s1
      split
      · rename_i z
        exact ⟨by show r.1 ≤ 20; omega, fun y => absurd y z⟩
      · split
        · exact ⟨by show 14 ≤ 20; omega, fun z => absurd z (Nat.succ_ne_zero _)⟩
        · exact ⟨by show 0 ≤ 20; omega, fun _ => b2⟩
  · split
    · exact ⟨by show 15 ≤ 20; omega, fun z => absurd z (Nat.succ_ne_zero _)⟩
    · have db := hc_dfB (w := w) (mf := mf) (tb := D.1) (k := D.2.2.1.length) (o := o) hp
      generalize hc_df w n mf D.1 D.2.2.1.length o p = d at db ⊢
      unfold hc_s2
      split
      · rename_i z
        exact ⟨db.1, fun y => absurd y z⟩
      · rename_i z
        exact ⟨by show 0 ≤ 20; omega, fun _ => (db.2 (by omega)).1⟩
theorem hc_blB {w : Nat → Nat} {n lim low mf : Nat} : ∀ k (D : hc_Dr), D.2.2.2.1 ≤ n → (hc_bl w n lim low mf k D).1 ≤ 20
  | 0, D, _ => Nat.zero_le _
  | k + 1, D, h => by
    unfold hc_bl
    split
    · exact Nat.zero_le _
    · have b := hc_spB (w := w) (lim := lim) (low := low) (mf := mf) (D := D) (o := w D.2.2.2.1) (show D.2.2.2.1 + 1 ≤ n by omega)
      split
      · exact b.1
      · exact hc_blB k _ (b.2 (by omega))
theorem hc_fiB {w : Nat → Nat} {n lim low mf : Nat} (k : Nat) (D : hc_Dr) (h : D.2.2.2.1 ≤ n) : hc_fi (hc_bl w n lim low mf k D) ≤ 20 := by
  have := hc_blB (w := w) (lim := lim) (low := low) (mf := mf) k D h
  unfold hc_fi
  split
  · exact this
  · split <;> omega
section
variable {qs1 qs2 qs3 qs4 qs5 qs6 qs7 qs8 qlc qgc qdc qwc qin qfl qmf qli qlo qta qlt qcu qrv qrs : Int32} {qoc qln qcn qhd qsz qcp qcw qcb qsy qk1 qk2 qk3 qk4 qlm qgf qdf qwi : Nat → Int32}
/-- outside of the drafts nothing has changed -/
def hx_E (T0 T : Nat → List Nat) (cn0 hd0 sz0 cp0 cn hd sz cp : Nat → Int32) : Prop := (∀ x, x < 54 ∨ (66 ≤ x ∧ x < 130) → T x = T0 x) ∧ ∀ j, j ≠ 2 → cn j = cn0 j ∧ hd j = hd0 j ∧ sz j = sz0 j ∧ cp j = cp0 j
/-- the drafts -/
def hx_Q (T : Nat → List Nat) (cn hd sz cp df : Nat → Int32) (D : hc_Dr) : Prop := hx_tab T cn hd sz cp 2 D.1 D.2.1 ∧ ∀ i, i < D.2.2.1.length → hc_fl T (27 + i) = (D.2.2.1.getD i (hc_f0, 0)).1 ∧ df i = nI (D.2.2.1.getD i (hc_f0, 0)).2
def hx_D (T0 T : Nat → List Nat) (cn0 hd0 sz0 cp0 cn hd sz cp df : Nat → Int32) (n mf low rcap r : Nat) (D : hc_Dr) : Prop := hx_E T0 T cn0 hd0 sz0 cp0 cn hd sz cp ∧ hx_Q T cn hd sz cp df D ∧ D.2.2.1.length ≤ mf ∧ D.2.2.2.1 ≤ n ∧ D.2.2.2.2 = (if low < rcap ∧ r = 0 then 1 else 0) ∧ r < 2
theorem hx_ES {T0 T : Nat → List Nat} {cn0 hd0 sz0 cp0 cn hd sz cp : Nat → Int32} (h : hx_E T0 T cn0 hd0 sz0 cp0 cn hd sz cp) (hS : hx_S T0) : hx_S T := by
  intro k hk
  rw [← hS k hk]
  exact hc_flc (h.1 _ (by omega)) (h.1 _ (by omega))
theorem hx_upd {pst : Int32 → SX → Prop} {wv : Nat → Nat} {T0 T : Nat → List Nat} {cn0 hd0 sz0 cp0 : Nat → Int32} {n p o mf lim low rcap r : Nat} {D : hc_Dr} {x : Int32} (hn : n ≤ 256) (hw : ∀ i, i < n → qwi i = nI (wv i)) (hbw : ∀ i, wv i < 256) (hm : hx_M qoc qln T) (hD : hx_D T0 T cn0 hd0 sz0 cp0 qcn qhd qsz qcp qdf n mf low rcap r D) (hmf : mf ≤ 6) (hli : lim ≤ 128) (hlo : low ≤ 128) (hp : p ≤ n) (ho : o < 256) (ex : x = nI o)
    (H0 : (if 0 < D.2.2.1.length then (13, D) else hc_s1 lim low D (hc_ri wv n p o 5)).1 = 0 → ∀ cn sz cp rv r', hx_D T0 T cn0 hd0 sz0 cp0 cn qhd sz cp qdf n mf low rcap r' (if 0 < D.2.2.1.length then (13, D) else hc_s1 lim low D (hc_ri wv n p o 5)).2 → pst 0 (qs1, qs2, qs3, qs4, qs5, qs6, qs7, qs8, qlc, qgc, nI (if 0 < D.2.2.1.length then (13, D) else hc_s1 lim low D (hc_ri wv n p o 5)).2.2.2.1.length, nI n, qin, qfl, nI mf, nI lim, nI low, qta, qlt, nI (if 0 < D.2.2.1.length then (13, D) else hc_s1 lim low D (hc_ri wv n p o 5)).2.2.2.2.1, rv, nI r', qoc, qln, cn, qhd, sz, cp, qcw, qcb, qsy, qk1, qk2, qk3, qk4, qlm, qgf, qdf, qwi))
    (HF : (if 0 < D.2.2.1.length then (13, D) else hc_s1 lim low D (hc_ri wv n p o 5)).1 ≠ 0 → ∀ cu rv, pst (nI (if 0 < D.2.2.1.length then (13, D) else hc_s1 lim low D (hc_ri wv n p o 5)).1) (qs1, qs2, qs3, qs4, qs5, qs6, qs7, qs8, qlc, qgc, nI D.2.2.1.length, nI n, qin, qfl, nI mf, nI lim, nI low, qta, qlt, cu, rv, nI r, qoc, qln, qcn, qhd, qsz, qcp, qcw, qcb, qsy, qk1, qk2, qk3, qk4, qlm, qgf, qdf, qwi)) : wpX_decodeUpdate pst (qs1, qs2, qs3, qs4, qs5, qs6, qs7, qs8, qlc, qgc, nI D.2.2.1.length, nI n, qin, qfl, nI mf, nI lim, nI low, qta, qlt, nI p, qrv, nI r, qoc, qln, qcn, qhd, qsz, qcp, qcw, qcb, qsy, qk1, qk2, qk3, qk4, qlm, qgf, qdf, qwi) x := by
  subst ex
  obtain ⟨hE, hQ, d1, d2, d3, d4⟩ := hD
  refine pk_le D.2.2.1.length 0 (fun c => ?_) (fun c => ?_)
  · rw [if_neg (by omega)] at H0 HF
    obtain ⟨b1, b2, b3, b4⟩ := hc_riB wv n p o 5 (by decide) hp
    refine hx_readInteger (wv := wv) (n := n) (p := p) (o := o) (b := 5) hn hw hbw hp ho (by decide) rfl rfl ?_
    generalize hc_ri wv n p o 5 = s at H0 HF b1 b2 b3 b4 ⊢
    unfold hc_s1 at H0 HF
    refine pk_eq s.1 0 (fun d => ?_) (fun d => ?_)
    · rw [if_neg (fun z => z d)] at H0 HF
      refine pk_le s.2.1 lim (fun e => ?_) (fun e => ?_)
      · rw [if_neg (by omega)] at H0
        have g : ∀ (r' : Nat), r' < 2 → (r' = 0 ↔ r = 0 ∧ low < s.2.1) → wX_decodeUpdate_53 pst qs1 qs2 qs3 qs4 qs5 qs6 qs7 qs8 qlc qgc (nI D.2.2.1.length) (nI n) qin qfl (nI mf) (nI lim) (nI low) qta qlt (nI s.2.2) (nI s.2.1) (nI r') qoc qln qcn qhd qsz qcp qcw qcb qsy qk1 qk2 qk3 qk4 qlm qgf qdf qwi := by
          intro r' hr1 hr2
          unfold wX_decodeUpdate_53
          refine hx_setCapacity (T := T) (t := 2) (c := s.2.1) (tb := D.1) (cap := D.2.1) hm (by omega) (by omega) hQ.1 rfl rfl (fun cn sz cp h1 h2 => ?_)
          refine H0 rfl cn sz cp _ r' ⟨⟨hE.1, fun j hj => ⟨(h1 j hj).1.trans (hE.2 j hj).1, (hE.2 j hj).2.1, (h1 j hj).2.1.trans (hE.2 j hj).2.2.1, (h1 j hj).2.2.trans (hE.2 j hj).2.2.2⟩⟩, ⟨h2, hQ.2⟩, d1, b2, ?_, hr1⟩
          show (if s.2.1 ≤ low then 0 else D.2.2.2.2) = _
          rw [d3]
          by_cases z : s.2.1 ≤ low
          · rw [if_pos z, if_neg (by omega)]
          · rw [if_neg z]
            by_cases y : low < rcap ∧ r = 0
            · rw [if_pos y, if_pos (by omega)]
            · rw [if_neg y, if_neg (by omega)]
        refine pk_lt low s.2.1 (fun z => g r d4 (by omega)) (fun z => g 1 (by omega) (by omega))
      · rw [if_pos e] at HF
        exact HF (Nat.succ_ne_zero _) _ _
    · rw [if_pos d] at HF
      exact HF d _ _
  · rw [if_pos c] at HF
    exact HF (Nat.succ_ne_zero _) _ _
theorem hx_fld {pst : Int32 → SX → Prop} {wv : Nat → Nat} {T0 T : Nat → List Nat} {cn0 hd0 sz0 cp0 : Nat → Int32} {n p o mf lim low rcap r : Nat} {D : hc_Dr} {x : Int32} (hn : n ≤ 256) (hw : ∀ i, i < n → qwi i = nI (wv i)) (hbw : ∀ i, wv i < 256) (hC : hx_C qcw qcb) (hK : hx_K qk1 qk2 qk3 qk4 qsy) (hS : hx_S T0) (hm : hx_M qoc qln T) (hD : hx_D T0 T cn0 hd0 sz0 cp0 qcn qhd qsz qcp qdf n mf low rcap r D) (ec : cp0 1 = nI rcap) (hmf : mf ≤ 6) (hlo : low ≤ 128) (hrc : rcap ≤ 128) (hp : p ≤ n) (ho : o < 256) (ex : x = nI o)
    (H0 : (if D.2.2.1.length = 0 ∧ D.2.2.2.2 ≠ 0 then (15, D) else hc_s2 o D (hc_df wv n mf D.1 D.2.2.1.length o p)).1 = 0 → ∀ oc ln cn hd sz df rv T', hx_M oc ln T' → hx_D T0 T' cn0 hd0 sz0 cp0 cn hd sz qcp df n mf low rcap r (if D.2.2.1.length = 0 ∧ D.2.2.2.2 ≠ 0 then (15, D) else hc_s2 o D (hc_df wv n mf D.1 D.2.2.1.length o p)).2 → pst 0 (qs1, qs2, qs3, qs4, qs5, qs6, qs7, qs8, qlc, qgc, nI (if D.2.2.1.length = 0 ∧ D.2.2.2.2 ≠ 0 then (15, D) else hc_s2 o D (hc_df wv n mf D.1 D.2.2.1.length o p)).2.2.2.1.length, nI n, qin, qfl, nI mf, nI lim, nI low, qta, qlt, nI (if D.2.2.1.length = 0 ∧ D.2.2.2.2 ≠ 0 then (15, D) else hc_s2 o D (hc_df wv n mf D.1 D.2.2.1.length o p)).2.2.2.2.1, rv, nI r, oc, ln, cn, hd, sz, qcp, qcw, qcb, qsy, qk1, qk2, qk3, qk4, qlm, qgf, df, qwi))
    (HF : (if D.2.2.1.length = 0 ∧ D.2.2.2.2 ≠ 0 then (15, D) else hc_s2 o D (hc_df wv n mf D.1 D.2.2.1.length o p)).1 ≠ 0 → ∀ oc ln cu rv T', hx_M oc ln T' → hx_E T0 T' cn0 hd0 sz0 cp0 qcn qhd qsz qcp → pst (nI (if D.2.2.1.length = 0 ∧ D.2.2.2.2 ≠ 0 then (15, D) else hc_s2 o D (hc_df wv n mf D.1 D.2.2.1.length o p)).1) (qs1, qs2, qs3, qs4, qs5, qs6, qs7, qs8, qlc, qgc, nI D.2.2.1.length, nI n, qin, qfl, nI mf, nI lim, nI low, qta, qlt, cu, rv, nI r, oc, ln, qcn, qhd, qsz, qcp, qcw, qcb, qsy, qk1, qk2, qk3, qk4, qlm, qgf, qdf, qwi)) : wpX_decodeField pst (qs1, qs2, qs3, qs4, qs5, qs6, qs7, qs8, qlc, qgc, nI D.2.2.1.length, nI n, qin, qfl, nI mf, nI lim, nI low, qta, qlt, nI p, qrv, nI r, qoc, qln, qcn, qhd, qsz, qcp, qcw, qcb, qsy, qk1, qk2, qk3, qk4, qlm, qgf, qdf, qwi) x := by
  subst ex
  obtain ⟨hE, hQ, d1, d2, d3, d4⟩ := hD
  have g : ¬ (D.2.2.1.length = 0 ∧ D.2.2.2.2 ≠ 0) → wX_decodeField_17 pst (nI o) qs1 qs2 qs3 qs4 qs5 qs6 qs7 qs8 qlc qgc (nI D.2.2.1.length) (nI n) qin qfl (nI mf) (nI lim) (nI low) qta qlt (nI p) qrv (nI r) qoc qln qcn qhd qsz qcp qcw qcb qsy qk1 qk2 qk3 qk4 qlm qgf qdf qwi := by
    intro c
    rw [if_neg c] at H0 HF
    have db := hc_dfB (w := wv) (mf := mf) (tb := D.1) (k := D.2.2.1.length) (o := o) hp
    refine hx_f17 (wv := wv) (T := T) (n := n) (p := p) (o := o) (k := D.2.2.1.length) (mf := mf) (tb := D.1) (cap := D.2.1) hn hw hbw hC hK (hx_ES hE hS) hm hQ.1 (by omega) hmf hp ho rfl (fun z oc ln cn hd sz rv T' h1 h2 h3 h4 h5 => ?_) (fun z oc ln cu rv T' h1 h2 => ?_)
    · generalize hc_df wv n mf D.1 D.2.2.1.length o p = d at H0 z h4 h5 db ⊢
      unfold hc_s2 at H0
      rw [if_neg (fun y => y z)] at H0
      have H := H0 rfl oc ln cn hd sz (upd qdf D.2.2.1.length (nI (hc_fm o))) rv T' h1
      rw [show (D.2.2.1 ++ [(d.2.1, hc_fm o)]).length = D.2.2.1.length + 1 from by rw [List.length_append]; rfl] at H
      refine H ⟨⟨fun x hx => (h2 x (by omega) (by omega) (by omega)).trans (hE.1 x hx), fun j hj => ⟨(h3 j hj).1.trans (hE.2 j hj).1, (h3 j hj).2.1.trans (hE.2 j hj).2.1, (h3 j hj).2.2.trans (hE.2 j hj).2.2.1, (hE.2 j hj).2.2.2⟩⟩, ⟨h4, ?_⟩, ?_, (db.2 z).1, d3, d4⟩
      · intro i hi
        have hi : i < D.2.2.1.length + 1 := by
          rw [List.length_append] at hi
          exact hi
        show hc_fl T' (27 + i) = ((D.2.2.1 ++ [(d.2.1, hc_fm o)]).getD i (hc_f0, 0)).1 ∧ _ = nI ((D.2.2.1 ++ [(d.2.1, hc_fm o)]).getD i (hc_f0, 0)).2
        rw [hc_ga]
        by_cases e : i = D.2.2.1.length
        · subst e
          rw [if_neg (by omega), if_pos rfl]
          exact ⟨h5, pk_us⟩
        · rw [if_pos (by omega), pk_un e]
          have q := hQ.2 i (by omega)
          exact ⟨(hc_flc (h2 _ (by omega) (by omega) (by omega)) (h2 _ (by omega) (by omega) (by omega))).trans q.1, q.2⟩
      · show (D.2.2.1 ++ [(d.2.1, hc_fm o)]).length ≤ mf
        rw [List.length_append]
        exact (db.2 z).2
    · generalize hc_df wv n mf D.1 D.2.2.1.length o p = d at HF z db ⊢
      unfold hc_s2 at HF
      rw [if_pos z] at HF
      exact HF z oc ln cu rv T' h1 ⟨fun x hx => (h2 x hx).trans (hE.1 x hx), hE.2⟩
  refine pk_eq D.2.2.1.length 0 (fun c => ?_) (fun c => g (by omega))
  refine hx_redm (low := low) (rcap := rcap) (r := r) (by omega) (by omega) (by omega) ((hE.2 1 (by omega)).2.2.2.trans ec) (fun z => ?_) (fun z => ?_)
  · have c2 : D.2.2.1.length = 0 ∧ D.2.2.2.2 ≠ 0 := ⟨c, by rw [d3, if_pos z]; decide⟩
    rw [if_pos c2] at HF
    exact br_f (by decide) (HF (Nat.succ_ne_zero _) _ _ _ _ T hm hE)
  · exact br_t rfl (g (fun y => y.2 (by rw [d3, if_neg z])))
theorem hx_100 {pst : Int32 → SX → Prop} {T0 T : Nat → List Nat} {cn0 hd0 sz0 cp0 : Nat → Int32} {n mf low rcap r : Nat} {D : hc_Dr} (hD : hx_D T0 T cn0 hd0 sz0 cp0 qcn qhd qsz qcp qdf n mf low rcap r D) (ec : cp0 1 = nI rcap) (hmf : mf ≤ 6) (hlo : low ≤ 128) (hrc : rcap ≤ 128) (H : pst (nI (hc_fi (0, D))) (qs1, qs2, qs3, qs4, qs5, qs6, qs7, qs8, qlc, qgc, nI D.2.2.1.length, qwc, qin, qfl, qmf, qli, nI low, qta, qlt, qcu, qrv, nI r, qoc, qln, qcn, qhd, qsz, qcp, qcw, qcb, qsy, qk1, qk2, qk3, qk4, qlm, qgf, qdf, qwi)) : wX_decodeBlock_100 pst qs1 qs2 qs3 qs4 qs5 qs6 qs7 qs8 qlc qgc (nI D.2.2.1.length) qwc qin qfl qmf qli (nI low) qta qlt qcu qrv (nI r) qoc qln qcn qhd qsz qcp qcw qcb qsy qk1 qk2 qk3 qk4 qlm qgf qdf qwi := by
  obtain ⟨hE, hQ, d1, d2, d3, d4⟩ := hD
  unfold hc_fi at H
  rw [if_neg (fun y => y rfl)] at H
  refine pk_eq D.2.2.1.length 0 (fun c => ?_) (fun c => ?_)
  · refine hx_redm (low := low) (rcap := rcap) (r := r) (by omega) (by omega) (by omega) ((hE.2 1 (by omega)).2.2.2.trans ec) (fun z => ?_) (fun z => ?_)
    · have c2 : D.2.2.1.length = 0 ∧ D.2.2.2.2 ≠ 0 := ⟨c, by rw [d3, if_pos z]; decide⟩
      rw [if_pos c2] at H
      exact br_f (by decide) H
    · have c2 : ¬ (D.2.2.1.length = 0 ∧ D.2.2.2.2 ≠ 0) := fun y => y.2 (by rw [d3, if_neg z])
      rw [if_neg c2] at H
      exact br_t rfl H
  · rw [if_neg (fun y => c y.1)] at H
    exact H
theorem hx_bl {pst : Int32 → SX → Prop} {wv : Nat → Nat} {T0 : Nat → List Nat} {cn0 hd0 sz0 cp0 : Nat → Int32} {n mf lim low rcap : Nat} (hn : n ≤ 256) (hw : ∀ i, i < n → qwi i = nI (wv i)) (hbw : ∀ i, wv i < 256) (hC : hx_C qcw qcb) (hK : hx_K qk1 qk2 qk3 qk4 qsy) (hS : hx_S T0) (ec : cp0 1 = nI rcap) (hmf : mf ≤ 6) (hli : lim ≤ 128) (hlo : low ≤ 128) (hrc : rcap ≤ 128) : ∀ k D T oc ln cn hd sz cp df rv r, k ≤ 256 → hx_M oc ln T → hx_D T0 T cn0 hd0 sz0 cp0 cn hd sz cp df n mf low rcap r D → (∀ oc ln cn hd sz cp df dc cu rv rs T', hx_M oc ln T' → hx_E T0 T' cn0 hd0 sz0 cp0 cn hd sz cp → (hc_fi (hc_bl wv n lim low mf k D) = 0 → dc = nI (hc_bl wv n lim low mf k D).2.2.2.1.length ∧ (hc_bl wv n lim low mf k D).2.2.2.1.length ≤ mf ∧ hx_Q T' cn hd sz cp df (hc_bl wv n lim low mf k D).2) → pst (nI (hc_fi (hc_bl wv n lim low mf k D))) (qs1, qs2, qs3, qs4, qs5, qs6, qs7, qs8, qlc, qgc, dc, nI n, qin, qfl, nI mf, nI lim, nI low, qta, qlt, cu, rv, rs, oc, ln, cn, hd, sz, cp, qcw, qcb, qsy, qk1, qk2, qk3, qk4, qlm, qgf, df, qwi)) → ∀ f, k < f → wX_decodeBlock_23 pst f (nI (256 - k)) qs1 qs2 qs3 qs4 qs5 qs6 qs7 qs8 qlc qgc (nI D.2.2.1.length) (nI n) qin qfl (nI mf) (nI lim) (nI low) qta qlt (nI D.2.2.2.1) rv (nI r) oc ln cn hd sz cp qcw qcb qsy qk1 qk2 qk3 qk4 qlm qgf df qwi := by
  intro k
  induction k with
  | zero =>
    intro D T oc ln cn hd sz cp df rv r hk hm hD H f hf
    obtain ⟨f, rfl⟩ : ∃ g, f = g + 1 := ⟨f - 1, by omega⟩
    refine pk_le 256 256 (fun _ => ?_) (fun z => absurd z (by omega))
    exact hx_100 hD ec hmf hlo hrc (H _ _ _ _ _ _ _ _ _ _ _ T hm hD.1 (fun _ => ⟨rfl, hD.2.2.1, hD.2.1⟩))
  | succ k ih =>
    intro D T oc ln cn hd sz cp df rv r hk hm hD H f hf
    obtain ⟨f, rfl⟩ : ∃ g, f = g + 1 := ⟨f - 1, by omega⟩
    have d2 := hD.2.2.2.1
    have hwp := hbw D.2.2.2.1
    refine pk_le 256 (256 - (k + 1)) (fun z => absurd z (by omega)) (fun _ => ?_)
    unfold hc_bl at H
    refine pk_le n D.2.2.2.1 (fun c => ?_) (fun c => And.intro (vp_in_nI (by omega) (by decide)) (nm_r (hc_at rfl (by omega) (hw _ c)) (nm_r (nI_1 _) ?_)))
    · rw [if_pos c] at H
      exact hx_100 hD ec hmf hlo hrc (H _ _ _ _ _ _ _ _ _ _ _ T hm hD.1 (fun _ => ⟨rfl, hD.2.2.1, hD.2.1⟩))
    · rw [if_neg (by omega)] at H
      have e1 : nI (256 - (k + 1)) + 1 = nI (256 - k) := hc_nx (nI_1 _) (by omega)
      have nx : ∀ (s : Nat × hc_Dr) (x3 : Nat), s = hc_sp wv n lim low mf D (wv D.2.2.2.1) (D.2.2.2.1 + 1) → s.1 = x3 → s.1 ≠ 0 → x3 < 2 ^ 31 → ∀ oc ln cn hd sz cp df dc cu rv rs T', hx_M oc ln T' → hx_E T0 T' cn0 hd0 sz0 cp0 cn hd sz cp → wX_decodeBlock_88 pst (wX_decodeBlock_23 pst f) (nI (256 - (k + 1))) (nI x3) qs1 qs2 qs3 qs4 qs5 qs6 qs7 qs8 qlc qgc dc (nI n) qin qfl (nI mf) (nI lim) (nI low) qta qlt cu rv rs oc ln cn hd sz cp qcw qcb qsy qk1 qk2 qk3 qk4 qlm qgf df qwi := by
        intro s x3 es e3 z hx oc ln cn hd sz cp df dc cu rv rs T' h1 h2
        rw [← es, if_pos z] at H
        have e : hc_fi s = x3 := by
          unfold hc_fi
          rw [if_pos z]
          exact e3
        rw [e] at H
        exact br_f (nI_ne0 (by omega) hx) (H _ _ _ _ _ _ _ _ _ _ _ T' h1 h2 (fun y => absurd y (by omega)))
      have n0 : ∀ (s : Nat × hc_Dr), s = hc_sp wv n lim low mf D (wv D.2.2.2.1) (D.2.2.2.1 + 1) → s.1 = 0 → ∀ oc ln cn hd sz cp df rv r T', hx_M oc ln T' → hx_D T0 T' cn0 hd0 sz0 cp0 cn hd sz cp df n mf low rcap r s.2 → wX_decodeBlock_88 pst (wX_decodeBlock_23 pst f) (nI (256 - (k + 1))) 0 qs1 qs2 qs3 qs4 qs5 qs6 qs7 qs8 qlc qgc (nI s.2.2.2.1.length) (nI n) qin qfl (nI mf) (nI lim) (nI low) qta qlt (nI s.2.2.2.2.1) rv (nI r) oc ln cn hd sz cp qcw qcb qsy qk1 qk2 qk3 qk4 qlm qgf df qwi := by
        intro s es z oc ln cn hd sz cp df rv r T' h1 h2
        rw [← es, if_neg (fun y => y z)] at H
        exact br_t rfl (nm_r e1 (ih s.2 T' oc ln cn hd sz cp df rv r (by omega) h1 h2 H f (by omega)))
      have hfl : ¬ (32 ≤ wv D.2.2.2.1 ∧ wv D.2.2.2.1 < 64) → wX_decodeBlock_82 pst (wX_decodeBlock_23 pst f) (nI (256 - (k + 1))) (nI (wv D.2.2.2.1)) qs1 qs2 qs3 qs4 qs5 qs6 qs7 qs8 qlc qgc (nI D.2.2.1.length) (nI n) qin qfl (nI mf) (nI lim) (nI low) qta qlt (nI (D.2.2.2.1 + 1)) rv (nI r) oc ln cn hd sz cp qcw qcb qsy qk1 qk2 qk3 qk4 qlm qgf df qwi := by
        intro z
        have es : (if D.2.2.1.length = 0 ∧ D.2.2.2.2 ≠ 0 then (15, D) else hc_s2 (wv D.2.2.2.1) D (hc_df wv n mf D.1 D.2.2.1.length (wv D.2.2.2.1) (D.2.2.2.1 + 1))) = hc_sp wv n lim low mf D (wv D.2.2.2.1) (D.2.2.2.1 + 1) := (if_neg z).symm
        have db := hc_dfB (w := wv) (mf := mf) (tb := D.1) (k := D.2.2.1.length) (o := wv D.2.2.2.1) (show D.2.2.2.1 + 1 ≤ n by omega)
        unfold wX_decodeBlock_82
        refine hx_fld (wv := wv) (T0 := T0) (T := T) (n := n) (p := D.2.2.2.1 + 1) (mf := mf) (lim := lim) (low := low) (rcap := rcap) (r := r) (D := D) hn hw hbw hC hK hS hm hD ec hmf hlo hrc (by omega) hwp rfl (fun z oc ln cn hd sz df rv T' h1 h2 => ?_) (fun z oc ln cu rv T' h1 h2 => ?_)
        · exact n0 _ es z _ _ _ _ _ _ _ _ _ T' h1 h2
        · exact nx _ _ es rfl z (by rw [es]; have := (hc_spB (w := wv) (lim := lim) (low := low) (mf := mf) (D := D) (o := wv D.2.2.2.1) (show D.2.2.2.1 + 1 ≤ n by omega)).1; omega) _ _ _ _ _ _ _ _ _ _ _ T' h1 h2
      refine pk_lt (wv D.2.2.2.1) 32 (fun z => hfl (by omega)) (fun z => pk_le 64 (wv D.2.2.2.1) (fun y => hfl (by omega)) (fun y => ?_))
      have es : (if 0 < D.2.2.1.length then (13, D) else hc_s1 lim low D (hc_ri wv n (D.2.2.2.1 + 1) (wv D.2.2.2.1) 5)) = hc_sp wv n lim low mf D (wv D.2.2.2.1) (D.2.2.2.1 + 1) := (if_pos ⟨z, y⟩).symm
      obtain ⟨b1, b2, b3, b4⟩ := hc_riB wv n (D.2.2.2.1 + 1) (wv D.2.2.2.1) 5 (by decide) (by omega)
      refine hx_upd (wv := wv) (T0 := T0) (T := T) (n := n) (p := D.2.2.2.1 + 1) (mf := mf) (lim := lim) (low := low) (rcap := rcap) (r := r) (D := D) hn hw hbw hm hD hmf hli hlo (by omega) hwp rfl (fun z cn sz cp rv r' h2 => ?_) (fun z cu rv => ?_)
      · exact n0 _ es z _ _ _ _ _ _ _ _ _ T hm h2
      · exact nx _ _ es rfl z (by rw [es]; have := (hc_spB (w := wv) (lim := lim) (low := low) (mf := mf) (D := D) (o := wv D.2.2.2.1) (show D.2.2.2.1 + 1 ≤ n by omega)).1; omega) _ _ _ _ _ _ _ _ _ _ _ T hm hD.1
theorem hx_acl {post : SX → Prop} {T0 : Nat → List Nat} {k lim : Nat} (hk : k ≤ 6) (H : ∀ oc ln gf T, hx_M oc ln T → (∀ x, x < 42 ∨ 54 ≤ x → T x = T0 x) → (∀ i, i < k → hc_fl T (21 + i) = hc_fl T0 (27 + i) ∧ gf i = qdf i) → post (qs1, qs2, qs3, qs4, qs5, qs6, qs7, qs8, qlc, nI k, nI k, 0, qin, qfl, qmf, nI lim, nI lim, qta, qlt, qcu, qrv, qrs, oc, ln, qcn, qhd, qsz, qcp, qcw, qcb, qsy, qk1, qk2, qk3, qk4, qlm, gf, qdf, qwi)) : ∀ d i T oc ln gf, i + d = k → hx_M oc ln T → (∀ x, x < 42 ∨ 54 ≤ x → T x = T0 x) → (∀ j, j < i → hc_fl T (21 + j) = hc_fl T0 (27 + j) ∧ gf j = qdf j) → ∀ f, d < f → wX_acceptDraft_8 post f (nI i) qs1 qs2 qs3 qs4 qs5 qs6 qs7 qs8 qlc qgc (nI k) qwc qin qfl qmf (nI lim) qlo qta qlt qcu qrv qrs oc ln qcn qhd qsz qcp qcw qcb qsy qk1 qk2 qk3 qk4 qlm gf qdf qwi := by
  intro d
  induction d with
  | zero =>
    intro i T oc ln gf hi hm h1 h2 f hf
    obtain ⟨f, rfl⟩ : ∃ g, f = g + 1 := ⟨f - 1, by omega⟩
    exact pk_le k i (fun _ => H oc ln gf T hm h1 (fun j hj => h2 j (by omega))) (fun z => absurd z (by omega))
  | succ d ih =>
    intro i T oc ln gf hi hm h1 h2 f hf
    obtain ⟨f, rfl⟩ : ∃ g, f = g + 1 := ⟨f - 1, by omega⟩
    have ii : vp_in (nI i) 6 := vp_in_nI (by omega) (by decide)
    refine pk_le k i (fun z => absurd z (by omega)) (fun _ => ?_)
    refine hx_copyField (T := T) (a := 27 + i) (b := 21 + i) hm (by omega) (by omega) (by omega) (hc_add rfl rfl) (hc_add rfl rfl) (fun oc ln hm' => And.intro ii (And.intro ii (nm_r (hc_up rfl (by omega) (hc_at rfl (by omega) rfl)) (nm_r (nI_1 i) ?_))))
    refine ih (i + 1) _ oc ln _ (by omega) hm' (fun x hx => (hc_ufn (by omega) (by omega)).trans (h1 x hx)) (fun j hj => ?_) f (by omega)
    by_cases e : j = i
    · subst e
      rw [hc_ufs, pk_us]
      exact ⟨hc_flc (h1 _ (by omega)) (h1 _ (by omega)), rfl⟩
    · rw [hc_ufo (by omega), pk_un e]
      exact h2 j (by omega)
theorem hx_deliver {post : Int32 → SX → Prop} {w : List Nat} {T : Nat → List Nat} {mf lim low rcap : Nat} {rtb : List hc_Fd} (hC : hx_C qcw qcb) (hK : hx_K qk1 qk2 qk3 qk4 qsy) (hS : hx_S T) (hm : hx_M qoc qln T) (hw : hx_W qwi w) (hwl : w.length ≤ 256) (hby : hc_by w) (hb : hx_tab T qcn qhd qsz qcp 1 rtb rcap) (hmf : mf ≤ 6) (hli : lim ≤ 128) (hlo : low ≤ 128)
    (H3 : w = [] → post 3 (qs1, qs2, qs3, qs4, qs5, qs6, qs7, qs8, qlc, qgc, qdc, nI w.length, qin, qfl, nI mf, nI lim, nI low, qta, qlt, qcu, qrv, qrs, qoc, qln, qcn, qhd, qsz, qcp, qcw, qcb, qsy, qk1, qk2, qk3, qk4, qlm, qgf, qdf, qwi))
    (HF : w ≠ [] → hc_fi (hc_dv (fun i => w.getD i 0) w.length lim low mf rtb rcap) ≠ 0 → ∀ oc ln cn hd sz cp df dc cu rv rs T', hx_M oc ln T' → hx_E T T' qcn qhd qsz qcp cn hd sz cp → post (nI (hc_fi (hc_dv (fun i => w.getD i 0) w.length lim low mf rtb rcap))) (qs1, qs2, qs3, qs4, qs5, qs6, qs7, qs8, qlc, qgc, dc, nI w.length, qin, qfl, nI mf, nI lim, nI low, qta, qlt, cu, rv, rs, oc, ln, cn, hd, sz, cp, qcw, qcb, qsy, qk1, qk2, qk3, qk4, qlm, qgf, df, qwi))
    (H0 : w ≠ [] → hc_fi (hc_dv (fun i => w.getD i 0) w.length lim low mf rtb rcap) = 0 → (hc_dv (fun i => w.getD i 0) w.length lim low mf rtb rcap).2.2.2.1.length ≤ mf → ∀ oc ln cn hd sz cp gf df dc cu rv rs T', hx_M oc ln T' → (∀ x, x < 42 ∨ (66 ≤ x ∧ x < 98) → T' x = T x) → (cn 0 = qcn 0 ∧ hd 0 = qhd 0 ∧ sz 0 = qsz 0 ∧ cp 0 = qcp 0) → hx_tab T' cn hd sz cp 1 (hc_dv (fun i => w.getD i 0) w.length lim low mf rtb rcap).2.1 (hc_dv (fun i => w.getD i 0) w.length lim low mf rtb rcap).2.2.1 → (∀ i, i < (hc_dv (fun i => w.getD i 0) w.length lim low mf rtb rcap).2.2.2.1.length → hc_fl T' (21 + i) = ((hc_dv (fun i => w.getD i 0) w.length lim low mf rtb rcap).2.2.2.1.getD i (hc_f0, 0)).1 ∧ gf i = nI ((hc_dv (fun i => w.getD i 0) w.length lim low mf rtb rcap).2.2.2.1.getD i (hc_f0, 0)).2) → post 0 (qs1, qs2, qs3, qs4, qs5, qs6, qs7, qs8, qlc, nI (hc_dv (fun i => w.getD i 0) w.length lim low mf rtb rcap).2.2.2.1.length, dc, 0, qin, qfl, nI mf, nI lim, nI lim, qta, qlt, cu, rv, rs, oc, ln, cn, hd, sz, cp, qcw, qcb, qsy, qk1, qk2, qk3, qk4, qlm, gf, df, qwi)) : wpX_deliver post (qs1, qs2, qs3, qs4, qs5, qs6, qs7, qs8, qlc, qgc, qdc, nI w.length, qin, qfl, nI mf, nI lim, nI low, qta, qlt, qcu, qrv, qrs, qoc, qln, qcn, qhd, qsz, qcp, qcw, qcb, qsy, qk1, qk2, qk3, qk4, qlm, qgf, qdf, qwi) := by
  refine pk_eq w.length 0 (fun c => H3 (List.length_eq_zero_iff.mp c)) (fun c => ?_)
  have hne : w ≠ [] := fun z => c (by rw [z]; rfl)
  have HF := HF hne
  have H0 := H0 hne
  have hwv : ∀ i, i < w.length → qwi i = nI ((fun i => w.getD i 0) i) := hw
  have hbw : ∀ i, (fun i => w.getD i 0) i < 256 := by
    intro i
    show w.getD i 0 < 256
    by_cases z : i < w.length
    · exact hby _ (hc_gm w i z)
    · rw [List.getD_eq_getElem?_getD, List.getElem?_eq_none (by omega)]
      decide
  have hrc : rcap ≤ 128 := hb.2.2.2.2.1
  unfold wpX_decodeBlock
  refine hx_copyTable (T := T) (a := 1) (b := 2) hm (by omega) (by omega) (by omega) rfl rfl (fun oc ln hm' => ⟨257, ?_⟩)
  unfold hc_dv at HF H0
  refine hx_bl (wv := fun i => w.getD i 0) (T0 := T) (cn0 := qcn) (hd0 := qhd) (sz0 := qsz) (cp0 := qcp) (n := w.length) (mf := mf) (lim := lim) (low := low) (rcap := rcap) hwl hwv hbw hC hK hS hb.2.2.1 hmf hli hlo hrc 256 (rtb, rcap, [], 0, if low < rcap then 1 else 0) (hx_ct T 1 2 16) oc ln _ _ _ _ _ _ 0 (by omega) hm' ?_ ?_ 257 (by omega)
  · refine ⟨⟨fun x hx => if_neg (by omega), fun j hj => ⟨pk_un hj, pk_un hj, pk_un hj, pk_un hj⟩⟩, ⟨hx_ctb hb, fun i hi => absurd hi (Nat.not_lt_zero i)⟩, Nat.zero_le _, Nat.zero_le _, ?_, by decide⟩
    show (if low < rcap then 1 else 0) = _
    by_cases z : low < rcap
    · rw [if_pos z, if_pos ⟨z, rfl⟩]
    · rw [if_neg z, if_neg (fun y => z y.1)]
  · intro oc ln cn hd sz cp df dc cu rv rs T' h1 h2 h3
    have fb := hc_fiB (w := fun i => w.getD i 0) (n := w.length) (lim := lim) (low := low) (mf := mf) 256 (rtb, rcap, [], 0, if low < rcap then 1 else 0) (Nat.zero_le _)
    by_cases z : hc_fi (hc_bl (fun i => w.getD i 0) w.length lim low mf 256 (rtb, rcap, [], 0, if low < rcap then 1 else 0)) = 0
    · obtain ⟨g1, g2, g3⟩ := h3 z
      rw [z]
      refine br_t rfl ?_
      generalize hc_bl (fun i => w.getD i 0) w.length lim low mf 256 (rtb, rcap, [], 0, if low < rcap then 1 else 0) = R at H0 g1 g2 g3 z
      subst g1
      refine hx_copyTable (T := T') (a := 2) (b := 1) h1 (by omega) (by omega) (by omega) rfl rfl (fun oc ln hm' => ⟨R.2.2.2.1.length + 1, ?_⟩)
      refine hx_acl (T0 := hx_ct T' 2 1 16) (k := R.2.2.2.1.length) (lim := lim) (by omega) (fun oc ln gf T2 q1 q2 q3 => ?_) R.2.2.2.1.length 0 (hx_ct T' 2 1 16) oc ln _ (by omega) hm' (fun _ _ => rfl) (fun j hj => absurd hj (by omega)) _ (by omega)
      refine H0 z g2 oc ln _ _ _ _ gf _ _ _ _ _ T2 q1 (fun x hx => ?_) ⟨?_, ?_, ?_, ?_⟩ (hx_tabC (hx_ctb g3.1) rfl rfl rfl rfl (fun x _ _ => q2 x (by omega))) (fun i hi => ?_)
      · rw [q2 x (by omega), show hx_ct T' 2 1 16 x = T' x from if_neg (by omega)]
        exact h2.1 x (by omega)
      · exact (pk_un (by omega)).trans (h2.2 0 (by omega)).1
      · exact (pk_un (by omega)).trans (h2.2 0 (by omega)).2.1
      · exact (pk_un (by omega)).trans (h2.2 0 (by omega)).2.2.1
      · exact (pk_un (by omega)).trans (h2.2 0 (by omega)).2.2.2
      · have q := g3.2 i hi
        refine ⟨(q3 i hi).1.trans ((hc_flc ?_ ?_).trans q.1), (q3 i hi).2.trans q.2⟩
        · exact if_neg (by omega)
        · exact if_neg (by omega)
    · exact br_f (nI_ne0 (by omega) (by omega)) (HF z oc ln cn hd sz cp df dc cu rv rs T' h1 h2)
end
end
section
section
variable {zfl zmf zwl zpo zfa zfi zin : Int32} {zce znu zca zse zwi zle zwo : Nat → Int32}
theorem hy_f209 {post : SY → Prop} {T : Nat → List Nat} {mk : Nat → Nat} {k o fm cap : Nat} {tb : List hc_Fd} {x1 z0 x3 z1 : Int32} (hm : hy_M zce T mk) (hk : k < 6) (ho : o < 256) (hf : fm = hc_fm o) (en : znu 6 = nI k) (hb : hy_tab T znu zca 5 tb cap) (e1 : x1 = nI o) (e0 : z0 = nI fm) (e3 : x3 = nI (35 * (192 + k))) (e4 : z1 = nI (35 * (192 + k) + 34)) (H : ∀ C nu T' mk', hy_M C T' mk' → (∀ z, z < 320 ∨ 384 ≤ z → T' z = T z) → (∀ r, r < 160 ∨ 192 ≤ r → mk' r = hy_um mk (192 + k) fm r) → (∀ j, j ≠ 5 → j ≠ 6 → nu j = znu j) → nu 6 = nI (k + 1) → hy_tab T' nu zca 5 (if fm = 1 then hc_in tb (hc_fl T (192 + k)) cap else tb) cap → post (zfl, zmf, zwl, zpo, zfa, zfi, zin, C, nu, zca, zse, zwi, zle, zwo)) : wY_readField_209 post x1 x3 z0 z1 zfl zmf zwl zpo zfa zfi zin zce znu zca zse zwi zle zwo := by
  subst e1 e0 e3 e4
  have hL := hy_tabL hb
  have hm' := hy_mK (r := 192 + k) (v := fm) hm
  have hb' : hy_tab T (upd znu 6 (nI (k + 1))) zca 5 tb cap := hy_tabC hb hL (pk_un (by omega)) rfl (fun _ _ _ => rfl)
  refine And.intro (vp_in_nI (by omega) (by decide)) (nm_r (hc_up (w := nI fm) rfl (by omega) rfl) (nm_r (congrArg (upd znu 6) (hc_add en rfl)) ?_))
  have g : fm ≠ 1 → post (zfl, zmf, zwl, zpo, zfa, zfi, zin, upd zce (35 * (192 + k) + 34) (nI fm), upd znu 6 (nI (k + 1)), zca, zse, zwi, zle, zwo) := by
    intro z
    rw [if_neg z] at H
    exact H _ _ T _ hm' (fun _ _ => rfl) (fun _ _ => rfl) (fun j _ h => pk_un h) pk_us hb'
  have hfm : fm = 1 ↔ 64 ≤ o ∧ o < 128 := by
    rw [hf]
    unfold hc_fm
    repeat' split
    all_goals omega
  refine pk_lt o 64 (fun z => g (by omega)) (fun z => pk_le 128 o (fun y => g (by omega)) (fun y => ?_))
  rw [if_pos (by omega)] at H
  refine hy_insert (T := T) (t := 5) (s := 192 + k) (tb := tb) (cap := cap) hm' (by omega) (by omega) (by omega) hb' rfl rfl (fun C nu T' mk' h1 h2 h3 h4 h5 => ?_)
  exact H C nu T' mk' h1 (fun z hz => h2 z (by omega)) (fun r hr => h3 r (by omega)) (fun j j1 j2 => (h4 j j1).trans (pk_un j2)) ((h4 6 (by omega)).trans pk_us) h5
theorem hy_f161 {post : SY → Prop} {T : Nat → List Nat} {mk : Nat → Nat} {k o cap : Nat} {tb : List hc_Fd} {x1 x3 : Int32} (hm : hy_M zce T mk) (hk : k < 6) (ho : o < 256) (en : znu 6 = nI k) (hb : hy_tab T znu zca 5 tb cap) (e1 : x1 = nI o) (e3 : x3 = nI (35 * (192 + k))) (H : ∀ C nu T' mk', hy_M C T' mk' → (∀ z, z < 320 ∨ 384 ≤ z → T' z = T z) → (∀ r, r < 160 ∨ 192 ≤ r → mk' r = hy_um mk (192 + k) (hc_fm o) r) → (∀ j, j ≠ 5 → j ≠ 6 → nu j = znu j) → nu 6 = nI (k + 1) → hy_tab T' nu zca 5 (if hc_fm o = 1 then hc_in tb (hc_fl T (192 + k)) cap else tb) cap → post (zfl, zmf, zwl, zpo, 0, zfi, zin, C, nu, zca, zse, zwi, zle, zwo)) : wY_readField_161 post x1 x3 zfl zmf zwl zpo 0 zfi zin zce znu zca zse zwi zle zwo := by
  subst e1 e3
  have e34 : nI (35 * (192 + k)) + 34 = nI (35 * (192 + k) + 34) := hc_add rfl rfl
  refine br_t rfl ?_
  have g : ∀ (z0 : Int32), z0 = nI (hc_fm o) → wY_readField_209 post (nI o) (nI (35 * (192 + k))) z0 (nI (35 * (192 + k)) + 34) zfl zmf zwl zpo 0 zfi zin zce znu zca zse zwi zle zwo := fun z0 e0 => hy_f209 (T := T) (mk := mk) (fm := hc_fm o) hm hk ho rfl en hb rfl e0 rfl e34 H
  refine pk_lt o 128 (fun z => ?_) (fun z => ?_)
  · refine pk_lt o 64 (fun y => ?_) (fun y => ?_)
    · refine pk_lt o 16 (fun x => ?_) (fun x => ?_)
      · exact g _ (by unfold hc_fm; rw [if_neg (by omega), if_neg (by omega), if_neg (by omega)]; rfl)
      · exact g _ (by unfold hc_fm; rw [if_neg (by omega), if_neg (by omega), if_pos (by omega)]; rfl)
    · exact g _ (by unfold hc_fm; rw [if_neg (by omega), if_pos (by omega)]; rfl)
  · exact g _ (by unfold hc_fm; rw [if_pos (by omega)]; rfl)
theorem hy_f139F {post : SY → Prop} {x1 x3 : Int32} {fa : Nat} (h1 : 0 < fa) (h2 : fa < 2 ^ 31) (H : post (zfl, zmf, zwl, zpo, nI fa, zfi, zin, zce, znu, zca, zse, zwi, zle, zwo)) : wY_readField_139 post x1 x3 zfl zmf zwl zpo (nI fa) zfi zin zce znu zca zse zwi zle zwo := br_f (nI_ne0 h1 h2) (br_f (nI_ne0 h1 h2) H)
/-- the value behind the name -/
theorem hy_f139 {post : SY → Prop} {wv : Nat → Nat} {T : Nat → List Nat} {mk : Nat → Nat} {n q k o cap : Nat} {tb : List hc_Fd} {x1 x3 : Int32} (hn : n ≤ 256) (hw : ∀ i, i < n → zwi i = nI (wv i)) (hbw : ∀ i, wv i < 256) (hC : hx_C zwo zle) (hm : hy_M zce T mk) (hk : k < 6) (ho : o < 128) (hq : q ≤ n) (en : znu 6 = nI k) (hb : hy_tab T znu zca 5 tb cap) (e1 : x1 = nI o) (e3 : x3 = nI (35 * (192 + k)))
    (H0 : (hc_d3 (T (2 * (192 + k))) (hc_rs wv n q)).1 = 0 → ∀ C nu T' mk', hy_M C T' mk' → (∀ z, z < 320 ∨ 384 ≤ z → z ≠ 2 * (192 + k) + 1 → T' z = T z) → (∀ r, r < 160 ∨ 192 ≤ r → mk' r = hy_um mk (192 + k) (hc_fm o) r) → (∀ j, j ≠ 5 → j ≠ 6 → nu j = znu j) → nu 6 = nI (k + 1) → hy_tab T' nu zca 5 (if hc_fm o = 1 then hc_in tb (hc_d3 (T (2 * (192 + k))) (hc_rs wv n q)).2.1 cap else tb) cap → hc_fl T' (192 + k) = (hc_d3 (T (2 * (192 + k))) (hc_rs wv n q)).2.1 → post (zfl, zmf, nI n, nI (hc_d3 (T (2 * (192 + k))) (hc_rs wv n q)).2.2, 0, zfi, zin, C, nu, zca, zse, zwi, zle, zwo))
    (HF : (hc_d3 (T (2 * (192 + k))) (hc_rs wv n q)).1 ≠ 0 → ∀ C po T', hy_M C T' mk → (∀ z, z ≠ 2 * (192 + k) + 1 → T' z = T z) → post (zfl, zmf, nI n, po, nI (hc_d3 (T (2 * (192 + k))) (hc_rs wv n q)).1, zfi, zin, C, znu, zca, zse, zwi, zle, zwo)) : wY_readField_139 post x1 x3 zfl zmf (nI n) (nI q) 0 zfi zin zce znu zca zse zwi zle zwo := by
  subst e1 e3
  have hL := hy_tabL hb
  have e17 : nI (35 * (192 + k)) + 17 = nI (35 * (192 + k) + 17 * 1) := hc_add rfl rfl
  have rb := hc_rsB (w := wv) hq
  refine br_t rfl (pk_le 128 o (fun z => absurd z (by omega)) (fun _ => ?_))
  refine hy_readString (wv := wv) (T := T) (mk := mk) (n := n) (q := q) (r := 192 + k) (p := 1) hn hw hbw hC (by omega) (by omega) hq hm e17 (fun z C hm' => ?_) (fun z C po l hm' => ?_)
  · have ef : hc_fl (hc_ut T (2 * (192 + k) + 1) (hc_rs wv n q).2.1) (192 + k) = (T (2 * (192 + k)), (hc_rs wv n q).2.1) := by
      unfold hc_fl
      rw [hc_us, hc_un (by omega)]
    refine hy_f161 (T := hc_ut T (2 * (192 + k) + 1) (hc_rs wv n q).2.1) (mk := mk) (tb := tb) (cap := cap) hm' hk (by omega) en (hy_tabC hb hL rfl rfl (fun x _ _ => hc_un (by omega))) rfl rfl (fun C nu T' mk' h1 h2 h3 h4 h5 h6 => ?_)
    rw [ef] at h6
    exact H0 z C nu T' mk' h1 (fun x hx h => (h2 x hx).trans (hc_un h)) h3 h4 h5 h6 ((hc_flc (h2 _ (by omega)) (h2 _ (by omega))).trans ef)
  · exact br_f (nI_ne0 (by omega) (by omega)) (HF z C po _ hm' (fun x h => hc_un h))
theorem hy_f88F {post : SY → Prop} {x1 x2 : Int32} {fa : Nat} (h1 : 0 < fa) (h2 : fa < 2 ^ 31) (H : post (zfl, zmf, zwl, zpo, nI fa, zfi, zin, zce, znu, zca, zse, zwi, zle, zwo)) : wY_readField_88 post x1 x2 zfl zmf zwl zpo (nI fa) zfi zin zce znu zca zse zwi zle zwo := br_f (nI_ne0 h1 h2) H
theorem hy_f47 {post : SY → Prop} {wv : Nat → Nat} {T : Nat → List Nat} {mk : Nat → Nat} {n p o k cap : Nat} {tb : List hc_Fd} {x1 z0 z1 : Int32} (hn : n ≤ 256) (hw : ∀ i, i < n → zwi i = nI (wv i)) (hbw : ∀ i, wv i < 256) (hC : hx_C zwo zle) (hS : hy_S T) (hm : hy_M zce T mk) (hb : hy_tab T znu zca 5 tb cap) (hk : k < 6) (hp : p ≤ n) (ho : o < 256) (en : znu 6 = nI k) (e1 : x1 = nI o) (e2 : z0 = nI (hc_fb o)) (e3 : z1 = nI o)
    (H0 : (hc_d2 wv n tb o (hc_ri wv n p o (hc_fb o))).1 = 0 → ∀ C nu T' mk', hy_M C T' mk' → (∀ z, z < 320 ∨ 384 ≤ z → z ≠ 2 * (192 + k) → z ≠ 2 * (192 + k) + 1 → T' z = T z) → (∀ r, r < 160 ∨ 192 ≤ r → mk' r = hy_um mk (192 + k) (hc_fm o) r) → (∀ j, j ≠ 5 → j ≠ 6 → nu j = znu j) → nu 6 = nI (k + 1) → hy_tab T' nu zca 5 (if hc_fm o = 1 then hc_in tb (hc_d2 wv n tb o (hc_ri wv n p o (hc_fb o))).2.1 cap else tb) cap → hc_fl T' (192 + k) = (hc_d2 wv n tb o (hc_ri wv n p o (hc_fb o))).2.1 → post (zfl, zmf, nI n, nI (hc_d2 wv n tb o (hc_ri wv n p o (hc_fb o))).2.2, 0, zfi, zin, C, nu, zca, zse, zwi, zle, zwo))
    (HF : (hc_d2 wv n tb o (hc_ri wv n p o (hc_fb o))).1 ≠ 0 → ∀ C po T', hy_M C T' mk → (∀ z, z ≠ 2 * (192 + k) → z ≠ 2 * (192 + k) + 1 → T' z = T z) → post (zfl, zmf, nI n, po, nI (hc_d2 wv n tb o (hc_ri wv n p o (hc_fb o))).1, zfi, zin, C, znu, zca, zse, zwi, zle, zwo)) : wY_readField_47 post x1 z0 z1 zfl zmf (nI n) (nI p) 0 zfi zin zce znu zca zse zwi zle zwo := by
  subst e1 e2 e3
  have hL := hy_tabL hb
  have hfb := hc_fbB o
  obtain ⟨t1, t2, t3, t4, t5⟩ := id hb
  obtain ⟨b1, b2, b3, b4⟩ := hc_riB wv n p o (hc_fb o) hfb hp
  unfold wY_readField_47
  refine hy_readInt (wv := wv) (n := n) (p := p) (o := o) (b := hc_fb o) hn hw hbw hp ho (by omega) rfl rfl (fun d => ?_) (fun d => ?_)
  · have q20 := hc_d2B (w := wv) (tb := tb) (o := o) b4 b2
    generalize hc_ri wv n p o (hc_fb o) = r at H0 HF b1 b2 b3 b4 d q20 ⊢
    unfold hc_d2 at H0 HF q20
    rw [if_neg (fun z => z d)] at H0 HF q20
    refine br_t rfl ?_
    have e14 : (14 : Int32) + znu 5 = nI (14 + tb.length) := hc_add rfl t1
    have g12 : 14 + tb.length < r.2.1 ∨ (r.2.1 = 0 ∧ 128 ≤ o) → wY_readField_88 post (nI o) (nI r.2.1) zfl zmf (nI n) (nI r.2.2) (nI 12) zfi zin zce znu zca zse zwi zle zwo := by
      intro z
      rw [if_pos z] at HF
      exact hy_f88F (by decide) (by decide) (HF (Nat.succ_ne_zero _) _ _ T hm (fun _ _ _ => rfl))
    have g : ¬ (14 + tb.length < r.2.1 ∨ (r.2.1 = 0 ∧ 128 ≤ o)) → wY_readField_88 post (nI o) (nI r.2.1) zfl zmf (nI n) (nI r.2.2) 0 zfi zin zce znu zca zse zwi zle zwo := by
      intro z
      rw [if_neg z] at H0 HF q20
      refine br_t rfl ?_
      refine hy_at (w := 6) (i := k) (by omega) (by omega) rfl en ?_
      rw [show hy_ro 6 k = 192 + k from if_neg (by omega)]
      refine hy_at (w := 5) (i := r.2.1) (by omega) (by omega) rfl rfl ?_
      refine pk_le r.2.1 0 (fun c => ?_) (fun c => ?_)
      · have c0 : r.2.1 = 0 := by omega
        rw [if_neg (by omega), if_pos c0] at H0 HF q20
        have rb := hc_rsB (w := wv) b2
        unfold hc_d4 at H0 HF q20
        refine hy_readString (wv := wv) (T := T) (mk := mk) (n := n) (q := r.2.2) (r := 192 + k) (p := 0) hn hw hbw hC (by omega) (by omega) b2 hm rfl (fun y C hm' => ?_) (fun y C po l hm' => ?_)
        · rw [if_neg (fun x => x y)] at H0 HF
          have en2 : (hc_ut T (2 * (192 + k) + 0) (hc_rs wv n r.2.2).2.1) (2 * (192 + k)) = (hc_rs wv n r.2.2).2.1 := hc_us
          refine hy_f139 (wv := wv) (T := hc_ut T (2 * (192 + k) + 0) (hc_rs wv n r.2.2).2.1) (mk := mk) (n := n) (q := (hc_rs wv n r.2.2).2.2) (tb := tb) (cap := cap) hn hw hbw hC hm' hk (by omega) (rb.2 y) en (hy_tabC hb hL rfl rfl (fun x _ _ => hc_un (by omega))) rfl rfl ?_ ?_
          · rw [en2]
            exact fun y C nu T' mk' h1 h2 h3 h4 h5 h6 h7 => H0 y C nu T' mk' h1 (fun x hx q1 q2 => (h2 x hx q2).trans (hc_un q1)) h3 h4 h5 h6 h7
          · rw [en2]
            exact fun y C po T' h1 h2 => HF y C po T' h1 (fun x q1 q2 => (h2 x q2).trans (hc_un q1))
        · rw [if_pos y] at HF
          exact hy_f139F (by omega) (by omega) (HF y C po _ hm' (fun x q1 _ => hc_un q1))
      · have eE := hy_ent (t := 5) (i := r.2.1) (by omega) hS t5 (by omega) (by omega)
        have bE := hy_roB (t := 5) (i := r.2.1) (by omega) (by omega)
        have hro : hy_ro 5 r.2.1 < 192 ∨ 224 ≤ hy_ro 5 r.2.1 := by
          unfold hy_ro
          split <;> omega
        refine hy_copy (a := 35 * hy_ro 5 r.2.1) (b := 35 * (192 + k)) (n := 34) (by omega) (by omega) (by omega) rfl rfl rfl (fun C hc => ?_)
        have hm' := hy_mR hm hc
        rw [eE] at hm'
        have en2 : (hc_uf T (192 + k) (hc_et tb r.2.1)) (2 * (192 + k)) = (hc_et tb r.2.1).1 := by
          have := congrArg Prod.fst (hc_ufs (T := T) (s := 192 + k) (f := hc_et tb r.2.1))
          exact this
        by_cases c2 : 128 ≤ o
        · rw [if_pos c2] at H0
          refine br_t rfl (pk_le 128 o (fun _ => ?_) (fun y => absurd y (by omega)))
          refine hy_f161 (T := hc_uf T (192 + k) (hc_et tb r.2.1)) (mk := mk) (tb := tb) (cap := cap) hm' hk ho en (hy_tabC hb hL rfl rfl (fun x _ _ => hc_ufn (by omega) (by omega))) rfl rfl (fun C nu T' mk' h1 h2 h3 h4 h5 h6 => ?_)
          rw [hc_ufs] at h6
          exact H0 rfl C nu T' mk' h1 (fun x hx q1 q2 => (h2 x hx).trans (hc_ufn q1 q2)) h3 h4 h5 h6 ((hc_flc (h2 _ (by omega)) (h2 _ (by omega))).trans hc_ufs)
        · rw [if_neg c2, if_neg (by omega)] at H0 HF
          refine hy_f139 (wv := wv) (T := hc_uf T (192 + k) (hc_et tb r.2.1)) (mk := mk) (n := n) (q := r.2.2) (tb := tb) (cap := cap) hn hw hbw hC hm' hk (by omega) b2 en (hy_tabC hb hL rfl rfl (fun x _ _ => hc_ufn (by omega) (by omega))) rfl rfl ?_ ?_
          · rw [en2]
            exact fun y C nu T' mk' h1 h2 h3 h4 h5 h6 h7 => H0 y C nu T' mk' h1 (fun x hx q1 q2 => (h2 x hx q2).trans (hc_ufn q1 q2)) h3 h4 h5 h6 h7
          · rw [en2]
            exact fun y C po T' h1 h2 => HF y C po T' h1 (fun x q1 q2 => (h2 x q2).trans (hc_ufn q1 q2))
    refine pk_lt (14 + tb.length) r.2.1 (fun z => g12 (Or.inl z)) (fun z => ?_) e14
    refine pk_eq r.2.1 0 (fun c => pk_lt o 128 (fun y => g (by omega)) (fun y => g12 (Or.inr ⟨c, y⟩))) (fun c => g (by omega))
  · generalize hc_ri wv n p o (hc_fb o) = r at H0 HF b1 b2 b3 b4 d ⊢
    unfold hc_d2 at HF
    rw [if_pos d] at HF
    exact br_f (nI_ne0 (by omega) (by omega)) (hy_f88F (by omega) (by omega) (HF d _ _ T hm (fun _ _ _ => rfl)))
theorem hy_readField {post : SY → Prop} {wv : Nat → Nat} {T : Nat → List Nat} {mk : Nat → Nat} {n p o k cap mf : Nat} {tb : List hc_Fd} {x1 : Int32} (hn : n ≤ 256) (hw : ∀ i, i < n → zwi i = nI (wv i)) (hbw : ∀ i, wv i < 256) (hC : hx_C zwo zle) (hS : hy_S T) (hm : hy_M zce T mk) (hb : hy_tab T znu zca 5 tb cap) (hk : k ≤ 6) (hmf : mf ≤ 6) (hp : p ≤ n) (ho : o < 256) (en : znu 6 = nI k) (e1 : x1 = nI o)
    (H0 : (hc_df wv n mf tb k o p).1 = 0 → ∀ C nu T' mk', hy_M C T' mk' → (∀ z, z < 320 ∨ 384 ≤ z → z ≠ 2 * (192 + k) → z ≠ 2 * (192 + k) + 1 → T' z = T z) → (∀ r, r < 160 ∨ 192 ≤ r → mk' r = hy_um mk (192 + k) (hc_fm o) r) → (∀ j, j ≠ 5 → j ≠ 6 → nu j = znu j) → nu 6 = nI (k + 1) → hy_tab T' nu zca 5 (if hc_fm o = 1 then hc_in tb (hc_df wv n mf tb k o p).2.1 cap else tb) cap → hc_fl T' (192 + k) = (hc_df wv n mf tb k o p).2.1 → post (zfl, nI mf, nI n, nI (hc_df wv n mf tb k o p).2.2, 0, zfi, zin, C, nu, zca, zse, zwi, zle, zwo))
    (HF : (hc_df wv n mf tb k o p).1 ≠ 0 → ∀ C po T', hy_M C T' mk → (∀ z, z < 384 ∨ 448 ≤ z → T' z = T z) → post (zfl, nI mf, nI n, po, nI (hc_df wv n mf tb k o p).1, zfi, zin, C, znu, zca, zse, zwi, zle, zwo)) : wpY_readField post (zfl, nI mf, nI n, nI p, 0, zfi, zin, zce, znu, zca, zse, zwi, zle, zwo) x1 := by
  subst e1
  unfold hc_df at H0 HF
  refine pk_lt k mf (fun c => ?_) (fun c => ?_) en
  · rw [if_neg (by omega)] at H0 HF
    have g : ∀ (x2 : Int32), x2 = nI (hc_fb o) → wY_readField_47 post (nI o) x2 (nI o) zfl (nI mf) (nI n) (nI p) 0 zfi zin zce znu zca zse zwi zle zwo := fun x2 e2 => hy_f47 hn hw hbw hC hS hm hb (by omega) hp ho en rfl e2 rfl H0 (fun z C po T' h1 h2 => HF z C po T' h1 (fun x hx => h2 x (by omega) (by omega)))
    refine pk_lt o 128 (fun z => ?_) (fun z => ?_)
    · refine pk_lt o 64 (fun y => ?_) (fun y => ?_)
      · exact g _ (by unfold hc_fb; rw [if_neg (by omega), if_neg (by omega)]; rfl)
      · exact g _ (by unfold hc_fb; rw [if_neg (by omega), if_pos (by omega)]; rfl)
    · exact g _ (by unfold hc_fb; rw [if_pos (by omega)]; rfl)
  · rw [if_pos c] at HF
    exact HF (Nat.succ_ne_zero _) _ _ T hm (fun _ _ => rfl)
end
end
section
section
variable {zfl zmf zwl zpo zfa zfi zin : Int32} {zce znu zca zse zwi zle zwo : Nat → Int32}
def hy_E (T0 T : Nat → List Nat) (mk0 mk : Nat → Nat) (nu0 ca0 nu ca : Nat → Int32) : Prop := (∀ x, x < 320 ∨ 448 ≤ x → T x = T0 x) ∧ (∀ r, r < 160 ∨ 224 ≤ r → mk r = mk0 r) ∧ ∀ j, j ≠ 5 → j ≠ 6 → nu j = nu0 j ∧ ca j = ca0 j
def hy_Q (T : Nat → List Nat) (mk : Nat → Nat) (nu ca : Nat → Int32) (D : hc_Dr) : Prop := hy_tab T nu ca 5 D.1 D.2.1 ∧ nu 6 = nI D.2.2.1.length ∧ ∀ i, i < D.2.2.1.length → hc_fl T (192 + i) = (D.2.2.1.getD i (hc_f0, 0)).1 ∧ mk (192 + i) = (D.2.2.1.getD i (hc_f0, 0)).2
def hy_D (T0 T : Nat → List Nat) (mk0 mk : Nat → Nat) (nu0 ca0 nu ca : Nat → Int32) (n mf : Nat) (D : hc_Dr) : Prop := hy_E T0 T mk0 mk nu0 ca0 nu ca ∧ hy_Q T mk nu ca D ∧ D.2.2.1.length ≤ mf ∧ D.2.2.2.1 ≤ n ∧ D.2.2.2.2 < 2
theorem hy_ES {T0 T : Nat → List Nat} {mk0 mk : Nat → Nat} {nu0 ca0 nu ca : Nat → Int32} (h : hy_E T0 T mk0 mk nu0 ca0 nu ca) (hS : hy_S T0) : hy_S T := by
  intro k hk
  rw [← hS k hk]
  exact hc_flc (h.1 _ (by omega)) (h.1 _ (by omega))
/-- whether a field has been seen -/
def hy_sn (k : Nat) : Nat := if k = 0 then 0 else 1
theorem hy_210F {post : Int32 → SY → Prop} {x1 x2 : Int32} {fa : Nat} (h1 : 0 < fa) (h2 : fa < 2 ^ 31) (H : post (nI fa) (zfl, zmf, zwl, zpo, nI fa, zfi, zin, zce, znu, zca, zse, zwi, zle, zwo)) : wY_deliver_210 post x1 x2 zfl zmf zwl zpo (nI fa) zfi zin zce znu zca zse zwi zle zwo := br_f (nI_ne0 h1 h2) H
theorem hy_58F {post : Int32 → SY → Prop} {x1 x2 x3 : Int32} {fa f : Nat} (h1 : 0 < fa) (h2 : fa < 2 ^ 31) (hf : 0 < f) (H : post (nI fa) (zfl, zmf, zwl, zpo, nI fa, zfi, zin, zce, znu, zca, zse, zwi, zle, zwo)) : wY_deliver_58 post f x1 x2 x3 zfl zmf zwl zpo (nI fa) zfi zin zce znu zca zse zwi zle zwo := by
  obtain ⟨f, rfl⟩ : ∃ g, f = g + 1 := ⟨f - 1, by omega⟩
  exact br_c (fun _ => hy_210F h1 h2 H) (fun _ => br_c (fun _ => hy_210F h1 h2 H) (fun _ => br_f (nI_ne0 h1 h2) (hy_210F h1 h2 H)))
theorem hy_210 {post : Int32 → SY → Prop} {D : hc_Dr} {n mf : Nat} {T0 T : Nat → List Nat} {mk0 mk : Nat → Nat} {nu0 ca0 : Nat → Int32} (hm : hy_M zce T mk) (hD : hy_D T0 T mk0 mk nu0 ca0 znu zca n mf D) (hmf : mf ≤ 6) (H15 : hc_fi (0, D) = 15 → post 15 (zfl, zmf, zwl, zpo, 0, zfi, zin, zce, znu, zca, zse, zwi, zle, zwo)) (H0 : hc_fi (0, D) = 0 → ∀ C, hy_M C (hy_pt (hy_pt T 5 4) 6 2) (hy_pm (hy_pm mk 5 4) 6 2) → post 0 (zfl, zmf, 0, zpo, 0, zfi, zin, C, upd (upd znu 4 (znu 5)) 2 (znu 6), upd (upd zca 4 (zca 5)) 2 (zca 6), upd zse 1 (zse 0), zwi, zle, zwo)) : wY_deliver_210 post (nI D.2.2.2.2) (nI (hy_sn D.2.2.1.length)) zfl zmf zwl zpo 0 zfi zin zce znu zca zse zwi zle zwo := by
  obtain ⟨hE, hQ, d1, d2, d3⟩ := hD
  unfold hc_fi at H15 H0
  rw [if_neg (fun y => y rfl)] at H15 H0
  have g : ¬ (D.2.2.1.length = 0 ∧ D.2.2.2.2 ≠ 0) → wY_deliver_233 post zfl zmf zwl zpo 0 zfi zin zce znu zca zse zwi zle zwo := by
    intro z
    rw [if_neg z] at H0
    unfold wY_deliver_233
    refine hy_copyPlace (T := T) (mk := mk) (a := 5) (b := 4) hm (by omega) (by omega) (by omega) rfl rfl (fun C hm' => ?_)
    refine hy_copyPlace (a := 6) (b := 2) hm' (by omega) (by omega) (by omega) rfl rfl (fun C hm' => nm_e ?_)
    exact H0 rfl C hm'
  refine br_t rfl ?_
  unfold hy_sn
  by_cases c : D.2.2.1.length = 0
  · rw [if_pos c]
    refine br_t rfl (pk_eq D.2.2.2.2 0 (fun z => g (fun y => y.2 z)) (fun z => ?_))
    rw [if_pos ⟨c, z⟩] at H15
    exact H15 rfl
  · rw [if_neg c]
    exact br_f (by decide) (g (fun y => c y.1))
theorem hy_bl {post : Int32 → SY → Prop} {wv : Nat → Nat} {T0 : Nat → List Nat} {mk0 : Nat → Nat} {nu0 ca0 : Nat → Int32} {n mf lim low : Nat} (hn : n ≤ 256) (hw : ∀ i, i < n → zwi i = nI (wv i)) (hbw : ∀ i, wv i < 256) (hC : hx_C zwo zle) (hS : hy_S T0) (hmf : mf ≤ 6) (hli : lim ≤ 128) (hlo : low ≤ 128) (s0 : zse 0 = nI lim) (s1 : zse 1 = nI low) : ∀ k D T mk C nu ca, k ≤ 256 → hy_M C T mk → hy_D T0 T mk0 mk nu0 ca0 nu ca n mf D → (hc_fi (hc_bl wv n lim low mf k D) ≠ 0 → ∀ C nu ca po fa T' mk', hy_M C T' mk' → hy_E T0 T' mk0 mk' nu0 ca0 nu ca → post (nI (hc_fi (hc_bl wv n lim low mf k D))) (zfl, nI mf, nI n, po, fa, zfi, zin, C, nu, ca, zse, zwi, zle, zwo)) → (hc_fi (hc_bl wv n lim low mf k D) = 0 → (hc_bl wv n lim low mf k D).2.2.2.1.length ≤ mf → ∀ C nu ca po T' mk', hy_E T0 T' mk0 mk' nu0 ca0 nu ca → hy_Q T' mk' nu ca (hc_bl wv n lim low mf k D).2 → hy_M C (hy_pt (hy_pt T' 5 4) 6 2) (hy_pm (hy_pm mk' 5 4) 6 2) → post 0 (zfl, nI mf, 0, po, 0, zfi, zin, C, upd (upd nu 4 (nu 5)) 2 (nu 6), upd (upd ca 4 (ca 5)) 2 (ca 6), upd zse 1 (zse 0), zwi, zle, zwo)) → ∀ f, k + 1 < f → wY_deliver_58 post f (nI D.2.2.2.2) (nI (hy_sn D.2.2.1.length)) (nI (256 - k)) zfl (nI mf) (nI n) (nI D.2.2.2.1) 0 zfi zin C nu ca zse zwi zle zwo := by
  intro k
  induction k with
  | zero =>
    intro D T mk C nu ca hk hm hD HF H0 f hf
    obtain ⟨f, rfl⟩ : ∃ g, f = g + 1 := ⟨f - 1, by omega⟩
    refine pk_le 256 256 (fun _ => ?_) (fun z => absurd z (by omega))
    refine hy_210 hm hD hmf (fun z => ?_) (fun z C' hm' => ?_)
    · have HF := HF (by show hc_fi (0, D) ≠ 0; omega) C nu ca (nI D.2.2.2.1) 0 T mk hm hD.1
      rw [show hc_fi (hc_bl wv n lim low mf 0 D) = 15 from z] at HF
      exact HF
    · exact H0 z hD.2.2.1 C' nu ca _ T mk hD.1 hD.2.1 hm'
  | succ k ih =>
    intro D T mk C nu ca hk hm hD HF H0 f hf
    obtain ⟨f, rfl⟩ : ∃ g, f = g + 1 := ⟨f - 1, by omega⟩
    have d2 := hD.2.2.2.1
    have hwp := hbw D.2.2.2.1
    have fE : hc_fi (0, D) = 15 ∨ hc_fi (0, D) = 0 := by
      unfold hc_fi
      rw [if_neg (fun y => y rfl)]
      split
      · exact Or.inl rfl
      · exact Or.inr rfl
    unfold hc_bl at HF H0
    refine pk_le 256 (256 - (k + 1)) (fun z => absurd z (by omega)) (fun _ => ?_)
    refine pk_le n D.2.2.2.1 (fun c => ?_) (fun c => br_t rfl (nm_r (nI_1 _) (And.intro (vp_in_nI (by omega) (by decide)) (nm_r (hc_at rfl (by omega) (hw _ c)) ?_))))
    · rw [if_pos c] at HF H0
      refine hy_210 hm hD hmf (fun z => ?_) (fun z C' hm' => ?_)
      · have HF := HF (by omega) C nu ca (nI D.2.2.2.1) 0 T mk hm hD.1
        rw [z] at HF
        exact HF
      · exact H0 z hD.2.2.1 C' nu ca _ T mk hD.1 hD.2.1 hm'
    · rw [if_neg (by omega)] at HF H0
      have sb := hc_spB (w := wv) (lim := lim) (low := low) (mf := mf) (D := D) (o := wv D.2.2.2.1) (show D.2.2.2.1 + 1 ≤ n by omega)
      have e1 : nI (256 - (k + 1)) + 1 = nI (256 - k) := hc_nx (nI_1 _) (by omega)
      have nF : ∀ (s : Nat × hc_Dr), s = hc_sp wv n lim low mf D (wv D.2.2.2.1) (D.2.2.2.1 + 1) → s.1 ≠ 0 → 0 < s.1 ∧ s.1 < 2 ^ 31 ∧ ∀ C nu ca po fa T' mk', hy_M C T' mk' → hy_E T0 T' mk0 mk' nu0 ca0 nu ca → post (nI s.1) (zfl, nI mf, nI n, po, fa, zfi, zin, C, nu, ca, zse, zwi, zle, zwo) := by
        intro s es z
        rw [← es] at HF sb
        rw [if_pos z] at HF
        have e : hc_fi s = s.1 := by
          unfold hc_fi
          rw [if_pos z]
        rw [e] at HF
        exact ⟨by omega, by omega, HF z⟩
      have n0 : ∀ (s : Nat × hc_Dr), s = hc_sp wv n lim low mf D (wv D.2.2.2.1) (D.2.2.2.1 + 1) → s.1 = 0 → ∀ T' mk' C nu ca, hy_M C T' mk' → hy_D T0 T' mk0 mk' nu0 ca0 nu ca n mf s.2 → wY_deliver_58 post f (nI s.2.2.2.2.2) (nI (hy_sn s.2.2.2.1.length)) (nI (256 - k)) zfl (nI mf) (nI n) (nI s.2.2.2.2.1) 0 zfi zin C nu ca zse zwi zle zwo := by
        intro s es z T' mk' C nu ca h1 h2
        rw [← es, if_neg (fun y => y z)] at HF H0
        exact ih s.2 T' mk' C nu ca (by omega) h1 h2 HF H0 f (by omega)
      obtain ⟨hE, hQ, g1, g2, g3⟩ := hD
      have hfl : ¬ (32 ≤ wv D.2.2.2.1 ∧ wv D.2.2.2.1 < 64) → wY_deliver_185 post (wY_deliver_58 post f) (nI D.2.2.2.2) (nI (hy_sn D.2.2.1.length)) (nI (256 - (k + 1))) (nI (wv D.2.2.2.1)) zfl (nI mf) (nI n) (nI (D.2.2.2.1 + 1)) 0 zfi zin C nu ca zse zwi zle zwo := by
        intro z
        have es : (if D.2.2.1.length = 0 ∧ D.2.2.2.2 ≠ 0 then (15, D) else hc_s2 (wv D.2.2.2.1) D (hc_df wv n mf D.1 D.2.2.1.length (wv D.2.2.2.1) (D.2.2.2.1 + 1))) = hc_sp wv n lim low mf D (wv D.2.2.2.1) (D.2.2.2.1 + 1) := (if_neg z).symm
        have g196 : ¬ (D.2.2.1.length = 0 ∧ D.2.2.2.2 ≠ 0) → wY_deliver_196 post (wY_deliver_58 post f) (nI D.2.2.2.2) (nI (256 - (k + 1))) (nI (wv D.2.2.2.1)) zfl (nI mf) (nI n) (nI (D.2.2.2.1 + 1)) 0 zfi zin C nu ca zse zwi zle zwo := by
          intro y
          rw [if_neg y] at es
          have db := hc_dfB (w := wv) (mf := mf) (tb := D.1) (k := D.2.2.1.length) (o := wv D.2.2.2.1) (show D.2.2.2.1 + 1 ≤ n by omega)
          unfold wY_deliver_196
          refine hy_readField (wv := wv) (T := T) (mk := mk) (n := n) (p := D.2.2.2.1 + 1) (o := wv D.2.2.2.1) (k := D.2.2.1.length) (mf := mf) (tb := D.1) (cap := D.2.1) hn hw hbw hC (hy_ES hE hS) hm hQ.1 (by omega) hmf (by omega) hwp hQ.2.1 rfl (fun z C nu' T' mk' h1 h2 h3 h4 h5 h6 h7 => nm_r e1 ?_) (fun z C po T' h1 h2 => nm_r e1 ?_)
          · generalize hc_df wv n mf D.1 D.2.2.1.length (wv D.2.2.2.1) (D.2.2.2.1 + 1) = d at es z h6 h7 db ⊢
            unfold hc_s2 at es
            rw [if_neg (fun y => y z)] at es
            have el : (D.2.2.1 ++ [(d.2.1, hc_fm (wv D.2.2.2.1))]).length = D.2.2.1.length + 1 := by
              rw [List.length_append]
              rfl
            have N := n0 _ es rfl T' mk' C nu' ca h1
            rw [el] at N
            rw [show hy_sn (D.2.2.1.length + 1) = 1 from if_neg (by omega)] at N
            refine N ⟨⟨fun x hx => (h2 x (by omega) (by omega) (by omega)).trans (hE.1 x hx), fun r hr => ?_, fun j j5 j6 => ⟨(h4 j j5 j6).trans (hE.2.2 j j5 j6).1, (hE.2.2 j j5 j6).2⟩⟩, ⟨h6, ?_, ?_⟩, ?_, (db.2 z).1, g3⟩
            · rw [h3 r (by omega)]
              unfold hy_um
              rw [if_neg (by have := (db.2 z).2; omega)]
              exact hE.2.1 r hr
            · show nu' 6 = nI (D.2.2.1 ++ [(d.2.1, hc_fm (wv D.2.2.2.1))]).length
              rw [el]
              exact h5
            · intro i hi
              have hi : i < D.2.2.1.length + 1 := by
                rw [← el]
                exact hi
              show hc_fl T' (192 + i) = ((D.2.2.1 ++ [(d.2.1, hc_fm (wv D.2.2.2.1))]).getD i (hc_f0, 0)).1 ∧ mk' (192 + i) = ((D.2.2.1 ++ [(d.2.1, hc_fm (wv D.2.2.2.1))]).getD i (hc_f0, 0)).2
              rw [hc_ga, h3 _ (by omega)]
              unfold hy_um
              by_cases e : i = D.2.2.1.length
              · subst e
                rw [if_neg (by omega), if_pos rfl, if_pos rfl]
                exact ⟨h7, rfl⟩
              · rw [if_pos (by omega), if_neg (by omega)]
                have q := hQ.2.2 i (by omega)
                exact ⟨(hc_flc (h2 _ (by omega) (by omega) (by omega)) (h2 _ (by omega) (by omega) (by omega))).trans q.1, q.2⟩
            · show (D.2.2.1 ++ [(d.2.1, hc_fm (wv D.2.2.2.1))]).length ≤ mf
              rw [el]
              exact (db.2 z).2
          · generalize hc_df wv n mf D.1 D.2.2.1.length (wv D.2.2.2.1) (D.2.2.2.1 + 1) = d at es z db ⊢
            unfold hc_s2 at es
            rw [if_pos z] at es
            obtain ⟨f1, f2, f3⟩ := nF _ es z
            exact hy_58F f1 f2 (by omega) (f3 C nu ca po _ T' mk h1 ⟨fun x hx => (h2 x (by omega)).trans (hE.1 x hx), hE.2⟩)
        unfold hy_sn
        by_cases c : D.2.2.1.length = 0
        · rw [if_pos c]
          refine br_t rfl (pk_eq D.2.2.2.2 0 (fun y => g196 (fun x => x.2 y)) (fun y => ?_))
          rw [if_pos ⟨c, y⟩] at es
          obtain ⟨f1, f2, f3⟩ := nF _ es (Nat.succ_ne_zero _)
          exact f3 C nu ca _ _ T mk hm hE
        · rw [if_neg c]
          exact br_f (by decide) (g196 (fun x => c x.1))
      refine pk_lt (wv D.2.2.2.1) 32 (fun z => hfl (by omega)) (fun z => pk_le 64 (wv D.2.2.2.1) (fun y => hfl (by omega)) (fun y => ?_))
      have es : (if 0 < D.2.2.1.length then (13, D) else hc_s1 lim low D (hc_ri wv n (D.2.2.2.1 + 1) (wv D.2.2.2.1) 5)) = hc_sp wv n lim low mf D (wv D.2.2.2.1) (D.2.2.2.1 + 1) := (if_pos ⟨z, y⟩).symm
      by_cases c0 : D.2.2.1.length = 0
      · rw [if_neg (by omega)] at es
        have sn0 : hy_sn D.2.2.1.length = 0 := if_pos c0
        rw [sn0]
        refine br_t rfl ?_
        obtain ⟨b1, b2, b3, b4⟩ := hc_riB wv n (D.2.2.2.1 + 1) (wv D.2.2.2.1) 5 (by decide) (by omega)
        have w169 : ∀ (x5 : Int32) (fa : Nat) (po : Int32), 0 < fa → fa < 2 ^ 31 → post (nI fa) (zfl, nI mf, nI n, po, nI fa, zfi, zin, C, nu, ca, zse, zwi, zle, zwo) → wY_deliver_155 post (wY_deliver_58 post f) (nI D.2.2.2.2) (nI 0) (nI (256 - (k + 1))) x5 zfl (nI mf) (nI n) po (nI fa) zfi zin C nu ca zse zwi zle zwo := by
          intro x5 fa po f1 f2 hpo
          exact br_f (nI_ne0 f1 f2) (br_c (fun _ => nm_e (hy_58F f1 f2 (by omega) hpo)) (fun _ => nm_e (hy_58F f1 f2 (by omega) hpo)))
        refine hy_readInt (wv := wv) (n := n) (p := D.2.2.2.1 + 1) (o := wv D.2.2.2.1) (b := 5) hn hw hbw (by omega) hwp (by decide) rfl rfl (fun d => br_t rfl ?_) (fun d => ?_)
        · generalize hc_ri wv n (D.2.2.2.1 + 1) (wv D.2.2.2.1) 5 = s at es b1 b2 b3 b4 d ⊢
          unfold hc_s1 at es
          rw [if_neg (fun x => x d)] at es
          refine pk_le s.2.1 lim (fun e => br_t rfl ?_) (fun e => ?_) rfl s0
          · rw [if_neg (by omega)] at es
            refine hy_setCapacity (T := T) (mk := mk) (t := 5) (c := s.2.1) (tb := D.1) (cap := D.2.1) hm (by omega) (by omega) hQ.1 rfl rfl (fun nu' ca' h1 h2 => ?_)
            have N := n0 _ es rfl T mk C nu' ca' hm ⟨⟨hE.1, hE.2.1, fun j j5 j6 => ⟨(h1 j j5).1.trans (hE.2.2 j j5 j6).1, (h1 j j5).2.trans (hE.2.2 j j5 j6).2⟩⟩, ⟨h2, (h1 6 (by omega)).1.trans hQ.2.1, hQ.2.2⟩, g1, b2, by show (if s.2.1 ≤ low then 0 else D.2.2.2.2) < 2; split <;> omega⟩
            rw [show hy_sn (hc_ev D.1 0 s.2.1, s.2.1, D.2.2.1, s.2.2, if s.2.1 ≤ low then 0 else D.2.2.2.2).2.2.1.length = 0 from sn0] at N
            refine pk_lt low s.2.1 (fun x => nm_r e1 ?_) (fun x => nm_r e1 ?_) s1
            · rw [if_neg (by omega)] at N
              exact N
            · rw [if_pos x] at N
              exact N
          · rw [if_pos e] at es
            obtain ⟨f1, f2, f3⟩ := nF _ es (Nat.succ_ne_zero _)
            exact w169 _ 14 _ (by decide) (by decide) (f3 C nu ca _ _ T mk hm hE)
        · generalize hc_ri wv n (D.2.2.2.1 + 1) (wv D.2.2.2.1) 5 = s at es b1 b2 b3 b4 d ⊢
          unfold hc_s1 at es
          rw [if_pos d] at es
          obtain ⟨f1, f2, f3⟩ := nF _ es d
          exact br_f (nI_ne0 f1 f2) (w169 _ s.1 _ f1 f2 (f3 C nu ca _ _ T mk hm hE))
      · rw [if_pos (by omega)] at es
        rw [show hy_sn D.2.2.1.length = 1 from if_neg c0]
        obtain ⟨f1, f2, f3⟩ := nF _ es (Nat.succ_ne_zero _)
        exact br_f (by decide) (f3 C nu ca _ _ T mk hm hE)
theorem hy_deliver {post : Int32 → SY → Prop} {w : List Nat} {T : Nat → List Nat} {mk : Nat → Nat} {mf lim low rcap : Nat} {rtb : List hc_Fd} (hC : hx_C zwo zle) (hS : hy_S T) (hm : hy_M zce T mk) (hw : hx_W zwi w) (hwl : w.length ≤ 256) (hby : hc_by w) (hb : hy_tab T znu zca 4 rtb rcap) (hmf : mf ≤ 6) (hli : lim ≤ 128) (hlo : low ≤ 128) (s0 : zse 0 = nI lim) (s1 : zse 1 = nI low)
    (H3 : w = [] → post 3 (zfl, nI mf, nI w.length, zpo, zfa, zfi, zin, zce, znu, zca, zse, zwi, zle, zwo))
    (HF : w ≠ [] → hc_fi (hc_dv (fun i => w.getD i 0) w.length lim low mf rtb rcap) ≠ 0 → ∀ C nu ca po fa T' mk', hy_M C T' mk' → hy_E T T' mk mk' znu zca nu ca → post (nI (hc_fi (hc_dv (fun i => w.getD i 0) w.length lim low mf rtb rcap))) (zfl, nI mf, nI w.length, po, fa, zfi, zin, C, nu, ca, zse, zwi, zle, zwo))
    (H0 : w ≠ [] → hc_fi (hc_dv (fun i => w.getD i 0) w.length lim low mf rtb rcap) = 0 → (hc_dv (fun i => w.getD i 0) w.length lim low mf rtb rcap).2.2.2.1.length ≤ mf → ∀ C nu ca po T' mk', hy_M C T' mk' → (∀ x, x < 128 ∨ (192 ≤ x ∧ x < 256) ∨ 448 ≤ x → T' x = T x) → (∀ r, r < 64 ∨ (96 ≤ r ∧ r < 128) → mk' r = mk r) → (∀ j, j = 0 ∨ j = 1 ∨ j = 3 → nu j = znu j ∧ ca j = zca j) → nu 2 = nI (hc_dv (fun i => w.getD i 0) w.length lim low mf rtb rcap).2.2.2.1.length → hy_tab T' nu ca 4 (hc_dv (fun i => w.getD i 0) w.length lim low mf rtb rcap).2.1 (hc_dv (fun i => w.getD i 0) w.length lim low mf rtb rcap).2.2.1 → (∀ i, i < (hc_dv (fun i => w.getD i 0) w.length lim low mf rtb rcap).2.2.2.1.length → hc_fl T' (64 + i) = ((hc_dv (fun i => w.getD i 0) w.length lim low mf rtb rcap).2.2.2.1.getD i (hc_f0, 0)).1 ∧ mk' (64 + i) = ((hc_dv (fun i => w.getD i 0) w.length lim low mf rtb rcap).2.2.2.1.getD i (hc_f0, 0)).2) → post 0 (zfl, nI mf, 0, po, 0, zfi, zin, C, nu, ca, upd zse 1 (zse 0), zwi, zle, zwo)) : wpY_deliver post (zfl, nI mf, nI w.length, zpo, zfa, zfi, zin, zce, znu, zca, zse, zwi, zle, zwo) := by
  refine pk_eq w.length 0 (fun c => H3 (List.length_eq_zero_iff.mp c)) (fun c => ?_)
  have hne : w ≠ [] := fun z => c (by rw [z]; rfl)
  have HF := HF hne
  have H0 := H0 hne
  have hL := hy_tabL hb
  have hbw : ∀ i, (fun i => w.getD i 0) i < 256 := by
    intro i
    show w.getD i 0 < 256
    by_cases z : i < w.length
    · exact hby _ (hc_gm w i z)
    · rw [List.getD_eq_getElem?_getD, List.getElem?_eq_none (by omega)]
      decide
  have hrc : rcap ≤ 128 := hb.2.2.2.1
  have ec : zca 4 = nI rcap := hb.2.1
  refine hy_copyPlace (T := T) (mk := mk) (a := 4) (b := 5) hm (by omega) (by omega) (by omega) rfl rfl (fun C hm' => nm_e ?_)
  unfold hc_dv at HF H0
  have g : ∃ n58, wY_deliver_58 post n58 (nI (if low < rcap then 1 else 0)) 0 0 zfl (nI mf) (nI w.length) 0 0 zfi zin C (upd (upd znu 5 (znu 4)) 6 0) (upd zca 5 (zca 4)) zse zwi zle zwo := by
    refine ⟨258, ?_⟩
    refine hy_bl (wv := fun i => w.getD i 0) (T0 := T) (mk0 := mk) (nu0 := znu) (ca0 := zca) (n := w.length) (mf := mf) (lim := lim) (low := low) hwl hw hbw hC hS hmf hli hlo s0 s1 256 (rtb, rcap, [], 0, if low < rcap then 1 else 0) (hy_pt T 4 5) (hy_pm mk 4 5) C _ _ (by omega) hm' ?_ HF ?_ 258 (by omega)
    · refine ⟨⟨fun x hx => if_neg (by omega), fun r hr => if_neg (by omega), fun j j5 j6 => ⟨(pk_un j6).trans (pk_un j5), pk_un j5⟩⟩, ⟨⟨?_, ?_, hb.2.2.1, hb.2.2.2.1, fun i hi => ?_⟩, pk_us, fun i hi => absurd hi (Nat.not_lt_zero i)⟩, Nat.zero_le _, Nat.zero_le _, by show (if low < rcap then 1 else 0) < 2; split <;> omega⟩
      · exact (pk_un (by omega)).trans (pk_us.trans hb.1)
      · exact pk_us.trans ec
      · refine Eq.trans (hc_flc ?_ ?_) (hb.2.2.2.2 i hi)
        · exact (if_pos (by have : i < rtb.length := hi; omega)).trans (congrArg T (by omega))
        · exact (if_pos (by have : i < rtb.length := hi; omega)).trans (congrArg T (by omega))
    · intro z hz C' nu ca po T' mk' h1 h2 h3
      generalize hc_bl (fun i => w.getD i 0) w.length lim low mf 256 (rtb, rcap, [], 0, if low < rcap then 1 else 0) = R at H0 z hz h2
      have hL2 := hy_tabL h2.1
      refine H0 z hz C' _ _ po _ _ h3 (fun x hx => ?_) (fun r hr => ?_) (fun j hj => ?_) ?_ ⟨?_, ?_, h2.1.2.2.1, h2.1.2.2.2.1, fun i hi => ?_⟩ (fun i hi => ?_)
      · refine (if_neg (by omega)).trans ((if_neg (by omega)).trans (h1.1 x (by omega)))
      · refine (if_neg (by omega)).trans ((if_neg (by omega)).trans (h1.2.1 r (by omega)))
      · exact ⟨(pk_un (by omega)).trans ((pk_un (by omega)).trans (h1.2.2 j (by omega) (by omega)).1), (pk_un (by omega)).trans ((pk_un (by omega)).trans (h1.2.2 j (by omega) (by omega)).2)⟩
      · exact pk_us.trans h2.2.1
      · exact (pk_un (by omega)).trans (pk_us.trans h2.1.1)
      · exact (pk_un (by omega)).trans (pk_us.trans h2.1.2.1)
      · have hi : i < R.2.1.length := hi
        refine Eq.trans (hc_flc ?_ ?_) (h2.1.2.2.2.2 i hi)
        · exact (if_neg (by omega)).trans ((if_pos (by omega)).trans (congrArg T' (by omega)))
        · exact (if_neg (by omega)).trans ((if_pos (by omega)).trans (congrArg T' (by omega)))
      · have q := h2.2.2 i hi
        refine ⟨Eq.trans (hc_flc ?_ ?_) q.1, Eq.trans ?_ q.2⟩
        · exact (if_pos (by omega)).trans ((if_neg (by omega)).trans (congrArg T' (by omega)))
        · exact (if_pos (by omega)).trans ((if_neg (by omega)).trans (congrArg T' (by omega)))
        · exact (if_pos (by omega)).trans ((if_neg (by omega)).trans (congrArg mk' (by omega)))
  refine pk_le rcap low (fun z => ?_) (fun z => ?_) ((pk_un (by omega)).trans ec) s1
  · rw [if_neg (by omega)] at g
    exact g
  · rw [if_pos z] at g
    exact g
end
end
section
/-! ### the relation: one pure picture, and both sides' facts of it -/
def hr_V (fl mf li lo ta lt ins : Nat) (ls gt : List (hc_Fd × Nat)) (w : List Nat) : Prop := fl ≤ 128 ∧ 1 ≤ mf ∧ mf ≤ 6 ∧ li ≤ 128 ∧ lo ≤ 128 ∧ ta ≤ 128 ∧ lt ≤ 128 ∧ ins < 2 ∧ ls.length ≤ mf ∧ (∀ i, i < ls.length → (ls.getD i (hc_f0, 0)).2 < 3) ∧ gt.length ≤ 6 ∧ w.length ≤ 256 ∧ hc_by w
def hr_XF (sg : hc_Fd) (ls gt : List (hc_Fd × Nat)) (st : List hc_Fd) (sc : Nat) (rt : List hc_Fd) (rc : Nat) (w : List Nat) (T : Nat → List Nat) (oc ln cn hd sz cp cw cb sy k1 k2 k3 k4 lm gf wi : Nat → Int32) : Prop :=
  hx_M oc ln T ∧ hx_C cw cb ∧ hx_K k1 k2 k3 k4 sy ∧ hx_S T ∧ hc_fl T 14 = sg ∧ (∀ i, i < ls.length → hc_fl T (15 + i) = (ls.getD i (hc_f0, 0)).1 ∧ lm i = nI (ls.getD i (hc_f0, 0)).2) ∧ (∀ i, i < gt.length → hc_fl T (21 + i) = (gt.getD i (hc_f0, 0)).1 ∧ gf i = nI (gt.getD i (hc_f0, 0)).2) ∧ hx_tab T cn hd sz cp 0 st sc ∧ hx_tab T cn hd sz cp 1 rt rc ∧ hx_W wi w
def hr_YF (li lo ta lt : Nat) (sg : hc_Fd) (ls gt : List (hc_Fd × Nat)) (st : List hc_Fd) (sc : Nat) (rt : List hc_Fd) (rc : Nat) (w : List Nat) (T : Nat → List Nat) (mk : Nat → Nat) (ce nu ca se wi le wo : Nat → Int32) : Prop :=
  hy_M ce T mk ∧ hx_C wo le ∧ hy_S T ∧ hc_fl T 0 = sg ∧ nu 0 = 1 ∧ nu 1 = nI ls.length ∧ (∀ i, i < ls.length → hc_fl T (32 + i) = (ls.getD i (hc_f0, 0)).1 ∧ mk (32 + i) = (ls.getD i (hc_f0, 0)).2) ∧ nu 2 = nI gt.length ∧ (∀ i, i < gt.length → hc_fl T (64 + i) = (gt.getD i (hc_f0, 0)).1 ∧ mk (64 + i) = (gt.getD i (hc_f0, 0)).2) ∧ hy_tab T nu ca 3 st sc ∧ hy_tab T nu ca 4 rt rc ∧ (se 0 = nI li ∧ se 1 = nI lo ∧ se 2 = nI ta ∧ se 3 = nI lt) ∧ hx_W wi w
/-- the relation at the head of a turn (the turn's first cell doesn't matter) -/
def i_Rel (_ : Nat) (u : SX) (v : SY) : Prop := ∀ P : SX → SY → Prop, (∀ (vfl : Nat) (vmf : Nat) (vli : Nat) (vlo : Nat) (vta : Nat) (vlt : Nat) (vin : Nat) (vsg : hc_Fd) (vls : List (hc_Fd × Nat)) (vgt : List (hc_Fd × Nat)) (vst : List hc_Fd) (vsc : Nat) (vrt : List hc_Fd) (vrc : Nat) (vw : List Nat) (qs1 qs2 qs3 qs4 qs5 qs6 qs7 qs8 qdc qcu qrv qrs : Int32) (qoc qln qcn qhd qsz qcp qcw qcb qsy qk1 qk2 qk3 qk4 qlm qgf qdf qwi : Nat → Int32) (T : Nat → List Nat) (zpo zfa zfi : Int32) (zce znu zca zse zwi zle zwo : Nat → Int32) (T2 : Nat → List Nat) (mk : Nat → Nat), hr_V vfl vmf vli vlo vta vlt vin vls vgt vw → hr_XF vsg vls vgt vst vsc vrt vrc vw T qoc qln qcn qhd qsz qcp qcw qcb qsy qk1 qk2 qk3 qk4 qlm qgf qwi → hr_YF vli vlo vta vlt vsg vls vgt vst vsc vrt vrc vw T2 mk zce znu zca zse zwi zle zwo → P (qs1, qs2, qs3, qs4, qs5, qs6, qs7, qs8, nI vls.length, nI vgt.length, qdc, nI vw.length, nI vin, nI vfl, nI vmf, nI vli, nI vlo, nI vta, nI vlt, qcu, qrv, qrs, qoc, qln, qcn, qhd, qsz, qcp, qcw, qcb, qsy, qk1, qk2, qk3, qk4, qlm, qgf, qdf, qwi) (nI vfl, nI vmf, nI vw.length, zpo, zfa, zfi, nI vin, zce, znu, zca, zse, zwi, zle, zwo)) → P u v
theorem i_up {k : Nat} {u : SX} {v : SY} (h : i_Rel k u v) : i_Rel (k + 5) u v := h
section
variable {qs1 qs2 qs3 qs4 qs5 qs6 qs7 qs8 qlc qgc qdc qwc qin qfl qmf qli qlo qta qlt qcu qrv qrs : Int32} {qoc qln qcn qhd qsz qcp qcw qcb qsy qk1 qk2 qk3 qk4 qlm qgf qdf qwi : Nat → Int32} {zfl zmf zwl zpo zfa zfi zin : Int32} {zce znu zca zse zwi zle zwo : Nat → Int32} {vfl : Nat} {vmf : Nat} {vli : Nat} {vlo : Nat} {vta : Nat} {vlt : Nat} {vin : Nat} {vsg : hc_Fd} {vls : List (hc_Fd × Nat)} {vgt : List (hc_Fd × Nat)} {vst : List hc_Fd} {vsc : Nat} {vrt : List hc_Fd} {vrc : Nat} {vw : List Nat} {T T2 : Nat → List Nat} {mk : Nat → Nat}
theorem hr_in {k : Nat} (V : hr_V vfl vmf vli vlo vta vlt vin vls vgt vw) (F : hr_XF vsg vls vgt vst vsc vrt vrc vw T qoc qln qcn qhd qsz qcp qcw qcb qsy qk1 qk2 qk3 qk4 qlm qgf qwi) (G : hr_YF vli vlo vta vlt vsg vls vgt vst vsc vrt vrc vw T2 mk zce znu zca zse zwi zle zwo) : i_Rel k (qs1, qs2, qs3, qs4, qs5, qs6, qs7, qs8, nI vls.length, nI vgt.length, qdc, nI vw.length, nI vin, nI vfl, nI vmf, nI vli, nI vlo, nI vta, nI vlt, qcu, qrv, qrs, qoc, qln, qcn, qhd, qsz, qcp, qcw, qcb, qsy, qk1, qk2, qk3, qk4, qlm, qgf, qdf, qwi) (nI vfl, nI vmf, nI vw.length, zpo, zfa, zfi, nI vin, zce, znu, zca, zse, zwi, zle, zwo) := fun P h => h vfl vmf vli vlo vta vlt vin vsg vls vgt vst vsc vrt vrc vw qs1 qs2 qs3 qs4 qs5 qs6 qs7 qs8 qdc qcu qrv qrs qoc qln qcn qhd qsz qcp qcw qcb qsy qk1 qk2 qk3 qk4 qlm qgf qdf qwi T zpo zfa zfi zce znu zca zse zwi zle zwo T2 mk V F G
theorem hr_inL {k a b c : Nat} (ea : a = vls.length) (eb : b = vgt.length) (ec : c = vw.length) (V : hr_V vfl vmf vli vlo vta vlt vin vls vgt vw) (F : hr_XF vsg vls vgt vst vsc vrt vrc vw T qoc qln qcn qhd qsz qcp qcw qcb qsy qk1 qk2 qk3 qk4 qlm qgf qwi) (G : hr_YF vli vlo vta vlt vsg vls vgt vst vsc vrt vrc vw T2 mk zce znu zca zse zwi zle zwo) : i_Rel k (qs1, qs2, qs3, qs4, qs5, qs6, qs7, qs8, nI a, nI b, qdc, nI c, nI vin, nI vfl, nI vmf, nI vli, nI vlo, nI vta, nI vlt, qcu, qrv, qrs, qoc, qln, qcn, qhd, qsz, qcp, qcw, qcb, qsy, qk1, qk2, qk3, qk4, qlm, qgf, qdf, qwi) (nI vfl, nI vmf, nI c, zpo, zfa, zfi, nI vin, zce, znu, zca, zse, zwi, zle, zwo) := by
  subst ea eb ec
  exact hr_in V F G
/-- only the stage's texts have changed -/
theorem hr_Xst {oc ln : Nat → Int32} {T' : Nat → List Nat} (F : hr_XF vsg vls vgt vst vsc vrt vrc vw T qoc qln qcn qhd qsz qcp qcw qcb qsy qk1 qk2 qk3 qk4 qlm qgf qwi) (hm : hx_M oc ln T') (h : ∀ x, x ≠ 28 → x ≠ 29 → T' x = T x) : hr_XF (hc_fl T' 14) vls vgt vst vsc vrt vrc vw T' oc ln qcn qhd qsz qcp qcw qcb qsy qk1 qk2 qk3 qk4 qlm qgf qwi := by
  obtain ⟨f1, f2, f3, f4, f5, f6, f7, f8, f9, f10⟩ := F
  refine ⟨hm, f2, f3, fun i hi => ?_, rfl, fun i hi => ⟨Eq.trans (hc_flc (h _ (by omega) (by omega)) (h _ (by omega) (by omega))) (f6 i hi).1, (f6 i hi).2⟩, fun i hi => ⟨Eq.trans (hc_flc (h _ (by omega) (by omega)) (h _ (by omega) (by omega))) (f7 i hi).1, (f7 i hi).2⟩, hx_tabC f8 rfl rfl rfl rfl (fun x _ _ => h x (by omega) (by omega)), hx_tabC f9 rfl rfl rfl rfl (fun x _ _ => h x (by omega) (by omega)), f10⟩
  rw [← f4 i hi]
  exact hc_flc (h _ (by omega) (by omega)) (h _ (by omega) (by omega))
theorem hr_Yst {C : Nat → Int32} {T' : Nat → List Nat} (G : hr_YF vli vlo vta vlt vsg vls vgt vst vsc vrt vrc vw T2 mk zce znu zca zse zwi zle zwo) (hm : hy_M C T' mk) (h : ∀ x, 2 ≤ x → T' x = T2 x) : hr_YF vli vlo vta vlt (hc_fl T' 0) vls vgt vst vsc vrt vrc vw T' mk C znu zca zse zwi zle zwo := by
  obtain ⟨f1, f2, f3, f4, f5, f6, f7, f8, f9, f10, f11, f12, f13⟩ := G
  refine ⟨hm, f2, fun i hi => ?_, rfl, f5, f6, fun i hi => ⟨Eq.trans (hc_flc (h _ (by omega)) (h _ (by omega))) (f7 i hi).1, (f7 i hi).2⟩, f8, fun i hi => ⟨Eq.trans (hc_flc (h _ (by omega)) (h _ (by omega))) (f9 i hi).1, (f9 i hi).2⟩, hy_tabC f10 (hy_tabL f10) rfl rfl (fun x _ _ => h x (by omega)), hy_tabC f11 (hy_tabL f11) rfl rfl (fun x _ _ => h x (by omega)), f12, f13⟩
  rw [← f3 i hi]
  exact hc_flc (h _ (by omega)) (h _ (by omega))
/-- the capacities, modes and settings that the wire doesn't touch -/
theorem hr_Vw {w : List Nat} (V : hr_V vfl vmf vli vlo vta vlt vin vls vgt vw) (h1 : w.length ≤ 256) (h2 : hc_by w) {ins : Nat} (h3 : ins < 2) : hr_V vfl vmf vli vlo vta vlt ins vls vgt w := ⟨V.1, V.2.1, V.2.2.1, V.2.2.2.1, V.2.2.2.2.1, V.2.2.2.2.2.1, V.2.2.2.2.2.2.1, h3, V.2.2.2.2.2.2.2.2.1, V.2.2.2.2.2.2.2.2.2.1, V.2.2.2.2.2.2.2.2.2.2.1, h1, h2⟩
theorem hr_Xw {w : List Nat} {a : Nat → Int32} (F : hr_XF vsg vls vgt vst vsc vrt vrc vw T qoc qln qcn qhd qsz qcp qcw qcb qsy qk1 qk2 qk3 qk4 qlm qgf qwi) (h : hx_W a w) : hr_XF vsg vls vgt vst vsc vrt vrc w T qoc qln qcn qhd qsz qcp qcw qcb qsy qk1 qk2 qk3 qk4 qlm qgf a := ⟨F.1, F.2.1, F.2.2.1, F.2.2.2.1, F.2.2.2.2.1, F.2.2.2.2.2.1, F.2.2.2.2.2.2.1, F.2.2.2.2.2.2.2.1, F.2.2.2.2.2.2.2.2.1, h⟩
theorem hr_Yw {w : List Nat} {a : Nat → Int32} (G : hr_YF vli vlo vta vlt vsg vls vgt vst vsc vrt vrc vw T2 mk zce znu zca zse zwi zle zwo) (h : hx_W a w) : hr_YF vli vlo vta vlt vsg vls vgt vst vsc vrt vrc w T2 mk zce znu zca zse a zle zwo := ⟨G.1, G.2.1, G.2.2.1, G.2.2.2.1, G.2.2.2.2.1, G.2.2.2.2.2.1, G.2.2.2.2.2.2.1, G.2.2.2.2.2.2.2.1, G.2.2.2.2.2.2.2.2.1, G.2.2.2.2.2.2.2.2.2.1, G.2.2.2.2.2.2.2.2.2.2.1, G.2.2.2.2.2.2.2.2.2.2.2.1, h⟩
/-! ### methods by their outer names -/
theorem hx_stageOctet {post : Int32 → SX → Prop} {t : Nat} {x y : Int32} (hm : hx_M qoc qln T) (ht : t < 164) (ex : x = nI t) (H1 : (∀ c, c < 128 → y ≠ nI c) → post 1 (qs1, qs2, qs3, qs4, qs5, qs6, qs7, qs8, qlc, qgc, qdc, qwc, qin, qfl, qmf, qli, qlo, qta, qlt, qcu, qrv, qrs, qoc, qln, qcn, qhd, qsz, qcp, qcw, qcb, qsy, qk1, qk2, qk3, qk4, qlm, qgf, qdf, qwi)) (H4 : ∀ c, c < 128 → y = nI c → 16 ≤ (T t).length → post 4 (qs1, qs2, qs3, qs4, qs5, qs6, qs7, qs8, qlc, qgc, qdc, qwc, qin, qfl, qmf, qli, qlo, qta, qlt, qcu, qrv, qrs, qoc, qln, qcn, qhd, qsz, qcp, qcw, qcb, qsy, qk1, qk2, qk3, qk4, qlm, qgf, qdf, qwi)) (H0 : ∀ c, c < 128 → y = nI c → (T t).length < 16 → ∀ o l, hx_M o l (hc_ut T t (T t ++ [c])) → post 0 (qs1, qs2, qs3, qs4, qs5, qs6, qs7, qs8, qlc, qgc, qdc, qwc, qin, qfl, qmf, qli, qlo, qta, qlt, qcu, qrv, qrs, o, l, qcn, qhd, qsz, qcp, qcw, qcb, qsy, qk1, qk2, qk3, qk4, qlm, qgf, qdf, qwi)) : wpX_stageOctet post (qs1, qs2, qs3, qs4, qs5, qs6, qs7, qs8, qlc, qgc, qdc, qwc, qin, qfl, qmf, qli, qlo, qta, qlt, qcu, qrv, qrs, qoc, qln, qcn, qhd, qsz, qcp, qcw, qcb, qsy, qk1, qk2, qk3, qk4, qlm, qgf, qdf, qwi) x y := by
  subst ex
  have h := hm t
  by_cases hy : y < 0
  · refine br_t hy (H1 (fun c hc e => ?_))
    subst e
    exact nI_pos (by omega) hy
  · refine br_f hy ?_
    obtain ⟨c, hc, rfl⟩ := nI_of hy
    refine pk_le c 127 (fun z => And.intro (vp_in_nI ht (by decide)) ?_) (fun z => H1 (fun k hk e => ?_))
    · refine pk_lt (T t).length 16 (fun l => ?_) (fun l => H4 c (by omega) rfl l) (hc_at rfl (by omega) h.1)
      exact hx_append (T := T) (t := t) (c := c) hm ht l (by omega) rfl rfl (fun o ln hm' => H0 c (by omega) rfl l o ln hm')
    · rw [nI_eq hc (by omega)] at e
      omega
theorem hx_nameOctet {post : Int32 → SX → Prop} {y : Int32} (hm : hx_M qoc qln T) (H1 : (∀ c, c < 128 → y ≠ nI c) → post 1 (qs1, qs2, qs3, qs4, qs5, qs6, qs7, qs8, qlc, qgc, qdc, qwc, qin, qfl, qmf, qli, qlo, qta, qlt, qcu, qrv, qrs, qoc, qln, qcn, qhd, qsz, qcp, qcw, qcb, qsy, qk1, qk2, qk3, qk4, qlm, qgf, qdf, qwi)) (H4 : ∀ c, c < 128 → y = nI c → 16 ≤ (T 28).length → post 4 (qs1, qs2, qs3, qs4, qs5, qs6, qs7, qs8, qlc, qgc, qdc, qwc, qin, qfl, qmf, qli, qlo, qta, qlt, qcu, qrv, qrs, qoc, qln, qcn, qhd, qsz, qcp, qcw, qcb, qsy, qk1, qk2, qk3, qk4, qlm, qgf, qdf, qwi)) (H0 : ∀ c, c < 128 → y = nI c → (T 28).length < 16 → ∀ o l, hx_M o l (hc_ut T 28 (T 28 ++ [c])) → post 0 (qs1, qs2, qs3, qs4, qs5, qs6, qs7, qs8, qlc, qgc, qdc, qwc, qin, qfl, qmf, qli, qlo, qta, qlt, qcu, qrv, qrs, o, l, qcn, qhd, qsz, qcp, qcw, qcb, qsy, qk1, qk2, qk3, qk4, qlm, qgf, qdf, qwi)) : wpX_nameOctet post (qs1, qs2, qs3, qs4, qs5, qs6, qs7, qs8, qlc, qgc, qdc, qwc, qin, qfl, qmf, qli, qlo, qta, qlt, qcu, qrv, qrs, qoc, qln, qcn, qhd, qsz, qcp, qcw, qcb, qsy, qk1, qk2, qk3, qk4, qlm, qgf, qdf, qwi) y := by
  unfold wpX_nameOctet
  exact hx_stageOctet (T := T) (t := 28) hm (by decide) rfl H1 H4 H0
theorem hx_valueOctet {post : Int32 → SX → Prop} {y : Int32} (hm : hx_M qoc qln T) (H1 : (∀ c, c < 128 → y ≠ nI c) → post 1 (qs1, qs2, qs3, qs4, qs5, qs6, qs7, qs8, qlc, qgc, qdc, qwc, qin, qfl, qmf, qli, qlo, qta, qlt, qcu, qrv, qrs, qoc, qln, qcn, qhd, qsz, qcp, qcw, qcb, qsy, qk1, qk2, qk3, qk4, qlm, qgf, qdf, qwi)) (H4 : ∀ c, c < 128 → y = nI c → 16 ≤ (T 29).length → post 4 (qs1, qs2, qs3, qs4, qs5, qs6, qs7, qs8, qlc, qgc, qdc, qwc, qin, qfl, qmf, qli, qlo, qta, qlt, qcu, qrv, qrs, qoc, qln, qcn, qhd, qsz, qcp, qcw, qcb, qsy, qk1, qk2, qk3, qk4, qlm, qgf, qdf, qwi)) (H0 : ∀ c, c < 128 → y = nI c → (T 29).length < 16 → ∀ o l, hx_M o l (hc_ut T 29 (T 29 ++ [c])) → post 0 (qs1, qs2, qs3, qs4, qs5, qs6, qs7, qs8, qlc, qgc, qdc, qwc, qin, qfl, qmf, qli, qlo, qta, qlt, qcu, qrv, qrs, o, l, qcn, qhd, qsz, qcp, qcw, qcb, qsy, qk1, qk2, qk3, qk4, qlm, qgf, qdf, qwi)) : wpX_valueOctet post (qs1, qs2, qs3, qs4, qs5, qs6, qs7, qs8, qlc, qgc, qdc, qwc, qin, qfl, qmf, qli, qlo, qta, qlt, qcu, qrv, qrs, qoc, qln, qcn, qhd, qsz, qcp, qcw, qcb, qsy, qk1, qk2, qk3, qk4, qlm, qgf, qdf, qwi) y := by
  unfold wpX_valueOctet
  exact hx_stageOctet (T := T) (t := 29) hm (by decide) rfl H1 H4 H0
theorem hy_nameOctet {post : Int32 → SY → Prop} {y : Int32} (hm : hy_M zce T mk) (H1 : (∀ c, c < 128 → y ≠ nI c) → post 1 (zfl, zmf, zwl, zpo, zfa, zfi, zin, zce, znu, zca, zse, zwi, zle, zwo)) (H4 : ∀ c, c < 128 → y = nI c → 16 ≤ (T 0).length → post 4 (zfl, zmf, zwl, zpo, zfa, zfi, zin, zce, znu, zca, zse, zwi, zle, zwo)) (H0 : ∀ c, c < 128 → y = nI c → (T 0).length < 16 → ∀ C, hy_M C (hc_ut T 0 (T 0 ++ [c])) mk → post 0 (zfl, zmf, zwl, zpo, zfa, zfi, zin, C, znu, zca, zse, zwi, zle, zwo)) : wpY_nameOctet post (zfl, zmf, zwl, zpo, zfa, zfi, zin, zce, znu, zca, zse, zwi, zle, zwo) y := by
  unfold wpY_nameOctet
  exact hy_append (T := T) (r := 0) (p := 0) hm (by decide) (by decide) rfl H1 H4 H0
theorem hy_valueOctet {post : Int32 → SY → Prop} {y : Int32} (hm : hy_M zce T mk) (H1 : (∀ c, c < 128 → y ≠ nI c) → post 1 (zfl, zmf, zwl, zpo, zfa, zfi, zin, zce, znu, zca, zse, zwi, zle, zwo)) (H4 : ∀ c, c < 128 → y = nI c → 16 ≤ (T 1).length → post 4 (zfl, zmf, zwl, zpo, zfa, zfi, zin, zce, znu, zca, zse, zwi, zle, zwo)) (H0 : ∀ c, c < 128 → y = nI c → (T 1).length < 16 → ∀ C, hy_M C (hc_ut T 1 (T 1 ++ [c])) mk → post 0 (zfl, zmf, zwl, zpo, zfa, zfi, zin, C, znu, zca, zse, zwi, zle, zwo)) : wpY_valueOctet post (zfl, zmf, zwl, zpo, zfa, zfi, zin, zce, znu, zca, zse, zwi, zle, zwo) y := by
  unfold wpY_valueOctet
  exact hy_append (T := T) (r := 0) (p := 1) hm (by decide) (by decide) rfl H1 H4 H0
end
end
section
section
variable {qs1 qs2 qs3 qs4 qs5 qs6 qs7 qs8 qlc qgc qdc qwc qin qfl qmf qli qlo qta qlt qcu qrv qrs : Int32} {qoc qln qcn qhd qsz qcp qcw qcb qsy qk1 qk2 qk3 qk4 qlm qgf qdf qwi : Nat → Int32} {zfl zmf zwl zpo zfa zfi zin : Int32} {zce znu zca zse zwi zle zwo : Nat → Int32} {vfl : Nat} {vmf : Nat} {vli : Nat} {vlo : Nat} {vta : Nat} {vlt : Nat} {vin : Nat} {vsg : hc_Fd} {vls : List (hc_Fd × Nat)} {vgt : List (hc_Fd × Nat)} {vst : List hc_Fd} {vsc : Nat} {vrt : List hc_Fd} {vrc : Nat} {vw : List Nat} {T T2 : Nat → List Nat} {mk : Nat → Nat}
theorem hr_sg (F : hr_XF vsg vls vgt vst vsc vrt vrc vw T qoc qln qcn qhd qsz qcp qcw qcb qsy qk1 qk2 qk3 qk4 qlm qgf qwi) (G : hr_YF vli vlo vta vlt vsg vls vgt vst vsc vrt vrc vw T2 mk zce znu zca zse zwi zle zwo) : T 28 = T2 0 ∧ T 29 = T2 1 := by
  have h1 : (T 28, T 29) = vsg := F.2.2.2.2.1
  have h2 : (T2 0, T2 1) = vsg := G.2.2.2.1
  rw [← h2] at h1
  exact ⟨congrArg Prod.fst h1, congrArg Prod.snd h1⟩
theorem hx_stageFrom {post : Int32 → SX → Prop} {tb : List hc_Fd} {cap b : Nat} {x y : Int32} (hm : hx_M qoc qln T) (hS : hx_S T) (hb : hx_tab T qcn qhd qsz qcp 0 tb cap) (hb2 : b < 2) (ey : y = nI b) (H1 : (∀ i, 1 ≤ i → i ≤ 14 + tb.length → x ≠ nI i) → post 1 (qs1, qs2, qs3, qs4, qs5, qs6, qs7, qs8, qlc, qgc, qdc, qwc, qin, qfl, qmf, qli, qlo, qta, qlt, qcu, qrv, qrs, qoc, qln, qcn, qhd, qsz, qcp, qcw, qcb, qsy, qk1, qk2, qk3, qk4, qlm, qgf, qdf, qwi)) (H0 : ∀ i, 1 ≤ i → i ≤ 14 + tb.length → x = nI i → ∀ o l T', hx_M o l T' → (∀ z, z ≠ 28 → z ≠ 29 → T' z = T z) → hc_fl T' 14 = (if b = 0 then ((hc_et tb i).1, T 29) else hc_et tb i) → post 0 (qs1, qs2, qs3, qs4, qs5, qs6, qs7, qs8, qlc, qgc, qdc, qwc, qin, qfl, qmf, qli, qlo, qta, qlt, qcu, qrv, qrs, o, l, qcn, qhd, qsz, qcp, qcw, qcb, qsy, qk1, qk2, qk3, qk4, qlm, qgf, qdf, qwi)) : wpX_stageFrom post (qs1, qs2, qs3, qs4, qs5, qs6, qs7, qs8, qlc, qgc, qdc, qwc, qin, qfl, qmf, qli, qlo, qta, qlt, qcu, qrv, qrs, qoc, qln, qcn, qhd, qsz, qcp, qcw, qcb, qsy, qk1, qk2, qk3, qk4, qlm, qgf, qdf, qwi) x y := by
  subst ey
  have hL := hx_tabL hb
  obtain ⟨h1, h2, h3, h4, h5, h, h6, h7, h8⟩ := hb
  unfold wpX_stageFrom
  refine hx_entrySlot (t := 0) (n := tb.length) (h := h) (by omega) rfl hL h6 h1 h7 (fun z => br_f (by decide) (H1 z)) (fun i g1 g2 e => ?_)
  have eE := hx_ent (t := 0) hS h8 g1 g2
  have bE := hx_esB (t := 0) (h := h) (i := i) (by omega)
  have hes : hx_es 0 h i < 14 ∨ 33 ≤ hx_es 0 h i := by
    unfold hx_es
    split <;> omega
  have a1 : T (2 * hx_es 0 h i) = (hc_et tb i).1 := congrArg Prod.fst eE
  have a2 : T (2 * hx_es 0 h i + 1) = (hc_et tb i).2 := congrArg Prod.snd eE
  refine br_t (nI_pos' (by omega)) ?_
  refine hx_copyText (T := T) (a := 2 * hx_es 0 h i) (b := 28) hm (by omega) (by omega) (hc_mul rfl rfl) rfl (fun o l hm' => ?_)
  refine pk_eq b 0 (fun z => ?_) (fun z => ?_)
  · refine H0 i g1 g2 e o l _ hm' (fun x h _ => hc_un h) ?_
    rw [if_pos z, ← a1]
    show (hc_ut T 28 (T (2 * hx_es 0 h i)) 28, hc_ut T 28 (T (2 * hx_es 0 h i)) 29) = _
    rw [hc_us, hc_un (by omega)]
  · refine hx_copyText (T := hc_ut T 28 (T (2 * hx_es 0 h i))) (a := 2 * hx_es 0 h i + 1) (b := 29) hm' (by omega) (by omega) (hc_add (hc_mul rfl rfl) rfl) rfl (fun o l hm' => ?_)
    refine H0 i g1 g2 e o l _ hm' (fun x h h' => (hc_un h').trans (hc_un h)) ?_
    rw [if_neg z]
    show (hc_ut (hc_ut T 28 (T (2 * hx_es 0 h i))) 29 _ 28, hc_ut (hc_ut T 28 (T (2 * hx_es 0 h i))) 29 _ 29) = _
    rw [hc_us, hc_un (show (28 : Nat) ≠ 29 by omega), hc_us, hc_un (by omega), a1, a2]
theorem hy_stageFrom {post : Int32 → SY → Prop} {tb : List hc_Fd} {cap b : Nat} {x y : Int32} (hm : hy_M zce T mk) (hS : hy_S T) (hb : hy_tab T znu zca 3 tb cap) (hb2 : b < 2) (ey : y = nI b) (H1 : (∀ i, 1 ≤ i → i ≤ 14 + tb.length → x ≠ nI i) → post 1 (zfl, zmf, zwl, zpo, zfa, zfi, zin, zce, znu, zca, zse, zwi, zle, zwo)) (H0 : ∀ i, 1 ≤ i → i ≤ 14 + tb.length → x = nI i → ∀ C T', hy_M C T' mk → (∀ z, 2 ≤ z → T' z = T z) → hc_fl T' 0 = (if b = 0 then ((hc_et tb i).1, T 1) else hc_et tb i) → post 0 (zfl, zmf, zwl, zpo, zfa, zfi, zin, C, znu, zca, zse, zwi, zle, zwo)) : wpY_stageFrom post (zfl, zmf, zwl, zpo, zfa, zfi, zin, zce, znu, zca, zse, zwi, zle, zwo) x y := by
  subst ey
  have hL := hy_tabL hb
  have e14 : (14 : Int32) + znu 3 = nI (14 + tb.length) := hc_add rfl hb.1
  by_cases hy : x < 1
  · refine br_t hy (H1 (fun i hi _ e => ?_))
    subst e
    exact nI_nlt (b := 1) hi (by omega) hy
  · have hy0 : ¬ x < 0 := fun z => hy (Int32.lt_of_lt_of_le z (by decide))
    obtain ⟨i, hi, rfl⟩ := nI_of hy0
    have hi1 : 1 ≤ i := by
      by_cases z : 1 ≤ i
      · exact z
      · exact absurd (nI_lt (a := i) (b := 1) (by omega) (by decide)) hy
    refine br_f hy (pk_le i (14 + tb.length) (fun z => ?_) (fun z => H1 (fun k h1 h2 e => ?_)) rfl e14)
    · have eE := hy_ent (t := 3) (i := i) (by omega) hS hb.2.2.2.2 hi1 z
      have bE := hy_roB (t := 3) (i := i) (by omega) (by omega)
      have hro : 1 ≤ hy_ro 3 i := by
        unfold hy_ro
        split <;> omega
      refine hy_at (w := 3) (i := i) (by omega) hi rfl rfl ?_
      refine pk_eq b 0 (fun y => ?_) (fun y => ?_)
      · unfold wY_stageFrom_41
        refine hy_copy (a := 35 * hy_ro 3 i) (b := 0) (n := 17) (by omega) (by omega) (by omega) rfl rfl rfl (fun C hc => ?_)
        refine H0 i hi1 z rfl C _ (hy_mT (b := 0) hm hc) (fun x hx => hc_un (by omega)) ?_
        rw [if_pos y, ← eE]
        show (hc_ut T 0 (T (2 * hy_ro 3 i)) 0, hc_ut T 0 (T (2 * hy_ro 3 i)) 1) = _
        rw [hc_us, hc_un (by omega)]
        rfl
      · unfold wY_stageFrom_41
        refine hy_copy (a := 35 * hy_ro 3 i) (b := 0) (n := 34) (by omega) (by omega) (by omega) rfl rfl rfl (fun C hc => ?_)
        refine H0 i hi1 z rfl C _ (hy_mR (b := 0) hm hc) (fun x hx => hc_ufn (by omega) (by omega)) ?_
        rw [if_neg y, hc_ufs, eE]
    · rw [nI_eq hi (by omega)] at e
      omega
theorem hx_addField {post : Int32 → SX → Prop} {n k mf : Nat} {y : Int32} (hm : hx_M qoc qln T) (hn : n ≤ 256) (hk : k ≤ 6) (hmf : mf ≤ 6) (H1 : (∀ m, m < 3 → y ≠ nI m) → post 1 (qs1, qs2, qs3, qs4, qs5, qs6, qs7, qs8, nI k, qgc, qdc, nI n, qin, qfl, nI mf, qli, qlo, qta, qlt, qcu, qrv, qrs, qoc, qln, qcn, qhd, qsz, qcp, qcw, qcb, qsy, qk1, qk2, qk3, qk4, qlm, qgf, qdf, qwi)) (H2 : ∀ m, m < 3 → y = nI m → 0 < n → post 2 (qs1, qs2, qs3, qs4, qs5, qs6, qs7, qs8, nI k, qgc, qdc, nI n, qin, qfl, nI mf, qli, qlo, qta, qlt, qcu, qrv, qrs, qoc, qln, qcn, qhd, qsz, qcp, qcw, qcb, qsy, qk1, qk2, qk3, qk4, qlm, qgf, qdf, qwi)) (H4 : ∀ m, m < 3 → y = nI m → n = 0 → mf ≤ k → post 4 (qs1, qs2, qs3, qs4, qs5, qs6, qs7, qs8, nI k, qgc, qdc, nI n, qin, qfl, nI mf, qli, qlo, qta, qlt, qcu, qrv, qrs, qoc, qln, qcn, qhd, qsz, qcp, qcw, qcb, qsy, qk1, qk2, qk3, qk4, qlm, qgf, qdf, qwi)) (H0 : ∀ m, m < 3 → y = nI m → n = 0 → k < mf → ∀ o l, hx_M o l (hc_uf (hc_uf T (15 + k) (hc_fl T 14)) 14 ([], [])) → post 0 (qs1, qs2, qs3, qs4, qs5, qs6, qs7, qs8, nI (k + 1), qgc, qdc, nI n, qin, qfl, nI mf, qli, qlo, qta, qlt, qcu, qrv, qrs, o, l, qcn, qhd, qsz, qcp, qcw, qcb, qsy, qk1, qk2, qk3, qk4, upd qlm k (nI m), qgf, qdf, qwi)) : wpX_addField post (qs1, qs2, qs3, qs4, qs5, qs6, qs7, qs8, nI k, qgc, qdc, nI n, qin, qfl, nI mf, qli, qlo, qta, qlt, qcu, qrv, qrs, qoc, qln, qcn, qhd, qsz, qcp, qcw, qcb, qsy, qk1, qk2, qk3, qk4, qlm, qgf, qdf, qwi) y := by
  by_cases hy : y < 0
  · refine br_t hy (H1 (fun m hm e => ?_))
    subst e
    exact nI_pos (by omega) hy
  · obtain ⟨m, hm3, rfl⟩ := nI_of hy
    refine br_f hy (pk_le m 2 (fun z => ?_) (fun z => H1 (fun j hj e => ?_)))
    · refine pk_le n 0 (fun a => ?_) (fun a => H2 m (by omega) rfl a)
      refine pk_lt k mf (fun b => ?_) (fun b => H4 m (by omega) rfl (by omega) b)
      refine hx_copyField (T := T) (a := 14) (b := 15 + k) hm (by omega) (by omega) (by omega) rfl (hc_add rfl rfl) (fun o l hm' => And.intro (vp_in_nI (by omega) (by decide)) (nm_r (hc_up rfl (by omega) rfl) (nm_r (nI_1 k) ?_)))
      exact hx_clearStage hm' (fun l hm'' => H0 m (by omega) rfl (by omega) b o l hm'')
    · rw [nI_eq hm3 (by omega)] at e
      omega
theorem hy_addField {post : Int32 → SY → Prop} {n k mf : Nat} {y : Int32} (hm : hy_M zce T mk) (hn : n ≤ 256) (hk : k ≤ 6) (hmf : mf ≤ 6) (en : znu 1 = nI k) (H1 : (∀ m, m < 3 → y ≠ nI m) → post 1 (zfl, nI mf, nI n, zpo, zfa, zfi, zin, zce, znu, zca, zse, zwi, zle, zwo)) (H2 : ∀ m, m < 3 → y = nI m → 0 < n → post 2 (zfl, nI mf, nI n, zpo, zfa, zfi, zin, zce, znu, zca, zse, zwi, zle, zwo)) (H4 : ∀ m, m < 3 → y = nI m → n = 0 → mf ≤ k → post 4 (zfl, nI mf, nI n, zpo, zfa, zfi, zin, zce, znu, zca, zse, zwi, zle, zwo)) (H0 : ∀ m, m < 3 → y = nI m → n = 0 → k < mf → ∀ C, hy_M C (hc_uf (hc_uf T (32 + k) (hc_fl T 0)) 0 ([], [])) (hy_um mk (32 + k) m) → post 0 (zfl, nI mf, nI n, zpo, zfa, zfi, zin, C, upd znu 1 (nI (k + 1)), zca, zse, zwi, zle, zwo)) : wpY_addField post (zfl, nI mf, nI n, zpo, zfa, zfi, zin, zce, znu, zca, zse, zwi, zle, zwo) y := by
  by_cases hy : y < 0
  · refine br_t hy (H1 (fun m hm e => ?_))
    subst e
    exact nI_pos (by omega) hy
  · obtain ⟨m, hm3, rfl⟩ := nI_of hy
    refine br_f hy (pk_le m 2 (fun z => ?_) (fun z => H1 (fun j hj e => ?_)))
    · refine pk_le n 0 (fun a => ?_) (fun a => H2 m (by omega) rfl a)
      refine pk_lt k mf (fun b => ?_) (fun b => H4 m (by omega) rfl (by omega) b) en
      refine hy_at (w := 1) (i := k) (by omega) (by omega) rfl en ?_
      rw [show hy_ro 1 k = 32 + k from if_neg (by omega)]
      have e34 : nI (35 * (32 + k)) + 34 = nI (35 * (32 + k) + 34) := hc_add rfl rfl
      refine hy_copy (a := 0) (b := 35 * (32 + k)) (n := 34) (by omega) (by omega) (by omega) rfl rfl rfl (fun C hc => And.intro (hc_i e34 (by omega) (by decide)) (nm_r (hc_up e34 (by omega) rfl) (nm_r (congrArg (upd znu 1) (hc_add en rfl)) ?_)))
      have hm' := hy_mK (r := 32 + k) (v := m) (hy_mR (a := 0) hm hc)
      exact hy_clearStage hm' (fun C hm'' => H0 m (by omega) rfl (by omega) b C hm'')
    · rw [nI_eq hm3 (by omega)] at e
      omega
theorem hx_setLimit {post : Int32 → SX → Prop} {n lo ta lt : Nat} {y : Int32} (hn : n ≤ 256) (hlo : lo ≤ 128) (hta : ta ≤ 128) (hlt : lt ≤ 128) (H1 : (∀ m, m ≤ 128 → y ≠ nI m) → post 1 (qs1, qs2, qs3, qs4, qs5, qs6, qs7, qs8, qlc, qgc, qdc, nI n, qin, qfl, qmf, qli, nI lo, nI ta, nI lt, qcu, qrv, qrs, qoc, qln, qcn, qhd, qsz, qcp, qcw, qcb, qsy, qk1, qk2, qk3, qk4, qlm, qgf, qdf, qwi)) (H2 : ∀ m, m ≤ 128 → y = nI m → 0 < n → post 2 (qs1, qs2, qs3, qs4, qs5, qs6, qs7, qs8, qlc, qgc, qdc, nI n, qin, qfl, qmf, qli, nI lo, nI ta, nI lt, qcu, qrv, qrs, qoc, qln, qcn, qhd, qsz, qcp, qcw, qcb, qsy, qk1, qk2, qk3, qk4, qlm, qgf, qdf, qwi)) (H0 : ∀ m, m ≤ 128 → y = nI m → n = 0 → post 0 (qs1, qs2, qs3, qs4, qs5, qs6, qs7, qs8, qlc, qgc, qdc, nI n, qin, qfl, qmf, nI m, nI (min lo m), nI (min ta m), nI (min lt (min ta m)), qcu, qrv, qrs, qoc, qln, qcn, qhd, qsz, qcp, qcw, qcb, qsy, qk1, qk2, qk3, qk4, qlm, qgf, qdf, qwi)) : wpX_setLimit post (qs1, qs2, qs3, qs4, qs5, qs6, qs7, qs8, qlc, qgc, qdc, nI n, qin, qfl, qmf, qli, nI lo, nI ta, nI lt, qcu, qrv, qrs, qoc, qln, qcn, qhd, qsz, qcp, qcw, qcb, qsy, qk1, qk2, qk3, qk4, qlm, qgf, qdf, qwi) y := by
  by_cases hy : y < 0
  · refine br_t hy (H1 (fun m hm e => ?_))
    subst e
    exact nI_pos (by omega) hy
  · obtain ⟨m, hm3, rfl⟩ := nI_of hy
    refine br_f hy (pk_le m 128 (fun z => ?_) (fun z => H1 (fun j hj e => ?_)))
    · refine pk_le n 0 (fun a => ?_) (fun a => H2 m z rfl a)
      have H := H0 m z rfl (by omega)
      have g53 : ∀ l t : Nat, l = min lo m → t = min ta m → wX_setLimit_53 post qs1 qs2 qs3 qs4 qs5 qs6 qs7 qs8 qlc qgc qdc (nI n) qin qfl qmf (nI m) (nI l) (nI t) (nI lt) qcu qrv qrs qoc qln qcn qhd qsz qcp qcw qcb qsy qk1 qk2 qk3 qk4 qlm qgf qdf qwi := by
        intro l t el et
        subst el et
        refine pk_le lt (min ta m) (fun b => ?_) (fun b => ?_)
        · rw [show min lt (min ta m) = lt from by omega] at H
          exact H
        · rw [show min lt (min ta m) = min ta m from by omega] at H
          exact H
      have g40 : ∀ l : Nat, l = min lo m → wX_setLimit_40 post (nI m) qs1 qs2 qs3 qs4 qs5 qs6 qs7 qs8 qlc qgc qdc (nI n) qin qfl qmf (nI m) (nI l) (nI ta) (nI lt) qcu qrv qrs qoc qln qcn qhd qsz qcp qcw qcb qsy qk1 qk2 qk3 qk4 qlm qgf qdf qwi := by
        intro l el
        exact pk_le ta m (fun b => g53 l ta el (by omega)) (fun b => g53 l m el (by omega))
      exact pk_le lo m (fun b => g40 lo (by omega)) (fun b => g40 m (by omega))
    · rw [nI_eq hm3 (by omega)] at e
      omega
theorem hy_setLimit {post : Int32 → SY → Prop} {n lo ta lt : Nat} {y : Int32} (hn : n ≤ 256) (hlo : lo ≤ 128) (hta : ta ≤ 128) (hlt : lt ≤ 128) (s1 : zse 1 = nI lo) (s2 : zse 2 = nI ta) (s3 : zse 3 = nI lt) (H1 : (∀ m, m ≤ 128 → y ≠ nI m) → post 1 (zfl, zmf, nI n, zpo, zfa, zfi, zin, zce, znu, zca, zse, zwi, zle, zwo)) (H2 : ∀ m, m ≤ 128 → y = nI m → 0 < n → post 2 (zfl, zmf, nI n, zpo, zfa, zfi, zin, zce, znu, zca, zse, zwi, zle, zwo)) (H0 : ∀ m, m ≤ 128 → y = nI m → n = 0 → ∀ se, se 0 = nI m → se 1 = nI (min lo m) → se 2 = nI (min ta m) → se 3 = nI (min lt (min ta m)) → post 0 (zfl, zmf, nI n, zpo, zfa, zfi, zin, zce, znu, zca, se, zwi, zle, zwo)) : wpY_setLimit post (zfl, zmf, nI n, zpo, zfa, zfi, zin, zce, znu, zca, zse, zwi, zle, zwo) y := by
  by_cases hy : y < 0
  · refine br_t hy (H1 (fun m hm e => ?_))
    subst e
    exact nI_pos (by omega) hy
  · obtain ⟨m, hm3, rfl⟩ := nI_of hy
    refine br_f hy (pk_le m 128 (fun z => ?_) (fun z => H1 (fun j hj e => ?_)))
    · refine pk_le n 0 (fun a => nm_e ?_) (fun a => H2 m z rfl a)
      have H := H0 m z rfl (by omega)
      have g63 : ∀ se : Nat → Int32, se 0 = nI m → se 1 = nI (min lo m) → se 2 = nI (min ta m) → se 3 = nI lt → wY_setLimit_63 post zfl zmf (nI n) zpo zfa zfi zin zce znu zca se zwi zle zwo := by
        intro se e0 e1 e2 e3
        refine pk_le lt (min ta m) (fun b => ?_) (fun b => nm_e ?_) e3 e2
        · exact H se e0 e1 e2 (e3.trans (congrArg nI (by omega)))
        · exact H _ ((pk_un (by omega)).trans e0) ((pk_un (by omega)).trans e1) ((pk_un (by omega)).trans e2) (pk_us.trans (e2.trans (congrArg nI (by omega))))
      have g46 : ∀ se : Nat → Int32, se 0 = nI m → se 1 = nI (min lo m) → se 2 = nI ta → se 3 = nI lt → wY_setLimit_46 post (nI m) zfl zmf (nI n) zpo zfa zfi zin zce znu zca se zwi zle zwo := by
        intro se e0 e1 e2 e3
        refine pk_le ta m (fun b => ?_) (fun b => nm_e ?_) e2 rfl
        · exact g63 se e0 e1 (e2.trans (congrArg nI (by omega))) e3
        · exact g63 _ ((pk_un (by omega)).trans e0) ((pk_un (by omega)).trans e1) (pk_us.trans (congrArg nI (by omega))) ((pk_un (by omega)).trans e3)
      have u1 : upd zse 0 (nI m) 1 = nI lo := (pk_un (by omega)).trans s1
      have u2 : upd zse 0 (nI m) 2 = nI ta := (pk_un (by omega)).trans s2
      have u3 : upd zse 0 (nI m) 3 = nI lt := (pk_un (by omega)).trans s3
      refine pk_le lo m (fun b => ?_) (fun b => nm_e ?_) u1 rfl
      · exact g46 _ pk_us (u1.trans (congrArg nI (by omega))) u2 u3
      · exact g46 _ ((pk_un (by omega)).trans pk_us) (pk_us.trans (congrArg nI (by omega))) ((pk_un (by omega)).trans u2) ((pk_un (by omega)).trans u3)
    · rw [nI_eq hm3 (by omega)] at e
      omega
theorem hx_resize {post : Int32 → SX → Prop} {li lt : Nat} {y : Int32} (hli : li ≤ 128) (hlt : lt ≤ 128) (H1 : (∀ m, m ≤ li → y ≠ nI m) → post 1 (qs1, qs2, qs3, qs4, qs5, qs6, qs7, qs8, qlc, qgc, qdc, qwc, qin, qfl, qmf, nI li, qlo, qta, nI lt, qcu, qrv, qrs, qoc, qln, qcn, qhd, qsz, qcp, qcw, qcb, qsy, qk1, qk2, qk3, qk4, qlm, qgf, qdf, qwi)) (H0 : ∀ m, m ≤ li → y = nI m → post 0 (qs1, qs2, qs3, qs4, qs5, qs6, qs7, qs8, qlc, qgc, qdc, qwc, qin, qfl, qmf, nI li, qlo, nI m, nI (min lt m), qcu, qrv, qrs, qoc, qln, qcn, qhd, qsz, qcp, qcw, qcb, qsy, qk1, qk2, qk3, qk4, qlm, qgf, qdf, qwi)) : wpX_resize post (qs1, qs2, qs3, qs4, qs5, qs6, qs7, qs8, qlc, qgc, qdc, qwc, qin, qfl, qmf, nI li, qlo, qta, nI lt, qcu, qrv, qrs, qoc, qln, qcn, qhd, qsz, qcp, qcw, qcb, qsy, qk1, qk2, qk3, qk4, qlm, qgf, qdf, qwi) y := by
  by_cases hy : y < 0
  · refine br_t hy (H1 (fun m hm e => ?_))
    subst e
    exact nI_pos (by omega) hy
  · obtain ⟨m, hm3, rfl⟩ := nI_of hy
    refine br_f hy (pk_le m li (fun z => ?_) (fun z => H1 (fun j hj e => ?_)))
    · have H := H0 m z rfl
      refine pk_le lt m (fun b => ?_) (fun b => ?_)
      · rw [show min lt m = lt from by omega] at H
        exact H
      · rw [show min lt m = m from by omega] at H
        exact H
    · rw [nI_eq hm3 (by omega)] at e
      omega
theorem hy_resize {post : Int32 → SY → Prop} {li lt : Nat} {y : Int32} (hli : li ≤ 128) (hlt : lt ≤ 128) (s0 : zse 0 = nI li) (s3 : zse 3 = nI lt) (H1 : (∀ m, m ≤ li → y ≠ nI m) → post 1 (zfl, zmf, zwl, zpo, zfa, zfi, zin, zce, znu, zca, zse, zwi, zle, zwo)) (H0 : ∀ m, m ≤ li → y = nI m → ∀ se, se 0 = zse 0 → se 1 = zse 1 → se 2 = nI m → se 3 = nI (min lt m) → post 0 (zfl, zmf, zwl, zpo, zfa, zfi, zin, zce, znu, zca, se, zwi, zle, zwo)) : wpY_resize post (zfl, zmf, zwl, zpo, zfa, zfi, zin, zce, znu, zca, zse, zwi, zle, zwo) y := by
  by_cases hy : y < 0
  · refine br_t hy (H1 (fun m hm e => ?_))
    subst e
    exact nI_pos (by omega) hy
  · obtain ⟨m, hm3, rfl⟩ := nI_of hy
    refine br_f hy (pk_le m li (fun z => nm_e ?_) (fun z => H1 (fun j hj e => ?_)) rfl s0)
    · have u3 : upd zse 2 (nI m) 3 = nI lt := (pk_un (by omega)).trans s3
      refine pk_le lt m (fun b => ?_) (fun b => nm_e ?_) u3 rfl
      · exact H0 m z rfl _ (pk_un (by omega)) (pk_un (by omega)) pk_us (u3.trans (congrArg nI (by omega)))
      · exact H0 m z rfl _ ((pk_un (by omega)).trans (pk_un (by omega))) ((pk_un (by omega)).trans (pk_un (by omega))) ((pk_un (by omega)).trans pk_us) (pk_us.trans (congrArg nI (by omega)))
    · rw [nI_eq hm3 (by omega)] at e
      omega
theorem hx_putOctet {post : Int32 → SX → Prop} {w : List Nat} {y : Int32} (hw : hx_W qwi w) (hl : w.length ≤ 256) (H1 : (∀ m, m < 256 → y ≠ nI m) → post 1 (qs1, qs2, qs3, qs4, qs5, qs6, qs7, qs8, qlc, qgc, qdc, nI w.length, qin, qfl, qmf, qli, qlo, qta, qlt, qcu, qrv, qrs, qoc, qln, qcn, qhd, qsz, qcp, qcw, qcb, qsy, qk1, qk2, qk3, qk4, qlm, qgf, qdf, qwi)) (H4 : ∀ m, m < 256 → y = nI m → 256 ≤ w.length → post 4 (qs1, qs2, qs3, qs4, qs5, qs6, qs7, qs8, qlc, qgc, qdc, nI w.length, qin, qfl, qmf, qli, qlo, qta, qlt, qcu, qrv, qrs, qoc, qln, qcn, qhd, qsz, qcp, qcw, qcb, qsy, qk1, qk2, qk3, qk4, qlm, qgf, qdf, qwi)) (H0 : ∀ m, m < 256 → y = nI m → w.length < 256 → ∀ a, hx_W a (w ++ [m]) → post 0 (qs1, qs2, qs3, qs4, qs5, qs6, qs7, qs8, qlc, qgc, qdc, nI (w ++ [m]).length, 0, qfl, qmf, qli, qlo, qta, qlt, qcu, qrv, qrs, qoc, qln, qcn, qhd, qsz, qcp, qcw, qcb, qsy, qk1, qk2, qk3, qk4, qlm, qgf, qdf, a)) : wpX_putOctet post (qs1, qs2, qs3, qs4, qs5, qs6, qs7, qs8, qlc, qgc, qdc, nI w.length, qin, qfl, qmf, qli, qlo, qta, qlt, qcu, qrv, qrs, qoc, qln, qcn, qhd, qsz, qcp, qcw, qcb, qsy, qk1, qk2, qk3, qk4, qlm, qgf, qdf, qwi) y := by
  by_cases hy : y < 0
  · refine br_t hy (H1 (fun m hm e => ?_))
    subst e
    exact nI_pos (by omega) hy
  · obtain ⟨m, hm3, rfl⟩ := nI_of hy
    refine br_f hy (pk_le m 255 (fun z => ?_) (fun z => H1 (fun j hj e => ?_)))
    · refine pk_lt w.length 256 (fun a => ?_) (fun a => H4 m (by omega) rfl a)
      exact hx_writeOctet (w := w) (b := m) hw a rfl (fun b hb => H0 m (by omega) rfl a b hb)
    · rw [nI_eq hm3 (by omega)] at e
      omega
theorem hy_putOctet {post : Int32 → SY → Prop} {w : List Nat} {y : Int32} (hw : hx_W zwi w) (hl : w.length ≤ 256) (H1 : (∀ m, m < 256 → y ≠ nI m) → post 1 (zfl, zmf, nI w.length, zpo, zfa, zfi, zin, zce, znu, zca, zse, zwi, zle, zwo)) (H4 : ∀ m, m < 256 → y = nI m → 256 ≤ w.length → post 4 (zfl, zmf, nI w.length, zpo, zfa, zfi, zin, zce, znu, zca, zse, zwi, zle, zwo)) (H0 : ∀ m, m < 256 → y = nI m → w.length < 256 → ∀ a, hx_W a (w ++ [m]) → post 0 (zfl, zmf, nI (w ++ [m]).length, zpo, zfa, zfi, 0, zce, znu, zca, zse, a, zle, zwo)) : wpY_putOctet post (zfl, zmf, nI w.length, zpo, zfa, zfi, zin, zce, znu, zca, zse, zwi, zle, zwo) y := by
  by_cases hy : y < 0
  · refine br_t hy (H1 (fun m hm e => ?_))
    subst e
    exact nI_pos (by omega) hy
  · obtain ⟨m, hm3, rfl⟩ := nI_of hy
    refine br_f hy (pk_le m 255 (fun z => ?_) (fun z => H1 (fun j hj e => ?_)))
    · refine pk_lt w.length 256 (fun a => ?_) (fun a => H4 m (by omega) rfl a)
      exact hy_emit (w := w) (b := m) hw a rfl (fun b hb => H0 m (by omega) rfl a b hb)
    · rw [nI_eq hm3 (by omega)] at e
      omega
theorem hx_setOctet {post : Int32 → SX → Prop} {n : Nat} {x y : Int32} (hl : n ≤ 256) (H1 : ¬ (∃ i m, i < n ∧ m < 256 ∧ x = nI i ∧ y = nI m) → post 1 (qs1, qs2, qs3, qs4, qs5, qs6, qs7, qs8, qlc, qgc, qdc, nI n, qin, qfl, qmf, qli, qlo, qta, qlt, qcu, qrv, qrs, qoc, qln, qcn, qhd, qsz, qcp, qcw, qcb, qsy, qk1, qk2, qk3, qk4, qlm, qgf, qdf, qwi)) (H0 : ∀ i m, i < n → m < 256 → x = nI i → y = nI m → post 0 (qs1, qs2, qs3, qs4, qs5, qs6, qs7, qs8, qlc, qgc, qdc, nI n, 0, qfl, qmf, qli, qlo, qta, qlt, qcu, qrv, qrs, qoc, qln, qcn, qhd, qsz, qcp, qcw, qcb, qsy, qk1, qk2, qk3, qk4, qlm, qgf, qdf, upd qwi i (nI m))) : wpX_setOctet post (qs1, qs2, qs3, qs4, qs5, qs6, qs7, qs8, qlc, qgc, qdc, nI n, qin, qfl, qmf, qli, qlo, qta, qlt, qcu, qrv, qrs, qoc, qln, qcn, qhd, qsz, qcp, qcw, qcb, qsy, qk1, qk2, qk3, qk4, qlm, qgf, qdf, qwi) x y := by
  by_cases hx : x < 0
  · refine br_t hx (H1 (fun ⟨i, m, h1, h2, e1, e2⟩ => ?_))
    subst e1
    exact nI_pos (by omega) hx
  · obtain ⟨i, hi3, rfl⟩ := nI_of hx
    refine br_f hx (pk_le n i (fun a => H1 (fun ⟨j, m, h1, h2, e1, e2⟩ => ?_)) (fun a => ?_))
    · rw [nI_eq hi3 (by omega)] at e1
      omega
    · by_cases hy : y < 0
      · refine br_t hy (H1 (fun ⟨j, m, h1, h2, e1, e2⟩ => ?_))
        subst e2
        exact nI_pos (by omega) hy
      · obtain ⟨m, hm3, rfl⟩ := nI_of hy
        refine br_f hy (pk_le m 255 (fun z => ?_) (fun z => H1 (fun ⟨j, k, h1, h2, e1, e2⟩ => ?_)))
        · exact And.intro (vp_in_nI (by omega) (by decide)) (nm_r (hc_up rfl (by omega) rfl) (H0 i m a (by omega) rfl rfl))
        · rw [nI_eq hm3 (by omega)] at e2
          omega
theorem hy_setOctet {post : Int32 → SY → Prop} {n : Nat} {x y : Int32} (hl : n ≤ 256) (H1 : ¬ (∃ i m, i < n ∧ m < 256 ∧ x = nI i ∧ y = nI m) → post 1 (zfl, zmf, nI n, zpo, zfa, zfi, zin, zce, znu, zca, zse, zwi, zle, zwo)) (H0 : ∀ i m, i < n → m < 256 → x = nI i → y = nI m → post 0 (zfl, zmf, nI n, zpo, zfa, zfi, 0, zce, znu, zca, zse, upd zwi i (nI m), zle, zwo)) : wpY_setOctet post (zfl, zmf, nI n, zpo, zfa, zfi, zin, zce, znu, zca, zse, zwi, zle, zwo) x y := by
  by_cases hx : x < 0
  · refine br_t hx (H1 (fun ⟨i, m, h1, h2, e1, e2⟩ => ?_))
    subst e1
    exact nI_pos (by omega) hx
  · obtain ⟨i, hi3, rfl⟩ := nI_of hx
    refine br_f hx (pk_le n i (fun a => H1 (fun ⟨j, m, h1, h2, e1, e2⟩ => ?_)) (fun a => ?_))
    · rw [nI_eq hi3 (by omega)] at e1
      omega
    · by_cases hy : y < 0
      · refine br_t hy (H1 (fun ⟨j, m, h1, h2, e1, e2⟩ => ?_))
        subst e2
        exact nI_pos (by omega) hy
      · obtain ⟨m, hm3, rfl⟩ := nI_of hy
        refine br_f hy (pk_le m 255 (fun z => ?_) (fun z => H1 (fun ⟨j, k, h1, h2, e1, e2⟩ => ?_)))
        · exact And.intro (vp_in_nI (by omega) (by decide)) (nm_r (hc_up rfl (by omega) rfl) (H0 i m a (by omega) rfl rfl))
        · rw [nI_eq hm3 (by omega)] at e2
          omega
theorem hx_Wset {a : Nat → Int32} {w : List Nat} (h : hx_W a w) (i m : Nat) (hi : i < w.length) : hx_W (upd a i (nI m)) (w.set i m) := by
  intro j hj
  rw [List.length_set] at hj
  rw [List.getD_eq_getElem?_getD, List.getElem?_set]
  by_cases e : i = j
  · subst e
    rw [pk_us, if_pos rfl, if_pos hi]
    rfl
  · rw [pk_un (fun z => e z.symm), if_neg e, h j hj, List.getD_eq_getElem?_getD]
theorem hc_byset {w : List Nat} (h : hc_by w) {i m : Nat} (hm : m < 256) : hc_by (w.set i m) := by
  intro x hx
  rcases List.mem_or_eq_of_mem_set hx with z | z
  · exact h x z
  · omega
end
end
section
theorem i_vc_nameOctet {k : Nat} {u : SX} {v : SY} (I : i_Rel k u v) (hk : k + 5 ≤ 2562) (v1 : Int32) : wpX_nameOctet (fun r u' => wpY_nameOctet (fun r' v' => r' = r ∧ i_Rel (k + 5) u' v') v v1) u v1 := by
  refine I (fun u v => wpX_nameOctet (fun r u' => wpY_nameOctet (fun r' v' => r' = r ∧ i_Rel (k + 5) u' v') v v1) u v1) ?_
  intro vfl vmf vli vlo vta vlt vin vsg vls vgt vst vsc vrt vrc vw qs1 qs2 qs3 qs4 qs5 qs6 qs7 qs8 qdc qcu qrv qrs qoc qln qcn qhd qsz qcp qcw qcb qsy qk1 qk2 qk3 qk4 qlm qgf qdf qwi T zpo zfa zfi zce znu zca zse zwi zle zwo T2 mk V F G
  obtain ⟨e0, e1⟩ := hr_sg F G
  refine hx_nameOctet (T := T) F.1 (fun z => ?_) (fun c hc e l => ?_) (fun c hc e l o ln hm => ?_)
  · exact hy_nameOctet (T := T2) (mk := mk) G.1 (fun _ => ⟨rfl, hr_in V F G⟩) (fun c hc e _ => absurd e (z c hc)) (fun c hc e _ _ _ => absurd e (z c hc))
  · exact hy_nameOctet (T := T2) (mk := mk) G.1 (fun z => absurd e (z c hc)) (fun _ _ _ _ => ⟨rfl, hr_in V F G⟩) (fun _ _ _ l2 _ _ => absurd l (by rw [e0]; omega))
  · refine hy_nameOctet (T := T2) (mk := mk) G.1 (fun z => absurd e (z c hc)) (fun _ _ _ l2 => absurd l (by rw [e0]; omega)) (fun c2 hc2 ec2 l2 C hm2 => ⟨rfl, ?_⟩)
    rw [e, nI_eq (by omega) (by omega)] at ec2
    subst ec2
    have FX := hr_Xst F hm (fun x h _ => hc_un h)
    have GY := hr_Yst G hm2 (fun x h => hc_un (by omega))
    have es : hc_fl (hc_ut T 28 (T 28 ++ [c])) 14 = hc_fl (hc_ut T2 0 (T2 0 ++ [c])) 0 := by
      show (hc_ut T 28 (T 28 ++ [c]) 28, hc_ut T 28 (T 28 ++ [c]) 29) = (hc_ut T2 0 (T2 0 ++ [c]) 0, hc_ut T2 0 (T2 0 ++ [c]) 1)
      rw [hc_us, hc_us, hc_un (by omega), hc_un (by omega), e0, e1]
    rw [es] at FX
    exact hr_in V FX GY
theorem i_vc_valueOctet {k : Nat} {u : SX} {v : SY} (I : i_Rel k u v) (hk : k + 5 ≤ 2562) (v1 : Int32) : wpX_valueOctet (fun r u' => wpY_valueOctet (fun r' v' => r' = r ∧ i_Rel (k + 5) u' v') v v1) u v1 := by
  refine I (fun u v => wpX_valueOctet (fun r u' => wpY_valueOctet (fun r' v' => r' = r ∧ i_Rel (k + 5) u' v') v v1) u v1) ?_
  intro vfl vmf vli vlo vta vlt vin vsg vls vgt vst vsc vrt vrc vw qs1 qs2 qs3 qs4 qs5 qs6 qs7 qs8 qdc qcu qrv qrs qoc qln qcn qhd qsz qcp qcw qcb qsy qk1 qk2 qk3 qk4 qlm qgf qdf qwi T zpo zfa zfi zce znu zca zse zwi zle zwo T2 mk V F G
  obtain ⟨e0, e1⟩ := hr_sg F G
  refine hx_valueOctet (T := T) F.1 (fun z => ?_) (fun c hc e l => ?_) (fun c hc e l o ln hm => ?_)
  · exact hy_valueOctet (T := T2) (mk := mk) G.1 (fun _ => ⟨rfl, hr_in V F G⟩) (fun c hc e _ => absurd e (z c hc)) (fun c hc e _ _ _ => absurd e (z c hc))
  · exact hy_valueOctet (T := T2) (mk := mk) G.1 (fun z => absurd e (z c hc)) (fun _ _ _ _ => ⟨rfl, hr_in V F G⟩) (fun _ _ _ l2 _ _ => absurd l (by rw [e1]; omega))
  · refine hy_valueOctet (T := T2) (mk := mk) G.1 (fun z => absurd e (z c hc)) (fun _ _ _ l2 => absurd l (by rw [e1]; omega)) (fun c2 hc2 ec2 l2 C hm2 => ⟨rfl, ?_⟩)
    rw [e, nI_eq (by omega) (by omega)] at ec2
    subst ec2
    have FX := hr_Xst F hm (fun x _ h => hc_un h)
    have GY := hr_Yst G hm2 (fun x h => hc_un (by omega))
    have es : hc_fl (hc_ut T 29 (T 29 ++ [c])) 14 = hc_fl (hc_ut T2 1 (T2 1 ++ [c])) 0 := by
      show (hc_ut T 29 (T 29 ++ [c]) 28, hc_ut T 29 (T 29 ++ [c]) 29) = (hc_ut T2 1 (T2 1 ++ [c]) 0, hc_ut T2 1 (T2 1 ++ [c]) 1)
      rw [hc_us, hc_us, hc_un (by omega), hc_un (by omega), e0, e1]
    rw [es] at FX
    exact hr_in V FX GY
theorem i_vc_stageFrom {k : Nat} {u : SX} {v : SY} (I : i_Rel k u v) (hk : k + 5 ≤ 2562) (v1 : Int32) (v2 : Int32) : wpX_stageFrom (fun r u' => wpY_stageFrom (fun r' v' => r' = r ∧ i_Rel (k + 5) u' v') v v1 (lw_bz v2)) u v1 (lw_bz v2) := by
  refine I (fun u v => wpX_stageFrom (fun r u' => wpY_stageFrom (fun r' v' => r' = r ∧ i_Rel (k + 5) u' v') v v1 (lw_bz v2)) u v1 (lw_bz v2)) ?_
  intro vfl vmf vli vlo vta vlt vin vsg vls vgt vst vsc vrt vrc vw qs1 qs2 qs3 qs4 qs5 qs6 qs7 qs8 qdc qcu qrv qrs qoc qln qcn qhd qsz qcp qcw qcb qsy qk1 qk2 qk3 qk4 qlm qgf qdf qwi T zpo zfa zfi zce znu zca zse zwi zle zwo T2 mk V F G
  obtain ⟨e0, e1⟩ := hr_sg F G
  obtain ⟨b, hb, eb⟩ : ∃ b, b < 2 ∧ lw_bz v2 = nI b := by
    rcases lw_bz_01 v2 with z | z
    · exact ⟨0, by decide, z⟩
    · exact ⟨1, by decide, z⟩
  have hLx : hx_tab T qcn qhd qsz qcp 0 vst vsc := F.2.2.2.2.2.2.2.1
  have hLy : hy_tab T2 znu zca 3 vst vsc := G.2.2.2.2.2.2.2.2.2.1
  have hL := hx_tabL hLx
  refine hx_stageFrom (T := T) F.1 F.2.2.2.1 hLx hb eb (fun z => ?_) (fun i g1 g2 e o l T' hm h1 h2 => ?_)
  · exact hy_stageFrom (T := T2) (mk := mk) G.1 G.2.2.1 hLy hb eb (fun _ => ⟨rfl, hr_in V F G⟩) (fun i g1 g2 e _ _ _ _ _ => absurd e (z i g1 g2))
  · refine hy_stageFrom (T := T2) (mk := mk) G.1 G.2.2.1 hLy hb eb (fun z => absurd e (z i g1 g2)) (fun i2 k1 k2 ei2 C T2' hm2 h3 h4 => ⟨rfl, ?_⟩)
    rw [e, nI_eq (by omega) (by omega)] at ei2
    subst ei2
    have FX := hr_Xst F hm h1
    have GY := hr_Yst G hm2 h3
    rw [h2, e1, ← h4] at FX
    exact hr_in V FX GY
theorem i_vc_clearStage {k : Nat} {u : SX} {v : SY} (I : i_Rel k u v) (hk : k + 5 ≤ 2562) : wpX_clearStage (fun u' => wpY_clearStage (fun v' => i_Rel (k + 5) u' v') v) u := by
  refine I (fun u v => wpX_clearStage (fun u' => wpY_clearStage (fun v' => i_Rel (k + 5) u' v') v) u) ?_
  intro vfl vmf vli vlo vta vlt vin vsg vls vgt vst vsc vrt vrc vw qs1 qs2 qs3 qs4 qs5 qs6 qs7 qs8 qdc qcu qrv qrs qoc qln qcn qhd qsz qcp qcw qcb qsy qk1 qk2 qk3 qk4 qlm qgf qdf qwi T zpo zfa zfi zce znu zca zse zwi zle zwo T2 mk V F G
  refine hx_clearStage (T := T) F.1 (fun l hm => ?_)
  refine hy_clearStage (T := T2) (mk := mk) G.1 (fun C hm2 => ?_)
  have FX := hr_Xst F hm (fun x h h' => hc_ufn h h')
  have GY := hr_Yst G hm2 (fun x h => hc_ufn (by omega) (by omega))
  rw [hc_ufs] at FX GY
  exact hr_in V FX GY
theorem i_vc_addField {k : Nat} {u : SX} {v : SY} (I : i_Rel k u v) (hk : k + 5 ≤ 2562) (v1 : Int32) : wpX_addField (fun r u' => wpY_addField (fun r' v' => r' = r ∧ i_Rel (k + 5) u' v') v v1) u v1 := by
  refine I (fun u v => wpX_addField (fun r u' => wpY_addField (fun r' v' => r' = r ∧ i_Rel (k + 5) u' v') v v1) u v1) ?_
  intro vfl vmf vli vlo vta vlt vin vsg vls vgt vst vsc vrt vrc vw qs1 qs2 qs3 qs4 qs5 qs6 qs7 qs8 qdc qcu qrv qrs qoc qln qcn qhd qsz qcp qcw qcb qsy qk1 qk2 qk3 qk4 qlm qgf qdf qwi T zpo zfa zfi zce znu zca zse zwi zle zwo T2 mk V F G
  obtain ⟨w1, w2, w3, w4, w5, w6, w7, w8, w9, w10, w11, w12, w13⟩ := id V
  obtain ⟨f1, f2, f3, f4, f5, f6, f7, f8, f9, f10⟩ := id F
  obtain ⟨g1, g2, g3, g4, g5, g6, g7, g8, g9, g10, g11, g12, g13⟩ := id G
  refine hx_addField (T := T) (k := vls.length) (mf := vmf) f1 w12 (by omega) w3 (fun z => ?_) (fun m hm e a => ?_) (fun m hm e a b => ?_) (fun m hm e a b o l hX => ?_)
  · exact hy_addField (T := T2) (mk := mk) g1 w12 (by omega) w3 g6 (fun _ => ⟨rfl, hr_in V F G⟩) (fun m hm e _ => absurd e (z m hm)) (fun m hm e _ _ => absurd e (z m hm)) (fun m hm e _ _ _ _ => absurd e (z m hm))
  · exact hy_addField (T := T2) (mk := mk) g1 w12 (by omega) w3 g6 (fun z => absurd e (z m hm)) (fun _ _ _ _ => ⟨rfl, hr_in V F G⟩) (fun _ _ _ a2 _ => absurd a (by omega)) (fun _ _ _ a2 _ _ _ => absurd a (by omega))
  · exact hy_addField (T := T2) (mk := mk) g1 w12 (by omega) w3 g6 (fun z => absurd e (z m hm)) (fun _ _ _ a2 => absurd a (by omega)) (fun _ _ _ _ _ => ⟨rfl, hr_in V F G⟩) (fun _ _ _ _ b2 _ _ => absurd b (by omega))
  · refine hy_addField (T := T2) (mk := mk) g1 w12 (by omega) w3 g6 (fun z => absurd e (z m hm)) (fun _ _ _ a2 => absurd a (by omega)) (fun _ _ _ _ b2 => absurd b (by omega)) (fun m2 hm2 em2 _ _ C hY => ⟨rfl, ?_⟩)
    rw [e, nI_eq (by omega) (by omega)] at em2
    subst em2
    have el : (vls ++ [(vsg, m)]).length = vls.length + 1 := by
      rw [List.length_append]
      rfl
    have tx : ∀ x, x ≠ 28 → x ≠ 29 → x ≠ 2 * (15 + vls.length) → x ≠ 2 * (15 + vls.length) + 1 → hc_uf (hc_uf T (15 + vls.length) (hc_fl T 14)) 14 ([], []) x = T x := fun x h1 h2 h3 h4 => (hc_ufn (by omega) (by omega)).trans (hc_ufn h3 h4)
    have ty : ∀ x, 2 ≤ x → x ≠ 2 * (32 + vls.length) → x ≠ 2 * (32 + vls.length) + 1 → hc_uf (hc_uf T2 (32 + vls.length) (hc_fl T2 0)) 0 ([], []) x = T2 x := fun x h1 h3 h4 => (hc_ufn (by omega) (by omega)).trans (hc_ufn h3 h4)
    have V2 : hr_V vfl vmf vli vlo vta vlt vin (vls ++ [(vsg, m)]) vgt vw := by
      refine ⟨w1, w2, w3, w4, w5, w6, w7, w8, by omega, fun i hi => ?_, w11, w12, w13⟩
      rw [hc_ga]
      by_cases c : i < vls.length
      · rw [if_pos c]
        exact w10 i c
      · rw [if_neg c, if_pos (by omega)]
        exact hm
    have FX : hr_XF ([], []) (vls ++ [(vsg, m)]) vgt vst vsc vrt vrc vw (hc_uf (hc_uf T (15 + vls.length) (hc_fl T 14)) 14 ([], [])) o l qcn qhd qsz qcp qcw qcb qsy qk1 qk2 qk3 qk4 (upd qlm vls.length (nI m)) qgf qwi := by
      refine ⟨hX, f2, f3, fun i hi => ?_, hc_ufs, fun i hi => ?_, fun i hi => ?_, hx_tabC f8 rfl rfl rfl rfl (fun x _ _ => tx x (by omega) (by omega) (by omega) (by omega)), hx_tabC f9 rfl rfl rfl rfl (fun x _ _ => tx x (by omega) (by omega) (by omega) (by omega)), f10⟩
      · rw [← f4 i hi]
        exact hc_flc (tx _ (by omega) (by omega) (by omega) (by omega)) (tx _ (by omega) (by omega) (by omega) (by omega))
      · rw [hc_ga]
        by_cases c : i = vls.length
        · subst c
          rw [if_neg (by omega), if_pos rfl, hc_ufo (by omega), hc_ufs, pk_us]
          exact ⟨f5, rfl⟩
        · rw [if_pos (by omega), pk_un c]
          exact ⟨Eq.trans (hc_flc (tx _ (by omega) (by omega) (by omega) (by omega)) (tx _ (by omega) (by omega) (by omega) (by omega))) (f6 i (by omega)).1, (f6 i (by omega)).2⟩
      · exact ⟨Eq.trans (hc_flc (tx _ (by omega) (by omega) (by omega) (by omega)) (tx _ (by omega) (by omega) (by omega) (by omega))) (f7 i hi).1, (f7 i hi).2⟩
    have GY : hr_YF vli vlo vta vlt ([], []) (vls ++ [(vsg, m)]) vgt vst vsc vrt vrc vw (hc_uf (hc_uf T2 (32 + vls.length) (hc_fl T2 0)) 0 ([], [])) (hy_um mk (32 + vls.length) m) C (upd znu 1 (nI (vls.length + 1))) zca zse zwi zle zwo := by
      refine ⟨hY, g2, fun i hi => ?_, hc_ufs, (pk_un (by omega)).trans g5, ?_, fun i hi => ?_, (pk_un (by omega)).trans g8, fun i hi => ?_, hy_tabC g10 (hy_tabL g10) (pk_un (by omega)) rfl (fun x _ _ => ty x (by omega) (by omega) (by omega)), hy_tabC g11 (hy_tabL g11) (pk_un (by omega)) rfl (fun x _ _ => ty x (by omega) (by omega) (by omega)), g12, g13⟩
      · rw [← g3 i hi]
        exact hc_flc (ty _ (by omega) (by omega) (by omega)) (ty _ (by omega) (by omega) (by omega))
      · rw [el]
        exact pk_us
      · rw [hc_ga]
        unfold hy_um
        by_cases c : i = vls.length
        · subst c
          rw [if_neg (by omega), if_pos rfl, hc_ufo (by omega), hc_ufs, if_pos rfl]
          exact ⟨g4, rfl⟩
        · rw [if_pos (by omega), if_neg (by omega)]
          exact ⟨Eq.trans (hc_flc (ty _ (by omega) (by omega) (by omega)) (ty _ (by omega) (by omega) (by omega))) (g7 i (by omega)).1, (g7 i (by omega)).2⟩
      · unfold hy_um
        rw [if_neg (by omega)]
        exact ⟨Eq.trans (hc_flc (ty _ (by omega) (by omega) (by omega)) (ty _ (by omega) (by omega) (by omega))) (g9 i hi).1, (g9 i hi).2⟩
    exact hr_inL el.symm rfl rfl V2 FX GY
theorem i_vc_clearList {k : Nat} {u : SX} {v : SY} (I : i_Rel k u v) (hk : k + 5 ≤ 2562) : wpX_clearList (fun r u' => wpY_clearList (fun r' v' => r' = r ∧ i_Rel (k + 5) u' v') v) u := by
  refine I (fun u v => wpX_clearList (fun r u' => wpY_clearList (fun r' v' => r' = r ∧ i_Rel (k + 5) u' v') v) u) ?_
  intro vfl vmf vli vlo vta vlt vin vsg vls vgt vst vsc vrt vrc vw qs1 qs2 qs3 qs4 qs5 qs6 qs7 qs8 qdc qcu qrv qrs qoc qln qcn qhd qsz qcp qcw qcb qsy qk1 qk2 qk3 qk4 qlm qgf qdf qwi T zpo zfa zfi zce znu zca zse zwi zle zwo T2 mk V F G
  obtain ⟨w1, w2, w3, w4, w5, w6, w7, w8, w9, w10, w11, w12, w13⟩ := id V
  obtain ⟨f1, f2, f3, f4, f5, f6, f7, f8, f9, f10⟩ := id F
  obtain ⟨g1, g2, g3, g4, g5, g6, g7, g8, g9, g10, g11, g12, g13⟩ := id G
  have nl : ∀ i, ¬ i < ([] : List (hc_Fd × Nat)).length := fun i => Nat.not_lt_zero i
  refine pk_le vw.length 0 (fun a => ?_) (fun a => ?_)
  · refine pk_le vw.length 0 (fun _ => nm_e ⟨rfl, ?_⟩) (fun b => absurd a (by omega))
    exact hr_in (vls := []) ⟨w1, w2, w3, w4, w5, w6, w7, w8, Nat.zero_le _, fun i hi => absurd hi (nl i), w11, w12, w13⟩ ⟨f1, f2, f3, f4, f5, fun i hi => absurd hi (nl i), f7, f8, f9, f10⟩ ⟨g1, g2, g3, g4, (pk_un (by omega)).trans g5, pk_us, fun i hi => absurd hi (nl i), (pk_un (by omega)).trans g8, g9, hy_tabC g10 (hy_tabL g10) (pk_un (by omega)) rfl (fun _ _ _ => rfl), hy_tabC g11 (hy_tabL g11) (pk_un (by omega)) rfl (fun _ _ _ => rfl), g12, g13⟩
  · exact pk_le vw.length 0 (fun b => absurd a (by omega)) (fun _ => ⟨rfl, hr_in V F G⟩)
theorem i_vc_setLimit {k : Nat} {u : SX} {v : SY} (I : i_Rel k u v) (hk : k + 5 ≤ 2562) (v1 : Int32) : wpX_setLimit (fun r u' => wpY_setLimit (fun r' v' => r' = r ∧ i_Rel (k + 5) u' v') v v1) u v1 := by
  refine I (fun u v => wpX_setLimit (fun r u' => wpY_setLimit (fun r' v' => r' = r ∧ i_Rel (k + 5) u' v') v v1) u v1) ?_
  intro vfl vmf vli vlo vta vlt vin vsg vls vgt vst vsc vrt vrc vw qs1 qs2 qs3 qs4 qs5 qs6 qs7 qs8 qdc qcu qrv qrs qoc qln qcn qhd qsz qcp qcw qcb qsy qk1 qk2 qk3 qk4 qlm qgf qdf qwi T zpo zfa zfi zce znu zca zse zwi zle zwo T2 mk V F G
  obtain ⟨w1, w2, w3, w4, w5, w6, w7, w8, w9, w10, w11, w12, w13⟩ := id V
  obtain ⟨g1, g2, g3, g4, g5, g6, g7, g8, g9, g10, g11, ⟨s0, s1, s2, s3⟩, g13⟩ := id G
  refine hx_setLimit w12 w5 w6 w7 (fun z => ?_) (fun m hm e a => ?_) (fun m hm e a => ?_)
  · exact hy_setLimit w12 w5 w6 w7 s1 s2 s3 (fun _ => ⟨rfl, hr_in V F G⟩) (fun m hm e _ => absurd e (z m hm)) (fun m hm e _ _ _ _ _ _ => absurd e (z m hm))
  · exact hy_setLimit w12 w5 w6 w7 s1 s2 s3 (fun z => absurd e (z m hm)) (fun _ _ _ _ => ⟨rfl, hr_in V F G⟩) (fun _ _ _ a2 _ _ _ _ _ => absurd a (by omega))
  · refine hy_setLimit w12 w5 w6 w7 s1 s2 s3 (fun z => absurd e (z m hm)) (fun _ _ _ a2 => absurd a (by omega)) (fun m2 hm2 em2 _ se t0 t1 t2 t3 => ⟨rfl, ?_⟩)
    rw [e, nI_eq (by omega) (by omega)] at em2
    subst em2
    exact hr_in ⟨w1, w2, w3, hm, by omega, by omega, by omega, w8, w9, w10, w11, w12, w13⟩ F ⟨g1, g2, g3, g4, g5, g6, g7, g8, g9, g10, g11, ⟨t0, t1, t2, t3⟩, g13⟩
theorem i_vc_resize {k : Nat} {u : SX} {v : SY} (I : i_Rel k u v) (hk : k + 5 ≤ 2562) (v1 : Int32) : wpX_resize (fun r u' => wpY_resize (fun r' v' => r' = r ∧ i_Rel (k + 5) u' v') v v1) u v1 := by
  refine I (fun u v => wpX_resize (fun r u' => wpY_resize (fun r' v' => r' = r ∧ i_Rel (k + 5) u' v') v v1) u v1) ?_
  intro vfl vmf vli vlo vta vlt vin vsg vls vgt vst vsc vrt vrc vw qs1 qs2 qs3 qs4 qs5 qs6 qs7 qs8 qdc qcu qrv qrs qoc qln qcn qhd qsz qcp qcw qcb qsy qk1 qk2 qk3 qk4 qlm qgf qdf qwi T zpo zfa zfi zce znu zca zse zwi zle zwo T2 mk V F G
  obtain ⟨w1, w2, w3, w4, w5, w6, w7, w8, w9, w10, w11, w12, w13⟩ := id V
  obtain ⟨g1, g2, g3, g4, g5, g6, g7, g8, g9, g10, g11, ⟨s0, s1, s2, s3⟩, g13⟩ := id G
  refine hx_resize w4 w7 (fun z => ?_) (fun m hm e => ?_)
  · exact hy_resize w4 w7 s0 s3 (fun _ => ⟨rfl, hr_in V F G⟩) (fun m hm e _ _ _ _ _ => absurd e (z m hm))
  · refine hy_resize w4 w7 s0 s3 (fun z => absurd e (z m hm)) (fun m2 hm2 em2 se t0 t1 t2 t3 => ⟨rfl, ?_⟩)
    rw [e, nI_eq (by omega) (by omega)] at em2
    subst em2
    exact hr_in ⟨w1, w2, w3, w4, w5, by omega, by omega, w8, w9, w10, w11, w12, w13⟩ F ⟨g1, g2, g3, g4, g5, g6, g7, g8, g9, g10, g11, ⟨t0.trans s0, t1.trans s1, t2, t3⟩, g13⟩
theorem i_vc_putOctet {k : Nat} {u : SX} {v : SY} (I : i_Rel k u v) (hk : k + 5 ≤ 2562) (v1 : Int32) : wpX_putOctet (fun r u' => wpY_putOctet (fun r' v' => r' = r ∧ i_Rel (k + 5) u' v') v v1) u v1 := by
  refine I (fun u v => wpX_putOctet (fun r u' => wpY_putOctet (fun r' v' => r' = r ∧ i_Rel (k + 5) u' v') v v1) u v1) ?_
  intro vfl vmf vli vlo vta vlt vin vsg vls vgt vst vsc vrt vrc vw qs1 qs2 qs3 qs4 qs5 qs6 qs7 qs8 qdc qcu qrv qrs qoc qln qcn qhd qsz qcp qcw qcb qsy qk1 qk2 qk3 qk4 qlm qgf qdf qwi T zpo zfa zfi zce znu zca zse zwi zle zwo T2 mk V F G
  have hwx : hx_W qwi vw := F.2.2.2.2.2.2.2.2.2
  have hwy : hx_W zwi vw := G.2.2.2.2.2.2.2.2.2.2.2.2
  have w12 : vw.length ≤ 256 := V.2.2.2.2.2.2.2.2.2.2.2.1
  have w13 : hc_by vw := V.2.2.2.2.2.2.2.2.2.2.2.2
  refine hx_putOctet hwx w12 (fun z => ?_) (fun m hm e a => ?_) (fun m hm e a b hb => ?_)
  · exact hy_putOctet hwy w12 (fun _ => ⟨rfl, hr_in V F G⟩) (fun m hm e _ => absurd e (z m hm)) (fun m hm e _ _ _ => absurd e (z m hm))
  · exact hy_putOctet hwy w12 (fun z => absurd e (z m hm)) (fun _ _ _ _ => ⟨rfl, hr_in V F G⟩) (fun _ _ _ a2 _ _ => absurd a (by omega))
  · refine hy_putOctet hwy w12 (fun z => absurd e (z m hm)) (fun _ _ _ a2 => absurd a (by omega)) (fun m2 hm2 em2 _ b2 hb2 => ⟨rfl, ?_⟩)
    rw [e, nI_eq (by omega) (by omega)] at em2
    subst em2
    exact hr_in (hr_Vw V (by rw [List.length_append]; exact a) (hc_byA w13 (hc_by1 hm)) (ins := 0) (by decide)) (hr_Xw F hb) (hr_Yw G hb2)
theorem i_vc_setOctet {k : Nat} {u : SX} {v : SY} (I : i_Rel k u v) (hk : k + 5 ≤ 2562) (v1 : Int32) (v2 : Int32) : wpX_setOctet (fun r u' => wpY_setOctet (fun r' v' => r' = r ∧ i_Rel (k + 5) u' v') v v1 v2) u v1 v2 := by
  refine I (fun u v => wpX_setOctet (fun r u' => wpY_setOctet (fun r' v' => r' = r ∧ i_Rel (k + 5) u' v') v v1 v2) u v1 v2) ?_
  intro vfl vmf vli vlo vta vlt vin vsg vls vgt vst vsc vrt vrc vw qs1 qs2 qs3 qs4 qs5 qs6 qs7 qs8 qdc qcu qrv qrs qoc qln qcn qhd qsz qcp qcw qcb qsy qk1 qk2 qk3 qk4 qlm qgf qdf qwi T zpo zfa zfi zce znu zca zse zwi zle zwo T2 mk V F G
  have hwx : hx_W qwi vw := F.2.2.2.2.2.2.2.2.2
  have hwy : hx_W zwi vw := G.2.2.2.2.2.2.2.2.2.2.2.2
  have w12 : vw.length ≤ 256 := V.2.2.2.2.2.2.2.2.2.2.2.1
  have w13 : hc_by vw := V.2.2.2.2.2.2.2.2.2.2.2.2
  refine hx_setOctet w12 (fun z => ?_) (fun i m hi hm e1 e2 => ?_)
  · exact hy_setOctet w12 (fun _ => ⟨rfl, hr_in V F G⟩) (fun i m hi hm e1 e2 => absurd ⟨i, m, hi, hm, e1, e2⟩ z)
  · refine hy_setOctet w12 (fun z => absurd ⟨i, m, hi, hm, e1, e2⟩ z) (fun i2 m2 hi2 hm2 e3 e4 => ⟨rfl, ?_⟩)
    rw [e1, nI_eq (by omega) (by omega)] at e3
    rw [e2, nI_eq (by omega) (by omega)] at e4
    subst e3 e4
    exact hr_inL rfl rfl (List.length_set).symm (hr_Vw (w := vw.set i m) V (by rw [List.length_set]; exact w12) (hc_byset w13 hm) (ins := 0) (by decide)) (hr_Xw F (hx_Wset hwx i m hi)) (hr_Yw G (hx_Wset hwy i m hi))
theorem i_vc_dropWire {k : Nat} {u : SX} {v : SY} (I : i_Rel k u v) (hk : k + 5 ≤ 2562) : wpX_dropWire (fun r u' => wpY_dropWire (fun r' v' => r' = r ∧ i_Rel (k + 5) u' v') v) u := by
  refine I (fun u v => wpX_dropWire (fun r u' => wpY_dropWire (fun r' v' => r' = r ∧ i_Rel (k + 5) u' v') v) u) ?_
  intro vfl vmf vli vlo vta vlt vin vsg vls vgt vst vsc vrt vrc vw qs1 qs2 qs3 qs4 qs5 qs6 qs7 qs8 qdc qcu qrv qrs qoc qln qcn qhd qsz qcp qcw qcb qsy qk1 qk2 qk3 qk4 qlm qgf qdf qwi T zpo zfa zfi zce znu zca zse zwi zle zwo T2 mk V F G
  have w12 : vw.length ≤ 256 := V.2.2.2.2.2.2.2.2.2.2.2.1
  have wn : ∀ a : Nat → Int32, hx_W a [] := fun a i hi => absurd hi (Nat.not_lt_zero i)
  refine pk_eq vw.length 0 (fun a => ?_) (fun a => ?_)
  · exact pk_eq vw.length 0 (fun _ => ⟨rfl, hr_in V F G⟩) (fun b => absurd a b)
  · refine pk_eq vw.length 0 (fun b => absurd b a) (fun _ => ⟨rfl, ?_⟩)
    exact hr_in (vw := []) (hr_Vw V (Nat.zero_le _) (fun x hx => absurd hx (by simp)) (ins := 0) (by decide)) (hr_Xw F (wn _)) (hr_Yw G (wn _))
end
section
section
variable {qs1 qs2 qs3 qs4 qs5 qs6 qs7 qs8 qlc qgc qdc qwc qin qfl qmf qli qlo qta qlt qcu qrv qrs : Int32} {qoc qln qcn qhd qsz qcp qcw qcb qsy qk1 qk2 qk3 qk4 qlm qgf qdf qwi : Nat → Int32} {zfl zmf zwl zpo zfa zfi zin : Int32} {zce znu zca zse zwi zle zwo : Nat → Int32} {vfl : Nat} {vmf : Nat} {vli : Nat} {vlo : Nat} {vta : Nat} {vlt : Nat} {vin : Nat} {vsg : hc_Fd} {vls : List (hc_Fd × Nat)} {vgt : List (hc_Fd × Nat)} {vst : List hc_Fd} {vsc : Nat} {vrt : List hc_Fd} {vrc : Nat} {vw : List Nat} {T T2 : Nat → List Nat} {mk : Nat → Nat}
theorem hc_in4 (x : Int32) : (∃ m, m ≤ 4 ∧ x = nI m) ∨ ∀ m, m ≤ 4 → x ≠ nI m := by
  by_cases h : ∃ m, m ≤ 4 ∧ x = nI m
  · exact Or.inl h
  · exact Or.inr (fun m hm e => h ⟨m, hm, e⟩)
theorem hy_find {post : Int32 → Prop} {w p num : Nat} {x y z : Int32} (hw : w ≤ 4) (hp : p < 2) (hn : num ≤ 16) (ex : x = nI w) (ez : z = nI p) (en : znu w = nI num) (H0 : (∀ i, (if w < 3 then 0 else 1) ≤ i → i < num + (if w < 3 then 0 else 15) → y ≠ nI i) → post (-1)) (H1 : ∀ i, (if w < 3 then 0 else 1) ≤ i → i < num + (if w < 3 then 0 else 15) → y = nI i → post (nI (35 * hy_ro w i + 17 * p))) : wpY_find post (zfl, zmf, zwl, zpo, zfa, zfi, zin, zce, znu, zca, zse, zwi, zle, zwo) x y z := by
  subst ex ez
  have iw : vp_in (nI w) 8 := vp_in_nI (by omega) (by decide)
  have aw := hc_at (a := znu) (x := nI w) rfl (by omega) en
  have g : ∀ (lo : Nat), lo = (if w < 3 then 0 else 1) → wY_find_31 post (nI w) y (nI p) (nI lo) y zfl zmf zwl zpo zfa zfi zin zce znu zca zse zwi zle zwo := by
    intro lo hlo
    rw [← hlo] at H0 H1
    have hlo1 : lo ≤ 1 := by
      rw [hlo]
      split <;> omega
    by_cases c : y < nI lo
    · refine br_t c (H0 (fun i h1 h2 e => ?_))
      subst e
      have : i < 2 ^ 31 := by
        by_cases q : w < 3
        · rw [if_pos q] at h2
          omega
        · rw [if_neg q] at h2
          omega
      exact nI_nlt h1 this c
    · have c0 : ¬ y < 0 := fun q => c (Int32.lt_of_lt_of_le q (nI_le (a := 0) (Nat.zero_le lo) (by omega)))
      obtain ⟨i, hi, rfl⟩ := nI_of c0
      have hil : lo ≤ i := by
        by_cases q : lo ≤ i
        · exact q
        · exact absurd (nI_lt (by omega) (by omega)) c
      have g52 : ∀ (of : Nat), of = (if w < 3 then 0 else 15) → wY_find_52 post (nI w) (nI i) (nI p) (nI of) (znu (nI w).toNatClampNeg) (nI i) zfl zmf zwl zpo zfa zfi zin zce znu zca zse zwi zle zwo := by
        intro of hof
        rw [← hof] at H0 H1
        have hof1 : of ≤ 15 := by
          rw [hof]
          split <;> omega
        refine pk_lt i (num + of) (fun q => ?_) (fun q => H0 (fun j h1 h2 e => ?_)) rfl (hc_add aw rfl)
        · refine hy_at (w := w) (i := i) (by omega) hi rfl rfl ?_
          rw [show nI (35 * hy_ro w i) + nI p * 17 = nI (35 * hy_ro w i + 17 * p) from hc_nx (hc_add rfl (hc_mul (b := 17) rfl rfl)) (by omega)]
          exact H1 i hil q rfl
        · rw [nI_eq hi (by omega)] at e
          omega
      refine br_f c (And.intro iw (pk_lt w 3 (fun q => ?_) (fun q => ?_)))
      · exact g52 0 (by rw [if_pos q])
      · exact g52 15 (by rw [if_neg (by omega)])
  refine pk_lt w 0 (fun q => absurd q (by omega)) (fun _ => pk_lt 4 w (fun q => absurd q (by omega)) (fun _ => pk_lt p 0 (fun q => absurd q (by omega)) (fun _ => pk_le p 1 (fun _ => pk_lt w 3 (fun q => ?_) (fun q => ?_)) (fun q => absurd q (by omega)))))
  · exact g 0 (by rw [if_pos q])
  · exact g 1 (by rw [if_neg (by omega)])
theorem hy_findN {post : Int32 → Prop} {x y z : Int32} (h : (∀ m, m ≤ 4 → x ≠ nI m) ∨ (∀ p, p < 2 → z ≠ nI p)) (H : post (-1)) : wpY_find post (zfl, zmf, zwl, zpo, zfa, zfi, zin, zce, znu, zca, zse, zwi, zle, zwo) x y z := by
  by_cases c : x < 0
  · exact br_t c H
  · obtain ⟨w, hw, rfl⟩ := nI_of c
    refine br_f c (pk_lt 4 w (fun _ => H) (fun q => ?_))
    by_cases d : z < 0
    · exact br_t d H
    · obtain ⟨p, hp, rfl⟩ := nI_of d
      refine br_f d (pk_le p 1 (fun e => ?_) (fun _ => H))
      rcases h with h | h
      · exact absurd rfl (h w (by omega))
      · exact absurd rfl (h p (by omega))
theorem hx_slotN {post : Int32 → Prop} {x y : Int32} (h : ∀ m, m ≤ 4 → x ≠ nI m) (H : post (-1)) : wpX_slotAt post (qs1, qs2, qs3, qs4, qs5, qs6, qs7, qs8, qlc, qgc, qdc, qwc, qin, qfl, qmf, qli, qlo, qta, qlt, qcu, qrv, qrs, qoc, qln, qcn, qhd, qsz, qcp, qcw, qcb, qsy, qk1, qk2, qk3, qk4, qlm, qgf, qdf, qwi) x y := by
  have h0 : ¬ x = 0 := h 0 (by decide)
  have h1 : ¬ x = 1 := h 1 (by decide)
  have h2 : ¬ x = 2 := h 2 (by decide)
  have h3 : ¬ x = 3 := h 3 (by decide)
  have h4 : ¬ x = 4 := h 4 (by decide)
  exact br_f h0 (br_f h1 (br_f h2 (br_f h3 (br_f h4 H))))
theorem hx_slot0 {post : Int32 → Prop} {y : Int32} (H1 : y = 0 → post 14) (H0 : ¬ y = 0 → post (-1)) : wpX_slotAt post (qs1, qs2, qs3, qs4, qs5, qs6, qs7, qs8, qlc, qgc, qdc, qwc, qin, qfl, qmf, qli, qlo, qta, qlt, qcu, qrv, qrs, qoc, qln, qcn, qhd, qsz, qcp, qcw, qcb, qsy, qk1, qk2, qk3, qk4, qlm, qgf, qdf, qwi) 0 y := by
  by_cases c : y = 0
  · exact br_t rfl (br_t c (H1 c))
  · exact br_t rfl (br_f c (br_f (by decide) (br_f (by decide) (br_f (by decide) (br_f (by decide) (H0 c))))))
theorem hx_slot1 {post : Int32 → Prop} {n : Nat} {y : Int32} (hn : n ≤ 6) (H1 : ∀ i, i < n → y = nI i → post (nI (15 + i))) (H0 : (∀ i, i < n → y ≠ nI i) → post (-1)) : wpX_slotAt post (qs1, qs2, qs3, qs4, qs5, qs6, qs7, qs8, nI n, qgc, qdc, qwc, qin, qfl, qmf, qli, qlo, qta, qlt, qcu, qrv, qrs, qoc, qln, qcn, qhd, qsz, qcp, qcw, qcb, qsy, qk1, qk2, qk3, qk4, qlm, qgf, qdf, qwi) 1 y := by
  have g : (∀ i, i < n → y ≠ nI i) → wX_slotAt_33 post 1 y qs1 qs2 qs3 qs4 qs5 qs6 qs7 qs8 (nI n) qgc qdc qwc qin qfl qmf qli qlo qta qlt qcu qrv qrs qoc qln qcn qhd qsz qcp qcw qcb qsy qk1 qk2 qk3 qk4 qlm qgf qdf qwi := fun z => br_f (by decide) (br_f (by decide) (br_f (by decide) (H0 z)))
  refine br_f (by decide) (br_t rfl ?_)
  by_cases c : y < 0
  · refine br_t c (g (fun i hi e => ?_))
    subst e
    exact nI_pos (by omega) c
  · obtain ⟨j, hj, rfl⟩ := nI_of c
    refine br_f c (pk_le n j (fun d => g (fun i hi e => ?_)) (fun d => ?_))
    · rw [nI_eq hj (by omega)] at e
      omega
    · rw [show (15 : Int32) + nI j = nI (15 + j) from hc_add rfl rfl]
      exact H1 j d rfl
theorem hx_slot2 {post : Int32 → Prop} {n : Nat} {y : Int32} (hn : n ≤ 6) (H1 : ∀ i, i < n → y = nI i → post (nI (21 + i))) (H0 : (∀ i, i < n → y ≠ nI i) → post (-1)) : wpX_slotAt post (qs1, qs2, qs3, qs4, qs5, qs6, qs7, qs8, qlc, nI n, qdc, qwc, qin, qfl, qmf, qli, qlo, qta, qlt, qcu, qrv, qrs, qoc, qln, qcn, qhd, qsz, qcp, qcw, qcb, qsy, qk1, qk2, qk3, qk4, qlm, qgf, qdf, qwi) 2 y := by
  have g : (∀ i, i < n → y ≠ nI i) → wX_slotAt_55 post 2 y qs1 qs2 qs3 qs4 qs5 qs6 qs7 qs8 qlc (nI n) qdc qwc qin qfl qmf qli qlo qta qlt qcu qrv qrs qoc qln qcn qhd qsz qcp qcw qcb qsy qk1 qk2 qk3 qk4 qlm qgf qdf qwi := fun z => br_f (by decide) (br_f (by decide) (H0 z))
  refine br_f (by decide) (br_f (by decide) (br_t rfl ?_))
  by_cases c : y < 0
  · refine br_t c (g (fun i hi e => ?_))
    subst e
    exact nI_pos (by omega) c
  · obtain ⟨j, hj, rfl⟩ := nI_of c
    refine br_f c (pk_le n j (fun d => g (fun i hi e => ?_)) (fun d => ?_))
    · rw [nI_eq hj (by omega)] at e
      omega
    · rw [show (21 : Int32) + nI j = nI (21 + j) from hc_add rfl rfl]
      exact H1 j d rfl
theorem hx_slot3 {post : Int32 → Prop} {y : Int32} (H : wpX_entrySlot post (qs1, qs2, qs3, qs4, qs5, qs6, qs7, qs8, qlc, qgc, qdc, qwc, qin, qfl, qmf, qli, qlo, qta, qlt, qcu, qrv, qrs, qoc, qln, qcn, qhd, qsz, qcp, qcw, qcb, qsy, qk1, qk2, qk3, qk4, qlm, qgf, qdf, qwi) 0 y) : wpX_slotAt post (qs1, qs2, qs3, qs4, qs5, qs6, qs7, qs8, qlc, qgc, qdc, qwc, qin, qfl, qmf, qli, qlo, qta, qlt, qcu, qrv, qrs, qoc, qln, qcn, qhd, qsz, qcp, qcw, qcb, qsy, qk1, qk2, qk3, qk4, qlm, qgf, qdf, qwi) 3 y := br_f (by decide) (br_f (by decide) (br_f (by decide) (br_t rfl H)))
theorem hx_slot4 {post : Int32 → Prop} {y : Int32} (H : wpX_entrySlot post (qs1, qs2, qs3, qs4, qs5, qs6, qs7, qs8, qlc, qgc, qdc, qwc, qin, qfl, qmf, qli, qlo, qta, qlt, qcu, qrv, qrs, qoc, qln, qcn, qhd, qsz, qcp, qcw, qcb, qsy, qk1, qk2, qk3, qk4, qlm, qgf, qdf, qwi) 1 y) : wpX_slotAt post (qs1, qs2, qs3, qs4, qs5, qs6, qs7, qs8, qlc, qgc, qdc, qwc, qin, qfl, qmf, qli, qlo, qta, qlt, qcu, qrv, qrs, qoc, qln, qcn, qhd, qsz, qcp, qcw, qcb, qsy, qk1, qk2, qk3, qk4, qlm, qgf, qdf, qwi) 4 y := br_f (by decide) (br_f (by decide) (br_f (by decide) (br_f (by decide) (br_t rfl H))))
/-- a field that the getters may see, on both sides -/
theorem hr_slot (V : hr_V vfl vmf vli vlo vta vlt vin vls vgt vw) (F : hr_XF vsg vls vgt vst vsc vrt vrc vw T qoc qln qcn qhd qsz qcp qcw qcb qsy qk1 qk2 qk3 qk4 qlm qgf qwi) (G : hr_YF vli vlo vta vlt vsg vls vgt vst vsc vrt vrc vw T2 mk zce znu zca zse zwi zle zwo) (x y : Int32) :
    ((∀ post : Int32 → Prop, post (-1) → wpX_slotAt post (qs1, qs2, qs3, qs4, qs5, qs6, qs7, qs8, nI vls.length, nI vgt.length, qdc, qwc, qin, qfl, qmf, qli, qlo, qta, qlt, qcu, qrv, qrs, qoc, qln, qcn, qhd, qsz, qcp, qcw, qcb, qsy, qk1, qk2, qk3, qk4, qlm, qgf, qdf, qwi) x y) ∧ ∀ (p : Nat) (z : Int32) (post : Int32 → Prop), p < 2 → z = nI p → post (-1) → wpY_find post (zfl, zmf, zwl, zpo, zfa, zfi, zin, zce, znu, zca, zse, zwi, zle, zwo) x y z)
    ∨ ∃ s r, s < 82 ∧ r < 256 ∧ hc_fl T s = hc_fl T2 r ∧ (∀ post : Int32 → Prop, post (nI s) → wpX_slotAt post (qs1, qs2, qs3, qs4, qs5, qs6, qs7, qs8, nI vls.length, nI vgt.length, qdc, qwc, qin, qfl, qmf, qli, qlo, qta, qlt, qcu, qrv, qrs, qoc, qln, qcn, qhd, qsz, qcp, qcw, qcb, qsy, qk1, qk2, qk3, qk4, qlm, qgf, qdf, qwi) x y) ∧ ∀ (p : Nat) (z : Int32) (post : Int32 → Prop), p < 2 → z = nI p → post (nI (35 * r + 17 * p)) → wpY_find post (zfl, zmf, zwl, zpo, zfa, zfi, zin, zce, znu, zca, zse, zwi, zle, zwo) x y z := by
  obtain ⟨w1, w2, w3, w4, w5, w6, w7, w8, w9, w10, w11, w12, w13⟩ := V
  obtain ⟨f1, f2, f3, f4, f5, f6, f7, f8, f9, f10⟩ := F
  obtain ⟨g1, g2, g3, g4, g5, g6, g7, g8, g9, g10, g11, g12, g13⟩ := G
  have ent : ∀ (t pl : Nat) (tb : List hc_Fd) (cap : Nat), (t = 0 ∧ pl = 3) ∨ (t = 1 ∧ pl = 4) → hx_tab T qcn qhd qsz qcp t tb cap → hy_tab T2 znu zca pl tb cap →
      ((∀ post : Int32 → Prop, post (-1) → wpX_entrySlot post (qs1, qs2, qs3, qs4, qs5, qs6, qs7, qs8, nI vls.length, nI vgt.length, qdc, qwc, qin, qfl, qmf, qli, qlo, qta, qlt, qcu, qrv, qrs, qoc, qln, qcn, qhd, qsz, qcp, qcw, qcb, qsy, qk1, qk2, qk3, qk4, qlm, qgf, qdf, qwi) (nI t) y) ∧ ∀ (p : Nat) (z : Int32) (post : Int32 → Prop), p < 2 → z = nI p → post (-1) → wpY_find post (zfl, zmf, zwl, zpo, zfa, zfi, zin, zce, znu, zca, zse, zwi, zle, zwo) (nI pl) y z)
      ∨ ∃ s r, s < 82 ∧ r < 256 ∧ hc_fl T s = hc_fl T2 r ∧ (∀ post : Int32 → Prop, post (nI s) → wpX_entrySlot post (qs1, qs2, qs3, qs4, qs5, qs6, qs7, qs8, nI vls.length, nI vgt.length, qdc, qwc, qin, qfl, qmf, qli, qlo, qta, qlt, qcu, qrv, qrs, qoc, qln, qcn, qhd, qsz, qcp, qcw, qcb, qsy, qk1, qk2, qk3, qk4, qlm, qgf, qdf, qwi) (nI t) y) ∧ ∀ (p : Nat) (z : Int32) (post : Int32 → Prop), p < 2 → z = nI p → post (nI (35 * r + 17 * p)) → wpY_find post (zfl, zmf, zwl, zpo, zfa, zfi, zin, zce, znu, zca, zse, zwi, zle, zwo) (nI pl) y z := by
    intro t pl tb cap htp hX hY
    have hL := hx_tabL hX
    obtain ⟨t1, t2, t3, t4, t5, h, t6, t7, t8⟩ := hX
    have i0 : (if pl < 3 then 0 else 1) = 1 := if_neg (by omega)
    have i15 : (if pl < 3 then 0 else 15) = 15 := if_neg (by omega)
    by_cases c : ∃ i, 1 ≤ i ∧ i ≤ 14 + tb.length ∧ y = nI i
    · obtain ⟨i, c1, c2, rfl⟩ := c
      refine Or.inr ⟨hx_es t h i, hy_ro pl i, hx_esB (by omega), hy_roB (by omega) (by omega), ?_, fun post hp => ?_, fun p z post hp ez hpo => ?_⟩
      · rw [hx_ent f4 t8 c1 c2, hy_ent (by omega) g3 hY.2.2.2.2 c1 c2]
      · refine hx_entrySlot (t := t) (n := tb.length) (h := h) (by omega) rfl hL t6 t1 t7 (fun q => absurd rfl (q i c1 c2)) (fun j d1 d2 e => ?_)
        rw [nI_eq (by omega) (by omega)] at e
        subst e
        exact hp
      · refine hy_find (w := pl) (p := p) (num := tb.length) (by omega) hp hL rfl ez hY.1 (fun q => absurd rfl (q i (by omega) (by omega))) (fun j d1 d2 e => ?_)
        rw [i15] at d2
        rw [nI_eq (by omega) (by omega)] at e
        subst e
        exact hpo
    · refine Or.inl ⟨fun post hp => ?_, fun p z post hp ez hpo => ?_⟩
      · exact hx_entrySlot (t := t) (n := tb.length) (h := h) (by omega) rfl hL t6 t1 t7 (fun _ => hp) (fun j d1 d2 e => absurd ⟨j, d1, d2, e⟩ c)
      · refine hy_find (w := pl) (p := p) (num := tb.length) (by omega) hp hL rfl ez hY.1 (fun _ => hpo) (fun j d1 d2 e => ?_)
        rw [i0] at d1
        rw [i15] at d2
        exact absurd ⟨j, d1, by omega, e⟩ c
  rcases hc_in4 x with ⟨m, hm, rfl⟩ | hx
  · have hm5 : m = 0 ∨ m = 1 ∨ m = 2 ∨ m = 3 ∨ m = 4 := by omega
    rcases hm5 with rfl | rfl | rfl | rfl | rfl
    · by_cases c : y = 0
      · refine Or.inr ⟨14, 0, by decide, by decide, f5.trans g4.symm, fun post hp => hx_slot0 (fun _ => hp) (fun d => absurd c d), fun p z post hp ez hpo => ?_⟩
        refine hy_find (w := 0) (p := p) (num := 1) (by decide) hp (by decide) rfl ez g5 (fun q => absurd c (q 0 (by decide) (by decide))) (fun j d1 d2 e => ?_)
        have : j = 0 := by
          have d2 : j < 1 := d2
          omega
        subst this
        exact hpo
      · refine Or.inl ⟨fun post hp => hx_slot0 (fun d => absurd d c) (fun _ => hp), fun p z post hp ez hpo => ?_⟩
        refine hy_find (w := 0) (p := p) (num := 1) (by decide) hp (by decide) rfl ez g5 (fun _ => hpo) (fun j d1 d2 e => ?_)
        have : j = 0 := by
          have d2 : j < 1 := d2
          omega
        subst this
        exact absurd e c
    · by_cases c : ∃ i, i < vls.length ∧ y = nI i
      · obtain ⟨i, c1, rfl⟩ := c
        refine Or.inr ⟨15 + i, 32 + i, by omega, by omega, (f6 i c1).1.trans (g7 i c1).1.symm, fun post hp => ?_, fun p z post hp ez hpo => ?_⟩
        · refine hx_slot1 (by omega) (fun j hj e => ?_) (fun q => absurd rfl (q i c1))
          rw [nI_eq (by omega) (by omega)] at e
          subst e
          exact hp
        · refine hy_find (w := 1) (p := p) (num := vls.length) (by decide) hp (by omega) rfl ez g6 (fun q => absurd rfl (q i (Nat.zero_le _) c1)) (fun j d1 d2 e => ?_)
          have d2 : j < vls.length := d2
          rw [nI_eq (by omega) (by omega)] at e
          subst e
          rw [show hy_ro 1 i = 32 + i from if_neg (by omega)]
          exact hpo
      · refine Or.inl ⟨fun post hp => hx_slot1 (by omega) (fun j hj e => absurd ⟨j, hj, e⟩ c) (fun _ => hp), fun p z post hp ez hpo => ?_⟩
        exact hy_find (w := 1) (p := p) (num := vls.length) (by decide) hp (by omega) rfl ez g6 (fun _ => hpo) (fun j d1 d2 e => absurd ⟨j, d2, e⟩ c)
    · by_cases c : ∃ i, i < vgt.length ∧ y = nI i
      · obtain ⟨i, c1, rfl⟩ := c
        refine Or.inr ⟨21 + i, 64 + i, by omega, by omega, (f7 i c1).1.trans (g9 i c1).1.symm, fun post hp => ?_, fun p z post hp ez hpo => ?_⟩
        · refine hx_slot2 (by omega) (fun j hj e => ?_) (fun q => absurd rfl (q i c1))
          rw [nI_eq (by omega) (by omega)] at e
          subst e
          exact hp
        · refine hy_find (w := 2) (p := p) (num := vgt.length) (by decide) hp (by omega) rfl ez g8 (fun q => absurd rfl (q i (Nat.zero_le _) c1)) (fun j d1 d2 e => ?_)
          have d2 : j < vgt.length := d2
          rw [nI_eq (by omega) (by omega)] at e
          subst e
          rw [show hy_ro 2 i = 64 + i from if_neg (by omega)]
          exact hpo
      · refine Or.inl ⟨fun post hp => hx_slot2 (by omega) (fun j hj e => absurd ⟨j, hj, e⟩ c) (fun _ => hp), fun p z post hp ez hpo => ?_⟩
        exact hy_find (w := 2) (p := p) (num := vgt.length) (by decide) hp (by omega) rfl ez g8 (fun _ => hpo) (fun j d1 d2 e => absurd ⟨j, d2, e⟩ c)
    · rcases ent 0 3 vst vsc (Or.inl ⟨rfl, rfl⟩) f8 g10 with ⟨a, b⟩ | ⟨s, r, hs, hr, e, a, b⟩
      · exact Or.inl ⟨fun post hp => hx_slot3 (a post hp), b⟩
      · exact Or.inr ⟨s, r, hs, hr, e, fun post hp => hx_slot3 (a post hp), b⟩
    · rcases ent 1 4 vrt vrc (Or.inr ⟨rfl, rfl⟩) f9 g11 with ⟨a, b⟩ | ⟨s, r, hs, hr, e, a, b⟩
      · exact Or.inl ⟨fun post hp => hx_slot4 (a post hp), b⟩
      · exact Or.inr ⟨s, r, hs, hr, e, fun post hp => hx_slot4 (a post hp), b⟩
  · exact Or.inl ⟨fun post hp => hx_slotN hx hp, fun p z post _ _ hpo => hy_findN (Or.inl hx) hpo⟩
/-- a text that the getters may see -/
theorem hr_text (V : hr_V vfl vmf vli vlo vta vlt vin vls vgt vw) (F : hr_XF vsg vls vgt vst vsc vrt vrc vw T qoc qln qcn qhd qsz qcp qcw qcb qsy qk1 qk2 qk3 qk4 qlm qgf qwi) (G : hr_YF vli vlo vta vlt vsg vls vgt vst vsc vrt vrc vw T2 mk zce znu zca zse zwi zle zwo) (x y z : Int32) :
    ((∀ post : Int32 → Prop, post (-1) → wpX_textAt post (qs1, qs2, qs3, qs4, qs5, qs6, qs7, qs8, nI vls.length, nI vgt.length, qdc, qwc, qin, qfl, qmf, qli, qlo, qta, qlt, qcu, qrv, qrs, qoc, qln, qcn, qhd, qsz, qcp, qcw, qcb, qsy, qk1, qk2, qk3, qk4, qlm, qgf, qdf, qwi) x y z) ∧ ∀ post : Int32 → Prop, post (-1) → wpY_find post (zfl, zmf, zwl, zpo, zfa, zfi, zin, zce, znu, zca, zse, zwi, zle, zwo) x y z)
    ∨ ∃ t r p, t < 164 ∧ r < 256 ∧ p < 2 ∧ T t = T2 (2 * r + p) ∧ (∀ post : Int32 → Prop, post (nI t) → wpX_textAt post (qs1, qs2, qs3, qs4, qs5, qs6, qs7, qs8, nI vls.length, nI vgt.length, qdc, qwc, qin, qfl, qmf, qli, qlo, qta, qlt, qcu, qrv, qrs, qoc, qln, qcn, qhd, qsz, qcp, qcw, qcb, qsy, qk1, qk2, qk3, qk4, qlm, qgf, qdf, qwi) x y z) ∧ ∀ post : Int32 → Prop, post (nI (35 * r + 17 * p)) → wpY_find post (zfl, zmf, zwl, zpo, zfa, zfi, zin, zce, znu, zca, zse, zwi, zle, zwo) x y z := by
  by_cases hz : ∃ p, p < 2 ∧ z = nI p
  · obtain ⟨p, hp, rfl⟩ := hz
    have g : ∀ post : Int32 → Prop, wX_textAt_11 post x y (nI p) qs1 qs2 qs3 qs4 qs5 qs6 qs7 qs8 (nI vls.length) (nI vgt.length) qdc qwc qin qfl qmf qli qlo qta qlt qcu qrv qrs qoc qln qcn qhd qsz qcp qcw qcb qsy qk1 qk2 qk3 qk4 qlm qgf qdf qwi → wpX_textAt post (qs1, qs2, qs3, qs4, qs5, qs6, qs7, qs8, nI vls.length, nI vgt.length, qdc, qwc, qin, qfl, qmf, qli, qlo, qta, qlt, qcu, qrv, qrs, qoc, qln, qcn, qhd, qsz, qcp, qcw, qcb, qsy, qk1, qk2, qk3, qk4, qlm, qgf, qdf, qwi) x y (nI p) := by
      intro post h
      have e : p = 0 ∨ p = 1 := by omega
      rcases e with rfl | rfl
      · exact br_t rfl h
      · exact br_f (by decide) (br_t rfl h)
    rcases hr_slot V F G x y with ⟨a, b⟩ | ⟨s, r, hs, hr, e, a, b⟩
    · refine Or.inl ⟨fun post hpo => g post ?_, fun post hpo => b p _ post hp rfl hpo⟩
      unfold wX_textAt_11
      exact a _ (br_f (by decide) hpo)
    · refine Or.inr ⟨2 * s + p, r, p, by omega, hr, hp, ?_, fun post hpo => g post ?_, fun post hpo => b p _ post hp rfl hpo⟩
      · have e2 : p = 0 ∨ p = 1 := by omega
        rcases e2 with rfl | rfl
        · exact congrArg Prod.fst e
        · exact congrArg Prod.snd e
      · unfold wX_textAt_11
        refine a _ (br_t (nI_pos' (by omega)) ?_)
        rw [show (2 : Int32) * nI s + nI p = nI (2 * s + p) from hc_add (hc_mul rfl rfl) rfl]
        exact hpo
  · have h0 : ¬ z = 0 := fun e => hz ⟨0, by decide, e⟩
    have h1 : ¬ z = 1 := fun e => hz ⟨1, by decide, e⟩
    exact Or.inl ⟨fun post hpo => br_f h0 (br_f h1 hpo), fun post hpo => hy_findN (Or.inr (fun p hp e => hz ⟨p, hp, e⟩)) hpo⟩
end
theorem i_vc_count {k : Nat} {u : SX} {v : SY} (I : i_Rel k u v) (hk : k + 5 ≤ 2562) (v1 : Int32) : wpX_count (fun r => wpY_count (fun r' => r' = r ∧ i_Rel (k + 5) u v) v v1) u v1 := by
  have I2 : i_Rel (k + 5) u v := I
  revert I2
  generalize i_Rel (k + 5) u v = R
  intro hR
  refine I (fun u v => wpX_count (fun r => wpY_count (fun r' => r' = r ∧ R) v v1) u v1) ?_
  intro vfl vmf vli vlo vta vlt vin vsg vls vgt vst vsc vrt vrc vw qs1 qs2 qs3 qs4 qs5 qs6 qs7 qs8 qdc qcu qrv qrs qoc qln qcn qhd qsz qcp qcw qcb qsy qk1 qk2 qk3 qk4 qlm qgf qdf qwi T zpo zfa zfi zce znu zca zse zwi zle zwo T2 mk V F G
  obtain ⟨f1, f2, f3, f4, f5, f6, f7, f8, f9, f10⟩ := id F
  obtain ⟨g1, g2, g3, g4, g5, g6, g7, g8, g9, g10, g11, g12, g13⟩ := id G
  rcases hc_in4 v1 with ⟨m, hm, rfl⟩ | hx
  · have gY : ∀ r : Int32, znu m = r → wpY_count (fun r' => r' = r ∧ R) (nI vfl, nI vmf, nI vw.length, zpo, zfa, zfi, nI vin, zce, znu, zca, zse, zwi, zle, zwo) (nI m) := by
      intro r er
      refine br_f (nI_pos (by omega)) (pk_le m 4 (fun _ => And.intro (vp_in_nI (by omega) (by decide)) ?_) (fun q => absurd q (by omega)))
      exact ⟨hc_at rfl (by omega) er, hR⟩
    have hm5 : m = 0 ∨ m = 1 ∨ m = 2 ∨ m = 3 ∨ m = 4 := by omega
    rcases hm5 with rfl | rfl | rfl | rfl | rfl
    · exact br_t rfl (gY _ g5)
    · exact br_f (by decide) (br_t rfl (gY _ g6))
    · exact br_f (by decide) (br_f (by decide) (br_t rfl (gY _ g8)))
    · exact br_f (by decide) (br_f (by decide) (br_f (by decide) (br_t rfl (gY _ (g10.1.trans f8.1.symm)))))
    · exact br_f (by decide) (br_f (by decide) (br_f (by decide) (br_f (by decide) (br_t rfl (gY _ (g11.1.trans f9.1.symm))))))
  · have h0 : ¬ v1 = 0 := hx 0 (by decide)
    have h1 : ¬ v1 = 1 := hx 1 (by decide)
    have h2 : ¬ v1 = 2 := hx 2 (by decide)
    have h3 : ¬ v1 = 3 := hx 3 (by decide)
    have h4 : ¬ v1 = 4 := hx 4 (by decide)
    refine br_f h0 (br_f h1 (br_f h2 (br_f h3 (br_f h4 ?_))))
    by_cases c : v1 < 0
    · exact br_t c ⟨rfl, hR⟩
    · obtain ⟨m, hm, rfl⟩ := nI_of c
      exact br_f c (pk_le m 4 (fun q => absurd rfl (hx m q)) (fun _ => ⟨rfl, hR⟩))
theorem i_vc_mark {k : Nat} {u : SX} {v : SY} (I : i_Rel k u v) (hk : k + 5 ≤ 2562) (v1 : Int32) (v2 : Int32) : wpX_mark (fun r => wpY_mark (fun r' => r' = r ∧ i_Rel (k + 5) u v) v v1 v2) u v1 v2 := by
  have I2 : i_Rel (k + 5) u v := I
  revert I2
  generalize i_Rel (k + 5) u v = R
  intro hR
  refine I (fun u v => wpX_mark (fun r => wpY_mark (fun r' => r' = r ∧ R) v v1 v2) u v1 v2) ?_
  intro vfl vmf vli vlo vta vlt vin vsg vls vgt vst vsc vrt vrc vw qs1 qs2 qs3 qs4 qs5 qs6 qs7 qs8 qdc qcu qrv qrs qoc qln qcn qhd qsz qcp qcw qcb qsy qk1 qk2 qk3 qk4 qlm qgf qdf qwi T zpo zfa zfi zce znu zca zse zwi zle zwo T2 mk V F G
  obtain ⟨w1, w2, w3, w4, w5, w6, w7, w8, w9, w10, w11, w12, w13⟩ := id V
  obtain ⟨f1, f2, f3, f4, f5, f6, f7, f8, f9, f10⟩ := id F
  obtain ⟨g1, g2, g3, g4, g5, g6, g7, g8, g9, g10, g11, g12, g13⟩ := id G
  have nn : (v1 = 1 → ∀ i, i < vls.length → v2 ≠ nI i) → (v1 = 2 → ∀ i, i < vgt.length → v2 ≠ nI i) → wpY_mark (fun r' => r' = -1 ∧ R) (nI vfl, nI vmf, nI vw.length, zpo, zfa, zfi, nI vin, zce, znu, zca, zse, zwi, zle, zwo) v1 v2 := by
    intro h1 h2
    unfold wpY_mark
    rcases hc_in4 v1 with ⟨m, hm, rfl⟩ | hx
    · have hm5 : m = 1 ∨ m = 2 ∨ (m = 0 ∨ m = 3 ∨ m = 4) := by omega
      rcases hm5 with rfl | rfl | hm5
      · exact hy_find (w := 1) (p := 0) (num := vls.length) (by decide) (by decide) (by omega) rfl rfl g6 (fun _ => br_t rfl ⟨rfl, hR⟩) (fun j d1 d2 e => absurd e (h1 rfl j d2))
      · exact hy_find (w := 2) (p := 0) (num := vgt.length) (by decide) (by decide) (by omega) rfl rfl g8 (fun _ => br_t rfl ⟨rfl, hR⟩) (fun j d1 d2 e => absurd e (h2 rfl j d2))
      · have n1 : ¬ nI m = 1 := by
          intro e
          have := (nI_eq (a := m) (b := 1) (by omega) (by decide)).mp e
          omega
        have n2 : ¬ nI m = 2 := by
          intro e
          have := (nI_eq (a := m) (b := 2) (by omega) (by decide)).mp e
          omega
        obtain ⟨num, hnum, en⟩ : ∃ num, num ≤ 16 ∧ znu m = nI num := by
          rcases hm5 with rfl | rfl | rfl
          · exact ⟨1, by decide, g5⟩
          · exact ⟨vst.length, hy_tabL g10, g10.1⟩
          · exact ⟨vrt.length, hy_tabL g11, g11.1⟩
        refine hy_find (w := m) (p := 0) (num := num) hm (by decide) hnum rfl rfl en (fun _ => br_t rfl ⟨rfl, hR⟩) (fun j d1 d2 e => br_f (hc_m1ne ?_) (br_f n1 (br_f n2 ⟨rfl, hR⟩)))
        have hj : j < 32 := by
          by_cases q : m < 3
          · rw [if_pos q] at d2
            omega
          · rw [if_neg q] at d2
            omega
        have := hy_roB (t := m) (i := j) (by omega) hj
        omega
    · exact hy_findN (Or.inl hx) (br_t rfl ⟨rfl, hR⟩)
  have x24 : (v1 = 1 → ∀ i, i < vls.length → v2 ≠ nI i) → wX_mark_24 (fun r => wpY_mark (fun r' => r' = r ∧ R) (nI vfl, nI vmf, nI vw.length, zpo, zfa, zfi, nI vin, zce, znu, zca, zse, zwi, zle, zwo) v1 v2) v1 v2 qs1 qs2 qs3 qs4 qs5 qs6 qs7 qs8 (nI vls.length) (nI vgt.length) qdc (nI vw.length) (nI vin) (nI vfl) (nI vmf) (nI vli) (nI vlo) (nI vta) (nI vlt) qcu qrv qrs qoc qln qcn qhd qsz qcp qcw qcb qsy qk1 qk2 qk3 qk4 qlm qgf qdf qwi := by
    intro h1
    by_cases c : v1 = 2
    · refine br_t c ?_
      by_cases d : v2 < 0
      · refine br_t d (nn h1 (fun _ i hi e => ?_))
        subst e
        exact nI_pos (by omega) d
      · obtain ⟨j, hj, rfl⟩ := nI_of d
        refine br_f d (pk_le vgt.length j (fun q => nn h1 (fun _ i hi e => ?_)) (fun q => And.intro (vp_in_nI (by omega) (by decide)) ?_))
        · rw [nI_eq hj (by omega)] at e
          omega
        · rw [hc_at rfl (by omega) (f7 j q).2]
          unfold wpY_mark
          have e34 : nI (35 * (64 + j) + 17 * 0) + 34 = nI (35 * (64 + j) + 34) := hc_add rfl rfl
          have n1 : ¬ v1 = 1 := by
            rw [c]
            decide
          refine hy_find (w := 2) (p := 0) (num := vgt.length) (by decide) (by decide) (by omega) c rfl g8 (fun z => absurd rfl (z j (Nat.zero_le _) q)) (fun i d1 d2 e => ?_)
          have d2 : i < vgt.length := d2
          rw [nI_eq (by omega) (by omega)] at e
          subst e
          rw [show hy_ro 2 j = 64 + j from if_neg (by omega)]
          refine br_f (hc_m1ne (by omega)) (br_f n1 (br_t c (And.intro (hc_i e34 (by omega) (by decide)) ⟨?_, hR⟩)))
          rw [hc_at e34 (by omega) (g1.2 (64 + j)), (g9 j q).2]
    · exact br_f c (nn h1 (fun e => absurd e c))
  by_cases c : v1 = 1
  · refine br_t c ?_
    by_cases d : v2 < 0
    · refine br_t d (x24 (fun _ i hi e => ?_))
      subst e
      exact nI_pos (by omega) d
    · obtain ⟨j, hj, rfl⟩ := nI_of d
      refine br_f d (pk_le vls.length j (fun q => x24 (fun _ i hi e => ?_)) (fun q => And.intro (vp_in_nI (by omega) (by decide)) ?_))
      · rw [nI_eq hj (by omega)] at e
        omega
      · rw [hc_at rfl (by omega) (f6 j q).2]
        unfold wpY_mark
        have e34 : nI (35 * (32 + j) + 17 * 0) + 34 = nI (35 * (32 + j) + 34) := hc_add rfl rfl
        refine hy_find (w := 1) (p := 0) (num := vls.length) (by decide) (by decide) (by omega) c rfl g6 (fun z => absurd rfl (z j (Nat.zero_le _) q)) (fun i d1 d2 e => ?_)
        have d2 : i < vls.length := d2
        rw [nI_eq (by omega) (by omega)] at e
        subst e
        rw [show hy_ro 1 j = 32 + j from if_neg (by omega)]
        refine br_f (hc_m1ne (by omega)) (br_t c (And.intro (hc_i e34 (by omega) (by decide)) ⟨?_, hR⟩))
        rw [hc_at e34 (by omega) (g1.2 (32 + j)), (g7 j q).2]
  · exact br_f c (x24 (fun e => absurd e c))
theorem i_vc_textLength {k : Nat} {u : SX} {v : SY} (I : i_Rel k u v) (hk : k + 5 ≤ 2562) (v1 : Int32) (v2 : Int32) (v3 : Int32) : wpX_textLength (fun r => wpY_textLength (fun r' => r' = r ∧ i_Rel (k + 5) u v) v v1 v2 v3) u v1 v2 v3 := by
  have I2 : i_Rel (k + 5) u v := I
  revert I2
  generalize i_Rel (k + 5) u v = R
  intro hR
  refine I (fun u v => wpX_textLength (fun r => wpY_textLength (fun r' => r' = r ∧ R) v v1 v2 v3) u v1 v2 v3) ?_
  intro vfl vmf vli vlo vta vlt vin vsg vls vgt vst vsc vrt vrc vw qs1 qs2 qs3 qs4 qs5 qs6 qs7 qs8 qdc qcu qrv qrs qoc qln qcn qhd qsz qcp qcw qcb qsy qk1 qk2 qk3 qk4 qlm qgf qdf qwi T zpo zfa zfi zce znu zca zse zwi zle zwo T2 mk V F G
  rcases hr_text (qs1 := qs1) (qs2 := qs2) (qs3 := qs3) (qs4 := qs4) (qs5 := qs5) (qs6 := qs6) (qs7 := qs7) (qs8 := qs8) (qdc := qdc) (qwc := nI vw.length) (qin := nI vin) (qfl := nI vfl) (qmf := nI vmf) (qli := nI vli) (qlo := nI vlo) (qta := nI vta) (qlt := nI vlt) (qcu := qcu) (qrv := qrv) (qrs := qrs) (qoc := qoc) (qln := qln) (qcn := qcn) (qhd := qhd) (qsz := qsz) (qcp := qcp) (qcw := qcw) (qcb := qcb) (qsy := qsy) (qk1 := qk1) (qk2 := qk2) (qk3 := qk3) (qk4 := qk4) (qlm := qlm) (qgf := qgf) (qdf := qdf) (qwi := qwi) (zfl := nI vfl) (zmf := nI vmf) (zwl := nI vw.length) (zpo := zpo) (zfa := zfa) (zfi := zfi) (zin := nI vin) (zce := zce) (znu := znu) (zca := zca) (zse := zse) (zwi := zwi) (zle := zle) (zwo := zwo) V F G v1 v2 v3 with ⟨a, b⟩ | ⟨t, r, p, ht, hr, hp, e, a, b⟩
  · refine a _ (br_f (by decide) ?_)
    unfold wpY_textLength
    refine b _ ?_
    exact br_t rfl ⟨rfl, hR⟩
  · have lx := (F.1 t).1
    have ly := (G.1.1 r p hp).1
    refine a _ (br_t (nI_pos' (by omega)) (And.intro (vp_in_nI ht (by decide)) ?_))
    unfold wpY_textLength
    refine b _ ?_
    refine br_f (hc_m1ne (by omega)) (And.intro (vp_in_nI (by omega) (by decide)) ⟨?_, hR⟩)
    rw [hc_at rfl (by omega) lx, hc_at rfl (by omega) ly, e]
theorem i_vc_textOctet {k : Nat} {u : SX} {v : SY} (I : i_Rel k u v) (hk : k + 5 ≤ 2562) (v1 : Int32) (v2 : Int32) (v3 : Int32) (v4 : Int32) : wpX_textOctet (fun r => wpY_textOctet (fun r' => r' = r ∧ i_Rel (k + 5) u v) v v1 v2 v3 v4) u v1 v2 v3 v4 := by
  have I2 : i_Rel (k + 5) u v := I
  revert I2
  generalize i_Rel (k + 5) u v = R
  intro hR
  refine I (fun u v => wpX_textOctet (fun r => wpY_textOctet (fun r' => r' = r ∧ R) v v1 v2 v3 v4) u v1 v2 v3 v4) ?_
  intro vfl vmf vli vlo vta vlt vin vsg vls vgt vst vsc vrt vrc vw qs1 qs2 qs3 qs4 qs5 qs6 qs7 qs8 qdc qcu qrv qrs qoc qln qcn qhd qsz qcp qcw qcb qsy qk1 qk2 qk3 qk4 qlm qgf qdf qwi T zpo zfa zfi zce znu zca zse zwi zle zwo T2 mk V F G
  rcases hr_text (qs1 := qs1) (qs2 := qs2) (qs3 := qs3) (qs4 := qs4) (qs5 := qs5) (qs6 := qs6) (qs7 := qs7) (qs8 := qs8) (qdc := qdc) (qwc := nI vw.length) (qin := nI vin) (qfl := nI vfl) (qmf := nI vmf) (qli := nI vli) (qlo := nI vlo) (qta := nI vta) (qlt := nI vlt) (qcu := qcu) (qrv := qrv) (qrs := qrs) (qoc := qoc) (qln := qln) (qcn := qcn) (qhd := qhd) (qsz := qsz) (qcp := qcp) (qcw := qcw) (qcb := qcb) (qsy := qsy) (qk1 := qk1) (qk2 := qk2) (qk3 := qk3) (qk4 := qk4) (qlm := qlm) (qgf := qgf) (qdf := qdf) (qwi := qwi) (zfl := nI vfl) (zmf := nI vmf) (zwl := nI vw.length) (zpo := zpo) (zfa := zfa) (zfi := zfi) (zin := nI vin) (zce := zce) (znu := znu) (zca := zca) (zse := zse) (zwi := zwi) (zle := zle) (zwo := zwo) V F G v1 v2 v3 with ⟨a, b⟩ | ⟨t, r, p, ht, hr, hp, e, a, b⟩
  · refine a _ (br_f (by decide) ?_)
    unfold wpY_textOctet
    refine b _ ?_
    exact br_t rfl ⟨rfl, hR⟩
  · obtain ⟨lx, lx2, lx3, lx4⟩ := F.1 t
    obtain ⟨ly, ly2, ly3, ly4⟩ := G.1.1 r p hp
    have nm : ¬ nI (35 * r + 17 * p) = -1 := hc_m1ne (by omega)
    have iy : vp_in (nI (35 * r + 17 * p)) 8960 := vp_in_nI (by omega) (by decide)
    have ax := hc_at (a := qln) (x := nI t) rfl (by omega) lx
    have ay := hc_at (a := zce) (x := nI (35 * r + 17 * p)) rfl (by omega) ly
    rw [← e] at ay ly2 ly4
    refine a _ (br_t (nI_pos' (by omega)) ?_)
    by_cases c : v4 < 0
    · refine br_t c ?_
      unfold wpY_textOctet
      refine b _ ?_
      exact br_f nm (br_t c ⟨rfl, hR⟩)
    · obtain ⟨j, hj, rfl⟩ := nI_of c
      refine br_f c (And.intro (vp_in_nI ht (by decide)) (pk_lt j (T t).length (fun q => ?_) (fun q => ?_) rfl ax))
      · have ex : (16 : Int32) * nI t + nI j = nI (16 * t + j) := hc_add (hc_mul rfl rfl) rfl
        have ey : nI (35 * r + 17 * p) + 1 + nI j = nI (35 * r + 17 * p + 1 + j) := hc_add (hc_add rfl rfl) rfl
        refine And.intro (hc_i ex (by omega) (by decide)) ?_
        unfold wpY_textOctet
        refine b _ ?_
        refine br_f nm (br_f c (And.intro iy (pk_lt j (T t).length (fun _ => And.intro (hc_i ey (by omega) (by decide)) ⟨?_, hR⟩) (fun d => absurd q (by omega)) rfl ay)))
        rw [hc_at ex (by omega) (lx4 j q), hc_at ey (by omega) (ly4 j q)]
      · unfold wpY_textOctet
        refine b _ ?_
        exact br_f nm (br_f c (And.intro iy (pk_lt j (T t).length (fun d => absurd q (by omega)) (fun _ => ⟨rfl, hR⟩) rfl ay)))
theorem i_vc_setting {k : Nat} {u : SX} {v : SY} (I : i_Rel k u v) (hk : k + 5 ≤ 2562) (v1 : Int32) : wpX_setting (fun r => wpY_setting (fun r' => r' = r ∧ i_Rel (k + 5) u v) v v1) u v1 := by
  have I2 : i_Rel (k + 5) u v := I
  revert I2
  generalize i_Rel (k + 5) u v = R
  intro hR
  refine I (fun u v => wpX_setting (fun r => wpY_setting (fun r' => r' = r ∧ R) v v1) u v1) ?_
  intro vfl vmf vli vlo vta vlt vin vsg vls vgt vst vsc vrt vrc vw qs1 qs2 qs3 qs4 qs5 qs6 qs7 qs8 qdc qcu qrv qrs qoc qln qcn qhd qsz qcp qcw qcb qsy qk1 qk2 qk3 qk4 qlm qgf qdf qwi T zpo zfa zfi zce znu zca zse zwi zle zwo T2 mk V F G
  obtain ⟨f1, f2, f3, f4, f5, f6, f7, f8, f9, f10⟩ := id F
  obtain ⟨g1, g2, g3, g4, g5, g6, g7, g8, g9, g10, g11, ⟨s0, s1, s2, s3⟩, g13⟩ := id G
  have gY : ∀ (m : Nat) (r : Int32), m ≤ 3 → zse m = r → wpY_setting (fun r' => r' = r ∧ R) (nI vfl, nI vmf, nI vw.length, zpo, zfa, zfi, nI vin, zce, znu, zca, zse, zwi, zle, zwo) (nI m) := by
    intro m r hm er
    refine br_f (nI_pos (by omega)) (pk_lt 3 m (fun q => absurd q (by omega)) (fun _ => And.intro (vp_in_nI (by omega) (by decide)) ?_))
    exact ⟨hc_at rfl (by omega) er, hR⟩
  by_cases h : ∃ m, m ≤ 7 ∧ v1 = nI m
  · obtain ⟨m, hm, rfl⟩ := h
    have g16 : ∀ (m : Nat) (r : Int32), 4 ≤ m → m ≤ 7 → wY_setting_16 (fun r' => r' = r ∧ R) (nI m) (nI vfl) (nI vmf) (nI vw.length) zpo zfa zfi (nI vin) zce znu zca zse zwi zle zwo → wpY_setting (fun r' => r' = r ∧ R) (nI vfl, nI vmf, nI vw.length, zpo, zfa, zfi, nI vin, zce, znu, zca, zse, zwi, zle, zwo) (nI m) := by
      intro m r h1 h2 h
      exact br_f (nI_pos (by omega)) (pk_lt 3 m (fun _ => h) (fun q => absurd q (by omega)))
    have hm8 : m = 0 ∨ m = 1 ∨ m = 2 ∨ m = 3 ∨ m = 4 ∨ m = 5 ∨ m = 6 ∨ m = 7 := by omega
    rcases hm8 with rfl | rfl | rfl | rfl | rfl | rfl | rfl | rfl
    · exact br_t rfl (gY 0 _ (by decide) s0)
    · exact br_f (by decide) (br_t rfl (gY 1 _ (by decide) s1))
    · exact br_f (by decide) (br_f (by decide) (br_t rfl (gY 2 _ (by decide) s2)))
    · exact br_f (by decide) (br_f (by decide) (br_f (by decide) (br_t rfl (gY 3 _ (by decide) s3))))
    · refine br_f (by decide) (br_f (by decide) (br_f (by decide) (br_f (by decide) (br_t rfl ?_))))
      exact g16 4 _ (by decide) (by decide) (br_t rfl (br_t rfl ⟨g10.2.1.trans f8.2.2.1.symm, hR⟩))
    · refine br_f (by decide) (br_f (by decide) (br_f (by decide) (br_f (by decide) (br_f (by decide) (br_t rfl ?_)))))
      refine g16 5 _ (by decide) (by decide) (br_f (by decide) (br_f (by decide) (br_t rfl (br_t rfl ?_))))
      unfold wY_setting_65
      exact hy_size (T := T2) (mk := mk) (t := 3) (tb := vst) g1 (by decide) (hy_tabL g10) g10.2.2.2.2 g10.1 rfl ⟨f8.2.1.symm, hR⟩
    · refine br_f (by decide) (br_f (by decide) (br_f (by decide) (br_f (by decide) (br_f (by decide) (br_f (by decide) (br_t rfl ?_))))))
      exact g16 6 _ (by decide) (by decide) (br_f (by decide) (br_t rfl (br_f (by decide) ⟨g11.2.1.trans f9.2.2.1.symm, hR⟩)))
    · refine br_f (by decide) (br_f (by decide) (br_f (by decide) (br_f (by decide) (br_f (by decide) (br_f (by decide) (br_f (by decide) (br_t rfl ?_)))))))
      refine g16 7 _ (by decide) (by decide) (br_f (by decide) (br_f (by decide) (br_f (by decide) (br_t rfl (br_f (by decide) ?_)))))
      unfold wY_setting_65
      exact hy_size (T := T2) (mk := mk) (t := 4) (tb := vrt) g1 (by decide) (hy_tabL g11) g11.2.2.2.2 g11.1 rfl ⟨f9.2.1.symm, hR⟩
  · have n : ∀ m, m ≤ 7 → ¬ v1 = nI m := fun m hm e => h ⟨m, hm, e⟩
    have n0 : ¬ v1 = 0 := n 0 (by decide)
    have n1 : ¬ v1 = 1 := n 1 (by decide)
    have n2 : ¬ v1 = 2 := n 2 (by decide)
    have n3 : ¬ v1 = 3 := n 3 (by decide)
    have n4 : ¬ v1 = 4 := n 4 (by decide)
    have n5 : ¬ v1 = 5 := n 5 (by decide)
    have n6 : ¬ v1 = 6 := n 6 (by decide)
    have n7 : ¬ v1 = 7 := n 7 (by decide)
    have e16 : wY_setting_16 (fun r' => r' = -1 ∧ R) v1 (nI vfl) (nI vmf) (nI vw.length) zpo zfa zfi (nI vin) zce znu zca zse zwi zle zwo := br_f n4 (br_f n6 (br_f n5 (br_f n7 ⟨rfl, hR⟩)))
    refine br_f n0 (br_f n1 (br_f n2 (br_f n3 (br_f n4 (br_f n5 (br_f n6 (br_f n7 ?_)))))))
    by_cases c : v1 < 0
    · exact br_t c e16
    · obtain ⟨m, hm, rfl⟩ := nI_of c
      exact br_f c (pk_lt 3 m (fun _ => e16) (fun q => absurd rfl (n m (by omega))))
theorem i_vc_wireLength {k : Nat} {u : SX} {v : SY} (I : i_Rel k u v) (hk : k + 5 ≤ 2562) : wpX_wireLength (fun r => wpY_wireLength (fun r' => r' = r ∧ i_Rel (k + 5) u v) v) u := by
  have I2 : i_Rel (k + 5) u v := I
  revert I2
  generalize i_Rel (k + 5) u v = R
  intro hR
  refine I (fun u v => wpX_wireLength (fun r => wpY_wireLength (fun r' => r' = r ∧ R) v) u) ?_
  intro vfl vmf vli vlo vta vlt vin vsg vls vgt vst vsc vrt vrc vw qs1 qs2 qs3 qs4 qs5 qs6 qs7 qs8 qdc qcu qrv qrs qoc qln qcn qhd qsz qcp qcw qcb qsy qk1 qk2 qk3 qk4 qlm qgf qdf qwi T zpo zfa zfi zce znu zca zse zwi zle zwo T2 mk V F G
  exact And.intro rfl hR
theorem i_vc_wireOctet {k : Nat} {u : SX} {v : SY} (I : i_Rel k u v) (hk : k + 5 ≤ 2562) (v1 : Int32) : wpX_wireOctet (fun r => wpY_wireOctet (fun r' => r' = r ∧ i_Rel (k + 5) u v) v v1) u v1 := by
  have I2 : i_Rel (k + 5) u v := I
  revert I2
  generalize i_Rel (k + 5) u v = R
  intro hR
  refine I (fun u v => wpX_wireOctet (fun r => wpY_wireOctet (fun r' => r' = r ∧ R) v v1) u v1) ?_
  intro vfl vmf vli vlo vta vlt vin vsg vls vgt vst vsc vrt vrc vw qs1 qs2 qs3 qs4 qs5 qs6 qs7 qs8 qdc qcu qrv qrs qoc qln qcn qhd qsz qcp qcw qcb qsy qk1 qk2 qk3 qk4 qlm qgf qdf qwi T zpo zfa zfi zce znu zca zse zwi zle zwo T2 mk V F G
  have hwx : hx_W qwi vw := F.2.2.2.2.2.2.2.2.2
  have hwy : hx_W zwi vw := G.2.2.2.2.2.2.2.2.2.2.2.2
  have w12 : vw.length ≤ 256 := V.2.2.2.2.2.2.2.2.2.2.2.1
  by_cases c : v1 < 0
  · exact br_t c (br_t c ⟨rfl, hR⟩)
  · obtain ⟨m, hm, rfl⟩ := nI_of c
    refine br_f c (pk_lt m vw.length (fun q => And.intro (vp_in_nI (by omega) (by decide)) ?_) (fun q => ?_))
    · refine br_f c (pk_lt m vw.length (fun _ => And.intro (vp_in_nI (by omega) (by decide)) ⟨?_, hR⟩) (fun d => absurd q (by omega)))
      rw [hc_at rfl (by omega) (hwx m q), hc_at rfl (by omega) (hwy m q)]
    · exact br_f c (pk_lt m vw.length (fun d => absurd d (by omega)) (fun _ => ⟨rfl, hR⟩))
theorem i_vc_inStep {k : Nat} {u : SX} {v : SY} (I : i_Rel k u v) (hk : k + 5 ≤ 2562) : wpX_inStep (fun r => wpY_inStep (fun r' => r' = r ∧ i_Rel (k + 5) u v) v) u := by
  have I2 : i_Rel (k + 5) u v := I
  revert I2
  generalize i_Rel (k + 5) u v = R
  intro hR
  refine I (fun u v => wpX_inStep (fun r => wpY_inStep (fun r' => r' = r ∧ R) v) u) ?_
  intro vfl vmf vli vlo vta vlt vin vsg vls vgt vst vsc vrt vrc vw qs1 qs2 qs3 qs4 qs5 qs6 qs7 qs8 qdc qcu qrv qrs qoc qln qcn qhd qsz qcp qcw qcb qsy qk1 qk2 qk3 qk4 qlm qgf qdf qwi T zpo zfa zfi zce znu zca zse zwi zle zwo T2 mk V F G
  have w8 : vin < 2 := V.2.2.2.2.2.2.2.1
  have nb : narrow .boolean (.int (nI vin)) = .int (nI vin) := by
    have e : vin = 0 ∨ vin = 1 := by omega
    rcases e with rfl | rfl
    · exact narrow_b0
    · exact narrow_b1
  exact And.intro nb (And.intro nb (And.intro rfl hR))
end
section
theorem hc_efT {tb : List hc_Fd} {cap : Nat} {w : List Nat} {f : hc_Fd} {m : Nat} (h : hc_ts tb ≤ cap) : hc_ts (hc_ef tb cap w f m).2 ≤ cap := by
  unfold hc_ef
  split
  · exact h
  · split
    · exact h
    · split
      · exact hc_inF _ _ _
      · exact h
theorem hc_elB {ls : List (hc_Fd × Nat)} {cap : Nat} (hok : ∀ k, k < ls.length → hc_ok (ls.getD k (hc_f0, 0)).1) (hc : cap ≤ 128) : ∀ n i w tb, i + n = ls.length → hc_ts tb ≤ cap → hc_by w → (hc_el ls cap n i w tb).1.length ≤ w.length + 35 * n ∧ hc_by (hc_el ls cap n i w tb).1
  | 0, i, w, tb, _, _, hw => ⟨Nat.le_refl _, hw⟩
  | n + 1, i, w, tb, hi, ht, hw => by
    have o := hok i (by omega)
    have t8 := hc_ts8 tb
    have l := hc_efL (tb := tb) (cap := cap) (w := w) (m := (ls.getD i (hc_f0, 0)).2) o
    have b := hc_byF (tb := tb) (cap := cap) (m := (ls.getD i (hc_f0, 0)).2) hw o (by omega)
    have t := hc_efT (w := w) (f := (ls.getD i (hc_f0, 0)).1) (m := (ls.getD i (hc_f0, 0)).2) ht
    have r := hc_elB hok hc n (i + 1) _ _ (by omega) t b
    unfold hc_el
    exact ⟨by omega, r.2⟩
theorem i_vc_encode {k : Nat} {u : SX} {v : SY} (I : i_Rel k u v) (hk : k + 5 ≤ 2562) : wpX_encode (fun r u' => wpY_encode (fun r' v' => r' = r ∧ i_Rel (k + 5) u' v') v) u := by
  refine I (fun u v => wpX_encode (fun r u' => wpY_encode (fun r' v' => r' = r ∧ i_Rel (k + 5) u' v') v) u) ?_
  intro vfl vmf vli vlo vta vlt vin vsg vls vgt vst vsc vrt vrc vw qs1 qs2 qs3 qs4 qs5 qs6 qs7 qs8 qdc qcu qrv qrs qoc qln qcn qhd qsz qcp qcw qcb qsy qk1 qk2 qk3 qk4 qlm qgf qdf qwi T zpo zfa zfi zce znu zca zse zwi zle zwo T2 mk V F G
  obtain ⟨w1, w2, w3, w4, w5, w6, w7, w8, w9, w10, w11, w12, w13⟩ := id V
  obtain ⟨f1, f2, f3, f4, f5, f6, f7, f8, f9, f10⟩ := id F
  obtain ⟨g1, g2, g3, g4, g5, g6, g7, g8, g9, g10, g11, ⟨s0, s1, s2, s3⟩, g13⟩ := id G
  have hok : ∀ k, k < vls.length → hc_ok (vls.getD k (hc_f0, 0)).1 := by
    intro k hk
    rw [← (f6 k hk).1]
    exact hx_okf f1 _
  have lx : ∀ k, k < vls.length → hc_fl T (15 + k) = (vls.getD k (hc_f0, 0)).1 ∧ qlm k = nI (vls.getD k (hc_f0, 0)).2 ∧ (vls.getD k (hc_f0, 0)).2 < 3 := fun k hk => ⟨(f6 k hk).1, (f6 k hk).2, w10 k hk⟩
  have ly : ∀ k, k < vls.length → hc_fl T2 (32 + k) = (vls.getD k (hc_f0, 0)).1 ∧ mk (32 + k) = (vls.getD k (hc_f0, 0)).2 ∧ (vls.getD k (hc_f0, 0)).2 < 3 := fun k hk => ⟨(g7 k hk).1, (g7 k hk).2, w10 k hk⟩
  refine hx_encode (T := T) (ls := vls) (w := vw) (tb := vst) (cap := vsc) (tgt := vta) (ltg := vlt) f1 f2 f4 (by omega) lx w6 w7 f10 w12 f8 (fun z => ?_) (fun z y => ?_) (fun z y oc ln cn hd sz cp a T' h1 h2 h3 h4 h5 => ?_)
  · refine hy_encode (T := T2) (mk := mk) (ls := vls) (w := vw) (tb := vst) (cap := vsc) (tgt := vta) (ltg := vlt) g1 g2 g3 (by omega) g6 ly w6 w7 s2 s3 g13 w12 g10 (fun _ => ⟨rfl, hr_in V F G⟩) (fun q => ?_) (fun q => ?_)
    · rw [q] at z
      exact absurd z (Nat.lt_irrefl 0)
    · rw [q] at z
      exact absurd z (Nat.lt_irrefl 0)
  · refine hy_encode (T := T2) (mk := mk) (ls := vls) (w := vw) (tb := vst) (cap := vsc) (tgt := vta) (ltg := vlt) g1 g2 g3 (by omega) g6 ly w6 w7 s2 s3 g13 w12 g10 (fun q => ?_) (fun _ _ => ⟨rfl, hr_in V F G⟩) (fun _ q => absurd y (by omega))
    rw [z] at q
    exact absurd q (Nat.lt_irrefl 0)
  · refine hy_encode (T := T2) (mk := mk) (ls := vls) (w := vw) (tb := vst) (cap := vsc) (tgt := vta) (ltg := vlt) g1 g2 g3 (by omega) g6 ly w6 w7 s2 s3 g13 w12 g10 (fun q => ?_) (fun _ q => absurd y (by omega)) (fun _ _ C nu ca a2 T2' mk' k1 k2 k3 k4 k5 k6 => ⟨rfl, ?_⟩)
    · rw [z] at q
      exact absurd q (Nat.lt_irrefl 0)
    · have t0 : hc_ts (hc_uB vta (hc_uA [] vst vsc vlt)).2.1 ≤ (hc_uB vta (hc_uA [] vst vsc vlt)).2.2 ∧ (hc_uB vta (hc_uA [] vst vsc vlt)).2.2 ≤ 128 := by
        have a0 : hc_ts (hc_uA [] vst vsc vlt).2.1 ≤ (hc_uA [] vst vsc vlt).2.2 ∧ (hc_uA [] vst vsc vlt).2.2 ≤ 128 := by
          unfold hc_uA
          split
          · exact ⟨hc_evF vst 0 vlt (Nat.zero_le _), w7⟩
          · exact ⟨f8.2.2.2.1, f8.2.2.2.2.1⟩
        unfold hc_uB
        split
        · exact a0
        · exact ⟨hc_evF _ 0 vta (Nat.zero_le _), w6⟩
      have l1 := hc_uAL [] vst vsc vlt
      have l2 := hc_uBL vta (hc_uA [] vst vsc vlt)
      have l0 : ([] : List Nat).length = 0 := rfl
      have b0 : hc_by (hc_uB vta (hc_uA [] vst vsc vlt)).1 := hc_byUB (hc_byUA (fun x hx => absurd hx (by simp)) (by omega)) (by omega)
      obtain ⟨e1, e2⟩ := hc_elB hok t0.2 vls.length 0 (hc_uB vta (hc_uA [] vst vsc vlt)).1 (hc_uB vta (hc_uA [] vst vsc vlt)).2.1 (by omega) t0.1 b0
      have FX : hr_XF vsg vls vgt (hc_el vls (hc_uB vta (hc_uA [] vst vsc vlt)).2.2 vls.length 0 (hc_uB vta (hc_uA [] vst vsc vlt)).1 (hc_uB vta (hc_uA [] vst vsc vlt)).2.1).2 (hc_uB vta (hc_uA [] vst vsc vlt)).2.2 vrt vrc (hc_el vls (hc_uB vta (hc_uA [] vst vsc vlt)).2.2 vls.length 0 (hc_uB vta (hc_uA [] vst vsc vlt)).1 (hc_uB vta (hc_uA [] vst vsc vlt)).2.1).1 T' oc ln cn hd sz cp qcw qcb qsy qk1 qk2 qk3 qk4 qlm qgf a := by
        refine ⟨h1, f2, f3, fun i hi => ?_, ?_, fun i hi => ?_, fun i hi => ?_, h4, ?_, h5⟩
        · rw [← f4 i hi]
          exact hc_flc (h2 _ (by omega)) (h2 _ (by omega))
        · exact (hc_flc (h2 _ (by omega)) (h2 _ (by omega))).trans f5
        · exact ⟨(hc_flc (h2 _ (by omega)) (h2 _ (by omega))).trans (f6 i hi).1, (f6 i hi).2⟩
        · exact ⟨(hc_flc (h2 _ (by omega)) (h2 _ (by omega))).trans (f7 i hi).1, (f7 i hi).2⟩
        · exact hx_tabC f9 (h3 1 (by omega)).1 (h3 1 (by omega)).2.1 (h3 1 (by omega)).2.2.1 (h3 1 (by omega)).2.2.2 (fun x _ _ => h2 x (by omega))
      have GY : hr_YF vli vlo vta vta vsg vls vgt (hc_el vls (hc_uB vta (hc_uA [] vst vsc vlt)).2.2 vls.length 0 (hc_uB vta (hc_uA [] vst vsc vlt)).1 (hc_uB vta (hc_uA [] vst vsc vlt)).2.1).2 (hc_uB vta (hc_uA [] vst vsc vlt)).2.2 vrt vrc (hc_el vls (hc_uB vta (hc_uA [] vst vsc vlt)).2.2 vls.length 0 (hc_uB vta (hc_uA [] vst vsc vlt)).1 (hc_uB vta (hc_uA [] vst vsc vlt)).2.1).1 T2' mk' C nu ca (upd zse 3 (nI vta)) a2 zle zwo := by
        refine ⟨k1, g2, fun i hi => ?_, ?_, (k4 0 (by omega)).1.trans g5, (k4 1 (by omega)).1.trans g6, fun i hi => ?_, (k4 2 (by omega)).1.trans g8, fun i hi => ?_, k5, ?_, ⟨(pk_un (by omega)).trans s0, (pk_un (by omega)).trans s1, (pk_un (by omega)).trans s2, pk_us⟩, k6⟩
        · rw [← g3 i hi]
          exact hc_flc (k2 _ (by omega)) (k2 _ (by omega))
        · exact (hc_flc (k2 _ (by omega)) (k2 _ (by omega))).trans g4
        · exact ⟨(hc_flc (k2 _ (by omega)) (k2 _ (by omega))).trans (g7 i hi).1, (k3 _ (by omega)).trans (g7 i hi).2⟩
        · exact ⟨(hc_flc (k2 _ (by omega)) (k2 _ (by omega))).trans (g9 i hi).1, (k3 _ (by omega)).trans (g9 i hi).2⟩
        · exact hy_tabC g11 (hy_tabL g11) (k4 4 (by omega)).1 (k4 4 (by omega)).2 (fun x _ _ => k2 x (by omega))
      exact hr_in ⟨w1, w2, w3, w4, w5, w6, w6, w8, w9, w10, w11, by omega, e2⟩ FX GY
theorem i_vc_deliver {k : Nat} {u : SX} {v : SY} (I : i_Rel k u v) (hk : k + 5 ≤ 2562) : wpX_deliver (fun r u' => wpY_deliver (fun r' v' => r' = r ∧ i_Rel (k + 5) u' v') v) u := by
  refine I (fun u v => wpX_deliver (fun r u' => wpY_deliver (fun r' v' => r' = r ∧ i_Rel (k + 5) u' v') v) u) ?_
  intro vfl vmf vli vlo vta vlt vin vsg vls vgt vst vsc vrt vrc vw qs1 qs2 qs3 qs4 qs5 qs6 qs7 qs8 qdc qcu qrv qrs qoc qln qcn qhd qsz qcp qcw qcb qsy qk1 qk2 qk3 qk4 qlm qgf qdf qwi T zpo zfa zfi zce znu zca zse zwi zle zwo T2 mk V F G
  obtain ⟨w1, w2, w3, w4, w5, w6, w7, w8, w9, w10, w11, w12, w13⟩ := id V
  obtain ⟨f1, f2, f3, f4, f5, f6, f7, f8, f9, f10⟩ := id F
  obtain ⟨g1, g2, g3, g4, g5, g6, g7, g8, g9, g10, g11, ⟨s0, s1, s2, s3⟩, g13⟩ := id G
  have wn : ∀ a : Nat → Int32, hx_W a [] := fun a i hi => absurd hi (Nat.not_lt_zero i)
  refine hx_deliver (w := vw) (T := T) (mf := vmf) (lim := vli) (low := vlo) (rcap := vrc) (rtb := vrt) f2 f3 f4 f1 f10 w12 w13 f9 w3 w4 w5 (fun z => ?_) (fun z y oc ln cn hd sz cp df dc cu rv rs T' h1 h2 => ?_) (fun z y l oc ln cn hd sz cp gf df dc cu rv rs T' h1 h2 h3 h4 h5 => ?_)
  · exact hy_deliver (w := vw) (T := T2) (mk := mk) (mf := vmf) (lim := vli) (low := vlo) (rcap := vrc) (rtb := vrt) g2 g3 g1 g13 w12 w13 g11 w3 w4 w5 s0 s1 (fun _ => ⟨rfl, hr_in V F G⟩) (fun q => absurd z q) (fun q => absurd z q)
  · refine hy_deliver (w := vw) (T := T2) (mk := mk) (mf := vmf) (lim := vli) (low := vlo) (rcap := vrc) (rtb := vrt) g2 g3 g1 g13 w12 w13 g11 w3 w4 w5 s0 s1 (fun q => absurd q z) (fun _ _ C nu ca po fa T2' mk' k1 k2 => ⟨rfl, ?_⟩) (fun _ q => absurd q y)
    obtain ⟨x1, x2⟩ := h2
    obtain ⟨y1, y2, y3⟩ := k2
    have FX : hr_XF vsg vls vgt vst vsc vrt vrc vw T' oc ln cn hd sz cp qcw qcb qsy qk1 qk2 qk3 qk4 qlm qgf qwi := by
      refine ⟨h1, f2, f3, fun i hi => ?_, ?_, fun i hi => ?_, fun i hi => ?_, ?_, ?_, f10⟩
      · rw [← f4 i hi]
        exact hc_flc (x1 _ (by omega)) (x1 _ (by omega))
      · exact (hc_flc (x1 _ (by omega)) (x1 _ (by omega))).trans f5
      · exact ⟨(hc_flc (x1 _ (by omega)) (x1 _ (by omega))).trans (f6 i hi).1, (f6 i hi).2⟩
      · exact ⟨(hc_flc (x1 _ (by omega)) (x1 _ (by omega))).trans (f7 i hi).1, (f7 i hi).2⟩
      · exact hx_tabC f8 (x2 0 (by omega)).1 (x2 0 (by omega)).2.1 (x2 0 (by omega)).2.2.1 (x2 0 (by omega)).2.2.2 (fun x _ _ => x1 x (by omega))
      · exact hx_tabC f9 (x2 1 (by omega)).1 (x2 1 (by omega)).2.1 (x2 1 (by omega)).2.2.1 (x2 1 (by omega)).2.2.2 (fun x _ _ => x1 x (by omega))
    have GY : hr_YF vli vlo vta vlt vsg vls vgt vst vsc vrt vrc vw T2' mk' C nu ca zse zwi zle zwo := by
      refine ⟨k1, g2, fun i hi => ?_, ?_, (y3 0 (by omega) (by omega)).1.trans g5, (y3 1 (by omega) (by omega)).1.trans g6, fun i hi => ?_, (y3 2 (by omega) (by omega)).1.trans g8, fun i hi => ?_, ?_, ?_, ⟨s0, s1, s2, s3⟩, g13⟩
      · rw [← g3 i hi]
        exact hc_flc (y1 _ (by omega)) (y1 _ (by omega))
      · exact (hc_flc (y1 _ (by omega)) (y1 _ (by omega))).trans g4
      · exact ⟨(hc_flc (y1 _ (by omega)) (y1 _ (by omega))).trans (g7 i hi).1, (y2 _ (by omega)).trans (g7 i hi).2⟩
      · exact ⟨(hc_flc (y1 _ (by omega)) (y1 _ (by omega))).trans (g9 i hi).1, (y2 _ (by omega)).trans (g9 i hi).2⟩
      · exact hy_tabC g10 (hy_tabL g10) (y3 3 (by omega) (by omega)).1 (y3 3 (by omega) (by omega)).2 (fun x _ _ => y1 x (by omega))
      · exact hy_tabC g11 (hy_tabL g11) (y3 4 (by omega) (by omega)).1 (y3 4 (by omega) (by omega)).2 (fun x _ _ => y1 x (by omega))
    exact hr_in V FX GY
  · refine hy_deliver (w := vw) (T := T2) (mk := mk) (mf := vmf) (lim := vli) (low := vlo) (rcap := vrc) (rtb := vrt) g2 g3 g1 g13 w12 w13 g11 w3 w4 w5 s0 s1 (fun q => absurd q z) (fun _ q => absurd y q) (fun _ _ _ C nu ca po T2' mk' k1 k2 k3 k4 k5 k6 k7 => ⟨rfl, ?_⟩)
    generalize hc_dv (fun i => vw.getD i 0) vw.length vli vlo vmf vrt vrc = D at l h4 h5 k5 k6 k7
    have FX : hr_XF vsg vls D.2.2.2.1 vst vsc D.2.1 D.2.2.1 [] T' oc ln cn hd sz cp qcw qcb qsy qk1 qk2 qk3 qk4 qlm gf qwi := by
      refine ⟨h1, f2, f3, fun i hi => ?_, ?_, fun i hi => ?_, h5, ?_, h4, wn _⟩
      · rw [← f4 i hi]
        exact hc_flc (h2 _ (by omega)) (h2 _ (by omega))
      · exact (hc_flc (h2 _ (by omega)) (h2 _ (by omega))).trans f5
      · exact ⟨(hc_flc (h2 _ (by omega)) (h2 _ (by omega))).trans (f6 i hi).1, (f6 i hi).2⟩
      · exact hx_tabC f8 h3.1 h3.2.1 h3.2.2.1 h3.2.2.2 (fun x _ _ => h2 x (by omega))
    have GY : hr_YF vli vli vta vlt vsg vls D.2.2.2.1 vst vsc D.2.1 D.2.2.1 [] T2' mk' C nu ca (upd zse 1 (zse 0)) zwi zle zwo := by
      refine ⟨k1, g2, fun i hi => ?_, ?_, (k4 0 (by omega)).1.trans g5, (k4 1 (by omega)).1.trans g6, fun i hi => ?_, k5, k7, ?_, k6, ⟨(pk_un (by omega)).trans s0, pk_us.trans s0, (pk_un (by omega)).trans s2, (pk_un (by omega)).trans s3⟩, wn _⟩
      · rw [← g3 i hi]
        exact hc_flc (k2 _ (by omega)) (k2 _ (by omega))
      · exact (hc_flc (k2 _ (by omega)) (k2 _ (by omega))).trans g4
      · exact ⟨(hc_flc (k2 _ (by omega)) (k2 _ (by omega))).trans (g7 i hi).1, (k3 _ (by omega)).trans (g7 i hi).2⟩
      · exact hy_tabC g10 (hy_tabL g10) (k4 3 (by omega)).1 (k4 3 (by omega)).2 (fun x _ _ => k2 x (by omega))
    exact hr_in (vw := []) ⟨w1, w2, w3, w4, w4, w6, w7, w8, w9, w10, by omega, Nat.zero_le _, fun x hx => absurd hx (by simp)⟩ FX GY
section
variable {qs1 qs2 qs3 qs4 qs5 qs6 qs7 qs8 qlc qgc qdc qwc qin qfl qmf qli qlo qta qlt qcu qrv qrs : Int32} {qoc qln qcn qhd qsz qcp qcw qcb qsy qk1 qk2 qk3 qk4 qlm qgf qdf qwi : Nat → Int32} {zfl zmf zwl zpo zfa zfi zin : Int32} {zce znu zca zse zwi zle zwo : Nat → Int32} {T T2 : Nat → List Nat} {mk : Nat → Nat}
theorem hx_rsl {post : SX → Prop} (H : ∀ cn hd sz cp, (∀ j, j < 3 → cn j = 0 ∧ hd j = 0 ∧ sz j = 0 ∧ cp j = qfl) → wpX_clearStage post (qs1, qs2, qs3, qs4, qs5, qs6, qs7, qs8, 0, 0, 0, 0, 1, qfl, qmf, qli, qlo, qta, qlt, 0, 0, 0, qoc, qln, cn, hd, sz, cp, qcw, qcb, qsy, qk1, qk2, qk3, qk4, qlm, qgf, qdf, qwi)) : ∀ d t cn hd sz cp, t + d = 3 → (∀ j, j < t → cn j = 0 ∧ hd j = 0 ∧ sz j = 0 ∧ cp j = qfl) → ∀ f, d < f → wX_reset_34 post qs1 qs2 qs3 qs4 qs5 qs6 qs7 qs8 qlc qgc qdc qwc qin qfl qmf qli qlo qta qlt qcu qrv qrs f (nI t) qoc qln cn hd sz cp qcw qcb qsy qk1 qk2 qk3 qk4 qlm qgf qdf qwi := by
  intro d
  induction d with
  | zero =>
    intro t cn hd sz cp ht h f hf
    obtain ⟨f, rfl⟩ : ∃ g, f = g + 1 := ⟨f - 1, by omega⟩
    exact pk_le 3 t (fun _ => H cn hd sz cp (fun j hj => h j (by omega))) (fun z => absurd z (by omega))
  | succ d ih =>
    intro t cn hd sz cp ht h f hf
    obtain ⟨f, rfl⟩ : ∃ g, f = g + 1 := ⟨f - 1, by omega⟩
    have it : vp_in (nI t) 3 := vp_in_nI (by omega) (by decide)
    refine pk_le 3 t (fun z => absurd z (by omega)) (fun _ => And.intro it (nm_r (hc_up (w := 0) rfl (by omega) rfl) (And.intro it (nm_r (hc_up (w := 0) rfl (by omega) rfl) (And.intro it (nm_r (hc_up (w := 0) rfl (by omega) rfl) (And.intro it (nm_r (hc_up (w := qfl) rfl (by omega) rfl) (nm_r (nI_1 t) ?_)))))))))
    refine ih (t + 1) _ _ _ _ (by omega) (fun j hj => ?_) f (by omega)
    by_cases e : j = t
    · subst e
      exact ⟨pk_us, pk_us, pk_us, pk_us⟩
    · rw [pk_un e, pk_un e, pk_un e, pk_un e]
      exact h j (by omega)
theorem hx_reset {post : SX → Prop} (hm : hx_M qoc qln T) (H : ∀ cn hd sz cp l, (∀ j, j < 3 → cn j = 0 ∧ hd j = 0 ∧ sz j = 0 ∧ cp j = qfl) → hx_M qoc l (hc_uf T 14 ([], [])) → post (qs1, qs2, qs3, qs4, qs5, qs6, qs7, qs8, 0, 0, 0, 0, 1, qfl, qmf, qfl, qfl, qfl, qfl, 0, 0, 0, qoc, l, cn, hd, sz, cp, qcw, qcb, qsy, qk1, qk2, qk3, qk4, qlm, qgf, qdf, qwi)) : wpX_reset post (qs1, qs2, qs3, qs4, qs5, qs6, qs7, qs8, qlc, qgc, qdc, qwc, qin, qfl, qmf, qli, qlo, qta, qlt, qcu, qrv, qrs, qoc, qln, qcn, qhd, qsz, qcp, qcw, qcb, qsy, qk1, qk2, qk3, qk4, qlm, qgf, qdf, qwi) := by
  refine ⟨4, hx_rsl (fun cn hd sz cp h => ?_) 3 0 qcn qhd qsz qcp (by omega) (fun j hj => absurd hj (by omega)) 4 (by omega)⟩
  exact hx_clearStage hm (fun l hm' => H cn hd sz cp l h hm')
theorem hy_rs3 {post : SY → Prop} (H : ∀ se, (∀ j, j < 4 → se j = zfl) → wpY_clearStage post (zfl, zmf, 0, zpo, zfa, zfi, 1, zce, upd znu 0 1, zca, se, zwi, zle, zwo)) : ∀ d t se, t + d = 4 → (∀ j, j < t → se j = zfl) → ∀ f, d < f → wY_reset_33 post zfl zmf zwl zpo zfa zfi zin f (nI t) zce znu zca se zwi zle zwo := by
  intro d
  induction d with
  | zero =>
    intro t se ht h f hf
    obtain ⟨f, rfl⟩ : ∃ g, f = g + 1 := ⟨f - 1, by omega⟩
    exact pk_le 4 t (fun _ => nm_e (H se (fun j hj => h j (by omega)))) (fun z => absurd z (by omega))
  | succ d ih =>
    intro t se ht h f hf
    obtain ⟨f, rfl⟩ : ∃ g, f = g + 1 := ⟨f - 1, by omega⟩
    refine pk_le 4 t (fun z => absurd z (by omega)) (fun _ => And.intro (vp_in_nI (by omega) (by decide)) (nm_r (hc_up (w := zfl) rfl (by omega) rfl) (nm_r (nI_1 t) ?_)))
    refine ih (t + 1) _ (by omega) (fun j hj => ?_) f (by omega)
    by_cases e : j = t
    · subst e
      exact pk_us
    · rw [pk_un e]
      exact h j (by omega)
theorem hy_rs2 {post : SY → Prop} (H : ∀ nu ca se, (∀ j, j < 8 → nu j = 0 ∧ ca j = zfl) → (∀ j, j < 4 → se j = zfl) → wpY_clearStage post (zfl, zmf, 0, zpo, zfa, zfi, 1, zce, upd nu 0 1, ca, se, zwi, zle, zwo)) : ∀ d t nu ca, t + d = 8 → (∀ j, j < t → nu j = 0 ∧ ca j = zfl) → ∀ f, d < f → wY_reset_2 post zfl zmf zwl zpo zfa zfi zin f (nI t) zce nu ca zse zwi zle zwo := by
  intro d
  induction d with
  | zero =>
    intro t nu ca ht h f hf
    obtain ⟨f, rfl⟩ : ∃ g, f = g + 1 := ⟨f - 1, by omega⟩
    refine pk_le 8 t (fun _ => ⟨5, ?_⟩) (fun z => absurd z (by omega))
    exact hy_rs3 (fun se hse => H nu ca se (fun j hj => h j (by omega)) hse) 4 0 zse (by omega) (fun j hj => absurd hj (by omega)) 5 (by omega)
  | succ d ih =>
    intro t nu ca ht h f hf
    obtain ⟨f, rfl⟩ : ∃ g, f = g + 1 := ⟨f - 1, by omega⟩
    have it : vp_in (nI t) 8 := vp_in_nI (by omega) (by decide)
    refine pk_le 8 t (fun z => absurd z (by omega)) (fun _ => And.intro it (nm_r (hc_up (w := 0) rfl (by omega) rfl) (And.intro it (nm_r (hc_up (w := zfl) rfl (by omega) rfl) (nm_r (nI_1 t) ?_)))))
    refine ih (t + 1) _ _ (by omega) (fun j hj => ?_) f (by omega)
    by_cases e : j = t
    · subst e
      exact ⟨pk_us, pk_us⟩
    · rw [pk_un e, pk_un e]
      exact h j (by omega)
theorem hy_reset {post : SY → Prop} (hm : hy_M zce T mk) (H : ∀ nu ca se C, (∀ j, j < 8 → nu j = 0 ∧ ca j = zfl) → (∀ j, j < 4 → se j = zfl) → hy_M C (hc_uf T 0 ([], [])) mk → post (zfl, zmf, 0, zpo, zfa, zfi, 1, C, upd nu 0 1, ca, se, zwi, zle, zwo)) : wpY_reset post (zfl, zmf, zwl, zpo, zfa, zfi, zin, zce, znu, zca, zse, zwi, zle, zwo) := by
  refine ⟨9, hy_rs2 (fun nu ca se h1 h2 => ?_) 8 0 znu zca (by omega) (fun j hj => absurd hj (by omega)) 9 (by omega)⟩
  exact hy_clearStage hm (fun C hm' => H nu ca se C h1 h2 hm')
theorem hr_fresh {k fl mf : Nat} (hfl : fl ≤ 128) (hmf : 1 ≤ mf ∧ mf ≤ 6) (x1 : hx_M qoc qln (hc_uf T 14 ([], []))) (x2 : hx_C qcw qcb) (x3 : hx_K qk1 qk2 qk3 qk4 qsy) (x4 : hx_S T) (x5 : ∀ j, j < 3 → qcn j = 0 ∧ qhd j = 0 ∧ qsz j = 0 ∧ qcp j = nI fl) (y1 : hy_M zce (hc_uf T2 0 ([], [])) mk) (y2 : hx_C zwo zle) (y3 : hy_S T2) (y4 : ∀ j, j < 8 → znu j = 0 ∧ zca j = nI fl) (y5 : ∀ j, j < 4 → zse j = nI fl) : i_Rel k (qs1, qs2, qs3, qs4, qs5, qs6, qs7, qs8, 0, 0, qdc, 0, 1, nI fl, nI mf, nI fl, nI fl, nI fl, nI fl, qcu, qrv, qrs, qoc, qln, qcn, qhd, qsz, qcp, qcw, qcb, qsy, qk1, qk2, qk3, qk4, qlm, qgf, qdf, qwi) (nI fl, nI mf, 0, zpo, zfa, zfi, 1, zce, upd znu 0 1, zca, zse, zwi, zle, zwo) := by
  have nl : ∀ i, ¬ i < ([] : List (hc_Fd × Nat)).length := fun i => Nat.not_lt_zero i
  have nt : ∀ i, ¬ i < ([] : List hc_Fd).length := fun i => Nat.not_lt_zero i
  have wn : ∀ a : Nat → Int32, hx_W a [] := fun a i hi => absurd hi (Nat.not_lt_zero i)
  have V : hr_V fl mf fl fl fl fl 1 [] [] [] := ⟨hfl, hmf.1, hmf.2, hfl, hfl, hfl, hfl, by decide, Nat.zero_le _, fun i hi => absurd hi (nl i), Nat.zero_le _, Nat.zero_le _, fun x hx => absurd hx (by simp)⟩
  have F : hr_XF ([], []) [] [] [] fl [] fl [] (hc_uf T 14 ([], [])) qoc qln qcn qhd qsz qcp qcw qcb qsy qk1 qk2 qk3 qk4 qlm qgf qwi := by
    refine ⟨x1, x2, x3, fun i hi => ?_, hc_ufs, fun i hi => absurd hi (nl i), fun i hi => absurd hi (nl i), ⟨(x5 0 (by omega)).1, (x5 0 (by omega)).2.2.1, (x5 0 (by omega)).2.2.2, Nat.zero_le _, hfl, 0, by decide, (x5 0 (by omega)).2.1, fun i hi => absurd hi (nt i)⟩, ⟨(x5 1 (by omega)).1, (x5 1 (by omega)).2.2.1, (x5 1 (by omega)).2.2.2, Nat.zero_le _, hfl, 0, by decide, (x5 1 (by omega)).2.1, fun i hi => absurd hi (nt i)⟩, wn _⟩
    rw [hc_ufo (by omega)]
    exact x4 i hi
  have G : hr_YF fl fl fl fl ([], []) [] [] [] fl [] fl [] (hc_uf T2 0 ([], [])) mk zce (upd znu 0 1) zca zse zwi zle zwo := by
    refine ⟨y1, y2, fun i hi => ?_, hc_ufs, pk_us, (pk_un (by omega)).trans (y4 1 (by omega)).1, fun i hi => absurd hi (nl i), (pk_un (by omega)).trans (y4 2 (by omega)).1, fun i hi => absurd hi (nl i), ⟨(pk_un (by omega)).trans (y4 3 (by omega)).1, (y4 3 (by omega)).2, Nat.zero_le _, hfl, fun i hi => absurd hi (nt i)⟩, ⟨(pk_un (by omega)).trans (y4 4 (by omega)).1, (y4 4 (by omega)).2, Nat.zero_le _, hfl, fun i hi => absurd hi (nt i)⟩, ⟨y5 0 (by omega), y5 1 (by omega), y5 2 (by omega), y5 3 (by omega)⟩, wn _⟩
    rw [hc_ufo (by omega)]
    exact y3 i hi
  exact hr_in V F G
end
theorem i_vc_reset {k : Nat} {u : SX} {v : SY} (I : i_Rel k u v) (hk : k + 5 ≤ 2562) : wpX_reset (fun u' => wpY_reset (fun v' => i_Rel (k + 5) u' v') v) u := by
  refine I (fun u v => wpX_reset (fun u' => wpY_reset (fun v' => i_Rel (k + 5) u' v') v) u) ?_
  intro vfl vmf vli vlo vta vlt vin vsg vls vgt vst vsc vrt vrc vw qs1 qs2 qs3 qs4 qs5 qs6 qs7 qs8 qdc qcu qrv qrs qoc qln qcn qhd qsz qcp qcw qcb qsy qk1 qk2 qk3 qk4 qlm qgf qdf qwi T zpo zfa zfi zce znu zca zse zwi zle zwo T2 mk V F G
  refine hx_reset (T := T) F.1 (fun cn hd sz cp l h1 h2 => ?_)
  refine hy_reset (T := T2) (mk := mk) G.1 (fun nu ca se C h3 h4 h5 => ?_)
  exact hr_fresh V.1 ⟨V.2.1, V.2.2.1⟩ h2 F.2.1 F.2.2.1 F.2.2.2.1 h1 h5 G.2.1 G.2.2.1 h3 h4
end
section
def hc_o (c : Nat) : List Nat := if c = 0 then [] else [c]
theorem hc_oL (l : List Nat) (c : Nat) : (l ++ hc_o c).length ≤ l.length + 1 := by
  unfold hc_o
  split
  · rw [List.append_nil]
    omega
  · rw [List.length_append]
    exact Nat.le_refl _
/-- a value clamped on both sides -/
theorem hc_clamp (p : Int32) (lo hi : Nat) (h : lo ≤ hi) (h2 : hi < 2 ^ 31) : ∃ n, lo ≤ n ∧ n ≤ hi ∧ ∀ Q : Int32 → Prop, Q (nI n) → ((nI lo ≤ p → ((p ≤ nI hi → Q p) ∧ (¬ p ≤ nI hi → Q (nI hi)))) ∧ (¬ nI lo ≤ p → Q (nI lo))) := by
  by_cases c : nI lo ≤ p
  · have c0 : ¬ p < 0 := by
      intro z
      have : nI lo < 0 := Int32.lt_of_le_of_lt c z
      exact nI_pos (by omega) this
    obtain ⟨m, hm, rfl⟩ := nI_of c0
    rw [nI_leI (by omega) hm] at c
    by_cases d : m ≤ hi
    · exact ⟨m, c, d, fun Q hQ => pk_le lo m (fun _ => pk_le m hi (fun _ => hQ) (fun z => absurd z (by omega))) (fun z => absurd z (by omega))⟩
    · exact ⟨hi, h, Nat.le_refl _, fun Q hQ => pk_le lo m (fun _ => pk_le m hi (fun z => absurd z d) (fun _ => hQ)) (fun z => absurd z (by omega))⟩
  · exact ⟨lo, Nat.le_refl _, h, fun Q hQ => br_f c hQ⟩
section
variable {qs1 qs2 qs3 qs4 qs5 qs6 qs7 qs8 qlc qgc qdc qwc qin qfl qmf qli qlo qta qlt qcu qrv qrs : Int32} {qoc qln qcn qhd qsz qcp qcw qcb qsy qk1 qk2 qk3 qk4 qlm qgf qdf qwi : Nat → Int32}
theorem hx_s1 {post : SX → Prop} {T : Nat → List Nat} {L : List Nat} {t c : Nat} {x y : Int32} (hm : hx_M qoc qln (hc_ut T t L)) (ht : t < 164) (hl : L.length < 16) (hc : c < 128) (ex : x = nI t) (ey : y = nI c) (H : ∀ o l, hx_M o l (hc_ut T t (L ++ hc_o c)) → post (qs1, qs2, qs3, qs4, qs5, qs6, qs7, qs8, qlc, qgc, qdc, qwc, qin, qfl, qmf, qli, qlo, qta, qlt, qcu, qrv, qrs, o, l, qcn, qhd, qsz, qcp, qcw, qcb, qsy, qk1, qk2, qk3, qk4, qlm, qgf, qdf, qwi)) : wpX_spellOne post (qs1, qs2, qs3, qs4, qs5, qs6, qs7, qs8, qlc, qgc, qdc, qwc, qin, qfl, qmf, qli, qlo, qta, qlt, qcu, qrv, qrs, qoc, qln, qcn, qhd, qsz, qcp, qcw, qcb, qsy, qk1, qk2, qk3, qk4, qlm, qgf, qdf, qwi) x y := by
  refine pk_eq c 0 (fun z => ?_) (fun z => ?_) ey rfl
  · unfold hc_o at H
    rw [if_pos z, List.append_nil] at H
    exact H _ _ hm
  · unfold hc_o at H
    rw [if_neg z] at H
    refine hx_append (T := hc_ut T t L) (t := t) (c := c) hm ht (by rw [hc_us]; exact hl) hc ex ey (fun o l hm' => ?_)
    rw [hc_utt, hc_us] at hm'
    exact H o l hm'
theorem hx_spell {post : SX → Prop} {T : Nat → List Nat} {t a b c d e f : Nat} {L : List Nat} {x0 x1 x2 x3 x4 x5 x6 : Int32} (hm : hx_M qoc qln T) (ht : t < 164) (hl : (T t).length + 6 ≤ 16) (ha : a < 128) (hb : b < 128) (hc : c < 128) (hd : d < 128) (he : e < 128) (hf : f < 128) (e0 : x0 = nI t) (e1 : x1 = nI a) (e2 : x2 = nI b) (e3 : x3 = nI c) (e4 : x4 = nI d) (e5 : x5 = nI e) (e6 : x6 = nI f) (eL : T t ++ hc_o a ++ hc_o b ++ hc_o c ++ hc_o d ++ hc_o e ++ hc_o f = L) (H : ∀ o l, hx_M o l (hc_ut T t L) → post (qs1, qs2, qs3, qs4, qs5, qs6, qs7, qs8, qlc, qgc, qdc, qwc, qin, qfl, qmf, qli, qlo, qta, qlt, qcu, qrv, qrs, o, l, qcn, qhd, qsz, qcp, qcw, qcb, qsy, qk1, qk2, qk3, qk4, qlm, qgf, qdf, qwi)) : wpX_spell post (qs1, qs2, qs3, qs4, qs5, qs6, qs7, qs8, qlc, qgc, qdc, qwc, qin, qfl, qmf, qli, qlo, qta, qlt, qcu, qrv, qrs, qoc, qln, qcn, qhd, qsz, qcp, qcw, qcb, qsy, qk1, qk2, qk3, qk4, qlm, qgf, qdf, qwi) x0 x1 x2 x3 x4 x5 x6 := by
  subst eL
  have l1 := hc_oL (T t) a
  have l2 := hc_oL (T t ++ hc_o a) b
  have l3 := hc_oL (T t ++ hc_o a ++ hc_o b) c
  have l4 := hc_oL (T t ++ hc_o a ++ hc_o b ++ hc_o c) d
  have l5 := hc_oL (T t ++ hc_o a ++ hc_o b ++ hc_o c ++ hc_o d) e
  unfold wpX_spell
  refine hx_s1 (T := T) (L := T t) (c := a) (by rw [hc_utI]; exact hm) ht (by omega) ha e0 e1 (fun o l hm => ?_)
  refine hx_s1 (T := T) (c := b) hm ht (by omega) hb e0 e2 (fun o l hm => ?_)
  refine hx_s1 (T := T) (c := c) hm ht (by omega) hc e0 e3 (fun o l hm => ?_)
  refine hx_s1 (T := T) (c := d) hm ht (by omega) hd e0 e4 (fun o l hm => ?_)
  refine hx_s1 (T := T) (c := e) hm ht (by omega) he e0 e5 (fun o l hm => ?_)
  exact hx_s1 (T := T) (c := f) hm ht (by omega) hf e0 e6 (fun o l hm => H o l hm)
def hx_B (cb : Nat → Int32) (B : Nat → Nat) : Prop := ∀ c, c < 128 → cb c = nI (B c)
def hc_sB (B : Nat → Nat) (a b v : Nat) : Nat → Nat := fun o => if a ≤ o ∧ o ≤ b then v else B o
theorem hx_sbl {post : SX → Prop} {B : Nat → Nat} {a b v : Nat} (hb : b < 128) (H : ∀ cb, hx_B cb (hc_sB B a b v) → post (qs1, qs2, qs3, qs4, qs5, qs6, qs7, qs8, qlc, qgc, qdc, qwc, qin, qfl, qmf, qli, qlo, qta, qlt, qcu, qrv, qrs, qoc, qln, qcn, qhd, qsz, qcp, qcw, cb, qsy, qk1, qk2, qk3, qk4, qlm, qgf, qdf, qwi)) : ∀ d o cb, o + d = b + 1 → a ≤ o → (∀ c, c < 128 → cb c = nI (if a ≤ c ∧ c < o then v else B c)) → ∀ f, d < f → wX_setBits_3 post (nI b) (nI v) qs1 qs2 qs3 qs4 qs5 qs6 qs7 qs8 qlc qgc qdc qwc qin qfl qmf qli qlo qta qlt qcu qrv qrs f (nI o) qoc qln qcn qhd qsz qcp qcw cb qsy qk1 qk2 qk3 qk4 qlm qgf qdf qwi := by
  intro d
  induction d with
  | zero =>
    intro o cb ho ha h f hf
    obtain ⟨f, rfl⟩ : ∃ g, f = g + 1 := ⟨f - 1, by omega⟩
    refine pk_lt b o (fun _ => H cb (fun c hc => ?_)) (fun z => absurd z (by omega))
    rw [h c hc]
    unfold hc_sB
    by_cases z : a ≤ c ∧ c < o
    · rw [if_pos z, if_pos (by omega)]
    · rw [if_neg z, if_neg (by omega)]
  | succ d ih =>
    intro o cb ho ha h f hf
    obtain ⟨f, rfl⟩ : ∃ g, f = g + 1 := ⟨f - 1, by omega⟩
    refine pk_lt b o (fun z => absurd z (by omega)) (fun _ => And.intro (vp_in_nI (by omega) (by decide)) (nm_r (hc_up rfl (by omega) rfl) (nm_r (nI_1 o) ?_)))
    refine ih (o + 1) _ (by omega) (by omega) (fun c hc => ?_) f (by omega)
    by_cases e : c = o
    · subst e
      rw [pk_us, if_pos (by omega)]
    · rw [pk_un e, h c hc]
      by_cases z : a ≤ c ∧ c < o
      · rw [if_pos z, if_pos (by omega)]
      · rw [if_neg z, if_neg (by omega)]
theorem hx_setBits {post : SX → Prop} {B : Nat → Nat} {a b v : Nat} {x y z : Int32} (hB : hx_B qcb B) (hab : a ≤ b) (hb : b < 128) (ex : x = nI a) (ey : y = nI b) (ez : z = nI v) (H : ∀ cb, hx_B cb (hc_sB B a b v) → post (qs1, qs2, qs3, qs4, qs5, qs6, qs7, qs8, qlc, qgc, qdc, qwc, qin, qfl, qmf, qli, qlo, qta, qlt, qcu, qrv, qrs, qoc, qln, qcn, qhd, qsz, qcp, qcw, cb, qsy, qk1, qk2, qk3, qk4, qlm, qgf, qdf, qwi)) : wpX_setBits post (qs1, qs2, qs3, qs4, qs5, qs6, qs7, qs8, qlc, qgc, qdc, qwc, qin, qfl, qmf, qli, qlo, qta, qlt, qcu, qrv, qrs, qoc, qln, qcn, qhd, qsz, qcp, qcw, qcb, qsy, qk1, qk2, qk3, qk4, qlm, qgf, qdf, qwi) x y z := by
  subst ex ey ez
  refine ⟨b + 2 - a, hx_sbl hb H (b + 1 - a) a qcb (by omega) (Nat.le_refl _) (fun c hc => ?_) _ (by omega)⟩
  rw [hB c hc, if_neg (by omega)]
/-- words numbered up to octet o in the kind with b bits -/
def hx_N (cw sy : Nat → Int32) (b o : Nat) : Prop := (∀ c, c < 128 → hc_cs (hc_cb c) < hc_cs b ∨ (hc_cb c = b ∧ c < o) → cw c = nI (hc_cw c)) ∧ ∀ j, j < hc_cs b + hc_rk b o → sy j = nI (hc_sy j)
theorem hx_nwl {post : Int32 → SX → Prop} {k b : Nat} (hk : k < 5) (hb : b = hc_kb k) (hB : ∀ c, c < 128 → qcb c = nI (hc_cb c)) (H : ∀ cw sy, hx_N cw sy b 128 → post (nI (hc_cs b + hc_rk b 128)) (qs1, qs2, qs3, qs4, qs5, qs6, qs7, qs8, qlc, qgc, qdc, qwc, qin, qfl, qmf, qli, qlo, qta, qlt, qcu, qrv, qrs, qoc, qln, qcn, qhd, qsz, qcp, cw, qcb, sy, upd qk1 k (nI b), upd qk2 k (nI (hc_cf b)), upd qk3 k (nI (hc_rk b 128)), upd qk4 k (nI (hc_cs b)), qlm, qgf, qdf, qwi)) : ∀ d o cw sy, o + d = 128 → hx_N cw sy b o → ∀ f, d < f → wX_numberWords_6 post (nI k) (nI b) (nI (hc_cf b)) (nI (hc_cs b)) qs1 qs2 qs3 qs4 qs5 qs6 qs7 qs8 qlc qgc qdc qwc qin qfl qmf qli qlo qta qlt qcu qrv qrs f (nI (hc_rk b o)) (nI o) qoc qln qcn qhd qsz qcp cw qcb sy qk1 qk2 qk3 qk4 qlm qgf qdf qwi := by
  have ik : vp_in (nI k) 5 := vp_in_nI hk (by decide)
  have hb14 : b ≤ 14 := by
    rw [hb]
    exact hc_kbB
  intro d
  induction d with
  | zero =>
    intro o cw sy ho hN f hf
    obtain ⟨f, rfl⟩ : ∃ g, f = g + 1 := ⟨f - 1, by omega⟩
    have e : o = 128 := by omega
    subst e
    refine pk_le 128 128 (fun _ => And.intro ik (nm_r (hc_up rfl (by omega) rfl) (And.intro ik (nm_r (hc_up rfl (by omega) rfl) (And.intro ik (nm_r (hc_up rfl (by omega) rfl) (And.intro ik (nm_r (hc_up rfl (by omega) rfl) ?_)))))))) (fun z => absurd z (by omega))
    rw [nI_add]
    exact H cw sy hN
  | succ d ih =>
    intro o cw sy ho hN f hf
    obtain ⟨f, rfl⟩ : ∃ g, f = g + 1 := ⟨f - 1, by omega⟩
    have io : vp_in (nI o) 128 := vp_in_nI (by omega) (by decide)
    have c14 := hc_cb14 (c := o) (by omega)
    refine pk_le 128 o (fun z => absurd z (by omega)) (fun _ => And.intro io ?_)
    refine pk_eq (hc_cb o) b (fun e => ?_) (fun e => nm_r (nI_1 o) ?_) (hc_at rfl (by omega) (hB o (by omega)))
    · have s := hc_syr o (by omega)
      have w := hc_cwr o (by omega)
      rw [e] at s w
      have er : hc_rk b (o + 1) = hc_rk b o + 1 := by
        show hc_rk b o + (if hc_cb o = b then 1 else 0) = _
        rw [if_pos e]
      have es : nI (hc_cs b) + nI (hc_rk b o) = nI (hc_cs b + hc_rk b o) := nI_add _ _
      refine pk_le 128 (hc_cs b + hc_rk b o) (fun z => absurd z (by omega)) (fun _ => And.intro io (nm_r (hc_up rfl (by omega) (nI_add _ _)) (And.intro (hc_i es s.2 (by decide)) (nm_r (hc_up es (by omega) rfl) (nm_r (e' := nI (hc_rk b (o + 1))) (hc_nx (nI_1 _) er.symm) (nm_r (nI_1 o) ?_)))))) rfl es
      refine ih (o + 1) _ _ (by omega) ⟨fun c hc h => ?_, fun j hj => ?_⟩ f (by omega)
      · by_cases q : c = o
        · subst q
          rw [pk_us, w]
        · rw [pk_un q]
          exact hN.1 c hc (by omega)
      · by_cases q : j = hc_cs b + hc_rk b o
        · subst q
          rw [pk_us, s.1]
        · rw [pk_un q]
          exact hN.2 j (by omega)
    · have er : hc_rk b (o + 1) = hc_rk b o := by
        show hc_rk b o + (if hc_cb o = b then 1 else 0) = _
        rw [if_neg e]
        rfl
      have g := ih (o + 1) cw sy (by omega) ⟨fun c hc h => hN.1 c hc (by
        rcases h with h | ⟨h1, h2⟩
        · exact Or.inl h
        · refine Or.inr ⟨h1, ?_⟩
          by_cases q : c = o
          · subst q
            exact absurd h1 e
          · omega), fun j hj => hN.2 j (by omega)⟩ f (by omega)
      rw [er] at g
      exact g
theorem hx_numberWords {post : Int32 → SX → Prop} {k b : Nat} {x0 x1 x2 x3 : Int32} (hk : k < 5) (hb : b = hc_kb k) (hB : ∀ c, c < 128 → qcb c = nI (hc_cb c)) (hN : hx_N qcw qsy b 0) (e0 : x0 = nI k) (e1 : x1 = nI b) (e2 : x2 = nI (hc_cf b)) (e3 : x3 = nI (hc_cs b)) (H : ∀ cw sy, hx_N cw sy b 128 → post (nI (hc_cs b + hc_rk b 128)) (qs1, qs2, qs3, qs4, qs5, qs6, qs7, qs8, qlc, qgc, qdc, qwc, qin, qfl, qmf, qli, qlo, qta, qlt, qcu, qrv, qrs, qoc, qln, qcn, qhd, qsz, qcp, cw, qcb, sy, upd qk1 k (nI b), upd qk2 k (nI (hc_cf b)), upd qk3 k (nI (hc_rk b 128)), upd qk4 k (nI (hc_cs b)), qlm, qgf, qdf, qwi)) : wpX_numberWords post (qs1, qs2, qs3, qs4, qs5, qs6, qs7, qs8, qlc, qgc, qdc, qwc, qin, qfl, qmf, qli, qlo, qta, qlt, qcu, qrv, qrs, qoc, qln, qcn, qhd, qsz, qcp, qcw, qcb, qsy, qk1, qk2, qk3, qk4, qlm, qgf, qdf, qwi) x0 x1 x2 x3 := by
  subst e0 e1 e2 e3
  exact ⟨129, hx_nwl hk hb hB H 128 0 qcw qsy (by omega) hN 129 (by omega)⟩
/-- from one kind to the next -/
theorem hx_Nn {cw sy : Nat → Int32} {b b' : Nat} (h : hx_N cw sy b 128) (e : hc_cs b' = hc_cs b + hc_rk b 128) (h2 : ∀ c, c < 128 → hc_cs (hc_cb c) < hc_cs b' → hc_cs (hc_cb c) < hc_cs b ∨ hc_cb c = b) : hx_N cw sy b' 0 := by
  refine ⟨fun c hc q => h.1 c hc ?_, fun j hj => h.2 j ?_⟩
  · rcases q with q | q
    · rcases h2 c hc q with z | z
      · exact Or.inl z
      · exact Or.inr ⟨z, hc⟩
    · omega
  · have hj : j < hc_cs b' + 0 := hj
    omega
end
theorem hx_n6 : ∀ c, c < 128 → hc_cs (hc_cb c) < hc_cs 6 → hc_cs (hc_cb c) < hc_cs 5 ∨ hc_cb c = 5 := by decide +kernel
theorem hx_n7 : ∀ c, c < 128 → hc_cs (hc_cb c) < hc_cs 7 → hc_cs (hc_cb c) < hc_cs 6 ∨ hc_cb c = 6 := by decide +kernel
theorem hx_n8 : ∀ c, c < 128 → hc_cs (hc_cb c) < hc_cs 8 → hc_cs (hc_cb c) < hc_cs 7 ∨ hc_cb c = 7 := by decide +kernel
theorem hx_n14 : ∀ c, c < 128 → hc_cs (hc_cb c) < hc_cs 14 → hc_cs (hc_cb c) < hc_cs 8 ∨ hc_cb c = 8 := by decide +kernel
theorem hx_nAll : ∀ c, c < 128 → hc_cs (hc_cb c) < hc_cs 14 ∨ hc_cb c = 14 := by decide +kernel
/-- the texts of the static table -/
def hx_TS : Nat → List Nat := (hc_ut (hc_ut (hc_ut (hc_ut (hc_ut (hc_ut (hc_ut (hc_ut (hc_ut (hc_ut (hc_ut (hc_ut (hc_ut (hc_ut (hc_ut (hc_ut (hc_ut (hc_ut (hc_ut (hc_ut (hc_ut (hc_ut (hc_ut (hc_ut (hc_ut (hc_ut (hc_ut (hc_ut (hc_ut (fun _ => []) 0 [58, 97, 117, 116, 104, 111]) 0 [58, 97, 117, 116, 104, 111, 114, 105, 116, 121]) 2 [58, 109, 101, 116, 104, 111]) 2 [58, 109, 101, 116, 104, 111, 100]) 3 [71, 69, 84]) 4 [58, 109, 101, 116, 104, 111, 100]) 5 [80, 79, 83, 84]) 6 [58, 112, 97, 116, 104]) 7 [47]) 8 [58, 112, 97, 116, 104]) 9 [47, 105, 110, 100, 101, 120]) 9 [47, 105, 110, 100, 101, 120, 46, 104, 116, 109, 108]) 10 [58, 115, 99, 104, 101, 109]) 10 [58, 115, 99, 104, 101, 109, 101]) 11 [104, 116, 116, 112]) 12 [58, 115, 99, 104, 101, 109, 101]) 13 [104, 116, 116, 112, 115]) 14 [58, 115, 116, 97, 116, 117]) 14 [58, 115, 116, 97, 116, 117, 115]) 15 [50, 48, 48]) 16 [58, 115, 116, 97, 116, 117, 115]) 17 [52, 48, 52]) 18 [97, 99, 99, 101, 112, 116]) 19 [116, 101, 120, 116, 47, 104]) 19 [116, 101, 120, 116, 47, 104, 116, 109, 108]) 20 [97, 103, 101]) 22 [99, 111, 111, 107, 105, 101]) 24 [104, 111, 115, 116]) 26 [118, 105, 97])
theorem hx_TSS : hx_S hx_TS := by
  unfold hx_S
  decide +kernel
section
variable {qs1 qs2 qs3 qs4 qs5 qs6 qs7 qs8 qlc qgc qdc qwc qin qfl qmf qli qlo qta qlt qcu qrv qrs : Int32} {qoc qln qcn qhd qsz qcp qcw qcb qsy qk1 qk2 qk3 qk4 qlm qgf qdf qwi : Nat → Int32}
theorem hx_static {post : SX → Prop} (hm : hx_M qoc qln (fun _ => [])) (H : ∀ o l, hx_M o l hx_TS → post (qs1, qs2, qs3, qs4, qs5, qs6, qs7, qs8, qlc, qgc, qdc, qwc, qin, qfl, qmf, qli, qlo, qta, qlt, qcu, qrv, qrs, o, l, qcn, qhd, qsz, qcp, qcw, qcb, qsy, qk1, qk2, qk3, qk4, qlm, qgf, qdf, qwi)) : wpX_buildStaticTable post (qs1, qs2, qs3, qs4, qs5, qs6, qs7, qs8, qlc, qgc, qdc, qwc, qin, qfl, qmf, qli, qlo, qta, qlt, qcu, qrv, qrs, qoc, qln, qcn, qhd, qsz, qcp, qcw, qcb, qsy, qk1, qk2, qk3, qk4, qlm, qgf, qdf, qwi) := by
  unfold wpX_buildStaticTable
  refine hx_spell (t := 0) (a := 58) (b := 97) (c := 117) (d := 116) (e := 104) (f := 111) (L := [58, 97, 117, 116, 104, 111]) hm (by decide) (by decide +kernel) (by decide) (by decide) (by decide) (by decide) (by decide) (by decide) rfl rfl rfl rfl rfl rfl rfl (by decide +kernel) (fun o l hm => ?_)
  refine hx_spell (t := 0) (a := 114) (b := 105) (c := 116) (d := 121) (e := 0) (f := 0) (L := [58, 97, 117, 116, 104, 111, 114, 105, 116, 121]) hm (by decide) (by decide +kernel) (by decide) (by decide) (by decide) (by decide) (by decide) (by decide) rfl rfl rfl rfl rfl rfl rfl (by decide +kernel) (fun o l hm => ?_)
  refine hx_spell (t := 2) (a := 58) (b := 109) (c := 101) (d := 116) (e := 104) (f := 111) (L := [58, 109, 101, 116, 104, 111]) hm (by decide) (by decide +kernel) (by decide) (by decide) (by decide) (by decide) (by decide) (by decide) rfl rfl rfl rfl rfl rfl rfl (by decide +kernel) (fun o l hm => ?_)
  refine hx_spell (t := 2) (a := 100) (b := 0) (c := 0) (d := 0) (e := 0) (f := 0) (L := [58, 109, 101, 116, 104, 111, 100]) hm (by decide) (by decide +kernel) (by decide) (by decide) (by decide) (by decide) (by decide) (by decide) rfl rfl rfl rfl rfl rfl rfl (by decide +kernel) (fun o l hm => ?_)
  refine hx_spell (t := 3) (a := 71) (b := 69) (c := 84) (d := 0) (e := 0) (f := 0) (L := [71, 69, 84]) hm (by decide) (by decide +kernel) (by decide) (by decide) (by decide) (by decide) (by decide) (by decide) rfl rfl rfl rfl rfl rfl rfl (by decide +kernel) (fun o l hm => ?_)
  refine hx_copyText (a := 2) (b := 4) hm (by decide) (by decide) rfl rfl (fun o l hm => ?_)
  rw [show (hc_ut (hc_ut (hc_ut (hc_ut (hc_ut (fun _ => []) 0 [58, 97, 117, 116, 104, 111]) 0 [58, 97, 117, 116, 104, 111, 114, 105, 116, 121]) 2 [58, 109, 101, 116, 104, 111]) 2 [58, 109, 101, 116, 104, 111, 100]) 3 [71, 69, 84]) 2 = [58, 109, 101, 116, 104, 111, 100] from by decide +kernel] at hm
  refine hx_spell (t := 5) (a := 80) (b := 79) (c := 83) (d := 84) (e := 0) (f := 0) (L := [80, 79, 83, 84]) hm (by decide) (by decide +kernel) (by decide) (by decide) (by decide) (by decide) (by decide) (by decide) rfl rfl rfl rfl rfl rfl rfl (by decide +kernel) (fun o l hm => ?_)
  refine hx_spell (t := 6) (a := 58) (b := 112) (c := 97) (d := 116) (e := 104) (f := 0) (L := [58, 112, 97, 116, 104]) hm (by decide) (by decide +kernel) (by decide) (by decide) (by decide) (by decide) (by decide) (by decide) rfl rfl rfl rfl rfl rfl rfl (by decide +kernel) (fun o l hm => ?_)
  refine hx_spell (t := 7) (a := 47) (b := 0) (c := 0) (d := 0) (e := 0) (f := 0) (L := [47]) hm (by decide) (by decide +kernel) (by decide) (by decide) (by decide) (by decide) (by decide) (by decide) rfl rfl rfl rfl rfl rfl rfl (by decide +kernel) (fun o l hm => ?_)
  refine hx_copyText (a := 6) (b := 8) hm (by decide) (by decide) rfl rfl (fun o l hm => ?_)
  rw [show (hc_ut (hc_ut (hc_ut (hc_ut (hc_ut (hc_ut (hc_ut (hc_ut (hc_ut (fun _ => []) 0 [58, 97, 117, 116, 104, 111]) 0 [58, 97, 117, 116, 104, 111, 114, 105, 116, 121]) 2 [58, 109, 101, 116, 104, 111]) 2 [58, 109, 101, 116, 104, 111, 100]) 3 [71, 69, 84]) 4 [58, 109, 101, 116, 104, 111, 100]) 5 [80, 79, 83, 84]) 6 [58, 112, 97, 116, 104]) 7 [47]) 6 = [58, 112, 97, 116, 104] from by decide +kernel] at hm
  refine hx_spell (t := 9) (a := 47) (b := 105) (c := 110) (d := 100) (e := 101) (f := 120) (L := [47, 105, 110, 100, 101, 120]) hm (by decide) (by decide +kernel) (by decide) (by decide) (by decide) (by decide) (by decide) (by decide) rfl rfl rfl rfl rfl rfl rfl (by decide +kernel) (fun o l hm => ?_)
  refine hx_spell (t := 9) (a := 46) (b := 104) (c := 116) (d := 109) (e := 108) (f := 0) (L := [47, 105, 110, 100, 101, 120, 46, 104, 116, 109, 108]) hm (by decide) (by decide +kernel) (by decide) (by decide) (by decide) (by decide) (by decide) (by decide) rfl rfl rfl rfl rfl rfl rfl (by decide +kernel) (fun o l hm => ?_)
  refine hx_spell (t := 10) (a := 58) (b := 115) (c := 99) (d := 104) (e := 101) (f := 109) (L := [58, 115, 99, 104, 101, 109]) hm (by decide) (by decide +kernel) (by decide) (by decide) (by decide) (by decide) (by decide) (by decide) rfl rfl rfl rfl rfl rfl rfl (by decide +kernel) (fun o l hm => ?_)
  refine hx_spell (t := 10) (a := 101) (b := 0) (c := 0) (d := 0) (e := 0) (f := 0) (L := [58, 115, 99, 104, 101, 109, 101]) hm (by decide) (by decide +kernel) (by decide) (by decide) (by decide) (by decide) (by decide) (by decide) rfl rfl rfl rfl rfl rfl rfl (by decide +kernel) (fun o l hm => ?_)
  refine hx_spell (t := 11) (a := 104) (b := 116) (c := 116) (d := 112) (e := 0) (f := 0) (L := [104, 116, 116, 112]) hm (by decide) (by decide +kernel) (by decide) (by decide) (by decide) (by decide) (by decide) (by decide) rfl rfl rfl rfl rfl rfl rfl (by decide +kernel) (fun o l hm => ?_)
  refine hx_copyText (a := 10) (b := 12) hm (by decide) (by decide) rfl rfl (fun o l hm => ?_)
  rw [show (hc_ut (hc_ut (hc_ut (hc_ut (hc_ut (hc_ut (hc_ut (hc_ut (hc_ut (hc_ut (hc_ut (hc_ut (hc_ut (hc_ut (hc_ut (fun _ => []) 0 [58, 97, 117, 116, 104, 111]) 0 [58, 97, 117, 116, 104, 111, 114, 105, 116, 121]) 2 [58, 109, 101, 116, 104, 111]) 2 [58, 109, 101, 116, 104, 111, 100]) 3 [71, 69, 84]) 4 [58, 109, 101, 116, 104, 111, 100]) 5 [80, 79, 83, 84]) 6 [58, 112, 97, 116, 104]) 7 [47]) 8 [58, 112, 97, 116, 104]) 9 [47, 105, 110, 100, 101, 120]) 9 [47, 105, 110, 100, 101, 120, 46, 104, 116, 109, 108]) 10 [58, 115, 99, 104, 101, 109]) 10 [58, 115, 99, 104, 101, 109, 101]) 11 [104, 116, 116, 112]) 10 = [58, 115, 99, 104, 101, 109, 101] from by decide +kernel] at hm
  refine hx_spell (t := 13) (a := 104) (b := 116) (c := 116) (d := 112) (e := 115) (f := 0) (L := [104, 116, 116, 112, 115]) hm (by decide) (by decide +kernel) (by decide) (by decide) (by decide) (by decide) (by decide) (by decide) rfl rfl rfl rfl rfl rfl rfl (by decide +kernel) (fun o l hm => ?_)
  refine hx_spell (t := 14) (a := 58) (b := 115) (c := 116) (d := 97) (e := 116) (f := 117) (L := [58, 115, 116, 97, 116, 117]) hm (by decide) (by decide +kernel) (by decide) (by decide) (by decide) (by decide) (by decide) (by decide) rfl rfl rfl rfl rfl rfl rfl (by decide +kernel) (fun o l hm => ?_)
  refine hx_spell (t := 14) (a := 115) (b := 0) (c := 0) (d := 0) (e := 0) (f := 0) (L := [58, 115, 116, 97, 116, 117, 115]) hm (by decide) (by decide +kernel) (by decide) (by decide) (by decide) (by decide) (by decide) (by decide) rfl rfl rfl rfl rfl rfl rfl (by decide +kernel) (fun o l hm => ?_)
  refine hx_spell (t := 15) (a := 50) (b := 48) (c := 48) (d := 0) (e := 0) (f := 0) (L := [50, 48, 48]) hm (by decide) (by decide +kernel) (by decide) (by decide) (by decide) (by decide) (by decide) (by decide) rfl rfl rfl rfl rfl rfl rfl (by decide +kernel) (fun o l hm => ?_)
  refine hx_copyText (a := 14) (b := 16) hm (by decide) (by decide) rfl rfl (fun o l hm => ?_)
  rw [show (hc_ut (hc_ut (hc_ut (hc_ut (hc_ut (hc_ut (hc_ut (hc_ut (hc_ut (hc_ut (hc_ut (hc_ut (hc_ut (hc_ut (hc_ut (hc_ut (hc_ut (hc_ut (hc_ut (hc_ut (fun _ => []) 0 [58, 97, 117, 116, 104, 111]) 0 [58, 97, 117, 116, 104, 111, 114, 105, 116, 121]) 2 [58, 109, 101, 116, 104, 111]) 2 [58, 109, 101, 116, 104, 111, 100]) 3 [71, 69, 84]) 4 [58, 109, 101, 116, 104, 111, 100]) 5 [80, 79, 83, 84]) 6 [58, 112, 97, 116, 104]) 7 [47]) 8 [58, 112, 97, 116, 104]) 9 [47, 105, 110, 100, 101, 120]) 9 [47, 105, 110, 100, 101, 120, 46, 104, 116, 109, 108]) 10 [58, 115, 99, 104, 101, 109]) 10 [58, 115, 99, 104, 101, 109, 101]) 11 [104, 116, 116, 112]) 12 [58, 115, 99, 104, 101, 109, 101]) 13 [104, 116, 116, 112, 115]) 14 [58, 115, 116, 97, 116, 117]) 14 [58, 115, 116, 97, 116, 117, 115]) 15 [50, 48, 48]) 14 = [58, 115, 116, 97, 116, 117, 115] from by decide +kernel] at hm
  refine hx_spell (t := 17) (a := 52) (b := 48) (c := 52) (d := 0) (e := 0) (f := 0) (L := [52, 48, 52]) hm (by decide) (by decide +kernel) (by decide) (by decide) (by decide) (by decide) (by decide) (by decide) rfl rfl rfl rfl rfl rfl rfl (by decide +kernel) (fun o l hm => ?_)
  refine hx_spell (t := 18) (a := 97) (b := 99) (c := 99) (d := 101) (e := 112) (f := 116) (L := [97, 99, 99, 101, 112, 116]) hm (by decide) (by decide +kernel) (by decide) (by decide) (by decide) (by decide) (by decide) (by decide) rfl rfl rfl rfl rfl rfl rfl (by decide +kernel) (fun o l hm => ?_)
  refine hx_spell (t := 19) (a := 116) (b := 101) (c := 120) (d := 116) (e := 47) (f := 104) (L := [116, 101, 120, 116, 47, 104]) hm (by decide) (by decide +kernel) (by decide) (by decide) (by decide) (by decide) (by decide) (by decide) rfl rfl rfl rfl rfl rfl rfl (by decide +kernel) (fun o l hm => ?_)
  refine hx_spell (t := 19) (a := 116) (b := 109) (c := 108) (d := 0) (e := 0) (f := 0) (L := [116, 101, 120, 116, 47, 104, 116, 109, 108]) hm (by decide) (by decide +kernel) (by decide) (by decide) (by decide) (by decide) (by decide) (by decide) rfl rfl rfl rfl rfl rfl rfl (by decide +kernel) (fun o l hm => ?_)
  refine hx_spell (t := 20) (a := 97) (b := 103) (c := 101) (d := 0) (e := 0) (f := 0) (L := [97, 103, 101]) hm (by decide) (by decide +kernel) (by decide) (by decide) (by decide) (by decide) (by decide) (by decide) rfl rfl rfl rfl rfl rfl rfl (by decide +kernel) (fun o l hm => ?_)
  refine hx_spell (t := 22) (a := 99) (b := 111) (c := 111) (d := 107) (e := 105) (f := 101) (L := [99, 111, 111, 107, 105, 101]) hm (by decide) (by decide +kernel) (by decide) (by decide) (by decide) (by decide) (by decide) (by decide) rfl rfl rfl rfl rfl rfl rfl (by decide +kernel) (fun o l hm => ?_)
  refine hx_spell (t := 24) (a := 104) (b := 111) (c := 115) (d := 116) (e := 0) (f := 0) (L := [104, 111, 115, 116]) hm (by decide) (by decide +kernel) (by decide) (by decide) (by decide) (by decide) (by decide) (by decide) rfl rfl rfl rfl rfl rfl rfl (by decide +kernel) (fun o l hm => ?_)
  refine hx_spell (t := 26) (a := 118) (b := 105) (c := 97) (d := 0) (e := 0) (f := 0) (L := [118, 105, 97]) hm (by decide) (by decide +kernel) (by decide) (by decide) (by decide) (by decide) (by decide) (by decide) rfl rfl rfl rfl rfl rfl rfl (by decide +kernel) (fun o l hm => ?_)
  exact H o l hm
end
theorem hx_Bfin : ∀ c, c < 128 → (hc_sB (hc_sB (hc_sB (hc_sB (hc_sB (hc_sB (hc_sB (hc_sB (hc_sB (hc_sB (hc_sB (hc_sB (hc_sB (hc_sB (hc_sB (hc_sB (hc_sB (hc_sB (hc_sB (hc_sB (hc_sB (hc_sB (hc_sB (hc_sB (hc_sB (hc_sB (hc_sB (hc_sB (hc_sB (hc_sB (hc_sB (hc_sB (hc_sB (hc_sB (fun _ => 0) 0 127 14) 48 50 5) 97 97 5) 99 99 5) 101 101 5) 105 105 5) 111 111 5) 115 116 5) 32 32 6) 37 37 6) 45 47 6) 51 57 6) 61 61 6) 65 65 6) 95 95 6) 98 98 6) 100 100 6) 102 104 6) 108 110 6) 112 112 6) 114 114 6) 117 117 6) 58 58 7) 66 87 7) 89 89 7) 106 107 7) 113 113 7) 118 122 7) 38 38 8) 42 42 8) 44 44 8) 59 59 8) 88 88 8) 90 90 8) c = hc_cb c := by decide +kernel
section
variable {qs1 qs2 qs3 qs4 qs5 qs6 qs7 qs8 qlc qgc qdc qwc qin qfl qmf qli qlo qta qlt qcu qrv qrs : Int32} {qoc qln qcn qhd qsz qcp qcw qcb qsy qk1 qk2 qk3 qk4 qlm qgf qdf qwi : Nat → Int32}
theorem hx_buildCode {post : SX → Prop} (hB : hx_B qcb (fun _ => 0)) (H : ∀ cw cb sy k1 k2 k3 k4, hx_C cw cb → hx_K k1 k2 k3 k4 sy → post (qs1, qs2, qs3, qs4, qs5, qs6, qs7, qs8, qlc, qgc, qdc, qwc, qin, qfl, qmf, qli, qlo, qta, qlt, qcu, qrv, qrs, qoc, qln, qcn, qhd, qsz, qcp, cw, cb, sy, k1, k2, k3, k4, qlm, qgf, qdf, qwi)) : wpX_buildCode post (qs1, qs2, qs3, qs4, qs5, qs6, qs7, qs8, qlc, qgc, qdc, qwc, qin, qfl, qmf, qli, qlo, qta, qlt, qcu, qrv, qrs, qoc, qln, qcn, qhd, qsz, qcp, qcw, qcb, qsy, qk1, qk2, qk3, qk4, qlm, qgf, qdf, qwi) := by
  unfold wpX_buildCode
  refine hx_setBits (a := 0) (b := 127) (v := 14) hB (by decide) (by decide) rfl rfl rfl (fun cb hB => ?_)
  refine hx_setBits (a := 48) (b := 50) (v := 5) hB (by decide) (by decide) rfl rfl rfl (fun cb hB => ?_)
  refine hx_setBits (a := 97) (b := 97) (v := 5) hB (by decide) (by decide) rfl rfl rfl (fun cb hB => ?_)
  refine hx_setBits (a := 99) (b := 99) (v := 5) hB (by decide) (by decide) rfl rfl rfl (fun cb hB => ?_)
  refine hx_setBits (a := 101) (b := 101) (v := 5) hB (by decide) (by decide) rfl rfl rfl (fun cb hB => ?_)
  refine hx_setBits (a := 105) (b := 105) (v := 5) hB (by decide) (by decide) rfl rfl rfl (fun cb hB => ?_)
  refine hx_setBits (a := 111) (b := 111) (v := 5) hB (by decide) (by decide) rfl rfl rfl (fun cb hB => ?_)
  refine hx_setBits (a := 115) (b := 116) (v := 5) hB (by decide) (by decide) rfl rfl rfl (fun cb hB => ?_)
  refine hx_setBits (a := 32) (b := 32) (v := 6) hB (by decide) (by decide) rfl rfl rfl (fun cb hB => ?_)
  refine hx_setBits (a := 37) (b := 37) (v := 6) hB (by decide) (by decide) rfl rfl rfl (fun cb hB => ?_)
  refine hx_setBits (a := 45) (b := 47) (v := 6) hB (by decide) (by decide) rfl rfl rfl (fun cb hB => ?_)
  refine hx_setBits (a := 51) (b := 57) (v := 6) hB (by decide) (by decide) rfl rfl rfl (fun cb hB => ?_)
  refine hx_setBits (a := 61) (b := 61) (v := 6) hB (by decide) (by decide) rfl rfl rfl (fun cb hB => ?_)
  refine hx_setBits (a := 65) (b := 65) (v := 6) hB (by decide) (by decide) rfl rfl rfl (fun cb hB => ?_)
  refine hx_setBits (a := 95) (b := 95) (v := 6) hB (by decide) (by decide) rfl rfl rfl (fun cb hB => ?_)
  refine hx_setBits (a := 98) (b := 98) (v := 6) hB (by decide) (by decide) rfl rfl rfl (fun cb hB => ?_)
  refine hx_setBits (a := 100) (b := 100) (v := 6) hB (by decide) (by decide) rfl rfl rfl (fun cb hB => ?_)
  refine hx_setBits (a := 102) (b := 104) (v := 6) hB (by decide) (by decide) rfl rfl rfl (fun cb hB => ?_)
  refine hx_setBits (a := 108) (b := 110) (v := 6) hB (by decide) (by decide) rfl rfl rfl (fun cb hB => ?_)
  refine hx_setBits (a := 112) (b := 112) (v := 6) hB (by decide) (by decide) rfl rfl rfl (fun cb hB => ?_)
  refine hx_setBits (a := 114) (b := 114) (v := 6) hB (by decide) (by decide) rfl rfl rfl (fun cb hB => ?_)
  refine hx_setBits (a := 117) (b := 117) (v := 6) hB (by decide) (by decide) rfl rfl rfl (fun cb hB => ?_)
  refine hx_setBits (a := 58) (b := 58) (v := 7) hB (by decide) (by decide) rfl rfl rfl (fun cb hB => ?_)
  refine hx_setBits (a := 66) (b := 87) (v := 7) hB (by decide) (by decide) rfl rfl rfl (fun cb hB => ?_)
  refine hx_setBits (a := 89) (b := 89) (v := 7) hB (by decide) (by decide) rfl rfl rfl (fun cb hB => ?_)
  refine hx_setBits (a := 106) (b := 107) (v := 7) hB (by decide) (by decide) rfl rfl rfl (fun cb hB => ?_)
  refine hx_setBits (a := 113) (b := 113) (v := 7) hB (by decide) (by decide) rfl rfl rfl (fun cb hB => ?_)
  refine hx_setBits (a := 118) (b := 122) (v := 7) hB (by decide) (by decide) rfl rfl rfl (fun cb hB => ?_)
  refine hx_setBits (a := 38) (b := 38) (v := 8) hB (by decide) (by decide) rfl rfl rfl (fun cb hB => ?_)
  refine hx_setBits (a := 42) (b := 42) (v := 8) hB (by decide) (by decide) rfl rfl rfl (fun cb hB => ?_)
  refine hx_setBits (a := 44) (b := 44) (v := 8) hB (by decide) (by decide) rfl rfl rfl (fun cb hB => ?_)
  refine hx_setBits (a := 59) (b := 59) (v := 8) hB (by decide) (by decide) rfl rfl rfl (fun cb hB => ?_)
  refine hx_setBits (a := 88) (b := 88) (v := 8) hB (by decide) (by decide) rfl rfl rfl (fun cb hB => ?_)
  refine hx_setBits (a := 90) (b := 90) (v := 8) hB (by decide) (by decide) rfl rfl rfl (fun cb hB => ?_)
  have hC : ∀ c, c < 128 → cb c = nI (hc_cb c) := fun c hc => by rw [hB c hc, hx_Bfin c hc]
  obtain ⟨r5, r6, r7, r8, r14⟩ := hc_rk128
  refine hx_numberWords (k := 0) (b := 5) (by decide) rfl hC ⟨fun c hc q => ?_, fun j hj => absurd hj (Nat.not_lt_zero j)⟩ rfl rfl rfl rfl (fun cw sy hN => ?_)
  · rcases q with q | q
    · exact absurd q (Nat.not_lt_zero _)
    · omega
  refine hx_numberWords (k := 1) (b := 6) (by decide) rfl hC (hx_Nn hN (by rw [r5]; rfl) hx_n6) rfl rfl rfl (congrArg nI (by rw [r5]; rfl)) (fun cw sy hN => ?_)
  refine hx_numberWords (k := 2) (b := 7) (by decide) rfl hC (hx_Nn hN (by rw [r6]; rfl) hx_n7) rfl rfl rfl (congrArg nI (by rw [r6]; rfl)) (fun cw sy hN => ?_)
  refine hx_numberWords (k := 3) (b := 8) (by decide) rfl hC (hx_Nn hN (by rw [r7]; rfl) hx_n8) rfl rfl rfl (congrArg nI (by rw [r7]; rfl)) (fun cw sy hN => ?_)
  refine hx_numberWords (k := 4) (b := 14) (by decide) rfl hC (hx_Nn hN (by rw [r8]; rfl) hx_n14) rfl rfl rfl (congrArg nI (by rw [r8]; rfl)) (fun cw sy hN => ?_)
  refine H cw cb sy _ _ _ _ (fun c hc => ⟨hN.1 c hc ?_, hC c hc⟩) ⟨fun k hk => ?_, fun j hj => hN.2 j ?_⟩
  · rcases hx_nAll c hc with z | z
    · exact Or.inl z
    · exact Or.inr ⟨z, hc⟩
  · rw [r5, r6, r7, r8, r14]
    have e : k = 0 ∨ k = 1 ∨ k = 2 ∨ k = 3 ∨ k = 4 := by omega
    rcases e with rfl | rfl | rfl | rfl | rfl
    · exact ⟨rfl, rfl, rfl, rfl⟩
    · exact ⟨rfl, rfl, rfl, rfl⟩
    · exact ⟨rfl, rfl, rfl, rfl⟩
    · exact ⟨rfl, rfl, rfl, rfl⟩
    · exact ⟨rfl, rfl, rfl, rfl⟩
  · rw [r14]
    show j < 74 + 54
    omega
end
end
section
/-- the reference's static texts by their number -/
def hy_tg (x : Nat) : List Nat := if (x - 450) % 2 = 0 then (hc_st ((x - 450) / 2)).1 else (hc_st ((x - 450) / 2)).2
def hy_Z (T : Nat → List Nat) (q : Nat) (L : List Nat) : Prop := (∀ x, 450 ≤ x → x < 448 + q → T x = hy_tg x) ∧ T (448 + q) = L ∧ ∀ x, 448 + q < x → T x = []
def hy_ck : Nat → List Nat → List Nat → Bool
  | q, _, [] => decide (q = 30)
  | q, L, c :: r => if c = 124 then (decide (L = hy_tg (448 + q)) && decide (q < 30)) && hy_ck (q + 1) [] r else if c = 0 then hy_ck q L r else (decide (L.length < 16) && (decide (c < 128) && decide (q < 30))) && hy_ck q (L ++ [c]) r
theorem hy_bl14 {post : Int32 → Prop} {c : Nat} (h : post (nI (hc_cb c))) (z : c < 32 ∨ (122 < c ∧ c < 128)) : post 14 := by
  have e1 : ∀ c, c < 32 → hc_cb c = 14 := by decide +kernel
  have e2 : ∀ c, c < 128 → 122 < c → hc_cb c = 14 := by decide +kernel
  have e : hc_cb c = 14 := by
    rcases z with z | z
    · exact e1 c z
    · exact e2 c z.2 z.1
  rw [e] at h
  exact h
theorem hy_bx {c k : Nat} (hc : c < 128) (e : nI c = nI k) (hk : k < 128) : c = k := (nI_eq (by omega) (by omega)).mp e
theorem hy_blf {post : Int32 → Prop} {c k v : Nat} (hc : c < 128) (h : post (nI (hc_cb c))) (e : nI c = nI k) (hk : k < 128) (hv : hc_cb k = v) : post (nI v) := by
  rw [hy_bx hc e hk, hv] at h
  exact h
theorem hy_ckA : hy_ck 2 [] [58, 97, 117, 116, 104, 111, 114, 105, 116, 121, 124, 124, 0, 0, 58, 109, 101, 116, 104, 111, 100, 124, 71, 69, 84, 124, 0, 0, 58, 109, 101, 116, 104, 111, 100, 124, 80, 79, 83, 84, 124, 0, 58, 112, 97, 116, 104, 124, 47, 124, 0, 0, 0, 0, 0, 0, 58, 112, 97, 116, 104, 124, 47, 105, 110, 100, 101, 120, 46, 104, 116, 109, 108, 124, 0, 0, 0, 58, 115, 99, 104, 101, 109, 101, 124, 104, 116, 116, 112, 124, 0, 58, 115, 99, 104, 101, 109, 101, 124, 104, 116, 116, 112, 115, 124, 58, 115, 116, 97, 116, 117, 115, 124, 50, 48, 48, 124, 0, 0, 58, 115, 116, 97, 116, 117, 115, 124, 52, 48, 52, 124, 0, 0, 97, 99, 99, 101, 112, 116, 124, 116, 101, 120, 116, 47, 104, 116, 109, 108, 124, 0, 0, 0, 0, 97, 103, 101, 124, 124, 0, 0, 99, 111, 111, 107, 105, 101, 124, 124, 0, 0, 0, 0, 0, 0, 104, 111, 115, 116, 124, 124, 0, 118, 105, 97, 124, 124, 0, 0] = true := by decide +kernel
section
variable {zfl zmf zwl zpo zfa zfi zin : Int32} {zce znu zca zse zwi zle zwo : Nat → Int32}
theorem hy_b15 {post : Int32 → Prop} {c : Nat} (hc : c < 128) (hr : c < 66 ∨ 87 < c) (h : post (nI (hc_cb c))) : wY_bits_15 post (nI c) zfl zmf zwl zpo zfa zfi zin zce znu zca zse zwi zle zwo := by
  refine pk_lt c 32 (fun z => hy_bl14 h (Or.inl z)) (fun _ => pk_lt 122 c (fun z => hy_bl14 h (Or.inr ⟨z, hc⟩)) (fun _ => ?_))
  refine br_c (fun e => hy_blf (k := 32) (v := 6) hc h e (by decide) (by decide +kernel)) (fun _ => ?_)
  refine br_c (fun e => hy_blf (k := 33) (v := 14) hc h e (by decide) (by decide +kernel)) (fun _ => ?_)
  refine br_c (fun e => hy_blf (k := 34) (v := 14) hc h e (by decide) (by decide +kernel)) (fun _ => ?_)
  refine br_c (fun e => hy_blf (k := 35) (v := 14) hc h e (by decide) (by decide +kernel)) (fun _ => ?_)
  refine br_c (fun e => hy_blf (k := 36) (v := 14) hc h e (by decide) (by decide +kernel)) (fun _ => ?_)
  refine br_c (fun e => hy_blf (k := 37) (v := 6) hc h e (by decide) (by decide +kernel)) (fun _ => ?_)
  refine br_c (fun e => hy_blf (k := 38) (v := 8) hc h e (by decide) (by decide +kernel)) (fun _ => ?_)
  refine br_c (fun e => hy_blf (k := 39) (v := 14) hc h e (by decide) (by decide +kernel)) (fun _ => ?_)
  refine br_c (fun e => hy_blf (k := 40) (v := 14) hc h e (by decide) (by decide +kernel)) (fun _ => ?_)
  refine br_c (fun e => hy_blf (k := 41) (v := 14) hc h e (by decide) (by decide +kernel)) (fun _ => ?_)
  refine br_c (fun e => hy_blf (k := 42) (v := 8) hc h e (by decide) (by decide +kernel)) (fun _ => ?_)
  refine br_c (fun e => hy_blf (k := 43) (v := 14) hc h e (by decide) (by decide +kernel)) (fun _ => ?_)
  refine br_c (fun e => hy_blf (k := 44) (v := 8) hc h e (by decide) (by decide +kernel)) (fun _ => ?_)
  refine br_c (fun e => hy_blf (k := 45) (v := 6) hc h e (by decide) (by decide +kernel)) (fun _ => ?_)
  refine br_c (fun e => hy_blf (k := 46) (v := 6) hc h e (by decide) (by decide +kernel)) (fun _ => ?_)
  refine br_c (fun e => hy_blf (k := 47) (v := 6) hc h e (by decide) (by decide +kernel)) (fun _ => ?_)
  refine br_c (fun e => hy_blf (k := 48) (v := 5) hc h e (by decide) (by decide +kernel)) (fun _ => ?_)
  refine br_c (fun e => hy_blf (k := 49) (v := 5) hc h e (by decide) (by decide +kernel)) (fun _ => ?_)
  refine br_c (fun e => hy_blf (k := 50) (v := 5) hc h e (by decide) (by decide +kernel)) (fun _ => ?_)
  refine br_c (fun e => hy_blf (k := 51) (v := 6) hc h e (by decide) (by decide +kernel)) (fun _ => ?_)
  refine br_c (fun e => hy_blf (k := 52) (v := 6) hc h e (by decide) (by decide +kernel)) (fun _ => ?_)
  refine br_c (fun e => hy_blf (k := 53) (v := 6) hc h e (by decide) (by decide +kernel)) (fun _ => ?_)
  refine br_c (fun e => hy_blf (k := 54) (v := 6) hc h e (by decide) (by decide +kernel)) (fun _ => ?_)
  refine br_c (fun e => hy_blf (k := 55) (v := 6) hc h e (by decide) (by decide +kernel)) (fun _ => ?_)
  refine br_c (fun e => hy_blf (k := 56) (v := 6) hc h e (by decide) (by decide +kernel)) (fun _ => ?_)
  refine br_c (fun e => hy_blf (k := 57) (v := 6) hc h e (by decide) (by decide +kernel)) (fun _ => ?_)
  refine br_c (fun e => hy_blf (k := 58) (v := 7) hc h e (by decide) (by decide +kernel)) (fun _ => ?_)
  refine br_c (fun e => hy_blf (k := 59) (v := 8) hc h e (by decide) (by decide +kernel)) (fun _ => ?_)
  refine br_c (fun e => hy_blf (k := 60) (v := 14) hc h e (by decide) (by decide +kernel)) (fun _ => ?_)
  refine br_c (fun e => hy_blf (k := 61) (v := 6) hc h e (by decide) (by decide +kernel)) (fun _ => ?_)
  refine br_c (fun e => hy_blf (k := 62) (v := 14) hc h e (by decide) (by decide +kernel)) (fun _ => ?_)
  refine br_c (fun e => hy_blf (k := 63) (v := 14) hc h e (by decide) (by decide +kernel)) (fun _ => ?_)
  refine br_c (fun e => hy_blf (k := 64) (v := 14) hc h e (by decide) (by decide +kernel)) (fun _ => ?_)
  refine br_c (fun e => hy_blf (k := 65) (v := 6) hc h e (by decide) (by decide +kernel)) (fun _ => ?_)
  refine br_c (fun e => absurd (hy_bx hc e (k := 66) (by decide)) (by omega)) (fun _ => ?_)
  refine br_c (fun e => absurd (hy_bx hc e (k := 67) (by decide)) (by omega)) (fun _ => ?_)
  refine br_c (fun e => absurd (hy_bx hc e (k := 68) (by decide)) (by omega)) (fun _ => ?_)
  refine br_c (fun e => absurd (hy_bx hc e (k := 69) (by decide)) (by omega)) (fun _ => ?_)
  refine br_c (fun e => absurd (hy_bx hc e (k := 70) (by decide)) (by omega)) (fun _ => ?_)
  refine br_c (fun e => absurd (hy_bx hc e (k := 71) (by decide)) (by omega)) (fun _ => ?_)
  refine br_c (fun e => absurd (hy_bx hc e (k := 72) (by decide)) (by omega)) (fun _ => ?_)
  refine br_c (fun e => absurd (hy_bx hc e (k := 73) (by decide)) (by omega)) (fun _ => ?_)
  refine br_c (fun e => absurd (hy_bx hc e (k := 74) (by decide)) (by omega)) (fun _ => ?_)
  refine br_c (fun e => absurd (hy_bx hc e (k := 75) (by decide)) (by omega)) (fun _ => ?_)
  refine br_c (fun e => absurd (hy_bx hc e (k := 76) (by decide)) (by omega)) (fun _ => ?_)
  refine br_c (fun e => absurd (hy_bx hc e (k := 77) (by decide)) (by omega)) (fun _ => ?_)
  refine br_c (fun e => absurd (hy_bx hc e (k := 78) (by decide)) (by omega)) (fun _ => ?_)
  refine br_c (fun e => absurd (hy_bx hc e (k := 79) (by decide)) (by omega)) (fun _ => ?_)
  refine br_c (fun e => absurd (hy_bx hc e (k := 80) (by decide)) (by omega)) (fun _ => ?_)
  refine br_c (fun e => absurd (hy_bx hc e (k := 81) (by decide)) (by omega)) (fun _ => ?_)
  refine br_c (fun e => absurd (hy_bx hc e (k := 82) (by decide)) (by omega)) (fun _ => ?_)
  refine br_c (fun e => absurd (hy_bx hc e (k := 83) (by decide)) (by omega)) (fun _ => ?_)
  refine br_c (fun e => absurd (hy_bx hc e (k := 84) (by decide)) (by omega)) (fun _ => ?_)
  refine br_c (fun e => absurd (hy_bx hc e (k := 85) (by decide)) (by omega)) (fun _ => ?_)
  refine br_c (fun e => absurd (hy_bx hc e (k := 86) (by decide)) (by omega)) (fun _ => ?_)
  refine br_c (fun e => absurd (hy_bx hc e (k := 87) (by decide)) (by omega)) (fun _ => ?_)
  refine br_c (fun e => hy_blf (k := 88) (v := 8) hc h e (by decide) (by decide +kernel)) (fun _ => ?_)
  refine br_c (fun e => hy_blf (k := 89) (v := 7) hc h e (by decide) (by decide +kernel)) (fun _ => ?_)
  refine br_c (fun e => hy_blf (k := 90) (v := 8) hc h e (by decide) (by decide +kernel)) (fun _ => ?_)
  refine br_c (fun e => hy_blf (k := 91) (v := 14) hc h e (by decide) (by decide +kernel)) (fun _ => ?_)
  refine br_c (fun e => hy_blf (k := 92) (v := 14) hc h e (by decide) (by decide +kernel)) (fun _ => ?_)
  refine br_c (fun e => hy_blf (k := 93) (v := 14) hc h e (by decide) (by decide +kernel)) (fun _ => ?_)
  refine br_c (fun e => hy_blf (k := 94) (v := 14) hc h e (by decide) (by decide +kernel)) (fun _ => ?_)
  refine br_c (fun e => hy_blf (k := 95) (v := 6) hc h e (by decide) (by decide +kernel)) (fun _ => ?_)
  refine br_c (fun e => hy_blf (k := 96) (v := 14) hc h e (by decide) (by decide +kernel)) (fun _ => ?_)
  refine br_c (fun e => hy_blf (k := 97) (v := 5) hc h e (by decide) (by decide +kernel)) (fun _ => ?_)
  refine br_c (fun e => hy_blf (k := 98) (v := 6) hc h e (by decide) (by decide +kernel)) (fun _ => ?_)
  refine br_c (fun e => hy_blf (k := 99) (v := 5) hc h e (by decide) (by decide +kernel)) (fun _ => ?_)
  refine br_c (fun e => hy_blf (k := 100) (v := 6) hc h e (by decide) (by decide +kernel)) (fun _ => ?_)
  refine br_c (fun e => hy_blf (k := 101) (v := 5) hc h e (by decide) (by decide +kernel)) (fun _ => ?_)
  refine br_c (fun e => hy_blf (k := 102) (v := 6) hc h e (by decide) (by decide +kernel)) (fun _ => ?_)
  refine br_c (fun e => hy_blf (k := 103) (v := 6) hc h e (by decide) (by decide +kernel)) (fun _ => ?_)
  refine br_c (fun e => hy_blf (k := 104) (v := 6) hc h e (by decide) (by decide +kernel)) (fun _ => ?_)
  refine br_c (fun e => hy_blf (k := 105) (v := 5) hc h e (by decide) (by decide +kernel)) (fun _ => ?_)
  refine br_c (fun e => hy_blf (k := 106) (v := 7) hc h e (by decide) (by decide +kernel)) (fun _ => ?_)
  refine br_c (fun e => hy_blf (k := 107) (v := 7) hc h e (by decide) (by decide +kernel)) (fun _ => ?_)
  refine br_c (fun e => hy_blf (k := 108) (v := 6) hc h e (by decide) (by decide +kernel)) (fun _ => ?_)
  refine br_c (fun e => hy_blf (k := 109) (v := 6) hc h e (by decide) (by decide +kernel)) (fun _ => ?_)
  refine br_c (fun e => hy_blf (k := 110) (v := 6) hc h e (by decide) (by decide +kernel)) (fun _ => ?_)
  refine br_c (fun e => hy_blf (k := 111) (v := 5) hc h e (by decide) (by decide +kernel)) (fun _ => ?_)
  refine br_c (fun e => hy_blf (k := 112) (v := 6) hc h e (by decide) (by decide +kernel)) (fun _ => ?_)
  refine br_c (fun e => hy_blf (k := 113) (v := 7) hc h e (by decide) (by decide +kernel)) (fun _ => ?_)
  refine br_c (fun e => hy_blf (k := 114) (v := 6) hc h e (by decide) (by decide +kernel)) (fun _ => ?_)
  refine br_c (fun e => hy_blf (k := 115) (v := 5) hc h e (by decide) (by decide +kernel)) (fun _ => ?_)
  refine br_c (fun e => hy_blf (k := 116) (v := 5) hc h e (by decide) (by decide +kernel)) (fun _ => ?_)
  refine br_c (fun e => hy_blf (k := 117) (v := 6) hc h e (by decide) (by decide +kernel)) (fun _ => ?_)
  refine br_c (fun e => hy_blf (k := 118) (v := 7) hc h e (by decide) (by decide +kernel)) (fun _ => ?_)
  refine br_c (fun e => hy_blf (k := 119) (v := 7) hc h e (by decide) (by decide +kernel)) (fun _ => ?_)
  refine br_c (fun e => hy_blf (k := 120) (v := 7) hc h e (by decide) (by decide +kernel)) (fun _ => ?_)
  refine br_c (fun e => hy_blf (k := 121) (v := 7) hc h e (by decide) (by decide +kernel)) (fun _ => ?_)
  refine br_c (fun e => hy_blf (k := 122) (v := 7) hc h e (by decide) (by decide +kernel)) (fun _ => ?_)
  exact True.intro
end
section
variable {zfl zmf zwl zpo zfa zfi zin : Int32} {zce znu zca zse zwi zle zwo : Nat → Int32} {mk : Nat → Nat}
theorem hy_bits {post : Int32 → Prop} {c : Nat} {x : Int32} (hc : c < 128) (ex : x = nI c) (h : post (nI (hc_cb c))) : wpY_bits post (zfl, zmf, zwl, zpo, zfa, zfi, zin, zce, znu, zca, zse, zwi, zle, zwo) x := by
  subst ex
  have e7 : ∀ c, c < 128 → 66 ≤ c → c ≤ 87 → hc_cb c = 7 := by decide +kernel
  refine pk_lt c 66 (fun z => hy_b15 hc (Or.inl z) h) (fun z => pk_lt 87 c (fun y => hy_b15 hc (Or.inr y) h) (fun y => ?_))
  rw [e7 c hc z y] at h
  exact h
theorem hy_one {post : SY → Prop} {T : Nat → List Nat} {q c : Nat} {L r : List Nat} {x : Int32} (hm : hy_M zce T mk) (hZ : hy_Z T q L) (hc : hy_ck q L (c :: r) = true) (hc2 : c < 2 ^ 31) (ex : x = nI c) (H : ∀ C T q L, hy_M C T mk → hy_Z T q L → hy_ck q L r = true → post (zfl, zmf, zwl, zpo, zfa, nI q, zin, C, znu, zca, zse, zwi, zle, zwo)) (hq : q < 2 ^ 20) : wpY_one post (zfl, zmf, zwl, zpo, zfa, nI q, zin, zce, znu, zca, zse, zwi, zle, zwo) x := by
  subst ex
  have n2 : ¬ (2 : Int32) = 0 := by decide
  have e2 : nI q / 2 = nI (q / 2) := pk_div (d := 2) (by omega) (by decide) (by decide)
  have er : nI q - nI q / 2 * 2 = nI (q % 2) := pk_rem (d := 2) (by omega) (by decide) (by decide)
  unfold hy_ck at hc
  refine And.intro n2 ?_
  refine hy_at (w := 7) (i := q / 2) (by omega) (by omega) rfl e2 ?_
  rw [show hy_ro 7 (q / 2) = 224 + q / 2 from if_neg (by omega)]
  have ea : nI (35 * (224 + q / 2)) + (nI q - nI q / 2 * 2) * 17 = nI (35 * (224 + q / 2) + 17 * (q % 2)) := by
    rw [er]
    exact hc_nx (hc_add rfl (hc_mul (b := 17) rfl rfl)) (by omega)
  refine And.intro n2 (nm_r ea ?_)
  refine pk_eq c 124 (fun z => nm_r (nI_1 q) ?_) (fun z => ?_)
  · rw [if_pos z, Bool.and_eq_true, Bool.and_eq_true, decide_eq_true_eq, decide_eq_true_eq] at hc
    refine H _ T (q + 1) [] hm ⟨fun y h1 h2 => ?_, hZ.2.2 _ (by omega), fun y h => hZ.2.2 y (by omega)⟩ hc.2
    by_cases e : y = 448 + q
    · rw [e, hZ.2.1]
      exact hc.1.1
    · exact hZ.1 y h1 (by omega)
  · rw [if_neg z] at hc
    refine pk_eq c 0 (fun y => ?_) (fun y => ?_)
    · rw [if_pos y] at hc
      exact H _ T q L hm hZ hc
    · rw [if_neg y, Bool.and_eq_true, Bool.and_eq_true, Bool.and_eq_true, decide_eq_true_eq, decide_eq_true_eq, decide_eq_true_eq] at hc
      obtain ⟨⟨h16, h128, h30⟩, hr⟩ := hc
      have et : 2 * (224 + q / 2) + q % 2 = 448 + q := by omega
      have eT : T (2 * (224 + q / 2) + q % 2) = L := by
        rw [et]
        exact hZ.2.1
      refine hy_append (T := T) (mk := mk) (r := 224 + q / 2) (p := q % 2) hm (by omega) (by omega) rfl (fun n => absurd rfl (n c h128)) (fun d hd e l => ?_) (fun d hd e l C hm' => ?_)
      · rw [eT] at l
        omega
      · rw [nI_eq (by omega) (by omega)] at e
        subst e
        rw [eT, et] at hm'
        refine H C _ q (L ++ [c]) hm' ⟨fun y h1 h2 => (hc_un (by omega)).trans (hZ.1 y h1 h2), hc_us, fun y h => (hc_un (by omega)).trans (hZ.2.2 y h)⟩ hr
theorem hy_ckq : ∀ (r : List Nat) (q : Nat) (L : List Nat), hy_ck q L r = true → q ≤ 30
  | [], q, L, h => by
    unfold hy_ck at h
    have := of_decide_eq_true h
    omega
  | c :: r, q, L, h => by
    unfold hy_ck at h
    by_cases z : c = 124
    · rw [if_pos z, Bool.and_eq_true] at h
      have := hy_ckq r _ _ h.2
      omega
    · rw [if_neg z] at h
      by_cases y : c = 0
      · rw [if_pos y] at h
        exact hy_ckq r _ _ h
      · rw [if_neg y, Bool.and_eq_true] at h
        exact hy_ckq r _ _ h.2
theorem hy_put {post : SY → Prop} {T : Nat → List Nat} {q a b c d e f g : Nat} {L r : List Nat} {x0 x1 x2 x3 x4 x5 x6 : Int32} (hm : hy_M zce T mk) (hZ : hy_Z T q L) (hc : hy_ck q L (a :: b :: c :: d :: e :: f :: g :: r) = true) (ea : x0 = nI (a % 128)) (eb : x1 = nI (b % 128)) (ec : x2 = nI (c % 128)) (ed : x3 = nI (d % 128)) (ee : x4 = nI (e % 128)) (ef : x5 = nI (f % 128)) (eg : x6 = nI (g % 128)) (H : ∀ C T q L, hy_M C T mk → hy_Z T q L → hy_ck q L r = true → post (zfl, zmf, zwl, zpo, zfa, nI q, zin, C, znu, zca, zse, zwi, zle, zwo)) (hs : ∀ z, z ∈ [a, b, c, d, e, f, g] → z < 128 := by decide) : wpY_put post (zfl, zmf, zwl, zpo, zfa, nI q, zin, zce, znu, zca, zse, zwi, zle, zwo) x0 x1 x2 x3 x4 x5 x6 := by
  have ka : a < 128 := hs a (by simp)
  have kb : b < 128 := hs b (by simp)
  have kc : c < 128 := hs c (by simp)
  have kd : d < 128 := hs d (by simp)
  have ke : e < 128 := hs e (by simp)
  have kf : f < 128 := hs f (by simp)
  have kg : g < 128 := hs g (by simp)
  rw [Nat.mod_eq_of_lt ka] at ea
  rw [Nat.mod_eq_of_lt kb] at eb
  rw [Nat.mod_eq_of_lt kc] at ec
  rw [Nat.mod_eq_of_lt kd] at ed
  rw [Nat.mod_eq_of_lt ke] at ee
  rw [Nat.mod_eq_of_lt kf] at ef
  rw [Nat.mod_eq_of_lt kg] at eg
  have hq := hy_ckq _ _ _ hc
  unfold wpY_put
  refine hy_one hm hZ hc (by omega) ea (fun C T q L hm hZ hc => ?_) (by omega)
  have hq := hy_ckq _ _ _ hc
  refine hy_one hm hZ hc (by omega) eb (fun C T q L hm hZ hc => ?_) (by omega)
  have hq := hy_ckq _ _ _ hc
  refine hy_one hm hZ hc (by omega) ec (fun C T q L hm hZ hc => ?_) (by omega)
  have hq := hy_ckq _ _ _ hc
  refine hy_one hm hZ hc (by omega) ed (fun C T q L hm hZ hc => ?_) (by omega)
  have hq := hy_ckq _ _ _ hc
  refine hy_one hm hZ hc (by omega) ee (fun C T q L hm hZ hc => ?_) (by omega)
  have hq := hy_ckq _ _ _ hc
  refine hy_one hm hZ hc (by omega) ef (fun C T q L hm hZ hc => ?_) (by omega)
  have hq := hy_ckq _ _ _ hc
  exact hy_one hm hZ hc (by omega) eg (fun C T q L hm hZ hc => H C T q L hm hZ hc) (by omega)
theorem hy_666 {post : SY → Prop} {J : Int32 → (Nat → Int32) → (Nat → Int32) → (Nat → Int32) → (Nat → Int32) → (Nat → Int32) → (Nat → Int32) → (Nat → Int32) → Prop} {c : Nat} {wo0 : Nat → Int32} (hc : c < 128) (hl : ∀ d, d ≤ c → zle d = nI (hc_cb d)) (HJ : ∀ wo, (∀ d, d ≠ c → wo d = wo0 d) → wo c = nI (hc_cw c) → J (nI (c + 1)) zce znu zca zse zwi zle wo) : ∀ n d wo, d + n = c → (∀ j, j ≠ c → wo j = wo0 j) → wo c = nI (hc_cf (hc_cb c) + hc_rk (hc_cb c) d) → ∀ f, n < f → wY_init_666 post J (nI c) zfl zmf zwl zpo zfa zfi zin f (nI d) zce znu zca zse zwi zle wo := by
  have ic : vp_in (nI c) 128 := vp_in_nI hc (by decide)
  have c14 := hc_cb14 hc
  intro n
  induction n with
  | zero =>
    intro d wo hd h1 h2 f hf
    obtain ⟨f, rfl⟩ : ∃ g, f = g + 1 := ⟨f - 1, by omega⟩
    have e : d = c := by omega
    subst e
    exact pk_le d d (fun _ => nm_r (nI_1 d) (HJ wo h1 (by rw [h2, hc_cwr d hc]))) (fun z => absurd z (by omega))
  | succ n ih =>
    intro d wo hd h1 h2 f hf
    obtain ⟨f, rfl⟩ : ∃ g, f = g + 1 := ⟨f - 1, by omega⟩
    have d14 := hc_cb14 (c := d) (by omega)
    refine pk_le c d (fun z => absurd z (by omega)) (fun _ => And.intro (vp_in_nI (by omega) (by decide)) (And.intro ic ?_))
    refine pk_eq (hc_cb d) (hc_cb c) (fun e => And.intro ic (And.intro ic (nm_r (hc_up rfl (by omega) (hc_add (hc_at rfl (by omega) h2) rfl)) (nm_r (nI_1 d) ?_)))) (fun e => nm_r (nI_1 d) ?_) (hc_at rfl (by omega) (hl d (by omega))) (hc_at rfl (by omega) (hl c (Nat.le_refl _)))
    · refine ih (d + 1) _ (by omega) (fun j hj => (pk_un hj).trans (h1 j hj)) ?_ f (by omega)
      rw [pk_us]
      show _ = nI (hc_cf (hc_cb c) + (hc_rk (hc_cb c) d + if hc_cb d = hc_cb c then 1 else 0))
      rw [if_pos e]
      rfl
    · refine ih (d + 1) wo (by omega) h1 ?_ f (by omega)
      rw [h2]
      show _ = nI (hc_cf (hc_cb c) + (hc_rk (hc_cb c) d + if hc_cb d = hc_cb c then 1 else 0))
      rw [if_neg e]
      rfl
theorem hy_573 {post : SY → Prop} (H : ∀ le wo, hx_C wo le → wpY_reset post (zfl, zmf, zwl, zpo, zfa, zfi, zin, zce, znu, zca, zse, zwi, le, wo)) : ∀ n c le wo, c + n = 128 → (∀ d, d < c → wo d = nI (hc_cw d) ∧ le d = nI (hc_cb d)) → ∀ f, n < f → wY_init_573 post zfl zmf zwl zpo zfa zfi zin f (nI c) zce znu zca zse zwi le wo := by
  intro n
  induction n with
  | zero =>
    intro c le wo hc h f hf
    obtain ⟨f, rfl⟩ : ∃ g, f = g + 1 := ⟨f - 1, by omega⟩
    exact pk_le 128 c (fun _ => H le wo (fun d hd => h d (by omega))) (fun z => absurd z (by omega))
  | succ n ih =>
    intro c le wo hc h f hf
    obtain ⟨f, rfl⟩ : ∃ g, f = g + 1 := ⟨f - 1, by omega⟩
    have ic : vp_in (nI c) 128 := vp_in_nI (by omega) (by decide)
    have c14 := hc_cb14 (c := c) (by omega)
    refine pk_le 128 c (fun z => absurd z (by omega)) (fun _ => ?_)
    refine hy_bits (c := c) (by omega) rfl ?_
    refine And.intro ic (nm_r (hc_up rfl (by omega) rfl) (And.intro ic ?_))
    have el : upd le c (nI (hc_cb c)) (nI c).toNatClampNeg = nI (hc_cb c) := hc_at rfl (by omega) pk_us
    have g : ∀ (b : Nat), b = hc_cf (hc_cb c) → vp_in (nI c) 128 ∧ ∀ y, y = upd wo (nI c).toNatClampNeg (nI b) → ∃ n666 : Nat, wY_init_666 post (wY_init_573 post zfl zmf zwl zpo zfa zfi zin f) (nI c) zfl zmf zwl zpo zfa zfi zin n666 0 zce znu zca zse zwi (upd le c (nI (hc_cb c))) y := by
      intro b hb
      refine And.intro ic (nm_r (hc_up rfl (by omega) rfl) ⟨c + 1, ?_⟩)
      refine hy_666 (c := c) (wo0 := wo) (by omega) (fun d hd => ?_) (fun wo2 h1 h2 => ?_) c 0 _ (by omega) (fun j hj => pk_un hj) (by rw [pk_us, hb]; rfl) _ (by omega)
      · by_cases e : d = c
        · subst e
          exact pk_us
        · exact (pk_un e).trans (h d (by omega)).2
      · refine ih (c + 1) _ wo2 (by omega) (fun d hd => ?_) f (by omega)
        by_cases e : d = c
        · subst e
          exact ⟨h2, pk_us⟩
        · exact ⟨(h1 d e).trans (h d (by omega)).1, (pk_un e).trans (h d (by omega)).2⟩
    refine pk_eq (hc_cb c) 5 (fun e => g 0 (by rw [e]; rfl)) (fun e5 => And.intro ic (pk_eq (hc_cb c) 6 (fun e => g 20 (by rw [e]; rfl)) (fun e6 => And.intro ic (pk_eq (hc_cb c) 7 (fun e => g 92 (by rw [e]; rfl)) (fun e7 => And.intro ic (pk_eq (hc_cb c) 8 (fun e => g 248 (by rw [e]; rfl)) (fun e8 => g 16256 ?_) el)) el)) el)) el
    unfold hc_cf
    rw [if_neg e5, if_neg e6, if_neg e7, if_neg e8]
theorem hy_SZ {T : Nat → List Nat} {L : List Nat} (h : hy_Z T 30 L) : hy_S T := by
  intro i hi
  have h1 := h.1 (2 * (225 + i)) (by omega) (by omega)
  have h2 := h.1 (2 * (225 + i) + 1) (by omega) (by omega)
  unfold hy_tg at h1 h2
  rw [if_pos (by omega), show (2 * (225 + i) - 450) / 2 = i from by omega] at h1
  rw [if_neg (by omega), show (2 * (225 + i) + 1 - 450) / 2 = i from by omega] at h2
  unfold hc_fl
  rw [h1, h2]
theorem hy_111 {post : SY → Prop} {z : Int32} (hm : hy_M zce (fun _ => []) mk) (H : ∀ le wo C T fi, hy_M C T mk → hy_S T → hx_C wo le → wpY_reset post (zfl, z, zwl, zpo, zfa, fi, zin, C, znu, zca, zse, zwi, le, wo)) : wY_init_111 post z zfl zmf zwl zpo zfa zfi zin zce znu zca zse zwi zle zwo := by
  have hZ : hy_Z (fun _ => []) 2 [] := ⟨fun x h1 h2 => absurd h1 (by omega), rfl, fun _ _ => rfl⟩
  have hc := hy_ckA
  unfold wY_init_111
  refine hy_put hm hZ hc rfl rfl rfl rfl rfl rfl rfl (fun C T q L hm hZ hc => ?_)
  refine hy_put hm hZ hc rfl rfl rfl rfl rfl rfl rfl (fun C T q L hm hZ hc => ?_)
  refine hy_put hm hZ hc rfl rfl rfl rfl rfl rfl rfl (fun C T q L hm hZ hc => ?_)
  refine hy_put hm hZ hc rfl rfl rfl rfl rfl rfl rfl (fun C T q L hm hZ hc => ?_)
  refine hy_put hm hZ hc rfl rfl rfl rfl rfl rfl rfl (fun C T q L hm hZ hc => ?_)
  refine hy_put hm hZ hc rfl rfl rfl rfl rfl rfl rfl (fun C T q L hm hZ hc => ?_)
  refine hy_put hm hZ hc rfl rfl rfl rfl rfl rfl rfl (fun C T q L hm hZ hc => ?_)
  refine hy_put hm hZ hc rfl rfl rfl rfl rfl rfl rfl (fun C T q L hm hZ hc => ?_)
  refine hy_put hm hZ hc rfl rfl rfl rfl rfl rfl rfl (fun C T q L hm hZ hc => ?_)
  refine hy_put hm hZ hc rfl rfl rfl rfl rfl rfl rfl (fun C T q L hm hZ hc => ?_)
  refine hy_put hm hZ hc rfl rfl rfl rfl rfl rfl rfl (fun C T q L hm hZ hc => ?_)
  refine hy_put hm hZ hc rfl rfl rfl rfl rfl rfl rfl (fun C T q L hm hZ hc => ?_)
  refine hy_put hm hZ hc rfl rfl rfl rfl rfl rfl rfl (fun C T q L hm hZ hc => ?_)
  refine hy_put hm hZ hc rfl rfl rfl rfl rfl rfl rfl (fun C T q L hm hZ hc => ?_)
  refine hy_put hm hZ hc rfl rfl rfl rfl rfl rfl rfl (fun C T q L hm hZ hc => ?_)
  refine hy_put hm hZ hc rfl rfl rfl rfl rfl rfl rfl (fun C T q L hm hZ hc => ?_)
  refine hy_put hm hZ hc rfl rfl rfl rfl rfl rfl rfl (fun C T q L hm hZ hc => ?_)
  refine hy_put hm hZ hc rfl rfl rfl rfl rfl rfl rfl (fun C T q L hm hZ hc => ?_)
  refine hy_put hm hZ hc rfl rfl rfl rfl rfl rfl rfl (fun C T q L hm hZ hc => ?_)
  refine hy_put hm hZ hc rfl rfl rfl rfl rfl rfl rfl (fun C T q L hm hZ hc => ?_)
  refine hy_put hm hZ hc rfl rfl rfl rfl rfl rfl rfl (fun C T q L hm hZ hc => ?_)
  refine hy_put hm hZ hc rfl rfl rfl rfl rfl rfl rfl (fun C T q L hm hZ hc => ?_)
  refine hy_put hm hZ hc rfl rfl rfl rfl rfl rfl rfl (fun C T q L hm hZ hc => ?_)
  refine hy_put hm hZ hc rfl rfl rfl rfl rfl rfl rfl (fun C T q L hm hZ hc => ?_)
  refine hy_put hm hZ hc rfl rfl rfl rfl rfl rfl rfl (fun C T q L hm hZ hc => ?_)
  refine hy_put hm hZ hc rfl rfl rfl rfl rfl rfl rfl (fun C T q L hm hZ hc => ?_)
  refine hy_put hm hZ hc rfl rfl rfl rfl rfl rfl rfl (fun C T q L hm hZ hc => ?_)
  have hq : q = 30 := of_decide_eq_true hc
  subst hq
  refine ⟨129, ?_⟩
  exact hy_573 (fun le wo h => H le wo C T _ hm (hy_SZ hZ) h) 128 0 _ _ (by omega) (fun d hd => absurd hd (by omega)) 129 (by omega)
theorem hy_86 {post : SY → Prop} {x z : Int32} {m : Nat} (hR : ∀ Q : Int32 → Prop, Q (nI m) → (((1 : Int32) ≤ x → ((x ≤ 6 → Q x) ∧ (¬ x ≤ 6 → Q 6))) ∧ (¬ (1 : Int32) ≤ x → Q 1))) (h : wY_init_111 post (nI m) z zmf zwl zpo zfa zfi zin zce znu zca zse zwi zle zwo) : wY_init_86 post x z zfl zmf zwl zpo zfa zfi zin zce znu zca zse zwi zle zwo := hR (fun q => wY_init_111 post q z zmf zwl zpo zfa zfi zin zce znu zca zse zwi zle zwo) h
theorem hy_i0 {post : SY → Prop} {x y : Int32} {n : Nat} (hQ : ∀ Q : Int32 → Prop, Q (nI n) → (((0 : Int32) ≤ x → ((x ≤ 128 → Q x) ∧ (¬ x ≤ 128 → Q 128))) ∧ (¬ (0 : Int32) ≤ x → Q 0))) (h : wY_init_86 post y (nI n) 0 0 0 0 0 0 0 (fun _ => 0) (fun _ => 0) (fun _ => 0) (fun _ => 0) (fun _ => 0) (fun _ => 0) (fun _ => 0)) : wpY_init post x y := hQ (fun q => wY_init_86 post y q 0 0 0 0 0 0 0 (fun _ => 0) (fun _ => 0) (fun _ => 0) (fun _ => 0) (fun _ => 0) (fun _ => 0) (fun _ => 0)) h
end
section
variable {qs1 qs2 qs3 qs4 qs5 qs6 qs7 qs8 qlc qgc qdc qwc qin qfl qmf qli qlo qta qlt qcu qrv qrs : Int32} {qoc qln qcn qhd qsz qcp qcw qcb qsy qk1 qk2 qk3 qk4 qlm qgf qdf qwi : Nat → Int32}
theorem hx_clamp {post : Int32 → Prop} {x0 x1 x2 : Int32} {n : Nat} (hQ : ∀ Q : Int32 → Prop, Q (nI n) → ((x1 ≤ x0 → ((x0 ≤ x2 → Q x0) ∧ (¬ x0 ≤ x2 → Q x2))) ∧ (¬ x1 ≤ x0 → Q x1))) (h : post (nI n)) : wpX_clamp post (qs1, qs2, qs3, qs4, qs5, qs6, qs7, qs8, qlc, qgc, qdc, qwc, qin, qfl, qmf, qli, qlo, qta, qlt, qcu, qrv, qrs, qoc, qln, qcn, qhd, qsz, qcp, qcw, qcb, qsy, qk1, qk2, qk3, qk4, qlm, qgf, qdf, qwi) x0 x1 x2 := hQ post h
end
theorem i_vc0 (k0 : Int32) (k1 : Int32) : wpX_init (fun u => wpY_init (fun v => i_Rel 2 u v) k0 k1) k0 k1 := by
  obtain ⟨fl, hf0, hf1, hQ⟩ := hc_clamp k0 0 128 (by decide) (by decide)
  obtain ⟨mf, hm0, hm1, hR⟩ := hc_clamp k1 1 6 (by decide) (by decide)
  have mX : hx_M (fun _ => 0) (fun _ => 0) (fun _ => []) := fun t => ⟨rfl, Nat.zero_le _, fun x hx => absurd hx (by simp), fun j hj => absurd hj (Nat.not_lt_zero j)⟩
  have mY : hy_M (fun _ => 0) (fun _ => []) (fun _ => 0) := ⟨fun r p hp => ⟨rfl, Nat.zero_le _, fun x hx => absurd hx (by simp), fun j hj => absurd hj (Nat.not_lt_zero j)⟩, fun r => rfl⟩
  unfold wpX_init
  refine hx_clamp hQ ?_
  refine hx_clamp hR ?_
  refine hx_static mX (fun o l hm => ?_)
  refine hx_buildCode (fun c hc => rfl) (fun cw cb sy k1' k2' k3' k4' hC hK => ?_)
  refine hx_reset (T := hx_TS) hm (fun cn hd sz cp l h1 h2 => ?_)
  refine hy_i0 hQ ?_
  refine hy_86 hR ?_
  refine hy_111 (mk := fun _ => 0) mY (fun le wo C T fi y1 y2 y3 => ?_)
  refine hy_reset (T := T) (mk := fun _ => 0) y1 (fun nu ca se C h3 h4 h5 => ?_)
  exact hr_fresh hf1 ⟨hm0, hm1⟩ h2 hC hK hx_TSS h1 h5 y3 y2 h3 h4
end
