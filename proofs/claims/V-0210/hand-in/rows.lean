section
/-! pure rows to paste: stores, nI and lN arithmetic, masks, shifts, narrowing, branches by naturals (pk_le, pk_lt, pk_eq), loops (lp1 .. lp16: the measure of the state; rp1 ..: recursion), negatives. Take what you need -/
theorem pk_us {f : Nat → Int32} {k : Nat} {x : Int32} : upd f k x k = x := if_pos rfl
theorem pk_un {f : Nat → Int32} {k j : Nat} {x : Int32} (h : j ≠ k) : upd f k x j = f j := if_neg h
theorem pk_uLs {f : Nat → Int64} {k : Nat} {x : Int64} : vp_updL f k x k = x := if_pos rfl
theorem pk_uLn {f : Nat → Int64} {k j : Nat} {x : Int64} (h : j ≠ k) : vp_updL f k x j = f j := if_neg h
theorem pk_sub {a b : Nat} (h : b ≤ a) : nI a - nI b = nI (a - b) := by
  obtain ⟨c, rfl⟩ : ∃ c, a = c + b := ⟨a - b, by omega⟩
  rw [← nI_add, Int32.add_sub_cancel, Nat.add_sub_cancel]
theorem pk_m1 (n : Nat) : nI (n + 1) + (-1) = nI n := by
  rw [← nI_1, Int32.add_assoc, show (1 : Int32) + (-1) = 0 from rfl, Int32.add_zero]
theorem pk_mul (a b : Nat) : nI a * nI b = nI (a * b) := (Int32.ofNat_mul a b).symm
theorem pk_div {a d : Nat} (ha : a < 2 ^ 31) (h0 : 0 < d) (hd : d < 2 ^ 31) : nI a / nI d = nI (a / d) := by
  apply Int32.toInt_inj.mp
  rw [lg_idiv_nonneg (by rw [nI_toInt ha]; omega) (by rw [nI_toInt hd]; omega), nI_toInt ha, nI_toInt hd, nI_toInt (Nat.lt_of_le_of_lt (Nat.div_le_self a d) ha)]
  first | rfl | exact (Int.natCast_ediv _ _).symm
theorem pk_rem {a d : Nat} (ha : a < 2 ^ 31) (h0 : 0 < d) (hd : d < 2 ^ 31) : nI a - nI a / nI d * nI d = nI (a % d) := by
  rw [pk_div ha h0 hd, pk_mul, pk_sub (Nat.div_mul_le_self a d)]
  exact congrArg nI (by have := Nat.div_add_mod' a d; omega)
theorem pk_sub_toInt {a b : Nat} (ha : a < 2 ^ 30) (hb : b < 2 ^ 30) : (nI a - nI b).toInt = (a : Int) - b := by
  rw [Int32.toInt_sub, nI_toInt (by omega), nI_toInt (by omega)]
  exact Int.bmod_eq_of_le (by omega) (by omega)
theorem pk_sneg {a b : Nat} (hb : b < 2 ^ 30) (h : a < b) : nI a - nI b < 0 := by
  rw [Int32.lt_iff_toInt_lt, pk_sub_toInt (by omega) hb, show (0 : Int32).toInt = 0 from by decide]
  omega
theorem pk_ix (x : Int32) {n : Nat} (hn : n < 2 ^ 31) : x < 0 ∨ nI n ≤ x ∨ ∃ j : Nat, j < n ∧ x = nI j := by
  by_cases h : x < 0
  · exact Or.inl h
  · obtain ⟨j, hj, rfl⟩ := nI_of h
    by_cases h2 : j < n
    · exact Or.inr (Or.inr ⟨j, h2, rfl⟩)
    · exact Or.inr (Or.inl (nI_le (by omega) hj))
theorem pk_le {x y : Int32} {A B : Prop} (a b : Nat) (f : a ≤ b → A) (g : b < a → B) (hx : x = nI a := by rfl) (hy : y = nI b := by rfl) (ha : a < 2 ^ 31 := by omega) (hb : b < 2 ^ 31 := by omega) : (x ≤ y → A) ∧ (¬ x ≤ y → B) := by
  subst hx hy
  rw [nI_leI ha hb]
  exact ⟨f, fun z => g (by omega)⟩
theorem pk_lt {x y : Int32} {A B : Prop} (a b : Nat) (f : a < b → A) (g : b ≤ a → B) (hx : x = nI a := by rfl) (hy : y = nI b := by rfl) (ha : a < 2 ^ 31 := by omega) (hb : b < 2 ^ 31 := by omega) : (x < y → A) ∧ (¬ x < y → B) := by
  subst hx hy
  rw [nI_ltI ha hb]
  exact ⟨f, fun z => g (by omega)⟩
theorem pk_eq {x y : Int32} {A B : Prop} (a b : Nat) (f : a = b → A) (g : a ≠ b → B) (hx : x = nI a := by rfl) (hy : y = nI b := by rfl) (ha : a < 2 ^ 31 := by omega) (hb : b < 2 ^ 31 := by omega) : (x = y → A) ∧ (¬ x = y → B) := by
  subst hx hy
  rw [nI_eq ha hb]
  exact ⟨f, g⟩
theorem pk_in {x : Int32} (n N : Nat) (h : n < N) (hx : x = nI n := by rfl) (hN : N < 2 ^ 31 := by omega) : vp_in x N := by
  subst hx
  exact vp_in_nI h hN
theorem pk_cl {x : Int32} (n : Nat) (hx : x = nI n := by rfl) (h : n < 2 ^ 31 := by omega) : x.toNatClampNeg = n := by
  subst hx
  exact nI_clamp h
theorem pk_tn {n : Nat} (h : n < 2 ^ 32) : (nI n).toBitVec.toNat = n := Nat.mod_eq_of_lt h
theorem pk_and (x : Int32) {m : Int32} (k : Nat) (hm : m.toBitVec.toNat = 2 ^ k - 1) : x &&& m = nI (x.toBitVec.toNat % 2 ^ k) := by
  apply Int32.toBitVec_inj.mp
  apply BitVec.eq_of_toNat_eq
  rw [Int32.toBitVec_and, BitVec.toNat_and, hm, Nat.and_two_pow_sub_one_eq_mod]
  show _ = (BitVec.ofNat 32 _).toNat
  rw [BitVec.toNat_ofNat]
  exact (Nat.mod_eq_of_lt (Nat.lt_of_le_of_lt (Nat.mod_le _ _) x.toBitVec.isLt)).symm
theorem pk_andN {n : Nat} (h : n < 2 ^ 32) {m : Int32} (k : Nat) (hm : m.toBitVec.toNat = 2 ^ k - 1) : nI n &&& m = nI (n % 2 ^ k) := by
  rw [pk_and _ k hm, pk_tn h]
theorem pk_andE (x : Int32) {m : Int32} (k : Nat) (hm : m.toBitVec.toNat = 2 ^ k - 1) : ∃ j : Nat, j < 2 ^ k ∧ x &&& m = nI j := ⟨_, Nat.mod_lt _ (Nat.two_pow_pos k), pk_and x k hm⟩
theorem pk_andIn (x : Int32) {m : Int32} (k : Nat) (hm : m.toBitVec.toNat = 2 ^ k - 1) (hk : k ≤ 30) : vp_in (x &&& m) (2 ^ k) := by
  obtain ⟨j, hj, e⟩ := pk_andE x k hm
  rw [e]
  exact vp_in_nI hj (Nat.lt_of_le_of_lt (Nat.pow_le_pow_right (by decide) hk) (by decide))
theorem pk_shl (a s : Int32) (k : Nat) (hs : (s.toBitVec.smod 32).toNat = k) : (a <<< s).toBitVec.toNat = a.toBitVec.toNat * 2 ^ k % 2 ^ 32 := by
  show (a.toBitVec <<< (s.toBitVec.smod 32).toNat).toNat = _
  rw [hs, BitVec.toNat_shiftLeft, Nat.shiftLeft_eq]
theorem pk_shlN {n : Nat} (s : Int32) (k : Nat) (hs : (s.toBitVec.smod 32).toNat = k) (h : n * 2 ^ k < 2 ^ 32) : nI n <<< s = nI (n * 2 ^ k) := by
  apply Int32.toBitVec_inj.mp
  apply BitVec.eq_of_toNat_eq
  have hn : n < 2 ^ 32 := Nat.lt_of_le_of_lt (Nat.le_mul_of_pos_right n (Nat.two_pow_pos k)) h
  rw [pk_shl _ _ k hs, pk_tn hn, pk_tn h, Nat.mod_eq_of_lt h]
theorem pk_shr (a s : Int32) (k : Nat) (hs : (s.toBitVec.smod 32).toNat = k) : (a >>> s).toInt = a.toInt >>> k := by
  show (a.toBitVec.sshiftRight (s.toBitVec.smod 32).toNat).toInt = _
  rw [hs, BitVec.toInt_sshiftRight]
  rfl
theorem pk_shrN {n : Nat} (h : n < 2 ^ 31) (s : Int32) (k : Nat) (hs : (s.toBitVec.smod 32).toNat = k) : nI n >>> s = nI (n / 2 ^ k) := by
  apply Int32.toInt_inj.mp
  have h2 : n / 2 ^ k ≤ n := Nat.div_le_self _ _
  rw [pk_shr _ _ k hs, nI_toInt h, nI_toInt (by omega), Int.shiftRight_eq_div_pow]
  rfl
theorem pk_ushr (x s : Int32) (k : Nat) (hs : ((s.toUInt32 &&& Int32.toUInt32 31).toBitVec % 32).toNat = k) : (x.toUInt32 >>> (s.toUInt32 &&& Int32.toUInt32 31)).toInt32.toBitVec.toNat = x.toBitVec.toNat / 2 ^ k := by
  have e : (x.toUInt32 >>> (s.toUInt32 &&& Int32.toUInt32 31)).toInt32.toBitVec = x.toBitVec >>> k := by
    rw [← hs]
    exact UInt32.toBitVec_shiftRight _ _
  rw [e, BitVec.toNat_ushiftRight, Nat.shiftRight_eq_div_pow]
theorem pk_ushrN {n : Nat} (hn : n < 2 ^ 32) (s : Int32) (k : Nat) (hs : ((s.toUInt32 &&& Int32.toUInt32 31).toBitVec % 32).toNat = k) : ((nI n).toUInt32 >>> (s.toUInt32 &&& Int32.toUInt32 31)).toInt32 = nI (n / 2 ^ k) := by
  apply Int32.toBitVec_inj.mp
  apply BitVec.eq_of_toNat_eq
  rw [pk_ushr _ s k hs, pk_tn hn, pk_tn (Nat.lt_of_le_of_lt (Nat.div_le_self _ _) hn)]
theorem pk_nb (z : Int32) : narrow .byte (.int z.toInt8.toInt32) = .int z.toInt8.toInt32 := congrArg Value.int (by simp)
theorem pk_ns (z : Int32) : narrow .short (.int z.toInt16.toInt32) = .int z.toInt16.toInt32 := congrArg Value.int (by simp)
theorem pk_fb (r : Int32) : fits .byte (.int r.toInt8.toInt32) = true := by
  have ⟨a, b⟩ := lg_i2b_range r
  have h1 : (-128 : Int32).toInt = -128 := by decide
  have h2 : (127 : Int32).toInt = 127 := by decide
  simp only [fits, Bool.and_eq_true, decide_eq_true_eq, Int32.le_iff_toInt_le, h1, h2]
  omega
theorem pk_fs (r : Int32) : fits .short (.int r.toInt16.toInt32) = true := by
  have ⟨a, b⟩ := lg_i2s_range r
  have h1 : (-32768 : Int32).toInt = -32768 := by decide
  have h2 : (32767 : Int32).toInt = 32767 := by decide
  simp only [fits, Bool.and_eq_true, decide_eq_true_eq, Int32.le_iff_toInt_le, h1, h2]
  omega
theorem pk_charN {q : Nat} (hq : q < 65536) : narrow .char (.int (nI q)) = .int (nI q) ∧ fits .char (.int (nI q)) = true := by
  constructor
  · have e : (nI q).toUInt32.toUInt16.toUInt32.toInt32 = nI q := by
      apply Int32.toBitVec_inj.mp
      apply BitVec.eq_of_toNat_eq
      show (nI q).toUInt32.toUInt16.toUInt32.toNat = q % 2 ^ 32
      rw [UInt16.toNat_toUInt32, UInt32.toNat_toUInt16, show (nI q).toUInt32.toNat = q % 2 ^ 32 from rfl]
      omega
    exact congrArg Value.int e
  · have a : (0 : Int32) ≤ nI q := nI_pos' (by omega)
    have b : nI q ≤ 65535 := nI_le (b := 65535) (by omega) (by decide)
    show (decide ((0 : Int32) ≤ nI q) && decide (nI q ≤ 65535)) = true
    rw [decide_eq_true a, decide_eq_true b]
    rfl
theorem pk_char (x : Int32) : (x.toUInt32 % 65536).toInt32 = nI (x.toBitVec.toNat % 65536) := by
  apply Int32.toBitVec_inj.mp
  apply BitVec.eq_of_toNat_eq
  rw [pk_tn (by omega)]
  show (x.toUInt32 % 65536).toNat = _
  rw [UInt32.toNat_mod]
  rfl
theorem pk_nc (x : Int32) : narrow .char (.int (x.toUInt32 % 65536).toInt32) = .int (x.toUInt32 % 65536).toInt32 := by
  rw [pk_char]
  exact (pk_charN (Nat.mod_lt _ (by decide))).1
theorem pk_fc (x : Int32) : fits .char (.int (x.toUInt32 % 65536).toInt32) = true := by
  rw [pk_char]
  exact (pk_charN (Nat.mod_lt _ (by decide))).2
theorem pk_vb (z : Int32) : vp_nar .byte z.toInt8.toInt32 = z.toInt8.toInt32 := by rw [vp_nar_byte]; simp
theorem pk_vs (z : Int32) : vp_nar .short z.toInt16.toInt32 = z.toInt16.toInt32 := by rw [vp_nar_short]; simp
theorem pk_vc (z : Int32) : vp_nar .char (z.toUInt32 % 65536).toInt32 = (z.toUInt32 % 65536).toInt32 := Value.int.inj (pk_nc z)
theorem pk_lT {n : Nat} (h : n < 2 ^ 63) : (lN n).toInt = (n : Int) := lg_ofNat_toInt h
theorem pk_lLT {a b : Nat} (ha : a < 2 ^ 63) (hb : b < 2 ^ 63) : lN a < lN b ↔ a < b := by
  rw [Int64.lt_iff_toInt_lt, pk_lT ha, pk_lT hb]; omega
theorem pk_lLE {a b : Nat} (ha : a < 2 ^ 63) (hb : b < 2 ^ 63) : lN a ≤ lN b ↔ a ≤ b := by
  rw [Int64.le_iff_toInt_le, pk_lT ha, pk_lT hb]; omega
theorem pk_lEQ {a b : Nat} (ha : a < 2 ^ 63) (hb : b < 2 ^ 63) : lN a = lN b ↔ a = b := by
  rw [← Int64.toInt_inj, pk_lT ha, pk_lT hb]; omega
theorem pk_lOf {x : Int64} (h : ¬ x < 0) : ∃ k : Nat, k < 2 ^ 63 ∧ x = lN k := by
  rw [Int64.lt_iff_toInt_lt] at h
  have h0 : (0 : Int64).toInt = 0 := by decide
  have hx := Int64.toInt_lt x
  refine ⟨x.toInt.toNat, by omega, Int64.toInt_inj.mp ?_⟩
  rw [pk_lT (by omega)]
  omega
theorem pk_lDiv {a b : Nat} (ha : a < 2 ^ 63) (h0 : 0 < b) (hb : b < 2 ^ 63) : lN a / lN b = lN (a / b) := by
  apply Int64.toInt_inj.mp
  rw [lg_ldiv_nonneg (by rw [pk_lT ha]; omega) (by rw [pk_lT hb]; omega), pk_lT ha, pk_lT hb, pk_lT (Nat.lt_of_le_of_lt (Nat.div_le_self a b) ha)]
  rfl
theorem pk_lRem {a b : Nat} (ha : a < 2 ^ 63) (h0 : 0 < b) (hb : b < 2 ^ 63) : lN a - lN a / lN b * lN b = lN (a % b) := by
  rw [pk_lDiv ha h0 hb, lN_mul, lN_sub (Nat.div_mul_le_self a b)]
  exact congrArg lN (by have := Nat.div_add_mod' a b; omega)
theorem pk_loop {σ : Type} (W : Nat → Nat → σ → Prop) (I : Nat → σ → Prop) (e i0 : Nat) (s : σ) (hi : i0 ≤ e) (h0 : I i0 s) (hx : ∀ n s, I e s → W (n + 1) e s)
    (hs : ∀ n i s, i < e → I i s → (∀ s', I (i + 1) s' → W n (i + 1) s') → W (n + 1) i s) : ∃ n, W n i0 s :=
  ⟨e + 1, loop_i W I e hx hs (e + 1) i0 s hi (by omega) h0⟩
theorem pk_loopD {σ : Type} (W : Nat → Nat → σ → Prop) (I : Nat → σ → Prop) (hx : ∀ n s, I 0 s → W (n + 1) 0 s)
    (hs : ∀ n i s, I (i + 1) s → (∀ s', I i s' → W n i s') → W (n + 1) (i + 1) s) : ∀ (e : Nat) (s : σ), I e s → W (e + 1) e s := by
  intro e
  induction e with
  | zero => exact fun s h => hx 0 s h
  | succ e ih => exact fun s h => hs (e + 1) e s h (fun s' h' => ih s' h')
theorem lp1 {A1 : Type} (W : Nat → A1 → Prop) (I : A1 → Prop) (μ : A1 → Nat) (hs : ∀ (n : Nat) (a1 : A1), I a1 → (∀ (b1 : A1), I b1 → μ b1 < μ a1 → W n b1) → W (n + 1) a1) (a1 : A1) (h : I a1) : ∃ n, W n a1 :=
  loop_m (σ := A1) (fun n s => W n s) (fun s => I s) (fun s => μ s) (fun n s hI hk => hs n s hI (fun b1 h9 hm => hk b1 h9 hm)) a1 h
theorem lp2 {A1 A2 : Type} (W : Nat → A1 → A2 → Prop) (I : A1 → A2 → Prop) (μ : A1 → A2 → Nat) (hs : ∀ (n : Nat) (a1 : A1) (a2 : A2), I a1 a2 → (∀ (b1 : A1) (b2 : A2), I b1 b2 → μ b1 b2 < μ a1 a2 → W n b1 b2) → W (n + 1) a1 a2) (a1 : A1) (a2 : A2) (h : I a1 a2) : ∃ n, W n a1 a2 :=
  loop_m (σ := A1 × A2) (fun n s => W n s.1 s.2) (fun s => I s.1 s.2) (fun s => μ s.1 s.2) (fun n s hI hk => hs n s.1 s.2 hI (fun b1 b2 h9 hm => hk (b1, b2) h9 hm)) (a1, a2) h
theorem lp3 {A1 A2 A3 : Type} (W : Nat → A1 → A2 → A3 → Prop) (I : A1 → A2 → A3 → Prop) (μ : A1 → A2 → A3 → Nat) (hs : ∀ (n : Nat) (a1 : A1) (a2 : A2) (a3 : A3), I a1 a2 a3 → (∀ (b1 : A1) (b2 : A2) (b3 : A3), I b1 b2 b3 → μ b1 b2 b3 < μ a1 a2 a3 → W n b1 b2 b3) → W (n + 1) a1 a2 a3) (a1 : A1) (a2 : A2) (a3 : A3) (h : I a1 a2 a3) : ∃ n, W n a1 a2 a3 :=
  loop_m (σ := A1 × A2 × A3) (fun n s => W n s.1 s.2.1 s.2.2) (fun s => I s.1 s.2.1 s.2.2) (fun s => μ s.1 s.2.1 s.2.2) (fun n s hI hk => hs n s.1 s.2.1 s.2.2 hI (fun b1 b2 b3 h9 hm => hk (b1, b2, b3) h9 hm)) (a1, a2, a3) h
theorem lp4 {A1 A2 A3 A4 : Type} (W : Nat → A1 → A2 → A3 → A4 → Prop) (I : A1 → A2 → A3 → A4 → Prop) (μ : A1 → A2 → A3 → A4 → Nat) (hs : ∀ (n : Nat) (a1 : A1) (a2 : A2) (a3 : A3) (a4 : A4), I a1 a2 a3 a4 → (∀ (b1 : A1) (b2 : A2) (b3 : A3) (b4 : A4), I b1 b2 b3 b4 → μ b1 b2 b3 b4 < μ a1 a2 a3 a4 → W n b1 b2 b3 b4) → W (n + 1) a1 a2 a3 a4) (a1 : A1) (a2 : A2) (a3 : A3) (a4 : A4) (h : I a1 a2 a3 a4) : ∃ n, W n a1 a2 a3 a4 :=
  loop_m (σ := A1 × A2 × A3 × A4) (fun n s => W n s.1 s.2.1 s.2.2.1 s.2.2.2) (fun s => I s.1 s.2.1 s.2.2.1 s.2.2.2) (fun s => μ s.1 s.2.1 s.2.2.1 s.2.2.2) (fun n s hI hk => hs n s.1 s.2.1 s.2.2.1 s.2.2.2 hI (fun b1 b2 b3 b4 h9 hm => hk (b1, b2, b3, b4) h9 hm)) (a1, a2, a3, a4) h
theorem lp5 {A1 A2 A3 A4 A5 : Type} (W : Nat → A1 → A2 → A3 → A4 → A5 → Prop) (I : A1 → A2 → A3 → A4 → A5 → Prop) (μ : A1 → A2 → A3 → A4 → A5 → Nat) (hs : ∀ (n : Nat) (a1 : A1) (a2 : A2) (a3 : A3) (a4 : A4) (a5 : A5), I a1 a2 a3 a4 a5 → (∀ (b1 : A1) (b2 : A2) (b3 : A3) (b4 : A4) (b5 : A5), I b1 b2 b3 b4 b5 → μ b1 b2 b3 b4 b5 < μ a1 a2 a3 a4 a5 → W n b1 b2 b3 b4 b5) → W (n + 1) a1 a2 a3 a4 a5) (a1 : A1) (a2 : A2) (a3 : A3) (a4 : A4) (a5 : A5) (h : I a1 a2 a3 a4 a5) : ∃ n, W n a1 a2 a3 a4 a5 :=
  loop_m (σ := A1 × A2 × A3 × A4 × A5) (fun n s => W n s.1 s.2.1 s.2.2.1 s.2.2.2.1 s.2.2.2.2) (fun s => I s.1 s.2.1 s.2.2.1 s.2.2.2.1 s.2.2.2.2) (fun s => μ s.1 s.2.1 s.2.2.1 s.2.2.2.1 s.2.2.2.2) (fun n s hI hk => hs n s.1 s.2.1 s.2.2.1 s.2.2.2.1 s.2.2.2.2 hI (fun b1 b2 b3 b4 b5 h9 hm => hk (b1, b2, b3, b4, b5) h9 hm)) (a1, a2, a3, a4, a5) h
theorem lp6 {A1 A2 A3 A4 A5 A6 : Type} (W : Nat → A1 → A2 → A3 → A4 → A5 → A6 → Prop) (I : A1 → A2 → A3 → A4 → A5 → A6 → Prop) (μ : A1 → A2 → A3 → A4 → A5 → A6 → Nat) (hs : ∀ (n : Nat) (a1 : A1) (a2 : A2) (a3 : A3) (a4 : A4) (a5 : A5) (a6 : A6), I a1 a2 a3 a4 a5 a6 → (∀ (b1 : A1) (b2 : A2) (b3 : A3) (b4 : A4) (b5 : A5) (b6 : A6), I b1 b2 b3 b4 b5 b6 → μ b1 b2 b3 b4 b5 b6 < μ a1 a2 a3 a4 a5 a6 → W n b1 b2 b3 b4 b5 b6) → W (n + 1) a1 a2 a3 a4 a5 a6) (a1 : A1) (a2 : A2) (a3 : A3) (a4 : A4) (a5 : A5) (a6 : A6) (h : I a1 a2 a3 a4 a5 a6) : ∃ n, W n a1 a2 a3 a4 a5 a6 :=
  loop_m (σ := A1 × A2 × A3 × A4 × A5 × A6) (fun n s => W n s.1 s.2.1 s.2.2.1 s.2.2.2.1 s.2.2.2.2.1 s.2.2.2.2.2) (fun s => I s.1 s.2.1 s.2.2.1 s.2.2.2.1 s.2.2.2.2.1 s.2.2.2.2.2) (fun s => μ s.1 s.2.1 s.2.2.1 s.2.2.2.1 s.2.2.2.2.1 s.2.2.2.2.2) (fun n s hI hk => hs n s.1 s.2.1 s.2.2.1 s.2.2.2.1 s.2.2.2.2.1 s.2.2.2.2.2 hI (fun b1 b2 b3 b4 b5 b6 h9 hm => hk (b1, b2, b3, b4, b5, b6) h9 hm)) (a1, a2, a3, a4, a5, a6) h
theorem lp7 {A1 A2 A3 A4 A5 A6 A7 : Type} (W : Nat → A1 → A2 → A3 → A4 → A5 → A6 → A7 → Prop) (I : A1 → A2 → A3 → A4 → A5 → A6 → A7 → Prop) (μ : A1 → A2 → A3 → A4 → A5 → A6 → A7 → Nat) (hs : ∀ (n : Nat) (a1 : A1) (a2 : A2) (a3 : A3) (a4 : A4) (a5 : A5) (a6 : A6) (a7 : A7), I a1 a2 a3 a4 a5 a6 a7 → (∀ (b1 : A1) (b2 : A2) (b3 : A3) (b4 : A4) (b5 : A5) (b6 : A6) (b7 : A7), I b1 b2 b3 b4 b5 b6 b7 → μ b1 b2 b3 b4 b5 b6 b7 < μ a1 a2 a3 a4 a5 a6 a7 → W n b1 b2 b3 b4 b5 b6 b7) → W (n + 1) a1 a2 a3 a4 a5 a6 a7) (a1 : A1) (a2 : A2) (a3 : A3) (a4 : A4) (a5 : A5) (a6 : A6) (a7 : A7) (h : I a1 a2 a3 a4 a5 a6 a7) : ∃ n, W n a1 a2 a3 a4 a5 a6 a7 :=
  loop_m (σ := A1 × A2 × A3 × A4 × A5 × A6 × A7) (fun n s => W n s.1 s.2.1 s.2.2.1 s.2.2.2.1 s.2.2.2.2.1 s.2.2.2.2.2.1 s.2.2.2.2.2.2) (fun s => I s.1 s.2.1 s.2.2.1 s.2.2.2.1 s.2.2.2.2.1 s.2.2.2.2.2.1 s.2.2.2.2.2.2) (fun s => μ s.1 s.2.1 s.2.2.1 s.2.2.2.1 s.2.2.2.2.1 s.2.2.2.2.2.1 s.2.2.2.2.2.2) (fun n s hI hk => hs n s.1 s.2.1 s.2.2.1 s.2.2.2.1 s.2.2.2.2.1 s.2.2.2.2.2.1 s.2.2.2.2.2.2 hI (fun b1 b2 b3 b4 b5 b6 b7 h9 hm => hk (b1, b2, b3, b4, b5, b6, b7) h9 hm)) (a1, a2, a3, a4, a5, a6, a7) h
theorem lp8 {A1 A2 A3 A4 A5 A6 A7 A8 : Type} (W : Nat → A1 → A2 → A3 → A4 → A5 → A6 → A7 → A8 → Prop) (I : A1 → A2 → A3 → A4 → A5 → A6 → A7 → A8 → Prop) (μ : A1 → A2 → A3 → A4 → A5 → A6 → A7 → A8 → Nat) (hs : ∀ (n : Nat) (a1 : A1) (a2 : A2) (a3 : A3) (a4 : A4) (a5 : A5) (a6 : A6) (a7 : A7) (a8 : A8), I a1 a2 a3 a4 a5 a6 a7 a8 → (∀ (b1 : A1) (b2 : A2) (b3 : A3) (b4 : A4) (b5 : A5) (b6 : A6) (b7 : A7) (b8 : A8), I b1 b2 b3 b4 b5 b6 b7 b8 → μ b1 b2 b3 b4 b5 b6 b7 b8 < μ a1 a2 a3 a4 a5 a6 a7 a8 → W n b1 b2 b3 b4 b5 b6 b7 b8) → W (n + 1) a1 a2 a3 a4 a5 a6 a7 a8) (a1 : A1) (a2 : A2) (a3 : A3) (a4 : A4) (a5 : A5) (a6 : A6) (a7 : A7) (a8 : A8) (h : I a1 a2 a3 a4 a5 a6 a7 a8) : ∃ n, W n a1 a2 a3 a4 a5 a6 a7 a8 :=
  loop_m (σ := A1 × A2 × A3 × A4 × A5 × A6 × A7 × A8) (fun n s => W n s.1 s.2.1 s.2.2.1 s.2.2.2.1 s.2.2.2.2.1 s.2.2.2.2.2.1 s.2.2.2.2.2.2.1 s.2.2.2.2.2.2.2) (fun s => I s.1 s.2.1 s.2.2.1 s.2.2.2.1 s.2.2.2.2.1 s.2.2.2.2.2.1 s.2.2.2.2.2.2.1 s.2.2.2.2.2.2.2) (fun s => μ s.1 s.2.1 s.2.2.1 s.2.2.2.1 s.2.2.2.2.1 s.2.2.2.2.2.1 s.2.2.2.2.2.2.1 s.2.2.2.2.2.2.2) (fun n s hI hk => hs n s.1 s.2.1 s.2.2.1 s.2.2.2.1 s.2.2.2.2.1 s.2.2.2.2.2.1 s.2.2.2.2.2.2.1 s.2.2.2.2.2.2.2 hI (fun b1 b2 b3 b4 b5 b6 b7 b8 h9 hm => hk (b1, b2, b3, b4, b5, b6, b7, b8) h9 hm)) (a1, a2, a3, a4, a5, a6, a7, a8) h
theorem lp9 {A1 A2 A3 A4 A5 A6 A7 A8 A9 : Type} (W : Nat → A1 → A2 → A3 → A4 → A5 → A6 → A7 → A8 → A9 → Prop) (I : A1 → A2 → A3 → A4 → A5 → A6 → A7 → A8 → A9 → Prop) (μ : A1 → A2 → A3 → A4 → A5 → A6 → A7 → A8 → A9 → Nat) (hs : ∀ (n : Nat) (a1 : A1) (a2 : A2) (a3 : A3) (a4 : A4) (a5 : A5) (a6 : A6) (a7 : A7) (a8 : A8) (a9 : A9), I a1 a2 a3 a4 a5 a6 a7 a8 a9 → (∀ (b1 : A1) (b2 : A2) (b3 : A3) (b4 : A4) (b5 : A5) (b6 : A6) (b7 : A7) (b8 : A8) (b9 : A9), I b1 b2 b3 b4 b5 b6 b7 b8 b9 → μ b1 b2 b3 b4 b5 b6 b7 b8 b9 < μ a1 a2 a3 a4 a5 a6 a7 a8 a9 → W n b1 b2 b3 b4 b5 b6 b7 b8 b9) → W (n + 1) a1 a2 a3 a4 a5 a6 a7 a8 a9) (a1 : A1) (a2 : A2) (a3 : A3) (a4 : A4) (a5 : A5) (a6 : A6) (a7 : A7) (a8 : A8) (a9 : A9) (h : I a1 a2 a3 a4 a5 a6 a7 a8 a9) : ∃ n, W n a1 a2 a3 a4 a5 a6 a7 a8 a9 :=
  loop_m (σ := A1 × A2 × A3 × A4 × A5 × A6 × A7 × A8 × A9) (fun n s => W n s.1 s.2.1 s.2.2.1 s.2.2.2.1 s.2.2.2.2.1 s.2.2.2.2.2.1 s.2.2.2.2.2.2.1 s.2.2.2.2.2.2.2.1 s.2.2.2.2.2.2.2.2) (fun s => I s.1 s.2.1 s.2.2.1 s.2.2.2.1 s.2.2.2.2.1 s.2.2.2.2.2.1 s.2.2.2.2.2.2.1 s.2.2.2.2.2.2.2.1 s.2.2.2.2.2.2.2.2) (fun s => μ s.1 s.2.1 s.2.2.1 s.2.2.2.1 s.2.2.2.2.1 s.2.2.2.2.2.1 s.2.2.2.2.2.2.1 s.2.2.2.2.2.2.2.1 s.2.2.2.2.2.2.2.2) (fun n s hI hk => hs n s.1 s.2.1 s.2.2.1 s.2.2.2.1 s.2.2.2.2.1 s.2.2.2.2.2.1 s.2.2.2.2.2.2.1 s.2.2.2.2.2.2.2.1 s.2.2.2.2.2.2.2.2 hI (fun b1 b2 b3 b4 b5 b6 b7 b8 b9 h9 hm => hk (b1, b2, b3, b4, b5, b6, b7, b8, b9) h9 hm)) (a1, a2, a3, a4, a5, a6, a7, a8, a9) h
theorem lp10 {A1 A2 A3 A4 A5 A6 A7 A8 A9 A10 : Type} (W : Nat → A1 → A2 → A3 → A4 → A5 → A6 → A7 → A8 → A9 → A10 → Prop) (I : A1 → A2 → A3 → A4 → A5 → A6 → A7 → A8 → A9 → A10 → Prop) (μ : A1 → A2 → A3 → A4 → A5 → A6 → A7 → A8 → A9 → A10 → Nat) (hs : ∀ (n : Nat) (a1 : A1) (a2 : A2) (a3 : A3) (a4 : A4) (a5 : A5) (a6 : A6) (a7 : A7) (a8 : A8) (a9 : A9) (a10 : A10), I a1 a2 a3 a4 a5 a6 a7 a8 a9 a10 → (∀ (b1 : A1) (b2 : A2) (b3 : A3) (b4 : A4) (b5 : A5) (b6 : A6) (b7 : A7) (b8 : A8) (b9 : A9) (b10 : A10), I b1 b2 b3 b4 b5 b6 b7 b8 b9 b10 → μ b1 b2 b3 b4 b5 b6 b7 b8 b9 b10 < μ a1 a2 a3 a4 a5 a6 a7 a8 a9 a10 → W n b1 b2 b3 b4 b5 b6 b7 b8 b9 b10) → W (n + 1) a1 a2 a3 a4 a5 a6 a7 a8 a9 a10) (a1 : A1) (a2 : A2) (a3 : A3) (a4 : A4) (a5 : A5) (a6 : A6) (a7 : A7) (a8 : A8) (a9 : A9) (a10 : A10) (h : I a1 a2 a3 a4 a5 a6 a7 a8 a9 a10) : ∃ n, W n a1 a2 a3 a4 a5 a6 a7 a8 a9 a10 :=
  loop_m (σ := A1 × A2 × A3 × A4 × A5 × A6 × A7 × A8 × A9 × A10) (fun n s => W n s.1 s.2.1 s.2.2.1 s.2.2.2.1 s.2.2.2.2.1 s.2.2.2.2.2.1 s.2.2.2.2.2.2.1 s.2.2.2.2.2.2.2.1 s.2.2.2.2.2.2.2.2.1 s.2.2.2.2.2.2.2.2.2) (fun s => I s.1 s.2.1 s.2.2.1 s.2.2.2.1 s.2.2.2.2.1 s.2.2.2.2.2.1 s.2.2.2.2.2.2.1 s.2.2.2.2.2.2.2.1 s.2.2.2.2.2.2.2.2.1 s.2.2.2.2.2.2.2.2.2) (fun s => μ s.1 s.2.1 s.2.2.1 s.2.2.2.1 s.2.2.2.2.1 s.2.2.2.2.2.1 s.2.2.2.2.2.2.1 s.2.2.2.2.2.2.2.1 s.2.2.2.2.2.2.2.2.1 s.2.2.2.2.2.2.2.2.2) (fun n s hI hk => hs n s.1 s.2.1 s.2.2.1 s.2.2.2.1 s.2.2.2.2.1 s.2.2.2.2.2.1 s.2.2.2.2.2.2.1 s.2.2.2.2.2.2.2.1 s.2.2.2.2.2.2.2.2.1 s.2.2.2.2.2.2.2.2.2 hI (fun b1 b2 b3 b4 b5 b6 b7 b8 b9 b10 h9 hm => hk (b1, b2, b3, b4, b5, b6, b7, b8, b9, b10) h9 hm)) (a1, a2, a3, a4, a5, a6, a7, a8, a9, a10) h
theorem lp11 {A1 A2 A3 A4 A5 A6 A7 A8 A9 A10 A11 : Type} (W : Nat → A1 → A2 → A3 → A4 → A5 → A6 → A7 → A8 → A9 → A10 → A11 → Prop) (I : A1 → A2 → A3 → A4 → A5 → A6 → A7 → A8 → A9 → A10 → A11 → Prop) (μ : A1 → A2 → A3 → A4 → A5 → A6 → A7 → A8 → A9 → A10 → A11 → Nat) (hs : ∀ (n : Nat) (a1 : A1) (a2 : A2) (a3 : A3) (a4 : A4) (a5 : A5) (a6 : A6) (a7 : A7) (a8 : A8) (a9 : A9) (a10 : A10) (a11 : A11), I a1 a2 a3 a4 a5 a6 a7 a8 a9 a10 a11 → (∀ (b1 : A1) (b2 : A2) (b3 : A3) (b4 : A4) (b5 : A5) (b6 : A6) (b7 : A7) (b8 : A8) (b9 : A9) (b10 : A10) (b11 : A11), I b1 b2 b3 b4 b5 b6 b7 b8 b9 b10 b11 → μ b1 b2 b3 b4 b5 b6 b7 b8 b9 b10 b11 < μ a1 a2 a3 a4 a5 a6 a7 a8 a9 a10 a11 → W n b1 b2 b3 b4 b5 b6 b7 b8 b9 b10 b11) → W (n + 1) a1 a2 a3 a4 a5 a6 a7 a8 a9 a10 a11) (a1 : A1) (a2 : A2) (a3 : A3) (a4 : A4) (a5 : A5) (a6 : A6) (a7 : A7) (a8 : A8) (a9 : A9) (a10 : A10) (a11 : A11) (h : I a1 a2 a3 a4 a5 a6 a7 a8 a9 a10 a11) : ∃ n, W n a1 a2 a3 a4 a5 a6 a7 a8 a9 a10 a11 :=
  loop_m (σ := A1 × A2 × A3 × A4 × A5 × A6 × A7 × A8 × A9 × A10 × A11) (fun n s => W n s.1 s.2.1 s.2.2.1 s.2.2.2.1 s.2.2.2.2.1 s.2.2.2.2.2.1 s.2.2.2.2.2.2.1 s.2.2.2.2.2.2.2.1 s.2.2.2.2.2.2.2.2.1 s.2.2.2.2.2.2.2.2.2.1 s.2.2.2.2.2.2.2.2.2.2) (fun s => I s.1 s.2.1 s.2.2.1 s.2.2.2.1 s.2.2.2.2.1 s.2.2.2.2.2.1 s.2.2.2.2.2.2.1 s.2.2.2.2.2.2.2.1 s.2.2.2.2.2.2.2.2.1 s.2.2.2.2.2.2.2.2.2.1 s.2.2.2.2.2.2.2.2.2.2) (fun s => μ s.1 s.2.1 s.2.2.1 s.2.2.2.1 s.2.2.2.2.1 s.2.2.2.2.2.1 s.2.2.2.2.2.2.1 s.2.2.2.2.2.2.2.1 s.2.2.2.2.2.2.2.2.1 s.2.2.2.2.2.2.2.2.2.1 s.2.2.2.2.2.2.2.2.2.2) (fun n s hI hk => hs n s.1 s.2.1 s.2.2.1 s.2.2.2.1 s.2.2.2.2.1 s.2.2.2.2.2.1 s.2.2.2.2.2.2.1 s.2.2.2.2.2.2.2.1 s.2.2.2.2.2.2.2.2.1 s.2.2.2.2.2.2.2.2.2.1 s.2.2.2.2.2.2.2.2.2.2 hI (fun b1 b2 b3 b4 b5 b6 b7 b8 b9 b10 b11 h9 hm => hk (b1, b2, b3, b4, b5, b6, b7, b8, b9, b10, b11) h9 hm)) (a1, a2, a3, a4, a5, a6, a7, a8, a9, a10, a11) h
theorem lp12 {A1 A2 A3 A4 A5 A6 A7 A8 A9 A10 A11 A12 : Type} (W : Nat → A1 → A2 → A3 → A4 → A5 → A6 → A7 → A8 → A9 → A10 → A11 → A12 → Prop) (I : A1 → A2 → A3 → A4 → A5 → A6 → A7 → A8 → A9 → A10 → A11 → A12 → Prop) (μ : A1 → A2 → A3 → A4 → A5 → A6 → A7 → A8 → A9 → A10 → A11 → A12 → Nat) (hs : ∀ (n : Nat) (a1 : A1) (a2 : A2) (a3 : A3) (a4 : A4) (a5 : A5) (a6 : A6) (a7 : A7) (a8 : A8) (a9 : A9) (a10 : A10) (a11 : A11) (a12 : A12), I a1 a2 a3 a4 a5 a6 a7 a8 a9 a10 a11 a12 → (∀ (b1 : A1) (b2 : A2) (b3 : A3) (b4 : A4) (b5 : A5) (b6 : A6) (b7 : A7) (b8 : A8) (b9 : A9) (b10 : A10) (b11 : A11) (b12 : A12), I b1 b2 b3 b4 b5 b6 b7 b8 b9 b10 b11 b12 → μ b1 b2 b3 b4 b5 b6 b7 b8 b9 b10 b11 b12 < μ a1 a2 a3 a4 a5 a6 a7 a8 a9 a10 a11 a12 → W n b1 b2 b3 b4 b5 b6 b7 b8 b9 b10 b11 b12) → W (n + 1) a1 a2 a3 a4 a5 a6 a7 a8 a9 a10 a11 a12) (a1 : A1) (a2 : A2) (a3 : A3) (a4 : A4) (a5 : A5) (a6 : A6) (a7 : A7) (a8 : A8) (a9 : A9) (a10 : A10) (a11 : A11) (a12 : A12) (h : I a1 a2 a3 a4 a5 a6 a7 a8 a9 a10 a11 a12) : ∃ n, W n a1 a2 a3 a4 a5 a6 a7 a8 a9 a10 a11 a12 :=
  loop_m (σ := A1 × A2 × A3 × A4 × A5 × A6 × A7 × A8 × A9 × A10 × A11 × A12) (fun n s => W n s.1 s.2.1 s.2.2.1 s.2.2.2.1 s.2.2.2.2.1 s.2.2.2.2.2.1 s.2.2.2.2.2.2.1 s.2.2.2.2.2.2.2.1 s.2.2.2.2.2.2.2.2.1 s.2.2.2.2.2.2.2.2.2.1 s.2.2.2.2.2.2.2.2.2.2.1 s.2.2.2.2.2.2.2.2.2.2.2) (fun s => I s.1 s.2.1 s.2.2.1 s.2.2.2.1 s.2.2.2.2.1 s.2.2.2.2.2.1 s.2.2.2.2.2.2.1 s.2.2.2.2.2.2.2.1 s.2.2.2.2.2.2.2.2.1 s.2.2.2.2.2.2.2.2.2.1 s.2.2.2.2.2.2.2.2.2.2.1 s.2.2.2.2.2.2.2.2.2.2.2) (fun s => μ s.1 s.2.1 s.2.2.1 s.2.2.2.1 s.2.2.2.2.1 s.2.2.2.2.2.1 s.2.2.2.2.2.2.1 s.2.2.2.2.2.2.2.1 s.2.2.2.2.2.2.2.2.1 s.2.2.2.2.2.2.2.2.2.1 s.2.2.2.2.2.2.2.2.2.2.1 s.2.2.2.2.2.2.2.2.2.2.2) (fun n s hI hk => hs n s.1 s.2.1 s.2.2.1 s.2.2.2.1 s.2.2.2.2.1 s.2.2.2.2.2.1 s.2.2.2.2.2.2.1 s.2.2.2.2.2.2.2.1 s.2.2.2.2.2.2.2.2.1 s.2.2.2.2.2.2.2.2.2.1 s.2.2.2.2.2.2.2.2.2.2.1 s.2.2.2.2.2.2.2.2.2.2.2 hI (fun b1 b2 b3 b4 b5 b6 b7 b8 b9 b10 b11 b12 h9 hm => hk (b1, b2, b3, b4, b5, b6, b7, b8, b9, b10, b11, b12) h9 hm)) (a1, a2, a3, a4, a5, a6, a7, a8, a9, a10, a11, a12) h
theorem lp13 {A1 A2 A3 A4 A5 A6 A7 A8 A9 A10 A11 A12 A13 : Type} (W : Nat → A1 → A2 → A3 → A4 → A5 → A6 → A7 → A8 → A9 → A10 → A11 → A12 → A13 → Prop) (I : A1 → A2 → A3 → A4 → A5 → A6 → A7 → A8 → A9 → A10 → A11 → A12 → A13 → Prop) (μ : A1 → A2 → A3 → A4 → A5 → A6 → A7 → A8 → A9 → A10 → A11 → A12 → A13 → Nat) (hs : ∀ (n : Nat) (a1 : A1) (a2 : A2) (a3 : A3) (a4 : A4) (a5 : A5) (a6 : A6) (a7 : A7) (a8 : A8) (a9 : A9) (a10 : A10) (a11 : A11) (a12 : A12) (a13 : A13), I a1 a2 a3 a4 a5 a6 a7 a8 a9 a10 a11 a12 a13 → (∀ (b1 : A1) (b2 : A2) (b3 : A3) (b4 : A4) (b5 : A5) (b6 : A6) (b7 : A7) (b8 : A8) (b9 : A9) (b10 : A10) (b11 : A11) (b12 : A12) (b13 : A13), I b1 b2 b3 b4 b5 b6 b7 b8 b9 b10 b11 b12 b13 → μ b1 b2 b3 b4 b5 b6 b7 b8 b9 b10 b11 b12 b13 < μ a1 a2 a3 a4 a5 a6 a7 a8 a9 a10 a11 a12 a13 → W n b1 b2 b3 b4 b5 b6 b7 b8 b9 b10 b11 b12 b13) → W (n + 1) a1 a2 a3 a4 a5 a6 a7 a8 a9 a10 a11 a12 a13) (a1 : A1) (a2 : A2) (a3 : A3) (a4 : A4) (a5 : A5) (a6 : A6) (a7 : A7) (a8 : A8) (a9 : A9) (a10 : A10) (a11 : A11) (a12 : A12) (a13 : A13) (h : I a1 a2 a3 a4 a5 a6 a7 a8 a9 a10 a11 a12 a13) : ∃ n, W n a1 a2 a3 a4 a5 a6 a7 a8 a9 a10 a11 a12 a13 :=
  loop_m (σ := A1 × A2 × A3 × A4 × A5 × A6 × A7 × A8 × A9 × A10 × A11 × A12 × A13) (fun n s => W n s.1 s.2.1 s.2.2.1 s.2.2.2.1 s.2.2.2.2.1 s.2.2.2.2.2.1 s.2.2.2.2.2.2.1 s.2.2.2.2.2.2.2.1 s.2.2.2.2.2.2.2.2.1 s.2.2.2.2.2.2.2.2.2.1 s.2.2.2.2.2.2.2.2.2.2.1 s.2.2.2.2.2.2.2.2.2.2.2.1 s.2.2.2.2.2.2.2.2.2.2.2.2) (fun s => I s.1 s.2.1 s.2.2.1 s.2.2.2.1 s.2.2.2.2.1 s.2.2.2.2.2.1 s.2.2.2.2.2.2.1 s.2.2.2.2.2.2.2.1 s.2.2.2.2.2.2.2.2.1 s.2.2.2.2.2.2.2.2.2.1 s.2.2.2.2.2.2.2.2.2.2.1 s.2.2.2.2.2.2.2.2.2.2.2.1 s.2.2.2.2.2.2.2.2.2.2.2.2) (fun s => μ s.1 s.2.1 s.2.2.1 s.2.2.2.1 s.2.2.2.2.1 s.2.2.2.2.2.1 s.2.2.2.2.2.2.1 s.2.2.2.2.2.2.2.1 s.2.2.2.2.2.2.2.2.1 s.2.2.2.2.2.2.2.2.2.1 s.2.2.2.2.2.2.2.2.2.2.1 s.2.2.2.2.2.2.2.2.2.2.2.1 s.2.2.2.2.2.2.2.2.2.2.2.2) (fun n s hI hk => hs n s.1 s.2.1 s.2.2.1 s.2.2.2.1 s.2.2.2.2.1 s.2.2.2.2.2.1 s.2.2.2.2.2.2.1 s.2.2.2.2.2.2.2.1 s.2.2.2.2.2.2.2.2.1 s.2.2.2.2.2.2.2.2.2.1 s.2.2.2.2.2.2.2.2.2.2.1 s.2.2.2.2.2.2.2.2.2.2.2.1 s.2.2.2.2.2.2.2.2.2.2.2.2 hI (fun b1 b2 b3 b4 b5 b6 b7 b8 b9 b10 b11 b12 b13 h9 hm => hk (b1, b2, b3, b4, b5, b6, b7, b8, b9, b10, b11, b12, b13) h9 hm)) (a1, a2, a3, a4, a5, a6, a7, a8, a9, a10, a11, a12, a13) h
theorem lp14 {A1 A2 A3 A4 A5 A6 A7 A8 A9 A10 A11 A12 A13 A14 : Type} (W : Nat → A1 → A2 → A3 → A4 → A5 → A6 → A7 → A8 → A9 → A10 → A11 → A12 → A13 → A14 → Prop) (I : A1 → A2 → A3 → A4 → A5 → A6 → A7 → A8 → A9 → A10 → A11 → A12 → A13 → A14 → Prop) (μ : A1 → A2 → A3 → A4 → A5 → A6 → A7 → A8 → A9 → A10 → A11 → A12 → A13 → A14 → Nat) (hs : ∀ (n : Nat) (a1 : A1) (a2 : A2) (a3 : A3) (a4 : A4) (a5 : A5) (a6 : A6) (a7 : A7) (a8 : A8) (a9 : A9) (a10 : A10) (a11 : A11) (a12 : A12) (a13 : A13) (a14 : A14), I a1 a2 a3 a4 a5 a6 a7 a8 a9 a10 a11 a12 a13 a14 → (∀ (b1 : A1) (b2 : A2) (b3 : A3) (b4 : A4) (b5 : A5) (b6 : A6) (b7 : A7) (b8 : A8) (b9 : A9) (b10 : A10) (b11 : A11) (b12 : A12) (b13 : A13) (b14 : A14), I b1 b2 b3 b4 b5 b6 b7 b8 b9 b10 b11 b12 b13 b14 → μ b1 b2 b3 b4 b5 b6 b7 b8 b9 b10 b11 b12 b13 b14 < μ a1 a2 a3 a4 a5 a6 a7 a8 a9 a10 a11 a12 a13 a14 → W n b1 b2 b3 b4 b5 b6 b7 b8 b9 b10 b11 b12 b13 b14) → W (n + 1) a1 a2 a3 a4 a5 a6 a7 a8 a9 a10 a11 a12 a13 a14) (a1 : A1) (a2 : A2) (a3 : A3) (a4 : A4) (a5 : A5) (a6 : A6) (a7 : A7) (a8 : A8) (a9 : A9) (a10 : A10) (a11 : A11) (a12 : A12) (a13 : A13) (a14 : A14) (h : I a1 a2 a3 a4 a5 a6 a7 a8 a9 a10 a11 a12 a13 a14) : ∃ n, W n a1 a2 a3 a4 a5 a6 a7 a8 a9 a10 a11 a12 a13 a14 :=
  loop_m (σ := A1 × A2 × A3 × A4 × A5 × A6 × A7 × A8 × A9 × A10 × A11 × A12 × A13 × A14) (fun n s => W n s.1 s.2.1 s.2.2.1 s.2.2.2.1 s.2.2.2.2.1 s.2.2.2.2.2.1 s.2.2.2.2.2.2.1 s.2.2.2.2.2.2.2.1 s.2.2.2.2.2.2.2.2.1 s.2.2.2.2.2.2.2.2.2.1 s.2.2.2.2.2.2.2.2.2.2.1 s.2.2.2.2.2.2.2.2.2.2.2.1 s.2.2.2.2.2.2.2.2.2.2.2.2.1 s.2.2.2.2.2.2.2.2.2.2.2.2.2) (fun s => I s.1 s.2.1 s.2.2.1 s.2.2.2.1 s.2.2.2.2.1 s.2.2.2.2.2.1 s.2.2.2.2.2.2.1 s.2.2.2.2.2.2.2.1 s.2.2.2.2.2.2.2.2.1 s.2.2.2.2.2.2.2.2.2.1 s.2.2.2.2.2.2.2.2.2.2.1 s.2.2.2.2.2.2.2.2.2.2.2.1 s.2.2.2.2.2.2.2.2.2.2.2.2.1 s.2.2.2.2.2.2.2.2.2.2.2.2.2) (fun s => μ s.1 s.2.1 s.2.2.1 s.2.2.2.1 s.2.2.2.2.1 s.2.2.2.2.2.1 s.2.2.2.2.2.2.1 s.2.2.2.2.2.2.2.1 s.2.2.2.2.2.2.2.2.1 s.2.2.2.2.2.2.2.2.2.1 s.2.2.2.2.2.2.2.2.2.2.1 s.2.2.2.2.2.2.2.2.2.2.2.1 s.2.2.2.2.2.2.2.2.2.2.2.2.1 s.2.2.2.2.2.2.2.2.2.2.2.2.2) (fun n s hI hk => hs n s.1 s.2.1 s.2.2.1 s.2.2.2.1 s.2.2.2.2.1 s.2.2.2.2.2.1 s.2.2.2.2.2.2.1 s.2.2.2.2.2.2.2.1 s.2.2.2.2.2.2.2.2.1 s.2.2.2.2.2.2.2.2.2.1 s.2.2.2.2.2.2.2.2.2.2.1 s.2.2.2.2.2.2.2.2.2.2.2.1 s.2.2.2.2.2.2.2.2.2.2.2.2.1 s.2.2.2.2.2.2.2.2.2.2.2.2.2 hI (fun b1 b2 b3 b4 b5 b6 b7 b8 b9 b10 b11 b12 b13 b14 h9 hm => hk (b1, b2, b3, b4, b5, b6, b7, b8, b9, b10, b11, b12, b13, b14) h9 hm)) (a1, a2, a3, a4, a5, a6, a7, a8, a9, a10, a11, a12, a13, a14) h
theorem lp15 {A1 A2 A3 A4 A5 A6 A7 A8 A9 A10 A11 A12 A13 A14 A15 : Type} (W : Nat → A1 → A2 → A3 → A4 → A5 → A6 → A7 → A8 → A9 → A10 → A11 → A12 → A13 → A14 → A15 → Prop) (I : A1 → A2 → A3 → A4 → A5 → A6 → A7 → A8 → A9 → A10 → A11 → A12 → A13 → A14 → A15 → Prop) (μ : A1 → A2 → A3 → A4 → A5 → A6 → A7 → A8 → A9 → A10 → A11 → A12 → A13 → A14 → A15 → Nat) (hs : ∀ (n : Nat) (a1 : A1) (a2 : A2) (a3 : A3) (a4 : A4) (a5 : A5) (a6 : A6) (a7 : A7) (a8 : A8) (a9 : A9) (a10 : A10) (a11 : A11) (a12 : A12) (a13 : A13) (a14 : A14) (a15 : A15), I a1 a2 a3 a4 a5 a6 a7 a8 a9 a10 a11 a12 a13 a14 a15 → (∀ (b1 : A1) (b2 : A2) (b3 : A3) (b4 : A4) (b5 : A5) (b6 : A6) (b7 : A7) (b8 : A8) (b9 : A9) (b10 : A10) (b11 : A11) (b12 : A12) (b13 : A13) (b14 : A14) (b15 : A15), I b1 b2 b3 b4 b5 b6 b7 b8 b9 b10 b11 b12 b13 b14 b15 → μ b1 b2 b3 b4 b5 b6 b7 b8 b9 b10 b11 b12 b13 b14 b15 < μ a1 a2 a3 a4 a5 a6 a7 a8 a9 a10 a11 a12 a13 a14 a15 → W n b1 b2 b3 b4 b5 b6 b7 b8 b9 b10 b11 b12 b13 b14 b15) → W (n + 1) a1 a2 a3 a4 a5 a6 a7 a8 a9 a10 a11 a12 a13 a14 a15) (a1 : A1) (a2 : A2) (a3 : A3) (a4 : A4) (a5 : A5) (a6 : A6) (a7 : A7) (a8 : A8) (a9 : A9) (a10 : A10) (a11 : A11) (a12 : A12) (a13 : A13) (a14 : A14) (a15 : A15) (h : I a1 a2 a3 a4 a5 a6 a7 a8 a9 a10 a11 a12 a13 a14 a15) : ∃ n, W n a1 a2 a3 a4 a5 a6 a7 a8 a9 a10 a11 a12 a13 a14 a15 :=
  loop_m (σ := A1 × A2 × A3 × A4 × A5 × A6 × A7 × A8 × A9 × A10 × A11 × A12 × A13 × A14 × A15) (fun n s => W n s.1 s.2.1 s.2.2.1 s.2.2.2.1 s.2.2.2.2.1 s.2.2.2.2.2.1 s.2.2.2.2.2.2.1 s.2.2.2.2.2.2.2.1 s.2.2.2.2.2.2.2.2.1 s.2.2.2.2.2.2.2.2.2.1 s.2.2.2.2.2.2.2.2.2.2.1 s.2.2.2.2.2.2.2.2.2.2.2.1 s.2.2.2.2.2.2.2.2.2.2.2.2.1 s.2.2.2.2.2.2.2.2.2.2.2.2.2.1 s.2.2.2.2.2.2.2.2.2.2.2.2.2.2) (fun s => I s.1 s.2.1 s.2.2.1 s.2.2.2.1 s.2.2.2.2.1 s.2.2.2.2.2.1 s.2.2.2.2.2.2.1 s.2.2.2.2.2.2.2.1 s.2.2.2.2.2.2.2.2.1 s.2.2.2.2.2.2.2.2.2.1 s.2.2.2.2.2.2.2.2.2.2.1 s.2.2.2.2.2.2.2.2.2.2.2.1 s.2.2.2.2.2.2.2.2.2.2.2.2.1 s.2.2.2.2.2.2.2.2.2.2.2.2.2.1 s.2.2.2.2.2.2.2.2.2.2.2.2.2.2) (fun s => μ s.1 s.2.1 s.2.2.1 s.2.2.2.1 s.2.2.2.2.1 s.2.2.2.2.2.1 s.2.2.2.2.2.2.1 s.2.2.2.2.2.2.2.1 s.2.2.2.2.2.2.2.2.1 s.2.2.2.2.2.2.2.2.2.1 s.2.2.2.2.2.2.2.2.2.2.1 s.2.2.2.2.2.2.2.2.2.2.2.1 s.2.2.2.2.2.2.2.2.2.2.2.2.1 s.2.2.2.2.2.2.2.2.2.2.2.2.2.1 s.2.2.2.2.2.2.2.2.2.2.2.2.2.2) (fun n s hI hk => hs n s.1 s.2.1 s.2.2.1 s.2.2.2.1 s.2.2.2.2.1 s.2.2.2.2.2.1 s.2.2.2.2.2.2.1 s.2.2.2.2.2.2.2.1 s.2.2.2.2.2.2.2.2.1 s.2.2.2.2.2.2.2.2.2.1 s.2.2.2.2.2.2.2.2.2.2.1 s.2.2.2.2.2.2.2.2.2.2.2.1 s.2.2.2.2.2.2.2.2.2.2.2.2.1 s.2.2.2.2.2.2.2.2.2.2.2.2.2.1 s.2.2.2.2.2.2.2.2.2.2.2.2.2.2 hI (fun b1 b2 b3 b4 b5 b6 b7 b8 b9 b10 b11 b12 b13 b14 b15 h9 hm => hk (b1, b2, b3, b4, b5, b6, b7, b8, b9, b10, b11, b12, b13, b14, b15) h9 hm)) (a1, a2, a3, a4, a5, a6, a7, a8, a9, a10, a11, a12, a13, a14, a15) h
theorem lp16 {A1 A2 A3 A4 A5 A6 A7 A8 A9 A10 A11 A12 A13 A14 A15 A16 : Type} (W : Nat → A1 → A2 → A3 → A4 → A5 → A6 → A7 → A8 → A9 → A10 → A11 → A12 → A13 → A14 → A15 → A16 → Prop) (I : A1 → A2 → A3 → A4 → A5 → A6 → A7 → A8 → A9 → A10 → A11 → A12 → A13 → A14 → A15 → A16 → Prop) (μ : A1 → A2 → A3 → A4 → A5 → A6 → A7 → A8 → A9 → A10 → A11 → A12 → A13 → A14 → A15 → A16 → Nat) (hs : ∀ (n : Nat) (a1 : A1) (a2 : A2) (a3 : A3) (a4 : A4) (a5 : A5) (a6 : A6) (a7 : A7) (a8 : A8) (a9 : A9) (a10 : A10) (a11 : A11) (a12 : A12) (a13 : A13) (a14 : A14) (a15 : A15) (a16 : A16), I a1 a2 a3 a4 a5 a6 a7 a8 a9 a10 a11 a12 a13 a14 a15 a16 → (∀ (b1 : A1) (b2 : A2) (b3 : A3) (b4 : A4) (b5 : A5) (b6 : A6) (b7 : A7) (b8 : A8) (b9 : A9) (b10 : A10) (b11 : A11) (b12 : A12) (b13 : A13) (b14 : A14) (b15 : A15) (b16 : A16), I b1 b2 b3 b4 b5 b6 b7 b8 b9 b10 b11 b12 b13 b14 b15 b16 → μ b1 b2 b3 b4 b5 b6 b7 b8 b9 b10 b11 b12 b13 b14 b15 b16 < μ a1 a2 a3 a4 a5 a6 a7 a8 a9 a10 a11 a12 a13 a14 a15 a16 → W n b1 b2 b3 b4 b5 b6 b7 b8 b9 b10 b11 b12 b13 b14 b15 b16) → W (n + 1) a1 a2 a3 a4 a5 a6 a7 a8 a9 a10 a11 a12 a13 a14 a15 a16) (a1 : A1) (a2 : A2) (a3 : A3) (a4 : A4) (a5 : A5) (a6 : A6) (a7 : A7) (a8 : A8) (a9 : A9) (a10 : A10) (a11 : A11) (a12 : A12) (a13 : A13) (a14 : A14) (a15 : A15) (a16 : A16) (h : I a1 a2 a3 a4 a5 a6 a7 a8 a9 a10 a11 a12 a13 a14 a15 a16) : ∃ n, W n a1 a2 a3 a4 a5 a6 a7 a8 a9 a10 a11 a12 a13 a14 a15 a16 :=
  loop_m (σ := A1 × A2 × A3 × A4 × A5 × A6 × A7 × A8 × A9 × A10 × A11 × A12 × A13 × A14 × A15 × A16) (fun n s => W n s.1 s.2.1 s.2.2.1 s.2.2.2.1 s.2.2.2.2.1 s.2.2.2.2.2.1 s.2.2.2.2.2.2.1 s.2.2.2.2.2.2.2.1 s.2.2.2.2.2.2.2.2.1 s.2.2.2.2.2.2.2.2.2.1 s.2.2.2.2.2.2.2.2.2.2.1 s.2.2.2.2.2.2.2.2.2.2.2.1 s.2.2.2.2.2.2.2.2.2.2.2.2.1 s.2.2.2.2.2.2.2.2.2.2.2.2.2.1 s.2.2.2.2.2.2.2.2.2.2.2.2.2.2.1 s.2.2.2.2.2.2.2.2.2.2.2.2.2.2.2) (fun s => I s.1 s.2.1 s.2.2.1 s.2.2.2.1 s.2.2.2.2.1 s.2.2.2.2.2.1 s.2.2.2.2.2.2.1 s.2.2.2.2.2.2.2.1 s.2.2.2.2.2.2.2.2.1 s.2.2.2.2.2.2.2.2.2.1 s.2.2.2.2.2.2.2.2.2.2.1 s.2.2.2.2.2.2.2.2.2.2.2.1 s.2.2.2.2.2.2.2.2.2.2.2.2.1 s.2.2.2.2.2.2.2.2.2.2.2.2.2.1 s.2.2.2.2.2.2.2.2.2.2.2.2.2.2.1 s.2.2.2.2.2.2.2.2.2.2.2.2.2.2.2) (fun s => μ s.1 s.2.1 s.2.2.1 s.2.2.2.1 s.2.2.2.2.1 s.2.2.2.2.2.1 s.2.2.2.2.2.2.1 s.2.2.2.2.2.2.2.1 s.2.2.2.2.2.2.2.2.1 s.2.2.2.2.2.2.2.2.2.1 s.2.2.2.2.2.2.2.2.2.2.1 s.2.2.2.2.2.2.2.2.2.2.2.1 s.2.2.2.2.2.2.2.2.2.2.2.2.1 s.2.2.2.2.2.2.2.2.2.2.2.2.2.1 s.2.2.2.2.2.2.2.2.2.2.2.2.2.2.1 s.2.2.2.2.2.2.2.2.2.2.2.2.2.2.2) (fun n s hI hk => hs n s.1 s.2.1 s.2.2.1 s.2.2.2.1 s.2.2.2.2.1 s.2.2.2.2.2.1 s.2.2.2.2.2.2.1 s.2.2.2.2.2.2.2.1 s.2.2.2.2.2.2.2.2.1 s.2.2.2.2.2.2.2.2.2.1 s.2.2.2.2.2.2.2.2.2.2.1 s.2.2.2.2.2.2.2.2.2.2.2.1 s.2.2.2.2.2.2.2.2.2.2.2.2.1 s.2.2.2.2.2.2.2.2.2.2.2.2.2.1 s.2.2.2.2.2.2.2.2.2.2.2.2.2.2.1 s.2.2.2.2.2.2.2.2.2.2.2.2.2.2.2 hI (fun b1 b2 b3 b4 b5 b6 b7 b8 b9 b10 b11 b12 b13 b14 b15 b16 h9 hm => hk (b1, b2, b3, b4, b5, b6, b7, b8, b9, b10, b11, b12, b13, b14, b15, b16) h9 hm)) (a1, a2, a3, a4, a5, a6, a7, a8, a9, a10, a11, a12, a13, a14, a15, a16) h
theorem pk_least (P : Nat → Prop) (h : ∃ k, P k) : ∃ k, P k ∧ ∀ j, j < k → ¬ P j := by
  obtain ⟨k, hk⟩ := h
  induction k using Nat.strongRecOn with
  | ind k ih =>
    by_cases e : ∃ j, j < k ∧ P j
    · obtain ⟨j, hj, pj⟩ := e
      exact ih j hj pj
    · exact ⟨k, hk, fun j hj pj => e ⟨j, hj, pj⟩⟩
theorem rp1 {ρ A1 : Type} (W : Nat → (ρ → Prop) → A1 → Prop) (ok : A1 → Prop) (μ : A1 → Nat) (val : A1 → ρ)
    (hs : ∀ (d : Nat) (post : ρ → Prop) (a1 : A1), ok a1 → post (val a1) → (∀ (post' : ρ → Prop) (b1 : A1), ok b1 → μ b1 < μ a1 → post' (val b1) → W d post' b1) → W (d + 1) post a1) :
    ∀ (d : Nat) (post : ρ → Prop) (a1 : A1), ok a1 → μ a1 < d → post (val a1) → W d post a1 := by
  intro d
  induction d with
  | zero => intro post a1 _ h; omega
  | succ d ih =>
    intro post a1 ho hm hp
    exact hs d post a1 ho hp (fun post' b1 ho' hm' hp' => ih post' b1 ho' (by omega) hp')
theorem rp2 {ρ A1 A2 : Type} (W : Nat → (ρ → Prop) → A1 → A2 → Prop) (ok : A1 → A2 → Prop) (μ : A1 → A2 → Nat) (val : A1 → A2 → ρ)
    (hs : ∀ (d : Nat) (post : ρ → Prop) (a1 : A1) (a2 : A2), ok a1 a2 → post (val a1 a2) → (∀ (post' : ρ → Prop) (b1 : A1) (b2 : A2), ok b1 b2 → μ b1 b2 < μ a1 a2 → post' (val b1 b2) → W d post' b1 b2) → W (d + 1) post a1 a2) :
    ∀ (d : Nat) (post : ρ → Prop) (a1 : A1) (a2 : A2), ok a1 a2 → μ a1 a2 < d → post (val a1 a2) → W d post a1 a2 := by
  intro d
  induction d with
  | zero => intro post a1 a2 _ h; omega
  | succ d ih =>
    intro post a1 a2 ho hm hp
    exact hs d post a1 a2 ho hp (fun post' b1 b2 ho' hm' hp' => ih post' b1 b2 ho' (by omega) hp')
theorem rp3 {ρ A1 A2 A3 : Type} (W : Nat → (ρ → Prop) → A1 → A2 → A3 → Prop) (ok : A1 → A2 → A3 → Prop) (μ : A1 → A2 → A3 → Nat) (val : A1 → A2 → A3 → ρ)
    (hs : ∀ (d : Nat) (post : ρ → Prop) (a1 : A1) (a2 : A2) (a3 : A3), ok a1 a2 a3 → post (val a1 a2 a3) → (∀ (post' : ρ → Prop) (b1 : A1) (b2 : A2) (b3 : A3), ok b1 b2 b3 → μ b1 b2 b3 < μ a1 a2 a3 → post' (val b1 b2 b3) → W d post' b1 b2 b3) → W (d + 1) post a1 a2 a3) :
    ∀ (d : Nat) (post : ρ → Prop) (a1 : A1) (a2 : A2) (a3 : A3), ok a1 a2 a3 → μ a1 a2 a3 < d → post (val a1 a2 a3) → W d post a1 a2 a3 := by
  intro d
  induction d with
  | zero => intro post a1 a2 a3 _ h; omega
  | succ d ih =>
    intro post a1 a2 a3 ho hm hp
    exact hs d post a1 a2 a3 ho hp (fun post' b1 b2 b3 ho' hm' hp' => ih post' b1 b2 b3 ho' (by omega) hp')
theorem rp4 {ρ A1 A2 A3 A4 : Type} (W : Nat → (ρ → Prop) → A1 → A2 → A3 → A4 → Prop) (ok : A1 → A2 → A3 → A4 → Prop) (μ : A1 → A2 → A3 → A4 → Nat) (val : A1 → A2 → A3 → A4 → ρ)
    (hs : ∀ (d : Nat) (post : ρ → Prop) (a1 : A1) (a2 : A2) (a3 : A3) (a4 : A4), ok a1 a2 a3 a4 → post (val a1 a2 a3 a4) → (∀ (post' : ρ → Prop) (b1 : A1) (b2 : A2) (b3 : A3) (b4 : A4), ok b1 b2 b3 b4 → μ b1 b2 b3 b4 < μ a1 a2 a3 a4 → post' (val b1 b2 b3 b4) → W d post' b1 b2 b3 b4) → W (d + 1) post a1 a2 a3 a4) :
    ∀ (d : Nat) (post : ρ → Prop) (a1 : A1) (a2 : A2) (a3 : A3) (a4 : A4), ok a1 a2 a3 a4 → μ a1 a2 a3 a4 < d → post (val a1 a2 a3 a4) → W d post a1 a2 a3 a4 := by
  intro d
  induction d with
  | zero => intro post a1 a2 a3 a4 _ h; omega
  | succ d ih =>
    intro post a1 a2 a3 a4 ho hm hp
    exact hs d post a1 a2 a3 a4 ho hp (fun post' b1 b2 b3 b4 ho' hm' hp' => ih post' b1 b2 b3 b4 ho' (by omega) hp')
theorem rp5 {ρ A1 A2 A3 A4 A5 : Type} (W : Nat → (ρ → Prop) → A1 → A2 → A3 → A4 → A5 → Prop) (ok : A1 → A2 → A3 → A4 → A5 → Prop) (μ : A1 → A2 → A3 → A4 → A5 → Nat) (val : A1 → A2 → A3 → A4 → A5 → ρ)
    (hs : ∀ (d : Nat) (post : ρ → Prop) (a1 : A1) (a2 : A2) (a3 : A3) (a4 : A4) (a5 : A5), ok a1 a2 a3 a4 a5 → post (val a1 a2 a3 a4 a5) → (∀ (post' : ρ → Prop) (b1 : A1) (b2 : A2) (b3 : A3) (b4 : A4) (b5 : A5), ok b1 b2 b3 b4 b5 → μ b1 b2 b3 b4 b5 < μ a1 a2 a3 a4 a5 → post' (val b1 b2 b3 b4 b5) → W d post' b1 b2 b3 b4 b5) → W (d + 1) post a1 a2 a3 a4 a5) :
    ∀ (d : Nat) (post : ρ → Prop) (a1 : A1) (a2 : A2) (a3 : A3) (a4 : A4) (a5 : A5), ok a1 a2 a3 a4 a5 → μ a1 a2 a3 a4 a5 < d → post (val a1 a2 a3 a4 a5) → W d post a1 a2 a3 a4 a5 := by
  intro d
  induction d with
  | zero => intro post a1 a2 a3 a4 a5 _ h; omega
  | succ d ih =>
    intro post a1 a2 a3 a4 a5 ho hm hp
    exact hs d post a1 a2 a3 a4 a5 ho hp (fun post' b1 b2 b3 b4 b5 ho' hm' hp' => ih post' b1 b2 b3 b4 b5 ho' (by omega) hp')
theorem rp6 {ρ A1 A2 A3 A4 A5 A6 : Type} (W : Nat → (ρ → Prop) → A1 → A2 → A3 → A4 → A5 → A6 → Prop) (ok : A1 → A2 → A3 → A4 → A5 → A6 → Prop) (μ : A1 → A2 → A3 → A4 → A5 → A6 → Nat) (val : A1 → A2 → A3 → A4 → A5 → A6 → ρ)
    (hs : ∀ (d : Nat) (post : ρ → Prop) (a1 : A1) (a2 : A2) (a3 : A3) (a4 : A4) (a5 : A5) (a6 : A6), ok a1 a2 a3 a4 a5 a6 → post (val a1 a2 a3 a4 a5 a6) → (∀ (post' : ρ → Prop) (b1 : A1) (b2 : A2) (b3 : A3) (b4 : A4) (b5 : A5) (b6 : A6), ok b1 b2 b3 b4 b5 b6 → μ b1 b2 b3 b4 b5 b6 < μ a1 a2 a3 a4 a5 a6 → post' (val b1 b2 b3 b4 b5 b6) → W d post' b1 b2 b3 b4 b5 b6) → W (d + 1) post a1 a2 a3 a4 a5 a6) :
    ∀ (d : Nat) (post : ρ → Prop) (a1 : A1) (a2 : A2) (a3 : A3) (a4 : A4) (a5 : A5) (a6 : A6), ok a1 a2 a3 a4 a5 a6 → μ a1 a2 a3 a4 a5 a6 < d → post (val a1 a2 a3 a4 a5 a6) → W d post a1 a2 a3 a4 a5 a6 := by
  intro d
  induction d with
  | zero => intro post a1 a2 a3 a4 a5 a6 _ h; omega
  | succ d ih =>
    intro post a1 a2 a3 a4 a5 a6 ho hm hp
    exact hs d post a1 a2 a3 a4 a5 a6 ho hp (fun post' b1 b2 b3 b4 b5 b6 ho' hm' hp' => ih post' b1 b2 b3 b4 b5 b6 ho' (by omega) hp')
theorem rec_p {σ ρ : Type} (W : Nat → (ρ → Prop) → σ → Prop) (ok : σ → Prop) (μ : σ → Nat) (val : σ → ρ)
    (hs : ∀ d s post, ok s → post (val s) → (∀ s' post', ok s' → μ s' < μ s → post' (val s') → W d post' s') → W (d + 1) post s) :
    ∀ d s post, ok s → μ s < d → post (val s) → W d post s := by
  intro d
  induction d with
  | zero => intro s post _ h; omega
  | succ d ih =>
    intro s post ho hm hp
    exact hs d s post ho hp (fun s' post' ho' hm' hp' => ih s' post' ho' (by omega) hp')
theorem rec_q {σ ρ : Type} (W : Nat → (ρ → Prop) → σ → Prop) (ok : σ → Prop) (μ : σ → Nat) (Q : σ → ρ → Prop)
    (hs : ∀ d s post, ok s → (∀ r, Q s r → post r) → (∀ s' post', ok s' → μ s' < μ s → (∀ r, Q s' r → post' r) → W d post' s') → W (d + 1) post s) :
    ∀ d s post, ok s → μ s < d → (∀ r, Q s r → post r) → W d post s := by
  intro d
  induction d with
  | zero => intro s post _ h; omega
  | succ d ih =>
    intro s post ho hm hp
    exact hs d s post ho hp (fun s' post' ho' hm' hp' => ih s' post' ho' (by omega) hp')
def bx_sum (f : Nat → Int32) : Nat → Int32
  | 0 => 0
  | n + 1 => bx_sum f n + f n
theorem ek_u {A : Prop} {B : Nat → Prop} {k N : Nat} (hk : k < N) (h : B k) : (some k = none → A) ∧ (∀ y : Nat, some k = some y → (y < N ∧ B y)) :=
  ⟨fun z => absurd z (Option.some_ne_none k), fun _ e => (by cases e; exact ⟨hk, h⟩)⟩
theorem ek_nu {A : Prop} {B : Nat → Prop} (h : A) : ((none : Option Nat) = none → A) ∧ (∀ y : Nat, (none : Option Nat) = some y → B y) :=
  ⟨fun _ => h, fun _ e => (by cases e)⟩
theorem ek_if {c d A B : Prop} (e : c ↔ d) (f : d → A) (g : ¬ d → B) : (c → A) ∧ (¬ c → B) :=
  ⟨fun z => f (e.mp z), fun z => g (fun y => z (e.mpr y))⟩
theorem ek_v {α : Sort _} {P : α → Prop} {a b : α} (e : a = b) (h : P b) : P a := e ▸ h
theorem co_some {x : Option Nat} {A : Prop} {B : Nat → Prop} (i : Nat) (h : B i) (hx : x = some i := by rfl) : (x = none → A) ∧ (∀ y : Nat, x = some y → B y) := by
  subst hx
  exact ⟨fun e => (nomatch e), fun y e => Option.some.inj e ▸ h⟩
theorem co_none {x : Option Nat} {A : Prop} {B : Nat → Prop} (h : A) (hx : x = none := by rfl) : (x = none → A) ∧ (∀ y : Nat, x = some y → B y) := by
  subst hx
  exact ⟨fun _ => h, fun y e => (nomatch e)⟩
theorem co_any {x : Option Nat} {A : Prop} {B : Nat → Prop} (hn : x = none → A) (hs : ∀ i : Nat, x = some i → B i) : (x = none → A) ∧ (∀ y : Nat, x = some y → B y) := ⟨hn, hs⟩
theorem co_2 {P : Nat → Prop} (h0 : P 0) (h1 : P 1) {i : Nat} (hi : i < 2) : P i :=
  match i, hi with
  | 0, _ => h0
  | 1, _ => h1
theorem co_3 {P : Nat → Prop} (h0 : P 0) (h1 : P 1) (h2 : P 2) {i : Nat} (hi : i < 3) : P i :=
  match i, hi with
  | 0, _ => h0
  | 1, _ => h1
  | 2, _ => h2
theorem co_4 {P : Nat → Prop} (h0 : P 0) (h1 : P 1) (h2 : P 2) (h3 : P 3) {i : Nat} (hi : i < 4) : P i :=
  match i, hi with
  | 0, _ => h0
  | 1, _ => h1
  | 2, _ => h2
  | 3, _ => h3
theorem co_dec {N : Nat} {P : Nat → Prop} [DecidablePred P] (h : (List.range N).all (fun i => decide (P i)) = true) {i : Nat} (hi : i < N) : P i := by
  have := List.all_eq_true.mp h i (List.mem_range.mpr hi)
  exact of_decide_eq_true this
theorem co_tab {α : Type} {l : List α} {d : α} {P : α → Prop} (h : ∀ a, a ∈ l → P a) {i : Nat} (hi : i < l.length) : P (l.getD i d) := by
  rw [List.getD_eq_getElem?_getD, List.getElem?_eq_getElem hi]
  exact h _ (List.getElem_mem hi)
theorem pk_mu {x : Int32} {L : Nat} (h0 : ¬ x < 0) (h : ¬ nI L ≤ x) (hL : L < 2 ^ 31) : ∃ j : Nat, j < L ∧ x = nI j ∧ x + 1 = nI (j + 1) ∧ x.toNatClampNeg = j ∧ L - (x + 1).toNatClampNeg < L - x.toNatClampNeg := by
  obtain ⟨j, hj, rfl⟩ := nI_of h0
  have hl : j < L := Nat.not_le.mp fun q => h (nI_le q hj)
  refine ⟨j, hl, rfl, nI_1 j, nI_clamp hj, ?_⟩
  rw [nI_1, nI_clamp (by omega), nI_clamp hj]
  omega
theorem op_s {α : Type} {r : Option α} {A : Prop} {B : α → Prop} {y : α} (h : r = some y) (b : B y) : (r = none → A) ∧ ∀ z, r = some z → B z :=
  ⟨fun e => (by rw [h] at e; cases e), fun z e => (by rw [h] at e; cases e; exact b)⟩
def l_holds {α : Type} (a : Nat → Option Nat) (LP : List Nat) (p : Nat → α) (c : Nat) (b : Nat → α) : Prop :=
  ∀ j, j < c → ∃ y, a j = some y ∧ y ∈ LP ∧ p y = b j
theorem l_holds_0 {α : Type} {a : Nat → Option Nat} {LP : List Nat} {p b : Nat → α} : l_holds a LP p 0 b := fun j h => absurd h (Nat.not_lt_zero j)
theorem l_in_new (LP : List Nat) (q : Nat) : q ∈ LP ++ [q] := List.mem_append.mpr (Or.inr (List.mem_singleton.mpr rfl))
def l_sum (b : Nat → Int32) : Nat → Int32
  | 0 => 0
  | k + 1 => l_sum b k + b k
theorem sb_shr0 (x : Int32) : x >>> ((0 : Int32) &&& 31) = x := by
  rw [show ((0 : Int32) &&& 31) = 0 by decide]
  simp
theorem sb_shl0 (x : Int32) : x <<< ((0 : Int32) &&& 31) = x := by
  rw [show ((0 : Int32) &&& 31) = 0 by decide]
  simp
theorem sb_cl0 : (0 : Int32).toNatClampNeg = 0 := by decide
theorem sb_m1 {p : Nat} (h : 0 < p) : nI p + (-1) = nI (p - 1) := by
  obtain ⟨q, rfl⟩ : ∃ q, p = q + 1 := ⟨p - 1, by omega⟩
  exact pk_m1 q
def sb_b (c : Nat) : Int32 := (nI c).toInt8.toInt32
theorem sb_byte : ∀ c, c < 256 → sb_b c &&& 255 = nI c ∧ ((nI c).toUInt32 % 65536).toInt32 = nI c ∧ nI c ≤ 255 := by decide +kernel
def sb_Fit (a : Nat → Int32) : Prop := ∀ j, fits .byte (.int (a j)) = true
def sb_Lat (t : Nat → Nat) (n : Nat) (a : Nat → Int32) : Prop := ∀ j, j < n → t j < 256 ∧ a j = sb_b (t j)
theorem sb_fitB (c : Nat) : fits .byte (.int (sb_b c)) = true := pk_fb _
theorem sb_fit0 : sb_Fit (fun _ => 0) := fun _ => by
  show fits .byte (.int 0) = true
  decide
theorem sb_fitU {a : Nat → Int32} {k : Nat} {x : Int32} (h : sb_Fit a) (hx : fits .byte (.int x) = true) : sb_Fit (upd a k x) := by
  intro j
  by_cases e : j = k
  · subst e
    rw [pk_us]
    exact hx
  · rw [pk_un e]
    exact h j
def sb_cat (t : Nat → Nat) (n : Nat) (s : Nat → Nat) : Nat → Nat := fun j => if j < n then t j else s (j - n)
theorem sb_cat_lo {t s : Nat → Nat} {n j : Nat} (h : j < n) : sb_cat t n s j = t j := if_pos h
theorem sb_cat_hi {t s : Nat → Nat} {n j : Nat} : sb_cat t n s (n + j) = s j := by
  show (if n + j < n then t (n + j) else s (n + j - n)) = s j
  rw [if_neg (by omega), Nat.add_sub_cancel_left]
theorem sb_latPut {t s : Nat → Nat} {n w : Nat} {a a' : Nat → Int32} (h : sb_Lat t n a) (hk : ∀ j, j < n → a' j = a j) (hs : ∀ i, i < w → s i < 256 ∧ a' (n + i) = sb_b (s i)) : sb_Lat (sb_cat t n s) (n + w) a' := by
  intro j hj
  by_cases e : j < n
  · rw [sb_cat_lo e, hk j e]
    exact h j e
  · obtain ⟨i, rfl⟩ : ∃ i, j = n + i := ⟨j - n, by omega⟩
    rw [sb_cat_hi]
    exact hs i (by omega)
theorem sb_latKeep {t : Nat → Nat} {n : Nat} {a a' : Nat → Int32} (h : sb_Lat t n a) (hk : ∀ j, j < n → a' j = a j) : sb_Lat t n a' := fun j hj => by
  rw [hk j hj]
  exact h j hj
def sb_cap (q m : Nat) : Nat := if q ≤ m then m else if 2 * m + 2 < q then q else 2 * m + 2
def sb_Room (q m mc ms : Nat) : Prop := q ≤ m ∨ (1 ≤ mc ∧ sb_cap q m ≤ ms ∧ sb_cap q m ≤ 65536)
theorem sb_cap_ge (q m : Nat) : q ≤ sb_cap q m := by
  unfold sb_cap
  split
  · omega
  · split <;> omega
theorem sb_cap_gem (q m : Nat) : m ≤ sb_cap q m := by
  unfold sb_cap
  split
  · omega
  · split <;> omega
theorem sb_cap_le {q m mc ms : Nat} (hm : m ≤ 65536) (hr : sb_Room q m mc ms) : sb_cap q m ≤ 65536 := by
  rcases hr with h | h
  · rw [sb_cap, if_pos h]
    exact hm
  · exact h.2.2
theorem sb_at {P : Int32 → Prop} {x y : Int32} (e : x = y) (h : P y) : P x := e ▸ h
def sb_dg (w : Nat) : Nat := if w < 10 then 1 else if w < 100 then 2 else if w < 1000 then 3 else if w < 10000 then 4 else if w < 100000 then 5 else if w < 1000000 then 6 else if w < 10000000 then 7 else if w < 100000000 then 8 else if w < 1000000000 then 9 else 10
def sb_dec (v : Nat) : Nat → Nat := fun i => 48 + v / 10 ^ (sb_dg v - 1 - i) % 10
theorem sb_dg_in (w : Nat) : 1 ≤ sb_dg w ∧ sb_dg w ≤ 10 := by
  unfold sb_dg
  constructor <;> (repeat' split) <;> omega
theorem sb_dg100 {w : Nat} (h : 100 ≤ w) (hw : w < 2 ^ 31) : sb_dg w = sb_dg (w / 100) + 2 := by
  rw [sb_dg, sb_dg, if_neg (show ¬ w < 10 by omega), if_neg (show ¬ w < 100 by omega)]
  by_cases h3 : w < 1000
  · rw [if_pos h3, if_pos (show w / 100 < 10 by omega)]
  rw [if_neg h3, if_neg (show ¬ w / 100 < 10 by omega)]
  by_cases h4 : w < 10000
  · rw [if_pos h4, if_pos (show w / 100 < 100 by omega)]
  rw [if_neg h4, if_neg (show ¬ w / 100 < 100 by omega)]
  by_cases h5 : w < 100000
  · rw [if_pos h5, if_pos (show w / 100 < 1000 by omega)]
  rw [if_neg h5, if_neg (show ¬ w / 100 < 1000 by omega)]
  by_cases h6 : w < 1000000
  · rw [if_pos h6, if_pos (show w / 100 < 10000 by omega)]
  rw [if_neg h6, if_neg (show ¬ w / 100 < 10000 by omega)]
  by_cases h7 : w < 10000000
  · rw [if_pos h7, if_pos (show w / 100 < 100000 by omega)]
  rw [if_neg h7, if_neg (show ¬ w / 100 < 100000 by omega)]
  by_cases h8 : w < 100000000
  · rw [if_pos h8, if_pos (show w / 100 < 1000000 by omega)]
  rw [if_neg h8, if_neg (show ¬ w / 100 < 1000000 by omega)]
  by_cases h9 : w < 1000000000
  · rw [if_pos h9, if_pos (show w / 100 < 10000000 by omega)]
  rw [if_neg h9, if_neg (show ¬ w / 100 < 10000000 by omega)]
  rw [if_pos (show w / 100 < 100000000 by omega)]
theorem sb_negT {w : Nat} (h : w < 2 ^ 31) : (-nI w).toInt = -(w : Int) := by
  rw [Int32.toInt_neg, nI_toInt h]
  exact Int.bmod_eq_of_le (by omega) (by omega)
theorem sb_nle {a b : Nat} (ha : a < 2 ^ 31) (hb : b < 2 ^ 31) : -nI a ≤ -nI b ↔ b ≤ a := by
  rw [Int32.le_iff_toInt_le, sb_negT ha, sb_negT hb]
  omega
theorem sb_nlt {a b : Nat} (ha : a < 2 ^ 31) (hb : b < 2 ^ 31) : -nI a < -nI b ↔ b < a := by
  rw [Int32.lt_iff_toInt_lt, sb_negT ha, sb_negT hb]
  omega
theorem sb_cmp {A B : Prop} {x : Int32} (v c : Nat) (f : c ≤ v → A) (g : v < c → B) (hv : v < 2 ^ 31) (hx : x = -nI c := by rfl) (hc : c < 2 ^ 31 := by omega) : (-nI v ≤ x → A) ∧ (¬ -nI v ≤ x → B) := by
  subst hx
  rw [sb_nle hv hc]
  exact ⟨f, fun z => g (by omega)⟩
theorem sb_ndiv {w : Nat} (hw : w < 2 ^ 31) : (-nI w) / 100 = -nI (w / 100) := by
  apply Int32.toInt_inj.mp
  have h100 : (100 : Int32).toInt = 100 := by decide
  rw [Int32.toInt_div, sb_negT hw, h100, sb_negT (by omega), Int.neg_tdiv, Int.tdiv_eq_ediv_of_nonneg (by omega), Int.bmod_eq_of_le (by omega) (by omega)]
  omega
theorem sb_nrem {w : Nat} (hw : w < 2 ^ 31) : (-nI (w / 100)) * 100 - (-nI w) = nI (w % 100) := by
  have h := pk_rem (a := w) (d := 100) hw (by decide) (by decide)
  rw [pk_div hw (by decide) (by decide)] at h
  rw [← h]
  show (-nI (w / 100)) * nI 100 - (-nI w) = nI w - nI (w / 100) * nI 100
  rw [Int32.neg_mul, Int32.sub_neg, Int32.add_comm, ← Int32.sub_eq_add_neg]
end
section
/-! rows on bits, shifts and unsigned numbers, to paste: each family out of a closed proof of our own, whole with what it rests on; each by itself clean at Lean in its own claim (generation 39, form 5). Take a family whole -/
/-! ===== Int32 by its bits: bt x i ===== -/
def bt (x : Int32) (i : Nat) : Bool := x.toBitVec.getLsbD i
theorem b_ext {x y : Int32} (h : ∀ i, i < 32 → bt x i = bt y i) : x = y := Int32.toBitVec_inj.mp (BitVec.eq_of_getLsbD_eq (fun i hi => h i hi))
theorem b_or (x y : Int32) (i : Nat) : bt (x ||| y) i = (bt x i || bt y i) := by unfold bt; rw [Int32.toBitVec_or, BitVec.getLsbD_or]
theorem b_and (x y : Int32) (i : Nat) : bt (x &&& y) i = (bt x i && bt y i) := by unfold bt; rw [Int32.toBitVec_and, BitVec.getLsbD_and]
theorem b_xor (x y : Int32) (i : Nat) : bt (x ^^^ y) i = (bt x i ^^ bt y i) := by unfold bt; rw [Int32.toBitVec_xor, BitVec.getLsbD_xor]
theorem b_big {x : Int32} {i : Nat} (h : 32 ≤ i) : bt x i = false := BitVec.getLsbD_of_ge _ _ h
theorem b_255 (i : Nat) : bt 255 i = decide (i < 8) := by
  rcases Nat.lt_or_ge i 32 with h | h
  · exact (by decide +kernel : ∀ i, i < 32 → bt 255 i = decide (i < 8)) i h
  · rw [b_big h, decide_eq_false (by omega)]
theorem b_65535 (i : Nat) : bt 65535 i = decide (i < 16) := by
  rcases Nat.lt_or_ge i 32 with h | h
  · exact (by decide +kernel : ∀ i, i < 32 → bt 65535 i = decide (i < 16)) i h
  · rw [b_big h, decide_eq_false (by omega)]
theorem b_m1 : ∀ i, i < 32 → bt (-1) i = true := by decide +kernel
theorem b_0 (i : Nat) : bt 0 i = false := BitVec.getLsbD_zero
theorem s_l : ∀ n, n < 32 → ((nI n &&& 31).toBitVec.smod 32).toNat = n := by decide +kernel
theorem s_u : ∀ n, n < 32 → (((nI n).toUInt32 &&& Int32.toUInt32 31).toBitVec % 32).toNat = n := by decide +kernel
theorem b_shl (n : Nat) (hn : n < 32) (x : Int32) {i : Nat} (hi : i < 32) : bt (x <<< (nI n &&& 31)) i = (decide (n ≤ i) && bt x (i - n)) := by
  unfold bt
  rw [Int32.toBitVec_shiftLeft]
  show (x.toBitVec <<< ((nI n &&& 31).toBitVec.smod 32).toNat).getLsbD i = _
  rw [s_l n hn, BitVec.getLsbD_shiftLeft]
  rcases Nat.lt_or_ge i n with h | h
  · simp [h, Nat.not_le.mpr h]
  · simp [hi, h, Nat.not_lt.mpr h]
theorem b_ushr (n : Nat) (hn : n < 32) (x : Int32) (i : Nat) : bt ((x.toUInt32 >>> ((nI n).toUInt32 &&& Int32.toUInt32 31)).toInt32) i = bt x (n + i) := by
  show (x.toUInt32 >>> ((nI n).toUInt32 &&& Int32.toUInt32 31)).toBitVec.getLsbD i = x.toUInt32.toBitVec.getLsbD (n + i)
  rw [UInt32.toBitVec_shiftRight]
  show (x.toUInt32.toBitVec >>> (((nI n).toUInt32 &&& Int32.toUInt32 31).toBitVec % 32).toNat).getLsbD i = _
  rw [s_u n hn, BitVec.getLsbD_ushiftRight]
theorem b_sshr (n : Nat) (hn : n < 32) (x : Int32) {i : Nat} (hi : i < 32) : bt (x >>> (nI n &&& 31)) i = if n + i < 32 then bt x (n + i) else bt x 31 := by
  unfold bt
  rw [Int32.toBitVec_shiftRight]
  show (x.toBitVec.sshiftRight ((nI n &&& 31).toBitVec.smod 32).toNat).getLsbD i = _
  rw [s_l n hn, BitVec.getLsbD_sshiftRight, BitVec.msb_eq_getLsbD_last]
  simp [hi]
theorem b_shl8 (x : Int32) {i : Nat} (hi : i < 32) : bt (x <<< ((8 : Int32) &&& 31)) i = (decide (8 ≤ i) && bt x (i - 8)) := b_shl 8 (by omega) x hi
theorem b_shl16 (x : Int32) {i : Nat} (hi : i < 32) : bt (x <<< ((16 : Int32) &&& 31)) i = (decide (16 ≤ i) && bt x (i - 16)) := b_shl 16 (by omega) x hi
theorem b_shl24 (x : Int32) {i : Nat} (hi : i < 32) : bt (x <<< ((24 : Int32) &&& 31)) i = (decide (24 ≤ i) && bt x (i - 24)) := b_shl 24 (by omega) x hi
theorem b_sshr8 (x : Int32) {i : Nat} (hi : i < 32) : bt (x >>> ((8 : Int32) &&& 31)) i = if 8 + i < 32 then bt x (8 + i) else bt x 31 := b_sshr 8 (by omega) x hi
/-! ===== nI under and, xor, >>>, one bit, 65535 ===== -/
theorem nx_and (a b : Nat) : nI a &&& nI b = nI (a &&& b) := by
  apply Int32.toBitVec_inj.1
  show BitVec.ofNat 32 a &&& BitVec.ofNat 32 b = BitVec.ofNat 32 (a &&& b)
  apply BitVec.eq_of_getLsbD_eq
  intro i hi
  simp [hi]
theorem nx_xor (a b : Nat) : nI a ^^^ nI b = nI (a ^^^ b) := by
  apply Int32.toBitVec_inj.1
  show BitVec.ofNat 32 a ^^^ BitVec.ofNat 32 b = BitVec.ofNat 32 (a ^^^ b)
  apply BitVec.eq_of_getLsbD_eq
  intro i hi
  simp [hi]
theorem nx_cnt : ∀ j : Fin 32, (UInt32.ofNat j.val &&& Int32.toUInt32 31).toNat % 32 = j.val := by decide +kernel
theorem nx_ush {k j : Nat} (hk : k < 65536) (hj : j < 32) : ((nI k).toUInt32 >>> ((nI j).toUInt32 &&& Int32.toUInt32 31)).toInt32 = nI (k >>> j) := by
  have hs : k >>> j ≤ k := by
    rw [Nat.shiftRight_eq_div_pow]
    exact Nat.div_le_self _ _
  have e2 : UInt32.ofNat k >>> (UInt32.ofNat j &&& Int32.toUInt32 31) = UInt32.ofNat (k >>> j) := by
    apply UInt32.toNat_inj.1
    have h1 : (UInt32.ofNat k).toNat = k := Nat.mod_eq_of_lt (by omega)
    have h2 : (UInt32.ofNat (k >>> j)).toNat = k >>> j := Nat.mod_eq_of_lt (by omega)
    rw [UInt32.toNat_shiftRight, nx_cnt ⟨j, hj⟩, h1, h2]
  show (UInt32.ofNat k >>> (UInt32.ofNat j &&& Int32.toUInt32 31)).toInt32 = _
  rw [e2]
  rfl
theorem nx_bit {k j : Nat} (hk : k < 65536) (hj : j < 16) : (((nI k).toUInt32 >>> ((nI j).toUInt32 &&& Int32.toUInt32 31)).toInt32 &&& 1) = 0 ↔ k.testBit j = false := by
  rw [nx_ush hk (by omega)]
  show nI (k >>> j) &&& nI 1 = 0 ↔ _
  rw [nx_and, Nat.and_one_is_mod, ← nI_0, nI_eq (by omega) (by omega), Nat.testBit_eq_decide_div_mod_eq, Nat.shiftRight_eq_div_pow, decide_eq_false_iff_not]
  generalize k / 2 ^ j = z
  omega
theorem nx_mod (k : Nat) : nI k &&& 65535 = nI (k % 65536) := by
  show nI k &&& nI 65535 = _
  rw [nx_and, show (65535 : Nat) = 2 ^ 16 - 1 from rfl, Nat.and_two_pow_sub_one_eq_mod]
theorem nx_m16 {k : Nat} (h : k < 65536) : nI k &&& 65535 = nI k := by rw [nx_mod, Nat.mod_eq_of_lt h]
theorem nx_mask (x : Int32) : ∃ k, k < 65536 ∧ x &&& 65535 = nI k := by
  have e : x = nI x.toBitVec.toNat := by
    apply Int32.toBitVec_inj.1
    show x.toBitVec = BitVec.ofNat 32 x.toBitVec.toNat
    simp
  refine ⟨x.toBitVec.toNat % 65536, Nat.mod_lt _ (by omega), ?_⟩
  rw [← nx_mod, ← e]
/-! ===== Int32 as a set of bits: test, set ===== -/
def nf_M (m : Int32) : Nat := 4294967296 - m.toBitVec.toNat
theorem nf_sh : ∀ l, l < 32 → ((1 : Int32) <<< (nI l &&& 31)).toBitVec = BitVec.twoPow 32 l := by decide +kernel
theorem nf_sl : ∀ l, l < 32 → (((nI l).toUInt32 &&& Int32.toUInt32 31).toBitVec % 32).toNat = l := by decide +kernel
theorem nf_tp : ∀ l, l < 32 → BitVec.twoPow 32 l ≠ 0#32 := by decide +kernel
theorem nf_bit (m : Int32) (l : Nat) (hl : l < 32) : ((m.toUInt32 >>> ((nI l).toUInt32 &&& Int32.toUInt32 31)).toInt32 &&& 1) = 0 ↔ (m &&& ((1 : Int32) <<< (nI l &&& 31))) = 0 := by
  have e : ((m.toUInt32 >>> ((nI l).toUInt32 &&& Int32.toUInt32 31)).toInt32).toBitVec = m.toBitVec >>> l := by
    show m.toBitVec >>> (((nI l).toUInt32 &&& Int32.toUInt32 31).toBitVec % 32) = m.toBitVec >>> l
    rw [BitVec.ushiftRight_eq', nf_sl l hl]
  rw [← Int32.toBitVec_inj, ← Int32.toBitVec_inj, Int32.toBitVec_and, Int32.toBitVec_and, nf_sh l hl, e, BitVec.and_twoPow]
  show (m.toBitVec >>> l &&& 1#32) = 0#32 ↔ _ = 0#32
  rw [BitVec.and_one_eq_setWidth_ofBool_getLsbD, BitVec.getLsbD_ushiftRight, Nat.add_zero]
  cases hb : m.toBitVec.getLsbD l
  · exact ⟨fun _ => by simp, fun _ => by decide⟩
  · exact ⟨fun z => absurd z (by decide), fun z => absurd ((if_pos rfl).symm.trans z) (nf_tp l hl)⟩
theorem nf_gr (m k : Int32) (h : m &&& k = 0) (hk : k ≠ 0) : nf_M (m ||| k) < nf_M m := by
  have hm := m.toBitVec.isLt
  have hm' := (m ||| k).toBitVec.isLt
  have h1 : m.toBitVec.toNat ≤ (m ||| k).toBitVec.toNat := by
    rw [Int32.toBitVec_or, BitVec.toNat_or]
    exact Nat.left_le_or
  have h2 : m.toBitVec.toNat ≠ (m ||| k).toBitVec.toNat := by
    intro e
    have e2 : m = m ||| k := Int32.toBitVec_inj.mp (BitVec.eq_of_toNat_eq e)
    apply hk
    apply Int32.toBitVec_inj.mp
    show k.toBitVec = 0#32
    apply BitVec.eq_of_getLsbD_eq
    intro i hi
    have a : m.toBitVec.getLsbD i = (m.toBitVec.getLsbD i || k.toBitVec.getLsbD i) := by rw [← BitVec.getLsbD_or, ← Int32.toBitVec_or, ← e2]
    have b : (m.toBitVec.getLsbD i && k.toBitVec.getLsbD i) = false := by
      rw [← BitVec.getLsbD_and, ← Int32.toBitVec_and, h]
      exact BitVec.getLsbD_zero
    rw [BitVec.getLsbD_zero]
    revert a b
    cases m.toBitVec.getLsbD i <;> cases k.toBitVec.getLsbD i <;> simp
  unfold nf_M
  omega
/-! ===== a byte read unsigned ===== -/
theorem bp_b (x : Int32) : x.toInt8.toInt32 &&& 255 = x &&& 255 := by
  apply Int32.toBitVec_inj.mp
  rw [Int32.toBitVec_and, Int32.toBitVec_and, Int8.toBitVec_toInt32, Int32.toBitVec_toInt8]
  apply BitVec.eq_of_getLsbD_eq
  intro i hi
  rw [BitVec.getLsbD_and, BitVec.getLsbD_and]
  have hm : ∀ i < 32, 8 ≤ i → (255 : Int32).toBitVec.getLsbD i = false := by decide
  rcases Nat.lt_or_ge i 8 with z | z
  · rw [BitVec.getLsbD_signExtend, BitVec.getLsbD_signExtend, if_pos z, if_pos hi]
    simp only [z, hi, decide_true, Bool.true_and]
  · rw [hm i hi z]; simp
/-! ===== the char cast and 65535 ===== -/
theorem em_w (v : Int32) : ∃ w : Nat, w < 65536 ∧ (v.toUInt32 % 65536).toInt32 = nI w ∧ v &&& 65535 = nI w := by
  have hr := lw_u16_r v
  have h0 : (0 : Int32).toInt = 0 := by decide
  obtain ⟨w, h1, h2⟩ := nI_of (x := lw_u16 v) (by rw [Int32.lt_iff_toInt_lt]; omega)
  have h3 : (v.toUInt32 % 65536).toInt32 = nI w := h2
  rw [h2, nI_toInt h1] at hr
  exact ⟨w, by omega, h3, by rw [← lg_i2c_mask, ← lg_i2c_nf, h3]⟩
/-! ===== Int64 as a set of bits: test, set, clear ===== -/
theorem ts_nf {x : Bool} (h : ¬ x = false) : x = true := by cases x <;> first | rfl | exact absurd rfl h
theorem ts_nt {x : Bool} (h : ¬ x = true) : x = false := by cases x <;> first | rfl | exact absurd rfl h
theorem ts_bit {w : Int64} {s : UInt64} {j : Nat} (hj : j < 64) (hs : s.toNat = j) : ((w.toUInt64 >>> s).toInt64 &&& 1) = 0 ↔ w.toBitVec.getLsbD j = false := by
  have e : (w.toUInt64 >>> s).toInt64.toBitVec = w.toBitVec >>> j := by
    apply BitVec.eq_of_toNat_eq
    show (w.toUInt64 >>> s).toNat = _
    rw [UInt64.toNat_shiftRight, hs, Nat.mod_eq_of_lt hj, BitVec.toNat_ushiftRight]
    rfl
  rw [← Int64.toBitVec_inj, Int64.toBitVec_and, e]
  show w.toBitVec >>> j &&& 1#64 = 0#64 ↔ _
  constructor
  · intro h
    have t := congrArg (fun x => x.getLsbD 0) h
    simpa using t
  · intro h
    apply BitVec.eq_of_getLsbD_eq
    intro i hi
    cases i with
    | zero => simp [h]
    | succ i => simp
theorem ts_or {w m : Int64} {j : Nat} (hj : j < 64) (hm : m.toBitVec = BitVec.twoPow 64 j) : (w ||| m) = w ↔ w.toBitVec.getLsbD j = true := by
  rw [← Int64.toBitVec_inj, Int64.toBitVec_or, hm]
  constructor
  · intro h
    have t := congrArg (fun x => x.getLsbD j) h
    simp only [BitVec.getLsbD_or, BitVec.getLsbD_twoPow] at t
    simpa [hj] using t.symm
  · intro h
    apply BitVec.eq_of_getLsbD_eq
    intro i hi
    rw [BitVec.getLsbD_or, BitVec.getLsbD_twoPow]
    by_cases e : j = i
    · subst e; rw [h, Bool.true_or]
    · simp [e]
theorem ts_and {w m : Int64} {j : Nat} (hj : j < 64) (hm : m.toBitVec = BitVec.twoPow 64 j) : (w &&& (m ^^^ (-1))) = w ↔ w.toBitVec.getLsbD j = false := by
  have ha : (-1 : Int64).toBitVec = BitVec.allOnes 64 := by decide
  rw [← Int64.toBitVec_inj, Int64.toBitVec_and, Int64.toBitVec_xor, hm, ha]
  constructor
  · intro h
    have t := congrArg (fun x => x.getLsbD j) h
    simp only [BitVec.getLsbD_and, BitVec.getLsbD_xor, BitVec.getLsbD_twoPow, BitVec.getLsbD_allOnes] at t
    simpa [hj] using t.symm
  · intro h
    apply BitVec.eq_of_getLsbD_eq
    intro i hi
    rw [BitVec.getLsbD_and, BitVec.getLsbD_xor, BitVec.getLsbD_twoPow, BitVec.getLsbD_allOnes]
    by_cases e : j = i
    · subst e; rw [h, Bool.false_and]
    · simp [e, hi]
/-! ===== lN n to 2^64: shifts, and, or, masks, one bit ===== -/
theorem wb_tb (n : Nat) : (lN n).toBitVec = BitVec.ofNat 64 n := rfl
theorem wb_inj {a b : Int64} (h : a.toBitVec = b.toBitVec) : a = b := Int64.toBitVec_inj.mp h
theorem wb_tn {n : Nat} (h : n < 2 ^ 64) : (lN n).toBitVec.toNat = n := by rw [wb_tb, BitVec.toNat_ofNat, Nat.mod_eq_of_lt h]
theorem wb_of (x : Int64) : ∃ n, n < 2 ^ 64 ∧ x = lN n := ⟨x.toBitVec.toNat, x.toBitVec.isLt, wb_inj (by rw [wb_tb]; simp)⟩
theorem wb_of32 (x : Int32) : ∃ n, n < 2 ^ 32 ∧ x = nI n := ⟨x.toBitVec.toNat, x.toBitVec.isLt, Int32.toBitVec_inj.mp (by show _ = BitVec.ofNat 32 _; simp)⟩
theorem wb_c : ∀ k, k < 64 → ((nI k).toInt64 &&& 63) = lN k := by decide +kernel
theorem wb_cu : ∀ k, k < 64 → ((nI k).toInt64.toUInt64 &&& Int64.toUInt64 63) = UInt64.ofNat k := by decide +kernel
theorem wb_sm : ∀ k, k < 64 → (BitVec.ofNat 64 k).smod 64 = BitVec.ofNat 64 k := by decide +kernel
theorem wb_pw {a b : Nat} (h : a ≤ b) : 2 ^ b = 2 ^ a * 2 ^ (b - a) := by rw [← Nat.pow_add]; congr 1; omega
theorem wb_lt2 {a b : Nat} (h : a < b) : 2 ^ a < 2 ^ b := Nat.pow_lt_pow_right (by decide) h
theorem wb_mod (n : Nat) : lN n = lN (n % 2 ^ 64) := wb_inj (by rw [wb_tb, wb_tb]; apply BitVec.eq_of_toNat_eq; rw [BitVec.toNat_ofNat, BitVec.toNat_ofNat, Nat.mod_mod])
theorem wb_shr {n k : Nat} (hn : n < 2 ^ 64) (hk : k < 64) : ((lN n).toUInt64 >>> ((nI k).toInt64.toUInt64 &&& Int64.toUInt64 63)).toInt64 = lN (n / 2 ^ k) := by
  rw [wb_cu k hk]
  apply wb_inj
  apply BitVec.eq_of_toNat_eq
  show ((lN n).toUInt64 >>> UInt64.ofNat k).toNat = (BitVec.ofNat 64 _).toNat
  have h1 : (UInt64.ofNat k).toNat = k := by
    show (BitVec.ofNat 64 k).toNat = k
    rw [BitVec.toNat_ofNat, Nat.mod_eq_of_lt (by omega)]
  have h2 : (lN n).toUInt64.toNat = n := wb_tn hn
  rw [UInt64.toNat_shiftRight, h1, h2, Nat.mod_eq_of_lt hk, Nat.shiftRight_eq_div_pow, BitVec.toNat_ofNat, Nat.mod_eq_of_lt (Nat.lt_of_le_of_lt (Nat.div_le_self _ _) hn)]
theorem wb_shl (n : Nat) {k : Nat} (hk : k < 64) : lN n <<< ((nI k).toInt64 &&& 63) = lN (n * 2 ^ k) := by
  rw [wb_c k hk]
  apply wb_inj
  rw [Int64.toBitVec_shiftLeft, wb_tb, wb_tb, wb_tb, wb_sm k hk]
  apply BitVec.eq_of_toNat_eq
  rw [BitVec.shiftLeft_eq', BitVec.toNat_shiftLeft, BitVec.toNat_ofNat, BitVec.toNat_ofNat, BitVec.toNat_ofNat, Nat.mod_eq_of_lt (show k < 2 ^ 64 by omega), Nat.shiftLeft_eq, Nat.mul_mod, Nat.mod_mod, ← Nat.mul_mod]
theorem wb_and {a b : Nat} (ha : a < 2 ^ 64) (hb : b < 2 ^ 64) : lN a &&& lN b = lN (a &&& b) := by
  apply wb_inj
  rw [Int64.toBitVec_and, wb_tb, wb_tb, wb_tb]
  apply BitVec.eq_of_toNat_eq
  rw [BitVec.toNat_and, BitVec.toNat_ofNat, BitVec.toNat_ofNat, BitVec.toNat_ofNat, Nat.mod_eq_of_lt ha, Nat.mod_eq_of_lt hb, Nat.mod_eq_of_lt (Nat.and_lt_two_pow _ hb)]
theorem wb_or {a b : Nat} (ha : a < 2 ^ 64) (hb : b < 2 ^ 64) : lN a ||| lN b = lN (a ||| b) := by
  apply wb_inj
  rw [Int64.toBitVec_or, wb_tb, wb_tb, wb_tb]
  apply BitVec.eq_of_toNat_eq
  rw [BitVec.toNat_or, BitVec.toNat_ofNat, BitVec.toNat_ofNat, BitVec.toNat_ofNat, Nat.mod_eq_of_lt ha, Nat.mod_eq_of_lt hb, Nat.mod_eq_of_lt (Nat.or_lt_two_pow ha hb)]
theorem wb_mask {n k : Nat} (hn : n < 2 ^ 64) (hk : k < 64) : lN n &&& lN (2 ^ k - 1) = lN (n % 2 ^ k) := by
  rw [wb_and hn (by have := wb_lt2 hk; omega), Nat.and_two_pow_sub_one_eq_mod]
theorem wb_a1 {n : Nat} (hn : n < 2 ^ 64) : lN n &&& 1 = lN (n % 2) := wb_mask (k := 1) hn (by decide)
theorem wb_bit {n k : Nat} (hn : n < 2 ^ 64) (hk : k < 64) : ((lN n).toUInt64 >>> ((nI k).toInt64.toUInt64 &&& Int64.toUInt64 63)).toInt64 &&& 1 = lN (n / 2 ^ k % 2) := by
  rw [wb_shr hn hk, wb_a1 (Nat.lt_of_le_of_lt (Nat.div_le_self _ _) hn)]
theorem wb_xor {q k : Nat} (hk : k < 63) (h : 2 ^ k ≤ q) (h2 : q < 2 ^ (k + 1)) : lN q ^^^ lN (2 ^ k) = lN (q - 2 ^ k) := by
  obtain ⟨r, rfl⟩ : ∃ r, q = 2 ^ k + r := ⟨q - 2 ^ k, by omega⟩
  have hr : r < 2 ^ k := by rw [Nat.pow_succ] at h2; omega
  have hx : (2 ^ k + r) ^^^ 2 ^ k = r := by
    apply Nat.eq_of_testBit_eq
    intro i
    rw [Nat.testBit_xor, Nat.testBit_two_pow]
    rcases Nat.lt_trichotomy i k with h | h | h
    · rw [Nat.testBit_two_pow_add_gt h]
      simp [show ¬ k = i by omega]
    · subst h
      rw [Nat.testBit_two_pow_add_eq]
      simp
    · have a1 : 2 ^ (k + 1) ≤ 2 ^ i := Nat.pow_le_pow_right (by decide) h
      rw [Nat.testBit_lt_two_pow (show 2 ^ k + r < 2 ^ i by omega), Nat.testBit_lt_two_pow (show r < 2 ^ i by omega)]
      simp [show ¬ k = i by omega]
  have b1 := wb_lt2 (show k + 1 < 64 by omega)
  have b2 := wb_lt2 (show k < 64 by omega)
  apply wb_inj
  rw [Int64.toBitVec_xor, wb_tb, wb_tb, wb_tb]
  apply BitVec.eq_of_toNat_eq
  rw [BitVec.toNat_xor, BitVec.toNat_ofNat, BitVec.toNat_ofNat, BitVec.toNat_ofNat, Nat.mod_eq_of_lt (by omega : 2 ^ k + r < 2 ^ 64), Nat.mod_eq_of_lt b2, hx, Nat.add_sub_cancel_left, Nat.mod_eq_of_lt (by omega)]
/-! ===== lN: masks, 'or' of parts that don't overlap is a sum ===== -/
theorem u_tn {n : Nat} (h : n < 2 ^ 64) : (UInt64.ofNat n).toNat = n := Nat.mod_eq_of_lt h
theorem g_and {a b c : Nat} (ha : a < 2 ^ 64) (hb : b < 2 ^ 64) (hc : a &&& b = c) : lN a &&& lN b = lN c := by
  subst hc
  have h : UInt64.ofNat a &&& UInt64.ofNat b = UInt64.ofNat (a &&& b) := UInt64.toNat_inj.mp (by rw [UInt64.toNat_and, u_tn ha, u_tn hb, u_tn (Nat.and_lt_two_pow a hb)])
  have h2 := congrArg UInt64.toInt64 h
  exact h2
theorem g_and1 {a : Nat} (ha : a < 2 ^ 64) : lN a &&& 1 = lN (a % 2) := g_and (b := 1) ha (by decide) (Nat.and_two_pow_sub_one_eq_mod a 1)
theorem g_mask {a s p : Nat} (hp : 2 ^ s = p) (hs : s < 64) (ha : a < 2 ^ 64) : lN a &&& lN (p - 1) = lN (a % p) := by
  subst hp
  have := Nat.pow_lt_pow_right (show 1 < 2 by decide) hs
  exact g_and ha (by omega) (Nat.and_two_pow_sub_one_eq_mod a s)
theorem g_or {k p a b : Nat} (hp : 2 ^ k = p) (ha : a < p) (h : b * p + a < 2 ^ 64) : lN (b * p) ||| lN a = lN (b * p + a) := by
  subst hp
  have h1 : b * 2 ^ k ||| a = b * 2 ^ k + a := by rw [← Nat.shiftLeft_eq, Nat.shiftLeft_add_eq_or_of_lt ha]
  have h3 : UInt64.ofNat (b * 2 ^ k) ||| UInt64.ofNat a = UInt64.ofNat (b * 2 ^ k + a) := UInt64.toNat_inj.mp (by rw [UInt64.toNat_or, u_tn (by omega), u_tn (by omega), u_tn h, h1])
  have h2 := congrArg UInt64.toInt64 h3
  exact h2
theorem g_or' {k p a b : Nat} (hp : 2 ^ k = p) (ha : a < p) (h : a + b * p < 2 ^ 64) : lN a ||| lN (b * p) = lN (a + b * p) := by
  rw [Int64.or_comm, g_or hp ha (by omega), Nat.add_comm]
theorem g_ushr {a k p : Nat} {y : UInt64} (hy : y = UInt64.ofNat k) (hk : k < 64) (hp : 2 ^ k = p) (ha : a < 2 ^ 64) : ((lN a).toUInt64 >>> y).toInt64 = lN (a / p) := by
  subst hy hp
  have h : UInt64.ofNat a >>> UInt64.ofNat k = UInt64.ofNat (a / 2 ^ k) := UInt64.toNat_inj.mp (by rw [UInt64.toNat_shiftRight, u_tn ha, u_tn (by omega), u_tn (Nat.lt_of_le_of_lt (Nat.div_le_self _ _) ha), Nat.mod_eq_of_lt hk, Nat.shiftRight_eq_div_pow])
  have h2 := congrArg UInt64.toInt64 h
  exact h2
theorem g_shl {a k p : Nat} {y : Int64} (hy : y.toBitVec.smod 64 = BitVec.ofNat 64 k) (hk : k < 64) (hp : 2 ^ k = p) (ha : a < 2 ^ 64) : lN a <<< y = lN (a * p) := by
  subst hp
  apply Int64.toBitVec_inj.mp
  rw [Int64.toBitVec_shiftLeft, hy]
  apply BitVec.eq_of_toNat_eq
  have hb : (lN a).toBitVec.toNat = a := Nat.mod_eq_of_lt ha
  have hk' : (BitVec.ofNat 64 k).toNat = k := Nat.mod_eq_of_lt (by omega)
  have h : ((lN a).toBitVec <<< BitVec.ofNat 64 k).toNat = (a * 2 ^ k) % 2 ^ 64 := by simp only [BitVec.shiftLeft_eq', BitVec.toNat_shiftLeft, hb, hk', Nat.shiftLeft_eq]
  exact h
/-! ===== lN to 2^62 under >> and >>> ===== -/
theorem pf_lI {a : Nat} (h : a < 2 ^ 63) : (lN a).toInt = (a : Int) := lg_ofNat_toInt h
theorem pf_shr {a d : Nat} {D : Int64} (hD : (D.toBitVec.smod 64).toNat = d) (h : a < 2 ^ 62) : lN a >>> D = lN (a / 2 ^ d) := by
  have hd : a / 2 ^ d ≤ a := Nat.div_le_self _ _
  apply Int64.toInt_inj.mp
  have e : (lN a >>> D).toInt = (lN a).toInt >>> d := by
    rw [← hD]
    exact BitVec.toInt_sshiftRight ..
  rw [e, Int.shiftRight_eq_div_pow, pf_lI (by omega), pf_lI (by omega)]
  rfl
theorem pf_ushr {a d : Nat} {D : UInt64} (hD : D.toNat % 64 = d) (h : a < 2 ^ 62) : ((lN a).toUInt64 >>> D).toInt64 = lN (a / 2 ^ d) := by
  have hd : a / 2 ^ d ≤ a := Nat.div_le_self _ _
  have e : (lN a).toUInt64 >>> D = UInt64.ofNat (a / 2 ^ d) := UInt64.toNat_inj.mp (by
    rw [UInt64.toNat_shiftRight, hD, Nat.shiftRight_eq_div_pow, UInt64.toNat_ofNat']
    show (UInt64.ofNat a).toNat / 2 ^ d = _
    rw [UInt64.toNat_ofNat', Nat.mod_eq_of_lt (by omega), Nat.mod_eq_of_lt (by omega)])
  rw [e]
  rfl
theorem pf_andw (x : Int64) : ∃ m, m < 2 ^ 32 ∧ x &&& 4294967295 = lN m := ⟨x.toBitVec.toNat % 2 ^ 32, Nat.mod_lt _ (by decide), Int64.toBitVec_inj.mp (BitVec.eq_of_toNat_eq (by
  show (x.toBitVec &&& 4294967295#64).toNat = (BitVec.ofNat 64 (x.toBitVec.toNat % 2 ^ 32)).toNat
  rw [BitVec.toNat_and, show (4294967295#64).toNat = 2 ^ 32 - 1 from by decide, Nat.and_two_pow_sub_one_eq_mod, BitVec.toNat_ofNat]
  omega))⟩
/-! ===== Int64 as an unsigned number: uN x ===== -/
def uN (x : Int64) : Nat := x.toUInt64.toNat
theorem uN_lt (x : Int64) : uN x < 18446744073709551616 := x.toUInt64.toNat_lt
theorem uN_inj {x y : Int64} (h : uN x = uN y) : x = y := congrArg UInt64.toInt64 (UInt64.toNat_inj.mp h)
theorem uN_add (x y : Int64) : uN (x + y) = (uN x + uN y) % 18446744073709551616 := by
  show (x.toUInt64 + y.toUInt64).toNat = _
  exact UInt64.toNat_add _ _
theorem uN_mul (x y : Int64) : uN (x * y) = (uN x * uN y) % 18446744073709551616 := by
  show (x.toUInt64 * y.toUInt64).toNat = _
  exact UInt64.toNat_mul _ _
theorem uN_shl (x : Int64) : uN (x <<< ((1 : Int32).toInt64 &&& 63)) = (2 * uN x) % 18446744073709551616 := by
  have h : (((1 : Int32).toInt64 &&& 63).toBitVec.smod 64).toNat = 1 := by decide
  show (x.toBitVec <<< (((1 : Int32).toInt64 &&& 63).toBitVec.smod 64).toNat).toNat = _
  rw [h, BitVec.toNat_shiftLeft, Nat.shiftLeft_eq, Nat.mul_comm]
  rfl
theorem uN_shr (x : Int64) (s : UInt64) : uN (x.toUInt64 >>> s).toInt64 = uN x / 2 ^ (s.toNat % 64) := by
  show (x.toUInt64 >>> s).toNat = _
  rw [UInt64.toNat_shiftRight, Nat.shiftRight_eq_div_pow]
  rfl
theorem uN_s32 (x : Int64) : uN (x.toUInt64 >>> ((32 : Int32).toInt64.toUInt64 &&& Int64.toUInt64 63)).toInt64 = uN x / 4294967296 := by
  have h : ((32 : Int32).toInt64.toUInt64 &&& Int64.toUInt64 63).toNat % 64 = 32 := by decide
  rw [uN_shr, h]
theorem uN_s63 (x : Int64) : uN (x.toUInt64 >>> ((63 : Int32).toInt64.toUInt64 &&& Int64.toUInt64 63)).toInt64 = uN x / 9223372036854775808 := by
  have h : ((63 : Int32).toInt64.toUInt64 &&& Int64.toUInt64 63).toNat % 64 = 63 := by decide
  rw [uN_shr, h]
theorem uN_lo (x : Int64) : uN (x &&& 4294967295) = uN x % 4294967296 := by
  show (x.toUInt64 &&& Int64.toUInt64 4294967295).toNat = _
  rw [UInt64.toNat_and]
  exact Nat.and_two_pow_sub_one_eq_mod _ 32
theorem uN_bit (x : Int64) : (x &&& 1) = 0 ↔ uN x % 2 = 0 := by
  have h : uN (x &&& 1) = uN x % 2 := by
    show (x.toUInt64 &&& Int64.toUInt64 1).toNat = _
    rw [UInt64.toNat_and]
    exact Nat.and_two_pow_sub_one_eq_mod _ 1
  rw [← h]
  exact ⟨fun z => by rw [z]; rfl, fun z => uN_inj (z.trans rfl)⟩
theorem uN_or {x y : Int64} (hy : uN y < 2) : uN ((x <<< ((1 : Int32).toInt64 &&& 63)) ||| y) = (2 * uN x) % 18446744073709551616 + uN y := by
  have h1 : uN ((x <<< ((1 : Int32).toInt64 &&& 63)) ||| y) = uN (x <<< ((1 : Int32).toInt64 &&& 63)) ||| uN y := UInt64.toNat_or _ _
  have h2 : (2 * uN x) % 18446744073709551616 = 2 ^ 1 * (uN x % 9223372036854775808) := by omega
  rw [h1, uN_shl, h2]
  exact (Nat.two_pow_add_eq_or_of_lt (i := 1) hy _).symm
theorem nat_xor {a : Nat} (h : a < 18446744073709551616) : a ^^^ 2 ^ 63 = (a + 9223372036854775808) % 18446744073709551616 := by
  have h1 : (a ^^^ 2 ^ 63) % 2 ^ 63 = a % 2 ^ 63 := by rw [Nat.xor_mod_two_pow, Nat.mod_self, Nat.xor_zero]
  have h2 : (a ^^^ 2 ^ 63) / 2 ^ 63 = (a / 2 ^ 63) ^^^ 1 := by rw [Nat.xor_div_two_pow, Nat.div_self (Nat.two_pow_pos 63)]
  have h3 : a / 2 ^ 63 = 0 ∨ a / 2 ^ 63 = 1 := by omega
  generalize a ^^^ 2 ^ 63 = t at h1 h2
  rcases h3 with h3 | h3
  · rw [h3] at h2
    have h2 : t / 2 ^ 63 = 1 := h2
    omega
  · rw [h3] at h2
    have h2 : t / 2 ^ 63 = 0 := h2
    omega
theorem uN_xor (x : Int64) : uN (x ^^^ (-9223372036854775808)) = (uN x + 9223372036854775808) % 18446744073709551616 := by
  rw [← nat_xor (uN_lt x)]
  exact UInt64.toNat_xor _ _
theorem uN_int (x : Int64) : x.toInt = if 2 * uN x < 18446744073709551616 then (uN x : Int) else (uN x : Int) - 18446744073709551616 := BitVec.toInt_eq_toNat_cond _
theorem uN_le (x y : Int64) : (x ^^^ (-9223372036854775808)) ≤ (y ^^^ (-9223372036854775808)) ↔ uN x ≤ uN y := by
  have hx := uN_lt x
  have hy := uN_lt y
  rw [Int64.le_iff_toInt_le, uN_int, uN_int, uN_xor, uN_xor]
  omega
theorem uN_sk (x : Int64) {k : Nat} (hk : k < 64) : uN (x.toUInt64 >>> ((nI k).toInt64.toUInt64 &&& Int64.toUInt64 63)).toInt64 = uN x / 2 ^ k := by
  have h : ((nI k).toInt64.toUInt64 &&& Int64.toUInt64 63).toNat % 64 = k := by
    rw [nI_l (by omega), UInt64.toNat_and]
    have e : (lN k).toUInt64.toNat = k % 2 ^ 64 := rfl
    have e2 : (Int64.toUInt64 63).toNat = 2 ^ 6 - 1 := by decide
    rw [e, e2, Nat.and_two_pow_sub_one_eq_mod]
    omega
  rw [uN_shr, h]
/-! ===== unsigned comparison by xor with the least ===== -/
theorem lN_bv (n : Nat) : (lN n).toBitVec = BitVec.ofNat 64 n := rfl
theorem lN_nat {n : Nat} (h : n < 2 ^ 64) : (lN n).toBitVec.toNat = n := by rw [lN_bv, BitVec.toNat_ofNat]; exact Nat.mod_eq_of_lt h
theorem lN_xor (a b : Nat) : lN a ^^^ lN b = lN (a ^^^ b) := by
  apply Int64.toBitVec_inj.mp; rw [Int64.toBitVec_xor, lN_bv, lN_bv, lN_bv]; apply BitVec.eq_of_getLsbD_eq; intro i hi; simp [BitVec.getLsbD_ofNat, Nat.testBit_xor, hi]
theorem lN_ti {m : Nat} (h : m < 2 ^ 64) : (lN m).toInt = if m < 2 ^ 63 then (m : Int) else (m : Int) - 2 ^ 64 := by
  have c := BitVec.toInt_eq_toNat_cond (lN m).toBitVec
  rw [lN_nat h] at c
  show (lN m).toBitVec.toInt = _
  rw [c]
  split <;> split <;> omega
theorem xor63 {x : Nat} (h : x < 2 ^ 63) : x ^^^ 2 ^ 63 = 2 ^ 63 + x := by
  apply Nat.eq_of_testBit_eq
  intro i
  rw [Nat.testBit_xor, Nat.testBit_two_pow]
  rcases Nat.lt_trichotomy i 63 with z | z | z
  · rw [Nat.testBit_two_pow_add_gt z, decide_eq_false (by omega)]; simp
  · subst z; rw [Nat.testBit_two_pow_add_eq]; simp
  · have hp : 2 ^ 64 ≤ 2 ^ i := Nat.pow_le_pow_right (by decide) z
    rw [Nat.testBit_lt_two_pow (show x < 2 ^ i by omega), Nat.testBit_lt_two_pow (show 2 ^ 63 + x < 2 ^ i by omega), decide_eq_false (by omega)]; rfl
theorem xorS {a : Nat} (h : a < 2 ^ 64) : (lN a ^^^ (-9223372036854775808)).toInt = (a : Int) - 2 ^ 63 := by
  rw [show (-9223372036854775808 : Int64) = lN (2 ^ 63) from by decide +kernel, lN_xor]
  rcases Nat.lt_or_ge a (2 ^ 63) with z | z
  · rw [xor63 z, lN_ti (by omega), if_neg (by omega)]; omega
  · obtain ⟨x, rfl⟩ : ∃ x, a = 2 ^ 63 + x := ⟨a - 2 ^ 63, by omega⟩
    rw [← xor63 (by omega), Nat.xor_assoc, Nat.xor_self, Nat.xor_zero, lN_ti (by omega), if_pos (by omega), xor63 (by omega)]; omega
theorem ultL {a b : Nat} (ha : a < 2 ^ 64) (hb : b < 2 ^ 64) : ((lN b ^^^ (-9223372036854775808)) ≤ (lN a ^^^ (-9223372036854775808))) ↔ b ≤ a := by
  rw [Int64.le_iff_toInt_le, xorS ha, xorS hb]; omega
/-! ===== Int64 masks of n low bits ===== -/
theorem cr_bits (W U M : BitVec 64) : ((W &&& U) &&& (U &&& (M ^^^ BitVec.allOnes 64))) = 0#64 ↔ (W &&& U) &&& M = W &&& U := by
  constructor
  · intro h
    apply BitVec.eq_of_getLsbD_eq
    intro i hi
    have e := congrArg (fun x => BitVec.getLsbD x i) h
    simp only [BitVec.getLsbD_and, BitVec.getLsbD_xor, BitVec.getLsbD_allOnes, BitVec.getLsbD_zero, hi, decide_true] at e ⊢
    revert e
    cases W.getLsbD i <;> cases U.getLsbD i <;> cases M.getLsbD i <;> decide
  · intro h
    apply BitVec.eq_of_getLsbD_eq
    intro i hi
    have e := congrArg (fun x => BitVec.getLsbD x i) h
    simp only [BitVec.getLsbD_and, BitVec.getLsbD_xor, BitVec.getLsbD_allOnes, BitVec.getLsbD_zero, hi, decide_true] at e ⊢
    revert e
    cases W.getLsbD i <;> cases U.getLsbD i <;> cases M.getLsbD i <;> decide
theorem cr_mask (w U m : Int64) (n : Nat) (hm : m.toBitVec.toNat = 2 ^ n - 1) : ((w &&& U) &&& (U &&& (m ^^^ (-1)))) = 0 ↔ (w &&& U).toBitVec.toNat < 2 ^ n := by
  have e0 : (-1 : Int64).toBitVec = BitVec.allOnes 64 := by decide
  have z0 : (0 : Int64).toBitVec = 0#64 := by decide
  rw [← Int64.toBitVec_inj, z0, Int64.toBitVec_and, Int64.toBitVec_and, Int64.toBitVec_and, Int64.toBitVec_xor, e0, cr_bits]
  generalize w.toBitVec &&& U.toBitVec = T
  rw [← BitVec.toNat_inj, BitVec.toNat_and, hm, Nat.and_two_pow_sub_one_eq_mod]
  constructor
  · intro h
    have t := Nat.mod_lt T.toNat (Nat.two_pow_pos n)
    rw [h] at t
    exact t
  · exact Nat.mod_eq_of_lt
theorem cr_shr (t : Int64) (x : UInt64) (n : Nat) (hx : x.toNat % 64 = n) : (t.toUInt64 >>> x).toInt64 = 0 ↔ t.toBitVec.toNat < 2 ^ n := by
  rw [← Int64.toBitVec_inj, ← BitVec.toNat_inj]
  show (t.toUInt64 >>> x).toNat = 0 ↔ t.toUInt64.toNat < 2 ^ n
  rw [UInt64.toNat_shiftRight, hx, Nat.shiftRight_eq_div_pow]
  constructor
  · intro h
    have d : t.toUInt64.toNat / 2 ^ n < 1 := by
      rw [h]
      decide
    have e := (Nat.div_lt_iff_lt_mul (Nat.two_pow_pos n)).mp d
    rw [Nat.one_mul] at e
    exact e
  · exact Nat.div_eq_of_lt
theorem cr_amt (s : Int64) : ∃ n, n < 64 ∧ s &&& 63 = lN n ∧ (s.toUInt64 &&& Int64.toUInt64 63).toNat % 64 = n := by
  have e : (s.toUInt64 &&& Int64.toUInt64 63).toNat = s.toUInt64.toNat % 2 ^ 6 := by
    rw [UInt64.toNat_and, show (Int64.toUInt64 63).toNat = 2 ^ 6 - 1 from by decide, Nat.and_two_pow_sub_one_eq_mod]
  refine ⟨s.toUInt64.toNat % 2 ^ 6, by omega, ?_, by omega⟩
  rw [← Int64.toBitVec_inj, ← BitVec.toNat_inj]
  show (s.toUInt64 &&& Int64.toUInt64 63).toNat = (BitVec.ofNat 64 (s.toUInt64.toNat % 2 ^ 6)).toNat
  rw [e, BitVec.toNat_ofNat]
  omega
end
section
/-! The abstract timing state: field, index ↦ value. Field 0 scalars, 1..7 banks, 8..13 requests. -/
abbrev sc_S : Type := Nat → Nat → Int
abbrev sc_c (s : sc_S) : Int := s 0 0
abbrev sc_dr (s : sc_S) : Int := s 0 1
abbrev sc_a1 (s : sc_S) : Int := s 0 2
abbrev sc_a2 (s : sc_S) : Int := s 0 3
abbrev sc_a3 (s : sc_S) : Int := s 0 4
abbrev sc_a4 (s : sc_S) : Int := s 0 5
abbrev sc_ar (s : sc_S) : Int := s 0 6
abbrev sc_aw (s : sc_S) : Int := s 0 7
abbrev sc_rcd (s : sc_S) : Int := s 0 10
abbrev sc_rp (s : sc_S) : Int := s 0 11
abbrev sc_rfc (s : sc_S) : Int := s 0 12
abbrev sc_cap (s : sc_S) : Int := s 0 13
abbrev sc_age (s : sc_S) (b : Nat) : Int := s 1 b
abbrev sc_op (s : sc_S) (b : Nat) : Int := s 2 b
abbrev sc_la (s : sc_S) (b : Nat) : Int := s 3 b
abbrev sc_lr (s : sc_S) (b : Nat) : Int := s 4 b
abbrev sc_lw (s : sc_S) (b : Nat) : Int := s 5 b
abbrev sc_lp (s : sc_S) (b : Nat) : Int := s 6 b
abbrev sc_lf (s : sc_S) (b : Nat) : Int := s 7 b
abbrev sc_pd (s : sc_S) (q : Nat) : Int := s 8 q
abbrev sc_ad (s : sc_S) (q : Nat) : Int := s 9 q
abbrev sc_fu (s : sc_S) (q : Nat) : Int := s 10 q
abbrev sc_fe (s : sc_S) (q : Nat) : Int := s 11 q
abbrev sc_bo (s : sc_S) (q : Nat) : Int := s 12 q
abbrev sc_se (s : sc_S) (q : Nat) : Int := s 13 q
/-- bank and row of an address -/
def sc_bA (x : Int) : Nat := (x / 4 % 8).toNat
def sc_rA (x : Int) : Int := x / 32 % 8
abbrev sc_bk (s : sc_S) (q : Nat) : Nat := sc_bA (sc_ad s q)
abbrev sc_ro (s : sc_S) (q : Nat) : Int := sc_rA (sc_ad s q)
theorem sc_bA_lt (x : Int) : sc_bA x < 8 := by unfold sc_bA; omega
theorem sc_rA_in (x : Int) : 0 ≤ sc_rA x ∧ sc_rA x < 8 := by unfold sc_rA; omega
/-- the command that a request needs next: 0 ACT 1 READ 2 WRITE 3 PRE -/
def sc_kd (s : sc_S) (q : Nat) : Nat :=
  if sc_op s (sc_bk s q) < 0 then 0
  else if sc_op s (sc_bk s q) ≠ sc_ro s q then 3
  else if q < 6 ∨ (sc_fu s q = 0 ∧ sc_fe s q = 0) then 1 else 2
/-- the step of a refresh: 4 REF 3 PRE -/
def sc_sk (s : sc_S) (b : Nat) : Nat := if sc_op s b < 0 then 4 else 3
/-- not EARLY -/
def sc_P (s : sc_S) (k b : Nat) : Prop :=
  (k = 0 → sc_lp s b + sc_rp s ≤ sc_c s ∧ sc_lf s b + sc_rfc s ≤ sc_c s ∧ sc_a1 s + 2 ≤ sc_c s ∧ sc_a4 s + 10 ≤ sc_c s) ∧
  (k = 1 → sc_la s b + sc_rcd s ≤ sc_c s ∧ sc_ar s + 2 ≤ sc_c s ∧ sc_aw s + 4 ≤ sc_c s) ∧
  (k = 2 → sc_la s b + sc_rcd s ≤ sc_c s ∧ sc_aw s + 2 ≤ sc_c s ∧ sc_ar s + 3 ≤ sc_c s) ∧
  (k = 3 → sc_la s b + 5 ≤ sc_c s ∧ sc_lr s b + 2 ≤ sc_c s ∧ sc_lw s b + 4 ≤ sc_c s) ∧
  (k = 4 → sc_lp s b + sc_rp s ≤ sc_c s ∧ sc_lf s b + sc_rfc s ≤ sc_c s)
/-- a request is pending on the bank -/
def sc_wn (s : sc_S) (b : Nat) : Prop := ∃ q, q < 12 ∧ sc_pd s q ≠ 0 ∧ sc_bk s q = b
def sc_el (s : sc_S) (q : Nat) : Prop := sc_pd s q ≠ 0 ∧ (q < 6 ∨ (sc_dr s ≠ 0 ∧ ∀ o, o < 12 → sc_pd s o ≠ 0 → sc_ad s o = sc_ad s q → sc_se s q ≤ sc_se s o))
/-- some eligible request hits the open row -/
def sc_rw (s : sc_S) (b : Nat) : Prop := ∃ q, q < 12 ∧ sc_el s q ∧ sc_bk s q = b ∧ sc_ro s q = sc_op s b
/-- g is the guard -/
def sc_gd (s : sc_S) (g : Nat) : Prop := g < 12 ∧ sc_pd s g ≠ 0 ∧ (∀ q, q < 12 → sc_pd s q ≠ 0 → sc_se s g ≤ sc_se s q) ∧ sc_cap s ≤ sc_c s - sc_bo s g
def sc_ga (s : sc_S) (k q g : Nat) : Prop := sc_bk s q ≠ sc_bk s g ∧ (k = 3 ∨ (k = 0 ∧ (sc_kd s g = 1 ∨ sc_kd s g = 2)) ∨ ((k = 1 ∨ k = 2) ∧ (sc_kd s g = 0 ∨ sc_kd s g = 3)))
def sc_nf (s : sc_S) : Prop := ∀ x, x < 8 → 448 ≤ sc_age s x → ¬ sc_P s (sc_sk s x) x
def sc_gs (s : sc_S) : Prop := ∀ g, sc_gd s g → sc_age s (sc_bk s g) < 448 → ¬ sc_P s (sc_kd s g) (sc_bk s g)
/-- the choices of the scheduler: command k (5: none) on bank b for request q -/
def sc_Cf (s : sc_S) (k b : Nat) : Prop := b < 8 ∧ k = sc_sk s b ∧ 448 ≤ sc_age s b ∧ sc_P s k b ∧
  ∀ x, x < 8 → 448 ≤ sc_age s x → sc_P s (sc_sk s x) x → sc_age s x ≤ sc_age s b ∧ (sc_age s x = sc_age s b → b ≤ x)
def sc_Cg (s : sc_S) (k b q : Nat) : Prop := sc_nf s ∧ sc_gd s q ∧ k = sc_kd s q ∧ b = sc_bk s q ∧ sc_P s k b ∧ sc_age s b < 448
def sc_Co (s : sc_S) (k b q : Nat) : Prop := sc_nf s ∧ sc_gs s ∧ q < 12 ∧ sc_el s q ∧ k = sc_kd s q ∧ b = sc_bk s q ∧ sc_P s k b ∧ sc_age s b < 448 ∧
  (∀ g, sc_gd s g → sc_ga s k q g) ∧ (k = 3 → ¬ sc_rw s b)
def sc_Ci (s : sc_S) (k b : Nat) : Prop := sc_nf s ∧ sc_gs s ∧ b < 8 ∧ k = sc_sk s b ∧ 128 ≤ sc_age s b ∧ ¬ sc_wn s b ∧ sc_P s k b ∧
  ∀ x, x < 8 → 128 ≤ sc_age s x → ¬ sc_wn s x → sc_P s (sc_sk s x) x → sc_age s x ≤ sc_age s b ∧ (sc_age s x = sc_age s b → b ≤ x)
def sc_Cn (s : sc_S) (k : Nat) : Prop := sc_nf s ∧ sc_gs s ∧ k = 5 ∧ ∀ x, x < 8 → 128 ≤ sc_age s x → ¬ sc_wn s x → ¬ sc_P s (sc_sk s x) x
def sc_Ch (s : sc_S) (k b q : Nat) : Prop := sc_Cf s k b ∨ sc_Cg s k b q ∨ sc_Co s k b q ∨ sc_Ci s k b ∨ sc_Cn s k
/-- the state one clock later, command k on bank b for q -/
def sc_Ef (s t : sc_S) (k b q : Nat) : Prop :=
  sc_c t = sc_c s + 1 ∧ sc_rcd t = sc_rcd s ∧ sc_rp t = sc_rp s ∧ sc_rfc t = sc_rfc s ∧ sc_cap t = sc_cap s ∧ sc_dr t = sc_dr s ∧
  sc_a1 t = (if k = 0 then sc_c s else sc_a1 s) ∧ sc_a2 t = (if k = 0 then sc_a1 s else sc_a2 s) ∧ sc_a3 t = (if k = 0 then sc_a2 s else sc_a3 s) ∧ sc_a4 t = (if k = 0 then sc_a3 s else sc_a4 s) ∧
  sc_ar t = (if k = 1 then sc_c s else sc_ar s) ∧ sc_aw t = (if k = 2 then sc_c s else sc_aw s) ∧
  (∀ x, x < 8 → sc_age t x = (if k = 4 ∧ x = b then 0 else sc_age s x) + 1) ∧
  (∀ x, x < 8 → sc_op t x = if k = 0 ∧ x = b then sc_ro s q else if k = 3 ∧ x = b then -1 else sc_op s x) ∧
  (∀ x, x < 8 → sc_la t x = if k = 0 ∧ x = b then sc_c s else sc_la s x) ∧
  (∀ x, x < 8 → sc_lr t x = if k = 1 ∧ x = b then sc_c s else sc_lr s x) ∧
  (∀ x, x < 8 → sc_lw t x = if k = 2 ∧ x = b then sc_c s else sc_lw s x) ∧
  (∀ x, x < 8 → sc_lp t x = if k = 3 ∧ x = b then sc_c s else sc_lp s x) ∧
  (∀ x, x < 8 → sc_lf t x = if k = 4 ∧ x = b then sc_c s else sc_lf s x) ∧
  (∀ p, p < 12 → sc_pd t p = if (k = 1 ∧ p < 6 ∧ sc_ad s p = sc_ad s q) ∨ (k = 2 ∧ p = q) then 0 else sc_pd s p) ∧
  (∀ p, p < 12 → sc_fe t p = if (k = 1 ∨ (k = 2 ∧ p ≠ q)) ∧ 6 ≤ p ∧ sc_pd s p ≠ 0 ∧ sc_ad s p = sc_ad s q then 1 else sc_fe s p) ∧
  (∀ p, p < 12 → sc_ad t p = sc_ad s p ∧ sc_fu t p = sc_fu s p ∧ sc_bo t p = sc_bo s p ∧ sc_se t p = sc_se s p)
/-- well formed: what every state at a head of a clock keeps -/
def sc_W (s : sc_S) : Prop :=
  (1 ≤ sc_rcd s ∧ sc_rcd s ≤ 3 ∧ 1 ≤ sc_rp s ∧ sc_rp s ≤ 3 ∧ 4 ≤ sc_rfc s ∧ sc_rfc s ≤ 8 ∧ 8 ≤ sc_cap s ∧ sc_cap s ≤ 32) ∧
  0 ≤ sc_c s ∧ sc_a1 s < sc_c s ∧ sc_ar s < sc_c s ∧ sc_aw s < sc_c s ∧
  ((sc_a4 s ≤ -900 ∨ (sc_a4 s + 2 ≤ sc_a3 s ∧ sc_a3 s + 2 ≤ sc_a2 s ∧ sc_a2 s + 2 ≤ sc_a1 s)) ∧ (sc_a3 s ≤ -900 ∨ (sc_a3 s + 2 ≤ sc_a2 s ∧ sc_a2 s + 2 ≤ sc_a1 s)) ∧ (sc_a2 s ≤ -900 ∨ sc_a2 s + 2 ≤ sc_a1 s)) ∧
  (∀ b, b < 8 → sc_la s b < sc_c s ∧ sc_lr s b < sc_c s ∧ sc_lw s b < sc_c s ∧ sc_lp s b < sc_c s ∧ sc_lf s b + sc_age s b ≤ sc_c s ∧ 0 ≤ sc_age s b ∧
    sc_lr s b ≤ sc_ar s ∧ sc_lw s b ≤ sc_aw s ∧ sc_lf s b < sc_c s ∧ (0 ≤ sc_op s b → sc_lf s b + sc_rfc s ≤ sc_la s b)) ∧
  (∀ p q, p < 12 → q < 12 → sc_pd s p ≠ 0 → sc_pd s q ≠ 0 → (sc_se s p = sc_se s q → p = q) ∧ (sc_se s p < sc_se s q → sc_bo s p ≤ sc_bo s q))
/-- sums -/
def sc_sm (f : Nat → Int) : Nat → Int
  | 0 => 0
  | n + 1 => sc_sm f n + f n
theorem sc_sm_le {f g : Nat → Int} : ∀ n, (∀ i, i < n → f i ≤ g i) → sc_sm f n ≤ sc_sm g n
  | 0, _ => Int.le_refl 0
  | n + 1, h => Int.add_le_add (sc_sm_le n fun i hi => h i (by omega)) (h n (by omega))
theorem sc_sm_le1 {f g : Nat → Int} {d : Int} : ∀ n, (∀ i, i < n → f i ≤ g i) → ∀ k, k < n → f k + d ≤ g k → sc_sm f n + d ≤ sc_sm g n
  | 0, _, k, hk, _ => by omega
  | n + 1, h, k, hk, hd => by
    have h0 := h n (by omega)
    by_cases e : k = n
    · subst e
      have h1 := sc_sm_le k fun i hi => h i (by omega)
      show sc_sm f k + f k + d ≤ sc_sm g k + g k
      omega
    · have h1 := sc_sm_le1 n (fun i hi => h i (by omega)) k (by omega) hd
      show sc_sm f n + f n + d ≤ sc_sm g n + g n
      omega
theorem sc_sm_add (f g : Nat → Int) : ∀ n, sc_sm (fun i => f i + g i) n = sc_sm f n + sc_sm g n
  | 0 => rfl
  | n + 1 => by
    have h := sc_sm_add f g n
    show sc_sm (fun i => f i + g i) n + (f n + g n) = sc_sm f n + f n + (sc_sm g n + g n)
    omega
theorem sc_sm_cst (c : Int) : ∀ n : Nat, sc_sm (fun _ => c) n = n * c
  | 0 => by simp [sc_sm]
  | n + 1 => by
    show sc_sm (fun _ => c) n + c = _
    rw [sc_sm_cst c n]; simp [Int.add_mul]
theorem sc_sm_nn {f : Nat → Int} (n : Nat) (h : ∀ i, i < n → 0 ≤ f i) : 0 ≤ sc_sm f n := by
  have := sc_sm_le (f := fun _ => 0) (g := f) n h
  rw [sc_sm_cst] at this; simpa using this
theorem sc_sm_eq {f g : Nat → Int} (n : Nat) (h : ∀ i, i < n → f i = g i) : sc_sm f n = sc_sm g n :=
  Int.le_antisymm (sc_sm_le n fun i hi => Int.le_of_eq (h i hi)) (sc_sm_le n fun i hi => Int.le_of_eq (h i hi).symm)
theorem sc_sm_swap (f : Nat → Nat → Int) (m : Nat) : ∀ n, sc_sm (fun i => sc_sm (fun j => f i j) m) n = sc_sm (fun j => sc_sm (fun i => f i j) n) m
  | 0 => by
    show 0 = sc_sm (fun _ => 0) m
    rw [sc_sm_cst]; simp
  | n + 1 => by
    show sc_sm (fun i => sc_sm (fun j => f i j) m) n + sc_sm (fun j => f n j) m = sc_sm (fun j => sc_sm (fun i => f i j) n + f n j) m
    rw [sc_sm_add, sc_sm_swap f m n]
/-- in a sum each part is at most the whole, if none is below 0 -/
theorem sc_sm_one {f : Nat → Int} (n : Nat) (h : ∀ i, i < n → 0 ≤ f i) (k : Nat) (hk : k < n) : f k ≤ sc_sm f n := by
  have := sc_sm_le1 (f := fun _ => 0) (g := f) (d := f k) n h k hk (by omega)
  rw [sc_sm_cst] at this; simpa using this
end
section
/-! The guard's bound: clk + G ≤ X, as linear facts. -/
def sc_F (s : sc_S) (b : Nat) : Int := if sc_age s b < 448 then 0 else if sc_op s b < 0 then 15 else 16
def sc_tl (s : sc_S) (q : Nat) : Int := if q < 6 ∨ sc_fu s q ≠ 0 ∨ sc_fe s q ≠ 0 then 1 else 4
def sc_D (s : sc_S) (q : Nat) : Int := if q < 6 ∨ sc_fu s q ≠ 0 then 10 else 13
def sc_Gn (s : sc_S) (g : Nat) (X : Int) : Prop :=
  (sc_op s (sc_bk s g) < 0 → sc_c s + 3 + sc_tl s g ≤ X ∧ sc_lp s (sc_bk s g) + sc_rp s + 3 + sc_tl s g ≤ X ∧ sc_lf s (sc_bk s g) + sc_rfc s + 3 + sc_tl s g ≤ X ∧ sc_a1 s + 5 + sc_tl s g ≤ X ∧ sc_a4 s + 13 + sc_tl s g ≤ X) ∧
  (0 ≤ sc_op s (sc_bk s g) → sc_op s (sc_bk s g) ≠ sc_ro s g → sc_c s + 6 + sc_tl s g ≤ X ∧ sc_la s (sc_bk s g) + 11 + sc_tl s g ≤ X ∧ sc_lr s (sc_bk s g) + 8 + sc_tl s g ≤ X ∧ sc_lw s (sc_bk s g) + 10 + sc_tl s g ≤ X) ∧
  (0 ≤ sc_op s (sc_bk s g) → sc_op s (sc_bk s g) = sc_ro s g → sc_c s + sc_tl s g ≤ X ∧ sc_la s (sc_bk s g) + 3 + sc_tl s g ≤ X ∧
    (sc_kd s g = 1 → sc_ar s + 2 + sc_tl s g ≤ X ∧ sc_aw s + 4 + sc_tl s g ≤ X) ∧ (sc_kd s g = 2 → sc_aw s + 2 + sc_tl s g ≤ X ∧ sc_ar s + 3 + sc_tl s g ≤ X))
def sc_Gf (s : sc_S) (g : Nat) (X : Int) : Prop :=
  (0 ≤ sc_op s (sc_bk s g) → sc_c s + 14 + sc_tl s g ≤ X ∧ sc_la s (sc_bk s g) + 19 + sc_tl s g ≤ X ∧ sc_lr s (sc_bk s g) + 16 + sc_tl s g ≤ X ∧ sc_lw s (sc_bk s g) + 18 + sc_tl s g ≤ X) ∧
  (sc_op s (sc_bk s g) < 0 → sc_c s + 11 + sc_tl s g ≤ X ∧ sc_lp s (sc_bk s g) + sc_rp s + 11 + sc_tl s g ≤ X ∧ sc_lf s (sc_bk s g) + sc_rfc s + 11 + sc_tl s g ≤ X)
def sc_GB (s : sc_S) (g : Nat) (X : Int) : Prop := (sc_age s (sc_bk s g) < 448 → sc_Gn s g X) ∧ (448 ≤ sc_age s (sc_bk s g) → sc_Gf s g X)
theorem sc_tl_in (s : sc_S) (q : Nat) : sc_tl s q = 1 ∨ sc_tl s q = 4 := by unfold sc_tl; split <;> simp
theorem sc_D_in (s : sc_S) (q : Nat) : (sc_D s q = 10 ∨ sc_D s q = 13) ∧ sc_tl s q + 9 ≤ sc_D s q := by
  unfold sc_D sc_tl; constructor
  · split <;> simp
  · by_cases h : q < 6 ∨ sc_fu s q ≠ 0
    · have h2 : q < 6 ∨ sc_fu s q ≠ 0 ∨ sc_fe s q ≠ 0 := by cases h with | inl h => exact .inl h | inr h => exact .inr (.inl h)
      rw [if_pos h, if_pos h2]; decide
    · rw [if_neg h]; split <;> decide
theorem sc_kdA {s : sc_S} {q : Nat} (h : sc_op s (sc_bk s q) < 0) : sc_kd s q = 0 := by unfold sc_kd; rw [if_pos h]
theorem sc_kdW {s : sc_S} {q : Nat} (h : 0 ≤ sc_op s (sc_bk s q)) (h2 : sc_op s (sc_bk s q) ≠ sc_ro s q) : sc_kd s q = 3 := by
  unfold sc_kd; rw [if_neg (by omega), if_pos h2]
theorem sc_kdC {s : sc_S} {q : Nat} (h : 0 ≤ sc_op s (sc_bk s q)) (h2 : sc_op s (sc_bk s q) = sc_ro s q) : (sc_kd s q = 1 ∨ sc_kd s q = 2) := by
  unfold sc_kd; rw [if_neg (by omega), if_neg (by simpa using h2)]; split <;> simp
theorem sc_kd_in (s : sc_S) (q : Nat) : sc_kd s q = 0 ∨ sc_kd s q = 1 ∨ sc_kd s q = 2 ∨ sc_kd s q = 3 := by
  unfold sc_kd; split
  · simp
  · split
    · simp
    · split <;> simp
/-- a bank that reaches 448 costs 16 -/
theorem sc_hit {s : sc_S} {g : Nat} {X : Int} (w : sc_W s) (h : sc_Gn s g X) : sc_Gf s g (X + 16) := by
  obtain ⟨-, -, -, -, -, -, wb, -⟩ := w
  have wb := wb (sc_bk s g) (sc_bA_lt (sc_ad s g))
  have tl := sc_tl_in s g
  obtain ⟨hA, hW, hC⟩ := h
  refine ⟨fun ho => ?_, fun ho => ?_⟩
  · by_cases e : sc_op s (sc_bk s g) = sc_ro s g
    · obtain ⟨h1, h2, h3, h4⟩ := hC ho e
      rcases sc_kdC ho e with k | k
      · have h3 := h3 k; refine ⟨?_, ?_, ?_, ?_⟩ <;> omega
      · have h4 := h4 k; refine ⟨?_, ?_, ?_, ?_⟩ <;> omega
    · have h1 := hW ho e
      refine ⟨?_, ?_, ?_, ?_⟩ <;> omega
  · have h1 := hA ho
    refine ⟨?_, ?_, ?_⟩ <;> omega
/-- any guard has G ≤ D + 1 + F; one clock behind a column command D + F -/
theorem sc_start {s : sc_S} {g : Nat} {X : Int} (w : sc_W s) (h : sc_c s + 1 + sc_D s g + sc_F s (sc_bk s g) ≤ X) : sc_GB s g X := by
  obtain ⟨wp, w0, w1, w2, w3, w4, wb, -⟩ := w
  have wb := wb (sc_bk s g) (sc_bA_lt (sc_ad s g))
  have tl := sc_tl_in s g
  have hd := sc_D_in s g
  unfold sc_F at h
  refine ⟨fun ha => ?_, fun ha => ?_⟩
  · rw [if_pos ha] at h
    refine ⟨fun _ => ?_, fun _ _ => ?_, fun _ _ => ?_⟩
    · refine ⟨?_, ?_, ?_, ?_, ?_⟩ <;> omega
    · refine ⟨?_, ?_, ?_, ?_⟩ <;> omega
    · refine ⟨?_, ?_, fun _ => ⟨?_, ?_⟩, fun _ => ⟨?_, ?_⟩⟩ <;> omega
  · rw [if_neg (by omega)] at h
    refine ⟨fun ho => ?_, fun ho => ?_⟩
    · rw [if_neg (by omega)] at h
      refine ⟨?_, ?_, ?_, ?_⟩ <;> omega
    · rw [if_pos ho] at h
      refine ⟨?_, ?_, ?_⟩ <;> omega
theorem sc_start2 {s : sc_S} {g : Nat} {X : Int} (w : sc_W s) (h : sc_c s + sc_D s g + sc_F s (sc_bk s g) ≤ X)
    (hl : sc_op s (sc_bk s g) = sc_ro s g ∨ sc_la s (sc_bk s g) + 2 ≤ sc_c s) (hf : sc_lf s (sc_bk s g) + 2 ≤ sc_c s) : sc_GB s g X := by
  obtain ⟨wp, w0, w1, w2, w3, w4, wb, -⟩ := w
  have wb := wb (sc_bk s g) (sc_bA_lt (sc_ad s g))
  have tl := sc_tl_in s g
  have hd := sc_D_in s g
  unfold sc_F at h
  refine ⟨fun ha => ?_, fun ha => ?_⟩
  · rw [if_pos ha] at h
    refine ⟨fun _ => ?_, fun _ _ => ?_, fun _ _ => ?_⟩
    · refine ⟨?_, ?_, ?_, ?_, ?_⟩ <;> omega
    · refine ⟨?_, ?_, ?_, ?_⟩ <;> omega
    · refine ⟨?_, ?_, fun _ => ⟨?_, ?_⟩, fun _ => ⟨?_, ?_⟩⟩ <;> omega
  · rw [if_neg (by omega)] at h
    refine ⟨fun ho => ?_, fun ho => ?_⟩
    · rw [if_neg (by omega)] at h
      refine ⟨?_, ?_, ?_, ?_⟩ <;> omega
    · rw [if_pos ho] at h
      refine ⟨?_, ?_, ?_⟩ <;> omega
/-- G is at least 1 -/
theorem sc_GB_pos {s : sc_S} {g : Nat} {X : Int} (h : sc_GB s g X) : sc_c s + 1 ≤ X := by
  have tl := sc_tl_in s g
  by_cases ha : sc_age s (sc_bk s g) < 448
  · obtain ⟨hA, hW, hC⟩ := h.1 ha
    by_cases ho : sc_op s (sc_bk s g) < 0
    · have := hA ho; omega
    · by_cases e : sc_op s (sc_bk s g) = sc_ro s g
      · have := hC (by omega) e; omega
      · have := hW (by omega) e; omega
  · obtain ⟨hO, hC⟩ := h.2 (by omega)
    by_cases ho : sc_op s (sc_bk s g) < 0
    · have := hC ho; omega
    · have := hO (by omega); omega
/-- the guard's bank untouched, one clock later: the bound moves by one -/
theorem sc_Gn_later {s t : sc_S} {g : Nat} {X : Int} (hc : sc_c t = sc_c s + 1) (hrp : sc_rp t = sc_rp s) (hrf : sc_rfc t = sc_rfc s) (had : sc_ad t g = sc_ad s g)
    (ho : sc_op t (sc_bk s g) = sc_op s (sc_bk s g)) (hla : sc_la t (sc_bk s g) = sc_la s (sc_bk s g)) (hlr : sc_lr t (sc_bk s g) = sc_lr s (sc_bk s g)) (hlw : sc_lw t (sc_bk s g) = sc_lw s (sc_bk s g))
    (hlp : sc_lp t (sc_bk s g) = sc_lp s (sc_bk s g)) (hlf : sc_lf t (sc_bk s g) = sc_lf s (sc_bk s g))
    (hfu : sc_fu t g = sc_fu s g) (hfe : sc_fe t g = sc_fe s g)
    (ha : sc_kd s g = 0 → sc_a1 t = sc_a1 s ∧ sc_a4 t = sc_a4 s) (hco : (sc_kd s g = 1 ∨ sc_kd s g = 2) → sc_ar t = sc_ar s ∧ sc_aw t = sc_aw s)
    (h : sc_Gn s g X) : sc_Gn t g (X + 1) := by
  have hbk : sc_bk t g = sc_bk s g := by show sc_bA _ = sc_bA _; rw [had]
  have hro : sc_ro t g = sc_ro s g := by show sc_rA _ = sc_rA _; rw [had]
  have htl : sc_tl t g = sc_tl s g := by unfold sc_tl; rw [hfu, hfe]
  have hkd : sc_kd t g = sc_kd s g := by unfold sc_kd; rw [hbk, ho, hro, hfu, hfe]
  obtain ⟨hA, hW, hC⟩ := h
  unfold sc_Gn
  rw [hbk, hro, htl, hkd, ho, hla, hlr, hlw, hlp, hlf, hc, hrp, hrf]
  refine ⟨fun o => ?_, fun o e => ?_, fun o e => ?_⟩
  · obtain ⟨h1, h2⟩ := ha (sc_kdA o)
    have := hA o
    rw [h1, h2]
    refine ⟨?_, ?_, ?_, ?_, ?_⟩ <;> omega
  · have := hW o e
    refine ⟨?_, ?_, ?_, ?_⟩ <;> omega
  · obtain ⟨h1, h2⟩ := hco (sc_kdC o e)
    obtain ⟨h3, h4, h5, h6⟩ := hC o e
    rw [h1, h2]
    refine ⟨?_, ?_, fun k => ?_, fun k => ?_⟩
    · omega
    · omega
    · have := h5 k; omega
    · have := h6 k; omega
theorem sc_Gf_later {s t : sc_S} {g : Nat} {X : Int} (hc : sc_c t = sc_c s + 1) (hrp : sc_rp t = sc_rp s) (hrf : sc_rfc t = sc_rfc s) (had : sc_ad t g = sc_ad s g)
    (ho : sc_op t (sc_bk s g) = sc_op s (sc_bk s g)) (hla : sc_la t (sc_bk s g) = sc_la s (sc_bk s g)) (hlr : sc_lr t (sc_bk s g) = sc_lr s (sc_bk s g)) (hlw : sc_lw t (sc_bk s g) = sc_lw s (sc_bk s g))
    (hlp : sc_lp t (sc_bk s g) = sc_lp s (sc_bk s g)) (hlf : sc_lf t (sc_bk s g) = sc_lf s (sc_bk s g))
    (hfu : sc_fu t g = sc_fu s g) (hfe : sc_fe t g = sc_fe s g)
    (h : sc_Gf s g X) : sc_Gf t g (X + 1) := by
  have hbk : sc_bk t g = sc_bk s g := by show sc_bA _ = sc_bA _; rw [had]
  have htl : sc_tl t g = sc_tl s g := by unfold sc_tl; rw [hfu, hfe]
  obtain ⟨hA, hW⟩ := h
  unfold sc_Gf
  rw [hbk, htl, ho, hla, hlr, hlw, hlp, hlf, hc, hrp, hrf]
  refine ⟨fun o => ?_, fun o => ?_⟩
  · have := hA o
    refine ⟨?_, ?_, ?_, ?_⟩ <;> omega
  · have := hW o
    refine ⟨?_, ?_, ?_⟩ <;> omega
/-- a guard that is stuck has one clock to spare -/
theorem sc_Gn_stuck {s : sc_S} {g : Nat} {X : Int} (w : sc_W s) (hp : ¬ sc_P s (sc_kd s g) (sc_bk s g)) (h : sc_Gn s g X) :
    sc_Gn s g X ∧ (sc_op s (sc_bk s g) < 0 → sc_c s + 4 + sc_tl s g ≤ X) ∧ (0 ≤ sc_op s (sc_bk s g) → sc_op s (sc_bk s g) ≠ sc_ro s g → sc_c s + 7 + sc_tl s g ≤ X) ∧
    (0 ≤ sc_op s (sc_bk s g) → sc_op s (sc_bk s g) = sc_ro s g → sc_c s + 1 + sc_tl s g ≤ X) := by
  obtain ⟨wp, -⟩ := w
  refine ⟨h, fun o => ?_, fun o e => ?_, fun o e => ?_⟩
  · rw [sc_kdA o] at hp
    have := h.1 o
    unfold sc_P at hp; simp at hp
    omega
  · rw [sc_kdW o e] at hp
    have := h.2.1 o e
    unfold sc_P at hp; simp at hp
    omega
  · obtain ⟨h1, h2, h3, h4⟩ := h.2.2 o e
    rcases sc_kdC o e with k | k
    · have := h3 k
      rw [k] at hp; unfold sc_P at hp; simp at hp; omega
    · have := h4 k
      rw [k] at hp; unfold sc_P at hp; simp at hp; omega
theorem sc_Gf_stuck {s : sc_S} {g : Nat} {X : Int} (hp : ¬ sc_P s (sc_sk s (sc_bk s g)) (sc_bk s g)) (h : sc_Gf s g X) :
    (0 ≤ sc_op s (sc_bk s g) → sc_c s + 15 + sc_tl s g ≤ X) ∧ (sc_op s (sc_bk s g) < 0 → sc_c s + 12 + sc_tl s g ≤ X) := by
  refine ⟨fun o => ?_, fun o => ?_⟩
  · have := h.1 o
    unfold sc_sk at hp; rw [if_neg (by omega)] at hp
    unfold sc_P at hp; simp at hp
    omega
  · have := h.2 o
    unfold sc_sk at hp; rw [if_pos o] at hp
    unfold sc_P at hp; simp at hp
    omega
end
section
/-! One clock and the guard's bound. -/
def sc_hi (s t : sc_S) (x : Nat) : Int := if sc_age s x < 448 ∧ 448 ≤ sc_age t x then 1 else 0
theorem sc_hi_in (s t : sc_S) (x : Nat) : sc_hi s t x = 0 ∨ sc_hi s t x = 1 := by unfold sc_hi; split <;> simp
theorem sc_Gn_mono {s : sc_S} {g : Nat} {X Y : Int} (h : sc_Gn s g X) (l : X ≤ Y) : sc_Gn s g Y := by
  obtain ⟨hA, hW, hC⟩ := h
  refine ⟨fun o => ?_, fun o e => ?_, fun o e => ?_⟩
  · have := hA o; refine ⟨?_, ?_, ?_, ?_, ?_⟩ <;> omega
  · have := hW o e; refine ⟨?_, ?_, ?_, ?_⟩ <;> omega
  · obtain ⟨h1, h2, h3, h4⟩ := hC o e
    refine ⟨by omega, by omega, fun k => ?_, fun k => ?_⟩
    · have := h3 k; omega
    · have := h4 k; omega
theorem sc_Gf_mono {s : sc_S} {g : Nat} {X Y : Int} (h : sc_Gf s g X) (l : X ≤ Y) : sc_Gf s g Y := by
  obtain ⟨hA, hW⟩ := h
  refine ⟨fun o => ?_, fun o => ?_⟩
  · have := hA o; refine ⟨?_, ?_, ?_, ?_⟩ <;> omega
  · have := hW o; refine ⟨?_, ?_, ?_⟩ <;> omega
theorem sc_GB_mono {s : sc_S} {g : Nat} {X Y : Int} (h : sc_GB s g X) (l : X ≤ Y) : sc_GB s g Y :=
  ⟨fun a => sc_Gn_mono (h.1 a) l, fun a => sc_Gf_mono (h.2 a) l⟩
theorem sc_fin {s t : sc_S} {g : Nat} {Z : Int} (wt : sc_W t) (hb : sc_bk t g = sc_bk s g)
    (n : sc_age s (sc_bk s g) < 448 → sc_Gn t g Z)
    (f : 448 ≤ sc_age s (sc_bk s g) → (sc_age t (sc_bk s g) < 448 → sc_Gn t g Z) ∧ (448 ≤ sc_age t (sc_bk s g) → sc_Gf t g Z)) :
    sc_GB t g (Z + 16 * sc_hi s t (sc_bk s g)) := by
  unfold sc_GB
  rw [hb]
  by_cases a : sc_age s (sc_bk s g) < 448
  · refine ⟨fun a2 => ?_, fun a2 => ?_⟩
    · unfold sc_hi; rw [if_neg (by omega)]
      exact sc_Gn_mono (n a) (by omega)
    · unfold sc_hi; rw [if_pos ⟨a, a2⟩]
      exact sc_hit wt (n a)
  · have f := f (by omega)
    have e : sc_hi s t (sc_bk s g) = 0 := by unfold sc_hi; rw [if_neg (by omega)]
    rw [e]
    exact ⟨fun a2 => sc_Gn_mono (f.1 a2) (by omega), fun a2 => sc_Gf_mono (f.2 a2) (by omega)⟩
/-- what a command on another bank leaves alone -/
theorem sc_Ef_ne {s t : sc_S} {k b q x : Nat} (e : sc_Ef s t k b q) (hx : x < 8) (n : x ≠ b) :
    sc_op t x = sc_op s x ∧ sc_la t x = sc_la s x ∧ sc_lr t x = sc_lr s x ∧ sc_lw t x = sc_lw s x ∧ sc_lp t x = sc_lp s x ∧ sc_lf t x = sc_lf s x ∧ sc_age t x = sc_age s x + 1 := by
  obtain ⟨-, -, -, -, -, -, -, -, -, -, -, -, ea, eo, e1, e2, e3, e4, e5, -⟩ := e
  have ea := ea x hx; have eo := eo x hx; have e1 := e1 x hx; have e2 := e2 x hx; have e3 := e3 x hx; have e4 := e4 x hx; have e5 := e5 x hx
  rw [if_neg (fun h => n h.2)] at e1 e2 e3 e4 e5 ea
  rw [if_neg (fun h => n h.2), if_neg (fun h => n h.2)] at eo
  exact ⟨eo, e1, e2, e3, e4, e5, ea⟩
theorem sc_Ef_rq {s t : sc_S} {k b q p : Nat} (e : sc_Ef s t k b q) (hp : p < 12) :
    sc_ad t p = sc_ad s p ∧ sc_fu t p = sc_fu s p ∧ sc_bo t p = sc_bo s p ∧ sc_se t p = sc_se s p ∧ sc_bk t p = sc_bk s p ∧ sc_ro t p = sc_ro s p ∧ sc_D t p = sc_D s p := by
  obtain ⟨-, -, -, -, -, -, -, -, -, -, -, -, -, -, -, -, -, -, -, -, -, er⟩ := e
  obtain ⟨h1, h2, h3, h4⟩ := er p hp
  refine ⟨h1, h2, h3, h4, ?_, ?_, ?_⟩
  · show sc_bA _ = sc_bA _; rw [h1]
  · show sc_rA _ = sc_rA _; rw [h1]
  · unfold sc_D; rw [h2]
theorem sc_Ef_sc {s t : sc_S} {k b q : Nat} (e : sc_Ef s t k b q) :
    sc_c t = sc_c s + 1 ∧ sc_rcd t = sc_rcd s ∧ sc_rp t = sc_rp s ∧ sc_rfc t = sc_rfc s ∧ sc_cap t = sc_cap s ∧ sc_dr t = sc_dr s := by
  obtain ⟨h1, h2, h3, h4, h5, h6, -⟩ := e
  exact ⟨h1, h2, h3, h4, h5, h6⟩
theorem sc_Ef_a {s t : sc_S} {k b q : Nat} (e : sc_Ef s t k b q) (hk : k ≠ 0) : sc_a1 t = sc_a1 s ∧ sc_a4 t = sc_a4 s := by
  obtain ⟨-, -, -, -, -, -, e1, -, -, e4, -⟩ := e
  rw [if_neg hk] at e1 e4
  exact ⟨e1, e4⟩
theorem sc_Ef_co {s t : sc_S} {k b q : Nat} (e : sc_Ef s t k b q) (h1 : k ≠ 1) (h2 : k ≠ 2) : sc_ar t = sc_ar s ∧ sc_aw t = sc_aw s := by
  obtain ⟨-, -, -, -, -, -, -, -, -, -, er, ew, -⟩ := e
  rw [if_neg h1] at er
  rw [if_neg h2] at ew
  exact ⟨er, ew⟩
/-- a request of another address keeps its mark -/
theorem sc_Ef_fe {s t : sc_S} {k b q p : Nat} (e : sc_Ef s t k b q) (hp : p < 12) (n : (k = 1 ∨ k = 2) → sc_ad s p ≠ sc_ad s q) : sc_fe t p = sc_fe s p := by
  obtain ⟨-, -, -, -, -, -, -, -, -, -, -, -, -, -, -, -, -, -, -, -, ef, -⟩ := e
  rw [ef p hp, if_neg]
  rintro ⟨h1, -, -, h2⟩
  rcases h1 with h1 | ⟨h1, -⟩
  · exact n (.inl h1) h2
  · exact n (.inr h1) h2
theorem sc_Ef_pd {s t : sc_S} {k b q p : Nat} (e : sc_Ef s t k b q) (hp : p < 12) (h : sc_pd t p ≠ 0) : sc_pd s p ≠ 0 ∧ ¬ (k = 1 ∧ p < 6 ∧ sc_ad s p = sc_ad s q) ∧ ¬ (k = 2 ∧ p = q) := by
  obtain ⟨-, -, -, -, -, -, -, -, -, -, -, -, -, -, -, -, -, -, -, ep, -⟩ := e
  have ep := ep p hp
  by_cases c : (k = 1 ∧ p < 6 ∧ sc_ad s p = sc_ad s q) ∨ (k = 2 ∧ p = q)
  · rw [if_pos c] at ep; exact absurd ep h
  · rw [if_neg c] at ep
    rw [ep] at h
    exact ⟨h, fun z => c (.inl z), fun z => c (.inr z)⟩
theorem sc_Ef_gone {s t : sc_S} {k b q p : Nat} (e : sc_Ef s t k b q) (hp : p < 12) (h : sc_pd s p ≠ 0) (h2 : sc_pd t p = 0) : (k = 1 ∧ p < 6 ∧ sc_ad s p = sc_ad s q) ∨ (k = 2 ∧ p = q) := by
  obtain ⟨-, -, -, -, -, -, -, -, -, -, -, -, -, -, -, -, -, -, -, ep, -⟩ := e
  have ep := ep p hp
  by_cases c : (k = 1 ∧ p < 6 ∧ sc_ad s p = sc_ad s q) ∨ (k = 2 ∧ p = q)
  · exact c
  · rw [if_neg c, h2] at ep; exact absurd ep.symm h
theorem sc_gd_un {s : sc_S} {g h : Nat} (w : sc_W s) (hg : sc_gd s g) (hh : sc_gd s h) : g = h := by
  obtain ⟨-, -, -, -, -, -, -, ws⟩ := w
  have h1 := hg.2.2.1 h hh.1 hh.2.1
  have h2 := hh.2.2.1 g hg.1 hg.2.1
  exact (ws g h hg.1 hh.1 hg.2.1 hh.2.1).1 (by omega)
/-- the guard stuck, its bank untouched -/
theorem sc_stay {s t : sc_S} {k b q g : Nat} {X : Int} (w : sc_W s) (wt : sc_W t) (e : sc_Ef s t k b q) (hg : sc_gd s g) (hnf : sc_nf s) (hgs : sc_gs s) (hb : sc_bk s g ≠ b)
    (ha : sc_kd s g = 0 → k ≠ 0) (hco : (sc_kd s g = 1 ∨ sc_kd s g = 2) → k ≠ 1 ∧ k ≠ 2) (had : (k = 1 ∨ k = 2) → sc_ad s g ≠ sc_ad s q)
    (h : sc_GB s g X) : sc_GB t g (X + 16 * sc_hi s t (sc_bk s g)) := by
  obtain ⟨c1, c2, c3, c4, c5, c6⟩ := sc_Ef_sc e
  obtain ⟨r1, r2, r3, r4, r5, r6, r7⟩ := sc_Ef_rq e hg.1
  obtain ⟨b1, b2, b3, b4, b5, b6, b7⟩ := sc_Ef_ne (x := sc_bk s g) e (sc_bA_lt (sc_ad s g)) hb
  have fe := sc_Ef_fe e hg.1 had
  have tl := sc_tl_in s g
  refine sc_fin wt r5 (fun a => ?_) (fun a => ?_)
  · obtain ⟨h0, hA, hW, hC⟩ := sc_Gn_stuck w (hgs g hg a) (h.1 a)
    have h1 : sc_Gn s g X ∧ True := ⟨h0, trivial⟩
    have hx : sc_Gn t g (X - 1 + 1) := by
      have l := sc_Gn_later (t := t) (X := X) c1 c3 c4 r1 b1 b2 b3 b4 b5 b6 r2 fe (fun z => sc_Ef_a e (ha z)) (fun z => sc_Ef_co e (hco z).1 (hco z).2) h0
      obtain ⟨lA, lW, lC⟩ := l
      have e1 : sc_op t (sc_bk t g) = sc_op s (sc_bk s g) := by rw [r5, b1]
      have htl : sc_tl t g = sc_tl s g := by unfold sc_tl; rw [r2, fe]
      have e2 : sc_la t (sc_bk t g) = sc_la s (sc_bk s g) := by rw [r5, b2]
      have e3 : sc_lr t (sc_bk t g) = sc_lr s (sc_bk s g) := by rw [r5, b3]
      have e4 : sc_lw t (sc_bk t g) = sc_lw s (sc_bk s g) := by rw [r5, b4]
      have e5 : sc_lp t (sc_bk t g) = sc_lp s (sc_bk s g) := by rw [r5, b5]
      have e6 : sc_lf t (sc_bk t g) = sc_lf s (sc_bk s g) := by rw [r5, b6]
      have hkd : sc_kd t g = sc_kd s g := by unfold sc_kd; rw [e1, r6, r2, fe]
      obtain ⟨gA, gW, gC⟩ := h0
      unfold sc_Gn
      rw [e1, r6, htl, hkd, e2, e3, e4, e5, e6, c1, c3, c4]
      refine ⟨fun o => ?_, fun o e => ?_, fun o e => ?_⟩
      · obtain ⟨a1, a2⟩ := sc_Ef_a e (ha (sc_kdA o))
        rw [a1, a2]
        have := gA o; have := hA o
        refine ⟨?_, ?_, ?_, ?_, ?_⟩ <;> omega
      · have := gW o e; have := hW o e
        refine ⟨?_, ?_, ?_, ?_⟩ <;> omega
      · rename_i e0
        obtain ⟨a1, a2⟩ := sc_Ef_co e0 (hco (sc_kdC o e)).1 (hco (sc_kdC o e)).2
        rw [a1, a2]
        obtain ⟨h3, h4, h5, h6⟩ := gC o e
        have := hC o e
        refine ⟨?_, ?_, fun k => ?_, fun k => ?_⟩
        · omega
        · omega
        · have := h5 k; omega
        · have := h6 k; omega
    exact sc_Gn_mono hx (by omega)
  · have st := sc_Gf_stuck (hnf (sc_bk s g) (sc_bA_lt (sc_ad s g)) a) (h.2 a)
    refine ⟨fun a2 => by omega, fun a2 => ?_⟩
    obtain ⟨gO, gC⟩ := h.2 a
    have e1 : sc_op t (sc_bk t g) = sc_op s (sc_bk s g) := by rw [r5, b1]
    have htl : sc_tl t g = sc_tl s g := by unfold sc_tl; rw [r2, fe]
    have e2 : sc_la t (sc_bk t g) = sc_la s (sc_bk s g) := by rw [r5, b2]
    have e3 : sc_lr t (sc_bk t g) = sc_lr s (sc_bk s g) := by rw [r5, b3]
    have e4 : sc_lw t (sc_bk t g) = sc_lw s (sc_bk s g) := by rw [r5, b4]
    have e5 : sc_lp t (sc_bk t g) = sc_lp s (sc_bk s g) := by rw [r5, b5]
    have e6 : sc_lf t (sc_bk t g) = sc_lf s (sc_bk s g) := by rw [r5, b6]
    unfold sc_Gf
    rw [e1, htl, e2, e3, e4, e5, e6, c1, c3, c4]
    refine ⟨fun o => ?_, fun o => ?_⟩
    · have := gO o; have := st.1 o
      refine ⟨?_, ?_, ?_, ?_⟩ <;> omega
    · have := gC o; have := st.2 o
      refine ⟨?_, ?_, ?_⟩ <;> omega
end
section
/-! The guard's bound over one clock, all choices. -/
theorem sc_Ef_at {s t : sc_S} {k b q : Nat} (e : sc_Ef s t k b q) (hb : b < 8) :
    sc_op t b = (if k = 0 then sc_ro s q else if k = 3 then -1 else sc_op s b) ∧ sc_la t b = (if k = 0 then sc_c s else sc_la s b) ∧ sc_lr t b = (if k = 1 then sc_c s else sc_lr s b) ∧
    sc_lw t b = (if k = 2 then sc_c s else sc_lw s b) ∧ sc_lp t b = (if k = 3 then sc_c s else sc_lp s b) ∧ sc_lf t b = (if k = 4 then sc_c s else sc_lf s b) ∧
    sc_age t b = (if k = 4 then 0 else sc_age s b) + 1 := by
  obtain ⟨-, -, -, -, -, -, -, -, -, -, -, -, ea, eo, e1, e2, e3, e4, e5, -⟩ := e
  have ea := ea b hb; have eo := eo b hb; have e1 := e1 b hb; have e2 := e2 b hb; have e3 := e3 b hb; have e4 := e4 b hb; have e5 := e5 b hb
  simp only [and_true] at ea eo e1 e2 e3 e4 e5
  exact ⟨eo, e1, e2, e3, e4, e5, ea⟩
/-- a refresh step on another bank -/
theorem sc_fother {s t : sc_S} {k b q g : Nat} {X : Int} (wt : sc_W t) (e : sc_Ef s t k b q) (hg : sc_gd s g) (hk : k = 3 ∨ k = 4) (hb : sc_bk s g ≠ b)
    (h : sc_GB s g X) : sc_GB t g (X + 1 + 16 * sc_hi s t (sc_bk s g)) := by
  obtain ⟨c1, c2, c3, c4, c5, c6⟩ := sc_Ef_sc e
  obtain ⟨r1, r2, r3, r4, r5, r6, r7⟩ := sc_Ef_rq e hg.1
  obtain ⟨b1, b2, b3, b4, b5, b6, b7⟩ := sc_Ef_ne (x := sc_bk s g) e (sc_bA_lt (sc_ad s g)) hb
  have fe := sc_Ef_fe e hg.1 (by omega)
  refine sc_fin wt r5 (fun a => ?_) (fun a => ?_)
  · exact sc_Gn_later c1 c3 c4 r1 b1 b2 b3 b4 b5 b6 r2 fe (fun _ => sc_Ef_a e (by omega)) (fun _ => sc_Ef_co e (by omega) (by omega)) (h.1 a)
  · exact ⟨fun a2 => by omega, fun _ => sc_Gf_later c1 c3 c4 r1 b1 b2 b3 b4 b5 b6 r2 fe (h.2 a)⟩
/-- a forced refresh step on the guard's own bank -/
theorem sc_fown {s t : sc_S} {k q g : Nat} {X : Int} (w : sc_W s) (wt : sc_W t) (e : sc_Ef s t k (sc_bk s g) q) (hg : sc_gd s g) (hk : k = sc_sk s (sc_bk s g)) (ha : 448 ≤ sc_age s (sc_bk s g))
    (h : sc_GB s g X) : sc_GB t g (X + 16 * sc_hi s t (sc_bk s g)) := by
  obtain ⟨c1, c2, c3, c4, c5, c6⟩ := sc_Ef_sc e
  obtain ⟨r1, r2, r3, r4, r5, r6, r7⟩ := sc_Ef_rq e hg.1
  obtain ⟨b1, b2, b3, b4, b5, b6, b7⟩ := sc_Ef_at e (sc_bA_lt (sc_ad s g))
  have h34 : k = 3 ∨ k = 4 := by rw [hk]; unfold sc_sk; split <;> simp
  have fe := sc_Ef_fe e hg.1 (by omega)
  have htl : sc_tl t g = sc_tl s g := by unfold sc_tl; rw [r2, fe]
  have tl := sc_tl_in s g
  obtain ⟨a1, a4⟩ := sc_Ef_a e (by omega)
  obtain ⟨wp, w0, w1, w2, w3, w4, wb, -⟩ := w
  have wb := wb (sc_bk s g) (sc_bA_lt (sc_ad s g))
  obtain ⟨gO, gC⟩ := h.2 ha
  refine sc_fin wt r5 (fun a => by omega) (fun _ => ?_)
  by_cases o : sc_op s (sc_bk s g) < 0
  · have hk4 : k = 4 := by rw [hk]; unfold sc_sk; rw [if_pos o]
    subst hk4
    simp only [reduceIte, Nat.reduceEqDiff] at b1 b2 b3 b4 b5 b6 b7
    have := gC o
    refine ⟨fun _ => ?_, fun a2 => by omega⟩
    unfold sc_Gn
    rw [r5, r6, htl, b1, b2, b3, b4, b5, b6, c1, c3, c4, a1, a4]
    refine ⟨fun _ => ?_, fun o2 => by omega, fun o2 => by omega⟩
    refine ⟨?_, ?_, ?_, ?_, ?_⟩ <;> omega
  · have hk3 : k = 3 := by rw [hk]; unfold sc_sk; rw [if_neg o]
    subst hk3
    simp only [reduceIte, Nat.reduceEqDiff] at b1 b2 b3 b4 b5 b6 b7
    have := gO (by omega)
    refine ⟨fun a2 => by omega, fun _ => ?_⟩
    unfold sc_Gf
    rw [r5, htl, b1, b2, b3, b4, b5, b6, c1, c3, c4]
    refine ⟨fun o2 => by omega, fun _ => ?_⟩
    refine ⟨?_, ?_, ?_⟩ <;> omega
/-- the guard goes -/
theorem sc_gown {s t : sc_S} {g : Nat} {X : Int} (w : sc_W s) (wt : sc_W t) (e : sc_Ef s t (sc_kd s g) (sc_bk s g) g) (hg : sc_gd s g) (hp : sc_pd t g ≠ 0) (ha : sc_age s (sc_bk s g) < 448)
    (h : sc_GB s g X) : sc_GB t g (X + 16 * sc_hi s t (sc_bk s g)) := by
  obtain ⟨c1, c2, c3, c4, c5, c6⟩ := sc_Ef_sc e
  obtain ⟨r1, r2, r3, r4, r5, r6, r7⟩ := sc_Ef_rq e hg.1
  obtain ⟨b1, b2, b3, b4, b5, b6, b7⟩ := sc_Ef_at e (sc_bA_lt (sc_ad s g))
  have tl := sc_tl_in s g
  obtain ⟨-, p1, p2⟩ := sc_Ef_pd e hg.1 hp
  have ee := e
  obtain ⟨-, -, -, -, -, -, e1, -, -, e4, er, ew, -, -, -, -, -, -, -, -, ef, -⟩ := ee
  have ef := ef g hg.1
  obtain ⟨wp, w0, w1, w2, w3, w4, wb, -⟩ := w
  have wb := wb (sc_bk s g) (sc_bA_lt (sc_ad s g))
  have ro := sc_rA_in (sc_ad s g)
  obtain ⟨gA, gW, gC⟩ := h.1 ha
  refine sc_fin wt r5 (fun _ => ?_) (fun a => by omega)
  by_cases o : sc_op s (sc_bk s g) < 0
  · have k0 := sc_kdA o
    rw [k0] at b1 b2 b3 b4 b5 b6 b7 e1 e4 er ew ef
    simp at b1 b2 b3 b4 b5 b6 b7 e1 e4 er ew ef
    have htl : sc_tl t g = sc_tl s g := by unfold sc_tl; rw [r2, ef]
    have := gA o
    have o2 : 0 ≤ sc_op t (sc_bk t g) := by rw [r5, b1]; exact ro.1
    have o3 : sc_op t (sc_bk t g) = sc_ro t g := by rw [r5, b1, r6]
    refine ⟨fun z => by omega, fun _ z => absurd o3 z, fun _ _ => ?_⟩
    rw [r5, htl, b2, c1, er, ew]
    refine ⟨?_, ?_, fun _ => ⟨?_, ?_⟩, fun _ => ⟨?_, ?_⟩⟩ <;> omega
  · by_cases eq : sc_op s (sc_bk s g) = sc_ro s g
    · obtain ⟨h1, h2, h3, h4⟩ := gC (by omega) eq
      rcases sc_kdC (by omega) eq with k1 | k2
      · have h3 := h3 k1
        have g6 : 6 ≤ g := by
          rcases Nat.lt_or_ge g 6 with z | z
          · exact absurd ⟨k1, z, rfl⟩ p1
          · exact z
        rw [k1] at b1 b2 b3 b4 b5 b6 b7 e1 e4 er ew ef
        rw [if_pos ⟨.inl rfl, g6, hg.2.1, rfl⟩] at ef
        simp at b1 b2 b3 b4 b5 b6 b7 e1 e4 er ew
        have tl4 : sc_tl s g = 4 := by
          unfold sc_kd at k1
          rw [if_neg o, if_neg (by simpa using eq)] at k1
          unfold sc_tl
          rw [if_neg]
          rintro (z | z | z)
          · omega
          · rw [if_neg (by intro z2; rcases z2 with z2 | z2; omega; exact z z2.1)] at k1; simp at k1
          · rw [if_neg (by intro z2; rcases z2 with z2 | z2; omega; exact z z2.2)] at k1; simp at k1
        have tl1 : sc_tl t g = 1 := by unfold sc_tl; rw [if_pos (.inr (.inr (by rw [ef]; decide)))]
        have o2 : sc_op t (sc_bk t g) = sc_op s (sc_bk s g) := by rw [r5, b1]
        have kt : sc_kd t g = 2 := by
          unfold sc_kd
          rw [o2, if_neg o, r6, if_neg (by simpa using eq), if_neg]
          rintro (z | z)
          · omega
          · rw [ef] at z; simp at z
        unfold sc_Gn
        rw [o2, r6, tl1, kt, r5, b2, c1, er, ew]
        refine ⟨fun z => by omega, fun _ z => absurd eq z, fun _ _ => ⟨?_, ?_, fun z => by simp at z, fun _ => ⟨?_, ?_⟩⟩⟩ <;> omega
      · exact absurd ⟨k2, rfl⟩ p2
    · have k3 := sc_kdW (by omega) eq
      rw [k3] at b1 b2 b3 b4 b5 b6 b7 e1 e4 er ew ef
      simp at b1 b2 b3 b4 b5 b6 b7 e1 e4 er ew ef
      have htl : sc_tl t g = sc_tl s g := by unfold sc_tl; rw [r2, ef]
      have := gW (by omega) eq
      have o2 : sc_op t (sc_bk t g) = -1 := by rw [r5, b1]
      unfold sc_Gn
      rw [o2, htl, r5, b5, b6, c1, c3, c4, e1, e4]
      refine ⟨fun _ => ⟨?_, ?_, ?_, ?_, ?_⟩, fun z => by omega, fun z => by omega⟩ <;> omega
/-- the guard's bound over one clock; a forced step elsewhere costs one -/
theorem sc_gstep {s t : sc_S} {k b q g : Nat} {X : Int} (w : sc_W s) (wt : sc_W t) (e : sc_Ef s t k b q) (ch : sc_Ch s k b q) (hg : sc_gd s g) (hp : sc_pd t g ≠ 0) (h : sc_GB s g X) :
    sc_GB t g (X + 16 * sc_hi s t (sc_bk s g)) ∨ (sc_Cf s k b ∧ b ≠ sc_bk s g ∧ sc_GB t g (X + 1 + 16 * sc_hi s t (sc_bk s g))) := by
  rcases ch with c | c | c | c | c
  · have h34 : k = 3 ∨ k = 4 := by rw [c.2.1]; unfold sc_sk; split <;> simp
    by_cases hb : b = sc_bk s g
    · subst hb
      exact .inl (sc_fown w wt e hg c.2.1 c.2.2.1 h)
    · exact .inr ⟨c, hb, sc_fother wt e hg h34 (fun z => hb z.symm) h⟩
  · obtain ⟨-, cg, ck, cb, -, ca⟩ := c
    have := sc_gd_un w hg cg
    subst this; subst ck; subst cb
    exact .inl (sc_gown w wt e hg hp ca h)
  · obtain ⟨cn, cs, cq, -, ck, cb, -, ca, cga, -⟩ := c
    obtain ⟨n, m⟩ := cga g hg
    have hb : sc_bk s g ≠ b := by rw [cb]; exact fun z => n z.symm
    refine .inl (sc_stay w wt e hg cn cs hb (fun z => ?_) (fun z => ?_) (fun _ z => ?_) h)
    · omega
    · omega
    · exact n (by show sc_bA _ = sc_bA _; rw [z])
  · obtain ⟨cn, cs, cb, ck, -, cw, -⟩ := c
    have h34 : k = 3 ∨ k = 4 := by rw [ck]; unfold sc_sk; split <;> simp
    have hb : sc_bk s g ≠ b := fun z => cw ⟨g, hg.1, hg.2.1, z⟩
    exact .inl (sc_stay w wt e hg cn cs hb (fun z => by omega) (fun z => by omega) (fun z => by omega) h)
  · obtain ⟨cn, cs, ck, -⟩ := c
    subst ck
    by_cases hb : sc_bk s g = b
    · -- no command: the bank is untouched all the same
      have e' : sc_Ef s t 5 8 q := by
        obtain ⟨g1, g2, g3, g4, g5, g6, g7, g8, g9, g10, g11, g12, ea, eo, e1, e2, e3, e4, e5, g13⟩ := e
        refine ⟨g1, g2, g3, g4, g5, g6, g7, g8, g9, g10, g11, g12, ?_, ?_, ?_, ?_, ?_, ?_, ?_, g13⟩
        · intro x hx; rw [ea x hx]; simp
        · intro x hx; rw [eo x hx]; simp
        · intro x hx; rw [e1 x hx]; simp
        · intro x hx; rw [e2 x hx]; simp
        · intro x hx; rw [e3 x hx]; simp
        · intro x hx; rw [e4 x hx]; simp
        · intro x hx; rw [e5 x hx]; simp
      have hb8 : sc_bk s g ≠ 8 := by have := sc_bA_lt (sc_ad s g); exact Nat.ne_of_lt this
      exact .inl (sc_stay w wt e' hg cn cs hb8 (fun z => by omega) (fun z => by omega) (fun z => by omega) h)
    · exact .inl (sc_stay w wt e hg cn cs hb (fun z => by omega) (fun z => by omega) (fun z => by omega) h)
end
section
/-! The chain of bounds T, over one clock. -/
abbrev sc_ns (s : sc_S) : Int := s 0 8
def sc_FS (s : sc_S) : Int := sc_sm (sc_F s) 8
def sc_H (s t : sc_S) : Int := sc_sm (sc_hi s t) 8
def sc_CH (s : sc_S) (N : Int) (T : Nat → Int) : Prop :=
  (∀ p q, p < 12 → q < 12 → sc_pd s p ≠ 0 → sc_pd s q ≠ 0 → sc_se s p < sc_se s q → sc_se s q < N → T p + sc_D s q ≤ T q) ∧
  (∀ q, q < 12 → sc_pd s q ≠ 0 → sc_se s q < N → sc_bo s q + sc_cap s + 1 + sc_D s q + sc_FS s ≤ T q) ∧
  (∀ g, sc_gd s g → sc_se s g < N → sc_GB s g (T g - sc_FS s + sc_F s (sc_bk s g)))
theorem sc_F_in (s : sc_S) (b : Nat) : sc_F s b = 0 ∨ sc_F s b = 15 ∨ sc_F s b = 16 := by unfold sc_F; split; simp; split <;> simp
/-- what the commands on a bank need of its age -/
theorem sc_Ch_age {s : sc_S} {k b q : Nat} (c : sc_Ch s k b q) : (k = 0 ∨ k = 1 ∨ k = 2) → sc_age s b < 448 := by
  intro hk
  rcases c with c | c | c | c | c
  · have h34 : k = 3 ∨ k = 4 := by rw [c.2.1]; unfold sc_sk; split <;> simp
    omega
  · exact c.2.2.2.2.2
  · exact c.2.2.2.2.2.2.2.1
  · have h34 : k = 3 ∨ k = 4 := by rw [c.2.2.2.1]; unfold sc_sk; split <;> simp
    omega
  · have := c.2.2.1; omega
theorem sc_F_step {s t : sc_S} {k b q : Nat} (e : sc_Ef s t k b q) (c : sc_Ch s k b q) (x : Nat) (hx : x < 8) : sc_F t x ≤ sc_F s x + 16 * sc_hi s t x := by
  by_cases n : x = b
  · subst n
    obtain ⟨b1, -, -, -, -, -, b7⟩ := sc_Ef_at e hx
    have ca := sc_Ch_age c
    by_cases a : sc_age s x < 448
    · have e1 : sc_F s x = 0 := by unfold sc_F; rw [if_pos a]
      rw [e1]
      by_cases a2 : sc_age t x < 448
      · have e2 : sc_F t x = 0 := by unfold sc_F; rw [if_pos a2]
        have := sc_hi_in s t x; omega
      · have e2 : sc_hi s t x = 1 := by unfold sc_hi; rw [if_pos (by omega)]
        have := sc_F_in t x; omega
    · have hk : k ≠ 0 := fun z => by have := ca (.inl z); omega
      rw [if_neg hk] at b1
      have e2 : sc_hi s t x = 0 := by unfold sc_hi; rw [if_neg (by omega)]
      rw [e2]
      unfold sc_F
      rw [b1, b7, if_neg a]
      by_cases k3 : k = 3
      · subst k3; simp
        split
        · split <;> omega
        · split <;> omega
      · by_cases k4 : k = 4
        · subst k4; simp; split <;> omega
        · rw [if_neg k4, if_neg k3, if_neg (by omega)]; omega
  · obtain ⟨b1, -, -, -, -, -, b7⟩ := sc_Ef_ne e hx n
    by_cases a : sc_age s x < 448
    · have e1 : sc_F s x = 0 := by unfold sc_F; rw [if_pos a]
      rw [e1]
      by_cases a2 : sc_age t x < 448
      · have e2 : sc_F t x = 0 := by unfold sc_F; rw [if_pos a2]
        have := sc_hi_in s t x; omega
      · have e2 : sc_hi s t x = 1 := by unfold sc_hi; rw [if_pos (by omega)]
        have := sc_F_in t x; omega
    · have e2 : sc_hi s t x = 0 := by unfold sc_hi; rw [if_neg (by omega)]
      rw [e2]; unfold sc_F; rw [b1, if_neg a, if_neg (by omega)]; omega
/-- a forced step takes at least one of F -/
theorem sc_F_forced {s t : sc_S} {k b q : Nat} (e : sc_Ef s t k b q) (c : sc_Cf s k b) : sc_F t b + 1 ≤ sc_F s b + 16 * sc_hi s t b := by
  obtain ⟨hb, hk, ha, -⟩ := c
  obtain ⟨b1, -, -, -, -, -, b7⟩ := sc_Ef_at e hb
  have e2 : sc_hi s t b = 0 := by unfold sc_hi; rw [if_neg (by omega)]
  rw [e2]
  by_cases o : sc_op s b < 0
  · have : k = 4 := by rw [hk]; unfold sc_sk; rw [if_pos o]
    subst this
    simp at b7
    have e3 : sc_F t b = 0 := by unfold sc_F; rw [if_pos (by omega)]
    have e4 : sc_F s b = 15 := by unfold sc_F; rw [if_neg (by omega), if_pos o]
    omega
  · have : k = 3 := by rw [hk]; unfold sc_sk; rw [if_neg o]
    subst this
    simp at b1 b7
    have e3 : sc_F t b = 15 := by unfold sc_F; rw [if_neg (by omega), if_pos (by omega)]
    have e4 : sc_F s b = 16 := by unfold sc_F; rw [if_neg (by omega), if_neg o]
    omega
theorem sc_sm_mul (f : Nat → Int) (c : Int) : ∀ n, sc_sm (fun i => c * f i) n = c * sc_sm f n
  | 0 => by simp [sc_sm]
  | n + 1 => by
    show sc_sm (fun i => c * f i) n + c * f n = c * (sc_sm f n + f n)
    rw [sc_sm_mul f c n, Int.mul_add]
theorem sc_FS_step {s t : sc_S} {k b q : Nat} (e : sc_Ef s t k b q) (c : sc_Ch s k b q) : sc_FS t ≤ sc_FS s + 16 * sc_H s t := by
  unfold sc_FS sc_H
  rw [← sc_sm_mul, ← sc_sm_add]
  exact sc_sm_le 8 fun x hx => sc_F_step e c x hx
/-- the same without one bank -/
theorem sc_FS_but {s t : sc_S} {k b q : Nat} (e : sc_Ef s t k b q) (c : sc_Ch s k b q) (y : Nat) (hy : y < 8) :
    sc_FS t - sc_F t y ≤ sc_FS s - sc_F s y + 16 * sc_H s t - 16 * sc_hi s t y := by
  have := sc_sm_le1 (f := sc_F t) (g := fun x => sc_F s x + 16 * sc_hi s t x) (d := sc_F s y + 16 * sc_hi s t y - sc_F t y) 8 (fun x hx => sc_F_step e c x hx) y hy (by omega)
  unfold sc_FS sc_H
  rw [sc_sm_add, sc_sm_mul] at this
  omega
theorem sc_sm_le2 {f g : Nat → Int} {d1 d2 : Int} (n : Nat) (h : ∀ i, i < n → f i ≤ g i) (k j : Nat) (hk : k < n) (hj : j < n) (hkj : k ≠ j) (h1 : f k + d1 ≤ g k) (h2 : f j + d2 ≤ g j) : sc_sm f n + d1 + d2 ≤ sc_sm g n := by
  have l1 : sc_sm f n + d1 ≤ sc_sm (fun i => if i = k then g i else f i) n := by
    refine sc_sm_le1 n (fun i hi => ?_) k hk ?_
    · by_cases z : i = k
      · rw [if_pos z]; exact h i hi
      · rw [if_neg z]; omega
    · rw [if_pos rfl]; exact h1
  have l2 : sc_sm (fun i => if i = k then g i else f i) n + d2 ≤ sc_sm g n := by
    refine sc_sm_le1 n (fun i hi => ?_) j hj ?_
    · by_cases z : i = k
      · rw [if_pos z]; omega
      · rw [if_neg z]; exact h i hi
    · rw [if_neg (fun z => hkj z.symm)]; exact h2
  omega
theorem sc_FS_but1 {s t : sc_S} {k b q : Nat} (e : sc_Ef s t k b q) (c : sc_Cf s k b) (y : Nat) (hy : y < 8) (n : b ≠ y) :
    sc_FS t - sc_F t y + 1 ≤ sc_FS s - sc_F s y + 16 * sc_H s t - 16 * sc_hi s t y := by
  have := sc_sm_le2 (f := sc_F t) (g := fun x => sc_F s x + 16 * sc_hi s t x) (d1 := sc_F s y + 16 * sc_hi s t y - sc_F t y) (d2 := 1) 8 (fun x hx => sc_F_step e (q := q) (.inl c) x hx) y b hy c.1 (fun z => n z.symm) (by omega) (sc_F_forced e c)
  unfold sc_FS sc_H
  rw [sc_sm_add, sc_sm_mul] at this
  omega
theorem sc_min (P : Nat → Prop) (f : Nat → Int) : ∀ n, (∃ i, i < n ∧ P i) → ∃ m, m < n ∧ P m ∧ ∀ i, i < n → P i → f m ≤ f i
  | 0, h => by obtain ⟨i, hi, _⟩ := h; omega
  | n + 1, h => by
    by_cases z : ∃ i, i < n ∧ P i
    · obtain ⟨m, hm, pm, l⟩ := sc_min P f n z
      by_cases y : P n ∧ f n < f m
      · refine ⟨n, by omega, y.1, fun i hi pi => ?_⟩
        by_cases e : i = n
        · rw [e]; omega
        · have := l i (by omega) pi; omega
      · refine ⟨m, by omega, pm, fun i hi pi => ?_⟩
        by_cases e : i = n
        · subst e
          by_cases lt : f i < f m
          · exact absurd ⟨pi, lt⟩ y
          · omega
        · exact l i (by omega) pi
    · obtain ⟨i, hi, pi⟩ := h
      have e : i = n := by
        rcases Nat.lt_or_ge i n with l | l
        · exact absurd ⟨i, l, pi⟩ z
        · omega
      subst e
      refine ⟨i, by omega, pi, fun j hj pj => ?_⟩
      by_cases e : j = i
      · rw [e]; omega
      · exact absurd ⟨j, by omega, pj⟩ z
theorem sc_old {s : sc_S} (h : ∃ p, p < 12 ∧ sc_pd s p ≠ 0) : ∃ m, m < 12 ∧ sc_pd s m ≠ 0 ∧ ∀ q, q < 12 → sc_pd s q ≠ 0 → sc_se s m ≤ sc_se s q :=
  sc_min (fun q => sc_pd s q ≠ 0) (sc_se s) 12 h
/-- a column command goes to the bank of its request -/
theorem sc_Ch_bk {s : sc_S} {k b q : Nat} (c : sc_Ch s k b q) (hk : k = 0 ∨ k = 1 ∨ k = 2) : b = sc_bk s q := by
  rcases c with c | c | c | c | c
  · have h34 : k = 3 ∨ k = 4 := by rw [c.2.1]; unfold sc_sk; split <;> simp
    omega
  · exact c.2.2.2.1
  · exact c.2.2.2.2.2.1
  · have h34 : k = 3 ∨ k = 4 := by rw [c.2.2.2.1]; unfold sc_sk; split <;> simp
    omega
  · have := c.2.2.1; omega
/-- the chain over one clock -/
theorem sc_CH_step {s t : sc_S} {k b q : Nat} {N : Int} {T : Nat → Int} (w : sc_W s) (wt : sc_W t) (e : sc_Ef s t k b q) (c : sc_Ch s k b q) (h : sc_CH s N T) :
    sc_CH t N (fun q => T q + 16 * sc_H s t) := by
  obtain ⟨h1, h2, h3⟩ := h
  obtain ⟨c1, c2, c3, c4, c5, c6⟩ := sc_Ef_sc e
  have fs := sc_FS_step e c
  refine ⟨fun p r hp hr pp pr l lN => ?_, fun r hr pr lN => ?_, fun g hg lN => ?_⟩
  · obtain ⟨-, -, -, q4, -, -, q7⟩ := sc_Ef_rq e hp
    obtain ⟨-, -, -, r4, -, -, r7⟩ := sc_Ef_rq e hr
    have := h1 p r hp hr (sc_Ef_pd e hp pp).1 (sc_Ef_pd e hr pr).1 (by omega) (by omega)
    show T p + 16 * sc_H s t + sc_D t r ≤ T r + 16 * sc_H s t
    rw [r7]; omega
  · obtain ⟨-, -, r3, r4, -, -, r7⟩ := sc_Ef_rq e hr
    have := h2 r hr (sc_Ef_pd e hr pr).1 (by omega)
    show _ ≤ T r + 16 * sc_H s t
    rw [r7, r3, c5]; omega
  · show sc_GB t g (T g + 16 * sc_H s t - sc_FS t + sc_F t (sc_bk t g))
    obtain ⟨hg1, hg2, hg3, hg4⟩ := hg
    obtain ⟨r1, r2, r3, r4, r5, r6, r7⟩ := sc_Ef_rq e hg1
    have pg := (sc_Ef_pd e hg1 hg2).1
    by_cases ag : sc_cap s ≤ sc_c s - sc_bo s g
    · by_cases old : ∀ p, p < 12 → sc_pd s p ≠ 0 → sc_se s g ≤ sc_se s p
      · have gs : sc_gd s g := ⟨hg1, pg, old, ag⟩
        have X := h3 g gs (by omega)
        rcases sc_gstep w wt e c gs hg2 X with y | ⟨cf, nb, y⟩
        · have := sc_FS_but e c (sc_bk s g) (sc_bA_lt _)
          rw [r5]
          exact sc_GB_mono y (by omega)
        · have := sc_FS_but1 e cf (sc_bk s g) (sc_bA_lt _) nb
          rw [r5]
          exact sc_GB_mono y (by omega)
      · -- an older one has just gone
        obtain ⟨m, hm, pm, lm⟩ := sc_old ⟨g, hg1, pg⟩
        have ls : sc_se s m < sc_se s g := by
          have := lm g hg1 pg
          rcases Int.lt_or_le (sc_se s m) (sc_se s g) with z | z
          · exact z
          · exact absurd (fun p hp pp => Int.le_trans z (lm p hp pp)) old
        obtain ⟨wp, w0, w1, w2, w3, w4, wb, ws⟩ := w
        have bm := (ws m g hm hg1 pm pg).2 ls
        have gm : sc_gd s m := ⟨hm, pm, lm, by omega⟩
        have tm : sc_pd t m = 0 := by
          apply Classical.byContradiction
          intro z
          have := hg3 m hm z
          have := (sc_Ef_rq e hm).2.2.2.1
          omega
        have kk := sc_Ef_gone e hm pm tm
        have k12 : k = 1 ∨ k = 2 := by rcases kk with z | z; exact .inl z.1; exact .inr z.1
        have bb : b = sc_bk s m := by
          rw [sc_Ch_bk c (.inr k12)]
          rcases kk with z | z
          · show sc_bA _ = sc_bA _; rw [z.2.2]
          · rw [z.2]
        have F0 : sc_F s (sc_bk s m) = 0 := by
          rw [← bb]; unfold sc_F; rw [if_pos (sc_Ch_age c (.inr k12))]
        have X := sc_GB_pos (h3 m gm (by omega))
        have Y := h1 m g hm hg1 pm pg ls (by omega)
        rw [F0] at X
        have l2 : sc_la t (sc_bk t g) = sc_la s (sc_bk s g) ∧ sc_lf t (sc_bk t g) = sc_lf s (sc_bk s g) := by
          rw [r5]
          by_cases nb : sc_bk s g = b
          · obtain ⟨-, b2, -, -, -, b6, -⟩ := sc_Ef_at (b := b) e (by rw [bb]; exact sc_bA_lt _)
            rw [nb, b2, b6, if_neg (by omega), if_neg (by omega)]
            exact ⟨rfl, rfl⟩
          · have := sc_Ef_ne (x := sc_bk s g) e (sc_bA_lt _) nb
            exact ⟨this.2.1, this.2.2.2.2.2.1⟩
        have wbg := wb (sc_bk s g) (sc_bA_lt _)
        refine sc_start2 wt ?_ (.inr ?_) ?_
        · rw [r7]; omega
        · rw [l2.1]; omega
        · rw [l2.2]; omega
    · have X := h2 g hg1 pg (by omega)
      refine sc_start wt ?_
      rw [r7]
      omega
end
section
/-! Well-formedness over one clock, births, runs. -/
theorem sc_W_step {s t : sc_S} {k b q : Nat} (w : sc_W s) (e : sc_Ef s t k b q) (c : sc_Ch s k b q) : sc_W t := by
  obtain ⟨wp, w0, w1, w2, w3, w4, wb, ws⟩ := w
  obtain ⟨c1, c2, c3, c4, c5, c6⟩ := sc_Ef_sc e
  have ee := e
  obtain ⟨-, -, -, -, -, -, e1, e2, e3, e4, er, ew, -, -, -, -, -, -, -, -, -, -⟩ := ee
  have hP : k = 0 → sc_P s 0 b := by
    intro k0
    rcases c with c | c | c | c | c
    · have h34 : k = 3 ∨ k = 4 := by rw [c.2.1]; unfold sc_sk; split <;> simp
      omega
    · have := c.2.2.2.2.1; rwa [k0] at this
    · have := c.2.2.2.2.2.2.1; rwa [k0] at this
    · have h34 : k = 3 ∨ k = 4 := by rw [c.2.2.2.1]; unfold sc_sk; split <;> simp
      omega
    · have := c.2.2.1; omega
  have h4 : k = 4 → sc_op s b < 0 := by
    intro k4
    rcases c with c | c | c | c | c
    · have := c.2.1; unfold sc_sk at this; split at this
      · assumption
      · omega
    · have := sc_kd_in s q; have := c.2.2.1; omega
    · have := sc_kd_in s q; have := c.2.2.2.2.1; omega
    · have := c.2.2.2.1; unfold sc_sk at this; split at this
      · assumption
      · omega
    · have := c.2.2.1; omega
  refine ⟨by rw [c2, c3, c4, c5]; exact wp, by omega, ?_, ?_, ?_, ?_, fun x hx => ?_, fun p r hp hr pp pr => ?_⟩
  · rw [e1]; split <;> omega
  · rw [er]; split <;> omega
  · rw [ew]; split <;> omega
  · by_cases k0 : k = 0
    · have := (hP k0).1 rfl
      rw [e1, e2, e3, e4, if_pos k0, if_pos k0, if_pos k0, if_pos k0]
      refine ⟨?_, ?_, ?_⟩ <;> omega
    · rw [e1, e2, e3, e4, if_neg k0, if_neg k0, if_neg k0, if_neg k0]
      exact w4
  · have wx := wb x hx
    by_cases n : x = b
    · subst n
      obtain ⟨b1, b2, b3, b4, b5, b6, b7⟩ := sc_Ef_at e hx
      rw [b2, b3, b4, b5, b6, b7, er, ew, c1]
      refine ⟨?_, ?_, ?_, ?_, ?_, ?_, ?_, ?_, ?_, fun o => ?_⟩
      · split <;> omega
      · split <;> omega
      · split <;> omega
      · split <;> omega
      · split
        · omega
        · omega
      · split <;> omega
      · split <;> omega
      · split <;> omega
      · split <;> omega
      · rw [c4]
        by_cases k0 : k = 0
        · have := (hP k0).1 rfl
          rw [if_pos k0, if_neg (by omega)]; omega
        · rw [if_neg k0]
          rw [b1, if_neg k0] at o
          by_cases k3 : k = 3
          · rw [if_pos k3] at o; omega
          · rw [if_neg k3] at o
            by_cases k4 : k = 4
            · have := h4 k4; omega
            · rw [if_neg k4]; exact wx.2.2.2.2.2.2.2.2.2 o
    · obtain ⟨b1, b2, b3, b4, b5, b6, b7⟩ := sc_Ef_ne e hx n
      rw [b1, b2, b3, b4, b5, b6, b7, er, ew, c1, c4]
      refine ⟨?_, ?_, ?_, ?_, ?_, ?_, ?_, ?_, ?_, ?_⟩
      · omega
      · omega
      · omega
      · omega
      · omega
      · omega
      · split <;> omega
      · split <;> omega
      · omega
      · exact wx.2.2.2.2.2.2.2.2.2
  · obtain ⟨-, -, q3, q4, -, -, -⟩ := sc_Ef_rq e hp
    obtain ⟨-, -, r3, r4, -, -, -⟩ := sc_Ef_rq e hr
    have := ws p r hp hr (sc_Ef_pd e hp pp).1 (sc_Ef_pd e hr pr).1
    rw [q3, q4, r3, r4]; exact this
/-- births between two clocks; the draining mark is renewed -/
def sc_Bi (t u : sc_S) : Prop :=
  (∀ i, i ≠ 1 → i ≠ 8 → u 0 i = t 0 i) ∧ (∀ f b, 1 ≤ f → f ≤ 7 → b < 8 → u f b = t f b) ∧ sc_ns t ≤ sc_ns u ∧
  (∀ q, q < 12 → (sc_pd u q = sc_pd t q ∧ sc_ad u q = sc_ad t q ∧ sc_fu u q = sc_fu t q ∧ sc_fe u q = sc_fe t q ∧ sc_bo u q = sc_bo t q ∧ sc_se u q = sc_se t q) ∨
    (sc_pd t q = 0 ∧ sc_bo t q + 256 ≤ sc_c t ∧ sc_bo u q = sc_c t ∧ sc_ns t ≤ sc_se u q))
/-- serials in use are below the next one -/
def sc_V (s : sc_S) : Prop := ∀ q, q < 12 → sc_pd s q ≠ 0 → sc_se s q < sc_ns s ∧ sc_bo s q ≤ sc_c s
/-- an aged write makes a batch -/
def sc_Dr (s : sc_S) : Prop := ∀ q, 6 ≤ q → q < 12 → sc_pd s q ≠ 0 → sc_cap s ≤ sc_c s - sc_bo s q → sc_dr s ≠ 0
def sc_Nx (s u : sc_S) : Prop := ∃ t k b q, sc_Ch s k b q ∧ sc_Ef s t k b q ∧ sc_ns t = sc_ns s ∧ sc_Bi t u ∧ sc_W u ∧ sc_V u ∧ sc_Dr u ∧
  (sc_dr t ≠ 0 → sc_dr u = 0 → ∀ p, 6 ≤ p → p < 12 → sc_pd u p = 0)
def sc_Run (B : Nat → sc_S) (n : Nat) : Prop := sc_W (B 0) ∧ sc_V (B 0) ∧ sc_Dr (B 0) ∧ (∀ b, b < 8 → sc_age (B 0) b = 0) ∧ (∀ q, q < 12 → sc_bo (B 0) q ≤ sc_c (B 0) ∧ (sc_pd (B 0) q ≠ 0 → sc_bo (B 0) q = sc_c (B 0))) ∧ ∀ i, i < n → sc_Nx (B i) (B (i + 1))
theorem sc_Run_le {B : Nat → sc_S} {n m : Nat} (h : sc_Run B n) (l : m ≤ n) : sc_Run B m :=
  ⟨h.1, h.2.1, h.2.2.1, h.2.2.2.1, h.2.2.2.2.1, fun i hi => h.2.2.2.2.2 i (by omega)⟩
theorem sc_Run_W {B : Nat → sc_S} {n : Nat} (h : sc_Run B n) : ∀ i, i ≤ n → sc_W (B i) ∧ sc_V (B i) ∧ sc_Dr (B i)
  | 0, _ => ⟨h.1, h.2.1, h.2.2.1⟩
  | i + 1, hi => by
    obtain ⟨t, k, b, q, -, -, -, -, w, v, d, -⟩ := h.2.2.2.2.2 i (by omega)
    exact ⟨w, v, d⟩
theorem sc_Bi_b {t u : sc_S} (h : sc_Bi t u) {b : Nat} (hb : b < 8) : sc_age u b = sc_age t b ∧ sc_op u b = sc_op t b ∧ sc_la u b = sc_la t b ∧ sc_lr u b = sc_lr t b ∧ sc_lw u b = sc_lw t b ∧ sc_lp u b = sc_lp t b ∧ sc_lf u b = sc_lf t b := by
  have := h.2.1
  exact ⟨this 1 b (by decide) (by decide) hb, this 2 b (by decide) (by decide) hb, this 3 b (by decide) (by decide) hb, this 4 b (by decide) (by decide) hb, this 5 b (by decide) (by decide) hb, this 6 b (by decide) (by decide) hb, this 7 b (by decide) (by decide) hb⟩
theorem sc_Bi_s {t u : sc_S} (h : sc_Bi t u) : sc_c u = sc_c t ∧ sc_rcd u = sc_rcd t ∧ sc_rp u = sc_rp t ∧ sc_rfc u = sc_rfc t ∧ sc_cap u = sc_cap t ∧ sc_a1 u = sc_a1 t ∧ sc_a2 u = sc_a2 t ∧ sc_a3 u = sc_a3 t ∧ sc_a4 u = sc_a4 t ∧ sc_ar u = sc_ar t ∧ sc_aw u = sc_aw t := by
  have := h.1
  exact ⟨this 0 (by decide) (by decide), this 10 (by decide) (by decide), this 11 (by decide) (by decide), this 12 (by decide) (by decide), this 13 (by decide) (by decide), this 2 (by decide) (by decide), this 3 (by decide) (by decide), this 4 (by decide) (by decide), this 5 (by decide) (by decide), this 6 (by decide) (by decide), this 7 (by decide) (by decide)⟩
theorem sc_Bi_F {t u : sc_S} (h : sc_Bi t u) : ∀ x, x < 8 → sc_F u x = sc_F t x := by
  intro x hx
  obtain ⟨a, o, -⟩ := sc_Bi_b h hx
  unfold sc_F; rw [a, o]
theorem sc_Bi_GB {t u : sc_S} {g : Nat} {X : Int} (h : sc_Bi t u) (had : sc_ad u g = sc_ad t g) (hfu : sc_fu u g = sc_fu t g) (hfe : sc_fe u g = sc_fe t g) (G : sc_GB t g X) : sc_GB u g X := by
  have hbk : sc_bk u g = sc_bk t g := by show sc_bA _ = sc_bA _; rw [had]
  have hro : sc_ro u g = sc_ro t g := by show sc_rA _ = sc_rA _; rw [had]
  have htl : sc_tl u g = sc_tl t g := by unfold sc_tl; rw [hfu, hfe]
  obtain ⟨b1, b2, b3, b4, b5, b6, b7⟩ := sc_Bi_b (b := sc_bk t g) h (sc_bA_lt _)
  obtain ⟨c1, c2, c3, c4, c5, c6, c7, c8, c9, c10, c11⟩ := sc_Bi_s h
  have hkd : sc_kd u g = sc_kd t g := by unfold sc_kd; rw [hbk, b2, hro, hfu, hfe]
  unfold sc_GB sc_Gn sc_Gf
  rw [hbk, hro, htl, hkd, b1, b2, b3, b4, b5, b6, b7, c1, c3, c4, c6, c9, c10, c11]
  exact G
theorem sc_CH_Bi {t u : sc_S} {N : Int} {T : Nat → Int} (h : sc_Bi t u) (hN : N ≤ sc_ns t) (C : sc_CH t N T) : sc_CH u N T := by
  obtain ⟨h1, h2, h3⟩ := C
  have old : ∀ q, q < 12 → sc_se u q < N → sc_pd u q = sc_pd t q ∧ sc_ad u q = sc_ad t q ∧ sc_fu u q = sc_fu t q ∧ sc_fe u q = sc_fe t q ∧ sc_bo u q = sc_bo t q ∧ sc_se u q = sc_se t q := by
    intro q hq l
    rcases h.2.2.2 q hq with z | z
    · exact z
    · omega
  have hD : ∀ q, sc_fu u q = sc_fu t q → sc_D u q = sc_D t q := by intro q e; unfold sc_D; rw [e]
  have hFS : sc_FS u = sc_FS t := sc_sm_eq 8 fun x hx => sc_Bi_F h x hx
  obtain ⟨c1, c2, c3, c4, c5, -⟩ := sc_Bi_s h
  refine ⟨fun p q hp hq pp pq l lN => ?_, fun q hq pq lN => ?_, fun g hg lN => ?_⟩
  · obtain ⟨p1, p2, p3, p4, p5, p6⟩ := old p hp (by omega)
    obtain ⟨q1, q2, q3, q4, q5, q6⟩ := old q hq lN
    rw [hD q q3]
    exact h1 p q hp hq (by rwa [← p1]) (by rwa [← q1]) (by omega) (by omega)
  · obtain ⟨q1, q2, q3, q4, q5, q6⟩ := old q hq lN
    rw [hD q q3, hFS, q5, c5]
    exact h2 q hq (by rwa [← q1]) (by omega)
  · obtain ⟨g1, g2, g3, g4⟩ := hg
    obtain ⟨q1, q2, q3, q4, q5, q6⟩ := old g g1 lN
    have hbk : sc_bk u g = sc_bk t g := by show sc_bA _ = sc_bA _; rw [q2]
    rw [hFS, hbk, sc_Bi_F h _ (sc_bA_lt _)]
    refine sc_Bi_GB h q2 q3 q4 (h3 g ⟨g1, by rwa [← q1], fun p hp pp => ?_, by omega⟩ (by omega))
    rcases h.2.2.2 p hp with z | z
    · have := g3 p hp (by rw [z.1]; exact pp)
      omega
    · exact absurd z.1 pp
theorem sc_CH_nx {s u : sc_S} {N : Int} {T : Nat → Int} (w : sc_W s) (x : sc_Nx s u) (hN : N ≤ sc_ns s) (C : sc_CH s N T) : sc_CH u N (fun q => T q + 16 * sc_H s u) := by
  obtain ⟨t, k, b, q, ch, ef, en, bi, -⟩ := x
  have wt := sc_W_step w ef ch
  have C2 := sc_CH_Bi bi (by omega) (sc_CH_step w wt ef ch C)
  have : sc_H s u = sc_H s t := by
    refine sc_sm_eq 8 fun y hy => ?_
    have := (sc_Bi_b bi hy).1
    unfold sc_hi; rw [this]
  rw [this]; exact C2
/-- ages over one clock -/
theorem sc_Nx_age {s u : sc_S} (x : sc_Nx s u) {b : Nat} (hb : b < 8) : sc_age u b = sc_age s b + 1 ∨ sc_age u b = 1 := by
  obtain ⟨t, k, d, q, ch, ef, en, bi, -⟩ := x
  rw [(sc_Bi_b bi hb).1]
  by_cases n : b = d
  · subst n
    have := (sc_Ef_at ef hb).2.2.2.2.2.2
    split at this
    · right; omega
    · left; omega
  · left; exact (sc_Ef_ne ef hb n).2.2.2.2.2.2
theorem sc_Nx_c {s u : sc_S} (x : sc_Nx s u) : sc_c u = sc_c s + 1 ∧ sc_cap u = sc_cap s ∧ sc_ns s ≤ sc_ns u := by
  obtain ⟨t, k, d, q, ch, ef, en, bi, -⟩ := x
  have h1 := sc_Ef_sc ef
  have h2 := sc_Bi_s bi
  have := bi.2.2.1
  exact ⟨by omega, by omega, by omega⟩
theorem sc_Run_c {B : Nat → sc_S} {n : Nat} (h : sc_Run B n) : ∀ i, i ≤ n → sc_c (B i) = sc_c (B 0) + i ∧ sc_cap (B i) = sc_cap (B 0)
  | 0, _ => ⟨by omega, rfl⟩
  | i + 1, hi => by
    have := sc_Run_c h i (by omega)
    have := sc_Nx_c (h.2.2.2.2.2 i (by omega))
    exact ⟨by omega, by omega⟩
/-- banks of age a or more that may still be hit -/
def sc_U (s : sc_S) (a : Int) : Int := sc_sm (fun b => if a ≤ sc_age s b ∧ sc_age s b < 448 then 1 else 0) 8
theorem sc_U_nx {s u : sc_S} (x : sc_Nx s u) {a : Int} (ha : 1 ≤ a) (ha2 : a ≤ 447) : sc_H s u + sc_U u (a + 1) ≤ sc_U s a := by
  unfold sc_H sc_U
  rw [← sc_sm_add]
  refine sc_sm_le 8 fun b hb => ?_
  unfold sc_hi
  rcases sc_Nx_age x hb with z | z
  · by_cases h1 : sc_age s b < 448 ∧ 448 ≤ sc_age u b
    · rw [if_pos h1, if_neg (by omega), if_pos (by omega)]; omega
    · rw [if_neg h1]
      by_cases h2 : a + 1 ≤ sc_age u b ∧ sc_age u b < 448
      · rw [if_pos h2, if_pos (by omega)]; omega
      · rw [if_neg h2]; split <;> omega
  · rw [if_neg (by omega), if_neg (by omega)]; split <;> omega
theorem sc_U_in (s : sc_S) (a : Int) : 0 ≤ sc_U s a := sc_sm_nn 8 fun b _ => by split <;> omega
/-- the chain along a run -/
theorem sc_CH_run {B : Nat → sc_S} {n i : Nat} (h : sc_Run B n) {N a : Int} {T : Nat → Int} (ha : 1 ≤ a) (hN : N ≤ sc_ns (B i)) (C : sc_CH (B i) N T) :
    ∀ d, i + d ≤ n → a + d ≤ 448 → N ≤ sc_ns (B (i + d)) ∧ ∃ Z : Int, 0 ≤ Z ∧ sc_CH (B (i + d)) N (fun q => T q + 16 * Z) ∧ Z + sc_U (B (i + d)) (a + d) ≤ sc_U (B i) a
  | 0, _, _ => ⟨hN, 0, by omega, by simpa using C, by simp⟩
  | d + 1, hd, hd2 => by
    obtain ⟨l, Z, z0, C1, u1⟩ := sc_CH_run h ha hN C d (by omega) (by omega)
    have x := h.2.2.2.2.2 (i + d) (by omega)
    have w := (sc_Run_W h (i + d) (by omega)).1
    have C2 := sc_CH_nx w x l C1
    have u2 := sc_U_nx x (a := a + d) (by omega) (by omega)
    have := (sc_Nx_c x).2.2
    have h0 : 0 ≤ sc_H (B (i + d)) (B (i + d + 1)) := sc_sm_nn 8 fun y _ => by have := sc_hi_in (B (i + d)) (B (i + d + 1)) y; omega
    refine ⟨by rw [← Nat.add_assoc]; omega, Z + sc_H (B (i + d)) (B (i + d + 1)), by omega, ?_, ?_⟩
    · rw [← Nat.add_assoc]
      have e : (fun q => T q + 16 * (Z + sc_H (B (i + d)) (B (i + d + 1)))) = (fun q => T q + 16 * Z + 16 * sc_H (B (i + d)) (B (i + d + 1))) := by
        funext q; omega
      rw [e]; exact C2
    · rw [← Nat.add_assoc]
      have e : a + ((d + 1 : Nat) : Int) = a + d + 1 := by omega
      rw [e]; omega
end
section
/-! The chain made anew at any clock, and what follows of a request's time. -/
/-- the work behind q up to r (serials above q's, at most r's) -/
def sc_af (s : sc_S) (r q : Nat) : Int := sc_sm (fun p => if sc_pd s p ≠ 0 ∧ sc_se s q < sc_se s p ∧ sc_se s p ≤ sc_se s r then sc_D s p else 0) 12
/-- the work of all up to r -/
def sc_wl (s : sc_S) (r : Nat) : Int := sc_sm (fun p => if sc_pd s p ≠ 0 ∧ sc_se s p ≤ sc_se s r then sc_D s p else 0) 12
theorem sc_D_pos (s : sc_S) (q : Nat) : 10 ≤ sc_D s q ∧ sc_D s q ≤ 13 := by have := (sc_D_in s q).1; omega
theorem sc_af_lt {s : sc_S} {r p q : Nat} (hq : q < 12) (pq : sc_pd s q ≠ 0) (l : sc_se s p < sc_se s q) (l2 : sc_se s q ≤ sc_se s r) : sc_af s r q + sc_D s q ≤ sc_af s r p := by
  refine sc_sm_le1 12 (fun i _ => ?_) q hq ?_
  · have := sc_D_pos s i
    split
    · rw [if_pos (by rename_i h; exact ⟨h.1, by omega, h.2.2⟩)]; omega
    · split <;> omega
  · rw [if_neg (by omega), if_pos ⟨pq, l, l2⟩]; omega
/-- a chain that ends at M with r -/
theorem sc_mk {s : sc_S} {r : Nat} {M : Int} (hr : r < 12) (pr : sc_pd s r ≠ 0)
    (h2 : ∀ i, i < 12 → sc_pd s i ≠ 0 → sc_se s i ≤ sc_se s r → sc_bo s i + sc_cap s + 1 + sc_af s r i + sc_D s i + sc_FS s ≤ M)
    (hg : ∀ g, sc_gd s g → sc_se s g ≤ sc_se s r → sc_GB s g (M - sc_af s r g - sc_FS s + sc_F s (sc_bk s g))) :
    sc_CH s (sc_se s r + 1) (fun q => M - sc_af s r q) := by
  refine ⟨fun p q hp hq pp pq l lN => ?_, fun q hq pq lN => ?_, fun g g1 lN => ?_⟩
  · have := sc_af_lt (s := s) (r := r) (p := p) hq pq l (by omega)
    show M - sc_af s r p + sc_D s q ≤ M - sc_af s r q
    omega
  · have := h2 q hq pq (by omega)
    show _ ≤ M - sc_af s r q
    omega
  · exact hg g g1 (by omega)
theorem sc_af_self {s : sc_S} (r : Nat) : sc_af s r r = 0 := by
  have : sc_af s r r = sc_sm (fun _ => 0) 12 := sc_sm_eq 12 fun i _ => by rw [if_neg (by omega)]
  rw [this, sc_sm_cst]; simp
/-- in a chain a pending request with age is before its bound -/
theorem sc_CH_lt {s : sc_S} {N : Int} {T : Nat → Int} {q : Nat} (w : sc_W s) (C : sc_CH s N T) (hq : q < 12) (pq : sc_pd s q ≠ 0) (lN : sc_se s q < N) (ag : sc_cap s ≤ sc_c s - sc_bo s q) :
    ∃ g, sc_gd s g ∧ sc_GB s g (T g - sc_FS s + sc_F s (sc_bk s g)) ∧ T g ≤ T q := by
  obtain ⟨m, hm, pm, lm⟩ := sc_old ⟨q, hq, pq⟩
  obtain ⟨-, -, -, -, -, -, -, ws⟩ := w
  have ws := ws m q hm hq pm pq
  have l := lm q hq pq
  have hb : sc_bo s m ≤ sc_bo s q := by
    by_cases e : m = q
    · rw [e]; omega
    · refine ws.2 ?_
      rcases Int.lt_or_le (sc_se s m) (sc_se s q) with z | z
      · exact z
      · exact absurd (ws.1 (by omega)) e
  have gm : sc_gd s m := ⟨hm, pm, lm, by omega⟩
  refine ⟨m, gm, C.2.2 m gm (by omega), ?_⟩
  by_cases e : m = q
  · rw [e]; omega
  · have lt : sc_se s m < sc_se s q := by
      rcases Int.lt_or_le (sc_se s m) (sc_se s q) with z | z
      · exact z
      · exact absurd (ws.1 (by omega)) e
    have := C.1 m q hm hq pm pq lt lN
    have := sc_D_pos s q
    omega
theorem sc_FS_ge (s : sc_S) (b : Nat) (hb : b < 8) : sc_F s b ≤ sc_FS s := sc_sm_one 8 (fun i _ => by have := sc_F_in s i; omega) b hb
theorem sc_GB_pos2 {s : sc_S} {g : Nat} {X : Int} (h : sc_GB s g X) : sc_c s + 1 ≤ X ∧ (sc_F s (sc_bk s g) ≠ 0 → sc_c s + 12 ≤ X) := by
  refine ⟨sc_GB_pos h, fun hF => ?_⟩
  have tl := sc_tl_in s g
  unfold sc_F at hF
  by_cases a : sc_age s (sc_bk s g) < 448
  · rw [if_pos a] at hF; omega
  · obtain ⟨hO, hC⟩ := h.2 (by omega)
    by_cases ho : sc_op s (sc_bk s g) < 0
    · have := hC ho; omega
    · have := hO (by omega); omega
/-- so the clock, and the clock with what the forced banks still take, are below the bound -/
theorem sc_CH_lt2 {s : sc_S} {N : Int} {T : Nat → Int} {q : Nat} (w : sc_W s) (C : sc_CH s N T) (hq : q < 12) (pq : sc_pd s q ≠ 0) (lN : sc_se s q < N) (ag : sc_cap s ≤ sc_c s - sc_bo s q) :
    sc_c s + 1 ≤ T q ∧ sc_c s + 1 + sc_FS s ≤ T q + 5 ∧ (sc_FS s = 0 → sc_c s + 1 ≤ T q) := by
  obtain ⟨g, hg, G, l⟩ := sc_CH_lt w C hq pq lN ag
  obtain ⟨p1, p2⟩ := sc_GB_pos2 G
  have := sc_F_in s (sc_bk s g)
  have := sc_FS_ge s (sc_bk s g) (sc_bA_lt _)
  by_cases e : sc_F s (sc_bk s g) = 0
  · exact ⟨by omega, by omega, by omega⟩
  · have := p2 e
    exact ⟨by omega, by omega, by omega⟩
/-- requests along a run: kept, or born anew 256 clocks later -/
theorem sc_Nx_q {s u : sc_S} (x : sc_Nx s u) {q : Nat} (hq : q < 12) :
    (sc_se u q = sc_se s q ∧ sc_bo u q = sc_bo s q ∧ sc_ad u q = sc_ad s q ∧ sc_fu u q = sc_fu s q ∧ (sc_pd u q ≠ 0 → sc_pd s q ≠ 0)) ∨ (sc_bo s q + 256 ≤ sc_c u ∧ sc_bo u q = sc_c u ∧ sc_ns s ≤ sc_se u q) := by
  obtain ⟨t, k, d, r, ch, ef, en, bi, -⟩ := x
  have h1 := sc_Ef_rq ef hq
  have h2 := sc_Ef_sc ef
  have h3 := sc_Bi_s bi
  rcases bi.2.2.2 q hq with z | z
  · refine .inl ⟨by omega, by omega, by rw [z.2.1]; exact h1.1, by rw [z.2.2.1]; exact h1.2.1, fun p => ?_⟩
    rw [z.1] at p
    exact (sc_Ef_pd ef hq p).1
  · exact .inr ⟨by omega, by omega, by omega⟩
theorem sc_Run_q {B : Nat → sc_S} {n i : Nat} (h : sc_Run B n) {q : Nat} (hq : q < 12) (v : sc_bo (B i) q ≤ sc_c (B i)) : ∀ d, i + d ≤ n →
    (sc_se (B (i + d)) q = sc_se (B i) q ∧ sc_bo (B (i + d)) q = sc_bo (B i) q ∧ sc_ad (B (i + d)) q = sc_ad (B i) q ∧ sc_fu (B (i + d)) q = sc_fu (B i) q ∧ (sc_pd (B (i + d)) q ≠ 0 → sc_pd (B i) q ≠ 0)) ∨ (sc_bo (B i) q + 256 ≤ sc_bo (B (i + d)) q ∧ sc_c (B i) < sc_bo (B (i + d)) q ∧ sc_bo (B (i + d)) q ≤ sc_c (B (i + d)) ∧ sc_ns (B i) ≤ sc_se (B (i + d)) q)
  | 0, _ => .inl ⟨rfl, rfl, rfl, rfl, id⟩
  | d + 1, hd => by
    have x := h.2.2.2.2.2 (i + d) (by omega)
    have hc := sc_Nx_c x
    have hm : sc_c (B i) ≤ sc_c (B (i + d)) := by
      have h1 := (sc_Run_c h i (by omega)).1
      have h2 := (sc_Run_c h (i + d) (by omega)).1
      omega
    have hns : sc_ns (B i) ≤ sc_ns (B (i + d)) := by
      have : ∀ e, i + e ≤ n → sc_ns (B i) ≤ sc_ns (B (i + e)) := by
        intro e
        induction e with
        | zero => intro _; exact Int.le_refl _
        | succ e ih =>
          intro he
          have := (sc_Nx_c (h.2.2.2.2.2 (i + e) (by omega))).2.2
          have := ih (by omega)
          rw [← Nat.add_assoc]; omega
      exact this d (by omega)
    rw [← Nat.add_assoc]
    rcases sc_Run_q h hq v d (by omega) with z | z
    · rcases sc_Nx_q x hq with y | y
      · exact .inl ⟨by omega, by omega, by rw [y.2.2.1]; exact z.2.2.1, by rw [y.2.2.2.1]; exact z.2.2.2.1, fun p => z.2.2.2.2 (y.2.2.2.2 p)⟩
      · exact .inr ⟨by omega, by omega, by omega, by omega⟩
    · rcases sc_Nx_q x hq with y | y
      · exact .inr ⟨by omega, by omega, by omega, by omega⟩
      · exact .inr ⟨by omega, by omega, by omega, by omega⟩
end
section
/-! A bank on its way to a refresh: its own waits, and the banks ahead of it. -/
def sc_OW (s : sc_S) (b : Nat) (Z : Int) : Prop :=
  (0 ≤ sc_op s b → sc_c s + 4 ≤ Z ∧ sc_la s b + 9 ≤ Z ∧ sc_lr s b + 6 ≤ Z ∧ sc_lw s b + 8 ≤ Z) ∧
  (sc_op s b < 0 → sc_c s + 1 ≤ Z ∧ sc_lp s b + sc_rp s + 1 ≤ Z ∧ sc_lf s b + sc_rfc s + 1 ≤ Z)
theorem sc_OW_pos {s : sc_S} {b : Nat} {Z : Int} (h : sc_OW s b Z) : sc_c s + 1 ≤ Z := by
  by_cases o : sc_op s b < 0
  · exact (h.2 o).1
  · have := (h.1 (by omega)).1; omega
theorem sc_OW_mono {s : sc_S} {b : Nat} {Y Z : Int} (h : sc_OW s b Y) (l : Y ≤ Z) : sc_OW s b Z := by
  refine ⟨fun o => ?_, fun o => ?_⟩
  · have := h.1 o; refine ⟨?_, ?_, ?_, ?_⟩ <;> omega
  · have := h.2 o; refine ⟨?_, ?_, ?_⟩ <;> omega
theorem sc_OW_start {s : sc_S} {b : Nat} (w : sc_W s) (hb : b < 8) (hf : sc_lf s b + 8 ≤ sc_c s) : sc_OW s b (sc_c s + 8) := by
  obtain ⟨wp, w0, w1, w2, w3, w4, wb, -⟩ := w
  have wb := wb b hb
  refine ⟨fun o => ?_, fun o => ?_⟩
  · refine ⟨?_, ?_, ?_, ?_⟩ <;> omega
  · refine ⟨?_, ?_, ?_⟩ <;> omega
theorem sc_OW_ne {s t : sc_S} {k b q x : Nat} {Z : Int} (e : sc_Ef s t k b q) (hx : x < 8) (n : x ≠ b) (h : sc_OW s x Z) : sc_OW t x (Z + 1) := by
  obtain ⟨b1, b2, b3, b4, b5, b6, b7⟩ := sc_Ef_ne e hx n
  obtain ⟨c1, c2, c3, c4, c5, c6⟩ := sc_Ef_sc e
  unfold sc_OW
  rw [b1, b2, b3, b4, b5, b6, c1, c3, c4]
  refine ⟨fun o => ?_, fun o => ?_⟩
  · have := h.1 o; refine ⟨?_, ?_, ?_, ?_⟩ <;> omega
  · have := h.2 o; refine ⟨?_, ?_, ?_⟩ <;> omega
theorem sc_OW_stuck {s t : sc_S} {k b q x : Nat} {Z : Int} (e : sc_Ef s t k b q) (hx : x < 8) (n : x ≠ b) (hp : ¬ sc_P s (sc_sk s x) x) (h : sc_OW s x Z) : sc_OW t x Z := by
  obtain ⟨b1, b2, b3, b4, b5, b6, b7⟩ := sc_Ef_ne e hx n
  obtain ⟨c1, c2, c3, c4, c5, c6⟩ := sc_Ef_sc e
  unfold sc_OW
  rw [b1, b2, b3, b4, b5, b6, c1, c3, c4]
  refine ⟨fun o => ?_, fun o => ?_⟩
  · unfold sc_sk at hp; rw [if_neg (by omega)] at hp; unfold sc_P at hp; simp at hp
    have := h.1 o; refine ⟨?_, ?_, ?_, ?_⟩ <;> omega
  · unfold sc_sk at hp; rw [if_pos o] at hp; unfold sc_P at hp; simp at hp
    have := h.2 o; refine ⟨?_, ?_, ?_⟩ <;> omega
theorem sc_OW_own {s t : sc_S} {b q : Nat} {Z : Int} (w : sc_W s) (e : sc_Ef s t 3 b q) (hb : b < 8) (o : 0 ≤ sc_op s b) (h : sc_OW s b Z) : sc_OW t b Z := by
  obtain ⟨b1, b2, b3, b4, b5, b6, b7⟩ := sc_Ef_at e hb
  obtain ⟨c1, c2, c3, c4, c5, c6⟩ := sc_Ef_sc e
  obtain ⟨wp, w0, w1, w2, w3, w4, wb, -⟩ := w
  have wb := wb b hb
  simp at b1 b5 b6
  have := h.1 o
  unfold sc_OW
  rw [b1, b5, b6, c1, c3, c4]
  refine ⟨fun z => by omega, fun _ => ⟨?_, ?_, ?_⟩⟩ <;> omega
theorem sc_OW_Bi {t u : sc_S} {b : Nat} {Z : Int} (h : sc_Bi t u) (hb : b < 8) (g : sc_OW t b Z) : sc_OW u b Z := by
  obtain ⟨b1, b2, b3, b4, b5, b6, b7⟩ := sc_Bi_b h hb
  obtain ⟨c1, c2, c3, c4, c5, c6, c7, c8, c9, c10, c11⟩ := sc_Bi_s h
  unfold sc_OW
  rw [b2, b3, b4, b5, b6, b7, c1, c3, c4]
  exact g
/-- no command is a command on no bank -/
theorem sc_Ef_5 {s t : sc_S} {b q : Nat} (e : sc_Ef s t 5 b q) : sc_Ef s t 5 8 q := by
  obtain ⟨g1, g2, g3, g4, g5, g6, g7, g8, g9, g10, g11, g12, ea, eo, e1, e2, e3, e4, e5, g13⟩ := e
  refine ⟨g1, g2, g3, g4, g5, g6, g7, g8, g9, g10, g11, g12, ?_, ?_, ?_, ?_, ?_, ?_, ?_, g13⟩
  · intro x hx; rw [ea x hx]; simp
  · intro x hx; rw [eo x hx]; simp
  · intro x hx; rw [e1 x hx]; simp
  · intro x hx; rw [e2 x hx]; simp
  · intro x hx; rw [e3 x hx]; simp
  · intro x hx; rw [e4 x hx]; simp
  · intro x hx; rw [e5 x hx]; simp
/-- an if over any proposition -/
noncomputable def sc_ic (p : Prop) (x y : Int) : Int := @ite Int p (Classical.propDecidable p) x y
theorem sc_ic_t {p : Prop} {x y : Int} (h : p) : sc_ic p x y = x := by unfold sc_ic; exact if_pos h
theorem sc_ic_f {p : Prop} {x y : Int} (h : ¬ p) : sc_ic p x y = y := by unfold sc_ic; exact if_neg h
theorem sc_ic_or (p : Prop) (x y : Int) : (p ∧ sc_ic p x y = x) ∨ (¬ p ∧ sc_ic p x y = y) := by
  by_cases h : p
  · exact .inl ⟨h, sc_ic_t h⟩
  · exact .inr ⟨h, sc_ic_f h⟩
theorem sc_ic_c {p q : Prop} {x y : Int} (h : p ↔ q) : sc_ic p x y = sc_ic q x y := by
  by_cases z : q
  · rw [sc_ic_t z, sc_ic_t (h.mpr z)]
  · rw [sc_ic_f z, sc_ic_f (fun a => z (h.mp a))]
theorem sc_sm_le1' {f g : Nat → Int} {d : Int} (n k : Nat) (hk : k < n) (h : ∀ i, i < n → i ≠ k → f i ≤ g i) (hd : f k + d ≤ g k) : sc_sm f n + d ≤ sc_sm g n := by
  have l1 := sc_sm_le1 (f := fun i => if i = k then g i - d else f i) (g := g) (d := d) n
  have l2 : sc_sm f n ≤ sc_sm (fun i => if i = k then g i - d else f i) n := sc_sm_le n fun i _ => by
    by_cases z : i = k
    · subst z; rw [if_pos rfl]; omega
    · rw [if_neg z]; omega
  have l3 : sc_sm (fun i => if i = k then g i - d else f i) n + d ≤ sc_sm g n := by
    have := sc_sm_le1 (f := fun i => if i = k then 0 else f i) (g := fun i => if i = k then 0 else g i) (d := 0) n
    have e1 : ∀ m, m ≤ n → sc_sm (fun i => if i = k then g i - d else f i) m + (if k < m then d else 0) ≤ sc_sm g m := by
      intro m
      induction m with
      | zero => intro _; simp [sc_sm]
      | succ m ih =>
        intro hm
        have ih := ih (by omega)
        show sc_sm _ m + (if m = k then g m - d else f m) + (if k < m + 1 then d else 0) ≤ sc_sm g m + g m
        by_cases z : m = k
        · rw [if_pos z, if_pos (by omega)]
          rw [if_neg (by omega)] at ih
          omega
        · rw [if_neg z]
          have := h m (by omega) z
          by_cases y : k < m
          · rw [if_pos y] at ih; rw [if_pos (by omega)]; omega
          · rw [if_neg y] at ih; rw [if_neg (by omega)]; omega
    have := e1 n (Nat.le_refl n)
    rw [if_pos hk] at this
    exact this
  omega
def sc_st (s : sc_S) (x : Nat) : Int := if sc_op s x < 0 then 1 else 2
/-- x is ahead of b -/
def sc_ah (s : sc_S) (b x : Nat) : Prop := x ≠ b ∧ (sc_age s b < sc_age s x ∨ (sc_age s b = sc_age s x ∧ x < b))
noncomputable def sc_aS (s : sc_S) (b : Nat) : Int := sc_sm (fun x => sc_ic (sc_ah s b x) (sc_st s x) 0) 8
theorem sc_st_in (s : sc_S) (x : Nat) : sc_st s x = 1 ∨ sc_st s x = 2 := by unfold sc_st; split <;> simp
theorem sc_aS_nn (s : sc_S) (b : Nat) : 0 ≤ sc_aS s b :=
  sc_sm_nn 8 fun x _ => by
    have := sc_st_in s x
    rcases sc_ic_or (sc_ah s b x) (sc_st s x) 0 with ⟨-, z⟩ | ⟨-, z⟩ <;> rw [z] <;> omega
theorem sc_aS_le (s : sc_S) (b : Nat) (hb : b < 8) : sc_aS s b ≤ 14 := by
  have := sc_sm_le1' (f := fun x => sc_ic (sc_ah s b x) (sc_st s x) 0) (g := fun _ => 2) (d := 2) 8 b hb (fun x _ _ => by
    have := sc_st_in s x
    rcases sc_ic_or (sc_ah s b x) (sc_st s x) 0 with ⟨-, z⟩ | ⟨-, z⟩ <;> rw [z] <;> omega) (by rw [sc_ic_f (fun h => h.1 rfl)]; omega)
  rw [sc_sm_cst] at this
  unfold sc_aS
  omega
/-- a forced bank: the bound stands until its refresh -/
theorem sc_FR_step {s u : sc_S} {b : Nat} {Z : Int} (w : sc_W s) (x : sc_Nx s u) (hb : b < 8) (ha : 448 ≤ sc_age s b) (nr : sc_age u b ≠ 1) (h : sc_OW s b (Z - sc_aS s b)) : sc_OW u b (Z - sc_aS u b) := by
  obtain ⟨t, k, d, q, ch, ef, en, bi, -⟩ := x
  have hbi := fun y (hy : y < 8) => sc_Bi_b bi hy
  have agb : sc_age u b = sc_age t b := (hbi b hb).1
  refine sc_OW_Bi bi hb ?_
  have stt : ∀ y, y < 8 → sc_st u y = sc_st t y := fun y hy => by unfold sc_st; rw [(hbi y hy).2.1]
  have e0 : sc_aS u b = sc_aS t b := by
    refine sc_sm_eq 8 fun y hy => ?_
    have e1 : sc_ah u b y ↔ sc_ah t b y := by unfold sc_ah; rw [(hbi y hy).1, (hbi b hb).1]
    rw [stt y hy, sc_ic_c e1]
  rw [e0]
  -- banks other than d: nothing new
  have keep : ∀ y, y < 8 → y ≠ d → b ≠ d → sc_ic (sc_ah t b y) (sc_st t y) 0 = sc_ic (sc_ah s b y) (sc_st s y) 0 := by
    intro y hy n nb
    have h1 := sc_Ef_ne ef hy n
    have h2 := sc_Ef_ne ef hb nb
    have e1 : sc_st t y = sc_st s y := by unfold sc_st; rw [h1.1]
    rw [e1]
    refine sc_ic_c ?_
    unfold sc_ah
    rw [h1.2.2.2.2.2.2, h2.2.2.2.2.2.2]
    constructor
    · rintro ⟨z1, z2⟩; exact ⟨z1, by omega⟩
    · rintro ⟨z1, z2⟩; exact ⟨z1, by omega⟩
  have nn : ∀ (r : sc_S) y, 0 ≤ sc_ic (sc_ah r b y) (sc_st r y) 0 := by
    intro r y
    have := sc_st_in r y
    rcases sc_ic_or (sc_ah r b y) (sc_st r y) 0 with ⟨-, z⟩ | ⟨-, z⟩ <;> rw [z] <;> omega
  -- the command is not on b, and its bank is not ahead of b: the sum stays
  have same : b ≠ d → ¬ sc_ah s b d → sc_aS t b ≤ sc_aS s b := by
    intro nb na
    refine sc_sm_le 8 fun y hy => ?_
    by_cases n : y = d
    · subst n
      have h2 := sc_Ef_ne ef hb nb
      have h3 := (sc_Ef_at ef hy).2.2.2.2.2.2
      rw [sc_ic_f (p := sc_ah t b y)]
      · exact nn s y
      · intro z
        apply na
        refine ⟨fun z => nb z.symm, ?_⟩
        have z2 := z.2
        rw [h2.2.2.2.2.2.2, h3] at z2
        split at z2 <;> omega
    · rw [keep y hy n nb]; omega
  have less : b ≠ d → sc_ah s b d → d < 8 → (k = sc_sk s d) → sc_aS t b + 1 ≤ sc_aS s b := by
    intro nb na hd hk
    have h2 := sc_Ef_ne ef hb nb
    have h3 := sc_Ef_at ef hd
    have dl : sc_ic (sc_ah t b d) (sc_st t d) 0 + 1 ≤ sc_st s d := by
      by_cases o : sc_op s d < 0
      · have k4 : k = 4 := by rw [hk]; unfold sc_sk; rw [if_pos o]
        have a1 := h3.2.2.2.2.2.2
        rw [if_pos k4] at a1
        have e1 : sc_st s d = 1 := by unfold sc_st; rw [if_pos o]
        rw [e1, sc_ic_f]
        · omega
        · intro z
          have z2 := z.2
          rw [h2.2.2.2.2.2.2] at z2
          omega
      · have k3 : k = 3 := by rw [hk]; unfold sc_sk; rw [if_neg o]
        have o1 := h3.1
        rw [if_neg (by omega), if_pos k3] at o1
        have e1 : sc_st s d = 2 := by unfold sc_st; rw [if_neg o]
        have e2 : sc_st t d = 1 := by unfold sc_st; rw [if_pos (by omega)]
        rw [e1, e2]
        rcases sc_ic_or (sc_ah t b d) 1 0 with ⟨-, z⟩ | ⟨-, z⟩ <;> rw [z] <;> omega
    refine sc_sm_le1' 8 d hd (fun y hy n => ?_) ?_
    · rw [keep y hy n nb]; omega
    · rw [sc_ic_t na]; exact dl
  rcases ch with c | c | c | c | c
  · -- forced
    obtain ⟨hd, hk, hda, hP, hmax⟩ := c
    by_cases nb : b = d
    · subst nb
      have ho : 0 ≤ sc_op s b := by
        apply Classical.byContradiction
        intro z
        have k4 : k = 4 := by rw [hk]; unfold sc_sk; rw [if_pos (by omega)]
        have := (sc_Ef_at ef hb).2.2.2.2.2.2
        rw [if_pos k4] at this
        omega
      have k3 : k = 3 := by rw [hk]; unfold sc_sk; rw [if_neg (by omega)]
      subst k3
      refine sc_OW_mono (sc_OW_own w ef hb ho h) ?_
      have : sc_aS t b ≤ sc_aS s b := by
        refine sc_sm_le 8 fun y hy => ?_
        by_cases n : y = b
        · subst n; rw [sc_ic_f (fun z => z.1 rfl), sc_ic_f (fun z => z.1 rfl)]; omega
        · have h1 := sc_Ef_ne ef hy n
          have h2 := (sc_Ef_at ef hb).2.2.2.2.2.2
          simp at h2
          have e1 : sc_st t y = sc_st s y := by unfold sc_st; rw [h1.1]
          rw [e1, sc_ic_c (q := sc_ah s b y)]
          · omega
          · unfold sc_ah
            rw [h1.2.2.2.2.2.2, h2]
            constructor
            · rintro ⟨z1, z2⟩; exact ⟨z1, by omega⟩
            · rintro ⟨z1, z2⟩; exact ⟨z1, by omega⟩
      omega
    · by_cases na : sc_ah s b d
      · have := less nb na hd hk
        exact sc_OW_mono (sc_OW_ne ef hb nb h) (by omega)
      · have := same nb na
        refine sc_OW_mono (sc_OW_stuck ef hb nb (fun z => ?_) h) (by omega)
        have := hmax b hb ha z
        exact na ⟨fun z => nb z.symm, by omega⟩
  · obtain ⟨cn, cg, ck, cb, cp, ca⟩ := c
    have nb : b ≠ d := by intro z; subst z; omega
    have := same nb (fun z => by have := z.2; omega)
    exact sc_OW_mono (sc_OW_stuck ef hb nb (cn b hb ha) h) (by omega)
  · obtain ⟨cn, cs, cq, ce, ck, cb, cp, ca, -⟩ := c
    have nb : b ≠ d := by intro z; subst z; omega
    have := same nb (fun z => by have := z.2; omega)
    exact sc_OW_mono (sc_OW_stuck ef hb nb (cn b hb ha) h) (by omega)
  · obtain ⟨cn, cs, cd, ck, ca, cw, cp, -⟩ := c
    have nb : b ≠ d := by intro z; subst z; rw [ck] at cp; exact cn b hb ha cp
    by_cases na : sc_ah s b d
    · have := less nb na cd ck
      exact sc_OW_mono (sc_OW_stuck ef hb nb (cn b hb ha) h) (by omega)
    · have := same nb na
      exact sc_OW_mono (sc_OW_stuck ef hb nb (cn b hb ha) h) (by omega)
  · obtain ⟨cn, cs, ck, -⟩ := c
    subst ck
    have ef8 := sc_Ef_5 ef
    have nb : b ≠ 8 := by omega
    have : sc_aS t b ≤ sc_aS s b := by
      refine sc_sm_le 8 fun y hy => ?_
      have h1 := sc_Ef_ne ef8 hy (by omega)
      have h2 := sc_Ef_ne ef8 hb nb
      have e1 : sc_st t y = sc_st s y := by unfold sc_st; rw [h1.1]
      rw [e1, sc_ic_c (q := sc_ah s b y)]
      · omega
      · unfold sc_ah
        rw [h1.2.2.2.2.2.2, h2.2.2.2.2.2.2]
        constructor
        · rintro ⟨z1, z2⟩; exact ⟨z1, by omega⟩
        · rintro ⟨z1, z2⟩; exact ⟨z1, by omega⟩
    exact sc_OW_mono (sc_OW_stuck ef8 hb nb (cn b hb ha) h) (by omega)
/-- in a run no bank grows older than 469 -/
theorem sc_T1 {B : Nat → sc_S} {n : Nat} (h : sc_Run B n) : ∀ j, j ≤ n → ∀ b, b < 8 → 448 ≤ sc_age (B j) b → sc_OW (B j) b (sc_c (B j) - sc_age (B j) b + 470 - sc_aS (B j) b)
  | 0, _, b, hb, ha => by have := h.2.2.2.1 b hb; omega
  | j + 1, hj, b, hb, ha => by
    have x := h.2.2.2.2.2 j (by omega)
    have hc := (sc_Nx_c x).1
    rcases sc_Nx_age x hb with z | z
    · by_cases a0 : 448 ≤ sc_age (B j) b
      · have := sc_T1 h j (by omega) b hb a0
        have e : sc_c (B (j + 1)) - sc_age (B (j + 1)) b + 470 - sc_aS (B (j + 1)) b = (sc_c (B j) - sc_age (B j) b + 470) - sc_aS (B (j + 1)) b := by omega
        rw [e]
        exact sc_FR_step (sc_Run_W h j (by omega)).1 x hb a0 (by omega) this
      · have w := (sc_Run_W h (j + 1) hj).1
        have l := sc_aS_le (B (j + 1)) b hb
        refine sc_OW_mono (sc_OW_start w hb ?_) (by omega)
        obtain ⟨wp, w0, w1, w2, w3, w4, wb, -⟩ := w
        have := wb b hb
        omega
    · omega
theorem sc_T1_age {B : Nat → sc_S} {n : Nat} (h : sc_Run B n) {j : Nat} (hj : j ≤ n) {b : Nat} (hb : b < 8) : sc_age (B j) b ≤ 469 := by
  apply Classical.byContradiction
  intro z
  have := sc_OW_pos (sc_T1 h j hj b hb (by omega))
  have := sc_aS_nn (B j) b
  omega
end
section
/-! An idle bank that is due: nothing but a bounded number of commands keeps it from its refresh. -/
def sc_cl (s : sc_S) (q : Nat) : Int := if q < 6 ∨ sc_fu s q ≠ 0 ∨ sc_fe s q ≠ 0 then 1 else 2
def sc_gp (s : sc_S) (q : Nat) : Prop := sc_gd s q ∧ (sc_op s (sc_bk s q) < 0 ∨ sc_op s (sc_bk s q) = sc_ro s q)
noncomputable def sc_wq (s : sc_S) (q : Nat) : Int := sc_cl s q + 4 - sc_ic (sc_gp s q) 2 0
def sc_wm (q : Nat) : Int := if q < 6 then 5 else 6
noncomputable def sc_bud (s : sc_S) (M : Nat → Prop) (fb : Nat → Int) (q : Nat) : Int := sc_ic (M q) 0 (if sc_c s < fb q then sc_wm q else if sc_pd s q ≠ 0 then sc_wq s q else 0)
noncomputable def sc_tt (s : sc_S) (x : Nat) : Int := if sc_op s x < 0 then 1 else sc_ic (sc_rw s x) 0 2
def sc_ph (s : sc_S) (th : Int) (x : Nat) : Int := if sc_age s x < th then 0 else if 448 ≤ sc_age s x ∧ sc_op s x < 0 then 1 else 3
noncomputable def sc_bt (s : sc_S) (th : Int) (Bd Kd : Nat → Prop) (b0 x : Nat) : Int :=
  if x = b0 then 0 else sc_ic (Bd x) (sc_tt s x + sc_ph s th x) (sc_ic (Kd x) 0 (if sc_age s x < th then 0 else sc_st s x))
noncomputable def sc_R (s : sc_S) (th : Int) (M : Nat → Prop) (fb : Nat → Int) (Bd Kd : Nat → Prop) (b0 : Nat) : Int :=
  sc_sm (sc_bud s M fb) 12 + sc_sm (sc_bt s th Bd Kd b0) 8
theorem sc_cl_in (s : sc_S) (q : Nat) : (sc_cl s q = 1 ∨ sc_cl s q = 2) ∧ (q < 6 → sc_cl s q = 1) := by
  unfold sc_cl
  refine ⟨by split <;> simp, fun h => by rw [if_pos (.inl h)]⟩
theorem sc_wq_in (s : sc_S) (q : Nat) : 3 ≤ sc_wq s q ∧ sc_wq s q ≤ sc_wm q := by
  have h := sc_cl_in s q
  unfold sc_wq sc_wm
  rcases sc_ic_or (sc_gp s q) 2 0 with ⟨-, z⟩ | ⟨-, z⟩ <;> rw [z] <;> split <;> rename_i l
  · have := h.2 l; omega
  · omega
  · have := h.2 l; omega
  · omega
theorem sc_bud_nn (s : sc_S) (M : Nat → Prop) (fb : Nat → Int) (q : Nat) : 0 ≤ sc_bud s M fb q := by
  unfold sc_bud
  have h := sc_wq_in s q
  rcases sc_ic_or (M q) 0 (if sc_c s < fb q then sc_wm q else if sc_pd s q ≠ 0 then sc_wq s q else 0) with ⟨-, z⟩ | ⟨-, z⟩ <;> rw [z]
  · omega
  · split
    · unfold sc_wm; split <;> omega
    · split <;> omega
theorem sc_tt_in (s : sc_S) (x : Nat) : 0 ≤ sc_tt s x ∧ sc_tt s x ≤ 2 := by
  unfold sc_tt; split
  · omega
  · rcases sc_ic_or (sc_rw s x) 0 2 with ⟨-, z⟩ | ⟨-, z⟩ <;> rw [z] <;> omega
theorem sc_ph_in (s : sc_S) (th : Int) (x : Nat) : 0 ≤ sc_ph s th x ∧ sc_ph s th x ≤ 3 := by
  unfold sc_ph; split
  · omega
  · split <;> omega
theorem sc_bt_nn (s : sc_S) (th : Int) (Bd Kd : Nat → Prop) (b0 x : Nat) : 0 ≤ sc_bt s th Bd Kd b0 x := by
  have h1 := sc_tt_in s x; have h2 := sc_ph_in s th x; have h3 := sc_st_in s x
  unfold sc_bt; split
  · omega
  · rcases sc_ic_or (Bd x) (sc_tt s x + sc_ph s th x) (sc_ic (Kd x) 0 (if sc_age s x < th then 0 else sc_st s x)) with ⟨-, z⟩ | ⟨-, z⟩ <;> rw [z]
    · omega
    · rcases sc_ic_or (Kd x) 0 (if sc_age s x < th then 0 else sc_st s x) with ⟨-, z⟩ | ⟨-, z⟩ <;> rw [z]
      · omega
      · split <;> omega
theorem sc_R_nn (s : sc_S) (th : Int) (M : Nat → Prop) (fb : Nat → Int) (Bd Kd : Nat → Prop) (b0 : Nat) : 0 ≤ sc_R s th M fb Bd Kd b0 := by
  have h1 := sc_sm_nn 12 fun i _ => sc_bud_nn s M fb i
  have h2 := sc_sm_nn 8 fun i _ => sc_bt_nn s th Bd Kd b0 i
  unfold sc_R; omega
/-- what the step to the next clock keeps, for a request that is not born anew -/
theorem sc_keep {s t u : sc_S} {k d q p : Nat} (ef : sc_Ef s t k d q) (bi : sc_Bi t u) (hp : p < 12) (pu : sc_pd u p ≠ 0) (nb : sc_bo u p ≤ sc_c s) :
    sc_pd t p ≠ 0 ∧ sc_pd s p ≠ 0 ∧ sc_ad u p = sc_ad s p ∧ sc_fu u p = sc_fu s p ∧ sc_fe u p = sc_fe t p ∧ sc_bo u p = sc_bo s p ∧ sc_se u p = sc_se s p ∧ sc_bk u p = sc_bk s p ∧ sc_ro u p = sc_ro s p := by
  have h1 := sc_Ef_rq ef hp
  have hc := (sc_Ef_sc ef).1
  rcases bi.2.2.2 p hp with z | z
  · have pt : sc_pd t p ≠ 0 := by rw [← z.1]; exact pu
    refine ⟨pt, (sc_Ef_pd ef hp pt).1, by rw [z.2.1]; exact h1.1, by rw [z.2.2.1]; exact h1.2.1, z.2.2.2.1, by omega, by omega, ?_, ?_⟩
    · show sc_bA _ = sc_bA _; rw [z.2.1, h1.1]
    · show sc_rA _ = sc_rA _; rw [z.2.1, h1.1]
  · omega
theorem sc_el_keep {s t u : sc_S} {k d q p : Nat} (v : sc_V s) (ef : sc_Ef s t k d q) (en : sc_ns t = sc_ns s) (bi : sc_Bi t u) (hdr : sc_dr t ≠ 0 → sc_dr u = 0 → ∀ p, 6 ≤ p → p < 12 → sc_pd u p = 0)
    (hp : p < 12) (pu : sc_pd u p ≠ 0) (nb : sc_bo u p ≤ sc_c s) (e : sc_el s p) : sc_el u p := by
  obtain ⟨k1, k2, k3, k4, k5, k6, k7, k8, k9⟩ := sc_keep ef bi hp pu nb
  refine ⟨pu, ?_⟩
  rcases e.2 with z | ⟨z1, z2⟩
  · exact .inl z
  · by_cases l : p < 6
    · exact .inl l
    · refine .inr ⟨fun y => pu (hdr (by rw [(sc_Ef_sc ef).2.2.2.2.2]; exact z1) y p (by omega) hp), fun o ho po ad => ?_⟩
      rw [k7]
      rcases bi.2.2.2 o ho with y | y
      · have h1 := sc_Ef_rq ef ho
        have pt : sc_pd t o ≠ 0 := by rw [← y.1]; exact po
        have := z2 o ho (sc_Ef_pd ef ho pt).1 (by rw [← h1.1, ← y.2.1, ad, k3])
        omega
      · have := (v p hp k2).1
        omega
theorem sc_gp_keep {s t u : sc_S} {k d q p : Nat} (w : sc_W s) (v : sc_V s) (ch : sc_Ch s k d q) (ef : sc_Ef s t k d q) (en : sc_ns t = sc_ns s) (bi : sc_Bi t u)
    (hp : p < 12) (pu : sc_pd u p ≠ 0) (nb : sc_bo u p ≤ sc_c s) (g : sc_gd s p) :
    sc_gd u p ∧ ((sc_op s (sc_bk s p) < 0 ∨ sc_op s (sc_bk s p) = sc_ro s p) → (sc_op u (sc_bk u p) < 0 ∨ sc_op u (sc_bk u p) = sc_ro u p)) := by
  obtain ⟨k1, k2, k3, k4, k5, k6, k7, k8, k9⟩ := sc_keep ef bi hp pu nb
  have hs := sc_Bi_s bi
  have hc := sc_Ef_sc ef
  refine ⟨⟨hp, pu, fun o ho po => ?_, ?_⟩, fun hph => ?_⟩
  · rw [k7]
    rcases bi.2.2.2 o ho with y | y
    · have h1 := sc_Ef_rq ef ho
      have pt : sc_pd t o ≠ 0 := by rw [← y.1]; exact po
      have := g.2.2.1 o ho (sc_Ef_pd ef ho pt).1
      omega
    · have := (v p hp k2).1
      omega
  · have := g.2.2.2
    omega
  · rw [k8, k9, (sc_Bi_b bi (sc_bA_lt _)).2.1]
    by_cases nd : sc_bk s p = d
    · subst nd
      have o1 := (sc_Ef_at ef (sc_bA_lt _)).1
      rw [o1]
      have ca := sc_Ch_age ch
      by_cases k0 : k = 0
      · rw [if_pos k0]
        have qq : q = p := by
          rcases ch with c | c | c | c | c
          · have h34 : k = 3 ∨ k = 4 := by rw [c.2.1]; unfold sc_sk; split <;> simp
            omega
          · exact sc_gd_un w c.2.1 g
          · exact absurd c.2.2.2.2.2.1.symm (c.2.2.2.2.2.2.2.2.1 p g).1
          · have h34 : k = 3 ∨ k = 4 := by rw [c.2.2.2.1]; unfold sc_sk; split <;> simp
            omega
          · have := c.2.2.1; omega
        rw [qq]; exact .inr rfl
      · rw [if_neg k0]
        by_cases k3 : k = 3
        · rw [if_pos k3]; exact .inl (by decide)
        · rw [if_neg k3]; exact hph
    · have o1 := (sc_Ef_ne (x := sc_bk s p) ef (sc_bA_lt _) nd).1
      rw [o1]; exact hph
theorem sc_cl_keep {s t u : sc_S} {k d q p : Nat} (ef : sc_Ef s t k d q) (bi : sc_Bi t u) (hp : p < 12) (pu : sc_pd u p ≠ 0) (nb : sc_bo u p ≤ sc_c s) : sc_cl u p ≤ sc_cl s p := by
  obtain ⟨k1, k2, k3, k4, k5, k6, k7, k8, k9⟩ := sc_keep ef bi hp pu nb
  have h := sc_cl_in u p
  unfold sc_cl
  rw [k4, k5]
  have ee := ef
  obtain ⟨-, -, -, -, -, -, -, -, -, -, -, -, -, -, -, -, -, -, -, -, e2, -⟩ := ee
  have e2 := e2 p hp
  by_cases z : q < 6 ∨ True
  · by_cases y : p < 6 ∨ sc_fu s p ≠ 0 ∨ sc_fe s p ≠ 0
    · rw [if_pos y, if_pos]
      · omega
      · rcases y with y | y | y
        · exact .inl y
        · exact .inr (.inl y)
        · refine .inr (.inr ?_)
          rw [e2]; split
          · decide
          · exact y
    · rw [if_neg y]; split <;> omega
  · exact absurd (Or.inr trivial) z
theorem sc_wq_keep {s t u : sc_S} {k d q p : Nat} (w : sc_W s) (v : sc_V s) (ch : sc_Ch s k d q) (ef : sc_Ef s t k d q) (en : sc_ns t = sc_ns s) (bi : sc_Bi t u)
    (hp : p < 12) (pu : sc_pd u p ≠ 0) (nb : sc_bo u p ≤ sc_c s) : sc_wq u p - sc_cl u p ≤ sc_wq s p - sc_cl s p ∧ sc_wq u p ≤ sc_wq s p := by
  have c1 := sc_cl_keep ef bi hp pu nb
  have c2 : sc_ic (sc_gp s p) 2 0 ≤ sc_ic (sc_gp u p) 2 0 := by
    by_cases z : sc_gp s p
    · have := sc_gp_keep w v ch ef en bi hp pu nb z.1
      rw [sc_ic_t z, sc_ic_t ⟨this.1, this.2 z.2⟩]; omega
    · rw [sc_ic_f z]
      rcases sc_ic_or (sc_gp u p) 2 0 with ⟨-, z⟩ | ⟨-, z⟩ <;> rw [z] <;> omega
  unfold sc_wq
  constructor <;> omega
end
section
theorem sc_bud_step {s t u : sc_S} {k d q p : Nat} {M : Nat → Prop} {fb : Nat → Int} (w : sc_W s) (v : sc_V s) (ch : sc_Ch s k d q) (ef : sc_Ef s t k d q) (en : sc_ns t = sc_ns s) (bi : sc_Bi t u)
    (hs : ∀ q, q < 12 → sc_pd s q ≠ 0 → ¬ M q ∧ fb q ≤ sc_c s) (hfb : ∀ q, q < 12 → ¬ M q → sc_bo u q ≤ fb q) (hp : p < 12) : sc_bud u M fb p ≤ sc_bud s M fb p := by
  have hc : sc_c u = sc_c s + 1 := by have := (sc_Bi_s bi).1; have := (sc_Ef_sc ef).1; omega
  by_cases m : M p
  · unfold sc_bud; rw [sc_ic_t m, sc_ic_t m]; omega
  · have hw := sc_wq_in u p
    by_cases l : sc_c s < fb p
    · have e1 : sc_bud s M fb p = sc_wm p := by unfold sc_bud; rw [sc_ic_f m, if_pos l]
      rw [e1]
      unfold sc_bud; rw [sc_ic_f m]
      split
      · omega
      · split <;> omega
    · have nn := sc_bud_nn s M fb p
      by_cases pu : sc_pd u p = 0
      · have e1 : sc_bud u M fb p = 0 := by unfold sc_bud; rw [sc_ic_f m, if_neg (by omega), if_neg (by simpa using pu)]
        rw [e1]; exact nn
      · have nb : sc_bo u p ≤ sc_c s := by have := hfb p hp m; omega
        have k2 := (sc_keep ef bi hp pu nb).2.1
        have := (sc_wq_keep w v ch ef en bi hp pu nb).2
        unfold sc_bud
        rw [sc_ic_f m, sc_ic_f m, if_neg (by omega), if_neg l, if_pos pu, if_pos k2]
        exact this
theorem sc_bt_ne {s t u : sc_S} {k d q x : Nat} {th : Int} {Bd Kd : Nat → Prop} {b0 : Nat} (v : sc_V s) (ch : sc_Ch s k d q) (ef : sc_Ef s t k d q) (en : sc_ns t = sc_ns s) (bi : sc_Bi t u)
    (hdr : sc_dr t ≠ 0 → sc_dr u = 0 → ∀ p, 6 ≤ p → p < 12 → sc_pd u p = 0)
    (hbo : ∀ p, p < 12 → sc_pd s p ≠ 0 → sc_bo u p ≤ sc_c s) (hx : x < 8) (n : x ≠ d) : sc_bt u (th + 1) Bd Kd b0 x ≤ sc_bt s th Bd Kd b0 x := by
  obtain ⟨b1, b2, b3, b4, b5, b6, b7⟩ := sc_Ef_ne ef hx n
  obtain ⟨u1, u2, -⟩ := sc_Bi_b bi hx
  have o : sc_op u x = sc_op s x := by rw [u2, b1]
  have a : sc_age u x = sc_age s x + 1 := by rw [u1, b7]
  have h1 : sc_tt u x ≤ sc_tt s x := by
    have i1 := sc_tt_in u x
    unfold sc_tt
    rw [o]
    split
    · omega
    · by_cases r : sc_rw s x
      · have r2 : sc_rw u x := by
          obtain ⟨p, hp, ep, bp, rp⟩ := r
          have pu : sc_pd u p ≠ 0 := by
            intro z
            have nbo := hbo p hp ep.1
            rcases bi.2.2.2 p hp with y | y
            · have := sc_Ef_gone ef hp ep.1 (by rw [← y.1]; exact z)
              have k12 : k = 1 ∨ k = 2 := by rcases this with g | g; exact .inl g.1; exact .inr g.1
              have db := sc_Ch_bk ch (.inr k12)
              apply n
              rw [db, ← bp]
              rcases this with g | g
              · show sc_bA _ = sc_bA _; rw [g.2.2]
              · rw [g.2]
            · have := (sc_Ef_sc ef).1; omega
          have nbo := hbo p hp ep.1
          have kk := sc_keep ef bi hp pu nbo
          exact ⟨p, hp, sc_el_keep v ef en bi hdr hp pu nbo ep, by rw [kk.2.2.2.2.2.2.2.1]; exact bp, by rw [kk.2.2.2.2.2.2.2.2, o]; exact rp⟩
        rw [sc_ic_t r, sc_ic_t r2]; omega
      · rw [sc_ic_f r]
        rcases sc_ic_or (sc_rw u x) 0 2 with ⟨-, z⟩ | ⟨-, z⟩ <;> rw [z] <;> omega
  have h2 : sc_ph u (th + 1) x ≤ sc_ph s th x := by
    unfold sc_ph
    rw [o, a]
    by_cases l : sc_age s x < th
    · rw [if_pos l, if_pos (by omega)]; omega
    · rw [if_neg l, if_neg (by omega)]
      by_cases y : 448 ≤ sc_age s x ∧ sc_op s x < 0
      · rw [if_pos y, if_pos (by omega)]; omega
      · rw [if_neg y]; split <;> omega
  have h3 : sc_st u x = sc_st s x := by unfold sc_st; rw [o]
  unfold sc_bt
  split
  · omega
  · by_cases B : Bd x
    · rw [sc_ic_t B, sc_ic_t B]; omega
    · rw [sc_ic_f B, sc_ic_f B]
      by_cases K : Kd x
      · rw [sc_ic_t K, sc_ic_t K]; omega
      · rw [sc_ic_f K, sc_ic_f K, a, h3]
        by_cases l : sc_age s x < th
        · rw [if_pos l, if_pos (by omega)]; omega
        · rw [if_neg l, if_neg (by omega)]; omega
theorem sc_R_asm {s u : sc_S} {th : Int} {M : Nat → Prop} {fb : Nat → Int} {Bd Kd : Nat → Prop} {b0 d p : Nat} {e1 e2 : Int}
    (hq : ∀ i, i < 12 → sc_bud u M fb i ≤ sc_bud s M fb i) (hp : p < 12) (h1 : sc_bud u M fb p + e1 ≤ sc_bud s M fb p)
    (hx : ∀ x, x < 8 → x ≠ d → sc_bt u (th + 1) Bd Kd b0 x ≤ sc_bt s th Bd Kd b0 x) (hd : d < 8) (h2 : sc_bt u (th + 1) Bd Kd b0 d + e2 ≤ sc_bt s th Bd Kd b0 d) :
    sc_R u (th + 1) M fb Bd Kd b0 + e1 + e2 ≤ sc_R s th M fb Bd Kd b0 := by
  have l1 := sc_sm_le1' (d := e1) 12 p hp (fun i hi _ => hq i hi) h1
  have l2 := sc_sm_le1' (d := e2) 8 d hd hx h2
  unfold sc_R; omega
theorem sc_bt_B {s : sc_S} {th : Int} {Bd Kd : Nat → Prop} {b0 x : Nat} (n : x ≠ b0) (B : Bd x) : sc_bt s th Bd Kd b0 x = sc_tt s x + sc_ph s th x := by
  unfold sc_bt; rw [if_neg n, sc_ic_t B]
theorem sc_bt_K {s : sc_S} {th : Int} {Bd Kd : Nat → Prop} {b0 x : Nat} (B : ¬ Bd x) (K : Kd x) : sc_bt s th Bd Kd b0 x = 0 := by
  unfold sc_bt; split
  · rfl
  · rw [sc_ic_f B, sc_ic_t K]
theorem sc_bt_L {s : sc_S} {th : Int} {Bd Kd : Nat → Prop} {b0 x : Nat} (n : x ≠ b0) (B : ¬ Bd x) (K : ¬ Kd x) : sc_bt s th Bd Kd b0 x = if sc_age s x < th then 0 else sc_st s x := by
  unfold sc_bt; rw [if_neg n, sc_ic_f B, sc_ic_f K]
theorem sc_bt_0 {s : sc_S} {th : Int} {Bd Kd : Nat → Prop} {b0 : Nat} : sc_bt s th Bd Kd b0 b0 = 0 := by
  unfold sc_bt; rw [if_pos rfl]
/-- a service command -/
theorem sc_idle_sv {s t u : sc_S} {k d q : Nat} {th : Int} {M : Nat → Prop} {fb : Nat → Int} {Bd Kd : Nat → Prop} {b0 : Nat} (w : sc_W s) (v : sc_V s) (hD : sc_Dr s) (ch : sc_Ch s k d q) (ef : sc_Ef s t k d q) (en : sc_ns t = sc_ns s) (bi : sc_Bi t u)
    (hdr : sc_dr t ≠ 0 → sc_dr u = 0 → ∀ p, 6 ≤ p → p < 12 → sc_pd u p = 0)
    (nw : ¬ sc_wn s b0) (hB : ∀ x, x < 8 → sc_wn s x → Bd x)
    (hs : ∀ q, q < 12 → sc_pd s q ≠ 0 → ¬ M q ∧ fb q ≤ sc_c s) (hfb : ∀ q, q < 12 → ¬ M q → sc_bo u q ≤ fb q)
    (sv : sc_Cg s k d q ∨ sc_Co s k d q) : d ≠ b0 ∧ sc_R u (th + 1) M fb Bd Kd b0 + 1 ≤ sc_R s th M fb Bd Kd b0 := by
  have hc : sc_c u = sc_c s + 1 := by have := (sc_Bi_s bi).1; have := (sc_Ef_sc ef).1; omega
  have hbo : ∀ p, p < 12 → sc_pd s p ≠ 0 → sc_bo u p ≤ sc_c s := by
    intro p hp pp
    have h1 := hs p hp pp; have h2 := hfb p hp h1.1
    omega
  have el : q < 12 ∧ sc_el s q ∧ k = sc_kd s q ∧ d = sc_bk s q ∧ sc_age s d < 448 ∧ (sc_gd s q ∨ (k = 3 → ¬ sc_rw s d)) := by
    rcases sv with c | c
    · obtain ⟨-, cg, ck, cb, -, ca⟩ := c
      refine ⟨cg.1, ⟨cg.2.1, ?_⟩, ck, cb, ca, .inl cg⟩
      by_cases l : q < 6
      · exact .inl l
      · exact .inr ⟨hD q (by omega) cg.1 cg.2.1 cg.2.2.2, fun o ho po _ => cg.2.2.1 o ho po⟩
    · obtain ⟨-, -, cq, ce, ck, cb, -, ca, -, cr⟩ := c
      exact ⟨cq, ce, ck, cb, ca, .inr cr⟩
  obtain ⟨hq12, eq, hk, hd, ha, hg⟩ := el
  have d8 : d < 8 := by rw [hd]; exact sc_bA_lt _
  have wd : sc_wn s d := ⟨q, hq12, eq.1, hd.symm⟩
  have Bdd := hB d d8 wd
  have nd : d ≠ b0 := fun z => nw (by rw [← z]; exact wd)
  refine ⟨nd, ?_⟩
  have bq := fun i (hi : i < 12) => sc_bud_step w v ch ef en bi hs hfb hi
  have bx := fun x (hx : x < 8) (n : x ≠ d) => sc_bt_ne (th := th) (Bd := Bd) (Kd := Kd) (b0 := b0) v ch ef en bi hdr hbo hx n
  have at1 := sc_Ef_at ef d8
  obtain ⟨u1, u2, -⟩ := sc_Bi_b bi d8
  have k4 : k ≠ 4 := by have := sc_kd_in s q; omega
  have au : sc_age u d = sc_age s d + 1 := by rw [u1, at1.2.2.2.2.2.2, if_neg k4]
  have hph : sc_ph u (th + 1) d ≤ sc_ph s th d := by
    unfold sc_ph
    rw [au]
    by_cases l : sc_age s d < th
    · rw [if_pos l, if_pos (by omega)]; omega
    · rw [if_neg l, if_neg (by omega), if_neg (c := 448 ≤ sc_age s d ∧ sc_op s d < 0) (by omega)]
      split <;> omega
  have es := sc_bt_B (s := s) (th := th) (Kd := Kd) nd Bdd
  have eu := sc_bt_B (s := u) (th := th + 1) (Kd := Kd) nd Bdd
  have tu := sc_tt_in u d
  have ts := sc_tt_in s d
  have mq := hs q hq12 eq.1
  have budS : sc_bud s M fb q = sc_wq s q := by unfold sc_bud; rw [sc_ic_f mq.1, if_neg (by omega), if_pos eq.1]
  have wS := sc_wq_in s q
  have gone : sc_pd t q = 0 → sc_bud u M fb q = 0 := by
    intro z
    have pu : sc_pd u q = 0 := by
      rcases bi.2.2.2 q hq12 with y | y
      · rw [y.1]; exact z
      · have := hbo q hq12 eq.1; have := (sc_Ef_sc ef).1; omega
    unfold sc_bud; rw [sc_ic_f mq.1, if_neg (by omega), if_neg (by simpa using pu)]
  have kkd : sc_kd s q = 0 ∨ sc_kd s q = 1 ∨ sc_kd s q = 2 ∨ sc_kd s q = 3 := sc_kd_in s q
  -- what is open
  by_cases o : sc_op s d < 0
  · -- ACT
    have k0 : k = 0 := by rw [hk]; exact sc_kdA (by rw [← hd]; exact o)
    have ou : sc_op u d = sc_ro s q := by rw [u2, at1.1, if_pos k0]
    have pu : sc_pd u q ≠ 0 := by
      intro z
      rcases bi.2.2.2 q hq12 with y | y
      · have := sc_Ef_gone ef hq12 eq.1 (by rw [← y.1]; exact z)
        omega
      · have := hbo q hq12 eq.1; have := (sc_Ef_sc ef).1; omega
    have kk := sc_keep ef bi hq12 pu (hbo q hq12 eq.1)
    have ru : sc_rw u d := ⟨q, hq12, sc_el_keep v ef en bi hdr hq12 pu (hbo q hq12 eq.1) eq, by rw [kk.2.2.2.2.2.2.2.1]; exact hd.symm, by rw [kk.2.2.2.2.2.2.2.2, ou]⟩
    have t1 : sc_tt s d = 1 := by unfold sc_tt; rw [if_pos o]
    have t2 : sc_tt u d = 0 := by
      have := sc_rA_in (sc_ad s q)
      unfold sc_tt; rw [ou, if_neg (by show ¬ sc_rA _ < 0; omega), sc_ic_t ru]
    have := sc_R_asm (e1 := 0) (e2 := 1) bq hq12 (by have := bq q hq12; omega) bx d8 (by omega)
    omega
  · by_cases e : sc_op s d = sc_ro s q
    · have rs : sc_rw s d := ⟨q, hq12, eq, hd.symm, e.symm⟩
      have t0 : sc_tt s d = 0 := by unfold sc_tt; rw [if_neg o, sc_ic_t rs]
      have hk12 : k = 1 ∨ k = 2 := by rw [hk]; exact sc_kdC (by rw [← hd]; omega) (by rw [← hd]; exact e)
      have ou : sc_op u d = sc_op s d := by rw [u2, at1.1, if_neg (by omega), if_neg (by omega)]
      by_cases fin : sc_pd t q = 0
      · have := gone fin
        have := sc_R_asm (e1 := 3) (e2 := -2) bq hq12 (by omega) bx d8 (by omega)
        omega
      · -- a fetch
        have pd := sc_Ef_pd ef hq12 fin
        have k1 : k = 1 := by
          rcases hk12 with z | z
          · exact z
          · exact absurd ⟨z, rfl⟩ pd.2.2
        have q6 : 6 ≤ q := by
          rcases Nat.lt_or_ge q 6 with z | z
          · exact absurd ⟨k1, z, rfl⟩ pd.2.1
          · exact z
        have pu : sc_pd u q ≠ 0 := by
          rcases bi.2.2.2 q hq12 with y | y
          · rw [y.1]; exact fin
          · exact absurd y.1 fin
        have kk := sc_keep ef bi hq12 pu (hbo q hq12 eq.1)
        have ru : sc_rw u d := ⟨q, hq12, sc_el_keep v ef en bi hdr hq12 pu (hbo q hq12 eq.1) eq, by rw [kk.2.2.2.2.2.2.2.1]; exact hd.symm, by rw [kk.2.2.2.2.2.2.2.2, ou]; exact e.symm⟩
        have t2 : sc_tt u d = 0 := by unfold sc_tt; rw [ou, if_neg o, sc_ic_t ru]
        have ee := ef
        obtain ⟨-, -, -, -, -, -, -, -, -, -, -, -, -, -, -, -, -, -, -, -, e2, -⟩ := ee
        have e2 := e2 q hq12
        rw [if_pos ⟨.inl k1, q6, eq.1, rfl⟩] at e2
        have c1 : sc_cl u q = 1 := by unfold sc_cl; rw [if_pos (.inr (.inr (by rw [kk.2.2.2.2.1, e2]; decide)))]
        have c2 : sc_cl s q = 2 := by
          rw [hk] at k1
          unfold sc_kd at k1
          rw [if_neg (by rw [← hd]; exact o), if_neg (by rw [← hd]; simpa using e)] at k1
          unfold sc_cl
          rw [if_neg]
          rintro (z | z | z)
          · omega
          · rw [if_neg (by intro z2; rcases z2 with z2 | z2; omega; exact z z2.1)] at k1; simp at k1
          · rw [if_neg (by intro z2; rcases z2 with z2 | z2; omega; exact z z2.2)] at k1; simp at k1
        have wk := (sc_wq_keep w v ch ef en bi hq12 pu (hbo q hq12 eq.1)).1
        have bU : sc_bud u M fb q = sc_wq u q := by unfold sc_bud; rw [sc_ic_f mq.1, if_neg (by omega), if_pos pu]
        have := sc_R_asm (e1 := 1) (e2 := 0) bq hq12 (by omega) bx d8 (by omega)
        omega
    · -- PRE
      have k3 : k = 3 := by rw [hk]; exact sc_kdW (by rw [← hd]; omega) (by rw [← hd]; exact e)
      have ou : sc_op u d = -1 := by rw [u2, at1.1, if_neg (by omega), if_pos k3]
      have t1 : sc_tt u d = 1 := by unfold sc_tt; rw [ou, if_pos (by decide)]
      rcases hg with g | nr
      · have pt : sc_pd t q ≠ 0 := by
          intro z
          have := sc_Ef_gone ef hq12 eq.1 z
          omega
        have pu : sc_pd u q ≠ 0 := by
          rcases bi.2.2.2 q hq12 with y | y
          · rw [y.1]; exact pt
          · exact absurd y.1 pt
        have kk := sc_keep ef bi hq12 pu (hbo q hq12 eq.1)
        have gu := sc_gp_keep w v ch ef en bi hq12 pu (hbo q hq12 eq.1) g
        have g1 : sc_gp u q := ⟨gu.1, .inl (by rw [kk.2.2.2.2.2.2.2.1, ← hd, ou]; decide)⟩
        have g0 : ¬ sc_gp s q := by
          rintro ⟨-, z⟩
          rw [← hd] at z
          rcases z with z | z
          · exact o z
          · exact e z
        have wu : sc_wq u q + 2 ≤ sc_wq s q := by
          have := sc_cl_keep ef bi hq12 pu (hbo q hq12 eq.1)
          unfold sc_wq; rw [sc_ic_t g1, sc_ic_f g0]; omega
        have bU : sc_bud u M fb q = sc_wq u q := by unfold sc_bud; rw [sc_ic_f mq.1, if_neg (by omega), if_pos pu]
        have := sc_R_asm (e1 := 2) (e2 := -1) bq hq12 (by omega) bx d8 (by omega)
        omega
      · have t2 : sc_tt s d = 2 := by unfold sc_tt; rw [if_neg o, sc_ic_f (nr k3)]
        have := sc_R_asm (e1 := 0) (e2 := 1) bq hq12 (by have := bq q hq12; omega) bx d8 (by omega)
        omega
end
section
/-- a refresh step on another bank -/
theorem sc_idle_rf {s t u : sc_S} {k d q : Nat} {th : Int} {M : Nat → Prop} {fb : Nat → Int} {Bd Kd : Nat → Prop} {b0 : Nat} (w : sc_W s) (v : sc_V s) (ch : sc_Ch s k d q) (ef : sc_Ef s t k d q) (en : sc_ns t = sc_ns s) (bi : sc_Bi t u)
    (hdr : sc_dr t ≠ 0 → sc_dr u = 0 → ∀ p, 6 ≤ p → p < 12 → sc_pd u p = 0)
    (hb0 : b0 < 8) (due : 128 ≤ sc_age s b0) (nw : ¬ sc_wn s b0)
    (hK : ∀ x, x < 8 → Kd x → sc_age u x ≠ 1)
    (hmax : ∀ x, x < 8 → Kd x → ¬ Bd x → x ≠ b0 → sc_age s x < sc_age s b0 ∨ (sc_age s x = sc_age s b0 ∧ b0 < x))
    (hth : th ≤ sc_age s b0) (th1 : 1 ≤ th) (th2 : th ≤ 448)
    (hs : ∀ q, q < 12 → sc_pd s q ≠ 0 → ¬ M q ∧ fb q ≤ sc_c s) (hfb : ∀ q, q < 12 → ¬ M q → sc_bo u q ≤ fb q)
    (hd : d < 8) (hk : k = sc_sk s d) (nd : d ≠ b0)
    (rf : (448 ≤ sc_age s d ∧ ∀ x, x < 8 → 448 ≤ sc_age s x → sc_P s (sc_sk s x) x → sc_age s x ≤ sc_age s d ∧ (sc_age s x = sc_age s d → d ≤ x)) ∨
      (sc_age s d < 448 ∧ ¬ sc_wn s d ∧ ∀ x, x < 8 → 128 ≤ sc_age s x → ¬ sc_wn s x → sc_P s (sc_sk s x) x → sc_age s x ≤ sc_age s d ∧ (sc_age s x = sc_age s d → d ≤ x))) :
    sc_R u (th + 1) M fb Bd Kd b0 + 1 ≤ sc_R s th M fb Bd Kd b0 ∨ (sc_R u (th + 1) M fb Bd Kd b0 ≤ sc_R s th M fb Bd Kd b0 ∧ ¬ sc_P s (sc_sk s b0) b0) := by
  have hc : sc_c u = sc_c s + 1 := by have := (sc_Bi_s bi).1; have := (sc_Ef_sc ef).1; omega
  have hbo : ∀ p, p < 12 → sc_pd s p ≠ 0 → sc_bo u p ≤ sc_c s := by
    intro p hp pp
    have h1 := hs p hp pp; have h2 := hfb p hp h1.1
    omega
  have bq := fun i (hi : i < 12) => sc_bud_step w v ch ef en bi hs hfb hi
  have bx := fun x (hx : x < 8) (n : x ≠ d) => sc_bt_ne (th := th) (Bd := Bd) (Kd := Kd) (b0 := b0) v ch ef en bi hdr hbo hx n
  have at1 := sc_Ef_at ef hd
  obtain ⟨u1, u2, -⟩ := sc_Bi_b bi hd
  have fin1 : ∀ e2 : Int, 1 ≤ e2 → sc_bt u (th + 1) Bd Kd b0 d + e2 ≤ sc_bt s th Bd Kd b0 d → sc_R u (th + 1) M fb Bd Kd b0 + 1 ≤ sc_R s th M fb Bd Kd b0 := by
    intro e2 l h2
    have := sc_R_asm (p := 0) (e1 := 0) bq (by decide) (by have := bq 0 (by decide); omega) bx hd h2
    omega
  have fin0 : sc_bt u (th + 1) Bd Kd b0 d ≤ sc_bt s th Bd Kd b0 d → sc_R u (th + 1) M fb Bd Kd b0 ≤ sc_R s th M fb Bd Kd b0 := by
    intro h2
    have := sc_R_asm (p := 0) (e1 := 0) (e2 := 0) bq (by decide) (by have := bq 0 (by decide); omega) bx hd (by omega)
    omega
  -- a younger bank goes only when b0 cannot
  have stuck : (sc_age s d < sc_age s b0 ∨ (sc_age s d = sc_age s b0 ∧ b0 < d)) → ¬ sc_P s (sc_sk s b0) b0 := by
    intro l P
    rcases rf with ⟨a, r⟩ | ⟨a, nwd, r⟩
    · have := r b0 hb0 (by omega) P; omega
    · have := r b0 hb0 due nw P; omega
  by_cases o : sc_op s d < 0
  · -- REF
    have k4 : k = 4 := by rw [hk]; unfold sc_sk; rw [if_pos o]
    have ou : sc_op u d = sc_op s d := by rw [u2, at1.1, if_neg (by omega), if_neg (by omega)]
    have au : sc_age u d = 1 := by rw [u1, at1.2.2.2.2.2.2, if_pos k4]; omega
    have nK : ¬ Kd d := fun z => hK d hd z au
    by_cases B : Bd d
    · have es := sc_bt_B (s := s) (th := th) (Kd := Kd) nd B
      have eu := sc_bt_B (s := u) (th := th + 1) (Kd := Kd) nd B
      have t1 : sc_tt s d = 1 := by unfold sc_tt; rw [if_pos o]
      have t2 : sc_tt u d = 1 := by unfold sc_tt; rw [if_pos (by rw [ou]; exact o)]
      have p2 : sc_ph u (th + 1) d = 0 := by unfold sc_ph; rw [if_pos (by omega)]
      by_cases l : sc_age s d < th
      · have p1 : sc_ph s th d = 0 := by unfold sc_ph; rw [if_pos l]
        exact .inr ⟨fin0 (by omega), stuck (by omega)⟩
      · have p1 : 1 ≤ sc_ph s th d := by unfold sc_ph; rw [if_neg l]; split <;> omega
        exact .inl (fin1 1 (by omega) (by omega))
    · have es := sc_bt_L (s := s) (th := th) (Kd := Kd) nd B nK
      have eu := sc_bt_L (s := u) (th := th + 1) (Kd := Kd) nd B nK
      rw [if_pos (by omega)] at eu
      by_cases l : sc_age s d < th
      · rw [if_pos l] at es
        exact .inr ⟨fin0 (by omega), stuck (by omega)⟩
      · rw [if_neg l] at es
        have := sc_st_in s d
        exact .inl (fin1 1 (by omega) (by omega))
  · -- PRE
    have k3 : k = 3 := by rw [hk]; unfold sc_sk; rw [if_neg o]
    have ou : sc_op u d = -1 := by rw [u2, at1.1, if_neg (by omega), if_pos k3]
    have au : sc_age u d = sc_age s d + 1 := by rw [u1, at1.2.2.2.2.2.2, if_neg (by omega)]
    by_cases B : Bd d
    · have es := sc_bt_B (s := s) (th := th) (Kd := Kd) nd B
      have eu := sc_bt_B (s := u) (th := th + 1) (Kd := Kd) nd B
      have t2 : sc_tt u d = 1 := by unfold sc_tt; rw [if_pos (by rw [ou]; decide)]
      have ts := sc_tt_in s d
      rcases rf with ⟨a, r⟩ | ⟨a, nwd, r⟩
      · have p1 : sc_ph s th d = 3 := by unfold sc_ph; rw [if_neg (by omega), if_neg (by omega)]
        have p2 : sc_ph u (th + 1) d = 1 := by unfold sc_ph; rw [if_neg (by omega), if_pos (by omega)]
        exact .inl (fin1 1 (by omega) (by omega))
      · have t1 : sc_tt s d = 2 := by
          unfold sc_tt; rw [if_neg o, sc_ic_f]
          rintro ⟨p, hp, ep, bp, -⟩
          exact nwd ⟨p, hp, ep.1, bp⟩
        have p1 : sc_ph u (th + 1) d ≤ sc_ph s th d := by
          unfold sc_ph
          by_cases l : sc_age s d < th
          · rw [if_pos l, if_pos (by omega)]; omega
          · rw [if_neg l, if_neg (by omega), if_neg (c := 448 ≤ sc_age s d ∧ sc_op s d < 0) (by omega)]; split <;> omega
        exact .inl (fin1 1 (by omega) (by omega))
    · by_cases K : Kd d
      · have es := sc_bt_K (s := s) (th := th) (b0 := b0) B K
        have eu := sc_bt_K (s := u) (th := th + 1) (b0 := b0) B K
        exact .inr ⟨fin0 (by omega), stuck (hmax d hd K B nd)⟩
      · have es := sc_bt_L (s := s) (th := th) nd B K
        have eu := sc_bt_L (s := u) (th := th + 1) nd B K
        by_cases l : sc_age s d < th
        · rw [if_pos l] at es
          rw [if_pos (by omega)] at eu
          exact .inr ⟨fin0 (by omega), stuck (by omega)⟩
        · rw [if_neg l] at es
          rw [if_neg (by omega)] at eu
          have e1 : sc_st s d = 2 := by unfold sc_st; rw [if_neg o]
          have e2 : sc_st u d = 1 := by unfold sc_st; rw [if_pos (by rw [ou]; decide)]
          exact .inl (fin1 1 (by omega) (by omega))
/-- one clock of an idle bank's wait -/
theorem sc_idle {s u : sc_S} {th : Int} {M : Nat → Prop} {fb : Nat → Int} {Bd Kd : Nat → Prop} {b0 : Nat} {Z : Int} (w : sc_W s) (v : sc_V s) (hD : sc_Dr s) (x : sc_Nx s u)
    (hb0 : b0 < 8) (due : 128 ≤ sc_age s b0) (nw : ¬ sc_wn s b0) (Kb : Kd b0) (nB : ¬ Bd b0)
    (hK : ∀ x, x < 8 → Kd x → sc_age u x ≠ 1) (hB : ∀ x, x < 8 → sc_wn s x → Bd x)
    (hmax : ∀ x, x < 8 → Kd x → ¬ Bd x → x ≠ b0 → sc_age s x < sc_age s b0 ∨ (sc_age s x = sc_age s b0 ∧ b0 < x))
    (hth : th ≤ sc_age s b0) (th1 : 1 ≤ th) (th2 : th ≤ 448)
    (hs : ∀ q, q < 12 → sc_pd s q ≠ 0 → ¬ M q ∧ fb q ≤ sc_c s) (hfb : ∀ q, q < 12 → ¬ M q → sc_bo u q ≤ fb q)
    (h : sc_OW s b0 (Z - sc_R s th M fb Bd Kd b0)) : sc_OW u b0 (Z - sc_R u (th + 1) M fb Bd Kd b0) := by
  obtain ⟨t, k, d, q, ch, ef, en, bi, wu, vu, du, hdr⟩ := x
  refine sc_OW_Bi bi hb0 ?_
  have hbo : ∀ p, p < 12 → sc_pd s p ≠ 0 → sc_bo u p ≤ sc_c s := by
    intro p hp pp
    have h1 := hs p hp pp; have h2 := hfb p hp h1.1
    omega
  have bq := fun i (hi : i < 12) => sc_bud_step w v ch ef en bi hs hfb hi
  have bx := fun x (hx : x < 8) (n : x ≠ d) => sc_bt_ne (th := th) (Bd := Bd) (Kd := Kd) (b0 := b0) v ch ef en bi hdr hbo hx n
  have sv : (sc_Cg s k d q ∨ sc_Co s k d q) → sc_OW t b0 (Z - sc_R u (th + 1) M fb Bd Kd b0) := by
    intro c
    obtain ⟨nd, r⟩ := sc_idle_sv (th := th) (Kd := Kd) w v hD ch ef en bi hdr nw hB hs hfb c
    exact sc_OW_mono (sc_OW_ne ef hb0 (fun z => nd z.symm) h) (by omega)
  have rfr : d < 8 → k = sc_sk s d → ((448 ≤ sc_age s d ∧ ∀ x, x < 8 → 448 ≤ sc_age s x → sc_P s (sc_sk s x) x → sc_age s x ≤ sc_age s d ∧ (sc_age s x = sc_age s d → d ≤ x)) ∨
      (sc_age s d < 448 ∧ ¬ sc_wn s d ∧ ∀ x, x < 8 → 128 ≤ sc_age s x → ¬ sc_wn s x → sc_P s (sc_sk s x) x → sc_age s x ≤ sc_age s d ∧ (sc_age s x = sc_age s d → d ≤ x))) →
      sc_OW t b0 (Z - sc_R u (th + 1) M fb Bd Kd b0) := by
    intro hd hk rf
    by_cases nd : d = b0
    · subst nd
      have ho : 0 ≤ sc_op s d := by
        apply Classical.byContradiction
        intro z
        have k4 : k = 4 := by rw [hk]; unfold sc_sk; rw [if_pos (by omega)]
        have e := (sc_Ef_at ef hb0).2.2.2.2.2.2
        rw [if_pos k4] at e
        exact hK d hd Kb (by rw [(sc_Bi_b bi hb0).1, e]; omega)
      have k3 : k = 3 := by rw [hk]; unfold sc_sk; rw [if_neg (by omega)]
      subst k3
      have := sc_R_asm (p := 0) (e1 := 0) (e2 := 0) bq (by decide) (by have := bq 0 (by decide); omega) bx hd (by rw [sc_bt_0, sc_bt_0]; omega)
      exact sc_OW_mono (sc_OW_own w ef hb0 ho h) (by omega)
    · rcases sc_idle_rf (Bd := Bd) (Kd := Kd) w v ch ef en bi hdr hb0 due nw hK hmax hth th1 th2 hs hfb hd hk nd rf with r | ⟨r, p⟩
      · exact sc_OW_mono (sc_OW_ne ef hb0 (fun z => nd z.symm) h) (by omega)
      · exact sc_OW_mono (sc_OW_stuck ef hb0 (fun z => nd z.symm) p h) (by omega)
  have ch0 := ch
  rcases ch with c | c | c | c | c
  · exact rfr c.1 c.2.1 (.inl ⟨c.2.2.1, c.2.2.2.2⟩)
  · exact sv (.inl c)
  · exact sv (.inr c)
  · obtain ⟨cn, cs, cd, ck, ca, cw, cp, cm⟩ := c
    refine rfr cd ck (.inr ⟨?_, cw, cm⟩)
    apply Classical.byContradiction
    intro z
    rw [ck] at cp
    exact cn d cd (by omega) cp
  · obtain ⟨cn, cs, ck, cx⟩ := c
    subst ck
    have ef8 := sc_Ef_5 ef
    have ch8 : sc_Ch s 5 8 q := .inr (.inr (.inr (.inr ⟨cn, cs, rfl, cx⟩)))
    have bq8 := fun i (hi : i < 12) => sc_bud_step w v ch8 ef8 en bi hs hfb hi
    have bx8 := fun x (hx : x < 8) => sc_bt_ne (th := th) (Bd := Bd) (Kd := Kd) (b0 := b0) v ch8 ef8 en bi hdr hbo hx (by omega)
    have l1 := sc_sm_le 12 bq8
    have l2 := sc_sm_le 8 bx8
    have : sc_R u (th + 1) M fb Bd Kd b0 ≤ sc_R s th M fb Bd Kd b0 := by unfold sc_R; omega
    exact sc_OW_mono (sc_OW_stuck ef8 hb0 (by omega) (cx b0 hb0 due nw) h) (by omega)
end
section
/-! Looking back along a run. -/
theorem sc_Run_ns {B : Nat → sc_S} {n i : Nat} (h : sc_Run B n) : ∀ e, i + e ≤ n → sc_ns (B i) ≤ sc_ns (B (i + e))
  | 0, _ => Int.le_refl _
  | e + 1, he => by
    have h1 := sc_Run_ns (i := i) h e (by omega)
    have h2 := (sc_Nx_c (h.2.2.2.2.2 (i + e) (by omega))).2.2
    rw [← Nat.add_assoc]; omega
theorem sc_Run_bo {B : Nat → sc_S} {n : Nat} (h : sc_Run B n) {q : Nat} (hq : q < 12) : ∀ i, i ≤ n → sc_bo (B i) q ≤ sc_c (B i)
  | 0, _ => (h.2.2.2.2.1 q hq).1
  | i + 1, hi => by
    have h1 := sc_Run_bo h hq i (by omega)
    have x := h.2.2.2.2.2 i (by omega)
    have h2 := (sc_Nx_c x).1
    rcases sc_Nx_q x hq with z | z <;> omega
/-- a pending request was born in the run -/
theorem sc_Run_b0 {B : Nat → sc_S} {n : Nat} (h : sc_Run B n) {q : Nat} (hq : q < 12) : ∀ i, i ≤ n → sc_pd (B i) q ≠ 0 → sc_c (B 0) ≤ sc_bo (B i) q
  | 0, _, p => by have := (h.2.2.2.2.1 q hq).2 p; omega
  | i + 1, hi, p => by
    have x := h.2.2.2.2.2 i (by omega)
    have h2 := (sc_Nx_c x).1
    have h3 := (sc_Run_c h i (by omega)).1
    rcases sc_Nx_q x hq with z | z
    · have := sc_Run_b0 h hq i (by omega) (z.2.2.2.2 p); omega
    · omega
theorem sc_age_i {B : Nat → sc_S} {n : Nat} (h : sc_Run B n) {b : Nat} (hb : b < 8) : ∀ i, i ≤ n → 0 ≤ sc_age (B i) b ∧ sc_age (B i) b ≤ i ∧ (1 ≤ i → 1 ≤ sc_age (B i) b)
  | 0, _ => by have := h.2.2.2.1 b hb; omega
  | i + 1, hi => by
    have h1 := sc_age_i h hb i (by omega)
    rcases sc_Nx_age (h.2.2.2.2.2 i (by omega)) hb with z | z <;> omega
/-- a bank of age a had no refresh in a clocks -/
theorem sc_age_bk {B : Nat → sc_S} {n : Nat} (h : sc_Run B n) {b : Nat} (hb : b < 8) {i : Nat} : ∀ e, i + e ≤ n → e < sc_age (B (i + e)) b → sc_age (B i) b + e = sc_age (B (i + e)) b
  | 0, _, _ => by simp
  | e + 1, he, ha => by
    have x := h.2.2.2.2.2 (i + e) (by omega)
    rw [← Nat.add_assoc] at ha ⊢
    rcases sc_Nx_age x hb with z | z
    · have := sc_age_bk h hb (i := i) e (by omega) (by omega)
      omega
    · omega
/-- a pending request at a later index, born before the earlier one -/
theorem sc_pd_bk {B : Nat → sc_S} {n i e q : Nat} (h : sc_Run B n) (hq : q < 12) (he : i + e ≤ n) (p : sc_pd (B (i + e)) q ≠ 0) (l : sc_bo (B (i + e)) q ≤ sc_c (B i)) :
    sc_pd (B i) q ≠ 0 ∧ sc_se (B (i + e)) q = sc_se (B i) q ∧ sc_bo (B (i + e)) q = sc_bo (B i) q ∧ sc_ad (B (i + e)) q = sc_ad (B i) q := by
  rcases sc_Run_q h hq (sc_Run_bo h hq i (by omega)) e he with z | z
  · exact ⟨z.2.2.2.2 p, z.1, z.2.1, z.2.2.1⟩
  · omega
def sc_Dm (q : Nat) : Int := if q < 6 then 10 else 13
theorem sc_D_m (s : sc_S) (q : Nat) : sc_D s q ≤ sc_Dm q := by
  unfold sc_D sc_Dm
  by_cases h : q < 6
  · rw [if_pos h, if_pos (.inl h)]; omega
  · rw [if_neg h]; split <;> omega
theorem sc_Dm_sum : sc_sm sc_Dm 12 = 138 := by decide
theorem sc_af_138 {s : sc_S} {r q : Nat} (hq : q < 12) : sc_af s r q + sc_D s q ≤ 138 := by
  rw [← sc_Dm_sum]
  refine sc_sm_le1' 12 q hq (fun i _ _ => ?_) ?_
  · have := sc_D_m s i
    have := sc_D_pos s i
    split <;> omega
  · rw [if_neg (by omega)]; have := sc_D_m s q; omega
theorem sc_FU (s : sc_S) (a : Int) : sc_FS s + 16 * sc_U s a ≤ 128 := by
  have : sc_FS s + 16 * sc_U s a ≤ sc_sm (fun _ => 16) 8 := by
    unfold sc_FS sc_U
    rw [← sc_sm_mul, ← sc_sm_add]
    refine sc_sm_le 8 fun x _ => ?_
    have := sc_F_in s x
    by_cases l : a ≤ sc_age s x ∧ sc_age s x < 448
    · rw [if_pos l]
      have : sc_F s x = 0 := by unfold sc_F; rw [if_pos l.2]
      omega
    · rw [if_neg l]; omega
  rw [sc_sm_cst] at this
  omega
/-- requests with age are gone after 138 clocks, but for refreshes -/
theorem sc_drain {B : Nat → sc_S} {n i e r : Nat} (h : sc_Run B n) (he : i + e ≤ n) (e2 : e ≤ 447) (hr : r < 12) (p : sc_pd (B (i + e)) r ≠ 0) (l : sc_bo (B (i + e)) r + sc_cap (B 0) ≤ sc_c (B i)) :
    sc_c (B (i + e)) + 1 + sc_FS (B (i + e)) + 16 * sc_U (B (i + e)) (1 + e) ≤ sc_c (B i) + 267 + (if sc_FS (B (i + e)) = 0 then 0 else 5) := by
  have cp := (sc_Run_c h i (by omega)).2
  have cpe := (sc_Run_c h (i + e) he).2
  have ci := (sc_Run_c h i (by omega)).1
  have cie := (sc_Run_c h (i + e) he).1
  obtain ⟨w, v, -⟩ := sc_Run_W h i (by omega)
  obtain ⟨we, ve, -⟩ := sc_Run_W h (i + e) he
  have wp := w.1
  obtain ⟨pi, se, bo, -⟩ := sc_pd_bk h hr he p (by omega)
  have C : sc_CH (B i) (sc_se (B i) r + 1) (fun q => sc_c (B i) + 139 + sc_FS (B i) - sc_af (B i) r q) := by
    refine sc_mk hr pi (fun x hx px lx => ?_) (fun g hg lg => ?_)
    · have h1 := sc_af_138 (s := B i) (r := r) hx
      have h2 : sc_bo (B i) x ≤ sc_bo (B i) r := by
        have ws := w.2.2.2.2.2.2.2 x r hx hr px pi
        rcases Int.lt_or_le (sc_se (B i) x) (sc_se (B i) r) with z | z
        · exact ws.2 z
        · have := ws.1 (by omega); rw [this]; omega
      omega
    · have h1 := sc_af_138 (s := B i) (r := r) hg.1
      exact sc_start w (by omega)
  have lN := (v r hr pi).1
  obtain ⟨-, Z, z0, C2, u2⟩ := sc_CH_run h (a := 1) (by omega) (by omega) C e he (by omega)
  have L := sc_CH_lt2 we C2 hr p (by omega) (by omega)
  have fu := sc_FU (B i) 1
  rw [sc_af_self] at L
  obtain ⟨L1, L2, L3⟩ := L
  split
  · rename_i z; have := L3 z; omega
  · omega
end
section
/-! Old banks and many new requests do not come together. -/
def sc_kn (s : sc_S) : Int := sc_sm (fun b => if 192 ≤ sc_age s b then 1 else 0) 8
def sc_J (s : sc_S) (x0 : Nat) : Int := sc_sm (fun p => if sc_pd s p ≠ 0 ∧ sc_se s x0 ≤ sc_se s p then 0 else sc_Dm p) 12
/-- banks not of K without a refresh since th clocks -/
def sc_L (si s : sc_S) (th : Int) : Int := sc_sm (fun x => if sc_age si x < 192 ∧ th ≤ sc_age s x then 1 else 0) 8
theorem sc_L_nn (si s : sc_S) (th : Int) : 0 ≤ sc_L si s th := sc_sm_nn 8 fun x _ => by split <;> omega
theorem sc_kL (si s : sc_S) (th : Int) : sc_kn si + sc_L si s th ≤ 8 := by
  have : sc_kn si + sc_L si s th ≤ sc_sm (fun _ => 1) 8 := by
    unfold sc_kn sc_L
    rw [← sc_sm_add]
    refine sc_sm_le 8 fun x _ => ?_
    by_cases a : 192 ≤ sc_age si x
    · rw [if_pos a, if_neg (by omega)]; omega
    · rw [if_neg a]; split <;> omega
  rw [sc_sm_cst] at this
  omega
theorem sc_FR_run {B : Nat → sc_S} {n i b : Nat} {Z : Int} (h : sc_Run B n) (hb : b < 8) (ha : 448 ≤ sc_age (B i) b) (H : sc_OW (B i) b (Z - sc_aS (B i) b)) : ∀ e, i + e ≤ n → e < sc_age (B (i + e)) b → sc_OW (B (i + e)) b (Z - sc_aS (B (i + e)) b)
  | 0, _, _ => H
  | e + 1, he, l => by
    have x := h.2.2.2.2.2 (i + e) (by omega)
    rw [← Nat.add_assoc] at l ⊢
    have l0 : sc_age (B (i + e + 1)) b = sc_age (B (i + e)) b + 1 := by
      rcases sc_Nx_age x hb with z | z
      · exact z
      · omega
    have bk := sc_age_bk h hb (i := i) e (by omega) (by omega)
    have H2 := sc_FR_run h hb ha H e (by omega) (by omega)
    exact sc_FR_step (sc_Run_W h (i + e) (by omega)).1 x hb (by omega) (by omega) H2
theorem sc_first (P : Nat → Prop) (a : Nat) : ∀ d, ∃ u, a ≤ u ∧ u ≤ a + d ∧ (u = a + d ∨ ¬ P u) ∧ ∀ m, a ≤ m → m < u → P m
  | 0 => ⟨a, by omega, by omega, .inl rfl, fun m h1 h2 => by omega⟩
  | d + 1 => by
    obtain ⟨u, h1, h2, h3, h4⟩ := sc_first P a d
    by_cases z : u = a + d ∧ P u
    · refine ⟨a + d + 1, by omega, by omega, .inl rfl, fun m l1 l2 => ?_⟩
      by_cases e : m = a + d
      · rw [e, ← z.1]; exact z.2
      · exact h4 m l1 (by omega)
    · refine ⟨u, h1, by omega, .inr ?_, h4⟩
      rcases h3 with y | y
      · exact fun p => z ⟨y, p⟩
      · exact y
/-- old requests are still there: no bank of K is forced -/
theorem sc_nfK {B : Nat → sc_S} {n i e r : Nat} (h : sc_Run B n) (hi : i + 191 ≤ n) (he : e ≤ 191) (hr : r < 12) (p : sc_pd (B (i + e)) r ≠ 0) (l : sc_bo (B (i + e)) r + 256 ≤ sc_c (B (i + 191)))
    (hk : 6 ≤ sc_kn (B (i + 191))) : ∀ x, x < 8 → 192 ≤ sc_age (B (i + 191)) x → sc_age (B (i + e)) x < 448 := by
  have ci := (sc_Run_c h i (by omega)).1
  have cie := (sc_Run_c h (i + e) (by omega)).1
  have ct := (sc_Run_c h (i + 191) hi).1
  have cp := (sc_Run_c h i (by omega)).2
  obtain ⟨we, -, -⟩ := sc_Run_W h (i + e) (by omega)
  have wp := (sc_Run_W h i (by omega)).1.1
  have D := sc_drain h (i := i) (e := e) (by omega) (by omega) hr p (by omega)
  have D2 : sc_c (B (i + e)) + 1 + (sc_FS (B (i + e)) + 16 * sc_U (B (i + e)) (1 + e)) ≤ sc_c (B i) + 272 := by split at D <;> omega
  have idx : i + e + (191 - e) = i + 191 := by omega
  have bk : ∀ x, x < 8 → 192 ≤ sc_age (B (i + 191)) x → sc_age (B (i + e)) x + (191 - e : Nat) = sc_age (B (i + 191)) x := by
    intro x hx a
    have := sc_age_bk h hx (i := i + e) (191 - e) (by omega) (by rw [idx]; omega)
    rw [idx] at this; exact this
  have low : 15 * sc_kn (B (i + 191)) + 15 * sc_L (B (i + 191)) (B (i + e)) (1 + e) ≤ sc_FS (B (i + e)) + 16 * sc_U (B (i + e)) (1 + e) := by
    unfold sc_kn sc_L sc_FS sc_U
    rw [← sc_sm_mul, ← sc_sm_mul, ← sc_sm_mul, ← sc_sm_add, ← sc_sm_add]
    refine sc_sm_le 8 fun x hx => ?_
    have f := sc_F_in (B (i + e)) x
    by_cases a : 192 ≤ sc_age (B (i + 191)) x
    · have := bk x hx a
      rw [if_pos a, if_neg (by omega)]
      by_cases g : sc_age (B (i + e)) x < 448
      · rw [if_pos (by omega)]; omega
      · have : sc_F (B (i + e)) x ≠ 0 := by unfold sc_F; rw [if_neg g]; split <;> omega
        rw [if_neg (by omega)]; omega
    · rw [if_neg a]
      by_cases g : 1 + (e : Int) ≤ sc_age (B (i + e)) x
      · rw [if_pos (by omega)]
        by_cases g2 : sc_age (B (i + e)) x < 448
        · rw [if_pos (by omega)]; omega
        · have : sc_F (B (i + e)) x ≠ 0 := by unfold sc_F; rw [if_neg g2]; split <;> omega
          rw [if_neg (by omega)]; omega
      · rw [if_neg (by omega)]; split <;> omega
  have Ln := sc_L_nn (B (i + 191)) (B (i + e)) (1 + e)
  intro x hx a
  apply Classical.byContradiction
  intro f
  have b1 := bk x hx a
  have b2 := sc_T1_age h (j := i + 191) hi hx
  have L0 : sc_L (B (i + 191)) (B (i + e)) (1 + e) = 0 := by omega
  -- the first of the oldest banks
  obtain ⟨m, hm, -, mm⟩ := sc_min (fun _ => True) (fun y => y - 8 * sc_age (B (i + e)) y) 8 ⟨0, by decide, trivial⟩
  have m1 : ∀ y, y < 8 → sc_age (B (i + e)) y ≤ sc_age (B (i + e)) m ∧ (sc_age (B (i + e)) y = sc_age (B (i + e)) m → m ≤ y) := by
    intro y hy
    have := mm y hy trivial
    omega
  have am : 448 ≤ sc_age (B (i + e)) m := by have := (m1 x hx).1; omega
  have Km : 192 ≤ sc_age (B (i + 191)) m := by
    apply Classical.byContradiction
    intro z
    have := sc_sm_one (f := fun x => if sc_age (B (i + 191)) x < 192 ∧ 1 + (e : Int) ≤ sc_age (B (i + e)) x then 1 else 0) 8 (fun x _ => by split <;> omega) m hm
    have e1 : sc_sm (fun x => if sc_age (B (i + 191)) x < 192 ∧ 1 + (e : Int) ≤ sc_age (B (i + e)) x then 1 else 0) 8 = 0 := L0
    rw [e1, if_pos (by omega)] at this
    omega
  have b3 := bk m hm Km
  have aS : sc_aS (B (i + e)) m = 0 := by
    have : sc_aS (B (i + e)) m = sc_sm (fun _ => 0) 8 := sc_sm_eq 8 fun y hy => by
      rw [sc_ic_f]
      rintro ⟨z1, z2⟩
      have := m1 y hy
      omega
    rw [this, sc_sm_cst]; simp
  have O := sc_OW_start we hm (by have := we.2.2.2.2.2.2.1 m hm; omega)
  have O2 : sc_OW (B (i + e)) m (sc_c (B (i + e)) + 8 - sc_aS (B (i + e)) m) := by rw [aS]; simpa using O
  have O3 := sc_FR_run h hm am O2 (191 - e) (by omega) (by rw [idx]; omega)
  rw [idx] at O3
  have := sc_OW_pos O3
  have := sc_aS_nn (B (i + 191)) m
  omega
/-- the clock behind the last old request -/
theorem sc_lastold {B : Nat → sc_S} {n i e r : Nat} (h : sc_Run B n) (hi : i + 191 ≤ n) (he : e ≤ 191) (hr : r < 12) (p : sc_pd (B (i + e)) r ≠ 0) (l : sc_bo (B (i + e)) r + 256 ≤ sc_c (B (i + 191)))
    (hk : 6 ≤ sc_kn (B (i + 191))) : sc_c (B (i + e)) + 1 + 16 * sc_kn (B (i + 191)) + 10 * sc_L (B (i + 191)) (B (i + e)) (1 + e) ≤ sc_c (B (i + 191)) + 76 := by
  have nf := sc_nfK h hi he hr p l hk
  have ci := (sc_Run_c h i (by omega)).1
  have cie := (sc_Run_c h (i + e) (by omega)).1
  have ct := (sc_Run_c h (i + 191) hi).1
  have wp := (sc_Run_W h i (by omega)).1.1
  have cp := (sc_Run_c h i (by omega)).2
  have D := sc_drain h (i := i) (e := e) (by omega) (by omega) hr p (by omega)
  have idx : i + e + (191 - e) = i + 191 := by omega
  have bk : ∀ x, x < 8 → 192 ≤ sc_age (B (i + 191)) x → sc_age (B (i + e)) x + (191 - e : Nat) = sc_age (B (i + 191)) x := by
    intro x hx a
    have := sc_age_bk h hx (i := i + e) (191 - e) (by omega) (by rw [idx]; omega)
    rw [idx] at this; exact this
  have low : 16 * sc_kn (B (i + 191)) + 15 * sc_L (B (i + 191)) (B (i + e)) (1 + e) ≤ sc_FS (B (i + e)) + 16 * sc_U (B (i + e)) (1 + e) := by
    unfold sc_kn sc_L sc_FS sc_U
    rw [← sc_sm_mul, ← sc_sm_mul, ← sc_sm_mul, ← sc_sm_add, ← sc_sm_add]
    refine sc_sm_le 8 fun x hx => ?_
    have f := sc_F_in (B (i + e)) x
    by_cases a : 192 ≤ sc_age (B (i + 191)) x
    · have := bk x hx a
      have := nf x hx a
      rw [if_pos a, if_neg (by omega), if_pos (by omega)]; omega
    · rw [if_neg a]
      by_cases g : 1 + (e : Int) ≤ sc_age (B (i + e)) x
      · rw [if_pos (by omega)]
        by_cases g2 : sc_age (B (i + e)) x < 448
        · rw [if_pos (by omega)]; omega
        · have : sc_F (B (i + e)) x ≠ 0 := by unfold sc_F; rw [if_neg g2]; split <;> omega
          rw [if_neg (by omega)]; omega
      · rw [if_neg (by omega)]; split <;> omega
  have Ln := sc_L_nn (B (i + 191)) (B (i + e)) (1 + e)
  by_cases f0 : sc_FS (B (i + e)) = 0
  · rw [if_pos f0] at D; omega
  · rw [if_neg f0] at D
    -- a forced bank is late
    have L1 : 1 ≤ sc_L (B (i + 191)) (B (i + e)) (1 + e) := by
      apply Classical.byContradiction
      intro z
      apply f0
      have : sc_FS (B (i + e)) = sc_sm (fun _ => 0) 8 := sc_sm_eq 8 fun x hx => by
        have o := sc_sm_one (f := fun x => if sc_age (B (i + 191)) x < 192 ∧ 1 + (e : Int) ≤ sc_age (B (i + e)) x then 1 else 0) 8 (fun x _ => by split <;> omega) x hx
        have e1 : sc_sm (fun x => if sc_age (B (i + 191)) x < 192 ∧ 1 + (e : Int) ≤ sc_age (B (i + e)) x then 1 else 0) 8 = sc_L (B (i + 191)) (B (i + e)) (1 + e) := rfl
        rw [e1] at o
        unfold sc_F
        rw [if_pos]
        by_cases a : 192 ≤ sc_age (B (i + 191)) x
        · exact nf x hx a
        · by_cases g : 1 + (e : Int) ≤ sc_age (B (i + e)) x
          · rw [if_pos (by omega)] at o; omega
          · omega
      rw [this, sc_sm_cst]; simp
    omega
end
section
/-- the wait of the idle bank along a window -/
theorem sc_idle_run {B : Nat → sc_S} {n i : Nat} {th Z : Int} {M : Nat → Prop} {fb : Nat → Int} {Bd Kd : Nat → Prop} {b0 : Nat} (h : sc_Run B n)
    (hb0 : b0 < 8) (Kb : Kd b0) (nB : ¬ Bd b0) (th1 : 1 ≤ th) :
    ∀ e, i + e ≤ n → th + e ≤ 449 →
    (∀ d, d < e → 128 ≤ sc_age (B (i + d)) b0 ∧ ¬ sc_wn (B (i + d)) b0 ∧ (∀ x, x < 8 → Kd x → sc_age (B (i + d + 1)) x ≠ 1) ∧ (∀ x, x < 8 → sc_wn (B (i + d)) x → Bd x) ∧
      (∀ x, x < 8 → Kd x → ¬ Bd x → x ≠ b0 → sc_age (B (i + d)) x < sc_age (B (i + d)) b0 ∨ (sc_age (B (i + d)) x = sc_age (B (i + d)) b0 ∧ b0 < x)) ∧
      th + d ≤ sc_age (B (i + d)) b0 ∧ (∀ q, q < 12 → sc_pd (B (i + d)) q ≠ 0 → ¬ M q ∧ fb q ≤ sc_c (B (i + d))) ∧ (∀ q, q < 12 → ¬ M q → sc_bo (B (i + d + 1)) q ≤ fb q)) →
    sc_OW (B i) b0 (Z - sc_R (B i) th M fb Bd Kd b0) → sc_OW (B (i + e)) b0 (Z - sc_R (B (i + e)) (th + e) M fb Bd Kd b0)
  | 0, _, _, _, H => by simpa using H
  | e + 1, he, t2, hy, H => by
    have H2 := sc_idle_run h hb0 Kb nB th1 e (by omega) (by omega) (fun d hd => hy d (by omega)) H
    obtain ⟨h1, h2, h3, h4, h5, h6, h7, h8⟩ := hy e (by omega)
    obtain ⟨w, v, dr⟩ := sc_Run_W h (i + e) (by omega)
    have x := h.2.2.2.2.2 (i + e) (by omega)
    have := sc_idle w v dr x hb0 h1 h2 Kb nB h3 h4 h5 h6 (by omega) (by omega) h7 h8 H2
    have e1 : th + ((e + 1 : Nat) : Int) = th + e + 1 := by omega
    rw [e1, ← Nat.add_assoc]; exact this
/-- how large the rest can be -/
theorem sc_R_le {si s : sc_S} {th : Int} {M : Nat → Prop} {fb : Nat → Int} {Bd Kd : Nat → Prop} {b0 : Nat} {adr : Nat → Nat}
    (hB : ∀ x, Bd x → ∃ q, q < 12 ∧ ¬ M q ∧ adr q = x) (hK : ∀ x, x < 8 → (Kd x ↔ 192 ≤ sc_age si x)) :
    sc_R s th M fb Bd Kd b0 ≤ sc_sm (fun q => sc_ic (M q) 0 (sc_Dm q)) 12 + 2 * sc_L si s th := by
  have l1 : sc_sm (sc_bud s M fb) 12 ≤ sc_sm (fun q => sc_ic (M q) 0 (sc_wm q)) 12 := sc_sm_le 12 fun q _ => by
    have w := sc_wq_in s q
    unfold sc_bud
    by_cases m : M q
    · rw [sc_ic_t m, sc_ic_t m]; omega
    · rw [sc_ic_f m, sc_ic_f m]
      split
      · omega
      · split <;> omega
  have l2 : sc_sm (sc_bt s th Bd Kd b0) 8 ≤ sc_sm (fun x => 5 * sc_ic (Bd x) 1 0 + 2 * (if sc_age si x < 192 ∧ th ≤ sc_age s x then 1 else 0)) 8 := sc_sm_le 8 fun x hx => by
    have t := sc_tt_in s x; have p := sc_ph_in s th x; have st := sc_st_in s x
    have nn : (0 : Int) ≤ 2 * (if sc_age si x < 192 ∧ th ≤ sc_age s x then 1 else 0) := by split <;> omega
    unfold sc_bt
    split
    · rcases sc_ic_or (Bd x) 1 0 with ⟨-, z⟩ | ⟨-, z⟩ <;> rw [z] <;> omega
    · by_cases b : Bd x
      · rw [sc_ic_t b, sc_ic_t b]; omega
      · rw [sc_ic_f b, sc_ic_f b]
        by_cases k : Kd x
        · rw [sc_ic_t k]; omega
        · rw [sc_ic_f k]
          have k2 : sc_age si x < 192 := by
            apply Classical.byContradiction
            intro z; exact k ((hK x hx).mpr (by omega))
          by_cases a : sc_age s x < th
          · rw [if_pos a]; omega
          · rw [if_neg a, if_pos ⟨k2, by omega⟩]; omega
  have l3 : sc_sm (fun x => sc_ic (Bd x) 1 0) 8 ≤ sc_sm (fun q => sc_ic (M q) 0 1) 12 := by
    have s1 : sc_sm (fun x => sc_ic (Bd x) 1 0) 8 ≤ sc_sm (fun x => sc_sm (fun q => sc_ic (¬ M q ∧ adr q = x) 1 0) 12) 8 := sc_sm_le 8 fun x _ => by
      have nn : ∀ q, q < 12 → 0 ≤ sc_ic (¬ M q ∧ adr q = x) 1 0 := fun q _ => by rcases sc_ic_or (¬ M q ∧ adr q = x) 1 0 with ⟨-, z⟩ | ⟨-, z⟩ <;> rw [z] <;> omega
      by_cases b : Bd x
      · obtain ⟨q, hq, nm, e⟩ := hB x b
        have := sc_sm_one 12 nn q hq
        rw [sc_ic_t ⟨nm, e⟩] at this
        rw [sc_ic_t b]; exact this
      · rw [sc_ic_f b]; exact sc_sm_nn 12 nn
    have s2 := sc_sm_swap (fun x q => sc_ic (¬ M q ∧ adr q = x) 1 0) 12 8
    have s3 : sc_sm (fun q => sc_sm (fun x => sc_ic (¬ M q ∧ adr q = x) 1 0) 8) 12 ≤ sc_sm (fun q => sc_ic (M q) 0 1) 12 := sc_sm_le 12 fun q _ => by
      by_cases m : M q
      · rw [sc_ic_t m]
        have : sc_sm (fun x => sc_ic (¬ M q ∧ adr q = x) 1 0) 8 = sc_sm (fun _ => 0) 8 := sc_sm_eq 8 fun x _ => sc_ic_f (fun z => z.1 m)
        rw [this, sc_sm_cst]; simp
      · rw [sc_ic_f m]
        have : ∀ k, sc_sm (fun x => sc_ic (¬ M q ∧ adr q = x) 1 0) k ≤ (if adr q < k then 1 else 0) := by
          intro k
          induction k with
          | zero => simp [sc_sm]
          | succ k ih =>
            show sc_sm _ k + sc_ic (¬ M q ∧ adr q = k) 1 0 ≤ _
            by_cases e : adr q = k
            · rw [if_neg (by omega)] at ih
              rw [sc_ic_t ⟨m, e⟩, if_pos (by omega)]; omega
            · rw [sc_ic_f (fun z => e z.2)]
              by_cases l : adr q < k
              · rw [if_pos l] at ih; rw [if_pos (by omega)]; omega
              · rw [if_neg l] at ih; rw [if_neg (by omega)]; omega
        have := this 8
        split at this <;> omega
    omega
  have l4 : sc_sm (fun q => sc_ic (M q) 0 (sc_wm q)) 12 + 5 * sc_sm (fun q => sc_ic (M q) 0 1) 12 ≤ sc_sm (fun q => sc_ic (M q) 0 (sc_Dm q)) 12 := by
    rw [← sc_sm_mul, ← sc_sm_add]
    refine sc_sm_le 12 fun q _ => ?_
    by_cases m : M q
    · rw [sc_ic_t m, sc_ic_t m, sc_ic_t m]; omega
    · rw [sc_ic_f m, sc_ic_f m, sc_ic_f m]; unfold sc_wm sc_Dm; split <;> omega
  rw [sc_sm_add, sc_sm_mul, sc_sm_mul] at l2
  unfold sc_R
  have : sc_L si s th = sc_sm (fun x => if sc_age si x < 192 ∧ th ≤ sc_age s x then 1 else 0) 8 := rfl
  omega
/-- THE BURST: old banks need recent requests -/
theorem sc_T3' {B : Nat → sc_S} {n i x0 : Nat} (h : sc_Run B n) (hi : i + 191 ≤ n) (hx : x0 < 12) (px : sc_pd (B (i + 191)) x0 ≠ 0)
    (bad : sc_c (B (i + 191)) - sc_bo (B (i + 191)) x0 + 84 + sc_J (B (i + 191)) x0 ≤ 16 * sc_kn (B (i + 191))) : False := by
  have ci := (sc_Run_c h i (by omega)).1
  have ct := (sc_Run_c h (i + 191) hi).1
  have kL0 := sc_kL (B (i + 191)) (B i) 0
  have Ln0 := sc_L_nn (B (i + 191)) (B i) 0
  have bo := sc_Run_bo h hx (i + 191) hi
  have Jn : 0 ≤ sc_J (B (i + 191)) x0 := sc_sm_nn 12 fun q _ => by
    unfold sc_Dm; split
    · omega
    · split <;> omega
  have k6 : 6 ≤ sc_kn (B (i + 191)) := by omega
  obtain ⟨wt, vt, -⟩ := sc_Run_W h (i + 191) hi
  -- the index of the burst's first birth
  obtain ⟨y, ey⟩ : ∃ y : Nat, sc_c (B (i + 191)) - sc_bo (B (i + 191)) x0 = y := ⟨(sc_c (B (i + 191)) - sc_bo (B (i + 191)) x0).toNat, by omega⟩
  have y44 : y ≤ 44 := by omega
  -- old requests
  let P : Nat → Prop := fun m => ∃ p, p < 12 ∧ sc_pd (B m) p ≠ 0 ∧ sc_bo (B m) p + 256 ≤ sc_c (B (i + 191))
  obtain ⟨u, u1, u2, u3, u4⟩ := sc_first P i (191 - y)
  have down : ∀ m d, i ≤ m → m + d ≤ i + 191 → P (m + d) → P m := by
    rintro m d l1 l2 ⟨p, hp, pp, bp⟩
    have cm := (sc_Run_c h m (by omega)).1
    obtain ⟨p1, p2, p3, p4⟩ := sc_pd_bk h hp (i := m) (e := d) (by omega) pp (by omega)
    exact ⟨p, hp, p1, by omega⟩
  have noP : ∀ m, u ≤ m → m < i + (191 - y) → ¬ P m := by
    intro m l1 l2 pm
    have : P u := by
      have := down u (m - u) u1 (by omega)
      rw [show u + (m - u) = m by omega] at this
      exact this pm
    rcases u3 with z | z
    · omega
    · exact z this
  -- the window begins at u or 64 clocks ago
  obtain ⟨U, U1, U2, U3, U4⟩ : ∃ U, u ≤ U ∧ i + 127 ≤ U ∧ U ≤ i + (191 - y) ∧ (U = i + 127 ∨ U = u) := by
    by_cases z : u ≤ i + 127
    · exact ⟨i + 127, z, Nat.le_refl _, by omega, .inl rfl⟩
    · exact ⟨u, Nat.le_refl _, by omega, u2, .inr rfl⟩
  -- sets
  let M : Nat → Prop := fun q => sc_pd (B (i + 191)) q ≠ 0 ∧ sc_se (B (i + 191)) x0 ≤ sc_se (B (i + 191)) q
  let fb : Nat → Int := fun q => sc_bo (B (i + 191)) q
  let Bd : Nat → Prop := fun x => ∃ q, q < 12 ∧ ¬ M q ∧ sc_bk (B (i + 191)) q = x
  let Kd : Nat → Prop := fun x => 192 ≤ sc_age (B (i + 191)) x
  have eJ : sc_sm (fun q => sc_ic (M q) 0 (sc_Dm q)) 12 = sc_J (B (i + 191)) x0 := sc_sm_eq 12 fun q _ => by
    by_cases m : M q
    · rw [sc_ic_t m, if_pos m]
    · rw [sc_ic_f m, if_neg m]
  have Mbo : ∀ q, q < 12 → M q → sc_bo (B (i + 191)) x0 ≤ sc_bo (B (i + 191)) q := by
    intro q hq m
    have ws := wt.2.2.2.2.2.2.2 x0 q hx hq px m.1
    rcases Int.lt_or_le (sc_se (B (i + 191)) x0) (sc_se (B (i + 191)) q) with z | z
    · exact ws.2 z
    · have := ws.1 (by have := m.2; omega); rw [this]; omega
  have ageK : ∀ m x, i ≤ m → m ≤ i + 191 → x < 8 → Kd x → sc_age (B m) x + (i + 191 - m : Nat) = sc_age (B (i + 191)) x := by
    intro m x l1 l2 hx k
    have k' : 192 ≤ sc_age (B (i + 191)) x := k
    have := sc_age_bk h hx (i := m) (i + 191 - m) (by omega) (by rw [show m + (i + 191 - m) = i + 191 by omega]; omega)
    rw [show m + (i + 191 - m) = i + 191 by omega] at this
    exact this
  -- pending in the window: of the last generation and not of the burst
  have pend : ∀ m q, U ≤ m → m < i + (191 - y) → q < 12 → sc_pd (B m) q ≠ 0 → ¬ M q ∧ fb q ≤ sc_c (B m) ∧ sc_bk (B m) q = sc_bk (B (i + 191)) q := by
    intro m q l1 l2 hq pq
    have cm := (sc_Run_c h m (by omega)).1
    have bm := sc_Run_bo h hq m (by omega)
    have np := noP m (by omega) l2
    have r := sc_Run_q h hq bm (i + 191 - m) (by omega)
    rw [show m + (i + 191 - m) = i + 191 by omega] at r
    rcases r with z | z
    · refine ⟨fun mq => ?_, ?_, ?_⟩
      · have := Mbo q hq mq; omega
      · show sc_bo (B (i + 191)) q ≤ _; omega
      · show sc_bA _ = sc_bA _; rw [z.2.2.1]
    · exact absurd ⟨q, hq, pq, by omega⟩ np
  -- an idle bank of K
  have ex : ∃ x, x < 8 ∧ (Kd x ∧ ¬ Bd x) := by
    apply Classical.byContradiction
    intro no
    have s0 : sc_kn (B (i + 191)) ≤ sc_sm (fun x => sc_ic (Bd x) 1 0) 8 := sc_sm_le 8 fun x hx => by
      by_cases k : 192 ≤ sc_age (B (i + 191)) x
      · rw [if_pos k]
        by_cases b : Bd x
        · rw [sc_ic_t b]; omega
        · exact absurd ⟨x, hx, k, b⟩ no
      · rw [if_neg k]; rcases sc_ic_or (Bd x) 1 0 with ⟨-, z⟩ | ⟨-, z⟩ <;> rw [z] <;> omega
    have s1 : sc_sm (fun x => sc_ic (Bd x) 1 0) 8 ≤ sc_sm (fun x => sc_sm (fun q => sc_ic (¬ M q ∧ sc_bk (B (i + 191)) q = x) 1 0) 12) 8 := sc_sm_le 8 fun x _ => by
      have nn : ∀ q, q < 12 → 0 ≤ sc_ic (¬ M q ∧ sc_bk (B (i + 191)) q = x) 1 0 := fun q _ => by rcases sc_ic_or (¬ M q ∧ sc_bk (B (i + 191)) q = x) 1 0 with ⟨-, z⟩ | ⟨-, z⟩ <;> rw [z] <;> omega
      by_cases b : Bd x
      · obtain ⟨q, hq, nm, e⟩ := b
        have := sc_sm_one 12 nn q hq
        rw [sc_ic_t ⟨nm, e⟩] at this
        rw [sc_ic_t ⟨q, hq, nm, e⟩]; exact this
      · rw [sc_ic_f b]; exact sc_sm_nn 12 nn
    have s2 := sc_sm_swap (fun x q => sc_ic (¬ M q ∧ sc_bk (B (i + 191)) q = x) 1 0) 12 8
    have s3 : 10 * sc_sm (fun q => sc_sm (fun x => sc_ic (¬ M q ∧ sc_bk (B (i + 191)) q = x) 1 0) 8) 12 ≤ sc_sm (fun q => sc_ic (M q) 0 (sc_Dm q)) 12 := by
      rw [← sc_sm_mul]
      refine sc_sm_le 12 fun q _ => ?_
      by_cases m : M q
      · rw [sc_ic_t m]
        have : sc_sm (fun x => sc_ic (¬ M q ∧ sc_bk (B (i + 191)) q = x) 1 0) 8 = sc_sm (fun _ => 0) 8 := sc_sm_eq 8 fun x _ => sc_ic_f (fun z => z.1 m)
        rw [this, sc_sm_cst]; simp
      · rw [sc_ic_f m]
        have : ∀ k, sc_sm (fun x => sc_ic (¬ M q ∧ sc_bk (B (i + 191)) q = x) 1 0) k ≤ (if sc_bk (B (i + 191)) q < k then 1 else 0) := by
          intro k
          induction k with
          | zero => simp [sc_sm]
          | succ k ih =>
            show sc_sm _ k + sc_ic (¬ M q ∧ sc_bk (B (i + 191)) q = k) 1 0 ≤ _
            by_cases e : sc_bk (B (i + 191)) q = k
            · rw [if_neg (by omega)] at ih
              rw [sc_ic_t ⟨m, e⟩, if_pos (by omega)]; omega
            · rw [sc_ic_f (fun z => e z.2)]
              by_cases l : sc_bk (B (i + 191)) q < k
              · rw [if_pos l] at ih; rw [if_pos (by omega)]; omega
              · rw [if_neg l] at ih; rw [if_neg (by omega)]; omega
        have := this 8
        have : 10 ≤ sc_Dm q := by unfold sc_Dm; split <;> omega
        split at * <;> omega
    omega
  obtain ⟨b0, hb0, kb0, mb0⟩ := sc_min (fun x => Kd x ∧ ¬ Bd x) (fun x => x - 8 * sc_age (B (i + 191)) x) 8 ex
  have max : ∀ x, x < 8 → Kd x → ¬ Bd x → x ≠ b0 → sc_age (B (i + 191)) x < sc_age (B (i + 191)) b0 ∨ (sc_age (B (i + 191)) x = sc_age (B (i + 191)) b0 ∧ b0 < x) := by
    intro x hx k nb n
    have := mb0 x hx ⟨k, nb⟩
    omega
  -- run the window
  obtain ⟨e, ee⟩ : ∃ e, U + e = i + (191 - y) := ⟨i + (191 - y) - U, by omega⟩
  have cU := (sc_Run_c h U (by omega)).1
  obtain ⟨wU, -, -⟩ := sc_Run_W h U (by omega)
  have kbo : 192 ≤ sc_age (B (i + 191)) b0 := kb0.1
  have aU := ageK U b0 (by omega) (by omega) hb0 kb0.1
  have O := sc_OW_start wU hb0 (by have := wU.2.2.2.2.2.2.1 b0 hb0; omega)
  have O1 := sc_idle_run (i := U) (th := 1 + (U - i : Nat)) (Z := sc_c (B U) + 8 + sc_R (B U) (1 + (U - i : Nat)) M fb Bd Kd b0) (M := M) (fb := fb) (Bd := Bd) (Kd := Kd) h hb0 kb0.1 kb0.2 (by omega) e (by omega) (by omega) (fun d hd => by
    have ad := ageK (U + d) b0 (by omega) (by omega) hb0 kb0.1
    refine ⟨by omega, ?_, ?_, ?_, ?_, by omega, ?_, ?_⟩
    · rintro ⟨q, hq, pq, bq⟩
      obtain ⟨p1, p2, p3⟩ := pend (U + d) q (by omega) (by omega) hq pq
      exact kb0.2 ⟨q, hq, p1, by rw [← p3]; exact bq⟩
    · intro x hx k
      have := ageK (U + d + 1) x (by omega) (by omega) hx k
      have k' : 192 ≤ sc_age (B (i + 191)) x := k
      omega
    · rintro x hx ⟨q, hq, pq, bq⟩
      obtain ⟨p1, p2, p3⟩ := pend (U + d) q (by omega) (by omega) hq pq
      exact ⟨q, hq, p1, by rw [← p3]; exact bq⟩
    · intro x hx k nb n
      have := max x hx k nb n
      have := ageK (U + d) x (by omega) (by omega) hx k
      omega
    · intro q hq pq
      obtain ⟨p1, p2, p3⟩ := pend (U + d) q (by omega) (by omega) hq pq
      exact ⟨p1, p2⟩
    · intro q hq _
      have bm := sc_Run_bo h hq (U + d + 1) (by omega)
      have r := sc_Run_q h hq bm (i + 191 - (U + d + 1)) (by omega)
      rw [show U + d + 1 + (i + 191 - (U + d + 1)) = i + 191 by omega] at r
      show _ ≤ sc_bo (B (i + 191)) q
      rcases r with z | z <;> omega) (sc_OW_mono O (by omega))
  rw [ee] at O1
  have O2 := sc_OW_pos O1
  have R0 := sc_R_nn (B (i + (191 - y))) (1 + (U - i : Nat) + e) M fb Bd Kd b0
  have RU := sc_R_le (si := B (i + 191)) (s := B U) (th := 1 + (U - i : Nat)) (M := M) (fb := fb) (Bd := Bd) (Kd := Kd) (b0 := b0) (adr := sc_bk (B (i + 191))) (fun x hx => hx) (fun x _ => Iff.rfl)
  have cv := (sc_Run_c h (i + (191 - y)) (by omega)).1
  have kL := sc_kL (B (i + 191)) (B U) (1 + (U - i : Nat))
  have kn8 : sc_kn (B (i + 191)) ≤ 8 := by omega
  rw [eJ] at RU
  rcases U4 with z | z
  · omega
  · by_cases uu : U = i
    · omega
    · -- the last old request
      obtain ⟨r, hr, pr, br⟩ := u4 (U - 1) (by omega) (by omega)
      obtain ⟨g, eg⟩ : ∃ g, U - 1 = i + g := ⟨U - 1 - i, by omega⟩
      rw [eg] at pr br
      have last := sc_lastold h hi (e := g) (by omega) hr pr br k6
      have cg := (sc_Run_c h (i + g) (by omega)).1
      have Lm : sc_L (B (i + 191)) (B U) (1 + (U - i : Nat)) ≤ sc_L (B (i + 191)) (B (i + g)) (1 + g) := sc_sm_le 8 fun x hx => by
        have xx := h.2.2.2.2.2 (i + g) (by omega)
        rw [show i + g + 1 = U by omega] at xx
        by_cases l : sc_age (B (i + 191)) x < 192 ∧ 1 + ((U - i : Nat) : Int) ≤ sc_age (B U) x
        · rw [if_pos l, if_pos]
          · omega
          · refine ⟨l.1, ?_⟩
            rcases sc_Nx_age xx hx with z | z <;> omega
        · rw [if_neg l]; split <;> omega
      have Ln1 := sc_L_nn (B (i + 191)) (B U) (1 + (U - i : Nat))
      omega
/-- THE BURST, at any clock -/
theorem sc_T3 {B : Nat → sc_S} {n i x0 : Nat} (h : sc_Run B n) (hi : i ≤ n) (hx : x0 < 12) (px : sc_pd (B i) x0 ≠ 0) : 16 * sc_kn (B i) ≤ sc_c (B i) - sc_bo (B i) x0 + 83 + sc_J (B i) x0 := by
  apply Classical.byContradiction
  intro z
  have bo := sc_Run_bo h hx i hi
  have Jn : 0 ≤ sc_J (B i) x0 := sc_sm_nn 12 fun q _ => by
    unfold sc_Dm; split
    · omega
    · split <;> omega
  by_cases l : 191 ≤ i
  · obtain ⟨j, rfl⟩ : ∃ j, i = j + 191 := ⟨i - 191, by omega⟩
    exact sc_T3' h hi hx px (by omega)
  · have : sc_kn (B i) = sc_sm (fun _ => 0) 8 := sc_sm_eq 8 fun b hb => by
      have := sc_age_i h hb i hi
      rw [if_neg (by omega)]
    rw [this, sc_sm_cst] at z
    omega
end
section
/-! Every request is served within 255 clocks. -/
theorem sc_GI {s u : sc_S} {g : Nat} (w : sc_W s) (x : sc_Nx s u) (hg : sc_gd u g) (ag : sc_cap u + 1 ≤ sc_c u - sc_bo u g) : sc_op u (sc_bk u g) = sc_ro u g ∨ sc_la u (sc_bk u g) + 2 ≤ sc_c u := by
  obtain ⟨t, k, d, q, ch, ef, en, bi, wu, -⟩ := x
  have hc := sc_Ef_sc ef
  have hs := sc_Bi_s bi
  have wp := w.1
  obtain ⟨k1, k2, k3, k4, k5, k6, k7, k8, k9⟩ := sc_keep ef bi hg.1 hg.2.1 (by omega)
  have wb := w.2.2.2.2.2.2.1 (sc_bk s g) (sc_bA_lt _)
  obtain ⟨u1, u2, u3, -⟩ := sc_Bi_b (b := sc_bk s g) bi (sc_bA_lt _)
  rw [k8, k9, u2, u3]
  by_cases nd : sc_bk s g = d
  · subst nd
    have a := sc_Ef_at (b := sc_bk s g) ef (sc_bA_lt _)
    rw [a.1, a.2.1]
    by_cases k0 : k = 0
    · rw [if_pos k0]
      -- no request goes in this clock
      have stay : ∀ p, p < 12 → sc_pd s p ≠ 0 → sc_pd u p ≠ 0 ∧ sc_se u p = sc_se s p := by
        intro p hp pp
        have pt : sc_pd t p ≠ 0 := by
          intro z
          have := sc_Ef_gone ef hp pp z
          omega
        rcases bi.2.2.2 p hp with y | y
        · exact ⟨by rw [y.1]; exact pt, by rw [y.2.2.2.2.2]; exact (sc_Ef_rq ef hp).2.2.2.1⟩
        · exact absurd y.1 pt
      obtain ⟨m, hm, pm, lm⟩ := sc_old ⟨g, hg.1, k2⟩
      have e1 := stay m hm pm
      have l1 := hg.2.2.1 m hm e1.1
      have l2 := lm g hg.1 k2
      have mg : m = g := (w.2.2.2.2.2.2.2 m g hm hg.1 pm k2).1 (by omega)
      subst mg
      have gs : sc_gd s m := ⟨hm, pm, lm, by omega⟩
      rcases ch with c | c | c | c | c
      · have h34 : k = 3 ∨ k = 4 := by rw [c.2.1]; unfold sc_sk; split <;> simp
        omega
      · have := sc_gd_un w c.2.1 gs
        rw [this]; exact .inl rfl
      · exact absurd c.2.2.2.2.2.1.symm (c.2.2.2.2.2.2.2.2.1 m gs).1
      · have h34 : k = 3 ∨ k = 4 := by rw [c.2.2.2.1]; unfold sc_sk; split <;> simp
        omega
      · have := c.2.2.1; omega
    · rw [if_neg k0, if_neg k0]
      right; omega
  · have a := sc_Ef_ne (x := sc_bk s g) ef (sc_bA_lt _) nd
    rw [a.2.1]
    right; omega
theorem sc_J_in (s : sc_S) (x : Nat) : sc_J s x = 0 ∨ 10 ≤ sc_J s x := by
  by_cases z : ∀ p, p < 12 → sc_pd s p ≠ 0 ∧ sc_se s x ≤ sc_se s p
  · left
    have : sc_J s x = sc_sm (fun _ => 0) 12 := sc_sm_eq 12 fun p hp => by rw [if_pos (z p hp)]
    rw [this, sc_sm_cst]; simp
  · right
    obtain ⟨p, hp⟩ := Classical.not_forall.mp z
    obtain ⟨hp1, hp⟩ := Classical.not_imp.mp hp
    have := sc_sm_one (f := fun p => if sc_pd s p ≠ 0 ∧ sc_se s x ≤ sc_se s p then 0 else sc_Dm p) 12 (fun p _ => by
      have : 0 ≤ sc_Dm p := by unfold sc_Dm; split <;> omega
      split <;> omega) p hp1
    rw [if_neg hp] at this
    have d : 10 ≤ sc_Dm p := by unfold sc_Dm; split <;> omega
    unfold sc_J; omega
theorem sc_J_0 {s : sc_S} {x : Nat} (h : sc_J s x = 0) : ∀ p, p < 12 → sc_pd s p ≠ 0 ∧ sc_se s x ≤ sc_se s p := by
  intro p hp
  apply Classical.byContradiction
  intro z
  have := sc_sm_one (f := fun p => if sc_pd s p ≠ 0 ∧ sc_se s x ≤ sc_se s p then 0 else sc_Dm p) 12 (fun p _ => by
      have : 0 ≤ sc_Dm p := by unfold sc_Dm; split <;> omega
      split <;> omega) p hp
  rw [if_neg z] at this
  have d : 10 ≤ sc_Dm p := by unfold sc_Dm; split <;> omega
  unfold sc_J at h; omega
theorem sc_afJ {s : sc_S} {r x : Nat} (hx : x < 12) (px : sc_pd s x ≠ 0) : sc_af s r x + sc_D s x + sc_J s x ≤ 138 := by
  rw [← sc_Dm_sum]
  unfold sc_af sc_J
  have := sc_sm_le1' (f := fun p => (if sc_pd s p ≠ 0 ∧ sc_se s x < sc_se s p ∧ sc_se s p ≤ sc_se s r then sc_D s p else 0) + (if sc_pd s p ≠ 0 ∧ sc_se s x ≤ sc_se s p then 0 else sc_Dm p)) (g := sc_Dm) (d := sc_D s x) 12 x hx (fun p _ _ => by
    have h1 := sc_D_m s p
    have h2 := sc_D_pos s p
    by_cases a : sc_pd s p ≠ 0 ∧ sc_se s x < sc_se s p ∧ sc_se s p ≤ sc_se s r
    · rw [if_pos a, if_pos ⟨a.1, by omega⟩]; omega
    · rw [if_neg a]; split <;> omega) (by
    rw [if_neg (by omega), if_pos ⟨px, Int.le_refl _⟩]
    have := sc_D_m s x; omega)
  rw [sc_sm_add] at this
  omega
theorem sc_Fk (s : sc_S) : sc_FS s + 16 * sc_U s 192 ≤ 16 * sc_kn s := by
  unfold sc_FS sc_U sc_kn
  rw [← sc_sm_mul, ← sc_sm_mul, ← sc_sm_add]
  refine sc_sm_le 8 fun x _ => ?_
  have := sc_F_in s x
  by_cases l : sc_age s x < 448
  · have : sc_F s x = 0 := by unfold sc_F; rw [if_pos l]
    by_cases a : 192 ≤ sc_age s x
    · rw [if_pos a, if_pos ⟨a, l⟩]; omega
    · rw [if_neg a, if_neg (by omega)]; omega
  · rw [if_neg (c := 192 ≤ sc_age s x ∧ sc_age s x < 448) (by omega), if_pos (c := 192 ≤ sc_age s x) (by omega)]; omega
theorem sc_kn8 {s : sc_S} (h : sc_kn s = 8) : ∀ b, b < 8 → 192 ≤ sc_age s b := by
  intro b hb
  apply Classical.byContradiction
  intro z
  have := sc_sm_le1' (f := fun b => if 192 ≤ sc_age s b then 1 else 0) (g := fun _ => 1) (d := 1) 8 b hb (fun i _ _ => by split <;> omega) (by rw [if_neg z]; omega)
  rw [sc_sm_cst] at this
  unfold sc_kn at h; omega
theorem sc_kn_le (s : sc_S) : sc_kn s ≤ 8 := by
  have := sc_kL s s 0
  have := sc_L_nn s s 0
  omega
/-- the guard's bound at a birth -/
theorem sc_birth_g {B : Nat → sc_S} {n i r g : Nat} (h : sc_Run B n) (hi : i ≤ n) (hg : sc_gd (B i) g) (h2 : sc_bo (B i) g + sc_cap (B i) + 1 + sc_af (B i) r g + sc_D (B i) g + sc_FS (B i) ≤ sc_c (B i) + 256 - 16 * sc_U (B i) 192) :
    sc_GB (B i) g (sc_c (B i) + 256 - 16 * sc_U (B i) 192 - sc_af (B i) r g - sc_FS (B i) + sc_F (B i) (sc_bk (B i) g)) := by
  obtain ⟨w, v, -⟩ := sc_Run_W h i hi
  have wp := w.1
  have ag := hg.2.2.2
  by_cases eq : sc_bo (B i) g + sc_cap (B i) = sc_c (B i)
  · exact sc_start w (by omega)
  · have fk := sc_Fk (B i)
    have k8 := sc_kn_le (B i)
    have a1 := sc_afJ (s := B i) (r := r) hg.1 hg.2.1
    have Jin := sc_J_in (B i) g
    by_cases k7 : sc_kn (B i) ≤ 7
    · exact sc_start w (by omega)
    · have k8e : sc_kn (B i) = 8 := by omega
      by_cases w1 : sc_af (B i) r g + sc_D (B i) g ≤ 127
      · exact sc_start w (by omega)
      · have i1 : 1 ≤ i := by
          have b0 := sc_Run_b0 h hg.1 i hi hg.2.1
          have c0 := (sc_Run_c h i hi).1
          omega
        by_cases w2 : sc_af (B i) r g + sc_D (B i) g ≤ 128
        · obtain ⟨j, rfl⟩ : ∃ j, i = j + 1 := ⟨i - 1, by omega⟩
          have gi := sc_GI (sc_Run_W h j (by omega)).1 (h.2.2.2.2.2 j (by omega)) hg (by omega)
          have wb := w.2.2.2.2.2.2.1 (sc_bk (B (j + 1)) g) (sc_bA_lt _)
          have ab := sc_kn8 k8e (sc_bk (B (j + 1)) g) (sc_bA_lt _)
          exact sc_start2 w (by omega) gi (by omega)
        · -- all slots are pending
          have J0 : sc_J (B i) g = 0 := by omega
          have all := sc_J_0 J0
          have t3 := sc_T3 h hi hg.1 hg.2.1
          have y45 : 45 ≤ sc_c (B i) - sc_bo (B i) g := by omega
          have b0 := sc_Run_b0 h hg.1 i hi hg.2.1
          have c0 := (sc_Run_c h i hi).1
          have i192 : 192 ≤ i := by
            have := sc_age_i h (b := 0) (by decide) i hi
            have := sc_kn8 k8e 0 (by decide)
            omega
          obtain ⟨j, rfl⟩ : ∃ j, i = j + 13 := ⟨i - 13, by omega⟩
          have cj := (sc_Run_c h j (by omega))
          have cji := (sc_Run_c h (j + 13) hi)
          obtain ⟨wj, vj, -⟩ := sc_Run_W h j (by omega)
          obtain ⟨pj, sj, bj, aj⟩ := sc_pd_bk h hg.1 (i := j) (e := 13) hi hg.2.1 (by omega)
          have oldj : ∀ m, m < 12 → sc_pd (B j) m ≠ 0 → sc_se (B j) g ≤ sc_se (B j) m := by
            intro m hm pm
            apply Classical.byContradiction
            intro lt
            rcases sc_Run_q h hm (sc_Run_bo h hm j (by omega)) 13 hi with z | z
            · have := (all m hm).2
              omega
            · obtain ⟨f, rfl⟩ : ∃ f, j = f + 178 := ⟨j - 178, by omega⟩
              have := sc_lastold h (i := f) (e := 178) (by omega) (by omega) hm pm (by show _ ≤ sc_c (B (f + 178 + 13)); omega) (by show 6 ≤ sc_kn (B (f + 178 + 13)); omega)
              have e1 : sc_c (B (f + 191)) = sc_c (B (f + 178 + 13)) := rfl
              have e2 : sc_kn (B (f + 191)) = sc_kn (B (f + 178 + 13)) := rfl
              have := sc_L_nn (B (f + 191)) (B (f + 178)) (1 + (178 : Nat))
              omega
          have gj : sc_gd (B j) g := ⟨hg.1, pj, oldj, by omega⟩
          have C : sc_CH (B j) (sc_se (B j) g + 1) (fun q => sc_c (B j) + 1 + sc_D (B j) g + sc_FS (B j) - sc_af (B j) g q) := by
            refine sc_mk hg.1 pj (fun x hx px lx => ?_) (fun g2 hg2 lg => ?_)
            · have := oldj x hx px
              have xg : x = g := (wj.2.2.2.2.2.2.2 x g hx hg.1 px pj).1 (by omega)
              subst xg
              have := sc_af_self (s := B j) x
              omega
            · have e := sc_gd_un wj hg2 gj
              subst e
              have := sc_af_self (s := B j) g2
              exact sc_start wj (by omega)
          obtain ⟨-, Z, z0, C2, u2⟩ := sc_CH_run h (a := 1) (by omega) (by have := (vj g hg.1 pj).1; omega) C 13 hi (by omega)
          have G := C2.2.2 g hg (by omega)
          have fu := sc_FU (B j) 1
          have U14 : sc_U (B (j + 13)) 192 ≤ sc_U (B (j + 13)) (1 + (13 : Nat)) := sc_sm_le 8 fun x _ => by
            by_cases a : 192 ≤ sc_age (B (j + 13)) x ∧ sc_age (B (j + 13)) x < 448
            · rw [if_pos a, if_pos (by omega)]; omega
            · rw [if_neg a]; split <;> omega
          have hD : sc_D (B j) g = sc_D (B (j + 13)) g := by
            rcases sc_Run_q h hg.1 (sc_Run_bo h hg.1 j (by omega)) 13 hi with z | z
            · unfold sc_D; rw [z.2.2.2.1]
            · omega
          have af0 := sc_af_self (s := B j) g
          refine sc_GB_mono G ?_
          show sc_c (B j) + 1 + sc_D (B j) g + sc_FS (B j) - sc_af (B j) g g + 16 * Z - _ + _ ≤ _
          omega
theorem sc_LAT1 {B : Nat → sc_S} {n i r : Nat} (h : sc_Run B n) (hi : i ≤ n) (hr : r < 12) (pr : sc_pd (B i) r ≠ 0) :
    sc_CH (B i) (sc_se (B i) r + 1) (fun q => sc_c (B i) + 256 - 16 * sc_U (B i) 192 - sc_af (B i) r q) := by
  obtain ⟨w, v, -⟩ := sc_Run_W h i hi
  have wp := w.1
  have fk := sc_Fk (B i)
  have h2 : ∀ x, x < 12 → sc_pd (B i) x ≠ 0 → sc_bo (B i) x + sc_cap (B i) + 1 + sc_af (B i) r x + sc_D (B i) x + sc_FS (B i) ≤ sc_c (B i) + 256 - 16 * sc_U (B i) 192 := by
    intro x hx px
    have a1 := sc_afJ (s := B i) (r := r) hx px
    have t3 := sc_T3 h hi hx px
    omega
  exact sc_mk hr pr (fun x hx px _ => h2 x hx px) (fun g hg _ => sc_birth_g h hi hg (h2 g hg.1 hg.2.1))
/-- THE TIME: a pending request is younger than 256 clocks -/
theorem sc_LAT {B : Nat → sc_S} {n j q : Nat} (h : sc_Run B n) (hj : j ≤ n) (hq : q < 12) (p : sc_pd (B j) q ≠ 0) : sc_c (B j) - sc_bo (B j) q ≤ 255 := by
  apply Classical.byContradiction
  intro bad
  -- the index d clocks ago at which it was 255 clocks younger or just born: look at its birth
  have b0 := sc_Run_b0 h hq j hj p
  have cj := sc_Run_c h j hj
  obtain ⟨i, ei⟩ : ∃ i : Nat, sc_bo (B j) q = sc_c (B 0) + i := ⟨(sc_bo (B j) q - sc_c (B 0)).toNat, by omega⟩
  have ci := sc_Run_c h i (by omega)
  have ck := sc_Run_c h (i + 256) (by omega)
  have wp := (sc_Run_W h j hj).1.1
  -- pending at birth and at birth + 256
  have p1 := sc_pd_bk h hq (i := i) (e := j - i) (by omega) (by rw [show i + (j - i) = j by omega]; exact p) (by rw [show i + (j - i) = j by omega]; omega)
  rw [show i + (j - i) = j by omega] at p1
  have p2 := sc_pd_bk h hq (i := i + 256) (e := j - (i + 256)) (by omega) (by rw [show i + 256 + (j - (i + 256)) = j by omega]; exact p) (by rw [show i + 256 + (j - (i + 256)) = j by omega]; omega)
  rw [show i + 256 + (j - (i + 256)) = j by omega] at p2
  have C := sc_LAT1 h (i := i) (by omega) hq p1.1
  obtain ⟨-, v, -⟩ := sc_Run_W h i (by omega)
  obtain ⟨-, Z, z0, C2, u2⟩ := sc_CH_run h (a := 192) (by omega) (by have := (v q hq p1.1).1; omega) C 256 (by omega) (by omega)
  have L := (sc_CH_lt2 (sc_Run_W h (i + 256) (by omega)).1 C2 hq p2.1 (by omega) (by omega)).1
  have af0 := sc_af_self (s := B i) q
  have un := sc_U_in (B (i + 256)) (192 + (256 : Nat))
  have L' : sc_c (B (i + 256)) + 1 ≤ sc_c (B i) + 256 - 16 * sc_U (B i) 192 - sc_af (B i) q q + 16 * Z := L
  omega
/-- the same behind the command of a clock -/
theorem sc_LAT_t {B : Nat → sc_S} {n k b r : Nat} {t : sc_S} (h : sc_Run B n) (ch : sc_Ch (B n) k b r) (ef : sc_Ef (B n) t k b r) (en : sc_ns t = sc_ns (B n)) :
    (∀ q, q < 12 → sc_pd t q ≠ 0 → sc_c t - sc_bo t q ≤ 255) ∧ (∀ x, x < 8 → sc_age t x ≤ 469) := by
  obtain ⟨w, v, d⟩ := sc_Run_W h n (Nat.le_refl n)
  have wt := sc_W_step w ef ch
  let u : sc_S := fun f i => if f = 0 ∧ i = 1 then 1 else t f i
  have hu : ∀ f i, ¬ (f = 0 ∧ i = 1) → u f i = t f i := fun f i z => if_neg z
  have hdr : sc_dr u ≠ 0 := by show (if (0 = 0 ∧ 1 = 1) then (1 : Int) else _) ≠ 0; simp
  have bi : sc_Bi t u := by
    refine ⟨fun i h1 h2 => hu 0 i (by omega), fun f b h1 h2 h3 => hu f b (by omega), ?_, fun q hq => .inl ⟨hu 8 q (by omega), hu 9 q (by omega), hu 10 q (by omega), hu 11 q (by omega), hu 12 q (by omega), hu 13 q (by omega)⟩⟩
    show t 0 8 ≤ u 0 8
    rw [hu 0 8 (by omega)]; omega
  have wu : sc_W u := by
    have e : ∀ f i, ¬ (f = 0 ∧ i = 1) → u f i = t f i := hu
    unfold sc_W at wt ⊢
    simp only [sc_rcd, sc_rp, sc_rfc, sc_cap, sc_c, sc_a1, sc_a2, sc_a3, sc_a4, sc_ar, sc_aw, sc_la, sc_lr, sc_lw, sc_lp, sc_lf, sc_age, sc_op, sc_pd, sc_se, sc_bo] at wt ⊢
    simp only [e 0 10 (by omega), e 0 11 (by omega), e 0 12 (by omega), e 0 13 (by omega), e 0 0 (by omega), e 0 2 (by omega), e 0 3 (by omega), e 0 4 (by omega), e 0 5 (by omega), e 0 6 (by omega), e 0 7 (by omega),
      fun b => e 1 b (by omega), fun b => e 2 b (by omega), fun b => e 3 b (by omega), fun b => e 4 b (by omega), fun b => e 5 b (by omega), fun b => e 6 b (by omega), fun b => e 7 b (by omega), fun b => e 8 b (by omega), fun b => e 12 b (by omega), fun b => e 13 b (by omega)]
    exact wt
  have vu : sc_V u := by
    intro q hq p
    have p' : sc_pd t q ≠ 0 := by have := hu 8 q (by omega); show t 8 q ≠ 0; rw [← this]; exact p
    have r := sc_Ef_rq ef hq
    have := v q hq (sc_Ef_pd ef hq p').1
    have c := (sc_Ef_sc ef).1
    have e1 : sc_se u q = sc_se t q := hu 13 q (by omega)
    have e2 : sc_ns u = sc_ns t := hu 0 8 (by omega)
    have e3 : sc_bo u q = sc_bo t q := hu 12 q (by omega)
    have e4 : sc_c u = sc_c t := hu 0 0 (by omega)
    omega
  have nx : sc_Nx (B n) u := ⟨t, k, b, r, ch, ef, en, bi, wu, vu, fun _ _ _ _ _ => hdr, fun _ z => absurd z hdr⟩
  let B' : Nat → sc_S := fun i => if i ≤ n then B i else u
  have eB : ∀ i, i ≤ n → B' i = B i := fun i l => if_pos l
  have eU : B' (n + 1) = u := if_neg (by omega)
  have run : sc_Run B' (n + 1) := by
    obtain ⟨r1, r2, r3, r4, r5, r6⟩ := h
    refine ⟨by rw [eB 0 (by omega)]; exact r1, by rw [eB 0 (by omega)]; exact r2, by rw [eB 0 (by omega)]; exact r3, by rw [eB 0 (by omega)]; exact r4, by rw [eB 0 (by omega)]; exact r5, fun i l => ?_⟩
    by_cases z : i = n
    · subst z; rw [eU, eB i (by omega)]; exact nx
    · rw [eB i (by omega), eB (i + 1) (by omega)]; exact r6 i (by omega)
  refine ⟨fun q hq p => ?_, fun x hx => ?_⟩
  · have p' : sc_pd (B' (n + 1)) q ≠ 0 := by rw [eU]; show u 8 q ≠ 0; rw [hu 8 q (by omega)]; exact p
    have := sc_LAT run (Nat.le_refl _) hq p'
    rw [eU] at this
    have e3 : sc_bo u q = sc_bo t q := hu 12 q (by omega)
    have e4 : sc_c u = sc_c t := hu 0 0 (by omega)
    omega
  · have := sc_T1_age run (j := n + 1) (Nat.le_refl _) hx
    rw [eU] at this
    have e4 : sc_age u x = sc_age t x := hu 1 x (by omega)
    omega
end
section
/-! The abstract state out of the component's fields; small lemmas on Int32 and Int64. -/
def sc_ab (f_rcd f_rp f_rfc f_cap : Int32) (f_anyAct f_anyRead f_anyWrite : Int64) (f_actNext : Int32) (f_nextSerial : Int64) (f_draining : Int32) (f_clock : Int64)
  (a_openRows a_ages : Nat → Int32) (a_lastAct a_lastRead a_lastWrite a_lastPre a_lastRef a_actTimes : Nat → Int64) (a_reqAddress a_reqLanes a_reqFetched a_reqPending : Nat → Int32) (a_reqSerial : Nat → Int64) (bo : Nat → Int) : sc_S :=
  fun f i => match f with
  | 0 => (match i with
    | 0 => f_clock.toInt | 1 => f_draining.toInt | 2 => f_anyAct.toInt
    | 3 => (a_actTimes ((f_actNext.toNatClampNeg + 2) % 4)).toInt | 4 => (a_actTimes ((f_actNext.toNatClampNeg + 1) % 4)).toInt | 5 => (a_actTimes f_actNext.toNatClampNeg).toInt
    | 6 => f_anyRead.toInt | 7 => f_anyWrite.toInt | 8 => f_nextSerial.toInt
    | 10 => f_rcd.toInt | 11 => f_rp.toInt | 12 => f_rfc.toInt | 13 => f_cap.toInt | _ => 0)
  | 1 => (a_ages i).toInt
  | 2 => (a_openRows i).toInt
  | 3 => (a_lastAct i).toInt
  | 4 => (a_lastRead i).toInt
  | 5 => (a_lastWrite i).toInt
  | 6 => (a_lastPre i).toInt
  | 7 => (a_lastRef i).toInt
  | 8 => (a_reqPending i).toInt
  | 9 => (a_reqAddress i).toInt
  | 10 => if a_reqLanes i = 65535 then 1 else 0
  | 11 => (a_reqFetched i).toInt
  | 12 => bo i
  | 13 => (a_reqSerial i).toInt
  | _ => 0
/-- ranges -/
def sc_Rg (s : sc_S) : Prop :=
  (0 ≤ sc_c s ∧ sc_c s ≤ 1000000 ∧ 0 ≤ sc_ns s ∧ sc_ns s ≤ 1000000 ∧ (sc_dr s = 0 ∨ sc_dr s = 1)) ∧
  (-1000 ≤ sc_a1 s ∧ -1000 ≤ sc_a2 s ∧ -1000 ≤ sc_a3 s ∧ -1000 ≤ sc_a4 s ∧ -1000 ≤ sc_ar s ∧ -1000 ≤ sc_aw s ∧ sc_a4 s ≤ sc_c s) ∧
  (∀ b, b < 8 → -1000 ≤ sc_la s b ∧ -1000 ≤ sc_lr s b ∧ -1000 ≤ sc_lw s b ∧ -1000 ≤ sc_lp s b ∧ -1000 ≤ sc_lf s b ∧ 0 ≤ sc_age s b ∧ sc_age s b ≤ 512 ∧ -1 ≤ sc_op s b ∧ sc_op s b ≤ 7) ∧
  (∀ q, q < 12 → (sc_pd s q = 0 ∨ sc_pd s q = 1) ∧ (sc_fe s q = 0 ∨ sc_fe s q = 1) ∧ 0 ≤ sc_ad s q ∧ sc_ad s q < 256 ∧ 0 ≤ sc_se s q ∧ sc_se s q ≤ 1000000)
section
variable {f_rcd f_rp f_rfc f_cap f_refreshSoon f_refreshMust f_drainMark f_requests f_allLanes f_slotFree f_slotWaiting f_slotReady f_actNext f_writeHead f_writeCount f_draining f_mode f_faults f_lost f_retiredReads : Int32} {f_never f_anyAct f_anyRead f_anyWrite f_nextSerial f_clock : Int64} {a_cells a_openRows a_ages a_reqAddress a_reqLanes a_reqData a_reqBase a_reqFetched a_reqPending a_slotStates : (Nat → Int32)} {a_lastAct a_lastRead a_lastWrite a_lastPre a_lastRef a_actTimes a_reqBorn a_reqSerial : (Nat → Int64)}
variable {bo : Nat → Int}
theorem ab_c : sc_c (sc_ab f_rcd f_rp f_rfc f_cap f_anyAct f_anyRead f_anyWrite f_actNext f_nextSerial f_draining f_clock a_openRows a_ages a_lastAct a_lastRead a_lastWrite a_lastPre a_lastRef a_actTimes a_reqAddress a_reqLanes a_reqFetched a_reqPending a_reqSerial bo) = f_clock.toInt := (rfl)
theorem ab_dr : sc_dr (sc_ab f_rcd f_rp f_rfc f_cap f_anyAct f_anyRead f_anyWrite f_actNext f_nextSerial f_draining f_clock a_openRows a_ages a_lastAct a_lastRead a_lastWrite a_lastPre a_lastRef a_actTimes a_reqAddress a_reqLanes a_reqFetched a_reqPending a_reqSerial bo) = f_draining.toInt := (rfl)
theorem ab_a1 : sc_a1 (sc_ab f_rcd f_rp f_rfc f_cap f_anyAct f_anyRead f_anyWrite f_actNext f_nextSerial f_draining f_clock a_openRows a_ages a_lastAct a_lastRead a_lastWrite a_lastPre a_lastRef a_actTimes a_reqAddress a_reqLanes a_reqFetched a_reqPending a_reqSerial bo) = f_anyAct.toInt := (rfl)
theorem ab_a2 : sc_a2 (sc_ab f_rcd f_rp f_rfc f_cap f_anyAct f_anyRead f_anyWrite f_actNext f_nextSerial f_draining f_clock a_openRows a_ages a_lastAct a_lastRead a_lastWrite a_lastPre a_lastRef a_actTimes a_reqAddress a_reqLanes a_reqFetched a_reqPending a_reqSerial bo) = (a_actTimes ((f_actNext.toNatClampNeg + 2) % 4)).toInt := (rfl)
theorem ab_a3 : sc_a3 (sc_ab f_rcd f_rp f_rfc f_cap f_anyAct f_anyRead f_anyWrite f_actNext f_nextSerial f_draining f_clock a_openRows a_ages a_lastAct a_lastRead a_lastWrite a_lastPre a_lastRef a_actTimes a_reqAddress a_reqLanes a_reqFetched a_reqPending a_reqSerial bo) = (a_actTimes ((f_actNext.toNatClampNeg + 1) % 4)).toInt := (rfl)
theorem ab_a4 : sc_a4 (sc_ab f_rcd f_rp f_rfc f_cap f_anyAct f_anyRead f_anyWrite f_actNext f_nextSerial f_draining f_clock a_openRows a_ages a_lastAct a_lastRead a_lastWrite a_lastPre a_lastRef a_actTimes a_reqAddress a_reqLanes a_reqFetched a_reqPending a_reqSerial bo) = (a_actTimes f_actNext.toNatClampNeg).toInt := (rfl)
theorem ab_ar : sc_ar (sc_ab f_rcd f_rp f_rfc f_cap f_anyAct f_anyRead f_anyWrite f_actNext f_nextSerial f_draining f_clock a_openRows a_ages a_lastAct a_lastRead a_lastWrite a_lastPre a_lastRef a_actTimes a_reqAddress a_reqLanes a_reqFetched a_reqPending a_reqSerial bo) = f_anyRead.toInt := (rfl)
theorem ab_aw : sc_aw (sc_ab f_rcd f_rp f_rfc f_cap f_anyAct f_anyRead f_anyWrite f_actNext f_nextSerial f_draining f_clock a_openRows a_ages a_lastAct a_lastRead a_lastWrite a_lastPre a_lastRef a_actTimes a_reqAddress a_reqLanes a_reqFetched a_reqPending a_reqSerial bo) = f_anyWrite.toInt := (rfl)
theorem ab_ns : sc_ns (sc_ab f_rcd f_rp f_rfc f_cap f_anyAct f_anyRead f_anyWrite f_actNext f_nextSerial f_draining f_clock a_openRows a_ages a_lastAct a_lastRead a_lastWrite a_lastPre a_lastRef a_actTimes a_reqAddress a_reqLanes a_reqFetched a_reqPending a_reqSerial bo) = f_nextSerial.toInt := (rfl)
theorem ab_rcd : sc_rcd (sc_ab f_rcd f_rp f_rfc f_cap f_anyAct f_anyRead f_anyWrite f_actNext f_nextSerial f_draining f_clock a_openRows a_ages a_lastAct a_lastRead a_lastWrite a_lastPre a_lastRef a_actTimes a_reqAddress a_reqLanes a_reqFetched a_reqPending a_reqSerial bo) = f_rcd.toInt := (rfl)
theorem ab_rp : sc_rp (sc_ab f_rcd f_rp f_rfc f_cap f_anyAct f_anyRead f_anyWrite f_actNext f_nextSerial f_draining f_clock a_openRows a_ages a_lastAct a_lastRead a_lastWrite a_lastPre a_lastRef a_actTimes a_reqAddress a_reqLanes a_reqFetched a_reqPending a_reqSerial bo) = f_rp.toInt := (rfl)
theorem ab_rfc : sc_rfc (sc_ab f_rcd f_rp f_rfc f_cap f_anyAct f_anyRead f_anyWrite f_actNext f_nextSerial f_draining f_clock a_openRows a_ages a_lastAct a_lastRead a_lastWrite a_lastPre a_lastRef a_actTimes a_reqAddress a_reqLanes a_reqFetched a_reqPending a_reqSerial bo) = f_rfc.toInt := (rfl)
theorem ab_cap : sc_cap (sc_ab f_rcd f_rp f_rfc f_cap f_anyAct f_anyRead f_anyWrite f_actNext f_nextSerial f_draining f_clock a_openRows a_ages a_lastAct a_lastRead a_lastWrite a_lastPre a_lastRef a_actTimes a_reqAddress a_reqLanes a_reqFetched a_reqPending a_reqSerial bo) = f_cap.toInt := (rfl)
theorem ab_age (b : Nat) : sc_age (sc_ab f_rcd f_rp f_rfc f_cap f_anyAct f_anyRead f_anyWrite f_actNext f_nextSerial f_draining f_clock a_openRows a_ages a_lastAct a_lastRead a_lastWrite a_lastPre a_lastRef a_actTimes a_reqAddress a_reqLanes a_reqFetched a_reqPending a_reqSerial bo) b = (a_ages b).toInt := (rfl)
theorem ab_op (b : Nat) : sc_op (sc_ab f_rcd f_rp f_rfc f_cap f_anyAct f_anyRead f_anyWrite f_actNext f_nextSerial f_draining f_clock a_openRows a_ages a_lastAct a_lastRead a_lastWrite a_lastPre a_lastRef a_actTimes a_reqAddress a_reqLanes a_reqFetched a_reqPending a_reqSerial bo) b = (a_openRows b).toInt := (rfl)
theorem ab_la (b : Nat) : sc_la (sc_ab f_rcd f_rp f_rfc f_cap f_anyAct f_anyRead f_anyWrite f_actNext f_nextSerial f_draining f_clock a_openRows a_ages a_lastAct a_lastRead a_lastWrite a_lastPre a_lastRef a_actTimes a_reqAddress a_reqLanes a_reqFetched a_reqPending a_reqSerial bo) b = (a_lastAct b).toInt := (rfl)
theorem ab_lr (b : Nat) : sc_lr (sc_ab f_rcd f_rp f_rfc f_cap f_anyAct f_anyRead f_anyWrite f_actNext f_nextSerial f_draining f_clock a_openRows a_ages a_lastAct a_lastRead a_lastWrite a_lastPre a_lastRef a_actTimes a_reqAddress a_reqLanes a_reqFetched a_reqPending a_reqSerial bo) b = (a_lastRead b).toInt := (rfl)
theorem ab_lw (b : Nat) : sc_lw (sc_ab f_rcd f_rp f_rfc f_cap f_anyAct f_anyRead f_anyWrite f_actNext f_nextSerial f_draining f_clock a_openRows a_ages a_lastAct a_lastRead a_lastWrite a_lastPre a_lastRef a_actTimes a_reqAddress a_reqLanes a_reqFetched a_reqPending a_reqSerial bo) b = (a_lastWrite b).toInt := (rfl)
theorem ab_lp (b : Nat) : sc_lp (sc_ab f_rcd f_rp f_rfc f_cap f_anyAct f_anyRead f_anyWrite f_actNext f_nextSerial f_draining f_clock a_openRows a_ages a_lastAct a_lastRead a_lastWrite a_lastPre a_lastRef a_actTimes a_reqAddress a_reqLanes a_reqFetched a_reqPending a_reqSerial bo) b = (a_lastPre b).toInt := (rfl)
theorem ab_lf (b : Nat) : sc_lf (sc_ab f_rcd f_rp f_rfc f_cap f_anyAct f_anyRead f_anyWrite f_actNext f_nextSerial f_draining f_clock a_openRows a_ages a_lastAct a_lastRead a_lastWrite a_lastPre a_lastRef a_actTimes a_reqAddress a_reqLanes a_reqFetched a_reqPending a_reqSerial bo) b = (a_lastRef b).toInt := (rfl)
theorem ab_pd (b : Nat) : sc_pd (sc_ab f_rcd f_rp f_rfc f_cap f_anyAct f_anyRead f_anyWrite f_actNext f_nextSerial f_draining f_clock a_openRows a_ages a_lastAct a_lastRead a_lastWrite a_lastPre a_lastRef a_actTimes a_reqAddress a_reqLanes a_reqFetched a_reqPending a_reqSerial bo) b = (a_reqPending b).toInt := (rfl)
theorem ab_ad (b : Nat) : sc_ad (sc_ab f_rcd f_rp f_rfc f_cap f_anyAct f_anyRead f_anyWrite f_actNext f_nextSerial f_draining f_clock a_openRows a_ages a_lastAct a_lastRead a_lastWrite a_lastPre a_lastRef a_actTimes a_reqAddress a_reqLanes a_reqFetched a_reqPending a_reqSerial bo) b = (a_reqAddress b).toInt := (rfl)
theorem ab_fe (b : Nat) : sc_fe (sc_ab f_rcd f_rp f_rfc f_cap f_anyAct f_anyRead f_anyWrite f_actNext f_nextSerial f_draining f_clock a_openRows a_ages a_lastAct a_lastRead a_lastWrite a_lastPre a_lastRef a_actTimes a_reqAddress a_reqLanes a_reqFetched a_reqPending a_reqSerial bo) b = (a_reqFetched b).toInt := (rfl)
theorem ab_se (b : Nat) : sc_se (sc_ab f_rcd f_rp f_rfc f_cap f_anyAct f_anyRead f_anyWrite f_actNext f_nextSerial f_draining f_clock a_openRows a_ages a_lastAct a_lastRead a_lastWrite a_lastPre a_lastRef a_actTimes a_reqAddress a_reqLanes a_reqFetched a_reqPending a_reqSerial bo) b = (a_reqSerial b).toInt := (rfl)
theorem ab_bo (b : Nat) : sc_bo (sc_ab f_rcd f_rp f_rfc f_cap f_anyAct f_anyRead f_anyWrite f_actNext f_nextSerial f_draining f_clock a_openRows a_ages a_lastAct a_lastRead a_lastWrite a_lastPre a_lastRef a_actTimes a_reqAddress a_reqLanes a_reqFetched a_reqPending a_reqSerial bo) b = bo b := (rfl)
theorem ab_fu (b : Nat) : sc_fu (sc_ab f_rcd f_rp f_rfc f_cap f_anyAct f_anyRead f_anyWrite f_actNext f_nextSerial f_draining f_clock a_openRows a_ages a_lastAct a_lastRead a_lastWrite a_lastPre a_lastRef a_actTimes a_reqAddress a_reqLanes a_reqFetched a_reqPending a_reqSerial bo) b = if a_reqLanes b = 65535 then 1 else 0 := (rfl)
end
theorem xb_add {a b : Int64} (h1 : -4000000 ≤ a.toInt) (h2 : a.toInt ≤ 4000000) (h3 : -4000000 ≤ b.toInt) (h4 : b.toInt ≤ 4000000) : (a + b).toInt = a.toInt + b.toInt := by
  rw [Int64.toInt_add]
  exact Int.bmod_eq_of_le (by omega) (by omega)
theorem xb_sub {a b : Int64} (h1 : -4000000 ≤ a.toInt) (h2 : a.toInt ≤ 4000000) (h3 : -4000000 ≤ b.toInt) (h4 : b.toInt ≤ 4000000) : (a - b).toInt = a.toInt - b.toInt := by
  rw [Int64.toInt_sub]
  exact Int.bmod_eq_of_le (by omega) (by omega)
theorem xb_0 {x : Int32} : x = 0 ↔ x.toInt = 0 := by
  rw [← Int32.toInt_inj]; exact Iff.rfl
theorem xb_eq {x y : Int32} : x = y ↔ x.toInt = y.toInt := by rw [Int32.toInt_inj]
theorem xb_eqL {x y : Int64} : x = y ↔ x.toInt = y.toInt := by rw [Int64.toInt_inj]
theorem xb_n {x : Int32} (h : 0 ≤ x.toInt) : x = nI x.toInt.toNat := by
  rw [xb_eq, nI_toInt (by have := x.toInt_lt; omega)]; omega
theorem xb_cl {x : Int32} (h : 0 ≤ x.toInt) : (x.toNatClampNeg : Int) = x.toInt := by
  show ((x.toInt.toNat : Nat) : Int) = x.toInt
  omega
theorem xb_in {x : Int32} {n : Nat} (h : 0 ≤ x.toInt) (h2 : x.toInt < n) : vp_in x n := vp_in_iff.mpr ⟨h, h2⟩
/-- the later of two -/
def sc_mx (a b : Int) : Int := if a ≤ b then b else a
theorem sc_mx_in (a b : Int) : a ≤ sc_mx a b ∧ b ≤ sc_mx a b ∧ (sc_mx a b = a ∨ sc_mx a b = b) := by unfold sc_mx; split <;> omega
theorem xb_bits (m : Nat) (h : m < 256) : ((nI m) >>> ((2 : Int32) &&& 31)) &&& 7 = nI (m / 4 % 8) ∧ ((nI m) >>> ((5 : Int32) &&& 31)) &&& 7 = nI (m / 32 % 8) ∧ nI m &&& 3 = nI (m % 4) := by
  refine ⟨?_, ?_, ?_⟩
  · rw [pk_shrN (by omega) _ 2 (by decide)]
    exact pk_andN (by omega) 3 (by decide)
  · rw [pk_shrN (by omega) _ 5 (by decide)]
    exact pk_andN (by omega) 3 (by decide)
  · exact pk_andN (by omega) 2 (by decide)
theorem xb_bk {x : Int32} (h0 : 0 ≤ x.toInt) (h : x.toInt < 256) : (x >>> ((2 : Int32) &&& 31)) &&& 7 = nI (sc_bA x.toInt) := by
  obtain ⟨m, hm, rfl⟩ : ∃ m : Nat, m < 256 ∧ x = nI m := ⟨x.toInt.toNat, by omega, xb_n h0⟩
  rw [(xb_bits m hm).1, nI_toInt (by omega)]
  unfold sc_bA
  congr 1
theorem xb_ro {x : Int32} (h0 : 0 ≤ x.toInt) (h : x.toInt < 256) : (x >>> ((5 : Int32) &&& 31)) &&& 7 = nI (sc_rA x.toInt).toNat := by
  obtain ⟨m, hm, rfl⟩ : ∃ m : Nat, m < 256 ∧ x = nI m := ⟨x.toInt.toNat, by omega, xb_n h0⟩
  rw [(xb_bits m hm).2.1, nI_toInt (by omega)]
  unfold sc_rA
  congr 1
end
section
/-! Walks of the component's small questions. -/
def sc_er (s : sc_S) (k b : Nat) : Int :=
  if k = 0 then sc_mx (sc_mx (sc_mx (sc_mx (sc_c s) (sc_lp s b + sc_rp s)) (sc_lf s b + sc_rfc s)) (sc_a1 s + 2)) (sc_a4 s + 10)
  else if k = 1 then sc_mx (sc_mx (sc_mx (sc_c s) (sc_la s b + sc_rcd s)) (sc_ar s + 2)) (sc_aw s + 4)
  else if k = 2 then sc_mx (sc_mx (sc_mx (sc_c s) (sc_la s b + sc_rcd s)) (sc_aw s + 2)) (sc_ar s + 3)
  else if k = 3 then sc_mx (sc_mx (sc_mx (sc_c s) (sc_la s b + 5)) (sc_lr s b + 2)) (sc_lw s b + 4)
  else sc_mx (sc_mx (sc_c s) (sc_lp s b + sc_rp s)) (sc_lf s b + sc_rfc s)
theorem sc_er_P {s : sc_S} {k b : Nat} (hk : k < 5) : sc_er s k b = sc_c s ↔ sc_P s k b := by
  unfold sc_er sc_P
  have m := sc_mx_in
  have : k = 0 ∨ k = 1 ∨ k = 2 ∨ k = 3 ∨ k = 4 := by omega
  rcases this with rfl | rfl | rfl | rfl | rfl
  · have m1 := m (sc_c s) (sc_lp s b + sc_rp s)
    have m2 := m (sc_mx (sc_c s) (sc_lp s b + sc_rp s)) (sc_lf s b + sc_rfc s)
    have m3 := m (sc_mx (sc_mx (sc_c s) (sc_lp s b + sc_rp s)) (sc_lf s b + sc_rfc s)) (sc_a1 s + 2)
    have m4 := m (sc_mx (sc_mx (sc_mx (sc_c s) (sc_lp s b + sc_rp s)) (sc_lf s b + sc_rfc s)) (sc_a1 s + 2)) (sc_a4 s + 10)
    simp
    omega
  · have m1 := m (sc_c s) (sc_la s b + sc_rcd s)
    have m2 := m (sc_mx (sc_c s) (sc_la s b + sc_rcd s)) (sc_ar s + 2)
    have m3 := m (sc_mx (sc_mx (sc_c s) (sc_la s b + sc_rcd s)) (sc_ar s + 2)) (sc_aw s + 4)
    simp
    omega
  · have m1 := m (sc_c s) (sc_la s b + sc_rcd s)
    have m2 := m (sc_mx (sc_c s) (sc_la s b + sc_rcd s)) (sc_aw s + 2)
    have m3 := m (sc_mx (sc_mx (sc_c s) (sc_la s b + sc_rcd s)) (sc_aw s + 2)) (sc_ar s + 3)
    simp
    omega
  · have m1 := m (sc_c s) (sc_la s b + 5)
    have m2 := m (sc_mx (sc_c s) (sc_la s b + 5)) (sc_lr s b + 2)
    have m3 := m (sc_mx (sc_mx (sc_c s) (sc_la s b + 5)) (sc_lr s b + 2)) (sc_lw s b + 4)
    simp
    omega
  · have m1 := m (sc_c s) (sc_lp s b + sc_rp s)
    have m2 := m (sc_mx (sc_c s) (sc_lp s b + sc_rp s)) (sc_lf s b + sc_rfc s)
    simp
    omega
section
variable {f_rcd f_rp f_rfc f_cap f_refreshSoon f_refreshMust f_drainMark f_requests f_allLanes f_slotFree f_slotWaiting f_slotReady f_actNext f_writeHead f_writeCount f_draining f_mode f_faults f_lost f_retiredReads : Int32} {f_never f_anyAct f_anyRead f_anyWrite f_nextSerial f_clock : Int64} {a_cells a_openRows a_ages a_reqAddress a_reqLanes a_reqData a_reqBase a_reqFetched a_reqPending a_slotStates : (Nat → Int32)} {a_lastAct a_lastRead a_lastWrite a_lastPre a_lastRef a_actTimes a_reqBorn a_reqSerial : (Nat → Int64)}
variable {bo : Nat → Int}
theorem xw_later {post : Int64 → Prop} {a b : Int64} (h : ∀ r : Int64, r.toInt = sc_mx a.toInt b.toInt → post r) : wpX_later post (f_rcd, f_rp, f_rfc, f_cap, f_refreshSoon, f_refreshMust, f_drainMark, f_requests, f_allLanes, f_slotFree, f_slotWaiting, f_slotReady, f_never, f_anyAct, f_anyRead, f_anyWrite, f_actNext, f_nextSerial, f_writeHead, f_writeCount, f_draining, f_clock, f_mode, f_faults, f_lost, f_retiredReads, a_cells, a_openRows, a_ages, a_lastAct, a_lastRead, a_lastWrite, a_lastPre, a_lastRef, a_actTimes, a_reqAddress, a_reqLanes, a_reqData, a_reqBase, a_reqFetched, a_reqPending, a_reqBorn, a_reqSerial, a_slotStates) a b := by
  unfold wpX_later
  refine br_c (fun l => h _ ?_) (fun l => h _ ?_)
  · unfold sc_mx; rw [if_pos (Int64.le_iff_toInt_le.mp l)]
  · unfold sc_mx; rw [if_neg (fun z => l (Int64.le_iff_toInt_le.mpr z))]
theorem xw_earliest {post : Int64 → Prop} {k b : Nat} (hk : k < 5) (hb : b < 8) (w : sc_W (sc_ab f_rcd f_rp f_rfc f_cap f_anyAct f_anyRead f_anyWrite f_actNext f_nextSerial f_draining f_clock a_openRows a_ages a_lastAct a_lastRead a_lastWrite a_lastPre a_lastRef a_actTimes a_reqAddress a_reqLanes a_reqFetched a_reqPending a_reqSerial bo)) (rg : sc_Rg (sc_ab f_rcd f_rp f_rfc f_cap f_anyAct f_anyRead f_anyWrite f_actNext f_nextSerial f_draining f_clock a_openRows a_ages a_lastAct a_lastRead a_lastWrite a_lastPre a_lastRef a_actTimes a_reqAddress a_reqLanes a_reqFetched a_reqPending a_reqSerial bo)) (an : vp_in f_actNext 4)
    (h : ∀ r : Int64, r.toInt = sc_er (sc_ab f_rcd f_rp f_rfc f_cap f_anyAct f_anyRead f_anyWrite f_actNext f_nextSerial f_draining f_clock a_openRows a_ages a_lastAct a_lastRead a_lastWrite a_lastPre a_lastRef a_actTimes a_reqAddress a_reqLanes a_reqFetched a_reqPending a_reqSerial bo) k b → post r) : wpX_earliest post (f_rcd, f_rp, f_rfc, f_cap, f_refreshSoon, f_refreshMust, f_drainMark, f_requests, f_allLanes, f_slotFree, f_slotWaiting, f_slotReady, f_never, f_anyAct, f_anyRead, f_anyWrite, f_actNext, f_nextSerial, f_writeHead, f_writeCount, f_draining, f_clock, f_mode, f_faults, f_lost, f_retiredReads, a_cells, a_openRows, a_ages, a_lastAct, a_lastRead, a_lastWrite, a_lastPre, a_lastRef, a_actTimes, a_reqAddress, a_reqLanes, a_reqData, a_reqBase, a_reqFetched, a_reqPending, a_reqBorn, a_reqSerial, a_slotStates) (nI k) (nI b) := by
  have wp := w.1
  obtain ⟨w0, w1, w2, w3, w4, wb⟩ := w.2
  have wb := wb.1 b hb
  obtain ⟨g1, g2, gb, -⟩ := rg
  have gb := gb b hb
  simp only [ab_c, ab_dr, ab_a1, ab_a4, ab_ar, ab_aw, ab_ns, ab_rcd, ab_rp, ab_rfc, ab_cap, ab_la, ab_lr, ab_lw, ab_lp, ab_lf, ab_age, ab_op] at wp w0 w1 w2 w3 wb g1 g2 gb
  have e : (nI b).toNatClampNeg = b := nI_clamp (by omega)
  have vb : vp_in (nI b) 8 := vp_in_nI hb (by omega)
  have l2 : (2 : Int64).toInt = 2 := by decide
  have l3 : (3 : Int64).toInt = 3 := by decide
  have l4 : (4 : Int64).toInt = 4 := by decide
  have l5 : (5 : Int64).toInt = 5 := by decide
  have l10 : (10 : Int64).toInt = 10 := by decide
  have c1 : f_rp.toInt64.toInt = f_rp.toInt := Int32.toInt_toInt64 _
  have c2 : f_rfc.toInt64.toInt = f_rfc.toInt := Int32.toInt_toInt64 _
  have c3 : f_rcd.toInt64.toInt = f_rcd.toInt := Int32.toInt_toInt64 _
  have s1 : (a_lastPre b + f_rp.toInt64).toInt = (a_lastPre b).toInt + f_rp.toInt := by rw [xb_add (by omega) (by omega) (by omega) (by omega), c1]
  have s2 : (a_lastRef b + f_rfc.toInt64).toInt = (a_lastRef b).toInt + f_rfc.toInt := by rw [xb_add (by omega) (by omega) (by omega) (by omega), c2]
  have s3 : (a_lastAct b + f_rcd.toInt64).toInt = (a_lastAct b).toInt + f_rcd.toInt := by rw [xb_add (by omega) (by omega) (by omega) (by omega), c3]
  have s4 : (f_anyAct + 2).toInt = f_anyAct.toInt + 2 := by rw [xb_add (by omega) (by omega) (by omega) (by omega), l2]
  have s5 : (a_actTimes f_actNext.toNatClampNeg + 10).toInt = (a_actTimes f_actNext.toNatClampNeg).toInt + 10 := by rw [xb_add (by omega) (by omega) (by omega) (by omega), l10]
  have s6 : (f_anyRead + 2).toInt = f_anyRead.toInt + 2 := by rw [xb_add (by omega) (by omega) (by omega) (by omega), l2]
  have s7 : (f_anyRead + 3).toInt = f_anyRead.toInt + 3 := by rw [xb_add (by omega) (by omega) (by omega) (by omega), l3]
  have s8 : (f_anyWrite + 2).toInt = f_anyWrite.toInt + 2 := by rw [xb_add (by omega) (by omega) (by omega) (by omega), l2]
  have s9 : (f_anyWrite + 4).toInt = f_anyWrite.toInt + 4 := by rw [xb_add (by omega) (by omega) (by omega) (by omega), l4]
  have s10 : (a_lastAct b + 5).toInt = (a_lastAct b).toInt + 5 := by rw [xb_add (by omega) (by omega) (by omega) (by omega), l5]
  have s11 : (a_lastRead b + 2).toInt = (a_lastRead b).toInt + 2 := by rw [xb_add (by omega) (by omega) (by omega) (by omega), l2]
  have s12 : (a_lastWrite b + 4).toInt = (a_lastWrite b).toInt + 4 := by rw [xb_add (by omega) (by omega) (by omega) (by omega), l4]
  unfold wpX_earliest
  simp only [e]
  have : k = 0 ∨ k = 1 ∨ k = 2 ∨ k = 3 ∨ k = 4 := by omega
  rcases this with rfl | rfl | rfl | rfl | rfl
  · refine br_t (by decide) ⟨vb, xw_later fun r1 h1 => ⟨vb, xw_later fun r2 h2 => xw_later fun r3 h3 => ⟨an, xw_later fun r4 h4 => h r4 ?_⟩⟩⟩
    rw [h4, h3, h2, h1, s1, s2, s4, s5]; rfl
  · refine br_f (by decide) (br_t (by decide) ⟨vb, xw_later fun r1 h1 => xw_later fun r2 h2 => xw_later fun r3 h3 => h r3 ?_⟩)
    rw [h3, h2, h1, s3, s6, s9]; rfl
  · refine br_f (by decide) (br_f (by decide) (br_t (by decide) ⟨vb, xw_later fun r1 h1 => xw_later fun r2 h2 => xw_later fun r3 h3 => h r3 ?_⟩))
    rw [h3, h2, h1, s3, s8, s7]; rfl
  · refine br_f (by decide) (br_f (by decide) (br_f (by decide) (br_t (by decide) ⟨vb, xw_later fun r1 h1 => ⟨vb, xw_later fun r2 h2 => ⟨vb, xw_later fun r3 h3 => h r3 ?_⟩⟩⟩)))
    rw [h3, h2, h1, s10, s11, s12]; rfl
  · refine br_f (by decide) (br_f (by decide) (br_f (by decide) (br_f (by decide) ⟨vb, xw_later fun r1 h1 => ⟨vb, xw_later fun r2 h2 => h r2 ?_⟩⟩)))
    rw [h2, h1, s1, s2]; rfl
theorem xw_perm {post : Int32 → Prop} {k b : Nat} (hk : k < 5) (hb : b < 8) (w : sc_W (sc_ab f_rcd f_rp f_rfc f_cap f_anyAct f_anyRead f_anyWrite f_actNext f_nextSerial f_draining f_clock a_openRows a_ages a_lastAct a_lastRead a_lastWrite a_lastPre a_lastRef a_actTimes a_reqAddress a_reqLanes a_reqFetched a_reqPending a_reqSerial bo)) (rg : sc_Rg (sc_ab f_rcd f_rp f_rfc f_cap f_anyAct f_anyRead f_anyWrite f_actNext f_nextSerial f_draining f_clock a_openRows a_ages a_lastAct a_lastRead a_lastWrite a_lastPre a_lastRef a_actTimes a_reqAddress a_reqLanes a_reqFetched a_reqPending a_reqSerial bo)) (an : vp_in f_actNext 4)
    (h1 : sc_P (sc_ab f_rcd f_rp f_rfc f_cap f_anyAct f_anyRead f_anyWrite f_actNext f_nextSerial f_draining f_clock a_openRows a_ages a_lastAct a_lastRead a_lastWrite a_lastPre a_lastRef a_actTimes a_reqAddress a_reqLanes a_reqFetched a_reqPending a_reqSerial bo) k b → post 1) (h0 : ¬ sc_P (sc_ab f_rcd f_rp f_rfc f_cap f_anyAct f_anyRead f_anyWrite f_actNext f_nextSerial f_draining f_clock a_openRows a_ages a_lastAct a_lastRead a_lastWrite a_lastPre a_lastRef a_actTimes a_reqAddress a_reqLanes a_reqFetched a_reqPending a_reqSerial bo) k b → post 0) : wpX_permitted post (f_rcd, f_rp, f_rfc, f_cap, f_refreshSoon, f_refreshMust, f_drainMark, f_requests, f_allLanes, f_slotFree, f_slotWaiting, f_slotReady, f_never, f_anyAct, f_anyRead, f_anyWrite, f_actNext, f_nextSerial, f_writeHead, f_writeCount, f_draining, f_clock, f_mode, f_faults, f_lost, f_retiredReads, a_cells, a_openRows, a_ages, a_lastAct, a_lastRead, a_lastWrite, a_lastPre, a_lastRef, a_actTimes, a_reqAddress, a_reqLanes, a_reqData, a_reqBase, a_reqFetched, a_reqPending, a_reqBorn, a_reqSerial, a_slotStates) (nI k) (nI b) := by
  unfold wpX_permitted
  refine xw_earliest hk hb w rg an fun r hr => ?_
  have e : r = f_clock ↔ sc_P (sc_ab f_rcd f_rp f_rfc f_cap f_anyAct f_anyRead f_anyWrite f_actNext f_nextSerial f_draining f_clock a_openRows a_ages a_lastAct a_lastRead a_lastWrite a_lastPre a_lastRef a_actTimes a_reqAddress a_reqLanes a_reqFetched a_reqPending a_reqSerial bo) k b := by
    rw [xb_eqL, hr, ← sc_er_P hk]
    exact Iff.rfl
  exact br_c (fun z => h1 (e.mp z)) (fun z => h0 (fun y => z (e.mpr y)))
theorem xw_bank {post : Int32 → Prop} {x : Int32} (h0 : 0 ≤ x.toInt) (h : x.toInt < 256) (p : post (nI (sc_bA x.toInt))) : wpX_bankOf post (f_rcd, f_rp, f_rfc, f_cap, f_refreshSoon, f_refreshMust, f_drainMark, f_requests, f_allLanes, f_slotFree, f_slotWaiting, f_slotReady, f_never, f_anyAct, f_anyRead, f_anyWrite, f_actNext, f_nextSerial, f_writeHead, f_writeCount, f_draining, f_clock, f_mode, f_faults, f_lost, f_retiredReads, a_cells, a_openRows, a_ages, a_lastAct, a_lastRead, a_lastWrite, a_lastPre, a_lastRef, a_actTimes, a_reqAddress, a_reqLanes, a_reqData, a_reqBase, a_reqFetched, a_reqPending, a_reqBorn, a_reqSerial, a_slotStates) x := by
  unfold wpX_bankOf
  rw [xb_bk h0 h]; exact p
theorem xw_row {post : Int32 → Prop} {x : Int32} (h0 : 0 ≤ x.toInt) (h : x.toInt < 256) (p : post (nI (sc_rA x.toInt).toNat)) : wpX_rowOf post (f_rcd, f_rp, f_rfc, f_cap, f_refreshSoon, f_refreshMust, f_drainMark, f_requests, f_allLanes, f_slotFree, f_slotWaiting, f_slotReady, f_never, f_anyAct, f_anyRead, f_anyWrite, f_actNext, f_nextSerial, f_writeHead, f_writeCount, f_draining, f_clock, f_mode, f_faults, f_lost, f_retiredReads, a_cells, a_openRows, a_ages, a_lastAct, a_lastRead, a_lastWrite, a_lastPre, a_lastRef, a_actTimes, a_reqAddress, a_reqLanes, a_reqData, a_reqBase, a_reqFetched, a_reqPending, a_reqBorn, a_reqSerial, a_slotStates) x := by
  unfold wpX_rowOf
  rw [xb_ro h0 h]; exact p
/-- a pending mark is 0 or 1 -/
theorem xb_pd (rg : sc_Rg (sc_ab f_rcd f_rp f_rfc f_cap f_anyAct f_anyRead f_anyWrite f_actNext f_nextSerial f_draining f_clock a_openRows a_ages a_lastAct a_lastRead a_lastWrite a_lastPre a_lastRef a_actTimes a_reqAddress a_reqLanes a_reqFetched a_reqPending a_reqSerial bo)) {q : Nat} (hq : q < 12) : (a_reqPending q = 0 ↔ sc_pd (sc_ab f_rcd f_rp f_rfc f_cap f_anyAct f_anyRead f_anyWrite f_actNext f_nextSerial f_draining f_clock a_openRows a_ages a_lastAct a_lastRead a_lastWrite a_lastPre a_lastRef a_actTimes a_reqAddress a_reqLanes a_reqFetched a_reqPending a_reqSerial bo) q = 0) ∧ (a_reqPending q = 0 ∨ a_reqPending q = 1) := by
  have := (rg.2.2.2 q hq).1
  rw [ab_pd] at this ⊢
  refine ⟨xb_0, ?_⟩
  rcases this with z | z
  · exact .inl (xb_0.mpr z)
  · exact .inr (xb_eq.mpr (by rw [z]; decide))
theorem xb_wn_lt {s : sc_S} {j b : Nat} (h : ∀ q, q < j → ¬ (sc_pd s q ≠ 0 ∧ sc_bk s q = b)) (h2 : 12 ≤ j) : ¬ sc_wn s b := by
  rintro ⟨q, hq, p, e⟩
  exact h q (by omega) ⟨p, e⟩
theorem xw_wanted_l {post : Int32 → Prop} {b : Nat} (hb : b < 8) (rg : sc_Rg (sc_ab f_rcd f_rp f_rfc f_cap f_anyAct f_anyRead f_anyWrite f_actNext f_nextSerial f_draining f_clock a_openRows a_ages a_lastAct a_lastRead a_lastWrite a_lastPre a_lastRef a_actTimes a_reqAddress a_reqLanes a_reqFetched a_reqPending a_reqSerial bo)) (h1 : sc_wn (sc_ab f_rcd f_rp f_rfc f_cap f_anyAct f_anyRead f_anyWrite f_actNext f_nextSerial f_draining f_clock a_openRows a_ages a_lastAct a_lastRead a_lastWrite a_lastPre a_lastRef a_actTimes a_reqAddress a_reqLanes a_reqFetched a_reqPending a_reqSerial bo) b → post 1) (h0 : ¬ sc_wn (sc_ab f_rcd f_rp f_rfc f_cap f_anyAct f_anyRead f_anyWrite f_actNext f_nextSerial f_draining f_clock a_openRows a_ages a_lastAct a_lastRead a_lastWrite a_lastPre a_lastRef a_actTimes a_reqAddress a_reqLanes a_reqFetched a_reqPending a_reqSerial bo) b → post 0) :
    ∀ n j, j ≤ 12 → 12 - j < n → (∀ q, q < j → ¬ (sc_pd (sc_ab f_rcd f_rp f_rfc f_cap f_anyAct f_anyRead f_anyWrite f_actNext f_nextSerial f_draining f_clock a_openRows a_ages a_lastAct a_lastRead a_lastWrite a_lastPre a_lastRef a_actTimes a_reqAddress a_reqLanes a_reqFetched a_reqPending a_reqSerial bo) q ≠ 0 ∧ sc_bk (sc_ab f_rcd f_rp f_rfc f_cap f_anyAct f_anyRead f_anyWrite f_actNext f_nextSerial f_draining f_clock a_openRows a_ages a_lastAct a_lastRead a_lastWrite a_lastPre a_lastRef a_actTimes a_reqAddress a_reqLanes a_reqFetched a_reqPending a_reqSerial bo) q = b)) →
    wX_bankWanted_2 post (nI b) f_rcd f_rp f_rfc f_cap f_refreshSoon f_refreshMust f_drainMark f_requests f_allLanes f_slotFree f_slotWaiting f_slotReady f_never f_anyAct f_anyRead f_anyWrite f_actNext f_nextSerial f_writeHead f_writeCount f_draining f_clock f_mode f_faults f_lost f_retiredReads a_cells a_openRows a_ages a_lastAct a_lastRead a_lastWrite a_lastPre a_lastRef a_actTimes a_reqAddress a_reqLanes a_reqData a_reqBase a_reqFetched a_reqPending a_reqBorn a_reqSerial a_slotStates n (nI j)
  | 0, j, _, hn, _ => by omega
  | n + 1, j, hj, hn, hl => by
    unfold wX_bankWanted_2
    by_cases e : j = 12
    · subst e
      exact br_t (by decide) (h0 (xb_wn_lt hl (Nat.le_refl _)))
    · have lt : j < 12 := by omega
      have ej : (nI j).toNatClampNeg = j := nI_clamp (by omega)
      have vj : vp_in (nI j) 12 := vp_in_nI lt (by omega)
      have pd := xb_pd rg lt
      have ad := (rg.2.2.2 j lt).2.2
      simp only [ej]
      refine br_f (nI_ge (b := 12) lt (by decide)) ⟨vj, br_c (fun z => ?_) (fun z => ⟨vj, xw_bank (by rw [← ab_ad (bo := bo)]; exact ad.1) (by rw [← ab_ad (bo := bo)]; exact ad.2.1) ?_⟩)⟩
      · refine nm_r (nI_1 j) (xw_wanted_l hb rg h1 h0 n (j + 1) lt (by omega) (fun q hq => ?_))
        by_cases y : q = j
        · subst y; exact fun k => k.1 (pd.1.mp z)
        · exact hl q (by omega)
      · have be : sc_bA (a_reqAddress j).toInt = sc_bk (sc_ab f_rcd f_rp f_rfc f_cap f_anyAct f_anyRead f_anyWrite f_actNext f_nextSerial f_draining f_clock a_openRows a_ages a_lastAct a_lastRead a_lastWrite a_lastPre a_lastRef a_actTimes a_reqAddress a_reqLanes a_reqFetched a_reqPending a_reqSerial bo) j := rfl
        have lb : sc_bk (sc_ab f_rcd f_rp f_rfc f_cap f_anyAct f_anyRead f_anyWrite f_actNext f_nextSerial f_draining f_clock a_openRows a_ages a_lastAct a_lastRead a_lastWrite a_lastPre a_lastRef a_actTimes a_reqAddress a_reqLanes a_reqFetched a_reqPending a_reqSerial bo) j < 8 := sc_bA_lt _
        rw [be]
        refine br_c (fun y => ?_) (fun y => ?_)
        · rw [nI_eq (by omega) (by omega)] at y
          exact h1 ⟨j, lt, fun k => z (pd.1.mpr k), y⟩
        · rw [nI_eq (by omega) (by omega)] at y
          refine nm_r (nI_1 j) (xw_wanted_l hb rg h1 h0 n (j + 1) lt (by omega) (fun q hq => ?_))
          by_cases x : q = j
          · subst x; exact fun k => y k.2
          · exact hl q (by omega)
theorem xw_wanted {post : Int32 → Prop} {b : Nat} (hb : b < 8) (rg : sc_Rg (sc_ab f_rcd f_rp f_rfc f_cap f_anyAct f_anyRead f_anyWrite f_actNext f_nextSerial f_draining f_clock a_openRows a_ages a_lastAct a_lastRead a_lastWrite a_lastPre a_lastRef a_actTimes a_reqAddress a_reqLanes a_reqFetched a_reqPending a_reqSerial bo)) (h1 : sc_wn (sc_ab f_rcd f_rp f_rfc f_cap f_anyAct f_anyRead f_anyWrite f_actNext f_nextSerial f_draining f_clock a_openRows a_ages a_lastAct a_lastRead a_lastWrite a_lastPre a_lastRef a_actTimes a_reqAddress a_reqLanes a_reqFetched a_reqPending a_reqSerial bo) b → post 1) (h0 : ¬ sc_wn (sc_ab f_rcd f_rp f_rfc f_cap f_anyAct f_anyRead f_anyWrite f_actNext f_nextSerial f_draining f_clock a_openRows a_ages a_lastAct a_lastRead a_lastWrite a_lastPre a_lastRef a_actTimes a_reqAddress a_reqLanes a_reqFetched a_reqPending a_reqSerial bo) b → post 0) : wpX_bankWanted post (f_rcd, f_rp, f_rfc, f_cap, f_refreshSoon, f_refreshMust, f_drainMark, f_requests, f_allLanes, f_slotFree, f_slotWaiting, f_slotReady, f_never, f_anyAct, f_anyRead, f_anyWrite, f_actNext, f_nextSerial, f_writeHead, f_writeCount, f_draining, f_clock, f_mode, f_faults, f_lost, f_retiredReads, a_cells, a_openRows, a_ages, a_lastAct, a_lastRead, a_lastWrite, a_lastPre, a_lastRef, a_actTimes, a_reqAddress, a_reqLanes, a_reqData, a_reqBase, a_reqFetched, a_reqPending, a_reqBorn, a_reqSerial, a_slotStates) (nI b) :=
  ⟨13, xw_wanted_l hb rg h1 h0 13 0 (by omega) (by omega) (fun q hq => by omega)⟩
end
end
section
section
variable {f_rcd f_rp f_rfc f_cap f_refreshSoon f_refreshMust f_drainMark f_requests f_allLanes f_slotFree f_slotWaiting f_slotReady f_actNext f_writeHead f_writeCount f_draining f_mode f_faults f_lost f_retiredReads : Int32} {f_never f_anyAct f_anyRead f_anyWrite f_nextSerial f_clock : Int64} {a_cells a_openRows a_ages a_reqAddress a_reqLanes a_reqData a_reqBase a_reqFetched a_reqPending a_slotStates : (Nat → Int32)} {a_lastAct a_lastRead a_lastWrite a_lastPre a_lastRef a_actTimes a_reqBorn a_reqSerial : (Nat → Int64)}
variable {bo : Nat → Int}
theorem xw_fits {post : Int32 → Prop} {k b : Nat} (hk : k < 5) (hb : b < 8) (h1 : (sc_op (sc_ab f_rcd f_rp f_rfc f_cap f_anyAct f_anyRead f_anyWrite f_actNext f_nextSerial f_draining f_clock a_openRows a_ages a_lastAct a_lastRead a_lastWrite a_lastPre a_lastRef a_actTimes a_reqAddress a_reqLanes a_reqFetched a_reqPending a_reqSerial bo) b < 0 ↔ (k = 0 ∨ k = 4)) → post 1) (h0 : ¬ (sc_op (sc_ab f_rcd f_rp f_rfc f_cap f_anyAct f_anyRead f_anyWrite f_actNext f_nextSerial f_draining f_clock a_openRows a_ages a_lastAct a_lastRead a_lastWrite a_lastPre a_lastRef a_actTimes a_reqAddress a_reqLanes a_reqFetched a_reqPending a_reqSerial bo) b < 0 ↔ (k = 0 ∨ k = 4)) → post 0) : wpX_stateFits post (f_rcd, f_rp, f_rfc, f_cap, f_refreshSoon, f_refreshMust, f_drainMark, f_requests, f_allLanes, f_slotFree, f_slotWaiting, f_slotReady, f_never, f_anyAct, f_anyRead, f_anyWrite, f_actNext, f_nextSerial, f_writeHead, f_writeCount, f_draining, f_clock, f_mode, f_faults, f_lost, f_retiredReads, a_cells, a_openRows, a_ages, a_lastAct, a_lastRead, a_lastWrite, a_lastPre, a_lastRef, a_actTimes, a_reqAddress, a_reqLanes, a_reqData, a_reqBase, a_reqFetched, a_reqPending, a_reqBorn, a_reqSerial, a_slotStates) (nI k) (nI b) := by
  have e : (nI b).toNatClampNeg = b := nI_clamp (by omega)
  have vb : vp_in (nI b) 8 := vp_in_nI hb (by omega)
  have o : (0 : Int32) ≤ a_openRows b ↔ ¬ sc_op (sc_ab f_rcd f_rp f_rfc f_cap f_anyAct f_anyRead f_anyWrite f_actNext f_nextSerial f_draining f_clock a_openRows a_ages a_lastAct a_lastRead a_lastWrite a_lastPre a_lastRef a_actTimes a_reqAddress a_reqLanes a_reqFetched a_reqPending a_reqSerial bo) b < 0 := by
    rw [Int32.le_iff_toInt_le, ab_op]
    have : (0 : Int32).toInt = 0 := by decide
    omega
  unfold wpX_stateFits
  simp only [e]
  refine ⟨vb, ?_⟩
  unfold wX_stateFits_14 wX_stateFits_24 wX_stateFits_29
  have : k = 0 ∨ k = 1 ∨ k = 2 ∨ k = 3 ∨ k = 4 := by omega
  by_cases z : sc_op (sc_ab f_rcd f_rp f_rfc f_cap f_anyAct f_anyRead f_anyWrite f_actNext f_nextSerial f_draining f_clock a_openRows a_ages a_lastAct a_lastRead a_lastWrite a_lastPre a_lastRef a_actTimes a_reqAddress a_reqLanes a_reqFetched a_reqPending a_reqSerial bo) b < 0
  · refine br_f (fun y => (o.mp y) z) ?_
    rcases this with rfl | rfl | rfl | rfl | rfl
    · exact br_t (by decide) (br_t (by decide) (h1 ⟨fun _ => .inl rfl, fun _ => z⟩))
    · exact br_f (by decide) (br_f (by decide) (br_f (by decide) (h0 (fun y => by have := y.mp z; omega))))
    · exact br_f (by decide) (br_f (by decide) (br_f (by decide) (h0 (fun y => by have := y.mp z; omega))))
    · exact br_f (by decide) (br_f (by decide) (br_f (by decide) (h0 (fun y => by have := y.mp z; omega))))
    · exact br_f (by decide) (br_t (by decide) (br_t (by decide) (h1 ⟨fun _ => .inr rfl, fun _ => z⟩)))
  · refine br_t (o.mpr z) ?_
    rcases this with rfl | rfl | rfl | rfl | rfl
    · exact br_t (by decide) (br_f (by decide) (h0 (fun y => z (y.mpr (.inl rfl)))))
    · exact br_f (by decide) (br_f (by decide) (br_t (by decide) (h1 ⟨fun y => absurd y z, fun y => by omega⟩)))
    · exact br_f (by decide) (br_f (by decide) (br_t (by decide) (h1 ⟨fun y => absurd y z, fun y => by omega⟩)))
    · exact br_f (by decide) (br_f (by decide) (br_t (by decide) (h1 ⟨fun y => absurd y z, fun y => by omega⟩)))
    · exact br_f (by decide) (br_t (by decide) (br_f (by decide) (h0 (fun y => z (y.mpr (.inr rfl))))))
theorem xb_ro_eq (rg : sc_Rg (sc_ab f_rcd f_rp f_rfc f_cap f_anyAct f_anyRead f_anyWrite f_actNext f_nextSerial f_draining f_clock a_openRows a_ages a_lastAct a_lastRead a_lastWrite a_lastPre a_lastRef a_actTimes a_reqAddress a_reqLanes a_reqFetched a_reqPending a_reqSerial bo)) {q b : Nat} (hb : b < 8) : (a_openRows b = nI (sc_ro (sc_ab f_rcd f_rp f_rfc f_cap f_anyAct f_anyRead f_anyWrite f_actNext f_nextSerial f_draining f_clock a_openRows a_ages a_lastAct a_lastRead a_lastWrite a_lastPre a_lastRef a_actTimes a_reqAddress a_reqLanes a_reqFetched a_reqPending a_reqSerial bo) q).toNat ↔ sc_op (sc_ab f_rcd f_rp f_rfc f_cap f_anyAct f_anyRead f_anyWrite f_actNext f_nextSerial f_draining f_clock a_openRows a_ages a_lastAct a_lastRead a_lastWrite a_lastPre a_lastRef a_actTimes a_reqAddress a_reqLanes a_reqFetched a_reqPending a_reqSerial bo) b = sc_ro (sc_ab f_rcd f_rp f_rfc f_cap f_anyAct f_anyRead f_anyWrite f_actNext f_nextSerial f_draining f_clock a_openRows a_ages a_lastAct a_lastRead a_lastWrite a_lastPre a_lastRef a_actTimes a_reqAddress a_reqLanes a_reqFetched a_reqPending a_reqSerial bo) q) := by
  have := sc_rA_in (sc_ad (sc_ab f_rcd f_rp f_rfc f_cap f_anyAct f_anyRead f_anyWrite f_actNext f_nextSerial f_draining f_clock a_openRows a_ages a_lastAct a_lastRead a_lastWrite a_lastPre a_lastRef a_actTimes a_reqAddress a_reqLanes a_reqFetched a_reqPending a_reqSerial bo) q)
  have r : sc_ro (sc_ab f_rcd f_rp f_rfc f_cap f_anyAct f_anyRead f_anyWrite f_actNext f_nextSerial f_draining f_clock a_openRows a_ages a_lastAct a_lastRead a_lastWrite a_lastPre a_lastRef a_actTimes a_reqAddress a_reqLanes a_reqFetched a_reqPending a_reqSerial bo) q = sc_rA (sc_ad (sc_ab f_rcd f_rp f_rfc f_cap f_anyAct f_anyRead f_anyWrite f_actNext f_nextSerial f_draining f_clock a_openRows a_ages a_lastAct a_lastRead a_lastWrite a_lastPre a_lastRef a_actTimes a_reqAddress a_reqLanes a_reqFetched a_reqPending a_reqSerial bo) q) := rfl
  rw [xb_eq, nI_toInt (by omega), ab_op, r]
  omega
theorem xw_kind {post : Int32 → Prop} {q : Nat} (hq : q < 12) (rg : sc_Rg (sc_ab f_rcd f_rp f_rfc f_cap f_anyAct f_anyRead f_anyWrite f_actNext f_nextSerial f_draining f_clock a_openRows a_ages a_lastAct a_lastRead a_lastWrite a_lastPre a_lastRef a_actTimes a_reqAddress a_reqLanes a_reqFetched a_reqPending a_reqSerial bo)) (h : post (nI (sc_kd (sc_ab f_rcd f_rp f_rfc f_cap f_anyAct f_anyRead f_anyWrite f_actNext f_nextSerial f_draining f_clock a_openRows a_ages a_lastAct a_lastRead a_lastWrite a_lastPre a_lastRef a_actTimes a_reqAddress a_reqLanes a_reqFetched a_reqPending a_reqSerial bo) q))) : wpX_nextKind post (f_rcd, f_rp, f_rfc, f_cap, f_refreshSoon, f_refreshMust, f_drainMark, f_requests, f_allLanes, f_slotFree, f_slotWaiting, f_slotReady, f_never, f_anyAct, f_anyRead, f_anyWrite, f_actNext, f_nextSerial, f_writeHead, f_writeCount, f_draining, f_clock, f_mode, f_faults, f_lost, f_retiredReads, a_cells, a_openRows, a_ages, a_lastAct, a_lastRead, a_lastWrite, a_lastPre, a_lastRef, a_actTimes, a_reqAddress, a_reqLanes, a_reqData, a_reqBase, a_reqFetched, a_reqPending, a_reqBorn, a_reqSerial, a_slotStates) (nI q) := by
  have eq : (nI q).toNatClampNeg = q := nI_clamp (by omega)
  have vq : vp_in (nI q) 12 := vp_in_nI hq (by omega)
  have ad := (rg.2.2.2 q hq).2.2
  have a0 : 0 ≤ (a_reqAddress q).toInt := by rw [← ab_ad (bo := bo)]; exact ad.1
  have a1 : (a_reqAddress q).toInt < 256 := by rw [← ab_ad (bo := bo)]; exact ad.2.1
  have lb : sc_bk (sc_ab f_rcd f_rp f_rfc f_cap f_anyAct f_anyRead f_anyWrite f_actNext f_nextSerial f_draining f_clock a_openRows a_ages a_lastAct a_lastRead a_lastWrite a_lastPre a_lastRef a_actTimes a_reqAddress a_reqLanes a_reqFetched a_reqPending a_reqSerial bo) q < 8 := sc_bA_lt _
  have eb : (nI (sc_bA (a_reqAddress q).toInt)).toNatClampNeg = sc_bk (sc_ab f_rcd f_rp f_rfc f_cap f_anyAct f_anyRead f_anyWrite f_actNext f_nextSerial f_draining f_clock a_openRows a_ages a_lastAct a_lastRead a_lastWrite a_lastPre a_lastRef a_actTimes a_reqAddress a_reqLanes a_reqFetched a_reqPending a_reqSerial bo) q := nI_clamp (by have : sc_bA (a_reqAddress q).toInt < 8 := sc_bA_lt _; omega)
  have vb : vp_in (nI (sc_bA (a_reqAddress q).toInt)) 8 := vp_in_nI (sc_bA_lt _) (by omega)
  unfold wpX_nextKind
  simp only [eq]
  refine ⟨vq, xw_bank a0 a1 ⟨vb, ?_⟩⟩
  rw [eb]
  have o : (0 : Int32) ≤ a_openRows (sc_bk (sc_ab f_rcd f_rp f_rfc f_cap f_anyAct f_anyRead f_anyWrite f_actNext f_nextSerial f_draining f_clock a_openRows a_ages a_lastAct a_lastRead a_lastWrite a_lastPre a_lastRef a_actTimes a_reqAddress a_reqLanes a_reqFetched a_reqPending a_reqSerial bo) q) ↔ ¬ sc_op (sc_ab f_rcd f_rp f_rfc f_cap f_anyAct f_anyRead f_anyWrite f_actNext f_nextSerial f_draining f_clock a_openRows a_ages a_lastAct a_lastRead a_lastWrite a_lastPre a_lastRef a_actTimes a_reqAddress a_reqLanes a_reqFetched a_reqPending a_reqSerial bo) (sc_bk (sc_ab f_rcd f_rp f_rfc f_cap f_anyAct f_anyRead f_anyWrite f_actNext f_nextSerial f_draining f_clock a_openRows a_ages a_lastAct a_lastRead a_lastWrite a_lastPre a_lastRef a_actTimes a_reqAddress a_reqLanes a_reqFetched a_reqPending a_reqSerial bo) q) < 0 := by
    rw [Int32.le_iff_toInt_le, ab_op]
    have : (0 : Int32).toInt = 0 := by decide
    omega
  by_cases z : sc_op (sc_ab f_rcd f_rp f_rfc f_cap f_anyAct f_anyRead f_anyWrite f_actNext f_nextSerial f_draining f_clock a_openRows a_ages a_lastAct a_lastRead a_lastWrite a_lastPre a_lastRef a_actTimes a_reqAddress a_reqLanes a_reqFetched a_reqPending a_reqSerial bo) (sc_bk (sc_ab f_rcd f_rp f_rfc f_cap f_anyAct f_anyRead f_anyWrite f_actNext f_nextSerial f_draining f_clock a_openRows a_ages a_lastAct a_lastRead a_lastWrite a_lastPre a_lastRef a_actTimes a_reqAddress a_reqLanes a_reqFetched a_reqPending a_reqSerial bo) q) < 0
  · refine br_f (fun y => (o.mp y) z) ?_
    rw [sc_kdA z] at h; exact h
  · refine br_t (o.mpr z) ⟨vb, vq, xw_row a0 a1 ?_⟩
    have re := xb_ro_eq (q := q) rg lb
    by_cases e : sc_op (sc_ab f_rcd f_rp f_rfc f_cap f_anyAct f_anyRead f_anyWrite f_actNext f_nextSerial f_draining f_clock a_openRows a_ages a_lastAct a_lastRead a_lastWrite a_lastPre a_lastRef a_actTimes a_reqAddress a_reqLanes a_reqFetched a_reqPending a_reqSerial bo) (sc_bk (sc_ab f_rcd f_rp f_rfc f_cap f_anyAct f_anyRead f_anyWrite f_actNext f_nextSerial f_draining f_clock a_openRows a_ages a_lastAct a_lastRead a_lastWrite a_lastPre a_lastRef a_actTimes a_reqAddress a_reqLanes a_reqFetched a_reqPending a_reqSerial bo) q) = sc_ro (sc_ab f_rcd f_rp f_rfc f_cap f_anyAct f_anyRead f_anyWrite f_actNext f_nextSerial f_draining f_clock a_openRows a_ages a_lastAct a_lastRead a_lastWrite a_lastPre a_lastRef a_actTimes a_reqAddress a_reqLanes a_reqFetched a_reqPending a_reqSerial bo) q
    · refine br_t (re.mpr e) ?_
      unfold sc_kd at h
      rw [if_neg z, if_neg (by simpa using e)] at h
      by_cases l : q < 6
      · rw [if_pos (.inl l)] at h
        exact br_f (nI_ge (b := 6) l (by decide)) h
      · refine br_t (nI_le (a := 6) (by omega) (by omega)) ⟨vq, ?_⟩
        have fe := (rg.2.2.2 q hq).2.1
        rw [ab_fu, ab_fe] at h
        by_cases full : a_reqLanes q = 65535
        · rw [if_pos full, if_neg (by intro y; rcases y with y | y; exact l y; exact absurd y.1 (by decide))] at h
          exact br_t full h
        · rw [if_neg full] at h
          refine br_f full ⟨vq, ?_⟩
          by_cases f : a_reqFetched q = 0
          · rw [if_pos (.inr ⟨rfl, xb_0.mp f⟩)] at h
            exact br_t f h
          · rw [if_neg (by intro y; rcases y with y | y; exact l y; exact f (xb_0.mpr y.2))] at h
            exact br_f f h
    · refine br_f (fun y => e (re.mp y)) ?_
      rw [sc_kdW (by omega) e] at h; exact h
theorem xb_bool {x : Int32} (h : x = 0 ∨ x = 1) : narrow .boolean (.int x) = .int x := by
  rcases h with rfl | rfl <;> rfl
theorem xw_can {post : Int32 → Prop} {q : Nat} (hq : q < 12) (w : sc_W (sc_ab f_rcd f_rp f_rfc f_cap f_anyAct f_anyRead f_anyWrite f_actNext f_nextSerial f_draining f_clock a_openRows a_ages a_lastAct a_lastRead a_lastWrite a_lastPre a_lastRef a_actTimes a_reqAddress a_reqLanes a_reqFetched a_reqPending a_reqSerial bo)) (rg : sc_Rg (sc_ab f_rcd f_rp f_rfc f_cap f_anyAct f_anyRead f_anyWrite f_actNext f_nextSerial f_draining f_clock a_openRows a_ages a_lastAct a_lastRead a_lastWrite a_lastPre a_lastRef a_actTimes a_reqAddress a_reqLanes a_reqFetched a_reqPending a_reqSerial bo)) (an : vp_in f_actNext 4)
    (h1 : sc_age (sc_ab f_rcd f_rp f_rfc f_cap f_anyAct f_anyRead f_anyWrite f_actNext f_nextSerial f_draining f_clock a_openRows a_ages a_lastAct a_lastRead a_lastWrite a_lastPre a_lastRef a_actTimes a_reqAddress a_reqLanes a_reqFetched a_reqPending a_reqSerial bo) (sc_bk (sc_ab f_rcd f_rp f_rfc f_cap f_anyAct f_anyRead f_anyWrite f_actNext f_nextSerial f_draining f_clock a_openRows a_ages a_lastAct a_lastRead a_lastWrite a_lastPre a_lastRef a_actTimes a_reqAddress a_reqLanes a_reqFetched a_reqPending a_reqSerial bo) q) < 448 ∧ sc_P (sc_ab f_rcd f_rp f_rfc f_cap f_anyAct f_anyRead f_anyWrite f_actNext f_nextSerial f_draining f_clock a_openRows a_ages a_lastAct a_lastRead a_lastWrite a_lastPre a_lastRef a_actTimes a_reqAddress a_reqLanes a_reqFetched a_reqPending a_reqSerial bo) (sc_kd (sc_ab f_rcd f_rp f_rfc f_cap f_anyAct f_anyRead f_anyWrite f_actNext f_nextSerial f_draining f_clock a_openRows a_ages a_lastAct a_lastRead a_lastWrite a_lastPre a_lastRef a_actTimes a_reqAddress a_reqLanes a_reqFetched a_reqPending a_reqSerial bo) q) (sc_bk (sc_ab f_rcd f_rp f_rfc f_cap f_anyAct f_anyRead f_anyWrite f_actNext f_nextSerial f_draining f_clock a_openRows a_ages a_lastAct a_lastRead a_lastWrite a_lastPre a_lastRef a_actTimes a_reqAddress a_reqLanes a_reqFetched a_reqPending a_reqSerial bo) q) → post 1) (h0 : ¬ (sc_age (sc_ab f_rcd f_rp f_rfc f_cap f_anyAct f_anyRead f_anyWrite f_actNext f_nextSerial f_draining f_clock a_openRows a_ages a_lastAct a_lastRead a_lastWrite a_lastPre a_lastRef a_actTimes a_reqAddress a_reqLanes a_reqFetched a_reqPending a_reqSerial bo) (sc_bk (sc_ab f_rcd f_rp f_rfc f_cap f_anyAct f_anyRead f_anyWrite f_actNext f_nextSerial f_draining f_clock a_openRows a_ages a_lastAct a_lastRead a_lastWrite a_lastPre a_lastRef a_actTimes a_reqAddress a_reqLanes a_reqFetched a_reqPending a_reqSerial bo) q) < 448 ∧ sc_P (sc_ab f_rcd f_rp f_rfc f_cap f_anyAct f_anyRead f_anyWrite f_actNext f_nextSerial f_draining f_clock a_openRows a_ages a_lastAct a_lastRead a_lastWrite a_lastPre a_lastRef a_actTimes a_reqAddress a_reqLanes a_reqFetched a_reqPending a_reqSerial bo) (sc_kd (sc_ab f_rcd f_rp f_rfc f_cap f_anyAct f_anyRead f_anyWrite f_actNext f_nextSerial f_draining f_clock a_openRows a_ages a_lastAct a_lastRead a_lastWrite a_lastPre a_lastRef a_actTimes a_reqAddress a_reqLanes a_reqFetched a_reqPending a_reqSerial bo) q) (sc_bk (sc_ab f_rcd f_rp f_rfc f_cap f_anyAct f_anyRead f_anyWrite f_actNext f_nextSerial f_draining f_clock a_openRows a_ages a_lastAct a_lastRead a_lastWrite a_lastPre a_lastRef a_actTimes a_reqAddress a_reqLanes a_reqFetched a_reqPending a_reqSerial bo) q)) → post 0) : wpX_canAdvance post (f_rcd, f_rp, f_rfc, f_cap, f_refreshSoon, f_refreshMust, f_drainMark, f_requests, f_allLanes, f_slotFree, f_slotWaiting, f_slotReady, f_never, f_anyAct, f_anyRead, f_anyWrite, f_actNext, f_nextSerial, f_writeHead, f_writeCount, f_draining, f_clock, f_mode, f_faults, f_lost, f_retiredReads, a_cells, a_openRows, a_ages, a_lastAct, a_lastRead, a_lastWrite, a_lastPre, a_lastRef, a_actTimes, a_reqAddress, a_reqLanes, a_reqData, a_reqBase, a_reqFetched, a_reqPending, a_reqBorn, a_reqSerial, a_slotStates) (nI q) := by
  have eq : (nI q).toNatClampNeg = q := nI_clamp (by omega)
  have vq : vp_in (nI q) 12 := vp_in_nI hq (by omega)
  have ad := (rg.2.2.2 q hq).2.2
  have a0 : 0 ≤ (a_reqAddress q).toInt := by rw [← ab_ad (bo := bo)]; exact ad.1
  have a1 : (a_reqAddress q).toInt < 256 := by rw [← ab_ad (bo := bo)]; exact ad.2.1
  have lb : sc_bk (sc_ab f_rcd f_rp f_rfc f_cap f_anyAct f_anyRead f_anyWrite f_actNext f_nextSerial f_draining f_clock a_openRows a_ages a_lastAct a_lastRead a_lastWrite a_lastPre a_lastRef a_actTimes a_reqAddress a_reqLanes a_reqFetched a_reqPending a_reqSerial bo) q < 8 := sc_bA_lt _
  have eb : (nI (sc_bA (a_reqAddress q).toInt)).toNatClampNeg = sc_bk (sc_ab f_rcd f_rp f_rfc f_cap f_anyAct f_anyRead f_anyWrite f_actNext f_nextSerial f_draining f_clock a_openRows a_ages a_lastAct a_lastRead a_lastWrite a_lastPre a_lastRef a_actTimes a_reqAddress a_reqLanes a_reqFetched a_reqPending a_reqSerial bo) q := nI_clamp (by have : sc_bA (a_reqAddress q).toInt < 8 := sc_bA_lt _; omega)
  have vb : vp_in (nI (sc_bA (a_reqAddress q).toInt)) 8 := vp_in_nI (sc_bA_lt _) (by omega)
  have l : a_ages (sc_bk (sc_ab f_rcd f_rp f_rfc f_cap f_anyAct f_anyRead f_anyWrite f_actNext f_nextSerial f_draining f_clock a_openRows a_ages a_lastAct a_lastRead a_lastWrite a_lastPre a_lastRef a_actTimes a_reqAddress a_reqLanes a_reqFetched a_reqPending a_reqSerial bo) q) < 448 ↔ sc_age (sc_ab f_rcd f_rp f_rfc f_cap f_anyAct f_anyRead f_anyWrite f_actNext f_nextSerial f_draining f_clock a_openRows a_ages a_lastAct a_lastRead a_lastWrite a_lastPre a_lastRef a_actTimes a_reqAddress a_reqLanes a_reqFetched a_reqPending a_reqSerial bo) (sc_bk (sc_ab f_rcd f_rp f_rfc f_cap f_anyAct f_anyRead f_anyWrite f_actNext f_nextSerial f_draining f_clock a_openRows a_ages a_lastAct a_lastRead a_lastWrite a_lastPre a_lastRef a_actTimes a_reqAddress a_reqLanes a_reqFetched a_reqPending a_reqSerial bo) q) < 448 := by
    rw [Int32.lt_iff_toInt_lt, ab_age]
    have : (448 : Int32).toInt = 448 := by decide
    omega
  unfold wpX_canAdvance
  simp only [eq]
  refine ⟨vq, xw_bank a0 a1 ⟨vb, ?_⟩⟩
  rw [eb]
  refine br_c (fun z => xw_kind hq rg ?_) (fun z => h0 (fun y => z (l.mpr y.1)))
  have k5 : sc_kd (sc_ab f_rcd f_rp f_rfc f_cap f_anyAct f_anyRead f_anyWrite f_actNext f_nextSerial f_draining f_clock a_openRows a_ages a_lastAct a_lastRead a_lastWrite a_lastPre a_lastRef a_actTimes a_reqAddress a_reqLanes a_reqFetched a_reqPending a_reqSerial bo) q < 5 := by have := sc_kd_in (sc_ab f_rcd f_rp f_rfc f_cap f_anyAct f_anyRead f_anyWrite f_actNext f_nextSerial f_draining f_clock a_openRows a_ages a_lastAct a_lastRead a_lastWrite a_lastPre a_lastRef a_actTimes a_reqAddress a_reqLanes a_reqFetched a_reqPending a_reqSerial bo) q; omega
  refine xw_perm k5 lb w rg an (fun p => ⟨rfl, h1 ⟨l.mp z, p⟩⟩) (fun p => ⟨rfl, h0 (fun y => p y.2)⟩)
theorem xb_lt_se (a b : Nat) : (a_reqSerial a ≤ a_reqSerial b ↔ sc_se (sc_ab f_rcd f_rp f_rfc f_cap f_anyAct f_anyRead f_anyWrite f_actNext f_nextSerial f_draining f_clock a_openRows a_ages a_lastAct a_lastRead a_lastWrite a_lastPre a_lastRef a_actTimes a_reqAddress a_reqLanes a_reqFetched a_reqPending a_reqSerial bo) a ≤ sc_se (sc_ab f_rcd f_rp f_rfc f_cap f_anyAct f_anyRead f_anyWrite f_actNext f_nextSerial f_draining f_clock a_openRows a_ages a_lastAct a_lastRead a_lastWrite a_lastPre a_lastRef a_actTimes a_reqAddress a_reqLanes a_reqFetched a_reqPending a_reqSerial bo) b) := Int64.le_iff_toInt_le
theorem xb_ad_eq (a b : Nat) : (a_reqAddress a = a_reqAddress b ↔ sc_ad (sc_ab f_rcd f_rp f_rfc f_cap f_anyAct f_anyRead f_anyWrite f_actNext f_nextSerial f_draining f_clock a_openRows a_ages a_lastAct a_lastRead a_lastWrite a_lastPre a_lastRef a_actTimes a_reqAddress a_reqLanes a_reqFetched a_reqPending a_reqSerial bo) a = sc_ad (sc_ab f_rcd f_rp f_rfc f_cap f_anyAct f_anyRead f_anyWrite f_actNext f_nextSerial f_draining f_clock a_openRows a_ages a_lastAct a_lastRead a_lastWrite a_lastPre a_lastRef a_actTimes a_reqAddress a_reqLanes a_reqFetched a_reqPending a_reqSerial bo) b) := xb_eq
theorem xw_elig_l {post : Int32 → Prop} {q : Nat} (hq : q < 12) (rg : sc_Rg (sc_ab f_rcd f_rp f_rfc f_cap f_anyAct f_anyRead f_anyWrite f_actNext f_nextSerial f_draining f_clock a_openRows a_ages a_lastAct a_lastRead a_lastWrite a_lastPre a_lastRef a_actTimes a_reqAddress a_reqLanes a_reqFetched a_reqPending a_reqSerial bo))
    (h1 : (∀ o, o < 12 → sc_pd (sc_ab f_rcd f_rp f_rfc f_cap f_anyAct f_anyRead f_anyWrite f_actNext f_nextSerial f_draining f_clock a_openRows a_ages a_lastAct a_lastRead a_lastWrite a_lastPre a_lastRef a_actTimes a_reqAddress a_reqLanes a_reqFetched a_reqPending a_reqSerial bo) o ≠ 0 → sc_ad (sc_ab f_rcd f_rp f_rfc f_cap f_anyAct f_anyRead f_anyWrite f_actNext f_nextSerial f_draining f_clock a_openRows a_ages a_lastAct a_lastRead a_lastWrite a_lastPre a_lastRef a_actTimes a_reqAddress a_reqLanes a_reqFetched a_reqPending a_reqSerial bo) o = sc_ad (sc_ab f_rcd f_rp f_rfc f_cap f_anyAct f_anyRead f_anyWrite f_actNext f_nextSerial f_draining f_clock a_openRows a_ages a_lastAct a_lastRead a_lastWrite a_lastPre a_lastRef a_actTimes a_reqAddress a_reqLanes a_reqFetched a_reqPending a_reqSerial bo) q → sc_se (sc_ab f_rcd f_rp f_rfc f_cap f_anyAct f_anyRead f_anyWrite f_actNext f_nextSerial f_draining f_clock a_openRows a_ages a_lastAct a_lastRead a_lastWrite a_lastPre a_lastRef a_actTimes a_reqAddress a_reqLanes a_reqFetched a_reqPending a_reqSerial bo) q ≤ sc_se (sc_ab f_rcd f_rp f_rfc f_cap f_anyAct f_anyRead f_anyWrite f_actNext f_nextSerial f_draining f_clock a_openRows a_ages a_lastAct a_lastRead a_lastWrite a_lastPre a_lastRef a_actTimes a_reqAddress a_reqLanes a_reqFetched a_reqPending a_reqSerial bo) o) → post 1)
    (h0 : ¬ (∀ o, o < 12 → sc_pd (sc_ab f_rcd f_rp f_rfc f_cap f_anyAct f_anyRead f_anyWrite f_actNext f_nextSerial f_draining f_clock a_openRows a_ages a_lastAct a_lastRead a_lastWrite a_lastPre a_lastRef a_actTimes a_reqAddress a_reqLanes a_reqFetched a_reqPending a_reqSerial bo) o ≠ 0 → sc_ad (sc_ab f_rcd f_rp f_rfc f_cap f_anyAct f_anyRead f_anyWrite f_actNext f_nextSerial f_draining f_clock a_openRows a_ages a_lastAct a_lastRead a_lastWrite a_lastPre a_lastRef a_actTimes a_reqAddress a_reqLanes a_reqFetched a_reqPending a_reqSerial bo) o = sc_ad (sc_ab f_rcd f_rp f_rfc f_cap f_anyAct f_anyRead f_anyWrite f_actNext f_nextSerial f_draining f_clock a_openRows a_ages a_lastAct a_lastRead a_lastWrite a_lastPre a_lastRef a_actTimes a_reqAddress a_reqLanes a_reqFetched a_reqPending a_reqSerial bo) q → sc_se (sc_ab f_rcd f_rp f_rfc f_cap f_anyAct f_anyRead f_anyWrite f_actNext f_nextSerial f_draining f_clock a_openRows a_ages a_lastAct a_lastRead a_lastWrite a_lastPre a_lastRef a_actTimes a_reqAddress a_reqLanes a_reqFetched a_reqPending a_reqSerial bo) q ≤ sc_se (sc_ab f_rcd f_rp f_rfc f_cap f_anyAct f_anyRead f_anyWrite f_actNext f_nextSerial f_draining f_clock a_openRows a_ages a_lastAct a_lastRead a_lastWrite a_lastPre a_lastRef a_actTimes a_reqAddress a_reqLanes a_reqFetched a_reqPending a_reqSerial bo) o) → post 0) :
    ∀ n j, j ≤ 12 → 12 - j < n → (∀ o, o < j → sc_pd (sc_ab f_rcd f_rp f_rfc f_cap f_anyAct f_anyRead f_anyWrite f_actNext f_nextSerial f_draining f_clock a_openRows a_ages a_lastAct a_lastRead a_lastWrite a_lastPre a_lastRef a_actTimes a_reqAddress a_reqLanes a_reqFetched a_reqPending a_reqSerial bo) o ≠ 0 → sc_ad (sc_ab f_rcd f_rp f_rfc f_cap f_anyAct f_anyRead f_anyWrite f_actNext f_nextSerial f_draining f_clock a_openRows a_ages a_lastAct a_lastRead a_lastWrite a_lastPre a_lastRef a_actTimes a_reqAddress a_reqLanes a_reqFetched a_reqPending a_reqSerial bo) o = sc_ad (sc_ab f_rcd f_rp f_rfc f_cap f_anyAct f_anyRead f_anyWrite f_actNext f_nextSerial f_draining f_clock a_openRows a_ages a_lastAct a_lastRead a_lastWrite a_lastPre a_lastRef a_actTimes a_reqAddress a_reqLanes a_reqFetched a_reqPending a_reqSerial bo) q → sc_se (sc_ab f_rcd f_rp f_rfc f_cap f_anyAct f_anyRead f_anyWrite f_actNext f_nextSerial f_draining f_clock a_openRows a_ages a_lastAct a_lastRead a_lastWrite a_lastPre a_lastRef a_actTimes a_reqAddress a_reqLanes a_reqFetched a_reqPending a_reqSerial bo) q ≤ sc_se (sc_ab f_rcd f_rp f_rfc f_cap f_anyAct f_anyRead f_anyWrite f_actNext f_nextSerial f_draining f_clock a_openRows a_ages a_lastAct a_lastRead a_lastWrite a_lastPre a_lastRef a_actTimes a_reqAddress a_reqLanes a_reqFetched a_reqPending a_reqSerial bo) o) →
    wX_eligible_30 post (nI q) f_rcd f_rp f_rfc f_cap f_refreshSoon f_refreshMust f_drainMark f_requests f_allLanes f_slotFree f_slotWaiting f_slotReady f_never f_anyAct f_anyRead f_anyWrite f_actNext f_nextSerial f_writeHead f_writeCount f_draining f_clock f_mode f_faults f_lost f_retiredReads a_cells a_openRows a_ages a_lastAct a_lastRead a_lastWrite a_lastPre a_lastRef a_actTimes a_reqAddress a_reqLanes a_reqData a_reqBase a_reqFetched a_reqPending a_reqBorn a_reqSerial a_slotStates n (nI j)
  | 0, j, _, hn, _ => by omega
  | n + 1, j, hj, hn, hl => by
    unfold wX_eligible_30
    by_cases e : j = 12
    · subst e
      exact br_t (by decide) (h1 hl)
    · have lt : j < 12 := by omega
      have ej : (nI j).toNatClampNeg = j := nI_clamp (by omega)
      have eq : (nI q).toNatClampNeg = q := nI_clamp (by omega)
      have vj : vp_in (nI j) 12 := vp_in_nI lt (by omega)
      have vq : vp_in (nI q) 12 := vp_in_nI hq (by omega)
      have pd := xb_pd rg lt
      simp only [ej, eq]
      have go : (sc_pd (sc_ab f_rcd f_rp f_rfc f_cap f_anyAct f_anyRead f_anyWrite f_actNext f_nextSerial f_draining f_clock a_openRows a_ages a_lastAct a_lastRead a_lastWrite a_lastPre a_lastRef a_actTimes a_reqAddress a_reqLanes a_reqFetched a_reqPending a_reqSerial bo) j ≠ 0 → sc_ad (sc_ab f_rcd f_rp f_rfc f_cap f_anyAct f_anyRead f_anyWrite f_actNext f_nextSerial f_draining f_clock a_openRows a_ages a_lastAct a_lastRead a_lastWrite a_lastPre a_lastRef a_actTimes a_reqAddress a_reqLanes a_reqFetched a_reqPending a_reqSerial bo) j = sc_ad (sc_ab f_rcd f_rp f_rfc f_cap f_anyAct f_anyRead f_anyWrite f_actNext f_nextSerial f_draining f_clock a_openRows a_ages a_lastAct a_lastRead a_lastWrite a_lastPre a_lastRef a_actTimes a_reqAddress a_reqLanes a_reqFetched a_reqPending a_reqSerial bo) q → sc_se (sc_ab f_rcd f_rp f_rfc f_cap f_anyAct f_anyRead f_anyWrite f_actNext f_nextSerial f_draining f_clock a_openRows a_ages a_lastAct a_lastRead a_lastWrite a_lastPre a_lastRef a_actTimes a_reqAddress a_reqLanes a_reqFetched a_reqPending a_reqSerial bo) q ≤ sc_se (sc_ab f_rcd f_rp f_rfc f_cap f_anyAct f_anyRead f_anyWrite f_actNext f_nextSerial f_draining f_clock a_openRows a_ages a_lastAct a_lastRead a_lastWrite a_lastPre a_lastRef a_actTimes a_reqAddress a_reqLanes a_reqFetched a_reqPending a_reqSerial bo) j) → wX_eligible_30 post (nI q) f_rcd f_rp f_rfc f_cap f_refreshSoon f_refreshMust f_drainMark f_requests f_allLanes f_slotFree f_slotWaiting f_slotReady f_never f_anyAct f_anyRead f_anyWrite f_actNext f_nextSerial f_writeHead f_writeCount f_draining f_clock f_mode f_faults f_lost f_retiredReads a_cells a_openRows a_ages a_lastAct a_lastRead a_lastWrite a_lastPre a_lastRef a_actTimes a_reqAddress a_reqLanes a_reqData a_reqBase a_reqFetched a_reqPending a_reqBorn a_reqSerial a_slotStates n (nI (j + 1)) := by
        intro y
        refine xw_elig_l hq rg h1 h0 n (j + 1) lt (by omega) (fun o ho => ?_)
        by_cases x : o = j
        · subst x; exact y
        · exact hl o (by omega)
      refine br_f (nI_ge (b := 12) lt (by decide)) ⟨vj, br_c (fun z => ?_) (fun z => ⟨vj, vq, br_c (fun y => ⟨vj, vq, br_c (fun x => ?_) (fun x => ?_)⟩) (fun y => ?_)⟩)⟩
      · exact nm_r (nI_1 j) (go (fun k => absurd (pd.1.mp z) k))
      · exact nm_r (nI_1 j) (go (fun _ _ => (xb_lt_se (bo := bo) q j).mp x))
      · exact h0 (fun k => x ((xb_lt_se (bo := bo) q j).mpr (k j lt (fun k => z (pd.1.mpr k)) ((xb_ad_eq (bo := bo) j q).mp y))))
      · exact nm_r (nI_1 j) (go (fun _ k => absurd ((xb_ad_eq (bo := bo) j q).mpr k) y))
theorem xb_dr (rg : sc_Rg (sc_ab f_rcd f_rp f_rfc f_cap f_anyAct f_anyRead f_anyWrite f_actNext f_nextSerial f_draining f_clock a_openRows a_ages a_lastAct a_lastRead a_lastWrite a_lastPre a_lastRef a_actTimes a_reqAddress a_reqLanes a_reqFetched a_reqPending a_reqSerial bo)) : (f_draining = 0 ↔ sc_dr (sc_ab f_rcd f_rp f_rfc f_cap f_anyAct f_anyRead f_anyWrite f_actNext f_nextSerial f_draining f_clock a_openRows a_ages a_lastAct a_lastRead a_lastWrite a_lastPre a_lastRef a_actTimes a_reqAddress a_reqLanes a_reqFetched a_reqPending a_reqSerial bo) = 0) ∧ (f_draining = 0 ∨ f_draining = 1) := by
  have := rg.1.2.2.2.2
  rw [ab_dr] at this ⊢
  refine ⟨xb_0, ?_⟩
  rcases this with z | z
  · exact .inl (xb_0.mpr z)
  · exact .inr (xb_eq.mpr (by rw [z]; decide))
theorem xw_elig {post : Int32 → Prop} {q : Nat} (hq : q < 12) (rg : sc_Rg (sc_ab f_rcd f_rp f_rfc f_cap f_anyAct f_anyRead f_anyWrite f_actNext f_nextSerial f_draining f_clock a_openRows a_ages a_lastAct a_lastRead a_lastWrite a_lastPre a_lastRef a_actTimes a_reqAddress a_reqLanes a_reqFetched a_reqPending a_reqSerial bo)) (h1 : sc_el (sc_ab f_rcd f_rp f_rfc f_cap f_anyAct f_anyRead f_anyWrite f_actNext f_nextSerial f_draining f_clock a_openRows a_ages a_lastAct a_lastRead a_lastWrite a_lastPre a_lastRef a_actTimes a_reqAddress a_reqLanes a_reqFetched a_reqPending a_reqSerial bo) q → post 1) (h0 : ¬ sc_el (sc_ab f_rcd f_rp f_rfc f_cap f_anyAct f_anyRead f_anyWrite f_actNext f_nextSerial f_draining f_clock a_openRows a_ages a_lastAct a_lastRead a_lastWrite a_lastPre a_lastRef a_actTimes a_reqAddress a_reqLanes a_reqFetched a_reqPending a_reqSerial bo) q → post 0) : wpX_eligible post (f_rcd, f_rp, f_rfc, f_cap, f_refreshSoon, f_refreshMust, f_drainMark, f_requests, f_allLanes, f_slotFree, f_slotWaiting, f_slotReady, f_never, f_anyAct, f_anyRead, f_anyWrite, f_actNext, f_nextSerial, f_writeHead, f_writeCount, f_draining, f_clock, f_mode, f_faults, f_lost, f_retiredReads, a_cells, a_openRows, a_ages, a_lastAct, a_lastRead, a_lastWrite, a_lastPre, a_lastRef, a_actTimes, a_reqAddress, a_reqLanes, a_reqData, a_reqBase, a_reqFetched, a_reqPending, a_reqBorn, a_reqSerial, a_slotStates) (nI q) := by
  have eq : (nI q).toNatClampNeg = q := nI_clamp (by omega)
  have vq : vp_in (nI q) 12 := vp_in_nI hq (by omega)
  have pd := xb_pd rg hq
  have dr := xb_dr rg
  unfold wpX_eligible
  simp only [eq]
  refine ⟨vq, br_c (fun z => h0 (fun y => y.1 (pd.1.mp z))) (fun z => ?_)⟩
  have pq : sc_pd (sc_ab f_rcd f_rp f_rfc f_cap f_anyAct f_anyRead f_anyWrite f_actNext f_nextSerial f_draining f_clock a_openRows a_ages a_lastAct a_lastRead a_lastWrite a_lastPre a_lastRef a_actTimes a_reqAddress a_reqLanes a_reqFetched a_reqPending a_reqSerial bo) q ≠ 0 := fun y => z (pd.1.mpr y)
  by_cases l : q < 6
  · exact br_f (nI_ge (b := 6) l (by decide)) (h1 ⟨pq, .inl l⟩)
  · refine br_t (nI_le (a := 6) (by omega) (by omega)) (br_c (fun y => h0 (fun x => ?_)) (fun y => ⟨13, ?_⟩))
    · rcases x.2 with k | k
      · exact l k
      · exact k.1 (dr.1.mp y)
    · refine xw_elig_l hq rg (fun k => h1 ⟨pq, .inr ⟨fun x => y (dr.1.mpr x), k⟩⟩) (fun k => h0 (fun x => ?_)) 13 0 (by omega) (by omega) (fun o ho => by omega)
      rcases x.2 with m | m
      · exact l m
      · exact k m.2
theorem xw_roww_l {post : Int32 → Prop} {b : Nat} (hb : b < 8) (rg : sc_Rg (sc_ab f_rcd f_rp f_rfc f_cap f_anyAct f_anyRead f_anyWrite f_actNext f_nextSerial f_draining f_clock a_openRows a_ages a_lastAct a_lastRead a_lastWrite a_lastPre a_lastRef a_actTimes a_reqAddress a_reqLanes a_reqFetched a_reqPending a_reqSerial bo)) (h1 : sc_rw (sc_ab f_rcd f_rp f_rfc f_cap f_anyAct f_anyRead f_anyWrite f_actNext f_nextSerial f_draining f_clock a_openRows a_ages a_lastAct a_lastRead a_lastWrite a_lastPre a_lastRef a_actTimes a_reqAddress a_reqLanes a_reqFetched a_reqPending a_reqSerial bo) b → post 1) (h0 : ¬ sc_rw (sc_ab f_rcd f_rp f_rfc f_cap f_anyAct f_anyRead f_anyWrite f_actNext f_nextSerial f_draining f_clock a_openRows a_ages a_lastAct a_lastRead a_lastWrite a_lastPre a_lastRef a_actTimes a_reqAddress a_reqLanes a_reqFetched a_reqPending a_reqSerial bo) b → post 0) :
    ∀ n j, j ≤ 12 → 12 - j < n → (∀ q, q < j → ¬ (sc_el (sc_ab f_rcd f_rp f_rfc f_cap f_anyAct f_anyRead f_anyWrite f_actNext f_nextSerial f_draining f_clock a_openRows a_ages a_lastAct a_lastRead a_lastWrite a_lastPre a_lastRef a_actTimes a_reqAddress a_reqLanes a_reqFetched a_reqPending a_reqSerial bo) q ∧ sc_bk (sc_ab f_rcd f_rp f_rfc f_cap f_anyAct f_anyRead f_anyWrite f_actNext f_nextSerial f_draining f_clock a_openRows a_ages a_lastAct a_lastRead a_lastWrite a_lastPre a_lastRef a_actTimes a_reqAddress a_reqLanes a_reqFetched a_reqPending a_reqSerial bo) q = b ∧ sc_ro (sc_ab f_rcd f_rp f_rfc f_cap f_anyAct f_anyRead f_anyWrite f_actNext f_nextSerial f_draining f_clock a_openRows a_ages a_lastAct a_lastRead a_lastWrite a_lastPre a_lastRef a_actTimes a_reqAddress a_reqLanes a_reqFetched a_reqPending a_reqSerial bo) q = sc_op (sc_ab f_rcd f_rp f_rfc f_cap f_anyAct f_anyRead f_anyWrite f_actNext f_nextSerial f_draining f_clock a_openRows a_ages a_lastAct a_lastRead a_lastWrite a_lastPre a_lastRef a_actTimes a_reqAddress a_reqLanes a_reqFetched a_reqPending a_reqSerial bo) b)) → wX_openRowWanted_2 post (nI b) f_rcd f_rp f_rfc f_cap f_refreshSoon f_refreshMust f_drainMark f_requests f_allLanes f_slotFree f_slotWaiting f_slotReady f_never f_anyAct f_anyRead f_anyWrite f_actNext f_nextSerial f_writeHead f_writeCount f_draining f_clock f_mode f_faults f_lost f_retiredReads a_cells a_openRows a_ages a_lastAct a_lastRead a_lastWrite a_lastPre a_lastRef a_actTimes a_reqAddress a_reqLanes a_reqData a_reqBase a_reqFetched a_reqPending a_reqBorn a_reqSerial a_slotStates n (nI j)
  | 0, j, _, hn, _ => by omega
  | n + 1, j, hj, hn, hl => by
    unfold wX_openRowWanted_2
    by_cases e : j = 12
    · subst e
      refine br_t (by decide) (h0 ?_)
      rintro ⟨q, hq, k⟩
      exact hl q hq k
    · have lt : j < 12 := by omega
      have ej : (nI j).toNatClampNeg = j := nI_clamp (by omega)
      have ebb : (nI b).toNatClampNeg = b := nI_clamp (by omega)
      have vj : vp_in (nI j) 12 := vp_in_nI lt (by omega)
      have vb : vp_in (nI b) 8 := vp_in_nI hb (by omega)
      have pd := xb_pd rg lt
      have ad := (rg.2.2.2 j lt).2.2
      have a0 : 0 ≤ (a_reqAddress j).toInt := by rw [← ab_ad (bo := bo)]; exact ad.1
      have a1 : (a_reqAddress j).toInt < 256 := by rw [← ab_ad (bo := bo)]; exact ad.2.1
      have lb : sc_bk (sc_ab f_rcd f_rp f_rfc f_cap f_anyAct f_anyRead f_anyWrite f_actNext f_nextSerial f_draining f_clock a_openRows a_ages a_lastAct a_lastRead a_lastWrite a_lastPre a_lastRef a_actTimes a_reqAddress a_reqLanes a_reqFetched a_reqPending a_reqSerial bo) j < 8 := sc_bA_lt _
      have be : sc_bA (a_reqAddress j).toInt = sc_bk (sc_ab f_rcd f_rp f_rfc f_cap f_anyAct f_anyRead f_anyWrite f_actNext f_nextSerial f_draining f_clock a_openRows a_ages a_lastAct a_lastRead a_lastWrite a_lastPre a_lastRef a_actTimes a_reqAddress a_reqLanes a_reqFetched a_reqPending a_reqSerial bo) j := rfl
      simp only [ej, ebb]
      have go : ¬ (sc_el (sc_ab f_rcd f_rp f_rfc f_cap f_anyAct f_anyRead f_anyWrite f_actNext f_nextSerial f_draining f_clock a_openRows a_ages a_lastAct a_lastRead a_lastWrite a_lastPre a_lastRef a_actTimes a_reqAddress a_reqLanes a_reqFetched a_reqPending a_reqSerial bo) j ∧ sc_bk (sc_ab f_rcd f_rp f_rfc f_cap f_anyAct f_anyRead f_anyWrite f_actNext f_nextSerial f_draining f_clock a_openRows a_ages a_lastAct a_lastRead a_lastWrite a_lastPre a_lastRef a_actTimes a_reqAddress a_reqLanes a_reqFetched a_reqPending a_reqSerial bo) j = b ∧ sc_ro (sc_ab f_rcd f_rp f_rfc f_cap f_anyAct f_anyRead f_anyWrite f_actNext f_nextSerial f_draining f_clock a_openRows a_ages a_lastAct a_lastRead a_lastWrite a_lastPre a_lastRef a_actTimes a_reqAddress a_reqLanes a_reqFetched a_reqPending a_reqSerial bo) j = sc_op (sc_ab f_rcd f_rp f_rfc f_cap f_anyAct f_anyRead f_anyWrite f_actNext f_nextSerial f_draining f_clock a_openRows a_ages a_lastAct a_lastRead a_lastWrite a_lastPre a_lastRef a_actTimes a_reqAddress a_reqLanes a_reqFetched a_reqPending a_reqSerial bo) b) → wX_openRowWanted_2 post (nI b) f_rcd f_rp f_rfc f_cap f_refreshSoon f_refreshMust f_drainMark f_requests f_allLanes f_slotFree f_slotWaiting f_slotReady f_never f_anyAct f_anyRead f_anyWrite f_actNext f_nextSerial f_writeHead f_writeCount f_draining f_clock f_mode f_faults f_lost f_retiredReads a_cells a_openRows a_ages a_lastAct a_lastRead a_lastWrite a_lastPre a_lastRef a_actTimes a_reqAddress a_reqLanes a_reqData a_reqBase a_reqFetched a_reqPending a_reqBorn a_reqSerial a_slotStates n (nI (j + 1)) := by
        intro y
        refine xw_roww_l hb rg h1 h0 n (j + 1) lt (by omega) (fun o ho => ?_)
        by_cases x : o = j
        · subst x; exact y
        · exact hl o (by omega)
      refine br_f (nI_ge (b := 12) lt (by decide)) ⟨vj, br_c (fun z => ?_) (fun z => ⟨vj, xw_bank a0 a1 ?_⟩)⟩
      · exact nm_r (nI_1 j) (go (fun k => k.1.1 (pd.1.mp z)))
      · rw [be]
        refine br_c (fun y => ⟨vj, xw_row a0 a1 ⟨vb, ?_⟩⟩) (fun y => ?_)
        · rw [nI_eq (by omega) (by omega)] at y
          have re := xb_ro_eq (q := j) rg hb
          refine br_c (fun x => ?_) (fun x => ?_)
          · have x' := re.mp x.symm
            refine xw_elig lt rg (fun k => ?_) (fun k => ?_)
            · exact br_f (by decide) (h1 ⟨j, lt, k, y, x'.symm⟩)
            · exact br_t (by decide) (nm_r (nI_1 j) (go (fun m => k m.1)))
          · exact nm_r (nI_1 j) (go (fun m => x (re.mpr m.2.2.symm).symm))
        · rw [nI_eq (by omega) (by omega)] at y
          exact nm_r (nI_1 j) (go (fun m => y m.2.1))
theorem xw_roww {post : Int32 → Prop} {b : Nat} (hb : b < 8) (rg : sc_Rg (sc_ab f_rcd f_rp f_rfc f_cap f_anyAct f_anyRead f_anyWrite f_actNext f_nextSerial f_draining f_clock a_openRows a_ages a_lastAct a_lastRead a_lastWrite a_lastPre a_lastRef a_actTimes a_reqAddress a_reqLanes a_reqFetched a_reqPending a_reqSerial bo)) (h1 : sc_rw (sc_ab f_rcd f_rp f_rfc f_cap f_anyAct f_anyRead f_anyWrite f_actNext f_nextSerial f_draining f_clock a_openRows a_ages a_lastAct a_lastRead a_lastWrite a_lastPre a_lastRef a_actTimes a_reqAddress a_reqLanes a_reqFetched a_reqPending a_reqSerial bo) b → post 1) (h0 : ¬ sc_rw (sc_ab f_rcd f_rp f_rfc f_cap f_anyAct f_anyRead f_anyWrite f_actNext f_nextSerial f_draining f_clock a_openRows a_ages a_lastAct a_lastRead a_lastWrite a_lastPre a_lastRef a_actTimes a_reqAddress a_reqLanes a_reqFetched a_reqPending a_reqSerial bo) b → post 0) : wpX_openRowWanted post (f_rcd, f_rp, f_rfc, f_cap, f_refreshSoon, f_refreshMust, f_drainMark, f_requests, f_allLanes, f_slotFree, f_slotWaiting, f_slotReady, f_never, f_anyAct, f_anyRead, f_anyWrite, f_actNext, f_nextSerial, f_writeHead, f_writeCount, f_draining, f_clock, f_mode, f_faults, f_lost, f_retiredReads, a_cells, a_openRows, a_ages, a_lastAct, a_lastRead, a_lastWrite, a_lastPre, a_lastRef, a_actTimes, a_reqAddress, a_reqLanes, a_reqData, a_reqBase, a_reqFetched, a_reqPending, a_reqBorn, a_reqSerial, a_slotStates) (nI b) :=
  ⟨13, xw_roww_l hb rg h1 h0 13 0 (by omega) (by omega) (fun q hq => by omega)⟩
end
end
section
section
variable {f_rcd f_rp f_rfc f_cap f_refreshSoon f_refreshMust f_drainMark f_requests f_allLanes f_slotFree f_slotWaiting f_slotReady f_actNext f_writeHead f_writeCount f_draining f_mode f_faults f_lost f_retiredReads : Int32} {f_never f_anyAct f_anyRead f_anyWrite f_nextSerial f_clock : Int64} {a_cells a_openRows a_ages a_reqAddress a_reqLanes a_reqData a_reqBase a_reqFetched a_reqPending a_slotStates : (Nat → Int32)} {a_lastAct a_lastRead a_lastWrite a_lastPre a_lastRef a_actTimes a_reqBorn a_reqSerial : (Nat → Int64)}
variable {bo : Nat → Int}
theorem xw_old_l {post : Int32 → Prop} (rg : sc_Rg (sc_ab f_rcd f_rp f_rfc f_cap f_anyAct f_anyRead f_anyWrite f_actNext f_nextSerial f_draining f_clock a_openRows a_ages a_lastAct a_lastRead a_lastWrite a_lastPre a_lastRef a_actTimes a_reqAddress a_reqLanes a_reqFetched a_reqPending a_reqSerial bo)) (h0 : (∀ q, q < 12 → sc_pd (sc_ab f_rcd f_rp f_rfc f_cap f_anyAct f_anyRead f_anyWrite f_actNext f_nextSerial f_draining f_clock a_openRows a_ages a_lastAct a_lastRead a_lastWrite a_lastPre a_lastRef a_actTimes a_reqAddress a_reqLanes a_reqFetched a_reqPending a_reqSerial bo) q = 0) → post (-1))
    (h1 : ∀ m, m < 12 → sc_pd (sc_ab f_rcd f_rp f_rfc f_cap f_anyAct f_anyRead f_anyWrite f_actNext f_nextSerial f_draining f_clock a_openRows a_ages a_lastAct a_lastRead a_lastWrite a_lastPre a_lastRef a_actTimes a_reqAddress a_reqLanes a_reqFetched a_reqPending a_reqSerial bo) m ≠ 0 → (∀ q, q < 12 → sc_pd (sc_ab f_rcd f_rp f_rfc f_cap f_anyAct f_anyRead f_anyWrite f_actNext f_nextSerial f_draining f_clock a_openRows a_ages a_lastAct a_lastRead a_lastWrite a_lastPre a_lastRef a_actTimes a_reqAddress a_reqLanes a_reqFetched a_reqPending a_reqSerial bo) q ≠ 0 → sc_se (sc_ab f_rcd f_rp f_rfc f_cap f_anyAct f_anyRead f_anyWrite f_actNext f_nextSerial f_draining f_clock a_openRows a_ages a_lastAct a_lastRead a_lastWrite a_lastPre a_lastRef a_actTimes a_reqAddress a_reqLanes a_reqFetched a_reqPending a_reqSerial bo) m ≤ sc_se (sc_ab f_rcd f_rp f_rfc f_cap f_anyAct f_anyRead f_anyWrite f_actNext f_nextSerial f_draining f_clock a_openRows a_ages a_lastAct a_lastRead a_lastWrite a_lastPre a_lastRef a_actTimes a_reqAddress a_reqLanes a_reqFetched a_reqPending a_reqSerial bo) q) → post (nI m)) :
    ∀ n j best, j ≤ 12 → 12 - j < n → ((best = -1 ∧ ∀ q, q < j → sc_pd (sc_ab f_rcd f_rp f_rfc f_cap f_anyAct f_anyRead f_anyWrite f_actNext f_nextSerial f_draining f_clock a_openRows a_ages a_lastAct a_lastRead a_lastWrite a_lastPre a_lastRef a_actTimes a_reqAddress a_reqLanes a_reqFetched a_reqPending a_reqSerial bo) q = 0) ∨ (∃ m, best = nI m ∧ m < j ∧ sc_pd (sc_ab f_rcd f_rp f_rfc f_cap f_anyAct f_anyRead f_anyWrite f_actNext f_nextSerial f_draining f_clock a_openRows a_ages a_lastAct a_lastRead a_lastWrite a_lastPre a_lastRef a_actTimes a_reqAddress a_reqLanes a_reqFetched a_reqPending a_reqSerial bo) m ≠ 0 ∧ ∀ q, q < j → sc_pd (sc_ab f_rcd f_rp f_rfc f_cap f_anyAct f_anyRead f_anyWrite f_actNext f_nextSerial f_draining f_clock a_openRows a_ages a_lastAct a_lastRead a_lastWrite a_lastPre a_lastRef a_actTimes a_reqAddress a_reqLanes a_reqFetched a_reqPending a_reqSerial bo) q ≠ 0 → sc_se (sc_ab f_rcd f_rp f_rfc f_cap f_anyAct f_anyRead f_anyWrite f_actNext f_nextSerial f_draining f_clock a_openRows a_ages a_lastAct a_lastRead a_lastWrite a_lastPre a_lastRef a_actTimes a_reqAddress a_reqLanes a_reqFetched a_reqPending a_reqSerial bo) m ≤ sc_se (sc_ab f_rcd f_rp f_rfc f_cap f_anyAct f_anyRead f_anyWrite f_actNext f_nextSerial f_draining f_clock a_openRows a_ages a_lastAct a_lastRead a_lastWrite a_lastPre a_lastRef a_actTimes a_reqAddress a_reqLanes a_reqFetched a_reqPending a_reqSerial bo) q)) →
    wX_oldestPending_4 post f_rcd f_rp f_rfc f_cap f_refreshSoon f_refreshMust f_drainMark f_requests f_allLanes f_slotFree f_slotWaiting f_slotReady f_never f_anyAct f_anyRead f_anyWrite f_actNext f_nextSerial f_writeHead f_writeCount f_draining f_clock f_mode f_faults f_lost f_retiredReads a_cells a_openRows a_ages a_lastAct a_lastRead a_lastWrite a_lastPre a_lastRef a_actTimes a_reqAddress a_reqLanes a_reqData a_reqBase a_reqFetched a_reqPending a_reqBorn a_reqSerial a_slotStates n best (nI j)
  | 0, j, _, _, hn, _ => by omega
  | n + 1, j, best, hj, hn, hl => by
    unfold wX_oldestPending_4
    by_cases e : j = 12
    · subst e
      refine br_t (by decide) ?_
      rcases hl with ⟨rfl, a⟩ | ⟨m, rfl, l, p, a⟩
      · exact h0 a
      · exact h1 m l p a
    · have lt : j < 12 := by omega
      have ej : (nI j).toNatClampNeg = j := nI_clamp (by omega)
      have vj : vp_in (nI j) 12 := vp_in_nI lt (by omega)
      have pd := xb_pd rg lt
      simp only [ej]
      refine br_f (nI_ge (b := 12) lt (by decide)) ⟨vj, br_c (fun z => ?_) (fun z => ?_)⟩
      · refine nm_r (nI_1 j) (xw_old_l rg h0 h1 n (j + 1) best lt (by omega) ?_)
        rcases hl with ⟨r, a⟩ | ⟨m, r, l, p, a⟩
        · refine .inl ⟨r, fun q hq => ?_⟩
          by_cases x : q = j
          · rw [x]; exact pd.1.mp z
          · exact a q (by omega)
        · refine .inr ⟨m, r, by omega, p, fun q hq pq => ?_⟩
          by_cases x : q = j
          · rw [x] at pq; exact absurd (pd.1.mp z) pq
          · exact a q (by omega) pq
      · have pj : sc_pd (sc_ab f_rcd f_rp f_rfc f_cap f_anyAct f_anyRead f_anyWrite f_actNext f_nextSerial f_draining f_clock a_openRows a_ages a_lastAct a_lastRead a_lastWrite a_lastPre a_lastRef a_actTimes a_reqAddress a_reqLanes a_reqFetched a_reqPending a_reqSerial bo) j ≠ 0 := fun y => z (pd.1.mpr y)
        rcases hl with ⟨r, a⟩ | ⟨m, r, l, p, a⟩
        · subst r
          refine br_t (by decide) (nm_r (nI_1 j) (xw_old_l rg h0 h1 n (j + 1) (nI j) lt (by omega) (.inr ⟨j, rfl, by omega, pj, fun q hq pq => ?_⟩)))
          by_cases x : q = j
          · rw [x]; omega
          · exact absurd (a q (by omega)) pq
        · subst r
          have em : (nI m).toNatClampNeg = m := nI_clamp (by omega)
          simp only [em]
          refine br_f (nI_pos (by omega)) ⟨vj, vp_in_nI (by omega) (by omega), br_c (fun y => ?_) (fun y => ?_)⟩
          · have y' : sc_se (sc_ab f_rcd f_rp f_rfc f_cap f_anyAct f_anyRead f_anyWrite f_actNext f_nextSerial f_draining f_clock a_openRows a_ages a_lastAct a_lastRead a_lastWrite a_lastPre a_lastRef a_actTimes a_reqAddress a_reqLanes a_reqFetched a_reqPending a_reqSerial bo) m ≤ sc_se (sc_ab f_rcd f_rp f_rfc f_cap f_anyAct f_anyRead f_anyWrite f_actNext f_nextSerial f_draining f_clock a_openRows a_ages a_lastAct a_lastRead a_lastWrite a_lastPre a_lastRef a_actTimes a_reqAddress a_reqLanes a_reqFetched a_reqPending a_reqSerial bo) j := (xb_lt_se (bo := bo) m j).mp y
            refine nm_r (nI_1 j) (xw_old_l rg h0 h1 n (j + 1) (nI m) lt (by omega) (.inr ⟨m, rfl, by omega, p, fun q hq pq => ?_⟩))
            by_cases x : q = j
            · rw [x]; exact y'
            · exact a q (by omega) pq
          · have y' : ¬ sc_se (sc_ab f_rcd f_rp f_rfc f_cap f_anyAct f_anyRead f_anyWrite f_actNext f_nextSerial f_draining f_clock a_openRows a_ages a_lastAct a_lastRead a_lastWrite a_lastPre a_lastRef a_actTimes a_reqAddress a_reqLanes a_reqFetched a_reqPending a_reqSerial bo) m ≤ sc_se (sc_ab f_rcd f_rp f_rfc f_cap f_anyAct f_anyRead f_anyWrite f_actNext f_nextSerial f_draining f_clock a_openRows a_ages a_lastAct a_lastRead a_lastWrite a_lastPre a_lastRef a_actTimes a_reqAddress a_reqLanes a_reqFetched a_reqPending a_reqSerial bo) j := fun k => y ((xb_lt_se (bo := bo) m j).mpr k)
            refine nm_r (nI_1 j) (xw_old_l rg h0 h1 n (j + 1) (nI j) lt (by omega) (.inr ⟨j, rfl, by omega, pj, fun q hq pq => ?_⟩))
            by_cases x : q = j
            · rw [x]; omega
            · have := a q (by omega) pq; omega
theorem xw_oldest {post : Int32 → Prop} (rg : sc_Rg (sc_ab f_rcd f_rp f_rfc f_cap f_anyAct f_anyRead f_anyWrite f_actNext f_nextSerial f_draining f_clock a_openRows a_ages a_lastAct a_lastRead a_lastWrite a_lastPre a_lastRef a_actTimes a_reqAddress a_reqLanes a_reqFetched a_reqPending a_reqSerial bo)) (h0 : (∀ q, q < 12 → sc_pd (sc_ab f_rcd f_rp f_rfc f_cap f_anyAct f_anyRead f_anyWrite f_actNext f_nextSerial f_draining f_clock a_openRows a_ages a_lastAct a_lastRead a_lastWrite a_lastPre a_lastRef a_actTimes a_reqAddress a_reqLanes a_reqFetched a_reqPending a_reqSerial bo) q = 0) → post (-1))
    (h1 : ∀ m, m < 12 → sc_pd (sc_ab f_rcd f_rp f_rfc f_cap f_anyAct f_anyRead f_anyWrite f_actNext f_nextSerial f_draining f_clock a_openRows a_ages a_lastAct a_lastRead a_lastWrite a_lastPre a_lastRef a_actTimes a_reqAddress a_reqLanes a_reqFetched a_reqPending a_reqSerial bo) m ≠ 0 → (∀ q, q < 12 → sc_pd (sc_ab f_rcd f_rp f_rfc f_cap f_anyAct f_anyRead f_anyWrite f_actNext f_nextSerial f_draining f_clock a_openRows a_ages a_lastAct a_lastRead a_lastWrite a_lastPre a_lastRef a_actTimes a_reqAddress a_reqLanes a_reqFetched a_reqPending a_reqSerial bo) q ≠ 0 → sc_se (sc_ab f_rcd f_rp f_rfc f_cap f_anyAct f_anyRead f_anyWrite f_actNext f_nextSerial f_draining f_clock a_openRows a_ages a_lastAct a_lastRead a_lastWrite a_lastPre a_lastRef a_actTimes a_reqAddress a_reqLanes a_reqFetched a_reqPending a_reqSerial bo) m ≤ sc_se (sc_ab f_rcd f_rp f_rfc f_cap f_anyAct f_anyRead f_anyWrite f_actNext f_nextSerial f_draining f_clock a_openRows a_ages a_lastAct a_lastRead a_lastWrite a_lastPre a_lastRef a_actTimes a_reqAddress a_reqLanes a_reqFetched a_reqPending a_reqSerial bo) q) → post (nI m)) : wpX_oldestPending post (f_rcd, f_rp, f_rfc, f_cap, f_refreshSoon, f_refreshMust, f_drainMark, f_requests, f_allLanes, f_slotFree, f_slotWaiting, f_slotReady, f_never, f_anyAct, f_anyRead, f_anyWrite, f_actNext, f_nextSerial, f_writeHead, f_writeCount, f_draining, f_clock, f_mode, f_faults, f_lost, f_retiredReads, a_cells, a_openRows, a_ages, a_lastAct, a_lastRead, a_lastWrite, a_lastPre, a_lastRef, a_actTimes, a_reqAddress, a_reqLanes, a_reqData, a_reqBase, a_reqFetched, a_reqPending, a_reqBorn, a_reqSerial, a_slotStates) :=
  ⟨13, xw_old_l rg h0 h1 13 0 (-1) (by omega) (by omega) (.inl ⟨rfl, fun q hq => by omega⟩)⟩
theorem xw_gallow {post : Int32 → Prop} {k q g : Nat} (hk : k < 4) (hq : q < 12) (hg : g < 12) (rg : sc_Rg (sc_ab f_rcd f_rp f_rfc f_cap f_anyAct f_anyRead f_anyWrite f_actNext f_nextSerial f_draining f_clock a_openRows a_ages a_lastAct a_lastRead a_lastWrite a_lastPre a_lastRef a_actTimes a_reqAddress a_reqLanes a_reqFetched a_reqPending a_reqSerial bo)) (h1 : sc_ga (sc_ab f_rcd f_rp f_rfc f_cap f_anyAct f_anyRead f_anyWrite f_actNext f_nextSerial f_draining f_clock a_openRows a_ages a_lastAct a_lastRead a_lastWrite a_lastPre a_lastRef a_actTimes a_reqAddress a_reqLanes a_reqFetched a_reqPending a_reqSerial bo) k q g → post 1) (h0 : ¬ sc_ga (sc_ab f_rcd f_rp f_rfc f_cap f_anyAct f_anyRead f_anyWrite f_actNext f_nextSerial f_draining f_clock a_openRows a_ages a_lastAct a_lastRead a_lastWrite a_lastPre a_lastRef a_actTimes a_reqAddress a_reqLanes a_reqFetched a_reqPending a_reqSerial bo) k q g → post 0) : wpX_guardAllows post (f_rcd, f_rp, f_rfc, f_cap, f_refreshSoon, f_refreshMust, f_drainMark, f_requests, f_allLanes, f_slotFree, f_slotWaiting, f_slotReady, f_never, f_anyAct, f_anyRead, f_anyWrite, f_actNext, f_nextSerial, f_writeHead, f_writeCount, f_draining, f_clock, f_mode, f_faults, f_lost, f_retiredReads, a_cells, a_openRows, a_ages, a_lastAct, a_lastRead, a_lastWrite, a_lastPre, a_lastRef, a_actTimes, a_reqAddress, a_reqLanes, a_reqData, a_reqBase, a_reqFetched, a_reqPending, a_reqBorn, a_reqSerial, a_slotStates) (nI k) (nI q) (nI g) := by
  have eq : (nI q).toNatClampNeg = q := nI_clamp (by omega)
  have eg : (nI g).toNatClampNeg = g := nI_clamp (by omega)
  have vq : vp_in (nI q) 12 := vp_in_nI hq (by omega)
  have vg : vp_in (nI g) 12 := vp_in_nI hg (by omega)
  have aq := (rg.2.2.2 q hq).2.2
  have ag := (rg.2.2.2 g hg).2.2
  have lq : sc_bk (sc_ab f_rcd f_rp f_rfc f_cap f_anyAct f_anyRead f_anyWrite f_actNext f_nextSerial f_draining f_clock a_openRows a_ages a_lastAct a_lastRead a_lastWrite a_lastPre a_lastRef a_actTimes a_reqAddress a_reqLanes a_reqFetched a_reqPending a_reqSerial bo) q < 8 := sc_bA_lt _
  have lg : sc_bk (sc_ab f_rcd f_rp f_rfc f_cap f_anyAct f_anyRead f_anyWrite f_actNext f_nextSerial f_draining f_clock a_openRows a_ages a_lastAct a_lastRead a_lastWrite a_lastPre a_lastRef a_actTimes a_reqAddress a_reqLanes a_reqFetched a_reqPending a_reqSerial bo) g < 8 := sc_bA_lt _
  have eqb : sc_bA (a_reqAddress q).toInt = sc_bk (sc_ab f_rcd f_rp f_rfc f_cap f_anyAct f_anyRead f_anyWrite f_actNext f_nextSerial f_draining f_clock a_openRows a_ages a_lastAct a_lastRead a_lastWrite a_lastPre a_lastRef a_actTimes a_reqAddress a_reqLanes a_reqFetched a_reqPending a_reqSerial bo) q := rfl
  have egb : sc_bA (a_reqAddress g).toInt = sc_bk (sc_ab f_rcd f_rp f_rfc f_cap f_anyAct f_anyRead f_anyWrite f_actNext f_nextSerial f_draining f_clock a_openRows a_ages a_lastAct a_lastRead a_lastWrite a_lastPre a_lastRef a_actTimes a_reqAddress a_reqLanes a_reqFetched a_reqPending a_reqSerial bo) g := rfl
  unfold wpX_guardAllows
  simp only [eq, eg]
  refine br_t (nI_pos' (by omega)) ⟨vq, xw_bank (by rw [← ab_ad (bo := bo)]; exact aq.1) (by rw [← ab_ad (bo := bo)]; exact aq.2.1) ⟨vg, xw_bank (by rw [← ab_ad (bo := bo)]; exact ag.1) (by rw [← ab_ad (bo := bo)]; exact ag.2.1) ?_⟩⟩
  rw [eqb, egb, nI_eq (by omega) (by omega)]
  refine br_c (fun z => h0 (fun y => y.1 z)) (fun z => ?_)
  have : k = 0 ∨ k = 1 ∨ k = 2 ∨ k = 3 := by omega
  by_cases k3 : k = 3
  · subst k3
    exact br_t (by decide) (h1 ⟨z, .inl rfl⟩)
  · refine br_f (by rw [show (3 : Int32) = nI 3 by decide, nI_eq (by omega) (by omega)]; exact k3) (xw_kind hg rg ?_)
    unfold wX_guardAllows_57 wX_guardAllows_62
    rcases sc_kd_in (sc_ab f_rcd f_rp f_rfc f_cap f_anyAct f_anyRead f_anyWrite f_actNext f_nextSerial f_draining f_clock a_openRows a_ages a_lastAct a_lastRead a_lastWrite a_lastPre a_lastRef a_actTimes a_reqAddress a_reqLanes a_reqFetched a_reqPending a_reqSerial bo) g with d | d | d | d
    · rw [d]
      refine br_f (by decide) (br_f (by decide) ?_)
      by_cases k0 : k = 0
      · subst k0
        exact br_t (by decide) ⟨rfl, h0 (fun y => by have := y.2; omega)⟩
      · exact br_f (by rw [show (0 : Int32) = nI 0 by decide, nI_eq (by omega) (by omega)]; exact k0) (br_t rfl (h1 ⟨z, .inr (.inr ⟨by omega, .inl d⟩)⟩))
    · rw [d]
      refine br_t (by decide) ?_
      by_cases k0 : k = 0
      · subst k0
        exact br_t (by decide) ⟨rfl, h1 ⟨z, .inr (.inl ⟨rfl, .inl d⟩)⟩⟩
      · exact br_f (by rw [show (0 : Int32) = nI 0 by decide, nI_eq (by omega) (by omega)]; exact k0) (br_f (by decide) (h0 (fun y => by have := y.2; omega)))
    · rw [d]
      refine br_f (by decide) (br_t (by decide) ?_)
      by_cases k0 : k = 0
      · subst k0
        exact br_t (by decide) ⟨rfl, h1 ⟨z, .inr (.inl ⟨rfl, .inr d⟩)⟩⟩
      · exact br_f (by rw [show (0 : Int32) = nI 0 by decide, nI_eq (by omega) (by omega)]; exact k0) (br_f (by decide) (h0 (fun y => by have := y.2; omega)))
    · rw [d]
      refine br_f (by decide) (br_f (by decide) ?_)
      by_cases k0 : k = 0
      · subst k0
        exact br_t (by decide) ⟨rfl, h0 (fun y => by have := y.2; omega)⟩
      · exact br_f (by rw [show (0 : Int32) = nI 0 by decide, nI_eq (by omega) (by omega)]; exact k0) (br_t rfl (h1 ⟨z, .inr (.inr ⟨by omega, .inr d⟩)⟩))
theorem xw_better {post : Int32 → Prop} {q : Nat} {best : Int32} (hq : q < 12) (hb : best = -1 ∨ ∃ m, m < 12 ∧ best = nI m) (h1 : post 1) (h0 : post 0) : wpX_isBetter post (f_rcd, f_rp, f_rfc, f_cap, f_refreshSoon, f_refreshMust, f_drainMark, f_requests, f_allLanes, f_slotFree, f_slotWaiting, f_slotReady, f_never, f_anyAct, f_anyRead, f_anyWrite, f_actNext, f_nextSerial, f_writeHead, f_writeCount, f_draining, f_clock, f_mode, f_faults, f_lost, f_retiredReads, a_cells, a_openRows, a_ages, a_lastAct, a_lastRead, a_lastWrite, a_lastPre, a_lastRef, a_actTimes, a_reqAddress, a_reqLanes, a_reqData, a_reqBase, a_reqFetched, a_reqPending, a_reqBorn, a_reqSerial, a_slotStates) (nI q) best := by
  unfold wpX_isBetter
  rcases hb with rfl | ⟨m, hm, rfl⟩
  · exact br_f (by decide) h1
  · have vq : vp_in (nI q) 12 := vp_in_nI hq (by omega)
    have vm : vp_in (nI m) 12 := vp_in_nI hm (by omega)
    have fin : ∀ x3 z0 : Int32, (x3 = 0 ∨ x3 = 1) → wX_isBetter_53 post (nI q) (nI m) x3 z0 f_rcd f_rp f_rfc f_cap f_refreshSoon f_refreshMust f_drainMark f_requests f_allLanes f_slotFree f_slotWaiting f_slotReady f_never f_anyAct f_anyRead f_anyWrite f_actNext f_nextSerial f_writeHead f_writeCount f_draining f_clock f_mode f_faults f_lost f_retiredReads a_cells a_openRows a_ages a_lastAct a_lastRead a_lastWrite a_lastPre a_lastRef a_actTimes a_reqAddress a_reqLanes a_reqData a_reqBase a_reqFetched a_reqPending a_reqBorn a_reqSerial a_slotStates := by
      intro x3 z0 hx
      unfold wX_isBetter_53
      refine br_c (fun _ => ⟨vq, vm, br_c (fun _ => h0) (fun _ => h1)⟩) (fun _ => ⟨xb_bool hx, ?_⟩)
      rcases hx with rfl | rfl
      · exact h0
      · exact h1
    have f29 : ∀ z0 : Int32, (z0 = 0 ∨ z0 = 1) → wX_isBetter_29 post (nI q) (nI m) z0 f_rcd f_rp f_rfc f_cap f_refreshSoon f_refreshMust f_drainMark f_requests f_allLanes f_slotFree f_slotWaiting f_slotReady f_never f_anyAct f_anyRead f_anyWrite f_actNext f_nextSerial f_writeHead f_writeCount f_draining f_clock f_mode f_faults f_lost f_retiredReads a_cells a_openRows a_ages a_lastAct a_lastRead a_lastWrite a_lastPre a_lastRef a_actTimes a_reqAddress a_reqLanes a_reqData a_reqBase a_reqFetched a_reqPending a_reqBorn a_reqSerial a_slotStates := by
      intro z0 hz
      unfold wX_isBetter_29 wX_isBetter_41
      exact br_c (fun _ => br_c (fun _ => fin _ _ hz) (fun _ => fin _ _ hz)) (fun _ => br_c (fun _ => fin _ _ hz) (fun _ => fin _ _ hz))
    unfold wX_isBetter_17
    exact br_t (nI_pos' (by omega)) (br_c (fun _ => br_c (fun _ => f29 _ (.inl rfl)) (fun _ => f29 _ (.inr rfl))) (fun _ => br_c (fun _ => f29 _ (.inl rfl)) (fun _ => f29 _ (.inr rfl))))
/-- what a chosen request fulfils -/
def sc_ok (s : sc_S) (gp : Int32) (q : Nat) : Prop := q < 12 ∧ sc_el s q ∧ sc_age s (sc_bk s q) < 448 ∧ sc_P s (sc_kd s q) (sc_bk s q) ∧ (∀ g, g < 12 → gp = nI g → sc_ga s (sc_kd s q) q g) ∧ (sc_kd s q = 3 → ¬ sc_rw s (sc_bk s q))
theorem xw_best_l {post : Int32 → Prop} {gp c : Int32} (w : sc_W (sc_ab f_rcd f_rp f_rfc f_cap f_anyAct f_anyRead f_anyWrite f_actNext f_nextSerial f_draining f_clock a_openRows a_ages a_lastAct a_lastRead a_lastWrite a_lastPre a_lastRef a_actTimes a_reqAddress a_reqLanes a_reqFetched a_reqPending a_reqSerial bo)) (rg : sc_Rg (sc_ab f_rcd f_rp f_rfc f_cap f_anyAct f_anyRead f_anyWrite f_actNext f_nextSerial f_draining f_clock a_openRows a_ages a_lastAct a_lastRead a_lastWrite a_lastPre a_lastRef a_actTimes a_reqAddress a_reqLanes a_reqFetched a_reqPending a_reqSerial bo)) (an : vp_in f_actNext 4) (hgp : gp = -1 ∨ ∃ g, g < 12 ∧ gp = nI g) (hn : post (-1)) (hs : ∀ q, sc_ok (sc_ab f_rcd f_rp f_rfc f_cap f_anyAct f_anyRead f_anyWrite f_actNext f_nextSerial f_draining f_clock a_openRows a_ages a_lastAct a_lastRead a_lastWrite a_lastPre a_lastRef a_actTimes a_reqAddress a_reqLanes a_reqFetched a_reqPending a_reqSerial bo) gp q → post (nI q)) :
    ∀ n j best, j ≤ 12 → 12 - j < n → (best = -1 ∨ ∃ m, best = nI m ∧ sc_ok (sc_ab f_rcd f_rp f_rfc f_cap f_anyAct f_anyRead f_anyWrite f_actNext f_nextSerial f_draining f_clock a_openRows a_ages a_lastAct a_lastRead a_lastWrite a_lastPre a_lastRef a_actTimes a_reqAddress a_reqLanes a_reqFetched a_reqPending a_reqSerial bo) gp m) → wX_bestRequest_5 post c gp f_rcd f_rp f_rfc f_cap f_refreshSoon f_refreshMust f_drainMark f_requests f_allLanes f_slotFree f_slotWaiting f_slotReady f_never f_anyAct f_anyRead f_anyWrite f_actNext f_nextSerial f_writeHead f_writeCount f_draining f_clock f_mode f_faults f_lost f_retiredReads a_cells a_openRows a_ages a_lastAct a_lastRead a_lastWrite a_lastPre a_lastRef a_actTimes a_reqAddress a_reqLanes a_reqData a_reqBase a_reqFetched a_reqPending a_reqBorn a_reqSerial a_slotStates n best (nI j)
  | 0, j, _, _, hn, _ => by omega
  | n + 1, j, best, hj, hnn, hl => by
    unfold wX_bestRequest_5
    by_cases e : j = 12
    · subst e
      refine br_t (by decide) ?_
      rcases hl with rfl | ⟨m, rfl, k⟩
      · exact hn
      · exact hs m k
    · have lt : j < 12 := by omega
      have ej : (nI j).toNatClampNeg = j := nI_clamp (by omega)
      have vj : vp_in (nI j) 12 := vp_in_nI lt (by omega)
      have ad := (rg.2.2.2 j lt).2.2
      have a0 : 0 ≤ (a_reqAddress j).toInt := by rw [← ab_ad (bo := bo)]; exact ad.1
      have a1 : (a_reqAddress j).toInt < 256 := by rw [← ab_ad (bo := bo)]; exact ad.2.1
      have lb : sc_bk (sc_ab f_rcd f_rp f_rfc f_cap f_anyAct f_anyRead f_anyWrite f_actNext f_nextSerial f_draining f_clock a_openRows a_ages a_lastAct a_lastRead a_lastWrite a_lastPre a_lastRef a_actTimes a_reqAddress a_reqLanes a_reqFetched a_reqPending a_reqSerial bo) j < 8 := sc_bA_lt _
      have kept : wX_bestRequest_5 post c gp f_rcd f_rp f_rfc f_cap f_refreshSoon f_refreshMust f_drainMark f_requests f_allLanes f_slotFree f_slotWaiting f_slotReady f_never f_anyAct f_anyRead f_anyWrite f_actNext f_nextSerial f_writeHead f_writeCount f_draining f_clock f_mode f_faults f_lost f_retiredReads a_cells a_openRows a_ages a_lastAct a_lastRead a_lastWrite a_lastPre a_lastRef a_actTimes a_reqAddress a_reqLanes a_reqData a_reqBase a_reqFetched a_reqPending a_reqBorn a_reqSerial a_slotStates n best (nI (j + 1)) := xw_best_l w rg an hgp hn hs n (j + 1) best lt (by omega) hl
      have hbest : best = -1 ∨ ∃ m, m < 12 ∧ best = nI m := by
        rcases hl with r | ⟨m, r, k⟩
        · exact .inl r
        · exact .inr ⟨m, k.1, r⟩
      refine br_f (nI_ge (b := 12) lt (by decide)) (xw_elig lt rg (fun el => br_f (by decide) ?_) (fun _ => br_t (by decide) (nm_r (nI_1 j) kept)))
      have body : ∀ z0 : Int32, wX_bestRequest_46 post (wX_bestRequest_5 post c gp f_rcd f_rp f_rfc f_cap f_refreshSoon f_refreshMust f_drainMark f_requests f_allLanes f_slotFree f_slotWaiting f_slotReady f_never f_anyAct f_anyRead f_anyWrite f_actNext f_nextSerial f_writeHead f_writeCount f_draining f_clock f_mode f_faults f_lost f_retiredReads a_cells a_openRows a_ages a_lastAct a_lastRead a_lastWrite a_lastPre a_lastRef a_actTimes a_reqAddress a_reqLanes a_reqData a_reqBase a_reqFetched a_reqPending a_reqBorn a_reqSerial a_slotStates n) c gp best (nI j) (nI (sc_kd (sc_ab f_rcd f_rp f_rfc f_cap f_anyAct f_anyRead f_anyWrite f_actNext f_nextSerial f_draining f_clock a_openRows a_ages a_lastAct a_lastRead a_lastWrite a_lastPre a_lastRef a_actTimes a_reqAddress a_reqLanes a_reqFetched a_reqPending a_reqSerial bo) j)) z0 f_rcd f_rp f_rfc f_cap f_refreshSoon f_refreshMust f_drainMark f_requests f_allLanes f_slotFree f_slotWaiting f_slotReady f_never f_anyAct f_anyRead f_anyWrite f_actNext f_nextSerial f_writeHead f_writeCount f_draining f_clock f_mode f_faults f_lost f_retiredReads a_cells a_openRows a_ages a_lastAct a_lastRead a_lastWrite a_lastPre a_lastRef a_actTimes a_reqAddress a_reqLanes a_reqData a_reqBase a_reqFetched a_reqPending a_reqBorn a_reqSerial a_slotStates := by
        intro z0
        unfold wX_bestRequest_46
        simp only [ej]
        refine br_c (fun _ => xw_can lt w rg an (fun can => br_f (by decide) ?_) (fun _ => br_t (by decide) (nm_r (nI_1 j) kept))) (fun _ => nm_r (nI_1 j) kept)
        have k4 : sc_kd (sc_ab f_rcd f_rp f_rfc f_cap f_anyAct f_anyRead f_anyWrite f_actNext f_nextSerial f_draining f_clock a_openRows a_ages a_lastAct a_lastRead a_lastWrite a_lastPre a_lastRef a_actTimes a_reqAddress a_reqLanes a_reqFetched a_reqPending a_reqSerial bo) j < 4 := by have := sc_kd_in (sc_ab f_rcd f_rp f_rfc f_cap f_anyAct f_anyRead f_anyWrite f_actNext f_nextSerial f_draining f_clock a_openRows a_ages a_lastAct a_lastRead a_lastWrite a_lastPre a_lastRef a_actTimes a_reqAddress a_reqLanes a_reqFetched a_reqPending a_reqSerial bo) j; omega
        have rest : (∀ g, g < 12 → gp = nI g → sc_ga (sc_ab f_rcd f_rp f_rfc f_cap f_anyAct f_anyRead f_anyWrite f_actNext f_nextSerial f_draining f_clock a_openRows a_ages a_lastAct a_lastRead a_lastWrite a_lastPre a_lastRef a_actTimes a_reqAddress a_reqLanes a_reqFetched a_reqPending a_reqSerial bo) (sc_kd (sc_ab f_rcd f_rp f_rfc f_cap f_anyAct f_anyRead f_anyWrite f_actNext f_nextSerial f_draining f_clock a_openRows a_ages a_lastAct a_lastRead a_lastWrite a_lastPre a_lastRef a_actTimes a_reqAddress a_reqLanes a_reqFetched a_reqPending a_reqSerial bo) j) j g) → wpX_isBetter (fun r_191 => (((r_191 = 0 → (∀ (x4_237 : Int32), x4_237 = nI j + 1 → (wX_bestRequest_5 post c gp f_rcd f_rp f_rfc f_cap f_refreshSoon f_refreshMust f_drainMark f_requests f_allLanes f_slotFree f_slotWaiting f_slotReady f_never f_anyAct f_anyRead f_anyWrite f_actNext f_nextSerial f_writeHead f_writeCount f_draining f_clock f_mode f_faults f_lost f_retiredReads a_cells a_openRows a_ages a_lastAct a_lastRead a_lastWrite a_lastPre a_lastRef a_actTimes a_reqAddress a_reqLanes a_reqData a_reqBase a_reqFetched a_reqPending a_reqBorn a_reqSerial a_slotStates n best x4_237))) ∧ (¬ r_191 = 0 → (vp_in (nI j) 12 ∧ (wpX_bankOf (fun r_239 => (((nI (sc_kd (sc_ab f_rcd f_rp f_rfc f_cap f_anyAct f_anyRead f_anyWrite f_actNext f_nextSerial f_draining f_clock a_openRows a_ages a_lastAct a_lastRead a_lastWrite a_lastPre a_lastRef a_actTimes a_reqAddress a_reqLanes a_reqFetched a_reqPending a_reqSerial bo) j) = 3 → (wpX_openRowWanted (fun r_286 => (((r_286 = 0 → (∀ (x4_333 : Int32), x4_333 = nI j + 1 → (wX_bestRequest_5 post c gp f_rcd f_rp f_rfc f_cap f_refreshSoon f_refreshMust f_drainMark f_requests f_allLanes f_slotFree f_slotWaiting f_slotReady f_never f_anyAct f_anyRead f_anyWrite f_actNext f_nextSerial f_writeHead f_writeCount f_draining f_clock f_mode f_faults f_lost f_retiredReads a_cells a_openRows a_ages a_lastAct a_lastRead a_lastWrite a_lastPre a_lastRef a_actTimes a_reqAddress a_reqLanes a_reqData a_reqBase a_reqFetched a_reqPending a_reqBorn a_reqSerial a_slotStates n (nI j) x4_333))) ∧ (¬ r_286 = 0 → (∀ (x4_332 : Int32), x4_332 = nI j + 1 → (wX_bestRequest_5 post c gp f_rcd f_rp f_rfc f_cap f_refreshSoon f_refreshMust f_drainMark f_requests f_allLanes f_slotFree f_slotWaiting f_slotReady f_never f_anyAct f_anyRead f_anyWrite f_actNext f_nextSerial f_writeHead f_writeCount f_draining f_clock f_mode f_faults f_lost f_retiredReads a_cells a_openRows a_ages a_lastAct a_lastRead a_lastWrite a_lastPre a_lastRef a_actTimes a_reqAddress a_reqLanes a_reqData a_reqBase a_reqFetched a_reqPending a_reqBorn a_reqSerial a_slotStates n best x4_332)))))) (f_rcd, f_rp, f_rfc, f_cap, f_refreshSoon, f_refreshMust, f_drainMark, f_requests, f_allLanes, f_slotFree, f_slotWaiting, f_slotReady, f_never, f_anyAct, f_anyRead, f_anyWrite, f_actNext, f_nextSerial, f_writeHead, f_writeCount, f_draining, f_clock, f_mode, f_faults, f_lost, f_retiredReads, a_cells, a_openRows, a_ages, a_lastAct, a_lastRead, a_lastWrite, a_lastPre, a_lastRef, a_actTimes, a_reqAddress, a_reqLanes, a_reqData, a_reqBase, a_reqFetched, a_reqPending, a_reqBorn, a_reqSerial, a_slotStates) r_239)) ∧ (¬ nI (sc_kd (sc_ab f_rcd f_rp f_rfc f_cap f_anyAct f_anyRead f_anyWrite f_actNext f_nextSerial f_draining f_clock a_openRows a_ages a_lastAct a_lastRead a_lastWrite a_lastPre a_lastRef a_actTimes a_reqAddress a_reqLanes a_reqFetched a_reqPending a_reqSerial bo) j) = 3 → (∀ (x4_285 : Int32), x4_285 = nI j + 1 → (wX_bestRequest_5 post c gp f_rcd f_rp f_rfc f_cap f_refreshSoon f_refreshMust f_drainMark f_requests f_allLanes f_slotFree f_slotWaiting f_slotReady f_never f_anyAct f_anyRead f_anyWrite f_actNext f_nextSerial f_writeHead f_writeCount f_draining f_clock f_mode f_faults f_lost f_retiredReads a_cells a_openRows a_ages a_lastAct a_lastRead a_lastWrite a_lastPre a_lastRef a_actTimes a_reqAddress a_reqLanes a_reqData a_reqBase a_reqFetched a_reqPending a_reqBorn a_reqSerial a_slotStates n (nI j) x4_285)))))) (f_rcd, f_rp, f_rfc, f_cap, f_refreshSoon, f_refreshMust, f_drainMark, f_requests, f_allLanes, f_slotFree, f_slotWaiting, f_slotReady, f_never, f_anyAct, f_anyRead, f_anyWrite, f_actNext, f_nextSerial, f_writeHead, f_writeCount, f_draining, f_clock, f_mode, f_faults, f_lost, f_retiredReads, a_cells, a_openRows, a_ages, a_lastAct, a_lastRead, a_lastWrite, a_lastPre, a_lastRef, a_actTimes, a_reqAddress, a_reqLanes, a_reqData, a_reqBase, a_reqFetched, a_reqPending, a_reqBorn, a_reqSerial, a_slotStates) (a_reqAddress j))))))) (f_rcd, f_rp, f_rfc, f_cap, f_refreshSoon, f_refreshMust, f_drainMark, f_requests, f_allLanes, f_slotFree, f_slotWaiting, f_slotReady, f_never, f_anyAct, f_anyRead, f_anyWrite, f_actNext, f_nextSerial, f_writeHead, f_writeCount, f_draining, f_clock, f_mode, f_faults, f_lost, f_retiredReads, a_cells, a_openRows, a_ages, a_lastAct, a_lastRead, a_lastWrite, a_lastPre, a_lastRef, a_actTimes, a_reqAddress, a_reqLanes, a_reqData, a_reqBase, a_reqFetched, a_reqPending, a_reqBorn, a_reqSerial, a_slotStates) (nI j) best := by
          intro ga
          have new : (sc_kd (sc_ab f_rcd f_rp f_rfc f_cap f_anyAct f_anyRead f_anyWrite f_actNext f_nextSerial f_draining f_clock a_openRows a_ages a_lastAct a_lastRead a_lastWrite a_lastPre a_lastRef a_actTimes a_reqAddress a_reqLanes a_reqFetched a_reqPending a_reqSerial bo) j = 3 → ¬ sc_rw (sc_ab f_rcd f_rp f_rfc f_cap f_anyAct f_anyRead f_anyWrite f_actNext f_nextSerial f_draining f_clock a_openRows a_ages a_lastAct a_lastRead a_lastWrite a_lastPre a_lastRef a_actTimes a_reqAddress a_reqLanes a_reqFetched a_reqPending a_reqSerial bo) (sc_bk (sc_ab f_rcd f_rp f_rfc f_cap f_anyAct f_anyRead f_anyWrite f_actNext f_nextSerial f_draining f_clock a_openRows a_ages a_lastAct a_lastRead a_lastWrite a_lastPre a_lastRef a_actTimes a_reqAddress a_reqLanes a_reqFetched a_reqPending a_reqSerial bo) j)) → wX_bestRequest_5 post c gp f_rcd f_rp f_rfc f_cap f_refreshSoon f_refreshMust f_drainMark f_requests f_allLanes f_slotFree f_slotWaiting f_slotReady f_never f_anyAct f_anyRead f_anyWrite f_actNext f_nextSerial f_writeHead f_writeCount f_draining f_clock f_mode f_faults f_lost f_retiredReads a_cells a_openRows a_ages a_lastAct a_lastRead a_lastWrite a_lastPre a_lastRef a_actTimes a_reqAddress a_reqLanes a_reqData a_reqBase a_reqFetched a_reqPending a_reqBorn a_reqSerial a_slotStates n (nI j) (nI (j + 1)) := fun nr =>
            xw_best_l w rg an hgp hn hs n (j + 1) (nI j) lt (by omega) (.inr ⟨j, rfl, lt, el, can.1, can.2, ga, nr⟩)
          refine xw_better lt hbest (br_f (by decide) ⟨vj, xw_bank a0 a1 ?_⟩) (br_t rfl (nm_r (nI_1 j) kept))
          have k3 : nI (sc_kd (sc_ab f_rcd f_rp f_rfc f_cap f_anyAct f_anyRead f_anyWrite f_actNext f_nextSerial f_draining f_clock a_openRows a_ages a_lastAct a_lastRead a_lastWrite a_lastPre a_lastRef a_actTimes a_reqAddress a_reqLanes a_reqFetched a_reqPending a_reqSerial bo) j) = 3 ↔ sc_kd (sc_ab f_rcd f_rp f_rfc f_cap f_anyAct f_anyRead f_anyWrite f_actNext f_nextSerial f_draining f_clock a_openRows a_ages a_lastAct a_lastRead a_lastWrite a_lastPre a_lastRef a_actTimes a_reqAddress a_reqLanes a_reqFetched a_reqPending a_reqSerial bo) j = 3 := by rw [show (3 : Int32) = nI 3 by decide, nI_eq (by omega) (by omega)]
          refine br_c (fun z => ?_) (fun z => nm_r (nI_1 j) (new (fun y => absurd (k3.mpr y) z)))
          exact xw_roww lb rg (fun _ => br_f (by decide) (nm_r (nI_1 j) kept)) (fun nr => br_t (by decide) (nm_r (nI_1 j) (new (fun _ => nr))))
        rcases hgp with r | ⟨g, hg, r⟩
        · have e1 : ∀ p : Int32 → Prop, p 1 → wpX_guardAllows p (f_rcd, f_rp, f_rfc, f_cap, f_refreshSoon, f_refreshMust, f_drainMark, f_requests, f_allLanes, f_slotFree, f_slotWaiting, f_slotReady, f_never, f_anyAct, f_anyRead, f_anyWrite, f_actNext, f_nextSerial, f_writeHead, f_writeCount, f_draining, f_clock, f_mode, f_faults, f_lost, f_retiredReads, a_cells, a_openRows, a_ages, a_lastAct, a_lastRead, a_lastWrite, a_lastPre, a_lastRef, a_actTimes, a_reqAddress, a_reqLanes, a_reqData, a_reqBase, a_reqFetched, a_reqPending, a_reqBorn, a_reqSerial, a_slotStates) (nI (sc_kd (sc_ab f_rcd f_rp f_rfc f_cap f_anyAct f_anyRead f_anyWrite f_actNext f_nextSerial f_draining f_clock a_openRows a_ages a_lastAct a_lastRead a_lastWrite a_lastPre a_lastRef a_actTimes a_reqAddress a_reqLanes a_reqFetched a_reqPending a_reqSerial bo) j)) (nI j) gp := by
            intro p hp
            unfold wpX_guardAllows
            rw [r]
            exact br_f (by decide) hp
          refine e1 _ (br_f (by decide) (rest (fun g hg e => ?_)))
          rw [r] at e
          have : (nI g).toInt = (-1 : Int32).toInt := by rw [e]
          rw [nI_toInt (by omega)] at this
          have : (-1 : Int32).toInt = -1 := by decide
          omega
        · rw [r]
          refine xw_gallow k4 lt hg rg (fun ga => br_f (by decide) ?_) (fun _ => br_t (by decide) (nm_r (nI_1 j) (by rw [← r]; exact kept)))
          rw [← r]
          refine rest (fun g' hg' e' => ?_)
          rw [r, nI_eq (by omega) (by omega)] at e'
          rw [← e']; exact ga
      refine xw_kind lt rg ?_
      unfold wX_bestRequest_41
      exact br_c (fun _ => body _) (fun _ => br_c (fun _ => body _) (fun _ => body _))
theorem xw_best {post : Int32 → Prop} {gp c : Int32} (w : sc_W (sc_ab f_rcd f_rp f_rfc f_cap f_anyAct f_anyRead f_anyWrite f_actNext f_nextSerial f_draining f_clock a_openRows a_ages a_lastAct a_lastRead a_lastWrite a_lastPre a_lastRef a_actTimes a_reqAddress a_reqLanes a_reqFetched a_reqPending a_reqSerial bo)) (rg : sc_Rg (sc_ab f_rcd f_rp f_rfc f_cap f_anyAct f_anyRead f_anyWrite f_actNext f_nextSerial f_draining f_clock a_openRows a_ages a_lastAct a_lastRead a_lastWrite a_lastPre a_lastRef a_actTimes a_reqAddress a_reqLanes a_reqFetched a_reqPending a_reqSerial bo)) (an : vp_in f_actNext 4) (hgp : gp = -1 ∨ ∃ g, g < 12 ∧ gp = nI g) (hn : post (-1)) (hs : ∀ q, sc_ok (sc_ab f_rcd f_rp f_rfc f_cap f_anyAct f_anyRead f_anyWrite f_actNext f_nextSerial f_draining f_clock a_openRows a_ages a_lastAct a_lastRead a_lastWrite a_lastPre a_lastRef a_actTimes a_reqAddress a_reqLanes a_reqFetched a_reqPending a_reqSerial bo) gp q → post (nI q)) : wpX_bestRequest post (f_rcd, f_rp, f_rfc, f_cap, f_refreshSoon, f_refreshMust, f_drainMark, f_requests, f_allLanes, f_slotFree, f_slotWaiting, f_slotReady, f_never, f_anyAct, f_anyRead, f_anyWrite, f_actNext, f_nextSerial, f_writeHead, f_writeCount, f_draining, f_clock, f_mode, f_faults, f_lost, f_retiredReads, a_cells, a_openRows, a_ages, a_lastAct, a_lastRead, a_lastWrite, a_lastPre, a_lastRef, a_actTimes, a_reqAddress, a_reqLanes, a_reqData, a_reqBase, a_reqFetched, a_reqPending, a_reqBorn, a_reqSerial, a_slotStates) c gp :=
  ⟨13, xw_best_l w rg an hgp hn hs 13 0 (-1) (by omega) (by omega) (.inl rfl)⟩
end
end
section
theorem xb_place {m : Nat} (hm : m < 256) : ((nI (m / 32 % 8) * 32 + nI (m / 4 % 8) * 4) + nI (m % 4)) &&& 255 = nI m := by
  have e1 : nI (m / 32 % 8) * 32 = nI (m / 32 % 8 * 32) := pk_mul _ 32
  have e2 : nI (m / 4 % 8) * 4 = nI (m / 4 % 8 * 4) := pk_mul _ 4
  rw [e1, e2, nI_add, nI_add, pk_andN (by omega) 8 (by decide)]
  congr 1
  omega
section
variable {f_rcd f_rp f_rfc f_cap f_refreshSoon f_refreshMust f_drainMark f_requests f_allLanes f_slotFree f_slotWaiting f_slotReady f_actNext f_writeHead f_writeCount f_draining f_mode f_faults f_lost f_retiredReads : Int32} {f_never f_anyAct f_anyRead f_anyWrite f_nextSerial f_clock : Int64} {a_cells a_openRows a_ages a_reqAddress a_reqLanes a_reqData a_reqBase a_reqFetched a_reqPending a_slotStates : (Nat → Int32)} {a_lastAct a_lastRead a_lastWrite a_lastPre a_lastRef a_actTimes a_reqBorn a_reqSerial : (Nat → Int64)}
variable {bo : Nat → Int}
theorem xw_dACT {post : Int32 → SX → Prop} {b : Nat} {row word : Int32} (hb : b < 8) (w : sc_W (sc_ab f_rcd f_rp f_rfc f_cap f_anyAct f_anyRead f_anyWrite f_actNext f_nextSerial f_draining f_clock a_openRows a_ages a_lastAct a_lastRead a_lastWrite a_lastPre a_lastRef a_actTimes a_reqAddress a_reqLanes a_reqFetched a_reqPending a_reqSerial bo)) (rg : sc_Rg (sc_ab f_rcd f_rp f_rfc f_cap f_anyAct f_anyRead f_anyWrite f_actNext f_nextSerial f_draining f_clock a_openRows a_ages a_lastAct a_lastRead a_lastWrite a_lastPre a_lastRef a_actTimes a_reqAddress a_reqLanes a_reqFetched a_reqPending a_reqSerial bo)) (an : vp_in f_actNext 4) (fit : sc_op (sc_ab f_rcd f_rp f_rfc f_cap f_anyAct f_anyRead f_anyWrite f_actNext f_nextSerial f_draining f_clock a_openRows a_ages a_lastAct a_lastRead a_lastWrite a_lastPre a_lastRef a_actTimes a_reqAddress a_reqLanes a_reqFetched a_reqPending a_reqSerial bo) b < 0) (p : sc_P (sc_ab f_rcd f_rp f_rfc f_cap f_anyAct f_anyRead f_anyWrite f_actNext f_nextSerial f_draining f_clock a_openRows a_ages a_lastAct a_lastRead a_lastWrite a_lastPre a_lastRef a_actTimes a_reqAddress a_reqLanes a_reqFetched a_reqPending a_reqSerial bo) 0 b)
    (h : post 0 (f_rcd, f_rp, f_rfc, f_cap, f_refreshSoon, f_refreshMust, f_drainMark, f_requests, f_allLanes, f_slotFree, f_slotWaiting, f_slotReady, f_never, f_clock, f_anyRead, f_anyWrite, (f_actNext + 1) &&& 3, f_nextSerial, f_writeHead, f_writeCount, f_draining, f_clock, f_mode, f_faults, f_lost, f_retiredReads, a_cells, upd a_openRows b row, a_ages, vp_updL a_lastAct b f_clock, a_lastRead, a_lastWrite, a_lastPre, a_lastRef, vp_updL a_actTimes f_actNext.toNatClampNeg f_clock, a_reqAddress, a_reqLanes, a_reqData, a_reqBase, a_reqFetched, a_reqPending, a_reqBorn, a_reqSerial, a_slotStates)) : wpX_drive post (f_rcd, f_rp, f_rfc, f_cap, f_refreshSoon, f_refreshMust, f_drainMark, f_requests, f_allLanes, f_slotFree, f_slotWaiting, f_slotReady, f_never, f_anyAct, f_anyRead, f_anyWrite, f_actNext, f_nextSerial, f_writeHead, f_writeCount, f_draining, f_clock, f_mode, f_faults, f_lost, f_retiredReads, a_cells, a_openRows, a_ages, a_lastAct, a_lastRead, a_lastWrite, a_lastPre, a_lastRef, a_actTimes, a_reqAddress, a_reqLanes, a_reqData, a_reqBase, a_reqFetched, a_reqPending, a_reqBorn, a_reqSerial, a_slotStates) 0 (nI b) row word := by
  have e : (nI b).toNatClampNeg = b := nI_clamp (by omega)
  have vb : vp_in (nI b) 8 := vp_in_nI hb (by omega)
  unfold wpX_drive
  refine xw_fits (bo := bo) (k := 0) (by decide) hb (fun _ => br_f (by decide) (xw_perm (bo := bo) (k := 0) (by decide) hb w rg an (fun _ => br_f (by decide) ?_) (fun n => absurd p n))) (fun n => absurd ⟨fun _ => .inl rfl, fun _ => fit⟩ n)
  unfold wX_drive_28 wpX_perform
  simp only [e]
  exact br_t (by trivial) ⟨vb, nm_e ⟨vb, nm_e ⟨an, nm_e (nm_e h)⟩⟩⟩
theorem xw_dPRE {post : Int32 → SX → Prop} {b : Nat} {row word : Int32} (hb : b < 8) (w : sc_W (sc_ab f_rcd f_rp f_rfc f_cap f_anyAct f_anyRead f_anyWrite f_actNext f_nextSerial f_draining f_clock a_openRows a_ages a_lastAct a_lastRead a_lastWrite a_lastPre a_lastRef a_actTimes a_reqAddress a_reqLanes a_reqFetched a_reqPending a_reqSerial bo)) (rg : sc_Rg (sc_ab f_rcd f_rp f_rfc f_cap f_anyAct f_anyRead f_anyWrite f_actNext f_nextSerial f_draining f_clock a_openRows a_ages a_lastAct a_lastRead a_lastWrite a_lastPre a_lastRef a_actTimes a_reqAddress a_reqLanes a_reqFetched a_reqPending a_reqSerial bo)) (an : vp_in f_actNext 4) (fit : 0 ≤ sc_op (sc_ab f_rcd f_rp f_rfc f_cap f_anyAct f_anyRead f_anyWrite f_actNext f_nextSerial f_draining f_clock a_openRows a_ages a_lastAct a_lastRead a_lastWrite a_lastPre a_lastRef a_actTimes a_reqAddress a_reqLanes a_reqFetched a_reqPending a_reqSerial bo) b) (p : sc_P (sc_ab f_rcd f_rp f_rfc f_cap f_anyAct f_anyRead f_anyWrite f_actNext f_nextSerial f_draining f_clock a_openRows a_ages a_lastAct a_lastRead a_lastWrite a_lastPre a_lastRef a_actTimes a_reqAddress a_reqLanes a_reqFetched a_reqPending a_reqSerial bo) 3 b)
    (h : post 0 (f_rcd, f_rp, f_rfc, f_cap, f_refreshSoon, f_refreshMust, f_drainMark, f_requests, f_allLanes, f_slotFree, f_slotWaiting, f_slotReady, f_never, f_anyAct, f_anyRead, f_anyWrite, f_actNext, f_nextSerial, f_writeHead, f_writeCount, f_draining, f_clock, f_mode, f_faults, f_lost, f_retiredReads, a_cells, upd a_openRows b (-1), a_ages, a_lastAct, a_lastRead, a_lastWrite, vp_updL a_lastPre b f_clock, a_lastRef, a_actTimes, a_reqAddress, a_reqLanes, a_reqData, a_reqBase, a_reqFetched, a_reqPending, a_reqBorn, a_reqSerial, a_slotStates)) : wpX_drive post (f_rcd, f_rp, f_rfc, f_cap, f_refreshSoon, f_refreshMust, f_drainMark, f_requests, f_allLanes, f_slotFree, f_slotWaiting, f_slotReady, f_never, f_anyAct, f_anyRead, f_anyWrite, f_actNext, f_nextSerial, f_writeHead, f_writeCount, f_draining, f_clock, f_mode, f_faults, f_lost, f_retiredReads, a_cells, a_openRows, a_ages, a_lastAct, a_lastRead, a_lastWrite, a_lastPre, a_lastRef, a_actTimes, a_reqAddress, a_reqLanes, a_reqData, a_reqBase, a_reqFetched, a_reqPending, a_reqBorn, a_reqSerial, a_slotStates) 3 (nI b) row word := by
  have e : (nI b).toNatClampNeg = b := nI_clamp (by omega)
  have vb : vp_in (nI b) 8 := vp_in_nI hb (by omega)
  unfold wpX_drive
  refine xw_fits (bo := bo) (k := 3) (by decide) hb (fun _ => br_f (by decide) (xw_perm (bo := bo) (k := 3) (by decide) hb w rg an (fun _ => br_f (by decide) ?_) (fun n => absurd p n))) (fun n => absurd ⟨fun y => by omega, fun y => by omega⟩ n)
  unfold wX_drive_28 wpX_perform
  simp only [e]
  exact br_f (by decide) (br_f (by decide) (br_f (by decide) (br_t (by trivial) ⟨vb, nm_e ⟨vb, nm_e h⟩⟩)))
theorem xw_dREF {post : Int32 → SX → Prop} {b : Nat} {row word : Int32} (hb : b < 8) (w : sc_W (sc_ab f_rcd f_rp f_rfc f_cap f_anyAct f_anyRead f_anyWrite f_actNext f_nextSerial f_draining f_clock a_openRows a_ages a_lastAct a_lastRead a_lastWrite a_lastPre a_lastRef a_actTimes a_reqAddress a_reqLanes a_reqFetched a_reqPending a_reqSerial bo)) (rg : sc_Rg (sc_ab f_rcd f_rp f_rfc f_cap f_anyAct f_anyRead f_anyWrite f_actNext f_nextSerial f_draining f_clock a_openRows a_ages a_lastAct a_lastRead a_lastWrite a_lastPre a_lastRef a_actTimes a_reqAddress a_reqLanes a_reqFetched a_reqPending a_reqSerial bo)) (an : vp_in f_actNext 4) (fit : sc_op (sc_ab f_rcd f_rp f_rfc f_cap f_anyAct f_anyRead f_anyWrite f_actNext f_nextSerial f_draining f_clock a_openRows a_ages a_lastAct a_lastRead a_lastWrite a_lastPre a_lastRef a_actTimes a_reqAddress a_reqLanes a_reqFetched a_reqPending a_reqSerial bo) b < 0) (p : sc_P (sc_ab f_rcd f_rp f_rfc f_cap f_anyAct f_anyRead f_anyWrite f_actNext f_nextSerial f_draining f_clock a_openRows a_ages a_lastAct a_lastRead a_lastWrite a_lastPre a_lastRef a_actTimes a_reqAddress a_reqLanes a_reqFetched a_reqPending a_reqSerial bo) 4 b)
    (h : post 0 (f_rcd, f_rp, f_rfc, f_cap, f_refreshSoon, f_refreshMust, f_drainMark, f_requests, f_allLanes, f_slotFree, f_slotWaiting, f_slotReady, f_never, f_anyAct, f_anyRead, f_anyWrite, f_actNext, f_nextSerial, f_writeHead, f_writeCount, f_draining, f_clock, f_mode, f_faults, f_lost, f_retiredReads, a_cells, a_openRows, upd a_ages b 0, a_lastAct, a_lastRead, a_lastWrite, a_lastPre, vp_updL a_lastRef b f_clock, a_actTimes, a_reqAddress, a_reqLanes, a_reqData, a_reqBase, a_reqFetched, a_reqPending, a_reqBorn, a_reqSerial, a_slotStates)) : wpX_drive post (f_rcd, f_rp, f_rfc, f_cap, f_refreshSoon, f_refreshMust, f_drainMark, f_requests, f_allLanes, f_slotFree, f_slotWaiting, f_slotReady, f_never, f_anyAct, f_anyRead, f_anyWrite, f_actNext, f_nextSerial, f_writeHead, f_writeCount, f_draining, f_clock, f_mode, f_faults, f_lost, f_retiredReads, a_cells, a_openRows, a_ages, a_lastAct, a_lastRead, a_lastWrite, a_lastPre, a_lastRef, a_actTimes, a_reqAddress, a_reqLanes, a_reqData, a_reqBase, a_reqFetched, a_reqPending, a_reqBorn, a_reqSerial, a_slotStates) 4 (nI b) row word := by
  have e : (nI b).toNatClampNeg = b := nI_clamp (by omega)
  have vb : vp_in (nI b) 8 := vp_in_nI hb (by omega)
  unfold wpX_drive
  refine xw_fits (bo := bo) (k := 4) (by decide) hb (fun _ => br_f (by decide) (xw_perm (bo := bo) (k := 4) (by decide) hb w rg an (fun _ => br_f (by decide) ?_) (fun n => absurd p n))) (fun n => absurd ⟨fun _ => .inr rfl, fun _ => fit⟩ n)
  unfold wX_drive_28 wpX_perform
  simp only [e]
  exact br_f (by decide) (br_f (by decide) (br_f (by decide) (br_f (by decide) ⟨vb, nm_e ⟨vb, nm_e h⟩⟩)))
theorem xw_dRD {post : Int32 → SX → Prop} {m : Nat} {word : Int32} (hm : m < 256) (w : sc_W (sc_ab f_rcd f_rp f_rfc f_cap f_anyAct f_anyRead f_anyWrite f_actNext f_nextSerial f_draining f_clock a_openRows a_ages a_lastAct a_lastRead a_lastWrite a_lastPre a_lastRef a_actTimes a_reqAddress a_reqLanes a_reqFetched a_reqPending a_reqSerial bo)) (rg : sc_Rg (sc_ab f_rcd f_rp f_rfc f_cap f_anyAct f_anyRead f_anyWrite f_actNext f_nextSerial f_draining f_clock a_openRows a_ages a_lastAct a_lastRead a_lastWrite a_lastPre a_lastRef a_actTimes a_reqAddress a_reqLanes a_reqFetched a_reqPending a_reqSerial bo)) (an : vp_in f_actNext 4) (fit : sc_op (sc_ab f_rcd f_rp f_rfc f_cap f_anyAct f_anyRead f_anyWrite f_actNext f_nextSerial f_draining f_clock a_openRows a_ages a_lastAct a_lastRead a_lastWrite a_lastPre a_lastRef a_actTimes a_reqAddress a_reqLanes a_reqFetched a_reqPending a_reqSerial bo) (m / 4 % 8) = (m / 32 % 8 : Nat)) (p : sc_P (sc_ab f_rcd f_rp f_rfc f_cap f_anyAct f_anyRead f_anyWrite f_actNext f_nextSerial f_draining f_clock a_openRows a_ages a_lastAct a_lastRead a_lastWrite a_lastPre a_lastRef a_actTimes a_reqAddress a_reqLanes a_reqFetched a_reqPending a_reqSerial bo) 1 (m / 4 % 8))
    (h : post (a_cells m) (f_rcd, f_rp, f_rfc, f_cap, f_refreshSoon, f_refreshMust, f_drainMark, f_requests, f_allLanes, f_slotFree, f_slotWaiting, f_slotReady, f_never, f_anyAct, f_clock, f_anyWrite, f_actNext, f_nextSerial, f_writeHead, f_writeCount, f_draining, f_clock, f_mode, f_faults, f_lost, f_retiredReads, a_cells, a_openRows, a_ages, a_lastAct, vp_updL a_lastRead (m / 4 % 8) f_clock, a_lastWrite, a_lastPre, a_lastRef, a_actTimes, a_reqAddress, a_reqLanes, a_reqData, a_reqBase, a_reqFetched, a_reqPending, a_reqBorn, a_reqSerial, a_slotStates)) : wpX_drive post (f_rcd, f_rp, f_rfc, f_cap, f_refreshSoon, f_refreshMust, f_drainMark, f_requests, f_allLanes, f_slotFree, f_slotWaiting, f_slotReady, f_never, f_anyAct, f_anyRead, f_anyWrite, f_actNext, f_nextSerial, f_writeHead, f_writeCount, f_draining, f_clock, f_mode, f_faults, f_lost, f_retiredReads, a_cells, a_openRows, a_ages, a_lastAct, a_lastRead, a_lastWrite, a_lastPre, a_lastRef, a_actTimes, a_reqAddress, a_reqLanes, a_reqData, a_reqBase, a_reqFetched, a_reqPending, a_reqBorn, a_reqSerial, a_slotStates) 1 (nI (m / 4 % 8)) (nI (m % 4)) word := by
  have hb : m / 4 % 8 < 8 := Nat.mod_lt _ (by decide)
  have e : (nI (m / 4 % 8)).toNatClampNeg = m / 4 % 8 := nI_clamp (by omega)
  have vb : vp_in (nI (m / 4 % 8)) 8 := vp_in_nI hb (by omega)
  have eo : a_openRows (m / 4 % 8) = nI (m / 32 % 8) := by rw [xb_eq, nI_toInt (by omega)]; exact fit
  unfold wpX_drive
  refine xw_fits (bo := bo) (k := 1) (by decide) hb (fun _ => br_f (by decide) (xw_perm (bo := bo) (k := 1) (by decide) hb w rg an (fun _ => br_f (by decide) ?_) (fun n => absurd p n))) (fun n => absurd ⟨fun y => by omega, fun y => by omega⟩ n)
  unfold wX_drive_28 wpX_perform wpX_place
  simp only [e, eo, xb_place hm]
  have em : (nI m).toNatClampNeg = m := nI_clamp (by omega)
  refine br_f (by decide) (br_t (by trivial) ⟨vb, vp_in_nI (by omega) (by omega), nm_e ⟨vb, nm_e ?_⟩⟩)
  rw [em]; exact h
theorem xw_dWR {post : Int32 → SX → Prop} {m : Nat} {word : Int32} (hm : m < 256) (w : sc_W (sc_ab f_rcd f_rp f_rfc f_cap f_anyAct f_anyRead f_anyWrite f_actNext f_nextSerial f_draining f_clock a_openRows a_ages a_lastAct a_lastRead a_lastWrite a_lastPre a_lastRef a_actTimes a_reqAddress a_reqLanes a_reqFetched a_reqPending a_reqSerial bo)) (rg : sc_Rg (sc_ab f_rcd f_rp f_rfc f_cap f_anyAct f_anyRead f_anyWrite f_actNext f_nextSerial f_draining f_clock a_openRows a_ages a_lastAct a_lastRead a_lastWrite a_lastPre a_lastRef a_actTimes a_reqAddress a_reqLanes a_reqFetched a_reqPending a_reqSerial bo)) (an : vp_in f_actNext 4) (fit : sc_op (sc_ab f_rcd f_rp f_rfc f_cap f_anyAct f_anyRead f_anyWrite f_actNext f_nextSerial f_draining f_clock a_openRows a_ages a_lastAct a_lastRead a_lastWrite a_lastPre a_lastRef a_actTimes a_reqAddress a_reqLanes a_reqFetched a_reqPending a_reqSerial bo) (m / 4 % 8) = (m / 32 % 8 : Nat)) (p : sc_P (sc_ab f_rcd f_rp f_rfc f_cap f_anyAct f_anyRead f_anyWrite f_actNext f_nextSerial f_draining f_clock a_openRows a_ages a_lastAct a_lastRead a_lastWrite a_lastPre a_lastRef a_actTimes a_reqAddress a_reqLanes a_reqFetched a_reqPending a_reqSerial bo) 2 (m / 4 % 8))
    (h : post 0 (f_rcd, f_rp, f_rfc, f_cap, f_refreshSoon, f_refreshMust, f_drainMark, f_requests, f_allLanes, f_slotFree, f_slotWaiting, f_slotReady, f_never, f_anyAct, f_anyRead, f_clock, f_actNext, f_nextSerial, f_writeHead, f_writeCount, f_draining, f_clock, f_mode, f_faults, f_lost, f_retiredReads, upd a_cells m word, a_openRows, a_ages, a_lastAct, a_lastRead, vp_updL a_lastWrite (m / 4 % 8) f_clock, a_lastPre, a_lastRef, a_actTimes, a_reqAddress, a_reqLanes, a_reqData, a_reqBase, a_reqFetched, a_reqPending, a_reqBorn, a_reqSerial, a_slotStates)) : wpX_drive post (f_rcd, f_rp, f_rfc, f_cap, f_refreshSoon, f_refreshMust, f_drainMark, f_requests, f_allLanes, f_slotFree, f_slotWaiting, f_slotReady, f_never, f_anyAct, f_anyRead, f_anyWrite, f_actNext, f_nextSerial, f_writeHead, f_writeCount, f_draining, f_clock, f_mode, f_faults, f_lost, f_retiredReads, a_cells, a_openRows, a_ages, a_lastAct, a_lastRead, a_lastWrite, a_lastPre, a_lastRef, a_actTimes, a_reqAddress, a_reqLanes, a_reqData, a_reqBase, a_reqFetched, a_reqPending, a_reqBorn, a_reqSerial, a_slotStates) 2 (nI (m / 4 % 8)) (nI (m % 4)) word := by
  have hb : m / 4 % 8 < 8 := Nat.mod_lt _ (by decide)
  have e : (nI (m / 4 % 8)).toNatClampNeg = m / 4 % 8 := nI_clamp (by omega)
  have vb : vp_in (nI (m / 4 % 8)) 8 := vp_in_nI hb (by omega)
  have eo : a_openRows (m / 4 % 8) = nI (m / 32 % 8) := by rw [xb_eq, nI_toInt (by omega)]; exact fit
  unfold wpX_drive
  refine xw_fits (bo := bo) (k := 2) (by decide) hb (fun _ => br_f (by decide) (xw_perm (bo := bo) (k := 2) (by decide) hb w rg an (fun _ => br_f (by decide) ?_) (fun n => absurd p n))) (fun n => absurd ⟨fun y => by omega, fun y => by omega⟩ n)
  unfold wX_drive_28 wpX_perform wpX_place
  simp only [e, eo, xb_place hm]
  have em : (nI m).toNatClampNeg = m := nI_clamp (by omega)
  refine br_f (by decide) (br_f (by decide) (br_t (by trivial) ⟨vb, vp_in_nI (by omega) (by omega), nm_e ⟨vb, nm_e ?_⟩⟩))
  rw [em]; exact h
/-- one step towards a refresh -/
theorem xw_ref_l {post : Int32 → SX → Prop} {th id : Nat} (hth : th < 1000) (hid : id < 2) (w : sc_W (sc_ab f_rcd f_rp f_rfc f_cap f_anyAct f_anyRead f_anyWrite f_actNext f_nextSerial f_draining f_clock a_openRows a_ages a_lastAct a_lastRead a_lastWrite a_lastPre a_lastRef a_actTimes a_reqAddress a_reqLanes a_reqFetched a_reqPending a_reqSerial bo)) (rg : sc_Rg (sc_ab f_rcd f_rp f_rfc f_cap f_anyAct f_anyRead f_anyWrite f_actNext f_nextSerial f_draining f_clock a_openRows a_ages a_lastAct a_lastRead a_lastWrite a_lastPre a_lastRef a_actTimes a_reqAddress a_reqLanes a_reqFetched a_reqPending a_reqSerial bo)) (an : vp_in f_actNext 4)
    (hn : (∀ x, x < 8 → ¬ (th ≤ sc_age (sc_ab f_rcd f_rp f_rfc f_cap f_anyAct f_anyRead f_anyWrite f_actNext f_nextSerial f_draining f_clock a_openRows a_ages a_lastAct a_lastRead a_lastWrite a_lastPre a_lastRef a_actTimes a_reqAddress a_reqLanes a_reqFetched a_reqPending a_reqSerial bo) x ∧ sc_P (sc_ab f_rcd f_rp f_rfc f_cap f_anyAct f_anyRead f_anyWrite f_actNext f_nextSerial f_draining f_clock a_openRows a_ages a_lastAct a_lastRead a_lastWrite a_lastPre a_lastRef a_actTimes a_reqAddress a_reqLanes a_reqFetched a_reqPending a_reqSerial bo) (sc_sk (sc_ab f_rcd f_rp f_rfc f_cap f_anyAct f_anyRead f_anyWrite f_actNext f_nextSerial f_draining f_clock a_openRows a_ages a_lastAct a_lastRead a_lastWrite a_lastPre a_lastRef a_actTimes a_reqAddress a_reqLanes a_reqFetched a_reqPending a_reqSerial bo) x) x ∧ (id = 1 → ¬ sc_wn (sc_ab f_rcd f_rp f_rfc f_cap f_anyAct f_anyRead f_anyWrite f_actNext f_nextSerial f_draining f_clock a_openRows a_ages a_lastAct a_lastRead a_lastWrite a_lastPre a_lastRef a_actTimes a_reqAddress a_reqLanes a_reqFetched a_reqPending a_reqSerial bo) x))) → post 0 (f_rcd, f_rp, f_rfc, f_cap, f_refreshSoon, f_refreshMust, f_drainMark, f_requests, f_allLanes, f_slotFree, f_slotWaiting, f_slotReady, f_never, f_anyAct, f_anyRead, f_anyWrite, f_actNext, f_nextSerial, f_writeHead, f_writeCount, f_draining, f_clock, f_mode, f_faults, f_lost, f_retiredReads, a_cells, a_openRows, a_ages, a_lastAct, a_lastRead, a_lastWrite, a_lastPre, a_lastRef, a_actTimes, a_reqAddress, a_reqLanes, a_reqData, a_reqBase, a_reqFetched, a_reqPending, a_reqBorn, a_reqSerial, a_slotStates))
    (hs : ∀ b, b < 8 → (th ≤ sc_age (sc_ab f_rcd f_rp f_rfc f_cap f_anyAct f_anyRead f_anyWrite f_actNext f_nextSerial f_draining f_clock a_openRows a_ages a_lastAct a_lastRead a_lastWrite a_lastPre a_lastRef a_actTimes a_reqAddress a_reqLanes a_reqFetched a_reqPending a_reqSerial bo) b ∧ sc_P (sc_ab f_rcd f_rp f_rfc f_cap f_anyAct f_anyRead f_anyWrite f_actNext f_nextSerial f_draining f_clock a_openRows a_ages a_lastAct a_lastRead a_lastWrite a_lastPre a_lastRef a_actTimes a_reqAddress a_reqLanes a_reqFetched a_reqPending a_reqSerial bo) (sc_sk (sc_ab f_rcd f_rp f_rfc f_cap f_anyAct f_anyRead f_anyWrite f_actNext f_nextSerial f_draining f_clock a_openRows a_ages a_lastAct a_lastRead a_lastWrite a_lastPre a_lastRef a_actTimes a_reqAddress a_reqLanes a_reqFetched a_reqPending a_reqSerial bo) b) b ∧ (id = 1 → ¬ sc_wn (sc_ab f_rcd f_rp f_rfc f_cap f_anyAct f_anyRead f_anyWrite f_actNext f_nextSerial f_draining f_clock a_openRows a_ages a_lastAct a_lastRead a_lastWrite a_lastPre a_lastRef a_actTimes a_reqAddress a_reqLanes a_reqFetched a_reqPending a_reqSerial bo) b)) → (∀ x, x < 8 → (th ≤ sc_age (sc_ab f_rcd f_rp f_rfc f_cap f_anyAct f_anyRead f_anyWrite f_actNext f_nextSerial f_draining f_clock a_openRows a_ages a_lastAct a_lastRead a_lastWrite a_lastPre a_lastRef a_actTimes a_reqAddress a_reqLanes a_reqFetched a_reqPending a_reqSerial bo) x ∧ sc_P (sc_ab f_rcd f_rp f_rfc f_cap f_anyAct f_anyRead f_anyWrite f_actNext f_nextSerial f_draining f_clock a_openRows a_ages a_lastAct a_lastRead a_lastWrite a_lastPre a_lastRef a_actTimes a_reqAddress a_reqLanes a_reqFetched a_reqPending a_reqSerial bo) (sc_sk (sc_ab f_rcd f_rp f_rfc f_cap f_anyAct f_anyRead f_anyWrite f_actNext f_nextSerial f_draining f_clock a_openRows a_ages a_lastAct a_lastRead a_lastWrite a_lastPre a_lastRef a_actTimes a_reqAddress a_reqLanes a_reqFetched a_reqPending a_reqSerial bo) x) x ∧ (id = 1 → ¬ sc_wn (sc_ab f_rcd f_rp f_rfc f_cap f_anyAct f_anyRead f_anyWrite f_actNext f_nextSerial f_draining f_clock a_openRows a_ages a_lastAct a_lastRead a_lastWrite a_lastPre a_lastRef a_actTimes a_reqAddress a_reqLanes a_reqFetched a_reqPending a_reqSerial bo) x)) → sc_age (sc_ab f_rcd f_rp f_rfc f_cap f_anyAct f_anyRead f_anyWrite f_actNext f_nextSerial f_draining f_clock a_openRows a_ages a_lastAct a_lastRead a_lastWrite a_lastPre a_lastRef a_actTimes a_reqAddress a_reqLanes a_reqFetched a_reqPending a_reqSerial bo) x ≤ sc_age (sc_ab f_rcd f_rp f_rfc f_cap f_anyAct f_anyRead f_anyWrite f_actNext f_nextSerial f_draining f_clock a_openRows a_ages a_lastAct a_lastRead a_lastWrite a_lastPre a_lastRef a_actTimes a_reqAddress a_reqLanes a_reqFetched a_reqPending a_reqSerial bo) b ∧ (sc_age (sc_ab f_rcd f_rp f_rfc f_cap f_anyAct f_anyRead f_anyWrite f_actNext f_nextSerial f_draining f_clock a_openRows a_ages a_lastAct a_lastRead a_lastWrite a_lastPre a_lastRef a_actTimes a_reqAddress a_reqLanes a_reqFetched a_reqPending a_reqSerial bo) x = sc_age (sc_ab f_rcd f_rp f_rfc f_cap f_anyAct f_anyRead f_anyWrite f_actNext f_nextSerial f_draining f_clock a_openRows a_ages a_lastAct a_lastRead a_lastWrite a_lastPre a_lastRef a_actTimes a_reqAddress a_reqLanes a_reqFetched a_reqPending a_reqSerial bo) b → b ≤ x)) →
      (0 ≤ sc_op (sc_ab f_rcd f_rp f_rfc f_cap f_anyAct f_anyRead f_anyWrite f_actNext f_nextSerial f_draining f_clock a_openRows a_ages a_lastAct a_lastRead a_lastWrite a_lastPre a_lastRef a_actTimes a_reqAddress a_reqLanes a_reqFetched a_reqPending a_reqSerial bo) b → post 1 (f_rcd, f_rp, f_rfc, f_cap, f_refreshSoon, f_refreshMust, f_drainMark, f_requests, f_allLanes, f_slotFree, f_slotWaiting, f_slotReady, f_never, f_anyAct, f_anyRead, f_anyWrite, f_actNext, f_nextSerial, f_writeHead, f_writeCount, f_draining, f_clock, f_mode, f_faults, f_lost, f_retiredReads, a_cells, upd a_openRows b (-1), a_ages, a_lastAct, a_lastRead, a_lastWrite, vp_updL a_lastPre b f_clock, a_lastRef, a_actTimes, a_reqAddress, a_reqLanes, a_reqData, a_reqBase, a_reqFetched, a_reqPending, a_reqBorn, a_reqSerial, a_slotStates)) ∧ (sc_op (sc_ab f_rcd f_rp f_rfc f_cap f_anyAct f_anyRead f_anyWrite f_actNext f_nextSerial f_draining f_clock a_openRows a_ages a_lastAct a_lastRead a_lastWrite a_lastPre a_lastRef a_actTimes a_reqAddress a_reqLanes a_reqFetched a_reqPending a_reqSerial bo) b < 0 → post 1 (f_rcd, f_rp, f_rfc, f_cap, f_refreshSoon, f_refreshMust, f_drainMark, f_requests, f_allLanes, f_slotFree, f_slotWaiting, f_slotReady, f_never, f_anyAct, f_anyRead, f_anyWrite, f_actNext, f_nextSerial, f_writeHead, f_writeCount, f_draining, f_clock, f_mode, f_faults, f_lost, f_retiredReads, a_cells, a_openRows, upd a_ages b 0, a_lastAct, a_lastRead, a_lastWrite, a_lastPre, vp_updL a_lastRef b f_clock, a_actTimes, a_reqAddress, a_reqLanes, a_reqData, a_reqBase, a_reqFetched, a_reqPending, a_reqBorn, a_reqSerial, a_slotStates))) :
    ∀ n j best, j ≤ 8 → 8 - j < n →
    ((best = -1 ∧ ∀ x, x < j → ¬ (th ≤ sc_age (sc_ab f_rcd f_rp f_rfc f_cap f_anyAct f_anyRead f_anyWrite f_actNext f_nextSerial f_draining f_clock a_openRows a_ages a_lastAct a_lastRead a_lastWrite a_lastPre a_lastRef a_actTimes a_reqAddress a_reqLanes a_reqFetched a_reqPending a_reqSerial bo) x ∧ sc_P (sc_ab f_rcd f_rp f_rfc f_cap f_anyAct f_anyRead f_anyWrite f_actNext f_nextSerial f_draining f_clock a_openRows a_ages a_lastAct a_lastRead a_lastWrite a_lastPre a_lastRef a_actTimes a_reqAddress a_reqLanes a_reqFetched a_reqPending a_reqSerial bo) (sc_sk (sc_ab f_rcd f_rp f_rfc f_cap f_anyAct f_anyRead f_anyWrite f_actNext f_nextSerial f_draining f_clock a_openRows a_ages a_lastAct a_lastRead a_lastWrite a_lastPre a_lastRef a_actTimes a_reqAddress a_reqLanes a_reqFetched a_reqPending a_reqSerial bo) x) x ∧ (id = 1 → ¬ sc_wn (sc_ab f_rcd f_rp f_rfc f_cap f_anyAct f_anyRead f_anyWrite f_actNext f_nextSerial f_draining f_clock a_openRows a_ages a_lastAct a_lastRead a_lastWrite a_lastPre a_lastRef a_actTimes a_reqAddress a_reqLanes a_reqFetched a_reqPending a_reqSerial bo) x))) ∨
     (∃ m, best = nI m ∧ m < j ∧ (th ≤ sc_age (sc_ab f_rcd f_rp f_rfc f_cap f_anyAct f_anyRead f_anyWrite f_actNext f_nextSerial f_draining f_clock a_openRows a_ages a_lastAct a_lastRead a_lastWrite a_lastPre a_lastRef a_actTimes a_reqAddress a_reqLanes a_reqFetched a_reqPending a_reqSerial bo) m ∧ sc_P (sc_ab f_rcd f_rp f_rfc f_cap f_anyAct f_anyRead f_anyWrite f_actNext f_nextSerial f_draining f_clock a_openRows a_ages a_lastAct a_lastRead a_lastWrite a_lastPre a_lastRef a_actTimes a_reqAddress a_reqLanes a_reqFetched a_reqPending a_reqSerial bo) (sc_sk (sc_ab f_rcd f_rp f_rfc f_cap f_anyAct f_anyRead f_anyWrite f_actNext f_nextSerial f_draining f_clock a_openRows a_ages a_lastAct a_lastRead a_lastWrite a_lastPre a_lastRef a_actTimes a_reqAddress a_reqLanes a_reqFetched a_reqPending a_reqSerial bo) m) m ∧ (id = 1 → ¬ sc_wn (sc_ab f_rcd f_rp f_rfc f_cap f_anyAct f_anyRead f_anyWrite f_actNext f_nextSerial f_draining f_clock a_openRows a_ages a_lastAct a_lastRead a_lastWrite a_lastPre a_lastRef a_actTimes a_reqAddress a_reqLanes a_reqFetched a_reqPending a_reqSerial bo) m)) ∧ ∀ x, x < j → (th ≤ sc_age (sc_ab f_rcd f_rp f_rfc f_cap f_anyAct f_anyRead f_anyWrite f_actNext f_nextSerial f_draining f_clock a_openRows a_ages a_lastAct a_lastRead a_lastWrite a_lastPre a_lastRef a_actTimes a_reqAddress a_reqLanes a_reqFetched a_reqPending a_reqSerial bo) x ∧ sc_P (sc_ab f_rcd f_rp f_rfc f_cap f_anyAct f_anyRead f_anyWrite f_actNext f_nextSerial f_draining f_clock a_openRows a_ages a_lastAct a_lastRead a_lastWrite a_lastPre a_lastRef a_actTimes a_reqAddress a_reqLanes a_reqFetched a_reqPending a_reqSerial bo) (sc_sk (sc_ab f_rcd f_rp f_rfc f_cap f_anyAct f_anyRead f_anyWrite f_actNext f_nextSerial f_draining f_clock a_openRows a_ages a_lastAct a_lastRead a_lastWrite a_lastPre a_lastRef a_actTimes a_reqAddress a_reqLanes a_reqFetched a_reqPending a_reqSerial bo) x) x ∧ (id = 1 → ¬ sc_wn (sc_ab f_rcd f_rp f_rfc f_cap f_anyAct f_anyRead f_anyWrite f_actNext f_nextSerial f_draining f_clock a_openRows a_ages a_lastAct a_lastRead a_lastWrite a_lastPre a_lastRef a_actTimes a_reqAddress a_reqLanes a_reqFetched a_reqPending a_reqSerial bo) x)) → sc_age (sc_ab f_rcd f_rp f_rfc f_cap f_anyAct f_anyRead f_anyWrite f_actNext f_nextSerial f_draining f_clock a_openRows a_ages a_lastAct a_lastRead a_lastWrite a_lastPre a_lastRef a_actTimes a_reqAddress a_reqLanes a_reqFetched a_reqPending a_reqSerial bo) x ≤ sc_age (sc_ab f_rcd f_rp f_rfc f_cap f_anyAct f_anyRead f_anyWrite f_actNext f_nextSerial f_draining f_clock a_openRows a_ages a_lastAct a_lastRead a_lastWrite a_lastPre a_lastRef a_actTimes a_reqAddress a_reqLanes a_reqFetched a_reqPending a_reqSerial bo) m ∧ (sc_age (sc_ab f_rcd f_rp f_rfc f_cap f_anyAct f_anyRead f_anyWrite f_actNext f_nextSerial f_draining f_clock a_openRows a_ages a_lastAct a_lastRead a_lastWrite a_lastPre a_lastRef a_actTimes a_reqAddress a_reqLanes a_reqFetched a_reqPending a_reqSerial bo) x = sc_age (sc_ab f_rcd f_rp f_rfc f_cap f_anyAct f_anyRead f_anyWrite f_actNext f_nextSerial f_draining f_clock a_openRows a_ages a_lastAct a_lastRead a_lastWrite a_lastPre a_lastRef a_actTimes a_reqAddress a_reqLanes a_reqFetched a_reqPending a_reqSerial bo) m → m ≤ x))) →
    wX_refreshOne_5 post (nI th) (nI id) f_rcd f_rp f_rfc f_cap f_refreshSoon f_refreshMust f_drainMark f_requests f_allLanes f_slotFree f_slotWaiting f_slotReady f_never f_anyAct f_anyRead f_anyWrite f_actNext f_nextSerial f_writeHead f_writeCount f_draining f_clock f_mode f_faults f_lost f_retiredReads a_cells a_openRows a_ages a_lastAct a_lastRead a_lastWrite a_lastPre a_lastRef a_actTimes a_reqAddress a_reqLanes a_reqData a_reqBase a_reqFetched a_reqPending a_reqBorn a_reqSerial a_slotStates n best (nI j)
  | 0, j, _, _, hnn, _ => by omega
  | n + 1, j, best, hj, hnn, hl => by
    have o : ∀ b, ((0 : Int32) ≤ a_openRows b ↔ ¬ sc_op (sc_ab f_rcd f_rp f_rfc f_cap f_anyAct f_anyRead f_anyWrite f_actNext f_nextSerial f_draining f_clock a_openRows a_ages a_lastAct a_lastRead a_lastWrite a_lastPre a_lastRef a_actTimes a_reqAddress a_reqLanes a_reqFetched a_reqPending a_reqSerial bo) b < 0) := by
      intro b
      rw [Int32.le_iff_toInt_le, ab_op]
      have : (0 : Int32).toInt = 0 := by decide
      omega
    unfold wX_refreshOne_5
    by_cases e : j = 8
    · subst e
      refine br_t (by decide) ?_
      rcases hl with ⟨rfl, a⟩ | ⟨m, rfl, l, q, a⟩
      · exact br_f (by decide) (hn a)
      · have em : (nI m).toNatClampNeg = m := nI_clamp (by omega)
        simp only [em]
        refine br_t (nI_pos' (by omega)) ⟨vp_in_nI l (by omega), ?_⟩
        have q2 := q.2.1
        unfold wX_refreshOne_113
        by_cases z : sc_op (sc_ab f_rcd f_rp f_rfc f_cap f_anyAct f_anyRead f_anyWrite f_actNext f_nextSerial f_draining f_clock a_openRows a_ages a_lastAct a_lastRead a_lastWrite a_lastPre a_lastRef a_actTimes a_reqAddress a_reqLanes a_reqFetched a_reqPending a_reqSerial bo) m < 0
        · have sk : sc_sk (sc_ab f_rcd f_rp f_rfc f_cap f_anyAct f_anyRead f_anyWrite f_actNext f_nextSerial f_draining f_clock a_openRows a_ages a_lastAct a_lastRead a_lastWrite a_lastPre a_lastRef a_actTimes a_reqAddress a_reqLanes a_reqFetched a_reqPending a_reqSerial bo) m = 4 := by unfold sc_sk; rw [if_pos z]
          rw [sk] at q2
          exact br_f (fun y => (o m).mp y z) (xw_dREF l w rg an z q2 ((hs m l q a).2 z))
        · have sk : sc_sk (sc_ab f_rcd f_rp f_rfc f_cap f_anyAct f_anyRead f_anyWrite f_actNext f_nextSerial f_draining f_clock a_openRows a_ages a_lastAct a_lastRead a_lastWrite a_lastPre a_lastRef a_actTimes a_reqAddress a_reqLanes a_reqFetched a_reqPending a_reqSerial bo) m = 3 := by unfold sc_sk; rw [if_neg z]
          rw [sk] at q2
          exact br_t ((o m).mpr z) (xw_dPRE l w rg an (by omega) q2 ((hs m l q a).1 (by omega)))
    · have lt : j < 8 := by omega
      have ej : (nI j).toNatClampNeg = j := nI_clamp (by omega)
      have vj : vp_in (nI j) 8 := vp_in_nI lt (by omega)
      have ag : a_ages j < nI th ↔ sc_age (sc_ab f_rcd f_rp f_rfc f_cap f_anyAct f_anyRead f_anyWrite f_actNext f_nextSerial f_draining f_clock a_openRows a_ages a_lastAct a_lastRead a_lastWrite a_lastPre a_lastRef a_actTimes a_reqAddress a_reqLanes a_reqFetched a_reqPending a_reqSerial bo) j < th := by rw [Int32.lt_iff_toInt_lt, nI_toInt (by omega), ab_age]
      have skip : ¬ (th ≤ sc_age (sc_ab f_rcd f_rp f_rfc f_cap f_anyAct f_anyRead f_anyWrite f_actNext f_nextSerial f_draining f_clock a_openRows a_ages a_lastAct a_lastRead a_lastWrite a_lastPre a_lastRef a_actTimes a_reqAddress a_reqLanes a_reqFetched a_reqPending a_reqSerial bo) j ∧ sc_P (sc_ab f_rcd f_rp f_rfc f_cap f_anyAct f_anyRead f_anyWrite f_actNext f_nextSerial f_draining f_clock a_openRows a_ages a_lastAct a_lastRead a_lastWrite a_lastPre a_lastRef a_actTimes a_reqAddress a_reqLanes a_reqFetched a_reqPending a_reqSerial bo) (sc_sk (sc_ab f_rcd f_rp f_rfc f_cap f_anyAct f_anyRead f_anyWrite f_actNext f_nextSerial f_draining f_clock a_openRows a_ages a_lastAct a_lastRead a_lastWrite a_lastPre a_lastRef a_actTimes a_reqAddress a_reqLanes a_reqFetched a_reqPending a_reqSerial bo) j) j ∧ (id = 1 → ¬ sc_wn (sc_ab f_rcd f_rp f_rfc f_cap f_anyAct f_anyRead f_anyWrite f_actNext f_nextSerial f_draining f_clock a_openRows a_ages a_lastAct a_lastRead a_lastWrite a_lastPre a_lastRef a_actTimes a_reqAddress a_reqLanes a_reqFetched a_reqPending a_reqSerial bo) j)) ∨ (∃ m, best = nI m ∧ m < j ∧ sc_age (sc_ab f_rcd f_rp f_rfc f_cap f_anyAct f_anyRead f_anyWrite f_actNext f_nextSerial f_draining f_clock a_openRows a_ages a_lastAct a_lastRead a_lastWrite a_lastPre a_lastRef a_actTimes a_reqAddress a_reqLanes a_reqFetched a_reqPending a_reqSerial bo) j ≤ sc_age (sc_ab f_rcd f_rp f_rfc f_cap f_anyAct f_anyRead f_anyWrite f_actNext f_nextSerial f_draining f_clock a_openRows a_ages a_lastAct a_lastRead a_lastWrite a_lastPre a_lastRef a_actTimes a_reqAddress a_reqLanes a_reqFetched a_reqPending a_reqSerial bo) m) → wX_refreshOne_5 post (nI th) (nI id) f_rcd f_rp f_rfc f_cap f_refreshSoon f_refreshMust f_drainMark f_requests f_allLanes f_slotFree f_slotWaiting f_slotReady f_never f_anyAct f_anyRead f_anyWrite f_actNext f_nextSerial f_writeHead f_writeCount f_draining f_clock f_mode f_faults f_lost f_retiredReads a_cells a_openRows a_ages a_lastAct a_lastRead a_lastWrite a_lastPre a_lastRef a_actTimes a_reqAddress a_reqLanes a_reqData a_reqBase a_reqFetched a_reqPending a_reqBorn a_reqSerial a_slotStates n best (nI (j + 1)) := by
        intro y
        refine xw_ref_l hth hid w rg an hn hs n (j + 1) best lt (by omega) ?_
        rcases hl with ⟨r, a⟩ | ⟨m, r, l, q, a⟩
        · refine .inl ⟨r, fun x hx => ?_⟩
          by_cases z : x = j
          · rw [z]
            rcases y with y | ⟨m, rm, lm, -⟩
            · exact y
            · rw [r] at rm
              have : (nI m).toInt = (-1 : Int32).toInt := by rw [← rm]
              rw [nI_toInt (by omega)] at this
              have : (-1 : Int32).toInt = -1 := by decide
              omega
          · exact a x (by omega)
        · refine .inr ⟨m, r, by omega, q, fun x hx qx => ?_⟩
          by_cases z : x = j
          · subst z
            rcases y with y | ⟨m', rm, lm', la⟩
            · exact absurd qx y
            · rw [r, nI_eq (by omega) (by omega)] at rm
              subst rm
              exact ⟨la, fun _ => by omega⟩
          · exact a x (by omega) qx
      have take : (th ≤ sc_age (sc_ab f_rcd f_rp f_rfc f_cap f_anyAct f_anyRead f_anyWrite f_actNext f_nextSerial f_draining f_clock a_openRows a_ages a_lastAct a_lastRead a_lastWrite a_lastPre a_lastRef a_actTimes a_reqAddress a_reqLanes a_reqFetched a_reqPending a_reqSerial bo) j ∧ sc_P (sc_ab f_rcd f_rp f_rfc f_cap f_anyAct f_anyRead f_anyWrite f_actNext f_nextSerial f_draining f_clock a_openRows a_ages a_lastAct a_lastRead a_lastWrite a_lastPre a_lastRef a_actTimes a_reqAddress a_reqLanes a_reqFetched a_reqPending a_reqSerial bo) (sc_sk (sc_ab f_rcd f_rp f_rfc f_cap f_anyAct f_anyRead f_anyWrite f_actNext f_nextSerial f_draining f_clock a_openRows a_ages a_lastAct a_lastRead a_lastWrite a_lastPre a_lastRef a_actTimes a_reqAddress a_reqLanes a_reqFetched a_reqPending a_reqSerial bo) j) j ∧ (id = 1 → ¬ sc_wn (sc_ab f_rcd f_rp f_rfc f_cap f_anyAct f_anyRead f_anyWrite f_actNext f_nextSerial f_draining f_clock a_openRows a_ages a_lastAct a_lastRead a_lastWrite a_lastPre a_lastRef a_actTimes a_reqAddress a_reqLanes a_reqFetched a_reqPending a_reqSerial bo) j)) → (best = -1 ∨ ∃ m, best = nI m ∧ m < j ∧ sc_age (sc_ab f_rcd f_rp f_rfc f_cap f_anyAct f_anyRead f_anyWrite f_actNext f_nextSerial f_draining f_clock a_openRows a_ages a_lastAct a_lastRead a_lastWrite a_lastPre a_lastRef a_actTimes a_reqAddress a_reqLanes a_reqFetched a_reqPending a_reqSerial bo) m < sc_age (sc_ab f_rcd f_rp f_rfc f_cap f_anyAct f_anyRead f_anyWrite f_actNext f_nextSerial f_draining f_clock a_openRows a_ages a_lastAct a_lastRead a_lastWrite a_lastPre a_lastRef a_actTimes a_reqAddress a_reqLanes a_reqFetched a_reqPending a_reqSerial bo) j) → wX_refreshOne_5 post (nI th) (nI id) f_rcd f_rp f_rfc f_cap f_refreshSoon f_refreshMust f_drainMark f_requests f_allLanes f_slotFree f_slotWaiting f_slotReady f_never f_anyAct f_anyRead f_anyWrite f_actNext f_nextSerial f_writeHead f_writeCount f_draining f_clock f_mode f_faults f_lost f_retiredReads a_cells a_openRows a_ages a_lastAct a_lastRead a_lastWrite a_lastPre a_lastRef a_actTimes a_reqAddress a_reqLanes a_reqData a_reqBase a_reqFetched a_reqPending a_reqBorn a_reqSerial a_slotStates n (nI j) (nI (j + 1)) := by
        intro qj y
        refine xw_ref_l hth hid w rg an hn hs n (j + 1) (nI j) lt (by omega) (.inr ⟨j, rfl, by omega, qj, fun x hx qx => ?_⟩)
        by_cases z : x = j
        · rw [z]; exact ⟨Int.le_refl _, fun _ => Nat.le_refl _⟩
        · rcases hl with ⟨r, a⟩ | ⟨m, r, l, q, a⟩
          · exact absurd qx (a x (by omega))
          · have := (a x (by omega) qx).1
            rcases y with y | ⟨m', rm, lm', la⟩
            · rw [r] at y
              have : (nI m).toInt = (-1 : Int32).toInt := by rw [y]
              rw [nI_toInt (by omega)] at this
              have : (-1 : Int32).toInt = -1 := by decide
              omega
            · rw [r, nI_eq (by omega) (by omega)] at rm
              subst rm
              exact ⟨by omega, fun _ => by omega⟩
      have body : th ≤ sc_age (sc_ab f_rcd f_rp f_rfc f_cap f_anyAct f_anyRead f_anyWrite f_actNext f_nextSerial f_draining f_clock a_openRows a_ages a_lastAct a_lastRead a_lastWrite a_lastPre a_lastRef a_actTimes a_reqAddress a_reqLanes a_reqFetched a_reqPending a_reqSerial bo) j → (best = -1 ∨ ∃ m, best = nI m ∧ m < j ∧ sc_age (sc_ab f_rcd f_rp f_rfc f_cap f_anyAct f_anyRead f_anyWrite f_actNext f_nextSerial f_draining f_clock a_openRows a_ages a_lastAct a_lastRead a_lastWrite a_lastPre a_lastRef a_actTimes a_reqAddress a_reqLanes a_reqFetched a_reqPending a_reqSerial bo) m < sc_age (sc_ab f_rcd f_rp f_rfc f_cap f_anyAct f_anyRead f_anyWrite f_actNext f_nextSerial f_draining f_clock a_openRows a_ages a_lastAct a_lastRead a_lastWrite a_lastPre a_lastRef a_actTimes a_reqAddress a_reqLanes a_reqFetched a_reqPending a_reqSerial bo) j) → wX_refreshOne_43 post (wX_refreshOne_5 post (nI th) (nI id) f_rcd f_rp f_rfc f_cap f_refreshSoon f_refreshMust f_drainMark f_requests f_allLanes f_slotFree f_slotWaiting f_slotReady f_never f_anyAct f_anyRead f_anyWrite f_actNext f_nextSerial f_writeHead f_writeCount f_draining f_clock f_mode f_faults f_lost f_retiredReads a_cells a_openRows a_ages a_lastAct a_lastRead a_lastWrite a_lastPre a_lastRef a_actTimes a_reqAddress a_reqLanes a_reqData a_reqBase a_reqFetched a_reqPending a_reqBorn a_reqSerial a_slotStates n) (nI th) (nI id) best (nI j) f_rcd f_rp f_rfc f_cap f_refreshSoon f_refreshMust f_drainMark f_requests f_allLanes f_slotFree f_slotWaiting f_slotReady f_never f_anyAct f_anyRead f_anyWrite f_actNext f_nextSerial f_writeHead f_writeCount f_draining f_clock f_mode f_faults f_lost f_retiredReads a_cells a_openRows a_ages a_lastAct a_lastRead a_lastWrite a_lastPre a_lastRef a_actTimes a_reqAddress a_reqLanes a_reqData a_reqBase a_reqFetched a_reqPending a_reqBorn a_reqSerial a_slotStates := by
        intro ta y
        unfold wX_refreshOne_43
        simp only [ej]
        have ask : ∀ k, k = sc_sk (sc_ab f_rcd f_rp f_rfc f_cap f_anyAct f_anyRead f_anyWrite f_actNext f_nextSerial f_draining f_clock a_openRows a_ages a_lastAct a_lastRead a_lastWrite a_lastPre a_lastRef a_actTimes a_reqAddress a_reqLanes a_reqFetched a_reqPending a_reqSerial bo) j → wX_refreshOne_58 post (wX_refreshOne_5 post (nI th) (nI id) f_rcd f_rp f_rfc f_cap f_refreshSoon f_refreshMust f_drainMark f_requests f_allLanes f_slotFree f_slotWaiting f_slotReady f_never f_anyAct f_anyRead f_anyWrite f_actNext f_nextSerial f_writeHead f_writeCount f_draining f_clock f_mode f_faults f_lost f_retiredReads a_cells a_openRows a_ages a_lastAct a_lastRead a_lastWrite a_lastPre a_lastRef a_actTimes a_reqAddress a_reqLanes a_reqData a_reqBase a_reqFetched a_reqPending a_reqBorn a_reqSerial a_slotStates n) (nI th) (nI id) best (nI j) (nI k) f_rcd f_rp f_rfc f_cap f_refreshSoon f_refreshMust f_drainMark f_requests f_allLanes f_slotFree f_slotWaiting f_slotReady f_never f_anyAct f_anyRead f_anyWrite f_actNext f_nextSerial f_writeHead f_writeCount f_draining f_clock f_mode f_faults f_lost f_retiredReads a_cells a_openRows a_ages a_lastAct a_lastRead a_lastWrite a_lastPre a_lastRef a_actTimes a_reqAddress a_reqLanes a_reqData a_reqBase a_reqFetched a_reqPending a_reqBorn a_reqSerial a_slotStates := by
          intro k hk
          unfold wX_refreshOne_58
          have k5 : k < 5 := by rw [hk]; unfold sc_sk; split <;> decide
          refine xw_perm k5 lt w rg an (fun p => br_f (by decide) ?_) (fun p => br_t (by decide) (nm_r (nI_1 j) (skip (.inl (fun z => p (by rw [hk]; exact z.2.1))))))
          rw [hk] at p
          have i0 : nI id = 0 ↔ id = 0 := by rw [show (0 : Int32) = nI 0 by decide, nI_eq (by omega) (by omega)]
          refine br_c (fun z => nm_r (nI_1 j) (take ⟨ta, p, fun i1 => by have := i0.mp z; omega⟩ y)) (fun z => ?_)
          exact xw_wanted lt rg (fun wn => br_f (by decide) (nm_r (nI_1 j) (skip (.inl (fun q => q.2.2 (by have : id ≠ 0 := fun z2 => z (i0.mpr z2); omega) wn))))) (fun wn => br_t (by decide) (nm_r (nI_1 j) (take ⟨ta, p, fun _ => wn⟩ y)))
        refine ⟨vj, ?_⟩
        by_cases z : sc_op (sc_ab f_rcd f_rp f_rfc f_cap f_anyAct f_anyRead f_anyWrite f_actNext f_nextSerial f_draining f_clock a_openRows a_ages a_lastAct a_lastRead a_lastWrite a_lastPre a_lastRef a_actTimes a_reqAddress a_reqLanes a_reqFetched a_reqPending a_reqSerial bo) j < 0
        · exact br_f (fun y => (o j).mp y z) (ask 4 (by unfold sc_sk; rw [if_pos z]))
        · exact br_t ((o j).mpr z) (ask 3 (by unfold sc_sk; rw [if_neg z]))
      simp only [ej]
      refine br_f (nI_ge (b := 8) lt (by decide)) ⟨vj, br_c (fun z => nm_r (nI_1 j) (skip (.inl (fun q => by have := ag.mp z; omega)))) (fun z => ?_)⟩
      have ta : (th : Int) ≤ sc_age (sc_ab f_rcd f_rp f_rfc f_cap f_anyAct f_anyRead f_anyWrite f_actNext f_nextSerial f_draining f_clock a_openRows a_ages a_lastAct a_lastRead a_lastWrite a_lastPre a_lastRef a_actTimes a_reqAddress a_reqLanes a_reqFetched a_reqPending a_reqSerial bo) j := by
        rcases Int.lt_or_le (sc_age (sc_ab f_rcd f_rp f_rfc f_cap f_anyAct f_anyRead f_anyWrite f_actNext f_nextSerial f_draining f_clock a_openRows a_ages a_lastAct a_lastRead a_lastWrite a_lastPre a_lastRef a_actTimes a_reqAddress a_reqLanes a_reqFetched a_reqPending a_reqSerial bo) j) th with y | y
        · exact absurd (ag.mpr y) z
        · exact y
      rcases hl with ⟨r, a⟩ | ⟨m, r, l, q, a⟩
      · rw [r]
        refine br_t (by decide) ?_
        have := body ta (.inl r)
        rw [r] at this; exact this
      · have em : (nI m).toNatClampNeg = m := nI_clamp (by omega)
        have le : a_ages j ≤ a_ages m ↔ sc_age (sc_ab f_rcd f_rp f_rfc f_cap f_anyAct f_anyRead f_anyWrite f_actNext f_nextSerial f_draining f_clock a_openRows a_ages a_lastAct a_lastRead a_lastWrite a_lastPre a_lastRef a_actTimes a_reqAddress a_reqLanes a_reqFetched a_reqPending a_reqSerial bo) j ≤ sc_age (sc_ab f_rcd f_rp f_rfc f_cap f_anyAct f_anyRead f_anyWrite f_actNext f_nextSerial f_draining f_clock a_openRows a_ages a_lastAct a_lastRead a_lastWrite a_lastPre a_lastRef a_actTimes a_reqAddress a_reqLanes a_reqFetched a_reqPending a_reqSerial bo) m := Int32.le_iff_toInt_le
        rw [r]
        simp only [em]
        refine br_f (nI_pos (by omega)) ⟨vj, vp_in_nI (by omega) (by omega), br_c (fun y => ?_) (fun y => ?_)⟩
        · have := skip (.inr ⟨m, r, l, le.mp y⟩)
          rw [r] at this
          exact nm_r (nI_1 j) this
        · have := body ta (.inr ⟨m, r, l, by
            rcases Int.lt_or_le (sc_age (sc_ab f_rcd f_rp f_rfc f_cap f_anyAct f_anyRead f_anyWrite f_actNext f_nextSerial f_draining f_clock a_openRows a_ages a_lastAct a_lastRead a_lastWrite a_lastPre a_lastRef a_actTimes a_reqAddress a_reqLanes a_reqFetched a_reqPending a_reqSerial bo) m) (sc_age (sc_ab f_rcd f_rp f_rfc f_cap f_anyAct f_anyRead f_anyWrite f_actNext f_nextSerial f_draining f_clock a_openRows a_ages a_lastAct a_lastRead a_lastWrite a_lastPre a_lastRef a_actTimes a_reqAddress a_reqLanes a_reqFetched a_reqPending a_reqSerial bo) j) with x | x
            · exact x
            · exact absurd (le.mpr x) y⟩)
          rw [r] at this; exact this
theorem xw_refresh {post : Int32 → SX → Prop} {th id : Nat} (hth : th < 1000) (hid : id < 2) (w : sc_W (sc_ab f_rcd f_rp f_rfc f_cap f_anyAct f_anyRead f_anyWrite f_actNext f_nextSerial f_draining f_clock a_openRows a_ages a_lastAct a_lastRead a_lastWrite a_lastPre a_lastRef a_actTimes a_reqAddress a_reqLanes a_reqFetched a_reqPending a_reqSerial bo)) (rg : sc_Rg (sc_ab f_rcd f_rp f_rfc f_cap f_anyAct f_anyRead f_anyWrite f_actNext f_nextSerial f_draining f_clock a_openRows a_ages a_lastAct a_lastRead a_lastWrite a_lastPre a_lastRef a_actTimes a_reqAddress a_reqLanes a_reqFetched a_reqPending a_reqSerial bo)) (an : vp_in f_actNext 4)
    (hn : (∀ x, x < 8 → ¬ (th ≤ sc_age (sc_ab f_rcd f_rp f_rfc f_cap f_anyAct f_anyRead f_anyWrite f_actNext f_nextSerial f_draining f_clock a_openRows a_ages a_lastAct a_lastRead a_lastWrite a_lastPre a_lastRef a_actTimes a_reqAddress a_reqLanes a_reqFetched a_reqPending a_reqSerial bo) x ∧ sc_P (sc_ab f_rcd f_rp f_rfc f_cap f_anyAct f_anyRead f_anyWrite f_actNext f_nextSerial f_draining f_clock a_openRows a_ages a_lastAct a_lastRead a_lastWrite a_lastPre a_lastRef a_actTimes a_reqAddress a_reqLanes a_reqFetched a_reqPending a_reqSerial bo) (sc_sk (sc_ab f_rcd f_rp f_rfc f_cap f_anyAct f_anyRead f_anyWrite f_actNext f_nextSerial f_draining f_clock a_openRows a_ages a_lastAct a_lastRead a_lastWrite a_lastPre a_lastRef a_actTimes a_reqAddress a_reqLanes a_reqFetched a_reqPending a_reqSerial bo) x) x ∧ (id = 1 → ¬ sc_wn (sc_ab f_rcd f_rp f_rfc f_cap f_anyAct f_anyRead f_anyWrite f_actNext f_nextSerial f_draining f_clock a_openRows a_ages a_lastAct a_lastRead a_lastWrite a_lastPre a_lastRef a_actTimes a_reqAddress a_reqLanes a_reqFetched a_reqPending a_reqSerial bo) x))) → post 0 (f_rcd, f_rp, f_rfc, f_cap, f_refreshSoon, f_refreshMust, f_drainMark, f_requests, f_allLanes, f_slotFree, f_slotWaiting, f_slotReady, f_never, f_anyAct, f_anyRead, f_anyWrite, f_actNext, f_nextSerial, f_writeHead, f_writeCount, f_draining, f_clock, f_mode, f_faults, f_lost, f_retiredReads, a_cells, a_openRows, a_ages, a_lastAct, a_lastRead, a_lastWrite, a_lastPre, a_lastRef, a_actTimes, a_reqAddress, a_reqLanes, a_reqData, a_reqBase, a_reqFetched, a_reqPending, a_reqBorn, a_reqSerial, a_slotStates))
    (hs : ∀ b, b < 8 → (th ≤ sc_age (sc_ab f_rcd f_rp f_rfc f_cap f_anyAct f_anyRead f_anyWrite f_actNext f_nextSerial f_draining f_clock a_openRows a_ages a_lastAct a_lastRead a_lastWrite a_lastPre a_lastRef a_actTimes a_reqAddress a_reqLanes a_reqFetched a_reqPending a_reqSerial bo) b ∧ sc_P (sc_ab f_rcd f_rp f_rfc f_cap f_anyAct f_anyRead f_anyWrite f_actNext f_nextSerial f_draining f_clock a_openRows a_ages a_lastAct a_lastRead a_lastWrite a_lastPre a_lastRef a_actTimes a_reqAddress a_reqLanes a_reqFetched a_reqPending a_reqSerial bo) (sc_sk (sc_ab f_rcd f_rp f_rfc f_cap f_anyAct f_anyRead f_anyWrite f_actNext f_nextSerial f_draining f_clock a_openRows a_ages a_lastAct a_lastRead a_lastWrite a_lastPre a_lastRef a_actTimes a_reqAddress a_reqLanes a_reqFetched a_reqPending a_reqSerial bo) b) b ∧ (id = 1 → ¬ sc_wn (sc_ab f_rcd f_rp f_rfc f_cap f_anyAct f_anyRead f_anyWrite f_actNext f_nextSerial f_draining f_clock a_openRows a_ages a_lastAct a_lastRead a_lastWrite a_lastPre a_lastRef a_actTimes a_reqAddress a_reqLanes a_reqFetched a_reqPending a_reqSerial bo) b)) → (∀ x, x < 8 → (th ≤ sc_age (sc_ab f_rcd f_rp f_rfc f_cap f_anyAct f_anyRead f_anyWrite f_actNext f_nextSerial f_draining f_clock a_openRows a_ages a_lastAct a_lastRead a_lastWrite a_lastPre a_lastRef a_actTimes a_reqAddress a_reqLanes a_reqFetched a_reqPending a_reqSerial bo) x ∧ sc_P (sc_ab f_rcd f_rp f_rfc f_cap f_anyAct f_anyRead f_anyWrite f_actNext f_nextSerial f_draining f_clock a_openRows a_ages a_lastAct a_lastRead a_lastWrite a_lastPre a_lastRef a_actTimes a_reqAddress a_reqLanes a_reqFetched a_reqPending a_reqSerial bo) (sc_sk (sc_ab f_rcd f_rp f_rfc f_cap f_anyAct f_anyRead f_anyWrite f_actNext f_nextSerial f_draining f_clock a_openRows a_ages a_lastAct a_lastRead a_lastWrite a_lastPre a_lastRef a_actTimes a_reqAddress a_reqLanes a_reqFetched a_reqPending a_reqSerial bo) x) x ∧ (id = 1 → ¬ sc_wn (sc_ab f_rcd f_rp f_rfc f_cap f_anyAct f_anyRead f_anyWrite f_actNext f_nextSerial f_draining f_clock a_openRows a_ages a_lastAct a_lastRead a_lastWrite a_lastPre a_lastRef a_actTimes a_reqAddress a_reqLanes a_reqFetched a_reqPending a_reqSerial bo) x)) → sc_age (sc_ab f_rcd f_rp f_rfc f_cap f_anyAct f_anyRead f_anyWrite f_actNext f_nextSerial f_draining f_clock a_openRows a_ages a_lastAct a_lastRead a_lastWrite a_lastPre a_lastRef a_actTimes a_reqAddress a_reqLanes a_reqFetched a_reqPending a_reqSerial bo) x ≤ sc_age (sc_ab f_rcd f_rp f_rfc f_cap f_anyAct f_anyRead f_anyWrite f_actNext f_nextSerial f_draining f_clock a_openRows a_ages a_lastAct a_lastRead a_lastWrite a_lastPre a_lastRef a_actTimes a_reqAddress a_reqLanes a_reqFetched a_reqPending a_reqSerial bo) b ∧ (sc_age (sc_ab f_rcd f_rp f_rfc f_cap f_anyAct f_anyRead f_anyWrite f_actNext f_nextSerial f_draining f_clock a_openRows a_ages a_lastAct a_lastRead a_lastWrite a_lastPre a_lastRef a_actTimes a_reqAddress a_reqLanes a_reqFetched a_reqPending a_reqSerial bo) x = sc_age (sc_ab f_rcd f_rp f_rfc f_cap f_anyAct f_anyRead f_anyWrite f_actNext f_nextSerial f_draining f_clock a_openRows a_ages a_lastAct a_lastRead a_lastWrite a_lastPre a_lastRef a_actTimes a_reqAddress a_reqLanes a_reqFetched a_reqPending a_reqSerial bo) b → b ≤ x)) →
      (0 ≤ sc_op (sc_ab f_rcd f_rp f_rfc f_cap f_anyAct f_anyRead f_anyWrite f_actNext f_nextSerial f_draining f_clock a_openRows a_ages a_lastAct a_lastRead a_lastWrite a_lastPre a_lastRef a_actTimes a_reqAddress a_reqLanes a_reqFetched a_reqPending a_reqSerial bo) b → post 1 (f_rcd, f_rp, f_rfc, f_cap, f_refreshSoon, f_refreshMust, f_drainMark, f_requests, f_allLanes, f_slotFree, f_slotWaiting, f_slotReady, f_never, f_anyAct, f_anyRead, f_anyWrite, f_actNext, f_nextSerial, f_writeHead, f_writeCount, f_draining, f_clock, f_mode, f_faults, f_lost, f_retiredReads, a_cells, upd a_openRows b (-1), a_ages, a_lastAct, a_lastRead, a_lastWrite, vp_updL a_lastPre b f_clock, a_lastRef, a_actTimes, a_reqAddress, a_reqLanes, a_reqData, a_reqBase, a_reqFetched, a_reqPending, a_reqBorn, a_reqSerial, a_slotStates)) ∧ (sc_op (sc_ab f_rcd f_rp f_rfc f_cap f_anyAct f_anyRead f_anyWrite f_actNext f_nextSerial f_draining f_clock a_openRows a_ages a_lastAct a_lastRead a_lastWrite a_lastPre a_lastRef a_actTimes a_reqAddress a_reqLanes a_reqFetched a_reqPending a_reqSerial bo) b < 0 → post 1 (f_rcd, f_rp, f_rfc, f_cap, f_refreshSoon, f_refreshMust, f_drainMark, f_requests, f_allLanes, f_slotFree, f_slotWaiting, f_slotReady, f_never, f_anyAct, f_anyRead, f_anyWrite, f_actNext, f_nextSerial, f_writeHead, f_writeCount, f_draining, f_clock, f_mode, f_faults, f_lost, f_retiredReads, a_cells, a_openRows, upd a_ages b 0, a_lastAct, a_lastRead, a_lastWrite, a_lastPre, vp_updL a_lastRef b f_clock, a_actTimes, a_reqAddress, a_reqLanes, a_reqData, a_reqBase, a_reqFetched, a_reqPending, a_reqBorn, a_reqSerial, a_slotStates))) : wpX_refreshOne post (f_rcd, f_rp, f_rfc, f_cap, f_refreshSoon, f_refreshMust, f_drainMark, f_requests, f_allLanes, f_slotFree, f_slotWaiting, f_slotReady, f_never, f_anyAct, f_anyRead, f_anyWrite, f_actNext, f_nextSerial, f_writeHead, f_writeCount, f_draining, f_clock, f_mode, f_faults, f_lost, f_retiredReads, a_cells, a_openRows, a_ages, a_lastAct, a_lastRead, a_lastWrite, a_lastPre, a_lastRef, a_actTimes, a_reqAddress, a_reqLanes, a_reqData, a_reqBase, a_reqFetched, a_reqPending, a_reqBorn, a_reqSerial, a_slotStates) (nI th) (nI id) :=
  ⟨9, xw_ref_l hth hid w rg an hn hs 9 0 (-1) (by omega) (by omega) (.inl ⟨rfl, fun x hx => by omega⟩)⟩
end
end
section
theorem xb_nar0 : vp_nar .boolean 0 = 0 := rfl
theorem xb_nar1 : vp_nar .boolean 1 = 1 := rfl
/-- marks set in the ring of writes -/
def xf_sh (pd ad a : Nat → Int32) (A v : Int32) (j : Nat) : Nat → Int32 := fun q => if 6 ≤ q ∧ q < j ∧ pd q ≠ 0 ∧ ad q = A then v else a q
/-- reads served -/
def xf_rp (pd ad : Nat → Int32) (A : Int32) (j : Nat) : Nat → Int32 := fun q => if q < j ∧ pd q ≠ 0 ∧ ad q = A then 0 else pd q
def xf_rd (pd ad ln dt : Nat → Int32) (A word : Int32) (j : Nat) : Nat → Int32 := fun q => if q < j ∧ pd q ≠ 0 ∧ ad q = A then (word &&& (ln q ^^^ (-1))) ||| dt q else dt q
theorem xf_sh_6 (pd ad a : Nat → Int32) (A v : Int32) : xf_sh pd ad a A v 6 = a := by
  funext q; unfold xf_sh; rw [if_neg (by omega)]
theorem xf_sh_t {pd ad a : Nat → Int32} {A v : Int32} {j : Nat} (h6 : 6 ≤ j) (hp : pd j ≠ 0) (ha : ad j = A) : upd (xf_sh pd ad a A v j) j v = xf_sh pd ad a A v (j + 1) := by
  funext q
  unfold upd xf_sh
  by_cases e : q = j
  · subst e; rw [if_pos rfl, if_pos ⟨h6, by omega, hp, ha⟩]
  · rw [if_neg e]
    by_cases c : 6 ≤ q ∧ q < j ∧ pd q ≠ 0 ∧ ad q = A
    · rw [if_pos c, if_pos ⟨c.1, by omega, c.2.2⟩]
    · rw [if_neg c, if_neg (fun d => c ⟨d.1, by omega, d.2.2⟩)]
theorem xf_sh_f {pd ad a : Nat → Int32} {A v : Int32} {j : Nat} (h : pd j = 0 ∨ ad j ≠ A) : xf_sh pd ad a A v j = xf_sh pd ad a A v (j + 1) := by
  funext q
  unfold xf_sh
  by_cases c : 6 ≤ q ∧ q < j ∧ pd q ≠ 0 ∧ ad q = A
  · rw [if_pos c, if_pos ⟨c.1, by omega, c.2.2⟩]
  · rw [if_neg c, if_neg]
    intro d
    by_cases e : q = j
    · subst e
      rcases h with h | h
      · exact d.2.2.1 h
      · exact h d.2.2.2
    · exact c ⟨d.1, by omega, d.2.2⟩
theorem xf_rp_0 (pd ad : Nat → Int32) (A : Int32) : xf_rp pd ad A 0 = pd := by
  funext q; unfold xf_rp; rw [if_neg (by omega)]
theorem xf_rd_0 (pd ad ln dt : Nat → Int32) (A word : Int32) : xf_rd pd ad ln dt A word 0 = dt := by
  funext q; unfold xf_rd; rw [if_neg (by omega)]
theorem xf_rp_at {pd ad : Nat → Int32} {A : Int32} {j : Nat} : xf_rp pd ad A j j = pd j := by unfold xf_rp; rw [if_neg (by omega)]
theorem xf_rd_at {pd ad ln dt : Nat → Int32} {A word : Int32} {j : Nat} : xf_rd pd ad ln dt A word j j = dt j := by unfold xf_rd; rw [if_neg (by omega)]
theorem xf_rp_t {pd ad : Nat → Int32} {A : Int32} {j : Nat} (hp : pd j ≠ 0) (ha : ad j = A) : upd (xf_rp pd ad A j) j 0 = xf_rp pd ad A (j + 1) := by
  funext q
  unfold upd xf_rp
  by_cases e : q = j
  · subst e; rw [if_pos rfl, if_pos ⟨by omega, hp, ha⟩]
  · rw [if_neg e]
    by_cases c : q < j ∧ pd q ≠ 0 ∧ ad q = A
    · rw [if_pos c, if_pos ⟨by omega, c.2⟩]
    · rw [if_neg c, if_neg (fun d => c ⟨by omega, d.2⟩)]
theorem xf_rd_t {pd ad ln dt : Nat → Int32} {A word : Int32} {j : Nat} (hp : pd j ≠ 0) (ha : ad j = A) : upd (xf_rd pd ad ln dt A word j) j ((word &&& (ln j ^^^ (-1))) ||| dt j) = xf_rd pd ad ln dt A word (j + 1) := by
  funext q
  unfold upd xf_rd
  by_cases e : q = j
  · subst e; rw [if_pos rfl, if_pos ⟨by omega, hp, ha⟩]
  · rw [if_neg e]
    by_cases c : q < j ∧ pd q ≠ 0 ∧ ad q = A
    · rw [if_pos c, if_pos ⟨by omega, c.2⟩]
    · rw [if_neg c, if_neg (fun d => c ⟨by omega, d.2⟩)]
theorem xf_rp_f {pd ad : Nat → Int32} {A : Int32} {j : Nat} (h : pd j = 0 ∨ ad j ≠ A) : xf_rp pd ad A j = xf_rp pd ad A (j + 1) := by
  funext q
  unfold xf_rp
  by_cases c : q < j ∧ pd q ≠ 0 ∧ ad q = A
  · rw [if_pos c, if_pos ⟨by omega, c.2⟩]
  · rw [if_neg c, if_neg]
    intro d
    by_cases e : q = j
    · subst e
      rcases h with h | h
      · exact d.2.1 h
      · exact h d.2.2
    · exact c ⟨by omega, d.2⟩
theorem xf_rd_f {pd ad ln dt : Nat → Int32} {A word : Int32} {j : Nat} (h : pd j = 0 ∨ ad j ≠ A) : xf_rd pd ad ln dt A word j = xf_rd pd ad ln dt A word (j + 1) := by
  funext q
  unfold xf_rd
  by_cases c : q < j ∧ pd q ≠ 0 ∧ ad q = A
  · rw [if_pos c, if_pos ⟨by omega, c.2⟩]
  · rw [if_neg c, if_neg]
    intro d
    by_cases e : q = j
    · subst e
      rcases h with h | h
      · exact d.2.1 h
      · exact h d.2.2
    · exact c ⟨by omega, d.2⟩
section
variable {f_rcd f_rp f_rfc f_cap f_refreshSoon f_refreshMust f_drainMark f_requests f_allLanes f_slotFree f_slotWaiting f_slotReady f_actNext f_writeHead f_writeCount f_draining f_mode f_faults f_lost f_retiredReads : Int32} {f_never f_anyAct f_anyRead f_anyWrite f_nextSerial f_clock : Int64} {a_cells a_openRows a_ages a_reqAddress a_reqLanes a_reqData a_reqBase a_reqFetched a_reqPending a_slotStates : (Nat → Int32)} {a_lastAct a_lastRead a_lastWrite a_lastPre a_lastRef a_actTimes a_reqBorn a_reqSerial : (Nat → Int64)}
variable {bo : Nat → Int}
theorem xw_share_l {post : SX → Prop} {A word : Int32} (h : post (f_rcd, f_rp, f_rfc, f_cap, f_refreshSoon, f_refreshMust, f_drainMark, f_requests, f_allLanes, f_slotFree, f_slotWaiting, f_slotReady, f_never, f_anyAct, f_anyRead, f_anyWrite, f_actNext, f_nextSerial, f_writeHead, f_writeCount, f_draining, f_clock, f_mode, f_faults, f_lost, f_retiredReads, a_cells, a_openRows, a_ages, a_lastAct, a_lastRead, a_lastWrite, a_lastPre, a_lastRef, a_actTimes, a_reqAddress, a_reqLanes, a_reqData, xf_sh a_reqPending a_reqAddress a_reqBase A word 12, xf_sh a_reqPending a_reqAddress a_reqFetched A 1 12, a_reqPending, a_reqBorn, a_reqSerial, a_slotStates)) :
    ∀ n j, 6 ≤ j → j ≤ 12 → 12 - j < n → wX_shareBase_3 post A word f_rcd f_rp f_rfc f_cap f_refreshSoon f_refreshMust f_drainMark f_requests f_allLanes f_slotFree f_slotWaiting f_slotReady f_never f_anyAct f_anyRead f_anyWrite f_actNext f_nextSerial f_writeHead f_writeCount f_draining f_clock f_mode f_faults f_lost f_retiredReads n (nI j) a_cells a_openRows a_ages a_lastAct a_lastRead a_lastWrite a_lastPre a_lastRef a_actTimes a_reqAddress a_reqLanes a_reqData (xf_sh a_reqPending a_reqAddress a_reqBase A word j) (xf_sh a_reqPending a_reqAddress a_reqFetched A 1 j) a_reqPending a_reqBorn a_reqSerial a_slotStates
  | 0, j, _, _, hn => by omega
  | n + 1, j, h6, hj, hn => by
    unfold wX_shareBase_3
    by_cases e : j = 12
    · subst e
      exact br_t (by decide) h
    · have lt : j < 12 := by omega
      have ej : (nI j).toNatClampNeg = j := nI_clamp (by omega)
      have vj : vp_in (nI j) 12 := vp_in_nI lt (by omega)
      simp only [ej]
      have ih := xw_share_l h n (j + 1) (by omega) lt (by omega)
      refine br_f (nI_ge (b := 12) lt (by decide)) ⟨vj, br_c (fun z => ?_) (fun z => ⟨vj, br_c (fun y => ⟨vj, nm_e ⟨vj, nm_e ?_⟩⟩) (fun y => ?_)⟩)⟩
      · rw [xf_sh_f (.inl z), xf_sh_f (a := a_reqFetched) (.inl z)]
        exact nm_r (nI_1 j) ih
      · rw [xb_nar1, xf_sh_t h6 z y, xf_sh_t (a := a_reqFetched) h6 z y]
        exact nm_r (nI_1 j) ih
      · rw [xf_sh_f (.inr y), xf_sh_f (a := a_reqFetched) (.inr y)]
        exact nm_r (nI_1 j) ih
theorem xw_share {post : SX → Prop} {A word : Int32} (h : post (f_rcd, f_rp, f_rfc, f_cap, f_refreshSoon, f_refreshMust, f_drainMark, f_requests, f_allLanes, f_slotFree, f_slotWaiting, f_slotReady, f_never, f_anyAct, f_anyRead, f_anyWrite, f_actNext, f_nextSerial, f_writeHead, f_writeCount, f_draining, f_clock, f_mode, f_faults, f_lost, f_retiredReads, a_cells, a_openRows, a_ages, a_lastAct, a_lastRead, a_lastWrite, a_lastPre, a_lastRef, a_actTimes, a_reqAddress, a_reqLanes, a_reqData, xf_sh a_reqPending a_reqAddress a_reqBase A word 12, xf_sh a_reqPending a_reqAddress a_reqFetched A 1 12, a_reqPending, a_reqBorn, a_reqSerial, a_slotStates)) : wpX_shareBase post (f_rcd, f_rp, f_rfc, f_cap, f_refreshSoon, f_refreshMust, f_drainMark, f_requests, f_allLanes, f_slotFree, f_slotWaiting, f_slotReady, f_never, f_anyAct, f_anyRead, f_anyWrite, f_actNext, f_nextSerial, f_writeHead, f_writeCount, f_draining, f_clock, f_mode, f_faults, f_lost, f_retiredReads, a_cells, a_openRows, a_ages, a_lastAct, a_lastRead, a_lastWrite, a_lastPre, a_lastRef, a_actTimes, a_reqAddress, a_reqLanes, a_reqData, a_reqBase, a_reqFetched, a_reqPending, a_reqBorn, a_reqSerial, a_slotStates) A word := by
  have := xw_share_l h 7 6 (by omega) (by omega) (by omega)
  rw [xf_sh_6, xf_sh_6] at this
  exact ⟨7, this⟩
theorem xw_wread_l {post : SX → Prop} {A word : Int32} (h : post (f_rcd, f_rp, f_rfc, f_cap, f_refreshSoon, f_refreshMust, f_drainMark, f_requests, f_allLanes, f_slotFree, f_slotWaiting, f_slotReady, f_never, f_anyAct, f_anyRead, f_anyWrite, f_actNext, f_nextSerial, f_writeHead, f_writeCount, f_draining, f_clock, f_mode, f_faults, f_lost, f_retiredReads, a_cells, a_openRows, a_ages, a_lastAct, a_lastRead, a_lastWrite, a_lastPre, a_lastRef, a_actTimes, a_reqAddress, a_reqLanes, xf_rd a_reqPending a_reqAddress a_reqLanes a_reqData A word 6, xf_sh (xf_rp a_reqPending a_reqAddress A 6) a_reqAddress a_reqBase A word 12, xf_sh (xf_rp a_reqPending a_reqAddress A 6) a_reqAddress a_reqFetched A 1 12, xf_rp a_reqPending a_reqAddress A 6, a_reqBorn, a_reqSerial, a_slotStates)) :
    ∀ n j, j ≤ 6 → 6 - j < n → wX_wordRead_2 post A word f_rcd f_rp f_rfc f_cap f_refreshSoon f_refreshMust f_drainMark f_requests f_allLanes f_slotFree f_slotWaiting f_slotReady f_never f_anyAct f_anyRead f_anyWrite f_actNext f_nextSerial f_writeHead f_writeCount f_draining f_clock f_mode f_faults f_lost f_retiredReads n (nI j) a_cells a_openRows a_ages a_lastAct a_lastRead a_lastWrite a_lastPre a_lastRef a_actTimes a_reqAddress a_reqLanes (xf_rd a_reqPending a_reqAddress a_reqLanes a_reqData A word j) a_reqBase a_reqFetched (xf_rp a_reqPending a_reqAddress A j) a_reqBorn a_reqSerial a_slotStates
  | 0, j, _, hn => by omega
  | n + 1, j, hj, hn => by
    unfold wX_wordRead_2
    by_cases e : j = 6
    · subst e
      exact br_t (by decide) (xw_share h)
    · have lt : j < 6 := by omega
      have ej : (nI j).toNatClampNeg = j := nI_clamp (by omega)
      have vj : vp_in (nI j) 12 := vp_in_nI (by omega) (by omega)
      simp only [ej]
      rw [xf_rp_at]
      have ih := xw_wread_l h n (j + 1) lt (by omega)
      refine br_f (nI_ge (b := 6) lt (by decide)) ⟨vj, br_c (fun z => ?_) (fun z => ⟨vj, br_c (fun y => ⟨vj, vj, vj, nm_e ⟨vj, nm_e ?_⟩⟩) (fun y => ?_)⟩)⟩
      · rw [xf_rp_f (.inl z), xf_rd_f (.inl z)]
        exact nm_r (nI_1 j) ih
      · rw [xf_rd_at, xb_nar0, xf_rp_t z y, xf_rd_t z y]
        exact nm_r (nI_1 j) ih
      · rw [xf_rp_f (.inr y), xf_rd_f (.inr y)]
        exact nm_r (nI_1 j) ih
theorem xw_wread {post : SX → Prop} {A word : Int32} (h : post (f_rcd, f_rp, f_rfc, f_cap, f_refreshSoon, f_refreshMust, f_drainMark, f_requests, f_allLanes, f_slotFree, f_slotWaiting, f_slotReady, f_never, f_anyAct, f_anyRead, f_anyWrite, f_actNext, f_nextSerial, f_writeHead, f_writeCount, f_draining, f_clock, f_mode, f_faults, f_lost, f_retiredReads, a_cells, a_openRows, a_ages, a_lastAct, a_lastRead, a_lastWrite, a_lastPre, a_lastRef, a_actTimes, a_reqAddress, a_reqLanes, xf_rd a_reqPending a_reqAddress a_reqLanes a_reqData A word 6, xf_sh (xf_rp a_reqPending a_reqAddress A 6) a_reqAddress a_reqBase A word 12, xf_sh (xf_rp a_reqPending a_reqAddress A 6) a_reqAddress a_reqFetched A 1 12, xf_rp a_reqPending a_reqAddress A 6, a_reqBorn, a_reqSerial, a_slotStates)) : wpX_wordRead post (f_rcd, f_rp, f_rfc, f_cap, f_refreshSoon, f_refreshMust, f_drainMark, f_requests, f_allLanes, f_slotFree, f_slotWaiting, f_slotReady, f_never, f_anyAct, f_anyRead, f_anyWrite, f_actNext, f_nextSerial, f_writeHead, f_writeCount, f_draining, f_clock, f_mode, f_faults, f_lost, f_retiredReads, a_cells, a_openRows, a_ages, a_lastAct, a_lastRead, a_lastWrite, a_lastPre, a_lastRef, a_actTimes, a_reqAddress, a_reqLanes, a_reqData, a_reqBase, a_reqFetched, a_reqPending, a_reqBorn, a_reqSerial, a_slotStates) A word := by
  have := xw_wread_l h 7 0 (by omega) (by omega)
  rw [xf_rp_0, xf_rd_0] at this
  exact ⟨7, this⟩
/-- the next command of a request -/
theorem xw_adv {post : SX → Prop} {q : Nat} (hq : q < 12) (w : sc_W (sc_ab f_rcd f_rp f_rfc f_cap f_anyAct f_anyRead f_anyWrite f_actNext f_nextSerial f_draining f_clock a_openRows a_ages a_lastAct a_lastRead a_lastWrite a_lastPre a_lastRef a_actTimes a_reqAddress a_reqLanes a_reqFetched a_reqPending a_reqSerial bo)) (rg : sc_Rg (sc_ab f_rcd f_rp f_rfc f_cap f_anyAct f_anyRead f_anyWrite f_actNext f_nextSerial f_draining f_clock a_openRows a_ages a_lastAct a_lastRead a_lastWrite a_lastPre a_lastRef a_actTimes a_reqAddress a_reqLanes a_reqFetched a_reqPending a_reqSerial bo)) (an : vp_in f_actNext 4) (p : sc_P (sc_ab f_rcd f_rp f_rfc f_cap f_anyAct f_anyRead f_anyWrite f_actNext f_nextSerial f_draining f_clock a_openRows a_ages a_lastAct a_lastRead a_lastWrite a_lastPre a_lastRef a_actTimes a_reqAddress a_reqLanes a_reqFetched a_reqPending a_reqSerial bo) (sc_kd (sc_ab f_rcd f_rp f_rfc f_cap f_anyAct f_anyRead f_anyWrite f_actNext f_nextSerial f_draining f_clock a_openRows a_ages a_lastAct a_lastRead a_lastWrite a_lastPre a_lastRef a_actTimes a_reqAddress a_reqLanes a_reqFetched a_reqPending a_reqSerial bo) q) (sc_bk (sc_ab f_rcd f_rp f_rfc f_cap f_anyAct f_anyRead f_anyWrite f_actNext f_nextSerial f_draining f_clock a_openRows a_ages a_lastAct a_lastRead a_lastWrite a_lastPre a_lastRef a_actTimes a_reqAddress a_reqLanes a_reqFetched a_reqPending a_reqSerial bo) q))
    (h0 : sc_kd (sc_ab f_rcd f_rp f_rfc f_cap f_anyAct f_anyRead f_anyWrite f_actNext f_nextSerial f_draining f_clock a_openRows a_ages a_lastAct a_lastRead a_lastWrite a_lastPre a_lastRef a_actTimes a_reqAddress a_reqLanes a_reqFetched a_reqPending a_reqSerial bo) q = 0 → post (f_rcd, f_rp, f_rfc, f_cap, f_refreshSoon, f_refreshMust, f_drainMark, f_requests, f_allLanes, f_slotFree, f_slotWaiting, f_slotReady, f_never, f_clock, f_anyRead, f_anyWrite, (f_actNext + 1) &&& 3, f_nextSerial, f_writeHead, f_writeCount, f_draining, f_clock, f_mode, f_faults, f_lost, f_retiredReads, a_cells, upd a_openRows (sc_bk (sc_ab f_rcd f_rp f_rfc f_cap f_anyAct f_anyRead f_anyWrite f_actNext f_nextSerial f_draining f_clock a_openRows a_ages a_lastAct a_lastRead a_lastWrite a_lastPre a_lastRef a_actTimes a_reqAddress a_reqLanes a_reqFetched a_reqPending a_reqSerial bo) q) (nI (sc_ro (sc_ab f_rcd f_rp f_rfc f_cap f_anyAct f_anyRead f_anyWrite f_actNext f_nextSerial f_draining f_clock a_openRows a_ages a_lastAct a_lastRead a_lastWrite a_lastPre a_lastRef a_actTimes a_reqAddress a_reqLanes a_reqFetched a_reqPending a_reqSerial bo) q).toNat), a_ages, vp_updL a_lastAct (sc_bk (sc_ab f_rcd f_rp f_rfc f_cap f_anyAct f_anyRead f_anyWrite f_actNext f_nextSerial f_draining f_clock a_openRows a_ages a_lastAct a_lastRead a_lastWrite a_lastPre a_lastRef a_actTimes a_reqAddress a_reqLanes a_reqFetched a_reqPending a_reqSerial bo) q) f_clock, a_lastRead, a_lastWrite, a_lastPre, a_lastRef, vp_updL a_actTimes f_actNext.toNatClampNeg f_clock, a_reqAddress, a_reqLanes, a_reqData, a_reqBase, a_reqFetched, a_reqPending, a_reqBorn, a_reqSerial, a_slotStates))
    (h3 : sc_kd (sc_ab f_rcd f_rp f_rfc f_cap f_anyAct f_anyRead f_anyWrite f_actNext f_nextSerial f_draining f_clock a_openRows a_ages a_lastAct a_lastRead a_lastWrite a_lastPre a_lastRef a_actTimes a_reqAddress a_reqLanes a_reqFetched a_reqPending a_reqSerial bo) q = 3 → post (f_rcd, f_rp, f_rfc, f_cap, f_refreshSoon, f_refreshMust, f_drainMark, f_requests, f_allLanes, f_slotFree, f_slotWaiting, f_slotReady, f_never, f_anyAct, f_anyRead, f_anyWrite, f_actNext, f_nextSerial, f_writeHead, f_writeCount, f_draining, f_clock, f_mode, f_faults, f_lost, f_retiredReads, a_cells, upd a_openRows (sc_bk (sc_ab f_rcd f_rp f_rfc f_cap f_anyAct f_anyRead f_anyWrite f_actNext f_nextSerial f_draining f_clock a_openRows a_ages a_lastAct a_lastRead a_lastWrite a_lastPre a_lastRef a_actTimes a_reqAddress a_reqLanes a_reqFetched a_reqPending a_reqSerial bo) q) (-1), a_ages, a_lastAct, a_lastRead, a_lastWrite, vp_updL a_lastPre (sc_bk (sc_ab f_rcd f_rp f_rfc f_cap f_anyAct f_anyRead f_anyWrite f_actNext f_nextSerial f_draining f_clock a_openRows a_ages a_lastAct a_lastRead a_lastWrite a_lastPre a_lastRef a_actTimes a_reqAddress a_reqLanes a_reqFetched a_reqPending a_reqSerial bo) q) f_clock, a_lastRef, a_actTimes, a_reqAddress, a_reqLanes, a_reqData, a_reqBase, a_reqFetched, a_reqPending, a_reqBorn, a_reqSerial, a_slotStates))
    (h1 : sc_kd (sc_ab f_rcd f_rp f_rfc f_cap f_anyAct f_anyRead f_anyWrite f_actNext f_nextSerial f_draining f_clock a_openRows a_ages a_lastAct a_lastRead a_lastWrite a_lastPre a_lastRef a_actTimes a_reqAddress a_reqLanes a_reqFetched a_reqPending a_reqSerial bo) q = 1 → post (f_rcd, f_rp, f_rfc, f_cap, f_refreshSoon, f_refreshMust, f_drainMark, f_requests, f_allLanes, f_slotFree, f_slotWaiting, f_slotReady, f_never, f_anyAct, f_clock, f_anyWrite, f_actNext, f_nextSerial, f_writeHead, f_writeCount, f_draining, f_clock, f_mode, f_faults, f_lost, f_retiredReads, a_cells, a_openRows, a_ages, a_lastAct, vp_updL a_lastRead (sc_bk (sc_ab f_rcd f_rp f_rfc f_cap f_anyAct f_anyRead f_anyWrite f_actNext f_nextSerial f_draining f_clock a_openRows a_ages a_lastAct a_lastRead a_lastWrite a_lastPre a_lastRef a_actTimes a_reqAddress a_reqLanes a_reqFetched a_reqPending a_reqSerial bo) q) f_clock, a_lastWrite, a_lastPre, a_lastRef, a_actTimes, a_reqAddress, a_reqLanes, xf_rd a_reqPending a_reqAddress a_reqLanes a_reqData (a_reqAddress q) (a_cells (sc_ad (sc_ab f_rcd f_rp f_rfc f_cap f_anyAct f_anyRead f_anyWrite f_actNext f_nextSerial f_draining f_clock a_openRows a_ages a_lastAct a_lastRead a_lastWrite a_lastPre a_lastRef a_actTimes a_reqAddress a_reqLanes a_reqFetched a_reqPending a_reqSerial bo) q).toNat) 6, xf_sh (xf_rp a_reqPending a_reqAddress (a_reqAddress q) 6) a_reqAddress a_reqBase (a_reqAddress q) (a_cells (sc_ad (sc_ab f_rcd f_rp f_rfc f_cap f_anyAct f_anyRead f_anyWrite f_actNext f_nextSerial f_draining f_clock a_openRows a_ages a_lastAct a_lastRead a_lastWrite a_lastPre a_lastRef a_actTimes a_reqAddress a_reqLanes a_reqFetched a_reqPending a_reqSerial bo) q).toNat) 12, xf_sh (xf_rp a_reqPending a_reqAddress (a_reqAddress q) 6) a_reqAddress a_reqFetched (a_reqAddress q) 1 12, xf_rp a_reqPending a_reqAddress (a_reqAddress q) 6, a_reqBorn, a_reqSerial, a_slotStates))
    (h2 : sc_kd (sc_ab f_rcd f_rp f_rfc f_cap f_anyAct f_anyRead f_anyWrite f_actNext f_nextSerial f_draining f_clock a_openRows a_ages a_lastAct a_lastRead a_lastWrite a_lastPre a_lastRef a_actTimes a_reqAddress a_reqLanes a_reqFetched a_reqPending a_reqSerial bo) q = 2 → post (f_rcd, f_rp, f_rfc, f_cap, f_refreshSoon, f_refreshMust, f_drainMark, f_requests, f_allLanes, f_slotFree, f_slotWaiting, f_slotReady, f_never, f_anyAct, f_anyRead, f_clock, f_actNext, f_nextSerial, f_writeHead, f_writeCount, f_draining, f_clock, f_mode, f_faults, f_lost, f_retiredReads, upd a_cells (sc_ad (sc_ab f_rcd f_rp f_rfc f_cap f_anyAct f_anyRead f_anyWrite f_actNext f_nextSerial f_draining f_clock a_openRows a_ages a_lastAct a_lastRead a_lastWrite a_lastPre a_lastRef a_actTimes a_reqAddress a_reqLanes a_reqFetched a_reqPending a_reqSerial bo) q).toNat ((a_reqBase q &&& (a_reqLanes q ^^^ (-1))) ||| a_reqData q), a_openRows, a_ages, a_lastAct, a_lastRead, vp_updL a_lastWrite (sc_bk (sc_ab f_rcd f_rp f_rfc f_cap f_anyAct f_anyRead f_anyWrite f_actNext f_nextSerial f_draining f_clock a_openRows a_ages a_lastAct a_lastRead a_lastWrite a_lastPre a_lastRef a_actTimes a_reqAddress a_reqLanes a_reqFetched a_reqPending a_reqSerial bo) q) f_clock, a_lastPre, a_lastRef, a_actTimes, a_reqAddress, a_reqLanes, a_reqData, xf_sh (upd a_reqPending q 0) a_reqAddress a_reqBase (a_reqAddress q) ((a_reqBase q &&& (a_reqLanes q ^^^ (-1))) ||| a_reqData q) 12, xf_sh (upd a_reqPending q 0) a_reqAddress a_reqFetched (a_reqAddress q) 1 12, upd a_reqPending q 0, a_reqBorn, a_reqSerial, a_slotStates)) :
    wpX_advance post (f_rcd, f_rp, f_rfc, f_cap, f_refreshSoon, f_refreshMust, f_drainMark, f_requests, f_allLanes, f_slotFree, f_slotWaiting, f_slotReady, f_never, f_anyAct, f_anyRead, f_anyWrite, f_actNext, f_nextSerial, f_writeHead, f_writeCount, f_draining, f_clock, f_mode, f_faults, f_lost, f_retiredReads, a_cells, a_openRows, a_ages, a_lastAct, a_lastRead, a_lastWrite, a_lastPre, a_lastRef, a_actTimes, a_reqAddress, a_reqLanes, a_reqData, a_reqBase, a_reqFetched, a_reqPending, a_reqBorn, a_reqSerial, a_slotStates) (nI q) := by
  have eq : (nI q).toNatClampNeg = q := nI_clamp (by omega)
  have vq : vp_in (nI q) 12 := vp_in_nI hq (by omega)
  have ad := (rg.2.2.2 q hq).2.2
  have a0 : 0 ≤ (a_reqAddress q).toInt := by rw [← ab_ad (bo := bo)]; exact ad.1
  have a1 : (a_reqAddress q).toInt < 256 := by rw [← ab_ad (bo := bo)]; exact ad.2.1
  have lb : sc_bk (sc_ab f_rcd f_rp f_rfc f_cap f_anyAct f_anyRead f_anyWrite f_actNext f_nextSerial f_draining f_clock a_openRows a_ages a_lastAct a_lastRead a_lastWrite a_lastPre a_lastRef a_actTimes a_reqAddress a_reqLanes a_reqFetched a_reqPending a_reqSerial bo) q < 8 := sc_bA_lt _
  have be : sc_bA (a_reqAddress q).toInt = sc_bk (sc_ab f_rcd f_rp f_rfc f_cap f_anyAct f_anyRead f_anyWrite f_actNext f_nextSerial f_draining f_clock a_openRows a_ages a_lastAct a_lastRead a_lastWrite a_lastPre a_lastRef a_actTimes a_reqAddress a_reqLanes a_reqFetched a_reqPending a_reqSerial bo) q := rfl
  have re : sc_rA (a_reqAddress q).toInt = sc_ro (sc_ab f_rcd f_rp f_rfc f_cap f_anyAct f_anyRead f_anyWrite f_actNext f_nextSerial f_draining f_clock a_openRows a_ages a_lastAct a_lastRead a_lastWrite a_lastPre a_lastRef a_actTimes a_reqAddress a_reqLanes a_reqFetched a_reqPending a_reqSerial bo) q := rfl
  obtain ⟨m, hm, em⟩ : ∃ m : Nat, m < 256 ∧ a_reqAddress q = nI m := ⟨(a_reqAddress q).toInt.toNat, by omega, xb_n a0⟩
  have am : sc_ad (sc_ab f_rcd f_rp f_rfc f_cap f_anyAct f_anyRead f_anyWrite f_actNext f_nextSerial f_draining f_clock a_openRows a_ages a_lastAct a_lastRead a_lastWrite a_lastPre a_lastRef a_actTimes a_reqAddress a_reqLanes a_reqFetched a_reqPending a_reqSerial bo) q = m := by rw [ab_ad, em, nI_toInt (by omega)]
  have mt : (sc_ad (sc_ab f_rcd f_rp f_rfc f_cap f_anyAct f_anyRead f_anyWrite f_actNext f_nextSerial f_draining f_clock a_openRows a_ages a_lastAct a_lastRead a_lastWrite a_lastPre a_lastRef a_actTimes a_reqAddress a_reqLanes a_reqFetched a_reqPending a_reqSerial bo) q).toNat = m := by omega
  have mb : sc_bk (sc_ab f_rcd f_rp f_rfc f_cap f_anyAct f_anyRead f_anyWrite f_actNext f_nextSerial f_draining f_clock a_openRows a_ages a_lastAct a_lastRead a_lastWrite a_lastPre a_lastRef a_actTimes a_reqAddress a_reqLanes a_reqFetched a_reqPending a_reqSerial bo) q = m / 4 % 8 := by show sc_bA (sc_ad (sc_ab f_rcd f_rp f_rfc f_cap f_anyAct f_anyRead f_anyWrite f_actNext f_nextSerial f_draining f_clock a_openRows a_ages a_lastAct a_lastRead a_lastWrite a_lastPre a_lastRef a_actTimes a_reqAddress a_reqLanes a_reqFetched a_reqPending a_reqSerial bo) q) = _; rw [am]; unfold sc_bA; omega
  have mr : sc_ro (sc_ab f_rcd f_rp f_rfc f_cap f_anyAct f_anyRead f_anyWrite f_actNext f_nextSerial f_draining f_clock a_openRows a_ages a_lastAct a_lastRead a_lastWrite a_lastPre a_lastRef a_actTimes a_reqAddress a_reqLanes a_reqFetched a_reqPending a_reqSerial bo) q = (m / 32 % 8 : Nat) := by show sc_rA (sc_ad (sc_ab f_rcd f_rp f_rfc f_cap f_anyAct f_anyRead f_anyWrite f_actNext f_nextSerial f_draining f_clock a_openRows a_ages a_lastAct a_lastRead a_lastWrite a_lastPre a_lastRef a_actTimes a_reqAddress a_reqLanes a_reqFetched a_reqPending a_reqSerial bo) q) = _; rw [am]; unfold sc_rA; omega
  have mc : a_reqAddress q &&& 3 = nI (m % 4) := by rw [em]; exact (xb_bits m hm).2.2
  unfold wpX_advance
  simp only [eq]
  refine xw_kind hq rg ⟨vq, nm_e (xw_bank a0 a1 (nm_e ?_))⟩
  rw [be, mc]
  rcases sc_kd_in (sc_ab f_rcd f_rp f_rfc f_cap f_anyAct f_anyRead f_anyWrite f_actNext f_nextSerial f_draining f_clock a_openRows a_ages a_lastAct a_lastRead a_lastWrite a_lastPre a_lastRef a_actTimes a_reqAddress a_reqLanes a_reqFetched a_reqPending a_reqSerial bo) q with k | k | k | k
  · rw [k] at p
    have fit : sc_op (sc_ab f_rcd f_rp f_rfc f_cap f_anyAct f_anyRead f_anyWrite f_actNext f_nextSerial f_draining f_clock a_openRows a_ages a_lastAct a_lastRead a_lastWrite a_lastPre a_lastRef a_actTimes a_reqAddress a_reqLanes a_reqFetched a_reqPending a_reqSerial bo) (sc_bk (sc_ab f_rcd f_rp f_rfc f_cap f_anyAct f_anyRead f_anyWrite f_actNext f_nextSerial f_draining f_clock a_openRows a_ages a_lastAct a_lastRead a_lastWrite a_lastPre a_lastRef a_actTimes a_reqAddress a_reqLanes a_reqFetched a_reqPending a_reqSerial bo) q) < 0 := by
      apply Classical.byContradiction
      intro z
      by_cases e : sc_op (sc_ab f_rcd f_rp f_rfc f_cap f_anyAct f_anyRead f_anyWrite f_actNext f_nextSerial f_draining f_clock a_openRows a_ages a_lastAct a_lastRead a_lastWrite a_lastPre a_lastRef a_actTimes a_reqAddress a_reqLanes a_reqFetched a_reqPending a_reqSerial bo) (sc_bk (sc_ab f_rcd f_rp f_rfc f_cap f_anyAct f_anyRead f_anyWrite f_actNext f_nextSerial f_draining f_clock a_openRows a_ages a_lastAct a_lastRead a_lastWrite a_lastPre a_lastRef a_actTimes a_reqAddress a_reqLanes a_reqFetched a_reqPending a_reqSerial bo) q) = sc_ro (sc_ab f_rcd f_rp f_rfc f_cap f_anyAct f_anyRead f_anyWrite f_actNext f_nextSerial f_draining f_clock a_openRows a_ages a_lastAct a_lastRead a_lastWrite a_lastPre a_lastRef a_actTimes a_reqAddress a_reqLanes a_reqFetched a_reqPending a_reqSerial bo) q
      · rcases sc_kdC (by omega) e with y | y <;> omega
      · have := sc_kdW (by omega) e; omega
    rw [k]
    refine br_t rfl (xw_row a0 a1 ?_)
    rw [re]
    exact xw_dACT lb w rg an fit p (h0 k)
  · rw [k] at p
    have fit : sc_op (sc_ab f_rcd f_rp f_rfc f_cap f_anyAct f_anyRead f_anyWrite f_actNext f_nextSerial f_draining f_clock a_openRows a_ages a_lastAct a_lastRead a_lastWrite a_lastPre a_lastRef a_actTimes a_reqAddress a_reqLanes a_reqFetched a_reqPending a_reqSerial bo) (sc_bk (sc_ab f_rcd f_rp f_rfc f_cap f_anyAct f_anyRead f_anyWrite f_actNext f_nextSerial f_draining f_clock a_openRows a_ages a_lastAct a_lastRead a_lastWrite a_lastPre a_lastRef a_actTimes a_reqAddress a_reqLanes a_reqFetched a_reqPending a_reqSerial bo) q) = sc_ro (sc_ab f_rcd f_rp f_rfc f_cap f_anyAct f_anyRead f_anyWrite f_actNext f_nextSerial f_draining f_clock a_openRows a_ages a_lastAct a_lastRead a_lastWrite a_lastPre a_lastRef a_actTimes a_reqAddress a_reqLanes a_reqFetched a_reqPending a_reqSerial bo) q := by
      apply Classical.byContradiction
      intro z
      by_cases o : sc_op (sc_ab f_rcd f_rp f_rfc f_cap f_anyAct f_anyRead f_anyWrite f_actNext f_nextSerial f_draining f_clock a_openRows a_ages a_lastAct a_lastRead a_lastWrite a_lastPre a_lastRef a_actTimes a_reqAddress a_reqLanes a_reqFetched a_reqPending a_reqSerial bo) (sc_bk (sc_ab f_rcd f_rp f_rfc f_cap f_anyAct f_anyRead f_anyWrite f_actNext f_nextSerial f_draining f_clock a_openRows a_ages a_lastAct a_lastRead a_lastWrite a_lastPre a_lastRef a_actTimes a_reqAddress a_reqLanes a_reqFetched a_reqPending a_reqSerial bo) q) < 0
      · have := sc_kdA o; omega
      · have := sc_kdW (by omega) z; omega
    rw [k]
    have h1' := h1 k
    rw [mt, mb] at h1'
    rw [mb, mr] at fit
    rw [mb] at p ⊢
    exact br_f (by decide) (br_f (by decide) (br_t rfl (xw_dRD hm w rg an fit p (xw_wread h1'))))
  · rw [k] at p
    have fit : sc_op (sc_ab f_rcd f_rp f_rfc f_cap f_anyAct f_anyRead f_anyWrite f_actNext f_nextSerial f_draining f_clock a_openRows a_ages a_lastAct a_lastRead a_lastWrite a_lastPre a_lastRef a_actTimes a_reqAddress a_reqLanes a_reqFetched a_reqPending a_reqSerial bo) (sc_bk (sc_ab f_rcd f_rp f_rfc f_cap f_anyAct f_anyRead f_anyWrite f_actNext f_nextSerial f_draining f_clock a_openRows a_ages a_lastAct a_lastRead a_lastWrite a_lastPre a_lastRef a_actTimes a_reqAddress a_reqLanes a_reqFetched a_reqPending a_reqSerial bo) q) = sc_ro (sc_ab f_rcd f_rp f_rfc f_cap f_anyAct f_anyRead f_anyWrite f_actNext f_nextSerial f_draining f_clock a_openRows a_ages a_lastAct a_lastRead a_lastWrite a_lastPre a_lastRef a_actTimes a_reqAddress a_reqLanes a_reqFetched a_reqPending a_reqSerial bo) q := by
      apply Classical.byContradiction
      intro z
      by_cases o : sc_op (sc_ab f_rcd f_rp f_rfc f_cap f_anyAct f_anyRead f_anyWrite f_actNext f_nextSerial f_draining f_clock a_openRows a_ages a_lastAct a_lastRead a_lastWrite a_lastPre a_lastRef a_actTimes a_reqAddress a_reqLanes a_reqFetched a_reqPending a_reqSerial bo) (sc_bk (sc_ab f_rcd f_rp f_rfc f_cap f_anyAct f_anyRead f_anyWrite f_actNext f_nextSerial f_draining f_clock a_openRows a_ages a_lastAct a_lastRead a_lastWrite a_lastPre a_lastRef a_actTimes a_reqAddress a_reqLanes a_reqFetched a_reqPending a_reqSerial bo) q) < 0
      · have := sc_kdA o; omega
      · have := sc_kdW (by omega) z; omega
    rw [k]
    have h2' := h2 k
    rw [mt, mb] at h2'
    rw [mb, mr] at fit
    rw [mb] at p ⊢
    refine br_f (by decide) (br_f (by decide) (br_f (by decide) ⟨vq, vq, vq, nm_e (xw_dWR hm w rg an fit p ⟨vq, nm_e ?_⟩)⟩))
    rw [xb_nar0]
    exact xw_share h2'
  · rw [k] at p
    have fit : 0 ≤ sc_op (sc_ab f_rcd f_rp f_rfc f_cap f_anyAct f_anyRead f_anyWrite f_actNext f_nextSerial f_draining f_clock a_openRows a_ages a_lastAct a_lastRead a_lastWrite a_lastPre a_lastRef a_actTimes a_reqAddress a_reqLanes a_reqFetched a_reqPending a_reqSerial bo) (sc_bk (sc_ab f_rcd f_rp f_rfc f_cap f_anyAct f_anyRead f_anyWrite f_actNext f_nextSerial f_draining f_clock a_openRows a_ages a_lastAct a_lastRead a_lastWrite a_lastPre a_lastRef a_actTimes a_reqAddress a_reqLanes a_reqFetched a_reqPending a_reqSerial bo) q) := by
      apply Classical.byContradiction
      intro z
      have := sc_kdA (s := (sc_ab f_rcd f_rp f_rfc f_cap f_anyAct f_anyRead f_anyWrite f_actNext f_nextSerial f_draining f_clock a_openRows a_ages a_lastAct a_lastRead a_lastWrite a_lastPre a_lastRef a_actTimes a_reqAddress a_reqLanes a_reqFetched a_reqPending a_reqSerial bo)) (q := q) (by omega); omega
    rw [k]
    exact br_f (by decide) (br_t rfl (xw_dPRE lb w rg an fit p (h3 k)))
/-- the mark of a batch -/
theorem xw_drain_l {post : SX → Prop} (rg : sc_Rg (sc_ab f_rcd f_rp f_rfc f_cap f_anyAct f_anyRead f_anyWrite f_actNext f_nextSerial f_draining f_clock a_openRows a_ages a_lastAct a_lastRead a_lastWrite a_lastPre a_lastRef a_actTimes a_reqAddress a_reqLanes a_reqFetched a_reqPending a_reqSerial bo)) (cp : 0 ≤ f_cap.toInt ∧ f_cap.toInt ≤ 100) (hb : ∀ q, q < 12 → 0 ≤ (a_reqBorn q).toInt ∧ (a_reqBorn q).toInt ≤ 1000000)
    (h : ∀ d : Int32, (d = 0 ∨ d = 1) → (∀ q, 6 ≤ q → q < 12 → sc_pd (sc_ab f_rcd f_rp f_rfc f_cap f_anyAct f_anyRead f_anyWrite f_actNext f_nextSerial f_draining f_clock a_openRows a_ages a_lastAct a_lastRead a_lastWrite a_lastPre a_lastRef a_actTimes a_reqAddress a_reqLanes a_reqFetched a_reqPending a_reqSerial bo) q ≠ 0 → f_cap.toInt ≤ f_clock.toInt - (a_reqBorn q).toInt → d ≠ 0) → (f_draining ≠ 0 → d = 0 → ∀ q, 6 ≤ q → q < 12 → sc_pd (sc_ab f_rcd f_rp f_rfc f_cap f_anyAct f_anyRead f_anyWrite f_actNext f_nextSerial f_draining f_clock a_openRows a_ages a_lastAct a_lastRead a_lastWrite a_lastPre a_lastRef a_actTimes a_reqAddress a_reqLanes a_reqFetched a_reqPending a_reqSerial bo) q = 0) → post (f_rcd, f_rp, f_rfc, f_cap, f_refreshSoon, f_refreshMust, f_drainMark, f_requests, f_allLanes, f_slotFree, f_slotWaiting, f_slotReady, f_never, f_anyAct, f_anyRead, f_anyWrite, f_actNext, f_nextSerial, f_writeHead, f_writeCount, d, f_clock, f_mode, f_faults, f_lost, f_retiredReads, a_cells, a_openRows, a_ages, a_lastAct, a_lastRead, a_lastWrite, a_lastPre, a_lastRef, a_actTimes, a_reqAddress, a_reqLanes, a_reqData, a_reqBase, a_reqFetched, a_reqPending, a_reqBorn, a_reqSerial, a_slotStates)) :
    ∀ n j cnt (ag : Int32), 6 ≤ j → j ≤ 12 → 12 - j < n → cnt ≤ j → (cnt = 0 → ∀ q, 6 ≤ q → q < j → sc_pd (sc_ab f_rcd f_rp f_rfc f_cap f_anyAct f_anyRead f_anyWrite f_actNext f_nextSerial f_draining f_clock a_openRows a_ages a_lastAct a_lastRead a_lastWrite a_lastPre a_lastRef a_actTimes a_reqAddress a_reqLanes a_reqFetched a_reqPending a_reqSerial bo) q = 0) → (ag = 0 ∨ ag = 1) → (ag = 0 → ∀ q, 6 ≤ q → q < j → sc_pd (sc_ab f_rcd f_rp f_rfc f_cap f_anyAct f_anyRead f_anyWrite f_actNext f_nextSerial f_draining f_clock a_openRows a_ages a_lastAct a_lastRead a_lastWrite a_lastPre a_lastRef a_actTimes a_reqAddress a_reqLanes a_reqFetched a_reqPending a_reqSerial bo) q ≠ 0 → f_clock.toInt - (a_reqBorn q).toInt < f_cap.toInt) →
    wX_updateDraining_7 post f_rcd f_rp f_rfc f_cap f_refreshSoon f_refreshMust f_drainMark f_requests f_allLanes f_slotFree f_slotWaiting f_slotReady f_never f_anyAct f_anyRead f_anyWrite f_actNext f_nextSerial f_writeHead f_writeCount f_draining f_clock f_mode f_faults f_lost f_retiredReads a_cells a_openRows a_ages a_lastAct a_lastRead a_lastWrite a_lastPre a_lastRef a_actTimes a_reqAddress a_reqLanes a_reqData a_reqBase a_reqFetched a_reqPending a_reqBorn a_reqSerial a_slotStates n (nI cnt) ag (nI j)
  | 0, j, _, _, _, _, hn, _, _, _, _ => by omega
  | n + 1, j, cnt, ag, h6, hj, hn, hc, hz, ha, hag => by
    have dr := xb_dr rg
    unfold wX_updateDraining_7
    by_cases e : j = 12
    · subst e
      have c0 : nI cnt = 0 ↔ cnt = 0 := by rw [show (0 : Int32) = nI 0 by decide, nI_eq (by omega) (by omega)]
      refine br_t (by decide) (br_c (fun z => ?_) (fun z => br_c (fun y => br_c (fun _ => ?_) (fun _ => ?_)) (fun y => ?_)))
      · have hz := hz (c0.mp z)
        exact h 0 (.inl rfl) (fun q l1 l2 p => absurd (hz q l1 l2) p) (fun _ _ q l1 l2 => hz q l1 l2)
      · exact h f_draining dr.2 (fun q l1 l2 p k => by have := hag y q l1 l2 p; omega) (fun k1 k2 => absurd k2 k1)
      · exact h 1 (.inr rfl) (fun _ _ _ _ _ => by decide) (fun _ k => absurd k (by decide))
      · exact h 1 (.inr rfl) (fun _ _ _ _ _ => by decide) (fun _ k => absurd k (by decide))
    · have lt : j < 12 := by omega
      have ej : (nI j).toNatClampNeg = j := nI_clamp (by omega)
      have vj : vp_in (nI j) 12 := vp_in_nI lt (by omega)
      have pd := xb_pd rg lt
      have bj := hb j lt
      have g1 := rg.1
      rw [ab_c] at g1
      simp only [ej]
      refine br_f (nI_ge (b := 12) lt (by decide)) ⟨vj, br_c (fun z => ?_) (fun z => nm_r (nI_1 cnt) ⟨vj, ?_⟩)⟩
      · refine nm_r (nI_1 j) (xw_drain_l rg cp hb h n (j + 1) cnt ag (by omega) lt (by omega) (by omega) (fun c q l1 l2 => ?_) ha (fun a q l1 l2 p => ?_))
        · by_cases x : q = j
          · rw [x]; exact pd.1.mp z
          · exact hz c q l1 (by omega)
        · by_cases x : q = j
          · rw [x] at p; exact absurd (pd.1.mp z) p
          · exact hag a q l1 (by omega) p
      · have lt2 : (f_clock - a_reqBorn j) < f_cap.toInt64 ↔ f_clock.toInt - (a_reqBorn j).toInt < f_cap.toInt := by
          rw [Int64.lt_iff_toInt_lt, xb_sub (by omega) (by omega) (by omega) (by omega), Int32.toInt_toInt64]
        refine br_c (fun y => ?_) (fun y => ?_)
        · refine nm_r (nI_1 j) (xw_drain_l rg cp hb h n (j + 1) (cnt + 1) ag (by omega) lt (by omega) (by omega) (fun c => by omega) ha (fun a q l1 l2 p => ?_))
          by_cases x : q = j
          · rw [x]; exact lt2.mp y
          · exact hag a q l1 (by omega) p
        · exact nm_r (nI_1 j) (xw_drain_l rg cp hb h n (j + 1) (cnt + 1) 1 (by omega) lt (by omega) (by omega) (fun c => by omega) (.inr rfl) (fun a => absurd a (by decide)))
theorem xw_drain {post : SX → Prop} (rg : sc_Rg (sc_ab f_rcd f_rp f_rfc f_cap f_anyAct f_anyRead f_anyWrite f_actNext f_nextSerial f_draining f_clock a_openRows a_ages a_lastAct a_lastRead a_lastWrite a_lastPre a_lastRef a_actTimes a_reqAddress a_reqLanes a_reqFetched a_reqPending a_reqSerial bo)) (cp : 0 ≤ f_cap.toInt ∧ f_cap.toInt ≤ 100) (hb : ∀ q, q < 12 → 0 ≤ (a_reqBorn q).toInt ∧ (a_reqBorn q).toInt ≤ 1000000)
    (h : ∀ d : Int32, (d = 0 ∨ d = 1) → (∀ q, 6 ≤ q → q < 12 → sc_pd (sc_ab f_rcd f_rp f_rfc f_cap f_anyAct f_anyRead f_anyWrite f_actNext f_nextSerial f_draining f_clock a_openRows a_ages a_lastAct a_lastRead a_lastWrite a_lastPre a_lastRef a_actTimes a_reqAddress a_reqLanes a_reqFetched a_reqPending a_reqSerial bo) q ≠ 0 → f_cap.toInt ≤ f_clock.toInt - (a_reqBorn q).toInt → d ≠ 0) → (f_draining ≠ 0 → d = 0 → ∀ q, 6 ≤ q → q < 12 → sc_pd (sc_ab f_rcd f_rp f_rfc f_cap f_anyAct f_anyRead f_anyWrite f_actNext f_nextSerial f_draining f_clock a_openRows a_ages a_lastAct a_lastRead a_lastWrite a_lastPre a_lastRef a_actTimes a_reqAddress a_reqLanes a_reqFetched a_reqPending a_reqSerial bo) q = 0) → post (f_rcd, f_rp, f_rfc, f_cap, f_refreshSoon, f_refreshMust, f_drainMark, f_requests, f_allLanes, f_slotFree, f_slotWaiting, f_slotReady, f_never, f_anyAct, f_anyRead, f_anyWrite, f_actNext, f_nextSerial, f_writeHead, f_writeCount, d, f_clock, f_mode, f_faults, f_lost, f_retiredReads, a_cells, a_openRows, a_ages, a_lastAct, a_lastRead, a_lastWrite, a_lastPre, a_lastRef, a_actTimes, a_reqAddress, a_reqLanes, a_reqData, a_reqBase, a_reqFetched, a_reqPending, a_reqBorn, a_reqSerial, a_slotStates)) :
    wpX_updateDraining post (f_rcd, f_rp, f_rfc, f_cap, f_refreshSoon, f_refreshMust, f_drainMark, f_requests, f_allLanes, f_slotFree, f_slotWaiting, f_slotReady, f_never, f_anyAct, f_anyRead, f_anyWrite, f_actNext, f_nextSerial, f_writeHead, f_writeCount, f_draining, f_clock, f_mode, f_faults, f_lost, f_retiredReads, a_cells, a_openRows, a_ages, a_lastAct, a_lastRead, a_lastWrite, a_lastPre, a_lastRef, a_actTimes, a_reqAddress, a_reqLanes, a_reqData, a_reqBase, a_reqFetched, a_reqPending, a_reqBorn, a_reqSerial, a_slotStates) :=
  ⟨7, xw_drain_l rg cp hb h 7 6 0 0 (by omega) (by omega) (by omega) (by omega) (fun _ q l1 l2 => by omega) (.inl rfl) (fun _ q l1 l2 => by omega)⟩
end
end
section
/-- ages grown by one -/
def xf_ag (a : Nat → Int32) (j : Nat) : Nat → Int32 := fun b => if b < j then a b + 1 else a b
theorem xf_ag_toInt {a : Nat → Int32} {b : Nat} (hb : b < 8) (h0 : 0 ≤ (a b).toInt) (h1 : (a b).toInt ≤ 512) : (xf_ag a 8 b).toInt = (a b).toInt + 1 := by
  unfold xf_ag; rw [if_pos hb, Int32.toInt_add]
  have : (1 : Int32).toInt = 1 := by decide
  rw [this]
  exact Int.bmod_eq_of_le (by omega) (by omega)
theorem xb_upd {a : Nat → Int32} {k j : Nat} {x : Int32} : (upd a k x j).toInt = if j = k then x.toInt else (a j).toInt := by
  unfold upd; split <;> rfl
theorem xb_updL {a : Nat → Int64} {k j : Nat} {x : Int64} : (vp_updL a k x j).toInt = if j = k then x.toInt else (a j).toInt := by
  unfold vp_updL; split <;> rfl
/-- what a command does to the words -/
def sc_Dat (a_reqAddress a_reqLanes a_reqPending a_cells a_reqData a_reqBase n_cells n_reqData n_reqBase n_reqPending : Nat → Int32) (k q : Nat) : Prop :=
  (∀ a, a < 256 → n_cells a = if k = 2 ∧ a = (a_reqAddress q).toInt.toNat then (a_reqBase q &&& (a_reqLanes q ^^^ (-1))) ||| a_reqData q else a_cells a) ∧
  (∀ p, p < 12 → n_reqData p = if k = 1 ∧ p < 6 ∧ a_reqPending p ≠ 0 ∧ a_reqAddress p = a_reqAddress q then (a_cells (a_reqAddress q).toInt.toNat &&& (a_reqLanes p ^^^ (-1))) ||| a_reqData p else a_reqData p) ∧
  (∀ p, p < 12 → n_reqBase p = if (k = 1 ∨ k = 2) ∧ 6 ≤ p ∧ n_reqPending p ≠ 0 ∧ a_reqAddress p = a_reqAddress q then n_cells (a_reqAddress q).toInt.toNat else a_reqBase p)
section
variable {f_rcd f_rp f_rfc f_cap f_refreshSoon f_refreshMust f_drainMark f_requests f_allLanes f_slotFree f_slotWaiting f_slotReady f_actNext f_writeHead f_writeCount f_draining f_mode f_faults f_lost f_retiredReads : Int32} {f_never f_anyAct f_anyRead f_anyWrite f_nextSerial f_clock : Int64} {a_cells a_openRows a_ages a_reqAddress a_reqLanes a_reqData a_reqBase a_reqFetched a_reqPending a_slotStates : (Nat → Int32)} {a_lastAct a_lastRead a_lastWrite a_lastPre a_lastRef a_actTimes a_reqBorn a_reqSerial : (Nat → Int64)}
variable {bo : Nat → Int}
theorem sc_W_dr {d : Int32} (w : sc_W (sc_ab f_rcd f_rp f_rfc f_cap f_anyAct f_anyRead f_anyWrite f_actNext f_nextSerial f_draining f_clock a_openRows a_ages a_lastAct a_lastRead a_lastWrite a_lastPre a_lastRef a_actTimes a_reqAddress a_reqLanes a_reqFetched a_reqPending a_reqSerial bo)) : sc_W (sc_ab f_rcd f_rp f_rfc f_cap f_anyAct f_anyRead f_anyWrite f_actNext f_nextSerial d f_clock a_openRows a_ages a_lastAct a_lastRead a_lastWrite a_lastPre a_lastRef a_actTimes a_reqAddress a_reqLanes a_reqFetched a_reqPending a_reqSerial bo) := by
  unfold sc_W at w ⊢
  simp only [ab_c, ab_dr, ab_a1, ab_a2, ab_a3, ab_a4, ab_ar, ab_aw, ab_rcd, ab_rp, ab_rfc, ab_cap, ab_age, ab_op, ab_la, ab_lr, ab_lw, ab_lp, ab_lf, ab_pd, ab_ad, ab_fe, ab_se, ab_bo, ab_fu] at w ⊢
  exact w
theorem sc_Rg_dr {d : Int32} (hd : d = 0 ∨ d = 1) (rg : sc_Rg (sc_ab f_rcd f_rp f_rfc f_cap f_anyAct f_anyRead f_anyWrite f_actNext f_nextSerial f_draining f_clock a_openRows a_ages a_lastAct a_lastRead a_lastWrite a_lastPre a_lastRef a_actTimes a_reqAddress a_reqLanes a_reqFetched a_reqPending a_reqSerial bo)) : sc_Rg (sc_ab f_rcd f_rp f_rfc f_cap f_anyAct f_anyRead f_anyWrite f_actNext f_nextSerial d f_clock a_openRows a_ages a_lastAct a_lastRead a_lastWrite a_lastPre a_lastRef a_actTimes a_reqAddress a_reqLanes a_reqFetched a_reqPending a_reqSerial bo) := by
  unfold sc_Rg at rg ⊢
  simp only [ab_c, ab_dr, ab_a1, ab_a2, ab_a3, ab_a4, ab_ar, ab_aw, ab_rcd, ab_rp, ab_rfc, ab_cap, ab_age, ab_op, ab_la, ab_lr, ab_lw, ab_lp, ab_lf, ab_pd, ab_ad, ab_fe, ab_se, ab_bo, ab_fu, ab_ns] at rg ⊢
  obtain ⟨⟨g1, g2, g3, g4, -⟩, g5, g6, g7⟩ := rg
  refine ⟨⟨g1, g2, g3, g4, ?_⟩, g5, g6, g7⟩
  rcases hd with rfl | rfl
  · exact .inl (by decide)
  · exact .inr (by decide)
/-- the clock passes -/
theorem xb_clk (rg : sc_Rg (sc_ab f_rcd f_rp f_rfc f_cap f_anyAct f_anyRead f_anyWrite f_actNext f_nextSerial f_draining f_clock a_openRows a_ages a_lastAct a_lastRead a_lastWrite a_lastPre a_lastRef a_actTimes a_reqAddress a_reqLanes a_reqFetched a_reqPending a_reqSerial bo)) : (f_clock + 1).toInt = f_clock.toInt + 1 := by
  have g := rg.1
  rw [ab_c] at g
  have l1 : (1 : Int64).toInt = 1 := by decide
  rw [xb_add (by omega) (by omega) (by omega) (by omega), l1]
theorem xb_agT (rg : sc_Rg (sc_ab f_rcd f_rp f_rfc f_cap f_anyAct f_anyRead f_anyWrite f_actNext f_nextSerial f_draining f_clock a_openRows a_ages a_lastAct a_lastRead a_lastWrite a_lastPre a_lastRef a_actTimes a_reqAddress a_reqLanes a_reqFetched a_reqPending a_reqSerial bo)) {x : Nat} (hx : x < 8) : (xf_ag a_ages 8 x).toInt = sc_age (sc_ab f_rcd f_rp f_rfc f_cap f_anyAct f_anyRead f_anyWrite f_actNext f_nextSerial f_draining f_clock a_openRows a_ages a_lastAct a_lastRead a_lastWrite a_lastPre a_lastRef a_actTimes a_reqAddress a_reqLanes a_reqFetched a_reqPending a_reqSerial bo) x + 1 := by
  have g := rg.2.2.1 x hx
  rw [ab_age] at g
  exact xf_ag_toInt hx g.2.2.2.2.2.1 g.2.2.2.2.2.2.1
theorem xe_none (rg : sc_Rg (sc_ab f_rcd f_rp f_rfc f_cap f_anyAct f_anyRead f_anyWrite f_actNext f_nextSerial f_draining f_clock a_openRows a_ages a_lastAct a_lastRead a_lastWrite a_lastPre a_lastRef a_actTimes a_reqAddress a_reqLanes a_reqFetched a_reqPending a_reqSerial bo)) {b q : Nat} : sc_Ef (sc_ab f_rcd f_rp f_rfc f_cap f_anyAct f_anyRead f_anyWrite f_actNext f_nextSerial f_draining f_clock a_openRows a_ages a_lastAct a_lastRead a_lastWrite a_lastPre a_lastRef a_actTimes a_reqAddress a_reqLanes a_reqFetched a_reqPending a_reqSerial bo) (sc_ab f_rcd f_rp f_rfc f_cap f_anyAct f_anyRead f_anyWrite f_actNext f_nextSerial f_draining (f_clock + 1) a_openRows (xf_ag a_ages 8) a_lastAct a_lastRead a_lastWrite a_lastPre a_lastRef a_actTimes a_reqAddress a_reqLanes a_reqFetched a_reqPending a_reqSerial bo) 5 b q := by
  refine ⟨?_, ?_, ?_, ?_, ?_, ?_, ?_, ?_, ?_, ?_, ?_, ?_, fun x hx => ?_, fun x hx => ?_, fun x hx => ?_, fun x hx => ?_, fun x hx => ?_, fun x hx => ?_, fun x hx => ?_, fun p hp => ?_, fun p hp => ?_, fun p hp => ?_⟩
  · rw [ab_c, ab_c]; exact xb_clk rg
  · rw [ab_rcd, ab_rcd]
  · rw [ab_rp, ab_rp]
  · rw [ab_rfc, ab_rfc]
  · rw [ab_cap, ab_cap]
  · rw [ab_dr, ab_dr]
  · rw [if_neg (by decide), ab_a1, ab_a1]
  · rw [if_neg (by decide), ab_a2, ab_a2]
  · rw [if_neg (by decide), ab_a3, ab_a3]
  · rw [if_neg (by decide), ab_a4, ab_a4]
  · rw [if_neg (by decide), ab_ar, ab_ar]
  · rw [if_neg (by decide), ab_aw, ab_aw]
  · rw [if_neg (by omega), ab_age]; exact xb_agT rg hx
  · rw [if_neg (by omega), if_neg (by omega), ab_op, ab_op]
  · rw [if_neg (by omega), ab_la, ab_la]
  · rw [if_neg (by omega), ab_lr, ab_lr]
  · rw [if_neg (by omega), ab_lw, ab_lw]
  · rw [if_neg (by omega), ab_lp, ab_lp]
  · rw [if_neg (by omega), ab_lf, ab_lf]
  · rw [if_neg (by omega), ab_pd, ab_pd]
  · rw [if_neg (by omega), ab_fe, ab_fe]
  · exact ⟨by rw [ab_ad, ab_ad], by rw [ab_fu, ab_fu], by rw [ab_bo, ab_bo], by rw [ab_se, ab_se]⟩
theorem xe_pre (rg : sc_Rg (sc_ab f_rcd f_rp f_rfc f_cap f_anyAct f_anyRead f_anyWrite f_actNext f_nextSerial f_draining f_clock a_openRows a_ages a_lastAct a_lastRead a_lastWrite a_lastPre a_lastRef a_actTimes a_reqAddress a_reqLanes a_reqFetched a_reqPending a_reqSerial bo)) {b q : Nat} : sc_Ef (sc_ab f_rcd f_rp f_rfc f_cap f_anyAct f_anyRead f_anyWrite f_actNext f_nextSerial f_draining f_clock a_openRows a_ages a_lastAct a_lastRead a_lastWrite a_lastPre a_lastRef a_actTimes a_reqAddress a_reqLanes a_reqFetched a_reqPending a_reqSerial bo) (sc_ab f_rcd f_rp f_rfc f_cap f_anyAct f_anyRead f_anyWrite f_actNext f_nextSerial f_draining (f_clock + 1) (upd a_openRows b (-1)) (xf_ag a_ages 8) a_lastAct a_lastRead a_lastWrite (vp_updL a_lastPre b f_clock) a_lastRef a_actTimes a_reqAddress a_reqLanes a_reqFetched a_reqPending a_reqSerial bo) 3 b q := by
  refine ⟨?_, ?_, ?_, ?_, ?_, ?_, ?_, ?_, ?_, ?_, ?_, ?_, fun x hx => ?_, fun x hx => ?_, fun x hx => ?_, fun x hx => ?_, fun x hx => ?_, fun x hx => ?_, fun x hx => ?_, fun p hp => ?_, fun p hp => ?_, fun p hp => ?_⟩
  · rw [ab_c, ab_c]; exact xb_clk rg
  · rw [ab_rcd, ab_rcd]
  · rw [ab_rp, ab_rp]
  · rw [ab_rfc, ab_rfc]
  · rw [ab_cap, ab_cap]
  · rw [ab_dr, ab_dr]
  · rw [if_neg (by decide), ab_a1, ab_a1]
  · rw [if_neg (by decide), ab_a2, ab_a2]
  · rw [if_neg (by decide), ab_a3, ab_a3]
  · rw [if_neg (by decide), ab_a4, ab_a4]
  · rw [if_neg (by decide), ab_ar, ab_ar]
  · rw [if_neg (by decide), ab_aw, ab_aw]
  · rw [if_neg (by omega), ab_age]; exact xb_agT rg hx
  · rw [if_neg (by omega), ab_op, ab_op, xb_upd]
    by_cases e : x = b
    · rw [if_pos e, if_pos ⟨rfl, e⟩]; decide
    · rw [if_neg e, if_neg (fun z => e z.2)]
  · rw [if_neg (by omega), ab_la, ab_la]
  · rw [if_neg (by omega), ab_lr, ab_lr]
  · rw [if_neg (by omega), ab_lw, ab_lw]
  · rw [ab_lp, ab_lp, xb_updL]
    by_cases e : x = b
    · rw [if_pos e, if_pos ⟨rfl, e⟩, ab_c]
    · rw [if_neg e, if_neg (fun z => e z.2)]
  · rw [if_neg (by omega), ab_lf, ab_lf]
  · rw [if_neg (by omega), ab_pd, ab_pd]
  · rw [if_neg (by omega), ab_fe, ab_fe]
  · exact ⟨by rw [ab_ad, ab_ad], by rw [ab_fu, ab_fu], by rw [ab_bo, ab_bo], by rw [ab_se, ab_se]⟩
theorem xe_ref (rg : sc_Rg (sc_ab f_rcd f_rp f_rfc f_cap f_anyAct f_anyRead f_anyWrite f_actNext f_nextSerial f_draining f_clock a_openRows a_ages a_lastAct a_lastRead a_lastWrite a_lastPre a_lastRef a_actTimes a_reqAddress a_reqLanes a_reqFetched a_reqPending a_reqSerial bo)) {b q : Nat} : sc_Ef (sc_ab f_rcd f_rp f_rfc f_cap f_anyAct f_anyRead f_anyWrite f_actNext f_nextSerial f_draining f_clock a_openRows a_ages a_lastAct a_lastRead a_lastWrite a_lastPre a_lastRef a_actTimes a_reqAddress a_reqLanes a_reqFetched a_reqPending a_reqSerial bo) (sc_ab f_rcd f_rp f_rfc f_cap f_anyAct f_anyRead f_anyWrite f_actNext f_nextSerial f_draining (f_clock + 1) a_openRows (xf_ag (upd a_ages b 0) 8) a_lastAct a_lastRead a_lastWrite a_lastPre (vp_updL a_lastRef b f_clock) a_actTimes a_reqAddress a_reqLanes a_reqFetched a_reqPending a_reqSerial bo) 4 b q := by
  refine ⟨?_, ?_, ?_, ?_, ?_, ?_, ?_, ?_, ?_, ?_, ?_, ?_, fun x hx => ?_, fun x hx => ?_, fun x hx => ?_, fun x hx => ?_, fun x hx => ?_, fun x hx => ?_, fun x hx => ?_, fun p hp => ?_, fun p hp => ?_, fun p hp => ?_⟩
  · rw [ab_c, ab_c]; exact xb_clk rg
  · rw [ab_rcd, ab_rcd]
  · rw [ab_rp, ab_rp]
  · rw [ab_rfc, ab_rfc]
  · rw [ab_cap, ab_cap]
  · rw [ab_dr, ab_dr]
  · rw [if_neg (by decide), ab_a1, ab_a1]
  · rw [if_neg (by decide), ab_a2, ab_a2]
  · rw [if_neg (by decide), ab_a3, ab_a3]
  · rw [if_neg (by decide), ab_a4, ab_a4]
  · rw [if_neg (by decide), ab_ar, ab_ar]
  · rw [if_neg (by decide), ab_aw, ab_aw]
  · have g := rg.2.2.1 x hx
    rw [ab_age] at g ⊢
    rw [ab_age]
    have u := xb_upd (a := a_ages) (k := b) (j := x) (x := 0)
    have z0 : (0 : Int32).toInt = 0 := by decide
    rw [z0] at u
    by_cases e : x = b
    · rw [if_pos e] at u
      rw [if_pos ⟨rfl, e⟩, xf_ag_toInt hx (by omega) (by omega), u]
    · rw [if_neg e] at u
      rw [if_neg (fun z => e z.2), xf_ag_toInt hx (by omega) (by omega), u]
  · rw [if_neg (by omega), if_neg (by omega), ab_op, ab_op]
  · rw [if_neg (by omega), ab_la, ab_la]
  · rw [if_neg (by omega), ab_lr, ab_lr]
  · rw [if_neg (by omega), ab_lw, ab_lw]
  · rw [if_neg (by omega), ab_lp, ab_lp]
  · rw [ab_lf, ab_lf, xb_updL]
    by_cases e : x = b
    · rw [if_pos e, if_pos ⟨rfl, e⟩, ab_c]
    · rw [if_neg e, if_neg (fun z => e z.2)]
  · rw [if_neg (by omega), ab_pd, ab_pd]
  · rw [if_neg (by omega), ab_fe, ab_fe]
  · exact ⟨by rw [ab_ad, ab_ad], by rw [ab_fu, ab_fu], by rw [ab_bo, ab_bo], by rw [ab_se, ab_se]⟩
theorem xb_an (an : vp_in f_actNext 4) : ∃ n, n < 4 ∧ f_actNext = nI n ∧ f_actNext.toNatClampNeg = n ∧ ((f_actNext + 1) &&& 3).toNatClampNeg = (n + 1) % 4 ∧ vp_in ((f_actNext + 1) &&& 3) 4 := by
  obtain ⟨n, hn, rfl⟩ := vp_in_of an (by decide)
  have e : (nI n + 1) &&& 3 = nI ((n + 1) % 4) := by rw [nI_1]; exact pk_andN (by omega) 2 (by decide)
  refine ⟨n, hn, rfl, nI_clamp (by omega), ?_, ?_⟩
  · rw [e]; exact nI_clamp (by omega)
  · rw [e]; exact vp_in_nI (by omega) (by omega)
theorem xe_act (rg : sc_Rg (sc_ab f_rcd f_rp f_rfc f_cap f_anyAct f_anyRead f_anyWrite f_actNext f_nextSerial f_draining f_clock a_openRows a_ages a_lastAct a_lastRead a_lastWrite a_lastPre a_lastRef a_actTimes a_reqAddress a_reqLanes a_reqFetched a_reqPending a_reqSerial bo)) (an : vp_in f_actNext 4) (ri : (a_actTimes ((f_actNext.toNatClampNeg + 3) % 4)).toInt = f_anyAct.toInt) {b q : Nat} : sc_Ef (sc_ab f_rcd f_rp f_rfc f_cap f_anyAct f_anyRead f_anyWrite f_actNext f_nextSerial f_draining f_clock a_openRows a_ages a_lastAct a_lastRead a_lastWrite a_lastPre a_lastRef a_actTimes a_reqAddress a_reqLanes a_reqFetched a_reqPending a_reqSerial bo) (sc_ab f_rcd f_rp f_rfc f_cap f_clock f_anyRead f_anyWrite ((f_actNext + 1) &&& 3) f_nextSerial f_draining (f_clock + 1) (upd a_openRows b (nI (sc_ro (sc_ab f_rcd f_rp f_rfc f_cap f_anyAct f_anyRead f_anyWrite f_actNext f_nextSerial f_draining f_clock a_openRows a_ages a_lastAct a_lastRead a_lastWrite a_lastPre a_lastRef a_actTimes a_reqAddress a_reqLanes a_reqFetched a_reqPending a_reqSerial bo) q).toNat)) (xf_ag a_ages 8) (vp_updL a_lastAct b f_clock) a_lastRead a_lastWrite a_lastPre a_lastRef (vp_updL a_actTimes f_actNext.toNatClampNeg f_clock) a_reqAddress a_reqLanes a_reqFetched a_reqPending a_reqSerial bo) 0 b q := by
  obtain ⟨n, hn, e0, e1, e2, -⟩ := xb_an an
  have ro := sc_rA_in (sc_ad (sc_ab f_rcd f_rp f_rfc f_cap f_anyAct f_anyRead f_anyWrite f_actNext f_nextSerial f_draining f_clock a_openRows a_ages a_lastAct a_lastRead a_lastWrite a_lastPre a_lastRef a_actTimes a_reqAddress a_reqLanes a_reqFetched a_reqPending a_reqSerial bo) q)
  refine ⟨?_, ?_, ?_, ?_, ?_, ?_, ?_, ?_, ?_, ?_, ?_, ?_, fun x hx => ?_, fun x hx => ?_, fun x hx => ?_, fun x hx => ?_, fun x hx => ?_, fun x hx => ?_, fun x hx => ?_, fun p hp => ?_, fun p hp => ?_, fun p hp => ?_⟩
  · rw [ab_c, ab_c]; exact xb_clk rg
  · rw [ab_rcd, ab_rcd]
  · rw [ab_rp, ab_rp]
  · rw [ab_rfc, ab_rfc]
  · rw [ab_cap, ab_cap]
  · rw [ab_dr, ab_dr]
  · rw [if_pos rfl, ab_a1, ab_c]
  · rw [if_pos rfl, ab_a2, ab_a1, xb_updL, e2, if_neg (by omega), ← ri, e1]
    congr 2; omega
  · rw [if_pos rfl, ab_a3, ab_a2, xb_updL, e2, if_neg (by omega), e1]
    congr 2; omega
  · rw [if_pos rfl, ab_a4, ab_a3, xb_updL, e2, if_neg (by omega), e1]
  · rw [if_neg (by decide), ab_ar, ab_ar]
  · rw [if_neg (by decide), ab_aw, ab_aw]
  · rw [if_neg (by omega), ab_age]; exact xb_agT rg hx
  · rw [ab_op, xb_upd]
    by_cases e : x = b
    · rw [if_pos e, if_pos ⟨rfl, e⟩, nI_toInt (by show (sc_rA _).toNat < _; omega)]
      show ((sc_rA (sc_ad (sc_ab f_rcd f_rp f_rfc f_cap f_anyAct f_anyRead f_anyWrite f_actNext f_nextSerial f_draining f_clock a_openRows a_ages a_lastAct a_lastRead a_lastWrite a_lastPre a_lastRef a_actTimes a_reqAddress a_reqLanes a_reqFetched a_reqPending a_reqSerial bo) q)).toNat : Int) = sc_rA (sc_ad (sc_ab f_rcd f_rp f_rfc f_cap f_anyAct f_anyRead f_anyWrite f_actNext f_nextSerial f_draining f_clock a_openRows a_ages a_lastAct a_lastRead a_lastWrite a_lastPre a_lastRef a_actTimes a_reqAddress a_reqLanes a_reqFetched a_reqPending a_reqSerial bo) q)
      omega
    · rw [if_neg e, if_neg (fun z => e z.2), if_neg (by omega), ab_op]
  · rw [ab_la, ab_la, xb_updL]
    by_cases e : x = b
    · rw [if_pos e, if_pos ⟨rfl, e⟩, ab_c]
    · rw [if_neg e, if_neg (fun z => e z.2)]
  · rw [if_neg (by omega), ab_lr, ab_lr]
  · rw [if_neg (by omega), ab_lw, ab_lw]
  · rw [if_neg (by omega), ab_lp, ab_lp]
  · rw [if_neg (by omega), ab_lf, ab_lf]
  · rw [if_neg (by omega), ab_pd, ab_pd]
  · rw [if_neg (by omega), ab_fe, ab_fe]
  · exact ⟨by rw [ab_ad, ab_ad], by rw [ab_fu, ab_fu], by rw [ab_bo, ab_bo], by rw [ab_se, ab_se]⟩
theorem xe_rd (rg : sc_Rg (sc_ab f_rcd f_rp f_rfc f_cap f_anyAct f_anyRead f_anyWrite f_actNext f_nextSerial f_draining f_clock a_openRows a_ages a_lastAct a_lastRead a_lastWrite a_lastPre a_lastRef a_actTimes a_reqAddress a_reqLanes a_reqFetched a_reqPending a_reqSerial bo)) {q : Nat} (hq : q < 12) : sc_Ef (sc_ab f_rcd f_rp f_rfc f_cap f_anyAct f_anyRead f_anyWrite f_actNext f_nextSerial f_draining f_clock a_openRows a_ages a_lastAct a_lastRead a_lastWrite a_lastPre a_lastRef a_actTimes a_reqAddress a_reqLanes a_reqFetched a_reqPending a_reqSerial bo) (sc_ab f_rcd f_rp f_rfc f_cap f_anyAct f_clock f_anyWrite f_actNext f_nextSerial f_draining (f_clock + 1) a_openRows (xf_ag a_ages 8) a_lastAct (vp_updL a_lastRead (sc_bk (sc_ab f_rcd f_rp f_rfc f_cap f_anyAct f_anyRead f_anyWrite f_actNext f_nextSerial f_draining f_clock a_openRows a_ages a_lastAct a_lastRead a_lastWrite a_lastPre a_lastRef a_actTimes a_reqAddress a_reqLanes a_reqFetched a_reqPending a_reqSerial bo) q) f_clock) a_lastWrite a_lastPre a_lastRef a_actTimes a_reqAddress a_reqLanes (xf_sh (xf_rp a_reqPending a_reqAddress (a_reqAddress q) 6) a_reqAddress a_reqFetched (a_reqAddress q) 1 12) (xf_rp a_reqPending a_reqAddress (a_reqAddress q) 6) a_reqSerial bo) 1 (sc_bk (sc_ab f_rcd f_rp f_rfc f_cap f_anyAct f_anyRead f_anyWrite f_actNext f_nextSerial f_draining f_clock a_openRows a_ages a_lastAct a_lastRead a_lastWrite a_lastPre a_lastRef a_actTimes a_reqAddress a_reqLanes a_reqFetched a_reqPending a_reqSerial bo) q) q := by
  have pd := fun p (hp : p < 12) => (xb_pd rg hp)
  refine ⟨?_, ?_, ?_, ?_, ?_, ?_, ?_, ?_, ?_, ?_, ?_, ?_, fun x hx => ?_, fun x hx => ?_, fun x hx => ?_, fun x hx => ?_, fun x hx => ?_, fun x hx => ?_, fun x hx => ?_, fun p hp => ?_, fun p hp => ?_, fun p hp => ?_⟩
  · rw [ab_c, ab_c]; exact xb_clk rg
  · rw [ab_rcd, ab_rcd]
  · rw [ab_rp, ab_rp]
  · rw [ab_rfc, ab_rfc]
  · rw [ab_cap, ab_cap]
  · rw [ab_dr, ab_dr]
  · rw [if_neg (by decide), ab_a1, ab_a1]
  · rw [if_neg (by decide), ab_a2, ab_a2]
  · rw [if_neg (by decide), ab_a3, ab_a3]
  · rw [if_neg (by decide), ab_a4, ab_a4]
  · rw [if_pos rfl, ab_ar, ab_c]
  · rw [if_neg (by decide), ab_aw, ab_aw]
  · rw [if_neg (by omega), ab_age]; exact xb_agT rg hx
  · rw [if_neg (by omega), if_neg (by omega), ab_op, ab_op]
  · rw [if_neg (by omega), ab_la, ab_la]
  · rw [ab_lr, ab_lr, xb_updL]
    by_cases e : x = sc_bk (sc_ab f_rcd f_rp f_rfc f_cap f_anyAct f_anyRead f_anyWrite f_actNext f_nextSerial f_draining f_clock a_openRows a_ages a_lastAct a_lastRead a_lastWrite a_lastPre a_lastRef a_actTimes a_reqAddress a_reqLanes a_reqFetched a_reqPending a_reqSerial bo) q
    · rw [if_pos e, if_pos ⟨rfl, e⟩, ab_c]
    · rw [if_neg e, if_neg (fun z => e z.2)]
  · rw [if_neg (by omega), ab_lw, ab_lw]
  · rw [if_neg (by omega), ab_lp, ab_lp]
  · rw [if_neg (by omega), ab_lf, ab_lf]
  · have pp := pd p hp
    rw [ab_pd] at pp
    rw [ab_pd, ab_pd, ab_ad, ab_ad]
    unfold xf_rp
    by_cases c : p < 6 ∧ (a_reqAddress p).toInt = (a_reqAddress q).toInt
    · refine Eq.trans ?_ (if_pos (.inl ⟨rfl, c.1, c.2⟩)).symm
      by_cases z : a_reqPending p = 0
      · rw [if_neg (fun y => y.2.1 z), z]; decide
      · rw [if_pos ⟨c.1, z, xb_eq.mpr c.2⟩]; decide
    · refine Eq.trans ?_ (if_neg (by rintro (y | y); exact c ⟨y.2.1, y.2.2⟩; omega)).symm
      rw [if_neg (fun y => c ⟨y.1, xb_eq.mp y.2.2⟩)]
  · have pp := pd p hp
    rw [ab_pd] at pp
    rw [ab_fe, ab_fe, ab_pd, ab_ad, ab_ad]
    unfold xf_sh
    have rp : 6 ≤ p → xf_rp a_reqPending a_reqAddress (a_reqAddress q) 6 p = a_reqPending p := fun l => by unfold xf_rp; rw [if_neg (by omega)]
    by_cases c : 6 ≤ p ∧ (a_reqPending p).toInt ≠ 0 ∧ (a_reqAddress p).toInt = (a_reqAddress q).toInt
    · refine Eq.trans ?_ (if_pos ⟨.inl rfl, c⟩).symm
      rw [if_pos ⟨c.1, hp, by rw [rp c.1]; exact fun z => c.2.1 (pp.1.mp z), xb_eq.mpr c.2.2⟩]; decide
    · refine Eq.trans ?_ (if_neg (fun y => c y.2)).symm
      rw [if_neg (fun y => c ⟨y.1, fun z => y.2.2.1 (by rw [rp y.1]; exact pp.1.mpr z), xb_eq.mp y.2.2.2⟩)]
  · exact ⟨by rw [ab_ad, ab_ad], by rw [ab_fu, ab_fu], by rw [ab_bo, ab_bo], by rw [ab_se, ab_se]⟩
theorem xe_wr (rg : sc_Rg (sc_ab f_rcd f_rp f_rfc f_cap f_anyAct f_anyRead f_anyWrite f_actNext f_nextSerial f_draining f_clock a_openRows a_ages a_lastAct a_lastRead a_lastWrite a_lastPre a_lastRef a_actTimes a_reqAddress a_reqLanes a_reqFetched a_reqPending a_reqSerial bo)) {q : Nat} (hq : q < 12) : sc_Ef (sc_ab f_rcd f_rp f_rfc f_cap f_anyAct f_anyRead f_anyWrite f_actNext f_nextSerial f_draining f_clock a_openRows a_ages a_lastAct a_lastRead a_lastWrite a_lastPre a_lastRef a_actTimes a_reqAddress a_reqLanes a_reqFetched a_reqPending a_reqSerial bo) (sc_ab f_rcd f_rp f_rfc f_cap f_anyAct f_anyRead f_clock f_actNext f_nextSerial f_draining (f_clock + 1) a_openRows (xf_ag a_ages 8) a_lastAct a_lastRead (vp_updL a_lastWrite (sc_bk (sc_ab f_rcd f_rp f_rfc f_cap f_anyAct f_anyRead f_anyWrite f_actNext f_nextSerial f_draining f_clock a_openRows a_ages a_lastAct a_lastRead a_lastWrite a_lastPre a_lastRef a_actTimes a_reqAddress a_reqLanes a_reqFetched a_reqPending a_reqSerial bo) q) f_clock) a_lastPre a_lastRef a_actTimes a_reqAddress a_reqLanes (xf_sh (upd a_reqPending q 0) a_reqAddress a_reqFetched (a_reqAddress q) 1 12) (upd a_reqPending q 0) a_reqSerial bo) 2 (sc_bk (sc_ab f_rcd f_rp f_rfc f_cap f_anyAct f_anyRead f_anyWrite f_actNext f_nextSerial f_draining f_clock a_openRows a_ages a_lastAct a_lastRead a_lastWrite a_lastPre a_lastRef a_actTimes a_reqAddress a_reqLanes a_reqFetched a_reqPending a_reqSerial bo) q) q := by
  have pd := fun p (hp : p < 12) => (xb_pd rg hp)
  refine ⟨?_, ?_, ?_, ?_, ?_, ?_, ?_, ?_, ?_, ?_, ?_, ?_, fun x hx => ?_, fun x hx => ?_, fun x hx => ?_, fun x hx => ?_, fun x hx => ?_, fun x hx => ?_, fun x hx => ?_, fun p hp => ?_, fun p hp => ?_, fun p hp => ?_⟩
  · rw [ab_c, ab_c]; exact xb_clk rg
  · rw [ab_rcd, ab_rcd]
  · rw [ab_rp, ab_rp]
  · rw [ab_rfc, ab_rfc]
  · rw [ab_cap, ab_cap]
  · rw [ab_dr, ab_dr]
  · rw [if_neg (by decide), ab_a1, ab_a1]
  · rw [if_neg (by decide), ab_a2, ab_a2]
  · rw [if_neg (by decide), ab_a3, ab_a3]
  · rw [if_neg (by decide), ab_a4, ab_a4]
  · rw [if_neg (by decide), ab_ar, ab_ar]
  · rw [if_pos rfl, ab_aw, ab_c]
  · rw [if_neg (by omega), ab_age]; exact xb_agT rg hx
  · rw [if_neg (by omega), if_neg (by omega), ab_op, ab_op]
  · rw [if_neg (by omega), ab_la, ab_la]
  · rw [if_neg (by omega), ab_lr, ab_lr]
  · rw [ab_lw, ab_lw, xb_updL]
    by_cases e : x = sc_bk (sc_ab f_rcd f_rp f_rfc f_cap f_anyAct f_anyRead f_anyWrite f_actNext f_nextSerial f_draining f_clock a_openRows a_ages a_lastAct a_lastRead a_lastWrite a_lastPre a_lastRef a_actTimes a_reqAddress a_reqLanes a_reqFetched a_reqPending a_reqSerial bo) q
    · rw [if_pos e, if_pos ⟨rfl, e⟩, ab_c]
    · rw [if_neg e, if_neg (fun z => e z.2)]
  · rw [if_neg (by omega), ab_lp, ab_lp]
  · rw [if_neg (by omega), ab_lf, ab_lf]
  · rw [ab_pd, ab_pd, xb_upd]
    by_cases c : p = q
    · refine Eq.trans ?_ (if_pos (.inr ⟨rfl, c⟩)).symm
      rw [if_pos c]; decide
    · refine Eq.trans ?_ (if_neg (by rintro (y | y); omega; exact c y.2)).symm
      rw [if_neg c]
  · have pp := pd p hp
    rw [ab_pd] at pp
    rw [ab_fe, ab_fe, ab_pd, ab_ad, ab_ad]
    unfold xf_sh
    by_cases n : p = q
    · refine Eq.trans ?_ (if_neg (by rintro ⟨z, -⟩; rcases z with z | z; omega; exact z.2 n)).symm
      rw [if_neg]
      rintro ⟨-, -, z, -⟩
      apply z
      rw [n]
      exact pk_us
    · have un : upd a_reqPending q 0 p = a_reqPending p := pk_un n
      by_cases c : 6 ≤ p ∧ (a_reqPending p).toInt ≠ 0 ∧ (a_reqAddress p).toInt = (a_reqAddress q).toInt
      · refine Eq.trans ?_ (if_pos ⟨.inr ⟨rfl, n⟩, c⟩).symm
        rw [if_pos ⟨c.1, hp, by rw [un]; exact fun z => c.2.1 (pp.1.mp z), xb_eq.mpr c.2.2⟩]; decide
      · refine Eq.trans ?_ (if_neg (fun y => c y.2)).symm
        rw [if_neg (fun y => c ⟨y.1, fun z => y.2.2.1 (by rw [un]; exact pp.1.mpr z), xb_eq.mp y.2.2.2⟩)]
  · exact ⟨by rw [ab_ad, ab_ad], by rw [ab_fu, ab_fu], by rw [ab_bo, ab_bo], by rw [ab_se, ab_se]⟩
end
end
section
section
variable {f_rcd f_rp f_rfc f_cap f_refreshSoon f_refreshMust f_drainMark f_requests f_allLanes f_slotFree f_slotWaiting f_slotReady f_actNext f_writeHead f_writeCount f_draining f_mode f_faults f_lost f_retiredReads : Int32} {f_never f_anyAct f_anyRead f_anyWrite f_nextSerial f_clock : Int64} {a_cells a_openRows a_ages a_reqAddress a_reqLanes a_reqData a_reqBase a_reqFetched a_reqPending a_slotStates : (Nat → Int32)} {a_lastAct a_lastRead a_lastWrite a_lastPre a_lastRef a_actTimes a_reqBorn a_reqSerial : (Nat → Int64)}
variable {bo : Nat → Int}
theorem xd_0 {k q : Nat} (h1 : k ≠ 1) (h2 : k ≠ 2) : sc_Dat a_reqAddress a_reqLanes a_reqPending a_cells a_reqData a_reqBase a_cells a_reqData a_reqBase a_reqPending k q := by
  refine ⟨fun a ha => ?_, fun p hp => ?_, fun p hp => ?_⟩
  · rw [if_neg (fun z => h2 z.1)]
  · rw [if_neg (fun z => h1 z.1)]
  · rw [if_neg (by rintro ⟨z, -⟩; rcases z with z | z; exact h1 z; exact h2 z)]
theorem xd_rd {q : Nat} : sc_Dat a_reqAddress a_reqLanes a_reqPending a_cells a_reqData a_reqBase a_cells (xf_rd a_reqPending a_reqAddress a_reqLanes a_reqData (a_reqAddress q) (a_cells (a_reqAddress q).toInt.toNat) 6) (xf_sh (xf_rp a_reqPending a_reqAddress (a_reqAddress q) 6) a_reqAddress a_reqBase (a_reqAddress q) (a_cells (a_reqAddress q).toInt.toNat) 12) (xf_rp a_reqPending a_reqAddress (a_reqAddress q) 6) 1 q := by
  refine ⟨fun a ha => ?_, fun p hp => ?_, fun p hp => ?_⟩
  · rw [if_neg (by omega)]
  · unfold xf_rd
    by_cases c : p < 6 ∧ a_reqPending p ≠ 0 ∧ a_reqAddress p = a_reqAddress q
    · rw [if_pos c]; exact (if_pos ⟨rfl, c⟩).symm
    · rw [if_neg c]; exact (if_neg (fun z => c z.2)).symm
  · unfold xf_sh
    by_cases c : 6 ≤ p ∧ xf_rp a_reqPending a_reqAddress (a_reqAddress q) 6 p ≠ 0 ∧ a_reqAddress p = a_reqAddress q
    · rw [if_pos ⟨c.1, hp, c.2⟩]; exact (if_pos ⟨.inl rfl, c⟩).symm
    · rw [if_neg (fun z => c ⟨z.1, z.2.2⟩)]; exact (if_neg (fun z => c z.2)).symm
theorem xd_wr {q : Nat} : sc_Dat a_reqAddress a_reqLanes a_reqPending a_cells a_reqData a_reqBase (upd a_cells (a_reqAddress q).toInt.toNat ((a_reqBase q &&& (a_reqLanes q ^^^ (-1))) ||| a_reqData q)) a_reqData (xf_sh (upd a_reqPending q 0) a_reqAddress a_reqBase (a_reqAddress q) ((a_reqBase q &&& (a_reqLanes q ^^^ (-1))) ||| a_reqData q) 12) (upd a_reqPending q 0) 2 q := by
  refine ⟨fun a ha => ?_, fun p hp => ?_, fun p hp => ?_⟩
  · unfold upd
    by_cases c : a = (a_reqAddress q).toInt.toNat
    · rw [if_pos c]; exact (if_pos ⟨rfl, c⟩).symm
    · rw [if_neg c]; exact (if_neg (fun z => c z.2)).symm
  · rw [if_neg (by omega)]
  · unfold xf_sh
    by_cases c : 6 ≤ p ∧ upd a_reqPending q 0 p ≠ 0 ∧ a_reqAddress p = a_reqAddress q
    · rw [if_pos ⟨c.1, hp, c.2⟩]
      refine Eq.trans ?_ (if_pos ⟨.inr rfl, c⟩).symm
      exact pk_us.symm
    · rw [if_neg (fun z => c ⟨z.1, z.2.2⟩)]; exact (if_neg (fun z => c z.2)).symm
theorem xb_upd0 (rg : sc_Rg (sc_ab f_rcd f_rp f_rfc f_cap f_anyAct f_anyRead f_anyWrite f_actNext f_nextSerial f_draining f_clock a_openRows a_ages a_lastAct a_lastRead a_lastWrite a_lastPre a_lastRef a_actTimes a_reqAddress a_reqLanes a_reqFetched a_reqPending a_reqSerial bo)) {b : Nat} : ∀ x, x < 8 → 0 ≤ (upd a_ages b 0 x).toInt ∧ (upd a_ages b 0 x).toInt ≤ 512 := by
  intro x hx
  have g := rg.2.2.1 x hx
  rw [ab_age] at g
  rw [xb_upd]
  have : (0 : Int32).toInt = 0 := by decide
  split <;> omega
theorem xb_ages (rg : sc_Rg (sc_ab f_rcd f_rp f_rfc f_cap f_anyAct f_anyRead f_anyWrite f_actNext f_nextSerial f_draining f_clock a_openRows a_ages a_lastAct a_lastRead a_lastWrite a_lastPre a_lastRef a_actTimes a_reqAddress a_reqLanes a_reqFetched a_reqPending a_reqSerial bo)) : ∀ x, x < 8 → 0 ≤ (a_ages x).toInt ∧ (a_ages x).toInt ≤ 512 := by
  intro x hx
  have g := rg.2.2.1 x hx
  rw [ab_age] at g
  exact ⟨g.2.2.2.2.2.1, g.2.2.2.2.2.2.1⟩
/-- what is known behind the command of a clock -/
def sc_Aft (ch ef da an ri ag : Prop) : Prop := ch ∧ ef ∧ da ∧ an ∧ ri ∧ ag
theorem xw_adv2 {K : SX → Prop} (w : sc_W (sc_ab f_rcd f_rp f_rfc f_cap f_anyAct f_anyRead f_anyWrite f_actNext f_nextSerial f_draining f_clock a_openRows a_ages a_lastAct a_lastRead a_lastWrite a_lastPre a_lastRef a_actTimes a_reqAddress a_reqLanes a_reqFetched a_reqPending a_reqSerial bo)) (rg : sc_Rg (sc_ab f_rcd f_rp f_rfc f_cap f_anyAct f_anyRead f_anyWrite f_actNext f_nextSerial f_draining f_clock a_openRows a_ages a_lastAct a_lastRead a_lastWrite a_lastPre a_lastRef a_actTimes a_reqAddress a_reqLanes a_reqFetched a_reqPending a_reqSerial bo)) (an : vp_in f_actNext 4) (ri : (a_actTimes ((f_actNext.toNatClampNeg + 3) % 4)).toInt = f_anyAct.toInt)
    (h : ∀ (n_anyAct : Int64) (n_anyRead : Int64) (n_anyWrite : Int64) (n_actNext : Int32) (n_cells : (Nat → Int32)) (n_openRows : (Nat → Int32)) (n_ages : (Nat → Int32)) (n_lastAct : (Nat → Int64)) (n_lastRead : (Nat → Int64)) (n_lastWrite : (Nat → Int64)) (n_lastPre : (Nat → Int64)) (n_lastRef : (Nat → Int64)) (n_actTimes : (Nat → Int64)) (n_reqData : (Nat → Int32)) (n_reqBase : (Nat → Int32)) (n_reqFetched : (Nat → Int32)) (n_reqPending : (Nat → Int32)) (k b q : Nat), sc_Aft (sc_Ch (sc_ab f_rcd f_rp f_rfc f_cap f_anyAct f_anyRead f_anyWrite f_actNext f_nextSerial f_draining f_clock a_openRows a_ages a_lastAct a_lastRead a_lastWrite a_lastPre a_lastRef a_actTimes a_reqAddress a_reqLanes a_reqFetched a_reqPending a_reqSerial bo) k b q) (sc_Ef (sc_ab f_rcd f_rp f_rfc f_cap f_anyAct f_anyRead f_anyWrite f_actNext f_nextSerial f_draining f_clock a_openRows a_ages a_lastAct a_lastRead a_lastWrite a_lastPre a_lastRef a_actTimes a_reqAddress a_reqLanes a_reqFetched a_reqPending a_reqSerial bo) (sc_ab f_rcd f_rp f_rfc f_cap n_anyAct n_anyRead n_anyWrite n_actNext f_nextSerial f_draining (f_clock + 1) n_openRows (xf_ag n_ages 8) n_lastAct n_lastRead n_lastWrite n_lastPre n_lastRef n_actTimes a_reqAddress a_reqLanes n_reqFetched n_reqPending a_reqSerial bo) k b q)
      (sc_Dat a_reqAddress a_reqLanes a_reqPending a_cells a_reqData a_reqBase n_cells n_reqData n_reqBase n_reqPending k q) (vp_in n_actNext 4)
      ((n_actTimes ((n_actNext.toNatClampNeg + 3) % 4)).toInt = n_anyAct.toInt) (∀ x, x < 8 → 0 ≤ (n_ages x).toInt ∧ (n_ages x).toInt ≤ 512) → K (f_rcd, f_rp, f_rfc, f_cap, f_refreshSoon, f_refreshMust, f_drainMark, f_requests, f_allLanes, f_slotFree, f_slotWaiting, f_slotReady, f_never, n_anyAct, n_anyRead, n_anyWrite, n_actNext, f_nextSerial, f_writeHead, f_writeCount, f_draining, f_clock, f_mode, f_faults, f_lost, f_retiredReads, n_cells, n_openRows, n_ages, n_lastAct, n_lastRead, n_lastWrite, n_lastPre, n_lastRef, n_actTimes, a_reqAddress, a_reqLanes, n_reqData, n_reqBase, n_reqFetched, n_reqPending, a_reqBorn, a_reqSerial, a_slotStates))
    {q : Nat} (hq : q < 12) (p : sc_P (sc_ab f_rcd f_rp f_rfc f_cap f_anyAct f_anyRead f_anyWrite f_actNext f_nextSerial f_draining f_clock a_openRows a_ages a_lastAct a_lastRead a_lastWrite a_lastPre a_lastRef a_actTimes a_reqAddress a_reqLanes a_reqFetched a_reqPending a_reqSerial bo) (sc_kd (sc_ab f_rcd f_rp f_rfc f_cap f_anyAct f_anyRead f_anyWrite f_actNext f_nextSerial f_draining f_clock a_openRows a_ages a_lastAct a_lastRead a_lastWrite a_lastPre a_lastRef a_actTimes a_reqAddress a_reqLanes a_reqFetched a_reqPending a_reqSerial bo) q) (sc_bk (sc_ab f_rcd f_rp f_rfc f_cap f_anyAct f_anyRead f_anyWrite f_actNext f_nextSerial f_draining f_clock a_openRows a_ages a_lastAct a_lastRead a_lastWrite a_lastPre a_lastRef a_actTimes a_reqAddress a_reqLanes a_reqFetched a_reqPending a_reqSerial bo) q)) (ch : sc_Ch (sc_ab f_rcd f_rp f_rfc f_cap f_anyAct f_anyRead f_anyWrite f_actNext f_nextSerial f_draining f_clock a_openRows a_ages a_lastAct a_lastRead a_lastWrite a_lastPre a_lastRef a_actTimes a_reqAddress a_reqLanes a_reqFetched a_reqPending a_reqSerial bo) (sc_kd (sc_ab f_rcd f_rp f_rfc f_cap f_anyAct f_anyRead f_anyWrite f_actNext f_nextSerial f_draining f_clock a_openRows a_ages a_lastAct a_lastRead a_lastWrite a_lastPre a_lastRef a_actTimes a_reqAddress a_reqLanes a_reqFetched a_reqPending a_reqSerial bo) q) (sc_bk (sc_ab f_rcd f_rp f_rfc f_cap f_anyAct f_anyRead f_anyWrite f_actNext f_nextSerial f_draining f_clock a_openRows a_ages a_lastAct a_lastRead a_lastWrite a_lastPre a_lastRef a_actTimes a_reqAddress a_reqLanes a_reqFetched a_reqPending a_reqSerial bo) q) q) : wpX_advance K (f_rcd, f_rp, f_rfc, f_cap, f_refreshSoon, f_refreshMust, f_drainMark, f_requests, f_allLanes, f_slotFree, f_slotWaiting, f_slotReady, f_never, f_anyAct, f_anyRead, f_anyWrite, f_actNext, f_nextSerial, f_writeHead, f_writeCount, f_draining, f_clock, f_mode, f_faults, f_lost, f_retiredReads, a_cells, a_openRows, a_ages, a_lastAct, a_lastRead, a_lastWrite, a_lastPre, a_lastRef, a_actTimes, a_reqAddress, a_reqLanes, a_reqData, a_reqBase, a_reqFetched, a_reqPending, a_reqBorn, a_reqSerial, a_slotStates) (nI q) := by
  refine xw_adv hq w rg an p (fun k => ?_) (fun k => ?_) (fun k => ?_) (fun k => ?_)
  · rw [k] at ch
    obtain ⟨n, hn, e0, e1, e2, e3⟩ := xb_an an
    refine h _ _ _ _ _ _ _ _ _ _ _ _ _ _ _ _ _ 0 (sc_bk (sc_ab f_rcd f_rp f_rfc f_cap f_anyAct f_anyRead f_anyWrite f_actNext f_nextSerial f_draining f_clock a_openRows a_ages a_lastAct a_lastRead a_lastWrite a_lastPre a_lastRef a_actTimes a_reqAddress a_reqLanes a_reqFetched a_reqPending a_reqSerial bo) q) q ⟨ch, xe_act rg an ri, xd_0 (by decide) (by decide), e3, ?_, xb_ages rg⟩
    rw [xb_updL, e2, e1, if_pos (by omega)]
  · rw [k] at ch
    exact h _ _ _ _ _ _ _ _ _ _ _ _ _ _ _ _ _ 3 (sc_bk (sc_ab f_rcd f_rp f_rfc f_cap f_anyAct f_anyRead f_anyWrite f_actNext f_nextSerial f_draining f_clock a_openRows a_ages a_lastAct a_lastRead a_lastWrite a_lastPre a_lastRef a_actTimes a_reqAddress a_reqLanes a_reqFetched a_reqPending a_reqSerial bo) q) q ⟨ch, xe_pre rg, xd_0 (by decide) (by decide), an, ri, xb_ages rg⟩
  · rw [k] at ch
    rw [ab_ad]
    exact h _ _ _ _ _ _ _ _ _ _ _ _ _ _ _ _ _ 1 (sc_bk (sc_ab f_rcd f_rp f_rfc f_cap f_anyAct f_anyRead f_anyWrite f_actNext f_nextSerial f_draining f_clock a_openRows a_ages a_lastAct a_lastRead a_lastWrite a_lastPre a_lastRef a_actTimes a_reqAddress a_reqLanes a_reqFetched a_reqPending a_reqSerial bo) q) q ⟨ch, xe_rd rg hq, xd_rd, an, ri, xb_ages rg⟩
  · rw [k] at ch
    rw [ab_ad]
    exact h _ _ _ _ _ _ _ _ _ _ _ _ _ _ _ _ _ 2 (sc_bk (sc_ab f_rcd f_rp f_rfc f_cap f_anyAct f_anyRead f_anyWrite f_actNext f_nextSerial f_draining f_clock a_openRows a_ages a_lastAct a_lastRead a_lastWrite a_lastPre a_lastRef a_actTimes a_reqAddress a_reqLanes a_reqFetched a_reqPending a_reqSerial bo) q) q ⟨ch, xe_wr rg hq, xd_wr, an, ri, xb_ages rg⟩
/-- behind the renewal of the draining mark -/
theorem xw_sched1 {post : SX → Prop} (w : sc_W (sc_ab f_rcd f_rp f_rfc f_cap f_anyAct f_anyRead f_anyWrite f_actNext f_nextSerial f_draining f_clock a_openRows a_ages a_lastAct a_lastRead a_lastWrite a_lastPre a_lastRef a_actTimes a_reqAddress a_reqLanes a_reqFetched a_reqPending a_reqSerial bo)) (rg : sc_Rg (sc_ab f_rcd f_rp f_rfc f_cap f_anyAct f_anyRead f_anyWrite f_actNext f_nextSerial f_draining f_clock a_openRows a_ages a_lastAct a_lastRead a_lastWrite a_lastPre a_lastRef a_actTimes a_reqAddress a_reqLanes a_reqFetched a_reqPending a_reqSerial bo)) (an : vp_in f_actNext 4) (ri : (a_actTimes ((f_actNext.toNatClampNeg + 3) % 4)).toInt = f_anyAct.toInt)
    (hb : ∀ q, q < 12 → 0 ≤ (a_reqBorn q).toInt ∧ (a_reqBorn q).toInt ≤ 1000000) (hbo : ∀ q, q < 12 → sc_pd (sc_ab f_rcd f_rp f_rfc f_cap f_anyAct f_anyRead f_anyWrite f_actNext f_nextSerial f_draining f_clock a_openRows a_ages a_lastAct a_lastRead a_lastWrite a_lastPre a_lastRef a_actTimes a_reqAddress a_reqLanes a_reqFetched a_reqPending a_reqSerial bo) q ≠ 0 → bo q = (a_reqBorn q).toInt)
    (h : ∀ (n_anyAct : Int64) (n_anyRead : Int64) (n_anyWrite : Int64) (n_actNext : Int32) (n_cells : (Nat → Int32)) (n_openRows : (Nat → Int32)) (n_ages : (Nat → Int32)) (n_lastAct : (Nat → Int64)) (n_lastRead : (Nat → Int64)) (n_lastWrite : (Nat → Int64)) (n_lastPre : (Nat → Int64)) (n_lastRef : (Nat → Int64)) (n_actTimes : (Nat → Int64)) (n_reqData : (Nat → Int32)) (n_reqBase : (Nat → Int32)) (n_reqFetched : (Nat → Int32)) (n_reqPending : (Nat → Int32)) (k b q : Nat), sc_Aft (sc_Ch (sc_ab f_rcd f_rp f_rfc f_cap f_anyAct f_anyRead f_anyWrite f_actNext f_nextSerial f_draining f_clock a_openRows a_ages a_lastAct a_lastRead a_lastWrite a_lastPre a_lastRef a_actTimes a_reqAddress a_reqLanes a_reqFetched a_reqPending a_reqSerial bo) k b q) (sc_Ef (sc_ab f_rcd f_rp f_rfc f_cap f_anyAct f_anyRead f_anyWrite f_actNext f_nextSerial f_draining f_clock a_openRows a_ages a_lastAct a_lastRead a_lastWrite a_lastPre a_lastRef a_actTimes a_reqAddress a_reqLanes a_reqFetched a_reqPending a_reqSerial bo) (sc_ab f_rcd f_rp f_rfc f_cap n_anyAct n_anyRead n_anyWrite n_actNext f_nextSerial f_draining (f_clock + 1) n_openRows (xf_ag n_ages 8) n_lastAct n_lastRead n_lastWrite n_lastPre n_lastRef n_actTimes a_reqAddress a_reqLanes n_reqFetched n_reqPending a_reqSerial bo) k b q)
      (sc_Dat a_reqAddress a_reqLanes a_reqPending a_cells a_reqData a_reqBase n_cells n_reqData n_reqBase n_reqPending k q) (vp_in n_actNext 4)
      ((n_actTimes ((n_actNext.toNatClampNeg + 3) % 4)).toInt = n_anyAct.toInt) (∀ x, x < 8 → 0 ≤ (n_ages x).toInt ∧ (n_ages x).toInt ≤ 512) → post (f_rcd, f_rp, f_rfc, f_cap, f_refreshSoon, f_refreshMust, f_drainMark, f_requests, f_allLanes, f_slotFree, f_slotWaiting, f_slotReady, f_never, n_anyAct, n_anyRead, n_anyWrite, n_actNext, f_nextSerial, f_writeHead, f_writeCount, f_draining, f_clock, f_mode, f_faults, f_lost, f_retiredReads, n_cells, n_openRows, n_ages, n_lastAct, n_lastRead, n_lastWrite, n_lastPre, n_lastRef, n_actTimes, a_reqAddress, a_reqLanes, n_reqData, n_reqBase, n_reqFetched, n_reqPending, a_reqBorn, a_reqSerial, a_slotStates)) :
    wpX_refreshOne (fun r_46 u => match u with | (f_rcd, f_rp, f_rfc, f_cap, f_refreshSoon, f_refreshMust, f_drainMark, f_requests, f_allLanes, f_slotFree, f_slotWaiting, f_slotReady, f_never, f_anyAct, f_anyRead, f_anyWrite, f_actNext, f_nextSerial, f_writeHead, f_writeCount, f_draining, f_clock, f_mode, f_faults, f_lost, f_retiredReads, a_cells, a_openRows, a_ages, a_lastAct, a_lastRead, a_lastWrite, a_lastPre, a_lastRef, a_actTimes, a_reqAddress, a_reqLanes, a_reqData, a_reqBase, a_reqFetched, a_reqPending, a_reqBorn, a_reqSerial, a_slotStates) => (((r_46 = 0 → (wpX_oldestPending (fun r_92 => (((r_92 < 0 → (wX_schedule_34 post f_rcd f_rp f_rfc f_cap f_refreshSoon f_refreshMust f_drainMark f_requests f_allLanes f_slotFree f_slotWaiting f_slotReady f_never f_anyAct f_anyRead f_anyWrite f_actNext f_nextSerial f_writeHead f_writeCount f_draining f_clock f_mode f_faults f_lost f_retiredReads a_cells a_openRows a_ages a_lastAct a_lastRead a_lastWrite a_lastPre a_lastRef a_actTimes a_reqAddress a_reqLanes a_reqData a_reqBase a_reqFetched a_reqPending a_reqBorn a_reqSerial a_slotStates)) ∧ (¬ r_92 < 0 → (wpX_serveOne (fun r_183 u => match u with | (f_rcd, f_rp, f_rfc, f_cap, f_refreshSoon, f_refreshMust, f_drainMark, f_requests, f_allLanes, f_slotFree, f_slotWaiting, f_slotReady, f_never, f_anyAct, f_anyRead, f_anyWrite, f_actNext, f_nextSerial, f_writeHead, f_writeCount, f_draining, f_clock, f_mode, f_faults, f_lost, f_retiredReads, a_cells, a_openRows, a_ages, a_lastAct, a_lastRead, a_lastWrite, a_lastPre, a_lastRef, a_actTimes, a_reqAddress, a_reqLanes, a_reqData, a_reqBase, a_reqFetched, a_reqPending, a_reqBorn, a_reqSerial, a_slotStates) => (((r_183 = 0 → (wX_schedule_34 post f_rcd f_rp f_rfc f_cap f_refreshSoon f_refreshMust f_drainMark f_requests f_allLanes f_slotFree f_slotWaiting f_slotReady f_never f_anyAct f_anyRead f_anyWrite f_actNext f_nextSerial f_writeHead f_writeCount f_draining f_clock f_mode f_faults f_lost f_retiredReads a_cells a_openRows a_ages a_lastAct a_lastRead a_lastWrite a_lastPre a_lastRef a_actTimes a_reqAddress a_reqLanes a_reqData a_reqBase a_reqFetched a_reqPending a_reqBorn a_reqSerial a_slotStates)) ∧ (¬ r_183 = 0 → (post (f_rcd, f_rp, f_rfc, f_cap, f_refreshSoon, f_refreshMust, f_drainMark, f_requests, f_allLanes, f_slotFree, f_slotWaiting, f_slotReady, f_never, f_anyAct, f_anyRead, f_anyWrite, f_actNext, f_nextSerial, f_writeHead, f_writeCount, f_draining, f_clock, f_mode, f_faults, f_lost, f_retiredReads, a_cells, a_openRows, a_ages, a_lastAct, a_lastRead, a_lastWrite, a_lastPre, a_lastRef, a_actTimes, a_reqAddress, a_reqLanes, a_reqData, a_reqBase, a_reqFetched, a_reqPending, a_reqBorn, a_reqSerial, a_slotStates)))))) (f_rcd, f_rp, f_rfc, f_cap, f_refreshSoon, f_refreshMust, f_drainMark, f_requests, f_allLanes, f_slotFree, f_slotWaiting, f_slotReady, f_never, f_anyAct, f_anyRead, f_anyWrite, f_actNext, f_nextSerial, f_writeHead, f_writeCount, f_draining, f_clock, f_mode, f_faults, f_lost, f_retiredReads, a_cells, a_openRows, a_ages, a_lastAct, a_lastRead, a_lastWrite, a_lastPre, a_lastRef, a_actTimes, a_reqAddress, a_reqLanes, a_reqData, a_reqBase, a_reqFetched, a_reqPending, a_reqBorn, a_reqSerial, a_slotStates) r_92))))) (f_rcd, f_rp, f_rfc, f_cap, f_refreshSoon, f_refreshMust, f_drainMark, f_requests, f_allLanes, f_slotFree, f_slotWaiting, f_slotReady, f_never, f_anyAct, f_anyRead, f_anyWrite, f_actNext, f_nextSerial, f_writeHead, f_writeCount, f_draining, f_clock, f_mode, f_faults, f_lost, f_retiredReads, a_cells, a_openRows, a_ages, a_lastAct, a_lastRead, a_lastWrite, a_lastPre, a_lastRef, a_actTimes, a_reqAddress, a_reqLanes, a_reqData, a_reqBase, a_reqFetched, a_reqPending, a_reqBorn, a_reqSerial, a_slotStates))) ∧ (¬ r_46 = 0 → (post (f_rcd, f_rp, f_rfc, f_cap, f_refreshSoon, f_refreshMust, f_drainMark, f_requests, f_allLanes, f_slotFree, f_slotWaiting, f_slotReady, f_never, f_anyAct, f_anyRead, f_anyWrite, f_actNext, f_nextSerial, f_writeHead, f_writeCount, f_draining, f_clock, f_mode, f_faults, f_lost, f_retiredReads, a_cells, a_openRows, a_ages, a_lastAct, a_lastRead, a_lastWrite, a_lastPre, a_lastRef, a_actTimes, a_reqAddress, a_reqLanes, a_reqData, a_reqBase, a_reqFetched, a_reqPending, a_reqBorn, a_reqSerial, a_slotStates)))))) (f_rcd, f_rp, f_rfc, f_cap, f_refreshSoon, f_refreshMust, f_drainMark, f_requests, f_allLanes, f_slotFree, f_slotWaiting, f_slotReady, f_never, f_anyAct, f_anyRead, f_anyWrite, f_actNext, f_nextSerial, f_writeHead, f_writeCount, f_draining, f_clock, f_mode, f_faults, f_lost, f_retiredReads, a_cells, a_openRows, a_ages, a_lastAct, a_lastRead, a_lastWrite, a_lastPre, a_lastRef, a_actTimes, a_reqAddress, a_reqLanes, a_reqData, a_reqBase, a_reqFetched, a_reqPending, a_reqBorn, a_reqSerial, a_slotStates) 448 0 := by
  have wp := w.1
  have g1 := rg.1
  rw [ab_c] at g1
  rw [ab_rcd, ab_rp, ab_rfc, ab_cap] at wp
  -- refresh steps
  have refs : ∀ b, b < 8 → (0 ≤ sc_op (sc_ab f_rcd f_rp f_rfc f_cap f_anyAct f_anyRead f_anyWrite f_actNext f_nextSerial f_draining f_clock a_openRows a_ages a_lastAct a_lastRead a_lastWrite a_lastPre a_lastRef a_actTimes a_reqAddress a_reqLanes a_reqFetched a_reqPending a_reqSerial bo) b → sc_Ch (sc_ab f_rcd f_rp f_rfc f_cap f_anyAct f_anyRead f_anyWrite f_actNext f_nextSerial f_draining f_clock a_openRows a_ages a_lastAct a_lastRead a_lastWrite a_lastPre a_lastRef a_actTimes a_reqAddress a_reqLanes a_reqFetched a_reqPending a_reqSerial bo) 3 b 0 → post (f_rcd, f_rp, f_rfc, f_cap, f_refreshSoon, f_refreshMust, f_drainMark, f_requests, f_allLanes, f_slotFree, f_slotWaiting, f_slotReady, f_never, f_anyAct, f_anyRead, f_anyWrite, f_actNext, f_nextSerial, f_writeHead, f_writeCount, f_draining, f_clock, f_mode, f_faults, f_lost, f_retiredReads, a_cells, upd a_openRows b (-1), a_ages, a_lastAct, a_lastRead, a_lastWrite, vp_updL a_lastPre b f_clock, a_lastRef, a_actTimes, a_reqAddress, a_reqLanes, a_reqData, a_reqBase, a_reqFetched, a_reqPending, a_reqBorn, a_reqSerial, a_slotStates)) ∧ (sc_op (sc_ab f_rcd f_rp f_rfc f_cap f_anyAct f_anyRead f_anyWrite f_actNext f_nextSerial f_draining f_clock a_openRows a_ages a_lastAct a_lastRead a_lastWrite a_lastPre a_lastRef a_actTimes a_reqAddress a_reqLanes a_reqFetched a_reqPending a_reqSerial bo) b < 0 → sc_Ch (sc_ab f_rcd f_rp f_rfc f_cap f_anyAct f_anyRead f_anyWrite f_actNext f_nextSerial f_draining f_clock a_openRows a_ages a_lastAct a_lastRead a_lastWrite a_lastPre a_lastRef a_actTimes a_reqAddress a_reqLanes a_reqFetched a_reqPending a_reqSerial bo) 4 b 0 → post (f_rcd, f_rp, f_rfc, f_cap, f_refreshSoon, f_refreshMust, f_drainMark, f_requests, f_allLanes, f_slotFree, f_slotWaiting, f_slotReady, f_never, f_anyAct, f_anyRead, f_anyWrite, f_actNext, f_nextSerial, f_writeHead, f_writeCount, f_draining, f_clock, f_mode, f_faults, f_lost, f_retiredReads, a_cells, a_openRows, upd a_ages b 0, a_lastAct, a_lastRead, a_lastWrite, a_lastPre, vp_updL a_lastRef b f_clock, a_actTimes, a_reqAddress, a_reqLanes, a_reqData, a_reqBase, a_reqFetched, a_reqPending, a_reqBorn, a_reqSerial, a_slotStates)) := by
    intro b hb
    refine ⟨fun _ ch => ?_, fun _ ch => ?_⟩
    · exact h _ _ _ _ _ _ _ _ _ _ _ _ _ _ _ _ _ 3 b 0 ⟨ch, xe_pre rg, xd_0 (by decide) (by decide), an, ri, xb_ages rg⟩
    · exact h _ _ _ _ _ _ _ _ _ _ _ _ _ _ _ _ _ 4 b 0 ⟨ch, xe_ref rg, xd_0 (by decide) (by decide), an, ri, xb_upd0 rg⟩
  have sk3 : ∀ b, 0 ≤ sc_op (sc_ab f_rcd f_rp f_rfc f_cap f_anyAct f_anyRead f_anyWrite f_actNext f_nextSerial f_draining f_clock a_openRows a_ages a_lastAct a_lastRead a_lastWrite a_lastPre a_lastRef a_actTimes a_reqAddress a_reqLanes a_reqFetched a_reqPending a_reqSerial bo) b → sc_sk (sc_ab f_rcd f_rp f_rfc f_cap f_anyAct f_anyRead f_anyWrite f_actNext f_nextSerial f_draining f_clock a_openRows a_ages a_lastAct a_lastRead a_lastWrite a_lastPre a_lastRef a_actTimes a_reqAddress a_reqLanes a_reqFetched a_reqPending a_reqSerial bo) b = 3 := fun b o => by unfold sc_sk; rw [if_neg (by omega)]
  have sk4 : ∀ b, sc_op (sc_ab f_rcd f_rp f_rfc f_cap f_anyAct f_anyRead f_anyWrite f_actNext f_nextSerial f_draining f_clock a_openRows a_ages a_lastAct a_lastRead a_lastWrite a_lastPre a_lastRef a_actTimes a_reqAddress a_reqLanes a_reqFetched a_reqPending a_reqSerial bo) b < 0 → sc_sk (sc_ab f_rcd f_rp f_rfc f_cap f_anyAct f_anyRead f_anyWrite f_actNext f_nextSerial f_draining f_clock a_openRows a_ages a_lastAct a_lastRead a_lastWrite a_lastPre a_lastRef a_actTimes a_reqAddress a_reqLanes a_reqFetched a_reqPending a_reqSerial bo) b = 4 := fun b o => by unfold sc_sk; rw [if_pos o]
  have idle : sc_nf (sc_ab f_rcd f_rp f_rfc f_cap f_anyAct f_anyRead f_anyWrite f_actNext f_nextSerial f_draining f_clock a_openRows a_ages a_lastAct a_lastRead a_lastWrite a_lastPre a_lastRef a_actTimes a_reqAddress a_reqLanes a_reqFetched a_reqPending a_reqSerial bo) → sc_gs (sc_ab f_rcd f_rp f_rfc f_cap f_anyAct f_anyRead f_anyWrite f_actNext f_nextSerial f_draining f_clock a_openRows a_ages a_lastAct a_lastRead a_lastWrite a_lastPre a_lastRef a_actTimes a_reqAddress a_reqLanes a_reqFetched a_reqPending a_reqSerial bo) → wX_schedule_34 post f_rcd f_rp f_rfc f_cap f_refreshSoon f_refreshMust f_drainMark f_requests f_allLanes f_slotFree f_slotWaiting f_slotReady f_never f_anyAct f_anyRead f_anyWrite f_actNext f_nextSerial f_writeHead f_writeCount f_draining f_clock f_mode f_faults f_lost f_retiredReads a_cells a_openRows a_ages a_lastAct a_lastRead a_lastWrite a_lastPre a_lastRef a_actTimes a_reqAddress a_reqLanes a_reqData a_reqBase a_reqFetched a_reqPending a_reqBorn a_reqSerial a_slotStates := by
    intro nf gs
    unfold wX_schedule_34
    refine xw_refresh (th := 128) (id := 1) (by decide) (by decide) w rg an (fun no => ?_) (fun b hb q mx => ⟨fun o => ?_, fun o => ?_⟩)
    · refine h _ _ _ _ _ _ _ _ _ _ _ _ _ _ _ _ _ 5 0 0 ⟨.inr (.inr (.inr (.inr ⟨nf, gs, rfl, fun x hx a nw p => no x hx ⟨a, p, fun _ => nw⟩⟩))), xe_none rg, xd_0 (by decide) (by decide), an, ri, xb_ages rg⟩
    · have k := sk3 b o
      exact (refs b hb).1 o (.inr (.inr (.inr (.inl ⟨nf, gs, hb, k.symm, q.1, q.2.2 rfl, by rw [← k]; exact q.2.1, fun x hx a nw p => mx x hx ⟨a, p, fun _ => nw⟩⟩))))
    · have k := sk4 b o
      exact (refs b hb).2 o (.inr (.inr (.inr (.inl ⟨nf, gs, hb, k.symm, q.1, q.2.2 rfl, by rw [← k]; exact q.2.1, fun x hx a nw p => mx x hx ⟨a, p, fun _ => nw⟩⟩))))
  refine xw_refresh (th := 448) (id := 0) (by decide) (by decide) w rg an (fun no => br_t rfl ?_) (fun b hb q mx => ⟨fun o => br_f (by decide) ?_, fun o => br_f (by decide) ?_⟩)
  · have nf : sc_nf (sc_ab f_rcd f_rp f_rfc f_cap f_anyAct f_anyRead f_anyWrite f_actNext f_nextSerial f_draining f_clock a_openRows a_ages a_lastAct a_lastRead a_lastWrite a_lastPre a_lastRef a_actTimes a_reqAddress a_reqLanes a_reqFetched a_reqPending a_reqSerial bo) := fun x hx a p => no x hx ⟨a, p, fun z => absurd z (by decide)⟩
    refine xw_oldest rg (fun none => br_t (by decide) (idle nf (fun g hg => absurd (none g hg.1) hg.2.1))) (fun m hm pm lm => br_f (nI_pos (by omega)) ?_)
    have em : (nI m).toNatClampNeg = m := nI_clamp (by omega)
    have vm : vp_in (nI m) 12 := vp_in_nI hm (by omega)
    have bm := hb m hm
    have bom := hbo m hm pm
    have lt : (f_clock - a_reqBorn m) < f_cap.toInt64 ↔ f_clock.toInt - (a_reqBorn m).toInt < f_cap.toInt := by
      rw [Int64.lt_iff_toInt_lt, xb_sub (by omega) (by omega) (by omega) (by omega), Int32.toInt_toInt64]
    -- requests other than the guard
    have others : ∀ gp : Int32, (gp = -1 ∨ ∃ g, g < 12 ∧ gp = nI g) → sc_gs (sc_ab f_rcd f_rp f_rfc f_cap f_anyAct f_anyRead f_anyWrite f_actNext f_nextSerial f_draining f_clock a_openRows a_ages a_lastAct a_lastRead a_lastWrite a_lastPre a_lastRef a_actTimes a_reqAddress a_reqLanes a_reqFetched a_reqPending a_reqSerial bo) → (∀ g, sc_gd (sc_ab f_rcd f_rp f_rfc f_cap f_anyAct f_anyRead f_anyWrite f_actNext f_nextSerial f_draining f_clock a_openRows a_ages a_lastAct a_lastRead a_lastWrite a_lastPre a_lastRef a_actTimes a_reqAddress a_reqLanes a_reqFetched a_reqPending a_reqSerial bo) g → gp = nI g) →
        wX_serveOne_39 (fun r_183 u => match u with | (f_rcd, f_rp, f_rfc, f_cap, f_refreshSoon, f_refreshMust, f_drainMark, f_requests, f_allLanes, f_slotFree, f_slotWaiting, f_slotReady, f_never, f_anyAct, f_anyRead, f_anyWrite, f_actNext, f_nextSerial, f_writeHead, f_writeCount, f_draining, f_clock, f_mode, f_faults, f_lost, f_retiredReads, a_cells, a_openRows, a_ages, a_lastAct, a_lastRead, a_lastWrite, a_lastPre, a_lastRef, a_actTimes, a_reqAddress, a_reqLanes, a_reqData, a_reqBase, a_reqFetched, a_reqPending, a_reqBorn, a_reqSerial, a_slotStates) => (((r_183 = 0 → (wX_schedule_34 post f_rcd f_rp f_rfc f_cap f_refreshSoon f_refreshMust f_drainMark f_requests f_allLanes f_slotFree f_slotWaiting f_slotReady f_never f_anyAct f_anyRead f_anyWrite f_actNext f_nextSerial f_writeHead f_writeCount f_draining f_clock f_mode f_faults f_lost f_retiredReads a_cells a_openRows a_ages a_lastAct a_lastRead a_lastWrite a_lastPre a_lastRef a_actTimes a_reqAddress a_reqLanes a_reqData a_reqBase a_reqFetched a_reqPending a_reqBorn a_reqSerial a_slotStates)) ∧ (¬ r_183 = 0 → (post (f_rcd, f_rp, f_rfc, f_cap, f_refreshSoon, f_refreshMust, f_drainMark, f_requests, f_allLanes, f_slotFree, f_slotWaiting, f_slotReady, f_never, f_anyAct, f_anyRead, f_anyWrite, f_actNext, f_nextSerial, f_writeHead, f_writeCount, f_draining, f_clock, f_mode, f_faults, f_lost, f_retiredReads, a_cells, a_openRows, a_ages, a_lastAct, a_lastRead, a_lastWrite, a_lastPre, a_lastRef, a_actTimes, a_reqAddress, a_reqLanes, a_reqData, a_reqBase, a_reqFetched, a_reqPending, a_reqBorn, a_reqSerial, a_slotStates)))))) gp f_rcd f_rp f_rfc f_cap f_refreshSoon f_refreshMust f_drainMark f_requests f_allLanes f_slotFree f_slotWaiting f_slotReady f_never f_anyAct f_anyRead f_anyWrite f_actNext f_nextSerial f_writeHead f_writeCount f_draining f_clock f_mode f_faults f_lost f_retiredReads a_cells a_openRows a_ages a_lastAct a_lastRead a_lastWrite a_lastPre a_lastRef a_actTimes a_reqAddress a_reqLanes a_reqData a_reqBase a_reqFetched a_reqPending a_reqBorn a_reqSerial a_slotStates := by
      intro gp hgp gs gg
      unfold wX_serveOne_39
      have go : ∀ q, sc_ok (sc_ab f_rcd f_rp f_rfc f_cap f_anyAct f_anyRead f_anyWrite f_actNext f_nextSerial f_draining f_clock a_openRows a_ages a_lastAct a_lastRead a_lastWrite a_lastPre a_lastRef a_actTimes a_reqAddress a_reqLanes a_reqFetched a_reqPending a_reqSerial bo) gp q → wX_serveOne_57 (fun r_183 u => match u with | (f_rcd, f_rp, f_rfc, f_cap, f_refreshSoon, f_refreshMust, f_drainMark, f_requests, f_allLanes, f_slotFree, f_slotWaiting, f_slotReady, f_never, f_anyAct, f_anyRead, f_anyWrite, f_actNext, f_nextSerial, f_writeHead, f_writeCount, f_draining, f_clock, f_mode, f_faults, f_lost, f_retiredReads, a_cells, a_openRows, a_ages, a_lastAct, a_lastRead, a_lastWrite, a_lastPre, a_lastRef, a_actTimes, a_reqAddress, a_reqLanes, a_reqData, a_reqBase, a_reqFetched, a_reqPending, a_reqBorn, a_reqSerial, a_slotStates) => (((r_183 = 0 → (wX_schedule_34 post f_rcd f_rp f_rfc f_cap f_refreshSoon f_refreshMust f_drainMark f_requests f_allLanes f_slotFree f_slotWaiting f_slotReady f_never f_anyAct f_anyRead f_anyWrite f_actNext f_nextSerial f_writeHead f_writeCount f_draining f_clock f_mode f_faults f_lost f_retiredReads a_cells a_openRows a_ages a_lastAct a_lastRead a_lastWrite a_lastPre a_lastRef a_actTimes a_reqAddress a_reqLanes a_reqData a_reqBase a_reqFetched a_reqPending a_reqBorn a_reqSerial a_slotStates)) ∧ (¬ r_183 = 0 → (post (f_rcd, f_rp, f_rfc, f_cap, f_refreshSoon, f_refreshMust, f_drainMark, f_requests, f_allLanes, f_slotFree, f_slotWaiting, f_slotReady, f_never, f_anyAct, f_anyRead, f_anyWrite, f_actNext, f_nextSerial, f_writeHead, f_writeCount, f_draining, f_clock, f_mode, f_faults, f_lost, f_retiredReads, a_cells, a_openRows, a_ages, a_lastAct, a_lastRead, a_lastWrite, a_lastPre, a_lastRef, a_actTimes, a_reqAddress, a_reqLanes, a_reqData, a_reqBase, a_reqFetched, a_reqPending, a_reqBorn, a_reqSerial, a_slotStates)))))) (nI q) f_rcd f_rp f_rfc f_cap f_refreshSoon f_refreshMust f_drainMark f_requests f_allLanes f_slotFree f_slotWaiting f_slotReady f_never f_anyAct f_anyRead f_anyWrite f_actNext f_nextSerial f_writeHead f_writeCount f_draining f_clock f_mode f_faults f_lost f_retiredReads a_cells a_openRows a_ages a_lastAct a_lastRead a_lastWrite a_lastPre a_lastRef a_actTimes a_reqAddress a_reqLanes a_reqData a_reqBase a_reqFetched a_reqPending a_reqBorn a_reqSerial a_slotStates := by
        rintro q ⟨q1, q2, q3, q4, q5, q6⟩
        unfold wX_serveOne_57
        refine br_t (nI_pos' (by omega)) (xw_adv2 w rg an ri ?_ q1 q4 (.inr (.inr (.inl ⟨nf, gs, q1, q2, rfl, rfl, q4, q3, fun g hg => q5 g hg.1 (gg g hg), q6⟩))))
        intros
        exact br_f (by decide) (h _ _ _ _ _ _ _ _ _ _ _ _ _ _ _ _ _ _ _ _ (by assumption))
      refine xw_best w rg an hgp (br_f (by decide) ?_) (fun q ok => br_t (nI_pos' (by have := ok.1; omega)) (go q ok))
      refine xw_best w rg an hgp ?_ (fun q ok => go q ok)
      unfold wX_serveOne_57
      exact br_f (by decide) (br_t rfl (idle nf gs))
    unfold wpX_serveOne
    simp only [em]
    refine ⟨vm, br_c (fun z => ?_) (fun z => ?_)⟩
    · have nog : ∀ g, ¬ sc_gd (sc_ab f_rcd f_rp f_rfc f_cap f_anyAct f_anyRead f_anyWrite f_actNext f_nextSerial f_draining f_clock a_openRows a_ages a_lastAct a_lastRead a_lastWrite a_lastPre a_lastRef a_actTimes a_reqAddress a_reqLanes a_reqFetched a_reqPending a_reqSerial bo) g := by
        intro g hg
        have l1 := hg.2.2.1 m hm pm
        have l2 := lm g hg.1 hg.2.1
        have gm : g = m := (w.2.2.2.2.2.2.2 g m hg.1 hm hg.2.1 pm).1 (by omega)
        subst gm
        have := hg.2.2.2
        rw [ab_cap, ab_c, ab_bo] at this
        have := lt.mp z
        omega
      exact others (-1) (.inl rfl) (fun g hg => absurd hg (nog g)) (fun g hg => absurd hg (nog g))
    · have gm : sc_gd (sc_ab f_rcd f_rp f_rfc f_cap f_anyAct f_anyRead f_anyWrite f_actNext f_nextSerial f_draining f_clock a_openRows a_ages a_lastAct a_lastRead a_lastWrite a_lastPre a_lastRef a_actTimes a_reqAddress a_reqLanes a_reqFetched a_reqPending a_reqSerial bo) m := by
        refine ⟨hm, pm, lm, ?_⟩
        rw [ab_cap, ab_c, ab_bo]
        have : ¬ f_clock.toInt - (a_reqBorn m).toInt < f_cap.toInt := fun y => z (lt.mpr y)
        omega
      refine xw_can hm w rg an (fun can => br_f (by decide) ?_) (fun can => br_t (by decide) ?_)
      · refine xw_adv2 w rg an ri ?_ hm can.2 (.inr (.inl ⟨nf, gm, rfl, rfl, can.2, can.1⟩))
        intros
        exact br_f (by decide) (h _ _ _ _ _ _ _ _ _ _ _ _ _ _ _ _ _ _ _ _ (by assumption))
      · exact others (nI m) (.inr ⟨m, hm, rfl⟩) (fun g hg a p => can (by have := sc_gd_un w gm hg; subst this; exact ⟨a, p⟩)) (fun g hg => by rw [sc_gd_un w gm hg])
  · have k := sk3 b o
    exact (refs b hb).1 o (.inl ⟨hb, k.symm, q.1, by rw [← k]; exact q.2.1, fun x hx a p => mx x hx ⟨a, p, fun z => absurd z (by decide)⟩⟩)
  · have k := sk4 b o
    exact (refs b hb).2 o (.inl ⟨hb, k.symm, q.1, by rw [← k]; exact q.2.1, fun x hx a p => mx x hx ⟨a, p, fun z => absurd z (by decide)⟩⟩)
end
end
section
/-- a bank's words lost -/
def xf_wp (cells : Nat → Int32) (b : Nat) : Nat → Int32 := fun a => if a < 256 ∧ a / 4 % 8 = b then 0 else cells a
def xf_w2 (cells : Nat → Int32) (b r c : Nat) : Nat → Int32 := fun a => if a < 256 ∧ a / 4 % 8 = b ∧ (a / 32 < r ∨ (a / 32 = r ∧ a % 4 < c)) then 0 else cells a
theorem xf_w2_0 (cells : Nat → Int32) (b : Nat) : xf_w2 cells b 0 0 = cells := by
  funext a; unfold xf_w2; rw [if_neg (by omega)]
theorem xf_w2_8 (cells : Nat → Int32) (b : Nat) : xf_w2 cells b 8 0 = xf_wp cells b := by
  funext a; unfold xf_w2 xf_wp
  by_cases h : a < 256 ∧ a / 4 % 8 = b
  · rw [if_pos h, if_pos ⟨h.1, h.2, .inl (by omega)⟩]
  · rw [if_neg h, if_neg (fun z => h ⟨z.1, z.2.1⟩)]
theorem xf_w2_r (cells : Nat → Int32) (b r : Nat) : xf_w2 cells b r 4 = xf_w2 cells b (r + 1) 0 := by
  funext a; unfold xf_w2
  by_cases h : a < 256 ∧ a / 4 % 8 = b ∧ (a / 32 < r ∨ (a / 32 = r ∧ a % 4 < 4))
  · rw [if_pos h, if_pos ⟨h.1, h.2.1, by omega⟩]
  · rw [if_neg h, if_neg (fun z => h ⟨z.1, z.2.1, by omega⟩)]
theorem xf_w2_c {cells : Nat → Int32} {b r c : Nat} (hb : b < 8) (hr : r < 8) (hc : c < 4) : upd (xf_w2 cells b r c) (r * 32 + b * 4 + c) 0 = xf_w2 cells b r (c + 1) := by
  funext a; unfold upd xf_w2
  by_cases e : a = r * 32 + b * 4 + c
  · rw [if_pos e, if_pos ⟨by omega, by omega, by omega⟩]
  · rw [if_neg e]
    by_cases h : a < 256 ∧ a / 4 % 8 = b ∧ (a / 32 < r ∨ (a / 32 = r ∧ a % 4 < c))
    · rw [if_pos h, if_pos ⟨h.1, h.2.1, by omega⟩]
    · rw [if_neg h, if_neg (fun z => h ⟨z.1, z.2.1, by omega⟩)]
theorem xb_place3 {r b c : Nat} (hr : r < 8) (hb : b < 8) (hc : c < 4) : ((nI r * 32 + nI b * 4) + nI c) &&& 255 = nI (r * 32 + b * 4 + c) := by
  have e1 : nI r * 32 = nI (r * 32) := pk_mul _ 32
  have e2 : nI b * 4 = nI (b * 4) := pk_mul _ 4
  rw [e1, e2, nI_add, nI_add, pk_andN (by omega) 8 (by decide)]
  congr 1; omega
theorem xb_place4 {r b c : Nat} : ((nI r * 32 + nI b * 4) + nI c) = nI (r * 32 + b * 4 + c) := by
  have e1 : nI r * 32 = nI (r * 32) := pk_mul _ 32
  have e2 : nI b * 4 = nI (b * 4) := pk_mul _ 4
  rw [e1, e2, nI_add, nI_add]
/-- all banks older by one clock: ages, words, losses -/
def xg_a (ages : Nat → Int32) (j : Nat) : Nat → Int32 := fun b => if b < j then (if ages b + 1 < 512 then ages b + 1 else 0) else ages b
def xg_c (cells ages : Nat → Int32) : Nat → Nat → Int32
  | 0 => cells
  | j + 1 => if ages j + 1 < 512 then xg_c cells ages j else xf_wp (xg_c cells ages j) j
def xg_n (ages : Nat → Int32) : Nat → Nat
  | 0 => 0
  | j + 1 => if ages j + 1 < 512 then xg_n ages j else xg_n ages j + 1
theorem xg_a_0 (ages : Nat → Int32) : xg_a ages 0 = ages := by funext b; unfold xg_a; rw [if_neg (by omega)]
theorem xg_a_at (ages : Nat → Int32) (j : Nat) : xg_a ages j j = ages j := by unfold xg_a; rw [if_neg (by omega)]
theorem xg_a_t {ages : Nat → Int32} {j : Nat} (h : ages j + 1 < 512) : upd (xg_a ages j) j (ages j + 1) = xg_a ages (j + 1) := by
  funext b; unfold upd xg_a
  by_cases e : b = j
  · subst e; rw [if_pos rfl, if_pos (by omega), if_pos h]
  · rw [if_neg e]
    by_cases l : b < j
    · rw [if_pos l, if_pos (c := b < j + 1) (by omega)]
    · rw [if_neg l, if_neg (by omega)]
theorem xg_a_f {ages : Nat → Int32} {j : Nat} (h : ¬ ages j + 1 < 512) : upd (upd (xg_a ages j) j (ages j + 1)) j 0 = xg_a ages (j + 1) := by
  funext b; unfold upd xg_a
  by_cases e : b = j
  · subst e; rw [if_pos rfl, if_pos (by omega), if_neg h]
  · rw [if_neg e, if_neg e]
    by_cases l : b < j
    · rw [if_pos l, if_pos (c := b < j + 1) (by omega)]
    · rw [if_neg l, if_neg (by omega)]
theorem xg_n_le (ages : Nat → Int32) : ∀ j, xg_n ages j ≤ j
  | 0 => Nat.le_refl 0
  | j + 1 => by
    have := xg_n_le ages j
    unfold xg_n; split <;> omega
section
variable {f_rcd f_rp f_rfc f_cap f_refreshSoon f_refreshMust f_drainMark f_requests f_allLanes f_slotFree f_slotWaiting f_slotReady f_actNext f_writeHead f_writeCount f_draining f_mode f_faults f_lost f_retiredReads : Int32} {f_never f_anyAct f_anyRead f_anyWrite f_nextSerial f_clock : Int64} {a_cells a_openRows a_ages a_reqAddress a_reqLanes a_reqData a_reqBase a_reqFetched a_reqPending a_slotStates : (Nat → Int32)} {a_lastAct a_lastRead a_lastWrite a_lastPre a_lastRef a_actTimes a_reqBorn a_reqSerial : (Nat → Int64)}
theorem xw_wipe_i {post : SX → Prop} {J : Int32 → (Nat → Int32) → (Nat → Int32) → (Nat → Int32) → (Nat → Int64) → (Nat → Int64) → (Nat → Int64) → (Nat → Int64) → (Nat → Int64) → (Nat → Int64) → (Nat → Int32) → (Nat → Int32) → (Nat → Int32) → (Nat → Int32) → (Nat → Int32) → (Nat → Int32) → (Nat → Int64) → (Nat → Int64) → (Nat → Int32) → Prop} {b r : Nat} (hb : b < 8) (hr : r < 8)
    (h : J (nI (r + 1)) (xf_w2 a_cells b (r + 1) 0) a_openRows a_ages a_lastAct a_lastRead a_lastWrite a_lastPre a_lastRef a_actTimes a_reqAddress a_reqLanes a_reqData a_reqBase a_reqFetched a_reqPending a_reqBorn a_reqSerial a_slotStates) :
    ∀ n c, c ≤ 4 → 4 - c < n → wX_wipe_10 post J (nI b) (nI r) f_rcd f_rp f_rfc f_cap f_refreshSoon f_refreshMust f_drainMark f_requests f_allLanes f_slotFree f_slotWaiting f_slotReady f_never f_anyAct f_anyRead f_anyWrite f_actNext f_nextSerial f_writeHead f_writeCount f_draining f_clock f_mode f_faults f_lost f_retiredReads n (nI c) (xf_w2 a_cells b r c) a_openRows a_ages a_lastAct a_lastRead a_lastWrite a_lastPre a_lastRef a_actTimes a_reqAddress a_reqLanes a_reqData a_reqBase a_reqFetched a_reqPending a_reqBorn a_reqSerial a_slotStates
  | 0, c, _, hn => by omega
  | n + 1, c, hc, hn => by
    unfold wX_wipe_10
    by_cases e : c = 4
    · subst e
      refine br_t (by decide) (nm_r (nI_1 r) ?_)
      rw [xf_w2_r]; exact h
    · have lt : c < 4 := by omega
      refine br_f (nI_ge (b := 4) lt (by decide)) ?_
      unfold wpX_place
      have ep := xb_place3 hr hb lt
      rw [ep]
      refine ⟨vp_in_nI (by omega) (by omega), nm_e (nm_r (nI_1 c) ?_)⟩
      rw [nI_clamp (by omega), xf_w2_c hb hr lt]
      exact xw_wipe_i hb hr h n (c + 1) lt (by omega)
theorem xw_wipe_o {post : SX → Prop} {b : Nat} (hb : b < 8) (h : post (f_rcd, f_rp, f_rfc, f_cap, f_refreshSoon, f_refreshMust, f_drainMark, f_requests, f_allLanes, f_slotFree, f_slotWaiting, f_slotReady, f_never, f_anyAct, f_anyRead, f_anyWrite, f_actNext, f_nextSerial, f_writeHead, f_writeCount, f_draining, f_clock, f_mode, f_faults, f_lost, f_retiredReads, xf_wp a_cells b, a_openRows, a_ages, a_lastAct, a_lastRead, a_lastWrite, a_lastPre, a_lastRef, a_actTimes, a_reqAddress, a_reqLanes, a_reqData, a_reqBase, a_reqFetched, a_reqPending, a_reqBorn, a_reqSerial, a_slotStates)) :
    ∀ n r, r ≤ 8 → 8 - r < n → wX_wipe_2 post (nI b) f_rcd f_rp f_rfc f_cap f_refreshSoon f_refreshMust f_drainMark f_requests f_allLanes f_slotFree f_slotWaiting f_slotReady f_never f_anyAct f_anyRead f_anyWrite f_actNext f_nextSerial f_writeHead f_writeCount f_draining f_clock f_mode f_faults f_lost f_retiredReads n (nI r) (xf_w2 a_cells b r 0) a_openRows a_ages a_lastAct a_lastRead a_lastWrite a_lastPre a_lastRef a_actTimes a_reqAddress a_reqLanes a_reqData a_reqBase a_reqFetched a_reqPending a_reqBorn a_reqSerial a_slotStates
  | 0, r, _, hn => by omega
  | n + 1, r, hr, hn => by
    unfold wX_wipe_2
    by_cases e : r = 8
    · subst e
      refine br_t (by decide) ?_
      rw [xf_w2_8]; exact h
    · have lt : r < 8 := by omega
      exact br_f (nI_ge (b := 8) lt (by decide)) ⟨5, xw_wipe_i hb lt (xw_wipe_o hb h n (r + 1) lt (by omega)) 5 0 (by omega) (by omega)⟩
theorem xw_wipe {post : SX → Prop} {b : Nat} (hb : b < 8) (h : post (f_rcd, f_rp, f_rfc, f_cap, f_refreshSoon, f_refreshMust, f_drainMark, f_requests, f_allLanes, f_slotFree, f_slotWaiting, f_slotReady, f_never, f_anyAct, f_anyRead, f_anyWrite, f_actNext, f_nextSerial, f_writeHead, f_writeCount, f_draining, f_clock, f_mode, f_faults, f_lost, f_retiredReads, xf_wp a_cells b, a_openRows, a_ages, a_lastAct, a_lastRead, a_lastWrite, a_lastPre, a_lastRef, a_actTimes, a_reqAddress, a_reqLanes, a_reqData, a_reqBase, a_reqFetched, a_reqPending, a_reqBorn, a_reqSerial, a_slotStates)) : wpX_wipe post (f_rcd, f_rp, f_rfc, f_cap, f_refreshSoon, f_refreshMust, f_drainMark, f_requests, f_allLanes, f_slotFree, f_slotWaiting, f_slotReady, f_never, f_anyAct, f_anyRead, f_anyWrite, f_actNext, f_nextSerial, f_writeHead, f_writeCount, f_draining, f_clock, f_mode, f_faults, f_lost, f_retiredReads, a_cells, a_openRows, a_ages, a_lastAct, a_lastRead, a_lastWrite, a_lastPre, a_lastRef, a_actTimes, a_reqAddress, a_reqLanes, a_reqData, a_reqBase, a_reqFetched, a_reqPending, a_reqBorn, a_reqSerial, a_slotStates) (nI b) := by
  have := xw_wipe_o hb h 9 0 (by omega) (by omega)
  rw [xf_w2_0] at this
  exact ⟨9, this⟩
theorem xw_age_l {post : Int32 → SX → Prop} (h : post (nI (xg_n a_ages 8)) (f_rcd, f_rp, f_rfc, f_cap, f_refreshSoon, f_refreshMust, f_drainMark, f_requests, f_allLanes, f_slotFree, f_slotWaiting, f_slotReady, f_never, f_anyAct, f_anyRead, f_anyWrite, f_actNext, f_nextSerial, f_writeHead, f_writeCount, f_draining, f_clock, f_mode, f_faults, f_lost, f_retiredReads, xg_c a_cells a_ages 8, a_openRows, xg_a a_ages 8, a_lastAct, a_lastRead, a_lastWrite, a_lastPre, a_lastRef, a_actTimes, a_reqAddress, a_reqLanes, a_reqData, a_reqBase, a_reqFetched, a_reqPending, a_reqBorn, a_reqSerial, a_slotStates)) :
    ∀ n j, j ≤ 8 → 8 - j < n → wX_ageBanks_4 post n (nI (xg_n a_ages j)) (nI j) f_rcd f_rp f_rfc f_cap f_refreshSoon f_refreshMust f_drainMark f_requests f_allLanes f_slotFree f_slotWaiting f_slotReady f_never f_anyAct f_anyRead f_anyWrite f_actNext f_nextSerial f_writeHead f_writeCount f_draining f_clock f_mode f_faults f_lost f_retiredReads (xg_c a_cells a_ages j) a_openRows (xg_a a_ages j) a_lastAct a_lastRead a_lastWrite a_lastPre a_lastRef a_actTimes a_reqAddress a_reqLanes a_reqData a_reqBase a_reqFetched a_reqPending a_reqBorn a_reqSerial a_slotStates
  | 0, j, _, hn => by omega
  | n + 1, j, hj, hn => by
    unfold wX_ageBanks_4
    by_cases e : j = 8
    · subst e
      exact br_t (by decide) h
    · have lt : j < 8 := by omega
      have ej : (nI j).toNatClampNeg = j := nI_clamp (by omega)
      have vj : vp_in (nI j) 8 := vp_in_nI lt (by omega)
      simp only [ej]
      rw [xg_a_at]
      have ih := xw_age_l h n (j + 1) lt (by omega)
      have nl := xg_n_le a_ages j
      refine br_f (nI_ge (b := 8) lt (by decide)) ⟨vj, vj, nm_e ⟨vj, ?_⟩⟩
      rw [pk_us]
      refine br_c (fun z => nm_r (nI_1 j) ?_) (fun z => xw_wipe lt ⟨vj, nm_e (nm_r (nI_1 _) (nm_r (nI_1 j) ?_))⟩)
      · have e1 : xg_n a_ages (j + 1) = xg_n a_ages j := by show (if _ then _ else _) = _; rw [if_pos z]
        have e2 : xg_c a_cells a_ages (j + 1) = xg_c a_cells a_ages j := by show (if _ then _ else _) = _; rw [if_pos z]
        rw [xg_a_t z, ← e2, ← e1]
        exact ih
      · have e1 : xg_n a_ages (j + 1) = xg_n a_ages j + 1 := by show (if _ then _ else _) = _; rw [if_neg z]
        have e2 : xg_c a_cells a_ages (j + 1) = xf_wp (xg_c a_cells a_ages j) j := by show (if _ then _ else _) = _; rw [if_neg z]
        rw [xg_a_f z, ← e2, ← e1]
        exact ih
theorem xw_age {post : Int32 → SX → Prop} (h : post (nI (xg_n a_ages 8)) (f_rcd, f_rp, f_rfc, f_cap, f_refreshSoon, f_refreshMust, f_drainMark, f_requests, f_allLanes, f_slotFree, f_slotWaiting, f_slotReady, f_never, f_anyAct, f_anyRead, f_anyWrite, f_actNext, f_nextSerial, f_writeHead, f_writeCount, f_draining, f_clock, f_mode, f_faults, f_lost, f_retiredReads, xg_c a_cells a_ages 8, a_openRows, xg_a a_ages 8, a_lastAct, a_lastRead, a_lastWrite, a_lastPre, a_lastRef, a_actTimes, a_reqAddress, a_reqLanes, a_reqData, a_reqBase, a_reqFetched, a_reqPending, a_reqBorn, a_reqSerial, a_slotStates)) : wpX_ageBanks post (f_rcd, f_rp, f_rfc, f_cap, f_refreshSoon, f_refreshMust, f_drainMark, f_requests, f_allLanes, f_slotFree, f_slotWaiting, f_slotReady, f_never, f_anyAct, f_anyRead, f_anyWrite, f_actNext, f_nextSerial, f_writeHead, f_writeCount, f_draining, f_clock, f_mode, f_faults, f_lost, f_retiredReads, a_cells, a_openRows, a_ages, a_lastAct, a_lastRead, a_lastWrite, a_lastPre, a_lastRef, a_actTimes, a_reqAddress, a_reqLanes, a_reqData, a_reqBase, a_reqFetched, a_reqPending, a_reqBorn, a_reqSerial, a_slotStates) := by
  have := xw_age_l h 9 0 (by omega) (by omega)
  rw [xg_a_0] at this
  exact ⟨9, this⟩
end
/-- young banks lose nothing -/
theorem xg_young {cells ages : Nat → Int32} (h : ∀ x, x < 8 → 0 ≤ (ages x).toInt ∧ (ages x).toInt ≤ 510) : xg_n ages 8 = 0 ∧ xg_c cells ages 8 = cells ∧ xg_a ages 8 = xf_ag ages 8 := by
  have l : ∀ x, x < 8 → ages x + 1 < 512 := by
    intro x hx
    have := h x hx
    rw [Int32.lt_iff_toInt_lt, Int32.toInt_add]
    have e1 : (1 : Int32).toInt = 1 := by decide
    have e2 : (512 : Int32).toInt = 512 := by decide
    rw [e1, e2, Int.bmod_eq_of_le (by omega) (by omega)]
    omega
  have a : ∀ j, j ≤ 8 → xg_n ages j = 0 ∧ xg_c cells ages j = cells := by
    intro j
    induction j with
    | zero => intro _; exact ⟨rfl, rfl⟩
    | succ j ih =>
      intro hj
      have ih := ih (by omega)
      refine ⟨?_, ?_⟩
      · show (if _ then _ else _) = _; rw [if_pos (l j (by omega))]; exact ih.1
      · show (if _ then _ else _) = _; rw [if_pos (l j (by omega))]; exact ih.2
  refine ⟨(a 8 (by omega)).1, (a 8 (by omega)).2, ?_⟩
  funext b; unfold xg_a xf_ag
  by_cases lt : b < 8
  · rw [if_pos lt, if_pos lt, if_pos (l b lt)]
  · rw [if_neg lt, if_neg lt]
section
variable {f_rcd f_rp f_rfc f_cap f_refreshSoon f_refreshMust f_drainMark f_requests f_allLanes f_slotFree f_slotWaiting f_slotReady f_actNext f_writeHead f_writeCount f_draining f_mode f_faults f_lost f_retiredReads : Int32} {f_never f_anyAct f_anyRead f_anyWrite f_nextSerial f_clock : Int64} {a_cells a_openRows a_ages a_reqAddress a_reqLanes a_reqData a_reqBase a_reqFetched a_reqPending a_slotStates : (Nat → Int32)} {a_lastAct a_lastRead a_lastWrite a_lastPre a_lastRef a_actTimes a_reqBorn a_reqSerial : (Nat → Int64)}
variable {bo : Nat → Int}
/-- the scheduler -/
theorem xw_sched {post : SX → Prop} (w : sc_W (sc_ab f_rcd f_rp f_rfc f_cap f_anyAct f_anyRead f_anyWrite f_actNext f_nextSerial f_draining f_clock a_openRows a_ages a_lastAct a_lastRead a_lastWrite a_lastPre a_lastRef a_actTimes a_reqAddress a_reqLanes a_reqFetched a_reqPending a_reqSerial bo)) (rg : sc_Rg (sc_ab f_rcd f_rp f_rfc f_cap f_anyAct f_anyRead f_anyWrite f_actNext f_nextSerial f_draining f_clock a_openRows a_ages a_lastAct a_lastRead a_lastWrite a_lastPre a_lastRef a_actTimes a_reqAddress a_reqLanes a_reqFetched a_reqPending a_reqSerial bo)) (an : vp_in f_actNext 4) (ri : (a_actTimes ((f_actNext.toNatClampNeg + 3) % 4)).toInt = f_anyAct.toInt)
    (hb : ∀ q, q < 12 → 0 ≤ (a_reqBorn q).toInt ∧ (a_reqBorn q).toInt ≤ 1000000) (hbo : ∀ q, q < 12 → sc_pd (sc_ab f_rcd f_rp f_rfc f_cap f_anyAct f_anyRead f_anyWrite f_actNext f_nextSerial f_draining f_clock a_openRows a_ages a_lastAct a_lastRead a_lastWrite a_lastPre a_lastRef a_actTimes a_reqAddress a_reqLanes a_reqFetched a_reqPending a_reqSerial bo) q ≠ 0 → bo q = (a_reqBorn q).toInt)
    (h : ∀ (d : Int32) (n_anyAct : Int64) (n_anyRead : Int64) (n_anyWrite : Int64) (n_actNext : Int32) (n_cells : (Nat → Int32)) (n_openRows : (Nat → Int32)) (n_ages : (Nat → Int32)) (n_lastAct : (Nat → Int64)) (n_lastRead : (Nat → Int64)) (n_lastWrite : (Nat → Int64)) (n_lastPre : (Nat → Int64)) (n_lastRef : (Nat → Int64)) (n_actTimes : (Nat → Int64)) (n_reqData : (Nat → Int32)) (n_reqBase : (Nat → Int32)) (n_reqFetched : (Nat → Int32)) (n_reqPending : (Nat → Int32)) (k b q : Nat), (d = 0 ∨ d = 1) → sc_Dr (sc_ab f_rcd f_rp f_rfc f_cap f_anyAct f_anyRead f_anyWrite f_actNext f_nextSerial d f_clock a_openRows a_ages a_lastAct a_lastRead a_lastWrite a_lastPre a_lastRef a_actTimes a_reqAddress a_reqLanes a_reqFetched a_reqPending a_reqSerial bo) → (f_draining ≠ 0 → d = 0 → ∀ p, 6 ≤ p → p < 12 → sc_pd (sc_ab f_rcd f_rp f_rfc f_cap f_anyAct f_anyRead f_anyWrite f_actNext f_nextSerial f_draining f_clock a_openRows a_ages a_lastAct a_lastRead a_lastWrite a_lastPre a_lastRef a_actTimes a_reqAddress a_reqLanes a_reqFetched a_reqPending a_reqSerial bo) p = 0) →
      sc_Aft (sc_Ch (sc_ab f_rcd f_rp f_rfc f_cap f_anyAct f_anyRead f_anyWrite f_actNext f_nextSerial d f_clock a_openRows a_ages a_lastAct a_lastRead a_lastWrite a_lastPre a_lastRef a_actTimes a_reqAddress a_reqLanes a_reqFetched a_reqPending a_reqSerial bo) k b q) (sc_Ef (sc_ab f_rcd f_rp f_rfc f_cap f_anyAct f_anyRead f_anyWrite f_actNext f_nextSerial d f_clock a_openRows a_ages a_lastAct a_lastRead a_lastWrite a_lastPre a_lastRef a_actTimes a_reqAddress a_reqLanes a_reqFetched a_reqPending a_reqSerial bo) (sc_ab f_rcd f_rp f_rfc f_cap n_anyAct n_anyRead n_anyWrite n_actNext f_nextSerial d (f_clock + 1) n_openRows (xf_ag n_ages 8) n_lastAct n_lastRead n_lastWrite n_lastPre n_lastRef n_actTimes a_reqAddress a_reqLanes n_reqFetched n_reqPending a_reqSerial bo) k b q)
      (sc_Dat a_reqAddress a_reqLanes a_reqPending a_cells a_reqData a_reqBase n_cells n_reqData n_reqBase n_reqPending k q) (vp_in n_actNext 4)
      ((n_actTimes ((n_actNext.toNatClampNeg + 3) % 4)).toInt = n_anyAct.toInt) (∀ x, x < 8 → 0 ≤ (n_ages x).toInt ∧ (n_ages x).toInt ≤ 512) → post (f_rcd, f_rp, f_rfc, f_cap, f_refreshSoon, f_refreshMust, f_drainMark, f_requests, f_allLanes, f_slotFree, f_slotWaiting, f_slotReady, f_never, n_anyAct, n_anyRead, n_anyWrite, n_actNext, f_nextSerial, f_writeHead, f_writeCount, d, f_clock, f_mode, f_faults, f_lost, f_retiredReads, n_cells, n_openRows, n_ages, n_lastAct, n_lastRead, n_lastWrite, n_lastPre, n_lastRef, n_actTimes, a_reqAddress, a_reqLanes, n_reqData, n_reqBase, n_reqFetched, n_reqPending, a_reqBorn, a_reqSerial, a_slotStates)) :
    wpX_schedule post (f_rcd, f_rp, f_rfc, f_cap, f_refreshSoon, f_refreshMust, f_drainMark, f_requests, f_allLanes, f_slotFree, f_slotWaiting, f_slotReady, f_never, f_anyAct, f_anyRead, f_anyWrite, f_actNext, f_nextSerial, f_writeHead, f_writeCount, f_draining, f_clock, f_mode, f_faults, f_lost, f_retiredReads, a_cells, a_openRows, a_ages, a_lastAct, a_lastRead, a_lastWrite, a_lastPre, a_lastRef, a_actTimes, a_reqAddress, a_reqLanes, a_reqData, a_reqBase, a_reqFetched, a_reqPending, a_reqBorn, a_reqSerial, a_slotStates) := by
  have wp := w.1
  rw [ab_rcd, ab_rp, ab_rfc, ab_cap] at wp
  unfold wpX_schedule
  refine xw_drain rg (by omega) hb (fun d hd c1 c2 => ?_)
  refine xw_sched1 (sc_W_dr w) (sc_Rg_dr hd rg) an ri hb (fun q hq p => hbo q hq (by rw [ab_pd] at p ⊢; exact p)) ?_
  intros
  refine h d _ _ _ _ _ _ _ _ _ _ _ _ _ _ _ _ _ _ _ _ hd ?_ c2 (by assumption)
  intro q h6 h12 p ag
  rw [ab_dr]
  rw [ab_pd] at p
  rw [ab_cap, ab_c, ab_bo, hbo q h12 (by rw [ab_pd]; exact p)] at ag
  have := c1 q h6 h12 (by rw [ab_pd]; exact p) ag
  intro z
  exact this (xb_0.mpr z)
end
end
section
/-- requests whose time is over -/
def xr_s (clk : Int64) (born : Nat → Int64) (st : Nat → Int32) (j : Nat) : Nat → Int32 := fun s => if s < j ∧ st s = 1 ∧ ¬ clk - born s < 256 then 2 else st s
def xr_n (clk : Int64) (born : Nat → Int64) (st : Nat → Int32) : Nat → Nat
  | 0 => 0
  | j + 1 => if st j = 1 ∧ ¬ clk - born j < 256 then xr_n clk born st j + 1 else xr_n clk born st j
theorem xr_s_0 (clk : Int64) (born : Nat → Int64) (st : Nat → Int32) : xr_s clk born st 0 = st := by funext s; unfold xr_s; rw [if_neg (by omega)]
theorem xr_s_at (clk : Int64) (born : Nat → Int64) (st : Nat → Int32) (j : Nat) : xr_s clk born st j j = st j := by unfold xr_s; rw [if_neg (by omega)]
theorem xr_s_t {clk : Int64} {born : Nat → Int64} {st : Nat → Int32} {j : Nat} (h1 : st j = 1) (h2 : ¬ clk - born j < 256) : upd (xr_s clk born st j) j 2 = xr_s clk born st (j + 1) := by
  funext s; unfold upd xr_s
  by_cases e : s = j
  · subst e; rw [if_pos rfl, if_pos ⟨by omega, h1, h2⟩]
  · rw [if_neg e]
    by_cases c : s < j ∧ st s = 1 ∧ ¬ clk - born s < 256
    · rw [if_pos c, if_pos ⟨by omega, c.2⟩]
    · rw [if_neg c, if_neg (fun z => c ⟨by omega, z.2⟩)]
theorem xr_s_f {clk : Int64} {born : Nat → Int64} {st : Nat → Int32} {j : Nat} (h : ¬ (st j = 1 ∧ ¬ clk - born j < 256)) : xr_s clk born st j = xr_s clk born st (j + 1) := by
  funext s; unfold xr_s
  by_cases c : s < j ∧ st s = 1 ∧ ¬ clk - born s < 256
  · rw [if_pos c, if_pos ⟨by omega, c.2⟩]
  · rw [if_neg c, if_neg]
    intro z
    by_cases e : s = j
    · subst e; exact h z.2
    · exact c ⟨by omega, z.2⟩
theorem xr_n_le (clk : Int64) (born : Nat → Int64) (st : Nat → Int32) : ∀ j, xr_n clk born st j ≤ j
  | 0 => Nat.le_refl 0
  | j + 1 => by
    have := xr_n_le clk born st j
    unfold xr_n; split <;> omega
/-- the ring of writes: head and count behind i rounds -/
def xr_w (clk : Int64) (born : Nat → Int64) : Nat → Nat × Nat → Nat × Nat
  | 0, p => p
  | i + 1, p => xr_w clk born i (if 0 < p.2 ∧ 256 ≤ clk - born (6 + p.1) then ((p.1 + 1) % 6, p.2 - 1) else p)
section
variable {f_rcd f_rp f_rfc f_cap f_refreshSoon f_refreshMust f_drainMark f_requests f_allLanes f_slotFree f_slotWaiting f_slotReady f_actNext f_writeHead f_writeCount f_draining f_mode f_faults f_lost f_retiredReads : Int32} {f_never f_anyAct f_anyRead f_anyWrite f_nextSerial f_clock : Int64} {a_cells a_openRows a_ages a_reqAddress a_reqLanes a_reqData a_reqBase a_reqFetched a_reqPending a_slotStates : (Nat → Int32)} {a_lastAct a_lastRead a_lastWrite a_lastPre a_lastRef a_actTimes a_reqBorn a_reqSerial : (Nat → Int64)}
theorem xw_retw_l {post : SX → Prop} (np : ∀ q, q < 12 → ¬ f_clock - a_reqBorn q < 256 → a_reqPending q = 0) :
    ∀ n i h m, i ≤ 6 → 6 - i < n → h < 6 → m ≤ 6 → post (f_rcd, f_rp, f_rfc, f_cap, f_refreshSoon, f_refreshMust, f_drainMark, f_requests, f_allLanes, f_slotFree, f_slotWaiting, f_slotReady, f_never, f_anyAct, f_anyRead, f_anyWrite, f_actNext, f_nextSerial, nI (xr_w f_clock a_reqBorn (6 - i) (h, m)).1, nI (xr_w f_clock a_reqBorn (6 - i) (h, m)).2, f_draining, f_clock, f_mode, f_faults, f_lost, f_retiredReads, a_cells, a_openRows, a_ages, a_lastAct, a_lastRead, a_lastWrite, a_lastPre, a_lastRef, a_actTimes, a_reqAddress, a_reqLanes, a_reqData, a_reqBase, a_reqFetched, a_reqPending, a_reqBorn, a_reqSerial, a_slotStates) →
    wX_retireWritesAfterReads_103 post n (nI i) f_rcd f_rp f_rfc f_cap f_refreshSoon f_refreshMust f_drainMark f_requests f_allLanes f_slotFree f_slotWaiting f_slotReady f_never f_anyAct f_anyRead f_anyWrite f_actNext f_nextSerial (nI h) (nI m) f_draining f_clock f_mode f_faults f_lost f_retiredReads a_cells a_openRows a_ages a_lastAct a_lastRead a_lastWrite a_lastPre a_lastRef a_actTimes a_reqAddress a_reqLanes a_reqData a_reqBase a_reqFetched a_reqPending a_reqBorn a_reqSerial a_slotStates
  | 0, i, _, _, _, hn, _, _, _ => by omega
  | n + 1, i, h, m, hi, hn, hh, hm, K => by
    unfold wX_retireWritesAfterReads_103
    by_cases e : i = 6
    · subst e
      exact br_t (by decide) K
    · have lt : i < 6 := by omega
      refine br_f (nI_ge (b := 6) lt (by decide)) ?_
      obtain ⟨d, ed⟩ : ∃ d, 6 - i = d + 1 := ⟨5 - i, by omega⟩
      have ed2 : 6 - (i + 1) = d := by omega
      rw [ed] at K
      by_cases m0 : m = 0
      · subst m0
        refine br_t (by decide) (nm_r (nI_1 i) (xw_retw_l np n (i + 1) h 0 lt (by omega) hh hm ?_))
        rw [ed2]
        have e1 : xr_w f_clock a_reqBorn (d + 1) (h, 0) = xr_w f_clock a_reqBorn d (h, 0) := by
          show xr_w f_clock a_reqBorn d (if _ then _ else _) = _
          rw [if_neg (fun z => absurd z.1 (by show ¬ 0 < 0; omega))]
        rw [e1] at K; exact K
      · refine br_f (nI_nle (by omega) (by omega)) ?_
        unfold wpX_retireOldestWrite
        refine nm_r (nI_add 6 h) ?_
        have ew : (nI (6 + h)).toNatClampNeg = 6 + h := nI_clamp (by omega)
        have vw : vp_in (nI (6 + h)) 12 := vp_in_nI (by omega) (by omega)
        simp only [ew]
        refine ⟨vw, br_c (fun z => ?_) (fun z => ?_)⟩
        · have nl : ¬ f_clock - a_reqBorn (6 + h) < 256 := Int64.not_lt.mpr z
          refine ⟨vw, br_t (np (6 + h) (by omega) nl) ?_⟩
          unfold wX_retireOldestWrite_96
          have em : nI m - 1 = nI (m - 1) := by rw [show m = (m - 1) + 1 by omega, nI_pred]; rfl
          have e1 : xr_w f_clock a_reqBorn (d + 1) (h, m) = xr_w f_clock a_reqBorn d ((h + 1) % 6, m - 1) := by
            show xr_w f_clock a_reqBorn d (if _ then _ else _) = _
            rw [if_pos ⟨by show 0 < m; omega, z⟩]
          rw [e1] at K
          refine nm_r (nI_1 h) ?_
          by_cases h5 : h = 5
          · subst h5
            refine br_f (by decide) (nm_r em (nm_r (nI_1 i) (xw_retw_l np n (i + 1) 0 (m - 1) lt (by omega) (by omega) (by omega) ?_)))
            rw [ed2]; exact K
          · refine br_t (nI_lt (b := 6) (by omega) (by decide)) (nm_r em (nm_r (nI_1 i) (xw_retw_l np n (i + 1) (h + 1) (m - 1) lt (by omega) (by omega) (by omega) ?_)))
            rw [ed2]
            rw [show (h + 1) % 6 = h + 1 by omega] at K
            exact K
        · refine nm_r (nI_1 i) (xw_retw_l np n (i + 1) h m lt (by omega) hh hm ?_)
          rw [ed2]
          have e1 : xr_w f_clock a_reqBorn (d + 1) (h, m) = xr_w f_clock a_reqBorn d (h, m) := by
            show xr_w f_clock a_reqBorn d (if _ then _ else _) = _
            rw [if_neg (fun y => z y.2)]
          rw [e1] at K; exact K
theorem xw_retr_l {post : SX → Prop} {h m : Nat} (hh : h < 6) (hm : m ≤ 6) (np : ∀ q, q < 12 → ¬ f_clock - a_reqBorn q < 256 → a_reqPending q = 0)
    (K : post (f_rcd, f_rp, f_rfc, f_cap, f_refreshSoon, f_refreshMust, f_drainMark, f_requests, f_allLanes, f_slotFree, f_slotWaiting, f_slotReady, f_never, f_anyAct, f_anyRead, f_anyWrite, f_actNext, f_nextSerial, nI (xr_w f_clock a_reqBorn 6 (h, m)).1, nI (xr_w f_clock a_reqBorn 6 (h, m)).2, f_draining, f_clock, f_mode, f_faults, f_lost, nI (xr_n f_clock a_reqBorn a_slotStates 6), a_cells, a_openRows, a_ages, a_lastAct, a_lastRead, a_lastWrite, a_lastPre, a_lastRef, a_actTimes, a_reqAddress, a_reqLanes, a_reqData, a_reqBase, a_reqFetched, a_reqPending, a_reqBorn, a_reqSerial, xr_s f_clock a_reqBorn a_slotStates 6)) :
    ∀ n j, j ≤ 6 → 6 - j < n → wX_retireWritesAfterReads_7 post n (nI j) f_rcd f_rp f_rfc f_cap f_refreshSoon f_refreshMust f_drainMark f_requests f_allLanes f_slotFree f_slotWaiting f_slotReady f_never f_anyAct f_anyRead f_anyWrite f_actNext f_nextSerial (nI h) (nI m) f_draining f_clock f_mode f_faults f_lost (nI (xr_n f_clock a_reqBorn a_slotStates j)) a_cells a_openRows a_ages a_lastAct a_lastRead a_lastWrite a_lastPre a_lastRef a_actTimes a_reqAddress a_reqLanes a_reqData a_reqBase a_reqFetched a_reqPending a_reqBorn a_reqSerial (xr_s f_clock a_reqBorn a_slotStates j)
  | 0, j, _, hn => by omega
  | n + 1, j, hj, hn => by
    unfold wX_retireWritesAfterReads_7
    by_cases e : j = 6
    · subst e
      exact br_t (by decide) ⟨7, xw_retw_l np 7 0 h m (by omega) (by omega) hh hm K⟩
    · have lt : j < 6 := by omega
      have ej : (nI j).toNatClampNeg = j := nI_clamp (by omega)
      have vj : vp_in (nI j) 6 := vp_in_nI lt (by omega)
      have vj12 : vp_in (nI j) 12 := vp_in_nI (by omega) (by omega)
      have nl := xr_n_le f_clock a_reqBorn a_slotStates j
      simp only [ej]
      rw [xr_s_at]
      have ih := xw_retr_l hh hm np K n (j + 1) lt (by omega)
      have skip : ¬ (a_slotStates j = 1 ∧ ¬ f_clock - a_reqBorn j < 256) → wX_retireWritesAfterReads_7 post n (nI (j + 1)) f_rcd f_rp f_rfc f_cap f_refreshSoon f_refreshMust f_drainMark f_requests f_allLanes f_slotFree f_slotWaiting f_slotReady f_never f_anyAct f_anyRead f_anyWrite f_actNext f_nextSerial (nI h) (nI m) f_draining f_clock f_mode f_faults f_lost (nI (xr_n f_clock a_reqBorn a_slotStates j)) a_cells a_openRows a_ages a_lastAct a_lastRead a_lastWrite a_lastPre a_lastRef a_actTimes a_reqAddress a_reqLanes a_reqData a_reqBase a_reqFetched a_reqPending a_reqBorn a_reqSerial (xr_s f_clock a_reqBorn a_slotStates j) := by
        intro z
        have e1 : xr_n f_clock a_reqBorn a_slotStates (j + 1) = xr_n f_clock a_reqBorn a_slotStates j := by show (if _ then _ else _) = _; rw [if_neg z]
        rw [xr_s_f z, ← e1]; exact ih
      refine br_f (nI_ge (b := 6) lt (by decide)) ⟨vj, br_c (fun z => ⟨vj12, br_c (fun y => nm_r (nI_1 j) (skip (fun k => k.2 y))) (fun y => ⟨vj12, br_t (np j (by omega) y) ?_⟩)⟩) (fun z => nm_r (nI_1 j) (skip (fun k => z k.1)))⟩
      unfold wX_retireWritesAfterReads_78
      simp only [ej]
      refine ⟨vj, nm_e (nm_r (nI_1 _) (nm_r (nI_1 j) ?_))⟩
      have e1 : xr_n f_clock a_reqBorn a_slotStates (j + 1) = xr_n f_clock a_reqBorn a_slotStates j + 1 := by show (if _ then _ else _) = _; rw [if_pos ⟨z, y⟩]
      rw [xr_s_t z y, ← e1]; exact ih
theorem xw_ret {post : SX → Prop} {h m : Nat} (hh : h < 6) (hm : m ≤ 6) (eh : f_writeHead = nI h) (em : f_writeCount = nI m) (np : ∀ q, q < 12 → ¬ f_clock - a_reqBorn q < 256 → a_reqPending q = 0)
    (K : post (f_rcd, f_rp, f_rfc, f_cap, f_refreshSoon, f_refreshMust, f_drainMark, f_requests, f_allLanes, f_slotFree, f_slotWaiting, f_slotReady, f_never, f_anyAct, f_anyRead, f_anyWrite, f_actNext, f_nextSerial, nI (xr_w f_clock a_reqBorn 6 (h, m)).1, nI (xr_w f_clock a_reqBorn 6 (h, m)).2, f_draining, f_clock, f_mode, f_faults, f_lost, nI (xr_n f_clock a_reqBorn a_slotStates 6), a_cells, a_openRows, a_ages, a_lastAct, a_lastRead, a_lastWrite, a_lastPre, a_lastRef, a_actTimes, a_reqAddress, a_reqLanes, a_reqData, a_reqBase, a_reqFetched, a_reqPending, a_reqBorn, a_reqSerial, xr_s f_clock a_reqBorn a_slotStates 6)) : wpX_retireWritesAfterReads post (f_rcd, f_rp, f_rfc, f_cap, f_refreshSoon, f_refreshMust, f_drainMark, f_requests, f_allLanes, f_slotFree, f_slotWaiting, f_slotReady, f_never, f_anyAct, f_anyRead, f_anyWrite, f_actNext, f_nextSerial, f_writeHead, f_writeCount, f_draining, f_clock, f_mode, f_faults, f_lost, f_retiredReads, a_cells, a_openRows, a_ages, a_lastAct, a_lastRead, a_lastWrite, a_lastPre, a_lastRef, a_actTimes, a_reqAddress, a_reqLanes, a_reqData, a_reqBase, a_reqFetched, a_reqPending, a_reqBorn, a_reqSerial, a_slotStates) := by
  have := xw_retr_l hh hm np K 7 0 (by omega) (by omega)
  rw [xr_s_0, ← eh, ← em] at this
  exact ⟨7, this⟩
variable {bo : Nat → Int}
/-- one clock in SERVICE mode -/
theorem xw_svc {post : Int32 → SX → Prop} {hd m : Nat} (hh : hd < 6) (hm : m ≤ 6) (eh : f_writeHead = nI hd) (em : f_writeCount = nI m)
    (w : sc_W (sc_ab f_rcd f_rp f_rfc f_cap f_anyAct f_anyRead f_anyWrite f_actNext f_nextSerial f_draining f_clock a_openRows a_ages a_lastAct a_lastRead a_lastWrite a_lastPre a_lastRef a_actTimes a_reqAddress a_reqLanes a_reqFetched a_reqPending a_reqSerial bo)) (rg : sc_Rg (sc_ab f_rcd f_rp f_rfc f_cap f_anyAct f_anyRead f_anyWrite f_actNext f_nextSerial f_draining f_clock a_openRows a_ages a_lastAct a_lastRead a_lastWrite a_lastPre a_lastRef a_actTimes a_reqAddress a_reqLanes a_reqFetched a_reqPending a_reqSerial bo)) (an : vp_in f_actNext 4) (ri : (a_actTimes ((f_actNext.toNatClampNeg + 3) % 4)).toInt = f_anyAct.toInt)
    (hb : ∀ q, q < 12 → 0 ≤ (a_reqBorn q).toInt ∧ (a_reqBorn q).toInt ≤ 1000000) (hbo : ∀ q, q < 12 → sc_pd (sc_ab f_rcd f_rp f_rfc f_cap f_anyAct f_anyRead f_anyWrite f_actNext f_nextSerial f_draining f_clock a_openRows a_ages a_lastAct a_lastRead a_lastWrite a_lastPre a_lastRef a_actTimes a_reqAddress a_reqLanes a_reqFetched a_reqPending a_reqSerial bo) q ≠ 0 → bo q = (a_reqBorn q).toInt)
    (h : ∀ (d : Int32) (n_anyAct : Int64) (n_anyRead : Int64) (n_anyWrite : Int64) (n_actNext : Int32) (n_cells : (Nat → Int32)) (n_openRows : (Nat → Int32)) (n_ages : (Nat → Int32)) (n_lastAct : (Nat → Int64)) (n_lastRead : (Nat → Int64)) (n_lastWrite : (Nat → Int64)) (n_lastPre : (Nat → Int64)) (n_lastRef : (Nat → Int64)) (n_actTimes : (Nat → Int64)) (n_reqData : (Nat → Int32)) (n_reqBase : (Nat → Int32)) (n_reqFetched : (Nat → Int32)) (n_reqPending : (Nat → Int32)) (k b q : Nat), (d = 0 ∨ d = 1) → sc_Dr (sc_ab f_rcd f_rp f_rfc f_cap f_anyAct f_anyRead f_anyWrite f_actNext f_nextSerial d f_clock a_openRows a_ages a_lastAct a_lastRead a_lastWrite a_lastPre a_lastRef a_actTimes a_reqAddress a_reqLanes a_reqFetched a_reqPending a_reqSerial bo) → (f_draining ≠ 0 → d = 0 → ∀ p, 6 ≤ p → p < 12 → sc_pd (sc_ab f_rcd f_rp f_rfc f_cap f_anyAct f_anyRead f_anyWrite f_actNext f_nextSerial f_draining f_clock a_openRows a_ages a_lastAct a_lastRead a_lastWrite a_lastPre a_lastRef a_actTimes a_reqAddress a_reqLanes a_reqFetched a_reqPending a_reqSerial bo) p = 0) →
      sc_Aft (sc_Ch (sc_ab f_rcd f_rp f_rfc f_cap f_anyAct f_anyRead f_anyWrite f_actNext f_nextSerial d f_clock a_openRows a_ages a_lastAct a_lastRead a_lastWrite a_lastPre a_lastRef a_actTimes a_reqAddress a_reqLanes a_reqFetched a_reqPending a_reqSerial bo) k b q) (sc_Ef (sc_ab f_rcd f_rp f_rfc f_cap f_anyAct f_anyRead f_anyWrite f_actNext f_nextSerial d f_clock a_openRows a_ages a_lastAct a_lastRead a_lastWrite a_lastPre a_lastRef a_actTimes a_reqAddress a_reqLanes a_reqFetched a_reqPending a_reqSerial bo) (sc_ab f_rcd f_rp f_rfc f_cap n_anyAct n_anyRead n_anyWrite n_actNext f_nextSerial d (f_clock + 1) n_openRows (xf_ag n_ages 8) n_lastAct n_lastRead n_lastWrite n_lastPre n_lastRef n_actTimes a_reqAddress a_reqLanes n_reqFetched n_reqPending a_reqSerial bo) k b q)
      (sc_Dat a_reqAddress a_reqLanes a_reqPending a_cells a_reqData a_reqBase n_cells n_reqData n_reqBase n_reqPending k q) (vp_in n_actNext 4)
      ((n_actTimes ((n_actNext.toNatClampNeg + 3) % 4)).toInt = n_anyAct.toInt) (∀ x, x < 8 → 0 ≤ (n_ages x).toInt ∧ (n_ages x).toInt ≤ 512) →
      (∀ x, x < 8 → (n_ages x).toInt ≤ 510) ∧ (∀ p, p < 12 → ¬ (f_clock + 1) - a_reqBorn p < 256 → n_reqPending p = 0) ∧
      post (nI (xr_n (f_clock + 1) a_reqBorn a_slotStates 6)) (f_rcd, f_rp, f_rfc, f_cap, f_refreshSoon, f_refreshMust, f_drainMark, f_requests, f_allLanes, f_slotFree, f_slotWaiting, f_slotReady, f_never, n_anyAct, n_anyRead, n_anyWrite, n_actNext, f_nextSerial, nI (xr_w (f_clock + 1) a_reqBorn 6 (hd, m)).1, nI (xr_w (f_clock + 1) a_reqBorn 6 (hd, m)).2, d, f_clock + 1, f_mode, f_faults, f_lost, nI (xr_n (f_clock + 1) a_reqBorn a_slotStates 6), n_cells, n_openRows, xf_ag n_ages 8, n_lastAct, n_lastRead, n_lastWrite, n_lastPre, n_lastRef, n_actTimes, a_reqAddress, a_reqLanes, n_reqData, n_reqBase, n_reqFetched, n_reqPending, a_reqBorn, a_reqSerial, xr_s (f_clock + 1) a_reqBorn a_slotStates 6)) :
    wpX_passServiceClock post (f_rcd, f_rp, f_rfc, f_cap, f_refreshSoon, f_refreshMust, f_drainMark, f_requests, f_allLanes, f_slotFree, f_slotWaiting, f_slotReady, f_never, f_anyAct, f_anyRead, f_anyWrite, f_actNext, f_nextSerial, f_writeHead, f_writeCount, f_draining, f_clock, f_mode, f_faults, f_lost, f_retiredReads, a_cells, a_openRows, a_ages, a_lastAct, a_lastRead, a_lastWrite, a_lastPre, a_lastRef, a_actTimes, a_reqAddress, a_reqLanes, a_reqData, a_reqBase, a_reqFetched, a_reqPending, a_reqBorn, a_reqSerial, a_slotStates) := by
  unfold wpX_passServiceClock
  refine xw_sched w rg an ri hb hbo ?_
  intro d n1 n2 n3 n4 n5 n6 n7 n8 n9 n10 n11 n12 n13 n14 n15 n16 n17 k b q hd0 hdr hmo af
  obtain ⟨h1, h2, h3⟩ := h d n1 n2 n3 n4 n5 n6 n7 n8 n9 n10 n11 n12 n13 n14 n15 n16 n17 k b q hd0 hdr hmo af
  refine nm_e (xw_age ?_)
  obtain ⟨y1, y2, y3⟩ := xg_young (cells := n5) (ages := n7) (fun x hx => ⟨(af.2.2.2.2.2 x hx).1, h1 x hx⟩)
  rw [y1, y2, y3]
  refine nm_r (show f_faults + nI 0 = f_faults by rw [nI_0]; exact Int32.add_zero _) ?_
  exact xw_ret hh hm eh em h2 h3
end
end
section
/-! The reference's clock in SERVICE mode. -/
def yp_l (st left : Nat → Int32) (j : Nat) : Nat → Int32 := fun s => if s < j ∧ st s = 1 then left s - 1 else left s
def yp_s (st left : Nat → Int32) (j : Nat) : Nat → Int32 := fun s => if s < j ∧ st s = 1 ∧ left s - 1 = 0 then 2 else st s
def yp_n (st left : Nat → Int32) : Nat → Nat
  | 0 => 0
  | j + 1 => if st j = 1 ∧ left j - 1 = 0 then yp_n st left j + 1 else yp_n st left j
def yp_f (fl : Nat → Int32) (j : Nat) : Nat → Int32 := fun i => if i < j ∧ ¬ fl i ≤ 0 then fl i - 1 else fl i
def yp_sj (fl : Nat → Int32) (j : Nat) : Nat → Int32 := fun i => if i < j then fl (i + 1) else fl i
def yp_sh (fl : Nat → Int32) : Nat → Int32 := fun i => if i < 5 then fl (i + 1) else if i = 5 then 0 else fl i
def yp_it : Nat → (Nat → Int32) → (Nat → Int32)
  | 0, f => f
  | n + 1, f => yp_it n (if f 0 = 0 then yp_sh f else f)
theorem yp_l_0 (st left : Nat → Int32) : yp_l st left 0 = left := by funext s; unfold yp_l; rw [if_neg (by omega)]
theorem yp_s_0 (st left : Nat → Int32) : yp_s st left 0 = st := by funext s; unfold yp_s; rw [if_neg (by omega)]
theorem yp_f_0 (fl : Nat → Int32) : yp_f fl 0 = fl := by funext s; unfold yp_f; rw [if_neg (by omega)]
theorem yp_sj_0 (fl : Nat → Int32) : yp_sj fl 0 = fl := by funext s; unfold yp_sj; rw [if_neg (by omega)]
theorem yp_l_at (st left : Nat → Int32) (j : Nat) : yp_l st left j j = left j := by unfold yp_l; rw [if_neg (by omega)]
theorem yp_s_at (st left : Nat → Int32) (j : Nat) : yp_s st left j j = st j := by unfold yp_s; rw [if_neg (by omega)]
theorem yp_f_at (fl : Nat → Int32) (j : Nat) : yp_f fl j j = fl j := by unfold yp_f; rw [if_neg (by omega)]
theorem yp_sj_at (fl : Nat → Int32) (j : Nat) : yp_sj fl j (j + 1) = fl (j + 1) := by unfold yp_sj; rw [if_neg (by omega)]
theorem yp_l_t {st left : Nat → Int32} {j : Nat} (h : st j = 1) : upd (yp_l st left j) j (left j - 1) = yp_l st left (j + 1) := by
  funext s; unfold upd yp_l
  by_cases e : s = j
  · subst e; rw [if_pos rfl, if_pos ⟨by omega, h⟩]
  · rw [if_neg e]
    by_cases c : s < j ∧ st s = 1
    · rw [if_pos c, if_pos ⟨by omega, c.2⟩]
    · rw [if_neg c, if_neg (fun z => c ⟨by omega, z.2⟩)]
theorem yp_l_f {st left : Nat → Int32} {j : Nat} (h : ¬ st j = 1) : yp_l st left j = yp_l st left (j + 1) := by
  funext s; unfold yp_l
  by_cases c : s < j ∧ st s = 1
  · rw [if_pos c, if_pos ⟨by omega, c.2⟩]
  · rw [if_neg c, if_neg]
    intro z
    by_cases e : s = j
    · subst e; exact h z.2
    · exact c ⟨by omega, z.2⟩
theorem yp_s_t {st left : Nat → Int32} {j : Nat} (h : st j = 1 ∧ left j - 1 = 0) : upd (yp_s st left j) j 2 = yp_s st left (j + 1) := by
  funext s; unfold upd yp_s
  by_cases e : s = j
  · subst e; rw [if_pos rfl, if_pos ⟨by omega, h⟩]
  · rw [if_neg e]
    by_cases c : s < j ∧ st s = 1 ∧ left s - 1 = 0
    · rw [if_pos c, if_pos ⟨by omega, c.2⟩]
    · rw [if_neg c, if_neg (fun z => c ⟨by omega, z.2⟩)]
theorem yp_s_f {st left : Nat → Int32} {j : Nat} (h : ¬ (st j = 1 ∧ left j - 1 = 0)) : yp_s st left j = yp_s st left (j + 1) := by
  funext s; unfold yp_s
  by_cases c : s < j ∧ st s = 1 ∧ left s - 1 = 0
  · rw [if_pos c, if_pos ⟨by omega, c.2⟩]
  · rw [if_neg c, if_neg]
    intro z
    by_cases e : s = j
    · subst e; exact h z.2
    · exact c ⟨by omega, z.2⟩
theorem yp_f_t {fl : Nat → Int32} {j : Nat} (h : ¬ fl j ≤ 0) : upd (yp_f fl j) j (fl j - 1) = yp_f fl (j + 1) := by
  funext s; unfold upd yp_f
  by_cases e : s = j
  · subst e; rw [if_pos rfl, if_pos ⟨by omega, h⟩]
  · rw [if_neg e]
    by_cases c : s < j ∧ ¬ fl s ≤ 0
    · rw [if_pos c, if_pos ⟨by omega, c.2⟩]
    · rw [if_neg c, if_neg (fun z => c ⟨by omega, z.2⟩)]
theorem yp_f_f {fl : Nat → Int32} {j : Nat} (h : fl j ≤ 0) : yp_f fl j = yp_f fl (j + 1) := by
  funext s; unfold yp_f
  by_cases c : s < j ∧ ¬ fl s ≤ 0
  · rw [if_pos c, if_pos ⟨by omega, c.2⟩]
  · rw [if_neg c, if_neg]
    intro z
    by_cases e : s = j
    · subst e; exact z.2 h
    · exact c ⟨by omega, z.2⟩
theorem yp_sj_t {fl : Nat → Int32} {j : Nat} : upd (yp_sj fl j) j (fl (j + 1)) = yp_sj fl (j + 1) := by
  funext s; unfold upd yp_sj
  by_cases e : s = j
  · subst e; rw [if_pos rfl, if_pos (by omega)]
  · rw [if_neg e]
    by_cases c : s < j
    · rw [if_pos c, if_pos (by omega)]
    · rw [if_neg c, if_neg (by omega)]
theorem yp_sj_5 (fl : Nat → Int32) : upd (yp_sj fl 5) 5 0 = yp_sh fl := by
  funext s; unfold upd yp_sj yp_sh
  by_cases e : s = 5
  · rw [if_pos e, if_neg (by omega), if_pos e]
  · rw [if_neg e]
    by_cases c : s < 5
    · rw [if_pos c, if_pos c]
    · rw [if_neg c, if_neg c, if_neg e]
theorem yp_n_le (st left : Nat → Int32) : ∀ j, yp_n st left j ≤ j
  | 0 => Nat.le_refl 0
  | j + 1 => by
    have := yp_n_le st left j
    unfold yp_n; split <;> omega
section
variable {y_rcd y_rp y_rfc y_cap y_busMode y_losses : Int32} {y_now : Int64} {b_words b_slotState b_slotLeft b_slotValue b_flight b_open b_ages b_pastKind b_pastBank : (Nat → Int32)}
theorem yw_117 {post : Int32 → SY → Prop} {J : Int32 → (Nat → Int32) → (Nat → Int32) → (Nat → Int32) → (Nat → Int32) → (Nat → Int32) → (Nat → Int32) → (Nat → Int32) → (Nat → Int32) → (Nat → Int32) → Prop} {x1 : Int32} {i : Nat}
    (h : J (nI (i + 1)) b_words b_slotState b_slotLeft b_slotValue (yp_sh b_flight) b_open b_ages b_pastKind b_pastBank) :
    ∀ n j, j ≤ 5 → 5 - j < n → wY_passService_117 post J x1 (nI i) y_rcd y_rp y_rfc y_cap y_now y_busMode y_losses n (nI j) b_words b_slotState b_slotLeft b_slotValue (yp_sj b_flight j) b_open b_ages b_pastKind b_pastBank
  | 0, j, _, hn => by omega
  | n + 1, j, hj, hn => by
    unfold wY_passService_117
    by_cases e : j = 5
    · subst e
      refine br_t (by decide) (nm_e (nm_r (nI_1 i) ?_))
      rw [yp_sj_5]; exact h
    · have lt : j < 5 := by omega
      have ej : (nI j).toNatClampNeg = j := nI_clamp (by omega)
      have ej1 : (nI j + 1).toNatClampNeg = j + 1 := by rw [nI_1]; exact nI_clamp (by omega)
      simp only [ej, ej1]
      refine br_f (nI_ge (b := 5) lt (by decide)) ⟨by rw [nI_1]; exact vp_in_nI (by omega) (by omega), vp_in_nI (by omega) (by omega), nm_e (nm_r (nI_1 j) ?_)⟩
      rw [yp_sj_at, yp_sj_t]
      exact yw_117 h n (j + 1) lt (by omega)
theorem yw_100 {post : Int32 → SY → Prop} {x1 : Int32} : ∀ n i (fl : Nat → Int32), i ≤ 6 → 6 - i < n → post x1 (y_rcd, y_rp, y_rfc, y_cap, y_now, y_busMode, y_losses, b_words, b_slotState, b_slotLeft, b_slotValue, yp_it (6 - i) fl, b_open, b_ages, b_pastKind, b_pastBank) → wY_passService_100 post x1 y_rcd y_rp y_rfc y_cap y_now y_busMode y_losses n (nI i) b_words b_slotState b_slotLeft b_slotValue fl b_open b_ages b_pastKind b_pastBank
  | 0, i, _, _, hn, _ => by omega
  | n + 1, i, fl, hi, hn, K => by
    unfold wY_passService_100
    by_cases e : i = 6
    · subst e
      exact br_t (by decide) K
    · have lt : i < 6 := by omega
      obtain ⟨d, ed⟩ : ∃ d, 6 - i = d + 1 := ⟨5 - i, by omega⟩
      have ed2 : 6 - (i + 1) = d := by omega
      rw [ed] at K
      refine br_f (nI_ge (b := 6) lt (by decide)) (br_c (fun z => ?_) (fun z => ?_))
      · have e1 : yp_it (d + 1) fl = yp_it d (yp_sh fl) := by show yp_it d (if _ then _ else _) = _; rw [if_pos z]
        rw [e1] at K
        have := yw_117 (y_rcd := y_rcd) (y_rp := y_rp) (y_rfc := y_rfc) (y_cap := y_cap) (y_now := y_now) (y_busMode := y_busMode) (y_losses := y_losses) (post := post) (J := wY_passService_100 post x1 y_rcd y_rp y_rfc y_cap y_now y_busMode y_losses n) (x1 := x1) (i := i) (b_flight := fl) (yw_100 n (i + 1) (yp_sh fl) lt (by omega) (by rw [ed2]; exact K)) 6 0 (by omega) (by omega)
        rw [yp_sj_0] at this
        exact ⟨6, this⟩
      · have e1 : yp_it (d + 1) fl = yp_it d fl := by show yp_it d (if _ then _ else _) = _; rw [if_neg z]
        rw [e1] at K
        exact nm_r (nI_1 i) (yw_100 n (i + 1) fl lt (by omega) (by rw [ed2]; exact K))
theorem yw_67 {post : Int32 → SY → Prop} {x1 : Int32} (K : post x1 (y_rcd, y_rp, y_rfc, y_cap, y_now, y_busMode, y_losses, b_words, b_slotState, b_slotLeft, b_slotValue, yp_it 6 (yp_f b_flight 6), b_open, b_ages, b_pastKind, b_pastBank)) : ∀ n j, j ≤ 6 → 6 - j < n → wY_passService_67 post x1 y_rcd y_rp y_rfc y_cap y_now y_busMode y_losses n (nI j) b_words b_slotState b_slotLeft b_slotValue (yp_f b_flight j) b_open b_ages b_pastKind b_pastBank
  | 0, j, _, hn => by omega
  | n + 1, j, hj, hn => by
    unfold wY_passService_67
    by_cases e : j = 6
    · subst e
      exact br_t (by decide) ⟨7, yw_100 7 0 _ (by omega) (by omega) K⟩
    · have lt : j < 6 := by omega
      have ej : (nI j).toNatClampNeg = j := nI_clamp (by omega)
      have vj : vp_in (nI j) 6 := vp_in_nI lt (by omega)
      have ih := yw_67 K n (j + 1) lt (by omega)
      simp only [ej]
      rw [yp_f_at]
      refine br_f (nI_ge (b := 6) lt (by decide)) ⟨vj, br_c (fun z => nm_r (nI_1 j) ?_) (fun z => ⟨vj, vj, nm_e (nm_r (nI_1 j) ?_)⟩)⟩
      · rw [yp_f_f z]; exact ih
      · rw [yp_f_t z]; exact ih
theorem yw_14 {post : Int32 → SY → Prop} (K : post (nI (yp_n b_slotState b_slotLeft 6)) (y_rcd, y_rp, y_rfc, y_cap, y_now, y_busMode, y_losses, b_words, yp_s b_slotState b_slotLeft 6, yp_l b_slotState b_slotLeft 6, b_slotValue, yp_it 6 (yp_f b_flight 6), b_open, b_ages, b_pastKind, b_pastBank)) :
    ∀ n j, j ≤ 6 → 6 - j < n → wY_passService_14 post y_rcd y_rp y_rfc y_cap y_now y_busMode y_losses n (nI (yp_n b_slotState b_slotLeft j)) (nI j) b_words (yp_s b_slotState b_slotLeft j) (yp_l b_slotState b_slotLeft j) b_slotValue b_flight b_open b_ages b_pastKind b_pastBank
  | 0, j, _, hn => by omega
  | n + 1, j, hj, hn => by
    unfold wY_passService_14
    by_cases e : j = 6
    · subst e
      have := yw_67 K 7 0 (by omega) (by omega)
      rw [yp_f_0] at this
      exact br_t (by decide) ⟨7, this⟩
    · have lt : j < 6 := by omega
      have ej : (nI j).toNatClampNeg = j := nI_clamp (by omega)
      have vj : vp_in (nI j) 6 := vp_in_nI lt (by omega)
      have ih := yw_14 K n (j + 1) lt (by omega)
      have nl := yp_n_le b_slotState b_slotLeft j
      simp only [ej]
      rw [yp_s_at, yp_l_at]
      refine br_f (nI_ge (b := 6) lt (by decide)) ⟨vj, br_c (fun z => ⟨vj, vj, nm_e ⟨vj, ?_⟩⟩) (fun z => nm_r (nI_1 j) ?_)⟩
      · rw [pk_us]
        refine br_c (fun y => ⟨vj, nm_e (nm_r (nI_1 _) (nm_r (nI_1 j) ?_))⟩) (fun y => nm_r (nI_1 j) ?_)
        · have e1 : yp_n b_slotState b_slotLeft (j + 1) = yp_n b_slotState b_slotLeft j + 1 := by show (if _ then _ else _) = _; rw [if_pos ⟨z, y⟩]
          rw [yp_s_t ⟨z, y⟩, yp_l_t z, ← e1]; exact ih
        · have e1 : yp_n b_slotState b_slotLeft (j + 1) = yp_n b_slotState b_slotLeft j := by show (if _ then _ else _) = _; rw [if_neg (fun k => y k.2)]
          rw [yp_s_f (fun k => y k.2), yp_l_t z, ← e1]; exact ih
      · have e1 : yp_n b_slotState b_slotLeft (j + 1) = yp_n b_slotState b_slotLeft j := by show (if _ then _ else _) = _; rw [if_neg (fun k => z k.1)]
        rw [yp_s_f (fun k => z k.1), yp_l_f z, ← e1]; exact ih
theorem yw_svc {post : Int32 → SY → Prop} (K : post (nI (yp_n b_slotState b_slotLeft 6)) (y_rcd, y_rp, y_rfc, y_cap, y_now + 1, y_busMode, y_losses, b_words, yp_s b_slotState b_slotLeft 6, yp_l b_slotState b_slotLeft 6, b_slotValue, yp_it 6 (yp_f b_flight 6), b_open, b_ages, b_pastKind, b_pastBank)) : wpY_passService post (y_rcd, y_rp, y_rfc, y_cap, y_now, y_busMode, y_losses, b_words, b_slotState, b_slotLeft, b_slotValue, b_flight, b_open, b_ages, b_pastKind, b_pastBank) := by
  unfold wpY_passService
  refine nm_e ?_
  have := yw_14 (y_now := y_now + 1) K 7 0 (by omega) (by omega)
  rw [yp_s_0, yp_l_0] at this
  exact ⟨7, this⟩
end
end
section
/-! The reference's clock in MANUAL mode. -/
def yq_k (pk : Nat → Int32) (j : Nat) : Nat → Int32 := fun d => if j < d ∧ d ≤ 15 then pk (d - 1) else pk d
def yq_0 (pk : Nat → Int32) : Nat → Int32 := fun d => if d = 0 then -1 else if d ≤ 15 then pk (d - 1) else pk d
theorem yq_k_15 (pk : Nat → Int32) : yq_k pk 15 = pk := by funext d; unfold yq_k; rw [if_neg (by omega)]
theorem yq_k_t {pk : Nat → Int32} {j : Nat} (hj : j + 1 ≤ 15) : upd (yq_k pk (j + 1)) (j + 1) (yq_k pk (j + 1) j) = yq_k pk j := by
  funext d; unfold upd yq_k
  by_cases e : d = j + 1
  · rw [if_pos e, if_neg (by omega), if_pos (by omega)]
    congr 1; omega
  · rw [if_neg e]
    by_cases c : j + 1 < d ∧ d ≤ 15
    · rw [if_pos c, if_pos (by omega)]
    · rw [if_neg c, if_neg (by omega)]
theorem yq_k_0 (pk : Nat → Int32) : upd (yq_k pk 0) 0 (-1) = yq_0 pk := by
  funext d; unfold upd yq_k yq_0
  by_cases e : d = 0
  · rw [if_pos e, if_pos e]
  · rw [if_neg e, if_neg e]
    by_cases c : d ≤ 15
    · rw [if_pos (by omega), if_pos c]
    · rw [if_neg (by omega), if_neg c]
section
variable {y_rcd y_rp y_rfc y_cap y_busMode y_losses : Int32} {y_now : Int64} {b_words b_slotState b_slotLeft b_slotValue b_flight b_open b_ages b_pastKind b_pastBank : (Nat → Int32)}
theorem yw_101 {post : Int32 → SY → Prop} {J62 : Int32 → Int32 → Int32 → (Nat → Int32) → (Nat → Int32) → (Nat → Int32) → (Nat → Int32) → (Nat → Int32) → (Nat → Int32) → (Nat → Int32) → (Nat → Int32) → (Nat → Int32) → Prop}
    {J : Int32 → (Nat → Int32) → (Nat → Int32) → (Nat → Int32) → (Nat → Int32) → (Nat → Int32) → (Nat → Int32) → (Nat → Int32) → (Nat → Int32) → (Nat → Int32) → Prop} {x1 : Int32} {b r : Nat} (hb : b < 8) (hr : r < 8)
    (h : J (nI (r + 1)) (xf_w2 b_words b (r + 1) 0) b_slotState b_slotLeft b_slotValue b_flight b_open b_ages b_pastKind b_pastBank) :
    ∀ n c, c ≤ 4 → 4 - c < n → wY_passManual_101 post J62 J x1 (nI b) (nI r) y_rcd y_rp y_rfc y_cap y_now y_busMode y_losses n (nI c) (xf_w2 b_words b r c) b_slotState b_slotLeft b_slotValue b_flight b_open b_ages b_pastKind b_pastBank
  | 0, c, _, hn => by omega
  | n + 1, c, hc, hn => by
    unfold wY_passManual_101
    by_cases e : c = 4
    · subst e
      refine br_t (by decide) (nm_r (nI_1 r) ?_)
      rw [xf_w2_r]; exact h
    · have lt : c < 4 := by omega
      refine br_f (nI_ge (b := 4) lt (by decide)) ?_
      rw [xb_place4]
      refine ⟨vp_in_nI (by omega) (by omega), nm_e (nm_r (nI_1 c) ?_)⟩
      rw [nI_clamp (by omega), xf_w2_c hb hr lt]
      exact yw_101 hb hr h n (c + 1) lt (by omega)
theorem yw_92 {post : Int32 → SY → Prop} {J62 : Int32 → Int32 → Int32 → (Nat → Int32) → (Nat → Int32) → (Nat → Int32) → (Nat → Int32) → (Nat → Int32) → (Nat → Int32) → (Nat → Int32) → (Nat → Int32) → (Nat → Int32) → Prop} {x1 : Int32} {b : Nat} (hb : b < 8)
    (h : J62 (x1 + 1) (nI (b + 1)) (y_losses + 1) (xf_wp b_words b) b_slotState b_slotLeft b_slotValue b_flight b_open (upd b_ages b 0) b_pastKind b_pastBank) :
    ∀ n r, r ≤ 8 → 8 - r < n → wY_passManual_92 post J62 x1 (nI b) y_rcd y_rp y_rfc y_cap y_now y_busMode y_losses n (nI r) (xf_w2 b_words b r 0) b_slotState b_slotLeft b_slotValue b_flight b_open b_ages b_pastKind b_pastBank
  | 0, r, _, hn => by omega
  | n + 1, r, hr, hn => by
    unfold wY_passManual_92
    by_cases e : r = 8
    · subst e
      have eb : (nI b).toNatClampNeg = b := nI_clamp (by omega)
      simp only [eb]
      refine br_t (by decide) ⟨vp_in_nI hb (by omega), nm_e (nm_e (nm_e (nm_r (nI_1 b) ?_)))⟩
      rw [xf_w2_8]; exact h
    · have lt : r < 8 := by omega
      exact br_f (nI_ge (b := 8) lt (by decide)) ⟨5, yw_101 hb lt (yw_92 hb h n (r + 1) lt (by omega)) 5 0 (by omega) (by omega)⟩
theorem yw_62 {post : Int32 → SY → Prop} (ag : ∀ x, x < 8 → 0 ≤ (b_ages x).toInt ∧ (b_ages x).toInt ≤ 511)
    (h : post (nI (xg_n b_ages 8)) (y_rcd, y_rp, y_rfc, y_cap, y_now, y_busMode, y_losses + nI (xg_n b_ages 8), xg_c b_words b_ages 8, b_slotState, b_slotLeft, b_slotValue, b_flight, b_open, xg_a b_ages 8, b_pastKind, b_pastBank)) :
    ∀ n j, j ≤ 8 → 8 - j < n → wY_passManual_62 post y_rcd y_rp y_rfc y_cap y_now y_busMode n (nI (xg_n b_ages j)) (nI j) (y_losses + nI (xg_n b_ages j)) (xg_c b_words b_ages j) b_slotState b_slotLeft b_slotValue b_flight b_open (xg_a b_ages j) b_pastKind b_pastBank
  | 0, j, _, hn => by omega
  | n + 1, j, hj, hn => by
    unfold wY_passManual_62
    by_cases e : j = 8
    · subst e
      exact br_t (by decide) h
    · have lt : j < 8 := by omega
      have ej : (nI j).toNatClampNeg = j := nI_clamp (by omega)
      have vj : vp_in (nI j) 8 := vp_in_nI lt (by omega)
      have g := ag j lt
      have eq : b_ages j + 1 = 512 ↔ ¬ b_ages j + 1 < 512 := by
        rw [xb_eq, Int32.lt_iff_toInt_lt, Int32.toInt_add]
        have e1 : (1 : Int32).toInt = 1 := by decide
        have e2 : (512 : Int32).toInt = 512 := by decide
        rw [e1, e2, Int.bmod_eq_of_le (by omega) (by omega)]
        omega
      simp only [ej]
      rw [xg_a_at]
      have ih := yw_62 ag h n (j + 1) lt (by omega)
      have nl := xg_n_le b_ages j
      refine br_f (nI_ge (b := 8) lt (by decide)) ⟨vj, vj, nm_e ⟨vj, ?_⟩⟩
      rw [pk_us]
      refine br_c (fun z => ?_) (fun z => nm_r (nI_1 j) ?_)
      · have z := eq.mp z
        have e1 : xg_n b_ages (j + 1) = xg_n b_ages j + 1 := by show (if _ then _ else _) = _; rw [if_neg z]
        have e2 : xg_c b_words b_ages (j + 1) = xf_wp (xg_c b_words b_ages j) j := by show (if _ then _ else _) = _; rw [if_neg z]
        have e3 : y_losses + nI (xg_n b_ages j) + 1 = y_losses + nI (xg_n b_ages j + 1) := by rw [Int32.add_assoc, nI_1]
        have := yw_92 (y_rcd := y_rcd) (y_rp := y_rp) (y_rfc := y_rfc) (y_cap := y_cap) (y_now := y_now) (y_busMode := y_busMode) (y_losses := y_losses + nI (xg_n b_ages j)) (post := post) (J62 := wY_passManual_62 post y_rcd y_rp y_rfc y_cap y_now y_busMode n) (x1 := nI (xg_n b_ages j)) (b_words := xg_c b_words b_ages j) (b_slotState := b_slotState) (b_slotLeft := b_slotLeft) (b_slotValue := b_slotValue) (b_flight := b_flight) (b_open := b_open) (b_ages := upd (xg_a b_ages j) j (b_ages j + 1)) (b_pastKind := b_pastKind) (b_pastBank := b_pastBank) lt (by
          rw [nI_1, e3, xg_a_f z, ← e2, ← e1]; exact ih) 9 0 (by omega) (by omega)
        rw [xf_w2_0] at this
        exact ⟨9, this⟩
      · have z : b_ages j + 1 < 512 := by
          apply Classical.byContradiction
          intro k; exact z (eq.mpr k)
        have e1 : xg_n b_ages (j + 1) = xg_n b_ages j := by show (if _ then _ else _) = _; rw [if_pos z]
        have e2 : xg_c b_words b_ages (j + 1) = xg_c b_words b_ages j := by show (if _ then _ else _) = _; rw [if_pos z]
        rw [xg_a_t z, ← e2, ← e1]
        exact ih
theorem yw_15 {post : Int32 → SY → Prop} (ag : ∀ x, x < 8 → 0 ≤ (b_ages x).toInt ∧ (b_ages x).toInt ≤ 511)
    (h : post (nI (xg_n b_ages 8)) (y_rcd, y_rp, y_rfc, y_cap, y_now, y_busMode, y_losses + nI (xg_n b_ages 8), xg_c b_words b_ages 8, b_slotState, b_slotLeft, b_slotValue, b_flight, b_open, xg_a b_ages 8, yq_0 b_pastKind, yq_k b_pastBank 0)) :
    ∀ n j, j ≤ 15 → j < n → wY_passManual_15 post 0 y_rcd y_rp y_rfc y_cap y_now y_busMode y_losses n (nI j) b_words b_slotState b_slotLeft b_slotValue b_flight b_open b_ages (yq_k b_pastKind j) (yq_k b_pastBank j)
  | 0, j, _, hn => by omega
  | n + 1, j, hj, hn => by
    unfold wY_passManual_15
    by_cases e : j = 0
    · subst e
      have := yw_62 (y_losses := y_losses) ag h 9 0 (by omega) (by omega)
      have e3 : y_losses + nI (xg_n b_ages 0) = y_losses := by show y_losses + nI 0 = y_losses; rw [nI_0]; exact Int32.add_zero _
      rw [e3, xg_a_0] at this
      refine br_t (by decide) (nm_r (yq_k_0 b_pastKind) ⟨9, this⟩)
    · obtain ⟨i, rfl⟩ : ∃ i, j = i + 1 := ⟨j - 1, by omega⟩
      have e0 : (nI (i + 1)).toNatClampNeg = i + 1 := nI_clamp (by omega)
      have e1 : (nI (i + 1) - 1).toNatClampNeg = i := by rw [nI_pred]; exact nI_clamp (by omega)
      have v1 : vp_in (nI (i + 1) - 1) 16 := by rw [nI_pred]; exact vp_in_nI (by omega) (by omega)
      have v0 : vp_in (nI (i + 1)) 16 := vp_in_nI (by omega) (by omega)
      simp only [e0, e1]
      refine br_f (nI_nle (by omega) (by omega)) ⟨v1, v0, nm_r (yq_k_t hj) ⟨v1, v0, nm_r (yq_k_t hj) (nm_r (pk_m1 i) ?_)⟩⟩
      exact yw_15 ag h n i (by omega) (by omega)
theorem yw_man {post : Int32 → SY → Prop} (ag : ∀ x, x < 8 → 0 ≤ (b_ages x).toInt ∧ (b_ages x).toInt ≤ 511)
    (h : post (nI (xg_n b_ages 8)) (y_rcd, y_rp, y_rfc, y_cap, y_now + 1, y_busMode, y_losses + nI (xg_n b_ages 8), xg_c b_words b_ages 8, b_slotState, b_slotLeft, b_slotValue, b_flight, b_open, xg_a b_ages 8, yq_0 b_pastKind, yq_k b_pastBank 0)) : wpY_passManual post (y_rcd, y_rp, y_rfc, y_cap, y_now, y_busMode, y_losses, b_words, b_slotState, b_slotLeft, b_slotValue, b_flight, b_open, b_ages, b_pastKind, b_pastBank) := by
  unfold wpY_passManual
  refine nm_e ?_
  have := yw_15 (y_now := y_now + 1) ag h 16 15 (by omega) (by omega)
  rw [yq_k_15, yq_k_15] at this
  exact ⟨16, this⟩
end
end
section
/-! Settled devices. -/
def xs_i (a : Nat → Int32) (v : Int32) (j : Nat) : Nat → Int32 := fun b => if b < j then v else a b
def xs_l (a : Nat → Int64) (v : Int64) (j : Nat) : Nat → Int64 := fun b => if b < j then v else a b
theorem xs_i_0 (a : Nat → Int32) (v : Int32) : xs_i a v 0 = a := by funext b; unfold xs_i; rw [if_neg (by omega)]
theorem xs_l_0 (a : Nat → Int64) (v : Int64) : xs_l a v 0 = a := by funext b; unfold xs_l; rw [if_neg (by omega)]
theorem xs_i_t (a : Nat → Int32) (v : Int32) (j : Nat) : upd (xs_i a v j) j v = xs_i a v (j + 1) := by
  funext b; unfold upd xs_i
  by_cases e : b = j
  · rw [if_pos e, if_pos (by omega)]
  · rw [if_neg e]
    by_cases c : b < j
    · rw [if_pos c, if_pos (by omega)]
    · rw [if_neg c, if_neg (by omega)]
theorem xs_l_t (a : Nat → Int64) (v : Int64) (j : Nat) : vp_updL (xs_l a v j) j v = xs_l a v (j + 1) := by
  funext b; unfold vp_updL xs_l
  by_cases e : b = j
  · rw [if_pos e, if_pos (by omega)]
  · rw [if_neg e]
    by_cases c : b < j
    · rw [if_pos c, if_pos (by omega)]
    · rw [if_neg c, if_neg (by omega)]
section
variable {f_rcd f_rp f_rfc f_cap f_refreshSoon f_refreshMust f_drainMark f_requests f_allLanes f_slotFree f_slotWaiting f_slotReady f_actNext f_writeHead f_writeCount f_draining f_mode f_faults f_lost f_retiredReads : Int32} {f_never f_anyAct f_anyRead f_anyWrite f_nextSerial f_clock : Int64} {a_cells a_openRows a_ages a_reqAddress a_reqLanes a_reqData a_reqBase a_reqFetched a_reqPending a_slotStates : (Nat → Int32)} {a_lastAct a_lastRead a_lastWrite a_lastPre a_lastRef a_actTimes a_reqBorn a_reqSerial : (Nat → Int64)}
theorem xw_set96 {post : SX → Prop} (h : post (f_rcd, f_rp, f_rfc, f_cap, f_refreshSoon, f_refreshMust, f_drainMark, f_requests, f_allLanes, f_slotFree, f_slotWaiting, f_slotReady, f_never, f_anyAct, f_anyRead, f_anyWrite, 0, f_nextSerial, f_writeHead, f_writeCount, f_draining, f_clock, f_mode, f_faults, f_lost, f_retiredReads, a_cells, a_openRows, a_ages, a_lastAct, a_lastRead, a_lastWrite, a_lastPre, a_lastRef, xs_l a_actTimes (-1000) 4, a_reqAddress, a_reqLanes, a_reqData, a_reqBase, a_reqFetched, a_reqPending, a_reqBorn, a_reqSerial, a_slotStates)) : ∀ n j, j ≤ 4 → 4 - j < n → wX_settleDevice_96 post f_rcd f_rp f_rfc f_cap f_refreshSoon f_refreshMust f_drainMark f_requests f_allLanes f_slotFree f_slotWaiting f_slotReady f_never f_anyAct f_anyRead f_anyWrite f_actNext f_nextSerial f_writeHead f_writeCount f_draining f_clock f_mode f_faults f_lost f_retiredReads n (nI j) a_cells a_openRows a_ages a_lastAct a_lastRead a_lastWrite a_lastPre a_lastRef (xs_l a_actTimes (-1000) j) a_reqAddress a_reqLanes a_reqData a_reqBase a_reqFetched a_reqPending a_reqBorn a_reqSerial a_slotStates
  | 0, j, _, hn => by omega
  | n + 1, j, hj, hn => by
    unfold wX_settleDevice_96
    by_cases e : j = 4
    · subst e
      exact br_t (by decide) h
    · have lt : j < 4 := by omega
      have ej : (nI j).toNatClampNeg = j := nI_clamp (by omega)
      simp only [ej]
      exact br_f (nI_ge (b := 4) lt (by decide)) ⟨vp_in_nI lt (by omega), nm_r (xs_l_t _ _ j) (nm_r (nI_1 j) (xw_set96 h n (j + 1) lt (by omega)))⟩
theorem xw_set2 {post : SX → Prop} (h : post (f_rcd, f_rp, f_rfc, f_cap, f_refreshSoon, f_refreshMust, f_drainMark, f_requests, f_allLanes, f_slotFree, f_slotWaiting, f_slotReady, f_never, -1000, -1000, -1000, 0, f_nextSerial, f_writeHead, f_writeCount, f_draining, f_clock, f_mode, f_faults, f_lost, f_retiredReads, a_cells, xs_i a_openRows (-1) 8, xs_i a_ages 0 8, xs_l a_lastAct (-1000) 8, xs_l a_lastRead (-1000) 8, xs_l a_lastWrite (-1000) 8, xs_l a_lastPre (-1000) 8, xs_l a_lastRef (-1000) 8, xs_l a_actTimes (-1000) 4, a_reqAddress, a_reqLanes, a_reqData, a_reqBase, a_reqFetched, a_reqPending, a_reqBorn, a_reqSerial, a_slotStates)) :
    ∀ n j, j ≤ 8 → 8 - j < n → wX_settleDevice_2 post f_rcd f_rp f_rfc f_cap f_refreshSoon f_refreshMust f_drainMark f_requests f_allLanes f_slotFree f_slotWaiting f_slotReady f_never f_anyAct f_anyRead f_anyWrite f_actNext f_nextSerial f_writeHead f_writeCount f_draining f_clock f_mode f_faults f_lost f_retiredReads n (nI j) a_cells (xs_i a_openRows (-1) j) (xs_i a_ages 0 j) (xs_l a_lastAct (-1000) j) (xs_l a_lastRead (-1000) j) (xs_l a_lastWrite (-1000) j) (xs_l a_lastPre (-1000) j) (xs_l a_lastRef (-1000) j) a_actTimes a_reqAddress a_reqLanes a_reqData a_reqBase a_reqFetched a_reqPending a_reqBorn a_reqSerial a_slotStates
  | 0, j, _, hn => by omega
  | n + 1, j, hj, hn => by
    unfold wX_settleDevice_2
    by_cases e : j = 8
    · subst e
      have := xw_set96 (f_actNext := f_actNext) h 5 0 (by omega) (by omega)
      rw [xs_l_0] at this
      exact br_t (by decide) ⟨5, this⟩
    · have lt : j < 8 := by omega
      have ej : (nI j).toNatClampNeg = j := nI_clamp (by omega)
      have vj : vp_in (nI j) 8 := vp_in_nI lt (by omega)
      simp only [ej]
      exact br_f (nI_ge (b := 8) lt (by decide)) ⟨vj, nm_r (xs_i_t _ _ j) ⟨vj, nm_r (xs_i_t _ _ j) ⟨vj, nm_r (xs_l_t _ _ j) ⟨vj, nm_r (xs_l_t _ _ j) ⟨vj, nm_r (xs_l_t _ _ j) ⟨vj, nm_r (xs_l_t _ _ j) ⟨vj, nm_r (xs_l_t _ _ j) (nm_r (nI_1 j) (xw_set2 h n (j + 1) lt (by omega)))⟩⟩⟩⟩⟩⟩⟩
theorem xw_settle {post : SX → Prop} (h : post (f_rcd, f_rp, f_rfc, f_cap, f_refreshSoon, f_refreshMust, f_drainMark, f_requests, f_allLanes, f_slotFree, f_slotWaiting, f_slotReady, f_never, -1000, -1000, -1000, 0, f_nextSerial, f_writeHead, f_writeCount, f_draining, f_clock, f_mode, f_faults, f_lost, f_retiredReads, a_cells, xs_i a_openRows (-1) 8, xs_i a_ages 0 8, xs_l a_lastAct (-1000) 8, xs_l a_lastRead (-1000) 8, xs_l a_lastWrite (-1000) 8, xs_l a_lastPre (-1000) 8, xs_l a_lastRef (-1000) 8, xs_l a_actTimes (-1000) 4, a_reqAddress, a_reqLanes, a_reqData, a_reqBase, a_reqFetched, a_reqPending, a_reqBorn, a_reqSerial, a_slotStates)) : wpX_settleDevice post (f_rcd, f_rp, f_rfc, f_cap, f_refreshSoon, f_refreshMust, f_drainMark, f_requests, f_allLanes, f_slotFree, f_slotWaiting, f_slotReady, f_never, f_anyAct, f_anyRead, f_anyWrite, f_actNext, f_nextSerial, f_writeHead, f_writeCount, f_draining, f_clock, f_mode, f_faults, f_lost, f_retiredReads, a_cells, a_openRows, a_ages, a_lastAct, a_lastRead, a_lastWrite, a_lastPre, a_lastRef, a_actTimes, a_reqAddress, a_reqLanes, a_reqData, a_reqBase, a_reqFetched, a_reqPending, a_reqBorn, a_reqSerial, a_slotStates) := by
  have := xw_set2 (f_anyAct := f_anyAct) (f_anyRead := f_anyRead) (f_anyWrite := f_anyWrite) (f_actNext := f_actNext) h 9 0 (by omega) (by omega)
  rw [xs_i_0, xs_i_0, xs_l_0, xs_l_0, xs_l_0, xs_l_0, xs_l_0] at this
  exact ⟨9, this⟩
theorem xw_clamp {post : Int32 → Prop} {v a b : Int32} (h : ∀ r : Int32, (a.toInt ≤ b.toInt → a.toInt ≤ r.toInt ∧ r.toInt ≤ b.toInt) → (r = if a ≤ v then (if v ≤ b then v else b) else a) → post r) : wpX_clamp post (f_rcd, f_rp, f_rfc, f_cap, f_refreshSoon, f_refreshMust, f_drainMark, f_requests, f_allLanes, f_slotFree, f_slotWaiting, f_slotReady, f_never, f_anyAct, f_anyRead, f_anyWrite, f_actNext, f_nextSerial, f_writeHead, f_writeCount, f_draining, f_clock, f_mode, f_faults, f_lost, f_retiredReads, a_cells, a_openRows, a_ages, a_lastAct, a_lastRead, a_lastWrite, a_lastPre, a_lastRef, a_actTimes, a_reqAddress, a_reqLanes, a_reqData, a_reqBase, a_reqFetched, a_reqPending, a_reqBorn, a_reqSerial, a_slotStates) v a b := by
  unfold wpX_clamp
  refine br_c (fun z => br_c (fun y => ?_) (fun y => ?_)) (fun z => ?_)
  · refine h v (fun _ => ⟨Int32.le_iff_toInt_le.mp z, Int32.le_iff_toInt_le.mp y⟩) (by rw [if_pos z, if_pos y])
  · refine h b (fun l => ⟨l, Int.le_refl _⟩) (by rw [if_pos z, if_neg y])
  · refine h a (fun l => ⟨Int.le_refl _, l⟩) (by rw [if_neg z])
end
section
variable {y_rcd y_rp y_rfc y_cap y_busMode y_losses : Int32} {y_now : Int64} {b_words b_slotState b_slotLeft b_slotValue b_flight b_open b_ages b_pastKind b_pastBank : (Nat → Int32)}
theorem yw_set30 {post : SY → Prop} (h : post (y_rcd, y_rp, y_rfc, y_cap, y_now, y_busMode, y_losses, b_words, b_slotState, b_slotLeft, b_slotValue, b_flight, b_open, b_ages, xs_i b_pastKind (-1) 16, xs_i b_pastBank 0 16)) : ∀ n j, j ≤ 16 → 16 - j < n → wY_settle_30 post y_rcd y_rp y_rfc y_cap y_now y_busMode y_losses n (nI j) b_words b_slotState b_slotLeft b_slotValue b_flight b_open b_ages (xs_i b_pastKind (-1) j) (xs_i b_pastBank 0 j)
  | 0, j, _, hn => by omega
  | n + 1, j, hj, hn => by
    unfold wY_settle_30
    by_cases e : j = 16
    · subst e
      exact br_t (by decide) h
    · have lt : j < 16 := by omega
      have ej : (nI j).toNatClampNeg = j := nI_clamp (by omega)
      have vj : vp_in (nI j) 16 := vp_in_nI lt (by omega)
      simp only [ej]
      exact br_f (nI_ge (b := 16) lt (by decide)) ⟨vj, nm_r (xs_i_t _ _ j) ⟨vj, nm_r (xs_i_t _ _ j) (nm_r (nI_1 j) (yw_set30 h n (j + 1) lt (by omega)))⟩⟩
theorem yw_set2 {post : SY → Prop} (h : post (y_rcd, y_rp, y_rfc, y_cap, y_now, y_busMode, y_losses, b_words, b_slotState, b_slotLeft, b_slotValue, b_flight, xs_i b_open (-1) 8, xs_i b_ages 0 8, xs_i b_pastKind (-1) 16, xs_i b_pastBank 0 16)) : ∀ n j, j ≤ 8 → 8 - j < n → wY_settle_2 post y_rcd y_rp y_rfc y_cap y_now y_busMode y_losses n (nI j) b_words b_slotState b_slotLeft b_slotValue b_flight (xs_i b_open (-1) j) (xs_i b_ages 0 j) b_pastKind b_pastBank
  | 0, j, _, hn => by omega
  | n + 1, j, hj, hn => by
    unfold wY_settle_2
    by_cases e : j = 8
    · subst e
      have := yw_set30 h 17 0 (by omega) (by omega)
      rw [xs_i_0, xs_i_0] at this
      exact br_t (by decide) ⟨17, this⟩
    · have lt : j < 8 := by omega
      have ej : (nI j).toNatClampNeg = j := nI_clamp (by omega)
      have vj : vp_in (nI j) 8 := vp_in_nI lt (by omega)
      simp only [ej]
      exact br_f (nI_ge (b := 8) lt (by decide)) ⟨vj, nm_r (xs_i_t _ _ j) ⟨vj, nm_r (xs_i_t _ _ j) (nm_r (nI_1 j) (yw_set2 h n (j + 1) lt (by omega)))⟩⟩
theorem yw_settle {post : SY → Prop} (h : post (y_rcd, y_rp, y_rfc, y_cap, y_now, y_busMode, y_losses, b_words, b_slotState, b_slotLeft, b_slotValue, b_flight, xs_i b_open (-1) 8, xs_i b_ages 0 8, xs_i b_pastKind (-1) 16, xs_i b_pastBank 0 16)) : wpY_settle post (y_rcd, y_rp, y_rfc, y_cap, y_now, y_busMode, y_losses, b_words, b_slotState, b_slotLeft, b_slotValue, b_flight, b_open, b_ages, b_pastKind, b_pastBank) := by
  have := yw_set2 h 9 0 (by omega) (by omega)
  rw [xs_i_0, xs_i_0] at this
  exact ⟨9, this⟩
theorem yw_clamp {post : Int32 → Prop} {v a b r : Int32} (e : r = if a ≤ v then (if v ≤ b then v else b) else a) (h : post r) : wpY_clamp post (y_rcd, y_rp, y_rfc, y_cap, y_now, y_busMode, y_losses, b_words, b_slotState, b_slotLeft, b_slotValue, b_flight, b_open, b_ages, b_pastKind, b_pastBank) v a b := by
  unfold wpY_clamp
  subst e
  refine br_c (fun z => br_c (fun y => ?_) (fun y => ?_)) (fun z => ?_)
  · rw [if_pos z, if_pos y] at h; exact h
  · rw [if_pos z, if_neg y] at h; exact h
  · rw [if_neg z] at h; exact h
end
end
section
/-! The caller's requests: walks. -/
/-- the i-th write of the ring -/
def rk (h i : Nat) : Nat := 6 + (h + i) % 6
/-- the lanes of a mask, the first i of them -/
def lo_l (i : Nat) : Int32 := (15 : Int32) <<< ((4 * nI i) &&& 31)
def lo_m (m : Int32) : Nat → Int32
  | 0 => 0
  | i + 1 => if (m >>> (nI i &&& 31)) &&& 1 = 0 then lo_m m i else lo_m m i ||| lo_l i
/-- lanes and data forwarded from the first i writes -/
def fw_L (pd ad ln : Nat → Int32) (A : Int32) (h : Nat) : Nat → Int32
  | 0 => 0
  | i + 1 => if pd (rk h i) ≠ 0 ∧ ad (rk h i) = A then fw_L pd ad ln A h i ||| ln (rk h i) else fw_L pd ad ln A h i
def fw_D (pd ad ln dt : Nat → Int32) (A : Int32) (h : Nat) : Nat → Int32
  | 0 => 0
  | i + 1 => if pd (rk h i) ≠ 0 ∧ ad (rk h i) = A then (fw_D pd ad ln dt A h i &&& (ln (rk h i) ^^^ (-1))) ||| dt (rk h i) else fw_D pd ad ln dt A h i
/-- a word with the first i writes over it -/
def ov_w (pd ad ln dt : Nat → Int32) (A w : Int32) (h : Nat) : Nat → Int32
  | 0 => w
  | i + 1 => if pd (rk h i) ≠ 0 ∧ ad (rk h i) = A then (ov_w pd ad ln dt A w h i &&& (ln (rk h i) ^^^ (-1))) ||| dt (rk h i) else ov_w pd ad ln dt A w h i
/-- slots of state v among the first j -/
def cw_n (st : Nat → Int32) (v : Int32) : Nat → Nat
  | 0 => 0
  | j + 1 => if st j = v then cw_n st v j + 1 else cw_n st v j
theorem cw_le (st : Nat → Int32) (v : Int32) : ∀ j, cw_n st v j ≤ j
  | 0 => Nat.le_refl 0
  | j + 1 => by
    have := cw_le st v j
    unfold cw_n; split <;> omega
theorem rk_in {h i : Nat} : 6 ≤ rk h i ∧ rk h i < 12 := by unfold rk; omega
section
variable {f_rcd f_rp f_rfc f_cap f_refreshSoon f_refreshMust f_drainMark f_requests f_allLanes f_slotFree f_slotWaiting f_slotReady f_actNext f_writeHead f_writeCount f_draining f_mode f_faults f_lost f_retiredReads : Int32} {f_never f_anyAct f_anyRead f_anyWrite f_nextSerial f_clock : Int64} {a_cells a_openRows a_ages a_reqAddress a_reqLanes a_reqData a_reqBase a_reqFetched a_reqPending a_slotStates : (Nat → Int32)} {a_lastAct a_lastRead a_lastWrite a_lastPre a_lastRef a_actTimes a_reqBorn a_reqSerial : (Nat → Int64)}
theorem xw_wat {post : Int32 → Prop} {h i : Nat} (hh : h < 6) (hi : i < 6) (eh : f_writeHead = nI h) (K : post (nI (rk h i))) : wpX_writeAt post (f_rcd, f_rp, f_rfc, f_cap, f_refreshSoon, f_refreshMust, f_drainMark, f_requests, f_allLanes, f_slotFree, f_slotWaiting, f_slotReady, f_never, f_anyAct, f_anyRead, f_anyWrite, f_actNext, f_nextSerial, f_writeHead, f_writeCount, f_draining, f_clock, f_mode, f_faults, f_lost, f_retiredReads, a_cells, a_openRows, a_ages, a_lastAct, a_lastRead, a_lastWrite, a_lastPre, a_lastRef, a_actTimes, a_reqAddress, a_reqLanes, a_reqData, a_reqBase, a_reqFetched, a_reqPending, a_reqBorn, a_reqSerial, a_slotStates) (nI i) := by
  unfold wpX_writeAt
  rw [eh]
  refine nm_r (nI_add h i) ?_
  by_cases l : h + i < 6
  · refine br_t (nI_lt (b := 6) l (by decide)) ?_
    have e : 6 + nI (h + i) = nI (rk h i) := by rw [show rk h i = 6 + (h + i) by unfold rk; omega]; exact nI_add 6 (h + i)
    rw [e]; exact K
  · refine br_f (nI_nlt (b := 6) (by omega) (by omega)) ?_
    have e0 : nI (h + i) + (-6) = nI (h + i - 6) := by
      have : nI (h + i) = nI (h + i - 6) + nI 6 := by rw [nI_add]; congr 1; omega
      rw [this, Int32.add_assoc, show nI 6 + (-6 : Int32) = 0 by decide, Int32.add_zero]
    refine nm_r e0 ?_
    have e : 6 + nI (h + i - 6) = nI (rk h i) := by rw [show rk h i = 6 + (h + i - 6) by unfold rk; omega]; exact nI_add 6 (h + i - 6)
    rw [e]; exact K
theorem xw_lanes_l {post : Int32 → Prop} {m : Int32} (K : post (lo_m m 4)) : ∀ n i, i ≤ 4 → 4 - i < n → wX_lanesOf_4 post m f_rcd f_rp f_rfc f_cap f_refreshSoon f_refreshMust f_drainMark f_requests f_allLanes f_slotFree f_slotWaiting f_slotReady f_never f_anyAct f_anyRead f_anyWrite f_actNext f_nextSerial f_writeHead f_writeCount f_draining f_clock f_mode f_faults f_lost f_retiredReads a_cells a_openRows a_ages a_lastAct a_lastRead a_lastWrite a_lastPre a_lastRef a_actTimes a_reqAddress a_reqLanes a_reqData a_reqBase a_reqFetched a_reqPending a_reqBorn a_reqSerial a_slotStates n (lo_m m i) (nI i)
  | 0, i, _, hn => by omega
  | n + 1, i, hi, hn => by
    unfold wX_lanesOf_4
    by_cases e : i = 4
    · subst e
      exact br_t (by decide) K
    · have lt : i < 4 := by omega
      have ih := xw_lanes_l K n (i + 1) lt (by omega)
      refine br_f (nI_ge (b := 4) lt (by decide)) (br_c (fun z => nm_r (nI_1 i) ?_) (fun z => ?_))
      · have e1 : lo_m m (i + 1) = lo_m m i := by show (if _ then _ else _) = _; rw [if_pos z]
        rw [← e1]; exact ih
      · have e1 : lo_m m (i + 1) = lo_m m i ||| lo_l i := by show (if _ then _ else _) = _; rw [if_neg z]
        refine nm_r e1.symm (nm_r (nI_1 i) ?_)
        exact ih
theorem xw_lanes {post : Int32 → Prop} {m : Int32} (K : post (lo_m m 4)) : wpX_lanesOf post (f_rcd, f_rp, f_rfc, f_cap, f_refreshSoon, f_refreshMust, f_drainMark, f_requests, f_allLanes, f_slotFree, f_slotWaiting, f_slotReady, f_never, f_anyAct, f_anyRead, f_anyWrite, f_actNext, f_nextSerial, f_writeHead, f_writeCount, f_draining, f_clock, f_mode, f_faults, f_lost, f_retiredReads, a_cells, a_openRows, a_ages, a_lastAct, a_lastRead, a_lastWrite, a_lastPre, a_lastRef, a_actTimes, a_reqAddress, a_reqLanes, a_reqData, a_reqBase, a_reqFetched, a_reqPending, a_reqBorn, a_reqSerial, a_slotStates) m := ⟨5, xw_lanes_l K 5 0 (by omega) (by omega)⟩
theorem xw_free_l {post : Int32 → Prop} (h0 : (∀ s, s < 6 → a_slotStates s ≠ 0) → post (-1)) (h1 : ∀ s, s < 6 → a_slotStates s = 0 → (∀ t, t < s → a_slotStates t ≠ 0) → post (nI s)) :
    ∀ n j, j ≤ 6 → 6 - j < n → (∀ t, t < j → a_slotStates t ≠ 0) → wX_freeSlot_2 post f_rcd f_rp f_rfc f_cap f_refreshSoon f_refreshMust f_drainMark f_requests f_allLanes f_slotFree f_slotWaiting f_slotReady f_never f_anyAct f_anyRead f_anyWrite f_actNext f_nextSerial f_writeHead f_writeCount f_draining f_clock f_mode f_faults f_lost f_retiredReads a_cells a_openRows a_ages a_lastAct a_lastRead a_lastWrite a_lastPre a_lastRef a_actTimes a_reqAddress a_reqLanes a_reqData a_reqBase a_reqFetched a_reqPending a_reqBorn a_reqSerial a_slotStates n (nI j)
  | 0, j, _, hn, _ => by omega
  | n + 1, j, hj, hn, hl => by
    unfold wX_freeSlot_2
    by_cases e : j = 6
    · subst e
      exact br_t (by decide) (h0 hl)
    · have lt : j < 6 := by omega
      have ej : (nI j).toNatClampNeg = j := nI_clamp (by omega)
      simp only [ej]
      refine br_f (nI_ge (b := 6) lt (by decide)) ⟨vp_in_nI lt (by omega), br_c (fun z => h1 j lt z hl) (fun z => nm_r (nI_1 j) (xw_free_l h0 h1 n (j + 1) lt (by omega) (fun t ht => ?_)))⟩
      by_cases y : t = j
      · rw [y]; exact z
      · exact hl t (by omega)
theorem xw_free {post : Int32 → Prop} (h0 : (∀ s, s < 6 → a_slotStates s ≠ 0) → post (-1)) (h1 : ∀ s, s < 6 → a_slotStates s = 0 → (∀ t, t < s → a_slotStates t ≠ 0) → post (nI s)) : wpX_freeSlot post (f_rcd, f_rp, f_rfc, f_cap, f_refreshSoon, f_refreshMust, f_drainMark, f_requests, f_allLanes, f_slotFree, f_slotWaiting, f_slotReady, f_never, f_anyAct, f_anyRead, f_anyWrite, f_actNext, f_nextSerial, f_writeHead, f_writeCount, f_draining, f_clock, f_mode, f_faults, f_lost, f_retiredReads, a_cells, a_openRows, a_ages, a_lastAct, a_lastRead, a_lastWrite, a_lastPre, a_lastRef, a_actTimes, a_reqAddress, a_reqLanes, a_reqData, a_reqBase, a_reqFetched, a_reqPending, a_reqBorn, a_reqSerial, a_slotStates) :=
  ⟨7, xw_free_l h0 h1 7 0 (by omega) (by omega) (fun t ht => by omega)⟩
theorem xw_rwait_l {post : Int32 → Prop} (K : post (nI (cw_n a_slotStates 1 6))) : ∀ n j, j ≤ 6 → 6 - j < n → wX_readsWaiting_4 post f_rcd f_rp f_rfc f_cap f_refreshSoon f_refreshMust f_drainMark f_requests f_allLanes f_slotFree f_slotWaiting f_slotReady f_never f_anyAct f_anyRead f_anyWrite f_actNext f_nextSerial f_writeHead f_writeCount f_draining f_clock f_mode f_faults f_lost f_retiredReads a_cells a_openRows a_ages a_lastAct a_lastRead a_lastWrite a_lastPre a_lastRef a_actTimes a_reqAddress a_reqLanes a_reqData a_reqBase a_reqFetched a_reqPending a_reqBorn a_reqSerial a_slotStates n (nI (cw_n a_slotStates 1 j)) (nI j)
  | 0, j, _, hn => by omega
  | n + 1, j, hj, hn => by
    unfold wX_readsWaiting_4
    by_cases e : j = 6
    · subst e
      exact br_t (by decide) K
    · have lt : j < 6 := by omega
      have ej : (nI j).toNatClampNeg = j := nI_clamp (by omega)
      have ih := xw_rwait_l K n (j + 1) lt (by omega)
      simp only [ej]
      refine br_f (nI_ge (b := 6) lt (by decide)) ⟨vp_in_nI lt (by omega), br_c (fun z => nm_r (nI_1 _) (nm_r (nI_1 j) ?_)) (fun z => nm_r (nI_1 j) ?_)⟩
      · have e1 : cw_n a_slotStates 1 (j + 1) = cw_n a_slotStates 1 j + 1 := by show (if _ then _ else _) = _; rw [if_pos z]
        rw [← e1]; exact ih
      · have e1 : cw_n a_slotStates 1 (j + 1) = cw_n a_slotStates 1 j := by show (if _ then _ else _) = _; rw [if_neg z]
        rw [← e1]; exact ih
theorem xw_rwait {post : Int32 → Prop} (K : post (nI (cw_n a_slotStates 1 6))) : wpX_readsWaiting post (f_rcd, f_rp, f_rfc, f_cap, f_refreshSoon, f_refreshMust, f_drainMark, f_requests, f_allLanes, f_slotFree, f_slotWaiting, f_slotReady, f_never, f_anyAct, f_anyRead, f_anyWrite, f_actNext, f_nextSerial, f_writeHead, f_writeCount, f_draining, f_clock, f_mode, f_faults, f_lost, f_retiredReads, a_cells, a_openRows, a_ages, a_lastAct, a_lastRead, a_lastWrite, a_lastPre, a_lastRef, a_actTimes, a_reqAddress, a_reqLanes, a_reqData, a_reqBase, a_reqFetched, a_reqPending, a_reqBorn, a_reqSerial, a_slotStates) := ⟨7, xw_rwait_l K 7 0 (by omega) (by omega)⟩
theorem xw_enter {post : SX → Prop} {q : Nat} {A : Int32} (hq : q < 12) (K : post (f_rcd, f_rp, f_rfc, f_cap, f_refreshSoon, f_refreshMust, f_drainMark, f_requests, f_allLanes, f_slotFree, f_slotWaiting, f_slotReady, f_never, f_anyAct, f_anyRead, f_anyWrite, f_actNext, f_nextSerial + 1, f_writeHead, f_writeCount, f_draining, f_clock, f_mode, f_faults, f_lost, f_retiredReads, a_cells, a_openRows, a_ages, a_lastAct, a_lastRead, a_lastWrite, a_lastPre, a_lastRef, a_actTimes, upd a_reqAddress q A, a_reqLanes, a_reqData, a_reqBase, a_reqFetched, upd a_reqPending q 1, vp_updL a_reqBorn q f_clock, vp_updL a_reqSerial q f_nextSerial, a_slotStates)) : wpX_enter post (f_rcd, f_rp, f_rfc, f_cap, f_refreshSoon, f_refreshMust, f_drainMark, f_requests, f_allLanes, f_slotFree, f_slotWaiting, f_slotReady, f_never, f_anyAct, f_anyRead, f_anyWrite, f_actNext, f_nextSerial, f_writeHead, f_writeCount, f_draining, f_clock, f_mode, f_faults, f_lost, f_retiredReads, a_cells, a_openRows, a_ages, a_lastAct, a_lastRead, a_lastWrite, a_lastPre, a_lastRef, a_actTimes, a_reqAddress, a_reqLanes, a_reqData, a_reqBase, a_reqFetched, a_reqPending, a_reqBorn, a_reqSerial, a_slotStates) (nI q) A := by
  have e : (nI q).toNatClampNeg = q := nI_clamp (by omega)
  have vq : vp_in (nI q) 12 := vp_in_nI hq (by omega)
  unfold wpX_enter
  simp only [e]
  exact ⟨vq, nm_e ⟨vq, nm_e ⟨vq, nm_e ⟨vq, nm_e (nm_e K)⟩⟩⟩⟩
theorem xw_fwd_l {post : SX → Prop} {s h m : Nat} {A : Int32} (hs : s < 12) (hh : h < 6) (hm : m ≤ 6) (eh : f_writeHead = nI h) (em : f_writeCount = nI m)
    (K1 : fw_L a_reqPending a_reqAddress a_reqLanes A h m = 65535 → post (f_rcd, f_rp, f_rfc, f_cap, f_refreshSoon, f_refreshMust, f_drainMark, f_requests, f_allLanes, f_slotFree, f_slotWaiting, f_slotReady, f_never, f_anyAct, f_anyRead, f_anyWrite, f_actNext, f_nextSerial, f_writeHead, f_writeCount, f_draining, f_clock, f_mode, f_faults, f_lost, f_retiredReads, a_cells, a_openRows, a_ages, a_lastAct, a_lastRead, a_lastWrite, a_lastPre, a_lastRef, a_actTimes, a_reqAddress, upd a_reqLanes s (fw_L a_reqPending a_reqAddress a_reqLanes A h m), upd a_reqData s (fw_D a_reqPending a_reqAddress a_reqLanes a_reqData A h m), a_reqBase, a_reqFetched, upd a_reqPending s 0, a_reqBorn, a_reqSerial, a_slotStates))
    (K0 : fw_L a_reqPending a_reqAddress a_reqLanes A h m ≠ 65535 → post (f_rcd, f_rp, f_rfc, f_cap, f_refreshSoon, f_refreshMust, f_drainMark, f_requests, f_allLanes, f_slotFree, f_slotWaiting, f_slotReady, f_never, f_anyAct, f_anyRead, f_anyWrite, f_actNext, f_nextSerial, f_writeHead, f_writeCount, f_draining, f_clock, f_mode, f_faults, f_lost, f_retiredReads, a_cells, a_openRows, a_ages, a_lastAct, a_lastRead, a_lastWrite, a_lastPre, a_lastRef, a_actTimes, a_reqAddress, upd a_reqLanes s (fw_L a_reqPending a_reqAddress a_reqLanes A h m), upd a_reqData s (fw_D a_reqPending a_reqAddress a_reqLanes a_reqData A h m), a_reqBase, a_reqFetched, a_reqPending, a_reqBorn, a_reqSerial, a_slotStates)) :
    ∀ n i, i ≤ 6 → 6 - i < n → wX_forward_8 post (nI s) A f_rcd f_rp f_rfc f_cap f_refreshSoon f_refreshMust f_drainMark f_requests f_allLanes f_slotFree f_slotWaiting f_slotReady f_never f_anyAct f_anyRead f_anyWrite f_actNext f_nextSerial f_writeHead f_writeCount f_draining f_clock f_mode f_faults f_lost f_retiredReads a_cells a_openRows a_ages a_lastAct a_lastRead a_lastWrite a_lastPre a_lastRef a_actTimes a_reqAddress a_reqLanes a_reqData a_reqBase a_reqFetched a_reqPending a_reqBorn a_reqSerial a_slotStates n (fw_L a_reqPending a_reqAddress a_reqLanes A h (if i < m then i else m)) (fw_D a_reqPending a_reqAddress a_reqLanes a_reqData A h (if i < m then i else m)) (nI i)
  | 0, i, _, hn => by omega
  | n + 1, i, hi, hn => by
    unfold wX_forward_8
    by_cases e : i = 6
    · subst e
      have es : (nI s).toNatClampNeg = s := nI_clamp (by omega)
      have vs : vp_in (nI s) 12 := vp_in_nI hs (by omega)
      simp only [es]
      rw [if_neg (by omega)]
      exact br_t (by decide) ⟨vs, nm_e ⟨vs, nm_e (br_c (fun z => ⟨vs, nm_e (K1 z)⟩) (fun z => K0 z))⟩⟩
    · have lt : i < 6 := by omega
      have ih := xw_fwd_l hs hh hm eh em K1 K0 n (i + 1) lt (by omega)
      refine br_f (nI_ge (b := 6) lt (by decide)) ?_
      rw [em]
      by_cases l : i < m
      · rw [if_pos l]
        have er : (nI (rk h i)).toNatClampNeg = rk h i := nI_clamp (by have := (rk_in (h := h) (i := i)).2; omega)
        have vr : vp_in (nI (rk h i)) 12 := vp_in_nI rk_in.2 (by omega)
        have nx : (if i + 1 < m then i + 1 else m) = i + 1 := by split <;> omega
        rw [nx] at ih
        refine br_f (nI_ge l (by omega)) (xw_wat hh lt eh ?_)
        simp only [er]
        have skip : ¬ (a_reqPending (rk h i) ≠ 0 ∧ a_reqAddress (rk h i) = A) → wX_forward_8 post (nI s) A f_rcd f_rp f_rfc f_cap f_refreshSoon f_refreshMust f_drainMark f_requests f_allLanes f_slotFree f_slotWaiting f_slotReady f_never f_anyAct f_anyRead f_anyWrite f_actNext f_nextSerial f_writeHead f_writeCount f_draining f_clock f_mode f_faults f_lost f_retiredReads a_cells a_openRows a_ages a_lastAct a_lastRead a_lastWrite a_lastPre a_lastRef a_actTimes a_reqAddress a_reqLanes a_reqData a_reqBase a_reqFetched a_reqPending a_reqBorn a_reqSerial a_slotStates n (fw_L a_reqPending a_reqAddress a_reqLanes A h i) (fw_D a_reqPending a_reqAddress a_reqLanes a_reqData A h i) (nI (i + 1)) := by
          intro z
          have e1 : fw_L a_reqPending a_reqAddress a_reqLanes A h (i + 1) = fw_L a_reqPending a_reqAddress a_reqLanes A h i := by show (if _ then _ else _) = _; rw [if_neg z]
          have e2 : fw_D a_reqPending a_reqAddress a_reqLanes a_reqData A h (i + 1) = fw_D a_reqPending a_reqAddress a_reqLanes a_reqData A h i := by show (if _ then _ else _) = _; rw [if_neg z]
          rw [← e1, ← e2]; exact ih
        refine ⟨vr, br_c (fun z => nm_r (nI_1 i) ?_) (fun z => ⟨vr, br_c (fun y => ⟨vr, ?_⟩) (fun y => nm_r (nI_1 i) ?_)⟩)⟩
        · rw [← em]; exact skip (fun k => k.1 z)
        · have e1 : fw_L a_reqPending a_reqAddress a_reqLanes A h (i + 1) = fw_L a_reqPending a_reqAddress a_reqLanes A h i ||| a_reqLanes (rk h i) := by show (if _ then _ else _) = _; rw [if_pos ⟨z, y⟩]
          have e2 : fw_D a_reqPending a_reqAddress a_reqLanes a_reqData A h (i + 1) = (fw_D a_reqPending a_reqAddress a_reqLanes a_reqData A h i &&& (a_reqLanes (rk h i) ^^^ (-1))) ||| a_reqData (rk h i) := by show (if _ then _ else _) = _; rw [if_pos ⟨z, y⟩]
          refine nm_r e1.symm ⟨vr, vr, nm_r e2.symm (nm_r (nI_1 i) ?_)⟩
          rw [← em]; exact ih
        · rw [← em]; exact skip (fun k => y k.2)
      · rw [if_neg l]
        have nx : (if i + 1 < m then i + 1 else m) = m := by split <;> omega
        rw [nx] at ih
        refine br_t (nI_le (by omega) (by omega)) (nm_r (nI_1 i) ?_)
        rw [← em]; exact ih
theorem xw_fwd {post : SX → Prop} {s h m : Nat} {A : Int32} (hs : s < 12) (hh : h < 6) (hm : m ≤ 6) (eh : f_writeHead = nI h) (em : f_writeCount = nI m)
    (K1 : fw_L a_reqPending a_reqAddress a_reqLanes A h m = 65535 → post (f_rcd, f_rp, f_rfc, f_cap, f_refreshSoon, f_refreshMust, f_drainMark, f_requests, f_allLanes, f_slotFree, f_slotWaiting, f_slotReady, f_never, f_anyAct, f_anyRead, f_anyWrite, f_actNext, f_nextSerial, f_writeHead, f_writeCount, f_draining, f_clock, f_mode, f_faults, f_lost, f_retiredReads, a_cells, a_openRows, a_ages, a_lastAct, a_lastRead, a_lastWrite, a_lastPre, a_lastRef, a_actTimes, a_reqAddress, upd a_reqLanes s (fw_L a_reqPending a_reqAddress a_reqLanes A h m), upd a_reqData s (fw_D a_reqPending a_reqAddress a_reqLanes a_reqData A h m), a_reqBase, a_reqFetched, upd a_reqPending s 0, a_reqBorn, a_reqSerial, a_slotStates))
    (K0 : fw_L a_reqPending a_reqAddress a_reqLanes A h m ≠ 65535 → post (f_rcd, f_rp, f_rfc, f_cap, f_refreshSoon, f_refreshMust, f_drainMark, f_requests, f_allLanes, f_slotFree, f_slotWaiting, f_slotReady, f_never, f_anyAct, f_anyRead, f_anyWrite, f_actNext, f_nextSerial, f_writeHead, f_writeCount, f_draining, f_clock, f_mode, f_faults, f_lost, f_retiredReads, a_cells, a_openRows, a_ages, a_lastAct, a_lastRead, a_lastWrite, a_lastPre, a_lastRef, a_actTimes, a_reqAddress, upd a_reqLanes s (fw_L a_reqPending a_reqAddress a_reqLanes A h m), upd a_reqData s (fw_D a_reqPending a_reqAddress a_reqLanes a_reqData A h m), a_reqBase, a_reqFetched, a_reqPending, a_reqBorn, a_reqSerial, a_slotStates)) :
    wpX_forward post (f_rcd, f_rp, f_rfc, f_cap, f_refreshSoon, f_refreshMust, f_drainMark, f_requests, f_allLanes, f_slotFree, f_slotWaiting, f_slotReady, f_never, f_anyAct, f_anyRead, f_anyWrite, f_actNext, f_nextSerial, f_writeHead, f_writeCount, f_draining, f_clock, f_mode, f_faults, f_lost, f_retiredReads, a_cells, a_openRows, a_ages, a_lastAct, a_lastRead, a_lastWrite, a_lastPre, a_lastRef, a_actTimes, a_reqAddress, a_reqLanes, a_reqData, a_reqBase, a_reqFetched, a_reqPending, a_reqBorn, a_reqSerial, a_slotStates) (nI s) A := by
  have := xw_fwd_l hs hh hm eh em K1 K0 7 0 (by omega) (by omega)
  have e : (if 0 < m then 0 else m) = 0 := by split <;> omega
  rw [e] at this
  exact ⟨7, this⟩
theorem xw_peek_l {post : Int32 → Prop} {h m : Nat} {A w : Int32} (hh : h < 6) (hm : m ≤ 6) (eh : f_writeHead = nI h) (em : f_writeCount = nI m) (K : post (ov_w a_reqPending a_reqAddress a_reqLanes a_reqData A w h m)) :
    ∀ n i, i ≤ 6 → 6 - i < n → wX_peek_22 post A f_rcd f_rp f_rfc f_cap f_refreshSoon f_refreshMust f_drainMark f_requests f_allLanes f_slotFree f_slotWaiting f_slotReady f_never f_anyAct f_anyRead f_anyWrite f_actNext f_nextSerial f_writeHead f_writeCount f_draining f_clock f_mode f_faults f_lost f_retiredReads a_cells a_openRows a_ages a_lastAct a_lastRead a_lastWrite a_lastPre a_lastRef a_actTimes a_reqAddress a_reqLanes a_reqData a_reqBase a_reqFetched a_reqPending a_reqBorn a_reqSerial a_slotStates n (ov_w a_reqPending a_reqAddress a_reqLanes a_reqData A w h (if i < m then i else m)) (nI i)
  | 0, i, _, hn => by omega
  | n + 1, i, hi, hn => by
    unfold wX_peek_22
    by_cases e : i = 6
    · subst e
      rw [if_neg (by omega)]
      exact br_t (by decide) K
    · have lt : i < 6 := by omega
      have ih := xw_peek_l hh hm eh em K n (i + 1) lt (by omega)
      refine br_f (nI_ge (b := 6) lt (by decide)) ?_
      rw [em]
      by_cases l : i < m
      · rw [if_pos l]
        have er : (nI (rk h i)).toNatClampNeg = rk h i := nI_clamp (by have := (rk_in (h := h) (i := i)).2; omega)
        have vr : vp_in (nI (rk h i)) 12 := vp_in_nI rk_in.2 (by omega)
        have nx : (if i + 1 < m then i + 1 else m) = i + 1 := by split <;> omega
        rw [nx] at ih
        refine br_f (nI_ge l (by omega)) (xw_wat hh lt eh ?_)
        simp only [er]
        have skip : ¬ (a_reqPending (rk h i) ≠ 0 ∧ a_reqAddress (rk h i) = A) → wX_peek_22 post A f_rcd f_rp f_rfc f_cap f_refreshSoon f_refreshMust f_drainMark f_requests f_allLanes f_slotFree f_slotWaiting f_slotReady f_never f_anyAct f_anyRead f_anyWrite f_actNext f_nextSerial f_writeHead f_writeCount f_draining f_clock f_mode f_faults f_lost f_retiredReads a_cells a_openRows a_ages a_lastAct a_lastRead a_lastWrite a_lastPre a_lastRef a_actTimes a_reqAddress a_reqLanes a_reqData a_reqBase a_reqFetched a_reqPending a_reqBorn a_reqSerial a_slotStates n (ov_w a_reqPending a_reqAddress a_reqLanes a_reqData A w h i) (nI (i + 1)) := by
          intro z
          have e1 : ov_w a_reqPending a_reqAddress a_reqLanes a_reqData A w h (i + 1) = ov_w a_reqPending a_reqAddress a_reqLanes a_reqData A w h i := by show (if _ then _ else _) = _; rw [if_neg z]
          rw [← e1]; exact ih
        refine ⟨vr, br_c (fun z => nm_r (nI_1 i) ?_) (fun z => ⟨vr, br_c (fun y => ⟨vr, vr, ?_⟩) (fun y => nm_r (nI_1 i) ?_)⟩)⟩
        · rw [← em]; exact skip (fun k => k.1 z)
        · have e1 : ov_w a_reqPending a_reqAddress a_reqLanes a_reqData A w h (i + 1) = (ov_w a_reqPending a_reqAddress a_reqLanes a_reqData A w h i &&& (a_reqLanes (rk h i) ^^^ (-1))) ||| a_reqData (rk h i) := by show (if _ then _ else _) = _; rw [if_pos ⟨z, y⟩]
          refine nm_r e1.symm (nm_r (nI_1 i) ?_)
          rw [← em]; exact ih
        · rw [← em]; exact skip (fun k => y k.2)
      · rw [if_neg l]
        have nx : (if i + 1 < m then i + 1 else m) = m := by split <;> omega
        rw [nx] at ih
        refine br_t (nI_le (by omega) (by omega)) (nm_r (nI_1 i) ?_)
        rw [← em]; exact ih
end
end
section
/-! The reference's requests: walks. -/
def cf_n (fl : Nat → Int32) : Nat → Nat
  | 0 => 0
  | j + 1 => if fl j ≤ 0 then cf_n fl j else cf_n fl j + 1
theorem cf_le (fl : Nat → Int32) : ∀ j, cf_n fl j ≤ j
  | 0 => Nat.le_refl 0
  | j + 1 => by
    have := cf_le fl j
    unfold cf_n; split <;> omega
theorem cf_eq {fl : Nat → Int32} {m : Nat} (h1 : ∀ i, i < m → ¬ fl i ≤ 0) (h0 : ∀ i, m ≤ i → i < 6 → fl i = 0) : ∀ j, j ≤ 6 → cf_n fl j = if j < m then j else m
  | 0, _ => by show 0 = _; split <;> omega
  | j + 1, hj => by
    have ih := cf_eq h1 h0 j (by omega)
    show (if fl j ≤ 0 then cf_n fl j else cf_n fl j + 1) = _
    by_cases l : j < m
    · rw [if_neg (h1 j l), ih, if_pos l]; split <;> omega
    · have z := h0 j (by omega) (by omega)
      rw [if_pos (by rw [z]; decide), ih, if_neg l, if_neg (by omega)]
def wl_w (w v m : Int32) : Nat → Int32
  | 0 => w
  | i + 1 => if (m >>> (nI i &&& 31)) &&& 1 = 1 then (wl_w w v m i &&& (lo_l i ^^^ (-1))) ||| (v &&& lo_l i) else wl_w w v m i
section
variable {y_rcd y_rp y_rfc y_cap y_busMode y_losses : Int32} {y_now : Int64} {b_words b_slotState b_slotLeft b_slotValue b_flight b_open b_ages b_pastKind b_pastBank : (Nat → Int32)}
theorem yw_ww_l {post : Int32 → Prop} (K : post (nI (cf_n b_flight 6))) : ∀ n j, j ≤ 6 → 6 - j < n → wY_writesWaiting_4 post y_rcd y_rp y_rfc y_cap y_now y_busMode y_losses b_words b_slotState b_slotLeft b_slotValue b_flight b_open b_ages b_pastKind b_pastBank n (nI (cf_n b_flight j)) (nI j)
  | 0, j, _, hn => by omega
  | n + 1, j, hj, hn => by
    unfold wY_writesWaiting_4
    by_cases e : j = 6
    · subst e
      exact br_t (by decide) K
    · have lt : j < 6 := by omega
      have ej : (nI j).toNatClampNeg = j := nI_clamp (by omega)
      have ih := yw_ww_l K n (j + 1) lt (by omega)
      simp only [ej]
      refine br_f (nI_ge (b := 6) lt (by decide)) ⟨vp_in_nI lt (by omega), br_c (fun z => nm_r (nI_1 j) ?_) (fun z => nm_r (nI_1 _) (nm_r (nI_1 j) ?_))⟩
      · have e1 : cf_n b_flight (j + 1) = cf_n b_flight j := by show (if _ then _ else _) = _; rw [if_pos z]
        rw [← e1]; exact ih
      · have e1 : cf_n b_flight (j + 1) = cf_n b_flight j + 1 := by show (if _ then _ else _) = _; rw [if_neg z]
        rw [← e1]; exact ih
theorem yw_ww {post : Int32 → Prop} {m : Nat} (hm : m ≤ 6) (h1 : ∀ i, i < m → ¬ b_flight i ≤ 0) (h0 : ∀ i, m ≤ i → i < 6 → b_flight i = 0) (K : post (nI m)) : wpY_writesWaiting post (y_rcd, y_rp, y_rfc, y_cap, y_now, y_busMode, y_losses, b_words, b_slotState, b_slotLeft, b_slotValue, b_flight, b_open, b_ages, b_pastKind, b_pastBank) := by
  have e := cf_eq h1 h0 6 (by omega)
  rw [if_neg (by omega)] at e
  rw [← e] at K
  exact ⟨7, yw_ww_l K 7 0 (by omega) (by omega)⟩
theorem yw_rwait_l {post : Int32 → Prop} (K : post (nI (cw_n b_slotState 1 6))) : ∀ n j, j ≤ 6 → 6 - j < n → wY_readsWaiting_4 post y_rcd y_rp y_rfc y_cap y_now y_busMode y_losses b_words b_slotState b_slotLeft b_slotValue b_flight b_open b_ages b_pastKind b_pastBank n (nI (cw_n b_slotState 1 j)) (nI j)
  | 0, j, _, hn => by omega
  | n + 1, j, hj, hn => by
    unfold wY_readsWaiting_4
    by_cases e : j = 6
    · subst e
      exact br_t (by decide) K
    · have lt : j < 6 := by omega
      have ej : (nI j).toNatClampNeg = j := nI_clamp (by omega)
      have ih := yw_rwait_l K n (j + 1) lt (by omega)
      simp only [ej]
      refine br_f (nI_ge (b := 6) lt (by decide)) ⟨vp_in_nI lt (by omega), br_c (fun z => nm_r (nI_1 _) (nm_r (nI_1 j) ?_)) (fun z => nm_r (nI_1 j) ?_)⟩
      · have e1 : cw_n b_slotState 1 (j + 1) = cw_n b_slotState 1 j + 1 := by show (if _ then _ else _) = _; rw [if_pos z]
        rw [← e1]; exact ih
      · have e1 : cw_n b_slotState 1 (j + 1) = cw_n b_slotState 1 j := by show (if _ then _ else _) = _; rw [if_neg z]
        rw [← e1]; exact ih
theorem yw_rwait {post : Int32 → Prop} (K : post (nI (cw_n b_slotState 1 6))) : wpY_readsWaiting post (y_rcd, y_rp, y_rfc, y_cap, y_now, y_busMode, y_losses, b_words, b_slotState, b_slotLeft, b_slotValue, b_flight, b_open, b_ages, b_pastKind, b_pastBank) := ⟨7, yw_rwait_l K 7 0 (by omega) (by omega)⟩
theorem yw_wr_l {post : Int32 → SY → Prop} {a p : Nat} {v m : Int32} (ha : a < 256) (hp : p < 6) (K : post 0 (y_rcd, y_rp, y_rfc, y_cap, y_now, y_busMode, y_losses, upd b_words a (wl_w (b_words a) v m 4), b_slotState, b_slotLeft, b_slotValue, upd b_flight p 256, b_open, b_ages, b_pastKind, b_pastBank)) :
    ∀ n i, i ≤ 4 → 4 - i < n → wY_write_56 post (nI a) v m (nI p) y_rcd y_rp y_rfc y_cap y_now y_busMode y_losses n (nI i) (upd b_words a (wl_w (b_words a) v m i)) b_slotState b_slotLeft b_slotValue b_flight b_open b_ages b_pastKind b_pastBank
  | 0, i, _, hn => by omega
  | n + 1, i, hi, hn => by
    have ea : (nI a).toNatClampNeg = a := nI_clamp (by omega)
    have ep : (nI p).toNatClampNeg = p := nI_clamp (by omega)
    have va : vp_in (nI a) 256 := vp_in_nI ha (by omega)
    unfold wY_write_56
    simp only [ea, ep]
    by_cases e : i = 4
    · subst e
      exact br_t (by decide) ⟨vp_in_nI hp (by omega), nm_e K⟩
    · have lt : i < 4 := by omega
      have ih := yw_wr_l ha hp K n (i + 1) lt (by omega)
      refine br_f (nI_ge (b := 4) lt (by decide)) (br_c (fun z => ?_) (fun z => nm_r (nI_1 i) ?_))
      · have e1 : wl_w (b_words a) v m (i + 1) = (wl_w (b_words a) v m i &&& (lo_l i ^^^ (-1))) ||| (v &&& lo_l i) := by show (if _ then _ else _) = _; rw [if_pos z]
        refine nm_e ⟨va, va, ?_⟩
        have e2 : upd (upd b_words a (wl_w (b_words a) v m i)) a ((upd b_words a (wl_w (b_words a) v m i) a &&& (lo_l i ^^^ (-1))) ||| (v &&& lo_l i)) = upd b_words a (wl_w (b_words a) v m (i + 1)) := by
          rw [pk_us, e1]
          funext x; unfold upd
          by_cases y : x = a
          · rw [if_pos y, if_pos y]
          · rw [if_neg y, if_neg y, if_neg y]
        exact nm_r e2 (nm_r (nI_1 i) ih)
      · have e1 : wl_w (b_words a) v m (i + 1) = wl_w (b_words a) v m i := by show (if _ then _ else _) = _; rw [if_neg z]
        rw [← e1]; exact ih
theorem yw_wr {post : Int32 → SY → Prop} {a p : Nat} {v m : Int32} (ha : a < 256) (hp : p < 6) (K : post 0 (y_rcd, y_rp, y_rfc, y_cap, y_now, y_busMode, y_losses, upd b_words a (wl_w (b_words a) v m 4), b_slotState, b_slotLeft, b_slotValue, upd b_flight p 256, b_open, b_ages, b_pastKind, b_pastBank)) :
    ∃ n, wY_write_56 post (nI a) v m (nI p) y_rcd y_rp y_rfc y_cap y_now y_busMode y_losses n 0 b_words b_slotState b_slotLeft b_slotValue b_flight b_open b_ages b_pastKind b_pastBank := by
  have := yw_wr_l ha hp K 5 0 (by omega) (by omega)
  have e : upd b_words a (wl_w (b_words a) v m 0) = b_words := by
    funext x; unfold upd
    by_cases y : x = a
    · rw [if_pos y, y]; rfl
    · rw [if_neg y]
  rw [e] at this
  exact ⟨5, this⟩
theorem yw_rd_l {post : Int32 → SY → Prop} {a : Nat} (ha : a < 256) (h0 : (∀ s, s < 6 → b_slotState s ≠ 0) → post (-3) (y_rcd, y_rp, y_rfc, y_cap, y_now, y_busMode, y_losses, b_words, b_slotState, b_slotLeft, b_slotValue, b_flight, b_open, b_ages, b_pastKind, b_pastBank))
    (h1 : ∀ s, s < 6 → b_slotState s = 0 → (∀ t, t < s → b_slotState t ≠ 0) → post (nI s) (y_rcd, y_rp, y_rfc, y_cap, y_now, y_busMode, y_losses, b_words, upd b_slotState s 1, upd b_slotLeft s 256, upd b_slotValue s (b_words a), b_flight, b_open, b_ages, b_pastKind, b_pastBank)) :
    ∀ n j, j ≤ 6 → 6 - j < n → (∀ t, t < j → b_slotState t ≠ 0) → wY_read_26 post (nI a) y_rcd y_rp y_rfc y_cap y_now y_busMode y_losses b_words b_slotState b_slotLeft b_slotValue b_flight b_open b_ages b_pastKind b_pastBank n (nI j)
  | 0, j, _, hn, _ => by omega
  | n + 1, j, hj, hn, hl => by
    unfold wY_read_26
    by_cases e : j = 6
    · subst e
      exact br_t (by decide) (h0 hl)
    · have lt : j < 6 := by omega
      have ej : (nI j).toNatClampNeg = j := nI_clamp (by omega)
      have ea : (nI a).toNatClampNeg = a := nI_clamp (by omega)
      have vj : vp_in (nI j) 6 := vp_in_nI lt (by omega)
      have va : vp_in (nI a) 256 := vp_in_nI ha (by omega)
      simp only [ej, ea]
      refine br_f (nI_ge (b := 6) lt (by decide)) ⟨vj, br_c (fun z => ⟨vj, nm_e ⟨vj, nm_e ⟨va, vj, nm_e (h1 j lt z hl)⟩⟩⟩) (fun z => nm_r (nI_1 j) (yw_rd_l ha h0 h1 n (j + 1) lt (by omega) (fun t ht => ?_)))⟩
      by_cases y : t = j
      · rw [y]; exact z
      · exact hl t (by omega)
theorem yw_rd {post : Int32 → SY → Prop} {a : Nat} (ha : a < 256) (h0 : (∀ s, s < 6 → b_slotState s ≠ 0) → post (-3) (y_rcd, y_rp, y_rfc, y_cap, y_now, y_busMode, y_losses, b_words, b_slotState, b_slotLeft, b_slotValue, b_flight, b_open, b_ages, b_pastKind, b_pastBank))
    (h1 : ∀ s, s < 6 → b_slotState s = 0 → (∀ t, t < s → b_slotState t ≠ 0) → post (nI s) (y_rcd, y_rp, y_rfc, y_cap, y_now, y_busMode, y_losses, b_words, upd b_slotState s 1, upd b_slotLeft s 256, upd b_slotValue s (b_words a), b_flight, b_open, b_ages, b_pastKind, b_pastBank)) : ∃ n, wY_read_26 post (nI a) y_rcd y_rp y_rfc y_cap y_now y_busMode y_losses b_words b_slotState b_slotLeft b_slotValue b_flight b_open b_ages b_pastKind b_pastBank n 0 :=
  ⟨7, yw_rd_l ha h0 h1 7 0 (by omega) (by omega) (fun t ht => by omega)⟩
end
end
section
/-! The reference's limits. -/
def yg_g (rcd rp rfc : Int) (f k z : Nat) : Int :=
  if z = 1 ∧ f = 0 ∧ (k = 1 ∨ k = 2) then rcd
  else if z = 1 ∧ f = 0 ∧ k = 3 then 5
  else if z = 1 ∧ f = 3 ∧ (k = 0 ∨ k = 4) then rp
  else if z = 1 ∧ f = 4 ∧ (k = 0 ∨ k = 4) then rfc
  else if z = 1 ∧ f = 1 ∧ k = 3 then 2
  else if z = 1 ∧ f = 2 ∧ k = 3 then 4
  else if f = 0 ∧ k = 0 then 2
  else if f = 1 ∧ k = 1 then 2
  else if f = 2 ∧ k = 2 then 2
  else if f = 1 ∧ k = 2 then 3
  else if f = 2 ∧ k = 1 then 4
  else 0
/-- ACTs of the last clocks -/
def ye_c (pk : Nat → Int32) (w : Nat) : Nat → Nat
  | 0 => 0
  | j + 1 => if pk j = 0 ∧ j + w < 10 then ye_c pk w j + 1 else ye_c pk w j
theorem ye_le (pk : Nat → Int32) (w : Nat) : ∀ j, ye_c pk w j ≤ j
  | 0 => Nat.le_refl 0
  | j + 1 => by
    have := ye_le pk w j
    unfold ye_c; split <;> omega
section
variable {y_rcd y_rp y_rfc y_cap y_busMode y_losses : Int32} {y_now : Int64} {b_words b_slotState b_slotLeft b_slotValue b_flight b_open b_ages b_pastKind b_pastBank : (Nat → Int32)}
theorem yw_gap {post : Int32 → Prop} {f k z : Nat} (hf : f < 5) (hk : k < 5) (hz : z < 2) (h : ∀ r : Int32, r.toInt = yg_g y_rcd.toInt y_rp.toInt y_rfc.toInt f k z → post r) : wpY_gap post (y_rcd, y_rp, y_rfc, y_cap, y_now, y_busMode, y_losses, b_words, b_slotState, b_slotLeft, b_slotValue, b_flight, b_open, b_ages, b_pastKind, b_pastBank) (nI f) (nI k) (nI z) := by
  have cf : f = 0 ∨ f = 1 ∨ f = 2 ∨ f = 3 ∨ f = 4 := by omega
  have ck : k = 0 ∨ k = 1 ∨ k = 2 ∨ k = 3 ∨ k = 4 := by omega
  have cz : z = 0 ∨ z = 1 := by omega
  unfold wpY_gap wY_gap_23 wY_gap_34 wY_gap_53 wY_gap_72 wY_gap_84 wY_gap_96 wY_gap_106 wY_gap_118 wY_gap_130 wY_gap_142
  rcases cz with rfl | rfl <;> rcases cf with rfl | rfl | rfl | rfl | rfl <;> rcases ck with rfl | rfl | rfl | rfl | rfl <;>
    (repeat (first | exact h _ (by first | rfl | decide) | refine br_t (by decide) ?_ | refine br_f (by decide) ?_))
theorem yw_early_l {post : Int32 → Prop} {k b w : Nat} (hk : k < 5) (hb : b < 8) (hw : w ≤ 10) (rr : y_rcd.toInt ≤ 100 ∧ y_rp.toInt ≤ 100 ∧ y_rfc.toInt ≤ 100)
    (hpk : ∀ d, d < 16 → b_pastKind d = -1 ∨ ∃ f, f < 5 ∧ b_pastKind d = nI f)
    (h1 : ((∃ d f, d < 16 ∧ f < 5 ∧ b_pastKind d = nI f ∧ ((d + w : Nat) : Int) < yg_g y_rcd.toInt y_rp.toInt y_rfc.toInt f k (if b_pastBank d = nI b then 1 else 0)) ∨ (k = 0 ∧ 4 ≤ ye_c b_pastKind w 16)) → post 1)
    (h0 : ¬ ((∃ d f, d < 16 ∧ f < 5 ∧ b_pastKind d = nI f ∧ ((d + w : Nat) : Int) < yg_g y_rcd.toInt y_rp.toInt y_rfc.toInt f k (if b_pastBank d = nI b then 1 else 0)) ∨ (k = 0 ∧ 4 ≤ ye_c b_pastKind w 16)) → post 0) :
    ∀ n j, j ≤ 16 → 16 - j < n → (∀ d f, d < j → f < 5 → b_pastKind d = nI f → ¬ ((d + w : Nat) : Int) < yg_g y_rcd.toInt y_rp.toInt y_rfc.toInt f k (if b_pastBank d = nI b then 1 else 0)) →
    wY_early_6 post (nI k) (nI b) (nI w) y_rcd y_rp y_rfc y_cap y_now y_busMode y_losses b_words b_slotState b_slotLeft b_slotValue b_flight b_open b_ages b_pastKind b_pastBank n (nI (ye_c b_pastKind w j)) (nI j)
  | 0, j, _, hn, _ => by omega
  | n + 1, j, hj, hn, hl => by
    unfold wY_early_6
    have cl := ye_le b_pastKind w j
    by_cases e : j = 16
    · subst e
      have none : ¬ (∃ d f, d < 16 ∧ f < 5 ∧ b_pastKind d = nI f ∧ ((d + w : Nat) : Int) < yg_g y_rcd.toInt y_rp.toInt y_rfc.toInt f k (if b_pastBank d = nI b then 1 else 0)) := by
        rintro ⟨d, f, q1, q2, q3, q4⟩
        exact hl d f q1 q2 q3 q4
      have k0 : nI k = 0 ↔ k = 0 := by rw [show (0 : Int32) = nI 0 by decide, nI_eq (by omega) (by omega)]
      refine br_t (by decide) (br_c (fun z => br_c (fun y => h0 ?_) (fun y => h1 ?_)) (fun z => h0 ?_))
      · rintro (q | q)
        · exact none q
        · rw [show (4 : Int32) = nI 4 by decide, nI_ltI (by omega) (by omega)] at y; omega
      · rw [show (4 : Int32) = nI 4 by decide, nI_ltI (by omega) (by omega)] at y
        exact .inr ⟨k0.mp z, by omega⟩
      · rintro (q | q)
        · exact none q
        · exact z (k0.mpr q.1)
    · have lt : j < 16 := by omega
      have ej : (nI j).toNatClampNeg = j := nI_clamp (by omega)
      have vj : vp_in (nI j) 16 := vp_in_nI lt (by omega)
      simp only [ej]
      refine br_f (nI_ge (b := 16) lt (by decide)) ⟨vj, ?_⟩
      rcases hpk j lt with pk | ⟨f, hf, pk⟩
      · have e1 : ye_c b_pastKind w (j + 1) = ye_c b_pastKind w j := by show (if _ then _ else _) = _; rw [if_neg (by rw [pk]; intro q; exact absurd q.1 (by decide))]
        refine br_t (by rw [pk]; decide) (nm_r (nI_1 j) ?_)
        rw [← e1]
        refine yw_early_l hk hb hw rr hpk h1 h0 n (j + 1) lt (by omega) (fun d g hd hg q => ?_)
        by_cases x : d = j
        · rw [x, pk] at q
          have : (nI g).toInt = (-1 : Int32).toInt := by rw [← q]
          rw [nI_toInt (by omega)] at this
          have : (-1 : Int32).toInt = -1 := by decide
          omega
        · exact hl d g (by omega) hg q
      · refine br_f (by rw [pk]; exact nI_pos (by omega)) ⟨vj, ?_⟩
        have body : ∀ z, z < 2 → z = (if b_pastBank j = nI b then 1 else 0) → wY_early_39 post (wY_early_6 post (nI k) (nI b) (nI w) y_rcd y_rp y_rfc y_cap y_now y_busMode y_losses b_words b_slotState b_slotLeft b_slotValue b_flight b_open b_ages b_pastKind b_pastBank n) (nI k) (nI b) (nI w) (nI (ye_c b_pastKind w j)) (nI j) (nI z) y_rcd y_rp y_rfc y_cap y_now y_busMode y_losses b_words b_slotState b_slotLeft b_slotValue b_flight b_open b_ages b_pastKind b_pastBank := by
          intro z hz ez
          unfold wY_early_39
          simp only [ej]
          refine ⟨vj, ?_⟩
          rw [pk, nI_add]
          refine yw_gap hf hk hz (fun r hr => ?_)
          have rl : r ≤ nI (j + w) ↔ ¬ ((j + w : Nat) : Int) < yg_g y_rcd.toInt y_rp.toInt y_rfc.toInt f k z := by
            rw [Int32.le_iff_toInt_le, nI_toInt (by omega), hr]; omega
          refine br_c (fun y => ⟨vj, ?_⟩) (fun y => h1 (.inl ⟨j, f, lt, hf, pk, ?_⟩))
          · have go : wY_early_6 post (nI k) (nI b) (nI w) y_rcd y_rp y_rfc y_cap y_now y_busMode y_losses b_words b_slotState b_slotLeft b_slotValue b_flight b_open b_ages b_pastKind b_pastBank n (nI (ye_c b_pastKind w (j + 1))) (nI (j + 1)) := by
              refine yw_early_l hk hb hw rr hpk h1 h0 n (j + 1) lt (by omega) (fun d g hd hg q => ?_)
              by_cases x : d = j
              · subst x
                rw [pk, nI_eq (by omega) (by omega)] at q
                rw [← q, ← ez]; exact rl.mp y
              · exact hl d g (by omega) hg q
            have ten : (10 : Int32) ≤ nI (j + w) ↔ 10 ≤ j + w := by rw [show (10 : Int32) = nI 10 by decide, nI_leI (by omega) (by omega)]
            refine br_c (fun x => br_c (fun u => nm_r (nI_1 j) ?_) (fun u => nm_r (nI_1 _) (nm_r (nI_1 j) ?_))) (fun x => nm_r (nI_1 j) ?_)
            · have e1 : ye_c b_pastKind w (j + 1) = ye_c b_pastKind w j := by show (if _ then _ else _) = _; rw [if_neg (by have := ten.mp u; omega)]
              rw [← e1]; exact go
            · have e1 : ye_c b_pastKind w (j + 1) = ye_c b_pastKind w j + 1 := by
                show (if _ then _ else _) = _
                rw [if_pos ⟨by rw [pk]; exact x, by have : ¬ 10 ≤ j + w := fun q => u (ten.mpr q); omega⟩]
              rw [← e1]; exact go
            · have e1 : ye_c b_pastKind w (j + 1) = ye_c b_pastKind w j := by show (if _ then _ else _) = _; rw [if_neg (by rw [pk]; exact fun q => x q.1)]
              rw [← e1]; exact go
          · rw [← ez]
            apply Classical.byContradiction
            intro q; exact y (rl.mpr q)
        exact br_c (fun y => body 1 (by decide) (by rw [if_pos y])) (fun y => body 0 (by decide) (by rw [if_neg y]))
end
end
section
/-! The log of recent commands against the clocks of the latest ones. -/
theorem ye_s (pk : Nat → Int32) (w j : Nat) : ye_c pk w (j + 1) = if pk j = 0 ∧ j + w < 10 then ye_c pk w j + 1 else ye_c pk w j := rfl
theorem ye_mono (pk : Nat → Int32) (w : Nat) {i : Nat} : ∀ d, ye_c pk w i ≤ ye_c pk w (i + d)
  | 0 => Nat.le_refl _
  | d + 1 => by
    have := ye_mono pk w (i := i) d
    rw [← Nat.add_assoc, ye_s]
    split <;> omega
theorem ye_at {pk : Nat → Int32} {w d : Nat} (h : pk d = 0 ∧ d + w < 10) : ye_c pk w (d + 1) = ye_c pk w d + 1 := by
  show (if _ then _ else _) = _; rw [if_pos h]
theorem ye_lt {pk : Nat → Int32} {w i j : Nat} (h : pk j = 0 ∧ j + w < 10) (l : i ≤ j) : ye_c pk w i + 1 ≤ ye_c pk w (j + 1) := by
  have := ye_mono pk w (i := i) (j - i)
  rw [show i + (j - i) = j by omega] at this
  rw [ye_at h]; omega
/-- the log holds the latest commands -/
def mg_R (s : sc_S) (pk pb : Nat → Int32) : Prop :=
  (∀ d, d < 16 → pk d = -1 ∨ ∃ f, f < 5 ∧ pk d = nI f) ∧ pk 0 = -1 ∧
  (∀ d f b, d < 16 → b < 8 → pk d = nI f → pb d = nI b →
    (f = 0 → sc_c s - d ≤ sc_la s b) ∧ (f = 1 → sc_c s - d ≤ sc_lr s b) ∧ (f = 2 → sc_c s - d ≤ sc_lw s b) ∧ (f = 3 → sc_c s - d ≤ sc_lp s b) ∧ (f = 4 → sc_c s - d ≤ sc_lf s b)) ∧
  (∀ b, b < 8 →
    (sc_la s b ≤ sc_c s - 16 ∨ ∃ d : Nat, d < 16 ∧ sc_la s b = sc_c s - d ∧ pk d = nI 0 ∧ pb d = nI b) ∧
    (sc_lr s b ≤ sc_c s - 16 ∨ ∃ d : Nat, d < 16 ∧ sc_lr s b = sc_c s - d ∧ pk d = nI 1 ∧ pb d = nI b) ∧
    (sc_lw s b ≤ sc_c s - 16 ∨ ∃ d : Nat, d < 16 ∧ sc_lw s b = sc_c s - d ∧ pk d = nI 2 ∧ pb d = nI b) ∧
    (sc_lp s b ≤ sc_c s - 16 ∨ ∃ d : Nat, d < 16 ∧ sc_lp s b = sc_c s - d ∧ pk d = nI 3 ∧ pb d = nI b) ∧
    (sc_lf s b ≤ sc_c s - 16 ∨ ∃ d : Nat, d < 16 ∧ sc_lf s b = sc_c s - d ∧ pk d = nI 4 ∧ pb d = nI b)) ∧
  (∀ d f, d < 16 → pk d = nI f → (f = 1 → sc_c s - d ≤ sc_ar s) ∧ (f = 2 → sc_c s - d ≤ sc_aw s) ∧
    (f = 0 → sc_c s - d = sc_a1 s ∨ sc_c s - d = sc_a2 s ∨ sc_c s - d = sc_a3 s ∨ sc_c s - d = sc_a4 s ∨ sc_c s - d < sc_a4 s)) ∧
  ((sc_ar s ≤ sc_c s - 16 ∨ ∃ d : Nat, d < 16 ∧ sc_ar s = sc_c s - d ∧ pk d = nI 1) ∧
   (sc_aw s ≤ sc_c s - 16 ∨ ∃ d : Nat, d < 16 ∧ sc_aw s = sc_c s - d ∧ pk d = nI 2) ∧
   (sc_a1 s ≤ sc_c s - 16 ∨ ∃ d : Nat, d < 16 ∧ sc_a1 s = sc_c s - d ∧ pk d = nI 0) ∧
   (sc_a2 s ≤ sc_c s - 16 ∨ ∃ d : Nat, d < 16 ∧ sc_a2 s = sc_c s - d ∧ pk d = nI 0) ∧
   (sc_a3 s ≤ sc_c s - 16 ∨ ∃ d : Nat, d < 16 ∧ sc_a3 s = sc_c s - d ∧ pk d = nI 0) ∧
   (sc_a4 s ≤ sc_c s - 16 ∨ ∃ d : Nat, d < 16 ∧ sc_a4 s = sc_c s - d ∧ pk d = nI 0))
/-- four ACTs within ten clocks -/
theorem mg_four {s : sc_S} {pk pb : Nat → Int32} {w : Nat} (W : sc_W s) (R : mg_R s pk pb) : 4 ≤ ye_c pk w 16 ↔ sc_c s + w < sc_a4 s + 10 := by
  obtain ⟨-, w0, w1, w2, w3, w4, -, -⟩ := W
  obtain ⟨r1, r2, r3, r4, r5, r6⟩ := R
  obtain ⟨q1, q2, p1, p2, p3, p4⟩ := r6
  have n0 : nI 0 = 0 := nI_0
  clear q1 q2
  constructor
  · intro h
    clear p1 p2 p3 p4
    apply Classical.byContradiction
    intro z
    have up : ∀ j, j ≤ 16 → ye_c pk w j ≤ (if sc_c s - sc_a1 s < j then 1 else 0) + (if sc_c s - sc_a2 s < j then 1 else 0) + (if sc_c s - sc_a3 s < j then 1 else 0) := by
      intro j
      induction j with
      | zero => intro _; exact Nat.zero_le _
      | succ j ih =>
        intro hj
        have ih := ih (by omega)
        rw [ye_s]
        have g : ∀ a b : Int, (a < b ∧ (if a < b then 1 else 0) = 1) ∨ (b ≤ a ∧ (if a < b then 1 else 0) = 0) := by
          intro a b
          by_cases c : a < b
          · exact .inl ⟨c, if_pos c⟩
          · exact .inr ⟨by omega, if_neg c⟩
        have g1 := g (sc_c s - sc_a1 s) j
        have g2 := g (sc_c s - sc_a2 s) j
        have g3 := g (sc_c s - sc_a3 s) j
        have h1 := g (sc_c s - sc_a1 s) ((j + 1 : Nat) : Int)
        have h2 := g (sc_c s - sc_a2 s) ((j + 1 : Nat) : Int)
        have h3 := g (sc_c s - sc_a3 s) ((j + 1 : Nat) : Int)
        have fact : pk j = 0 ∧ j + w < 10 → sc_c s - j = sc_a1 s ∨ sc_c s - j = sc_a2 s ∨ sc_c s - j = sc_a3 s ∨ sc_c s - j = sc_a4 s ∨ sc_c s - j < sc_a4 s := fun c => (r5 j 0 (by omega) (by rw [n0]; exact c.1)).2.2 rfl
        generalize (if sc_c s - sc_a1 s < (j : Int) then 1 else 0) = i1 at *
        generalize (if sc_c s - sc_a2 s < (j : Int) then 1 else 0) = i2 at *
        generalize (if sc_c s - sc_a3 s < (j : Int) then 1 else 0) = i3 at *
        generalize (if sc_c s - sc_a1 s < ((j + 1 : Nat) : Int) then 1 else 0) = k1 at *
        generalize (if sc_c s - sc_a2 s < ((j + 1 : Nat) : Int) then 1 else 0) = k2 at *
        generalize (if sc_c s - sc_a3 s < ((j + 1 : Nat) : Int) then 1 else 0) = k3 at *
        split
        · rename_i c
          have := fact c
          clear r1 r3 r4 r5 g fact
          omega
        · clear r1 r3 r4 r5 g fact
          omega
    have := up 16 (Nat.le_refl _)
    split at this <;> split at this <;> split at this <;> omega
  · intro h
    have o : sc_a4 s + 2 ≤ sc_a3 s ∧ sc_a3 s + 2 ≤ sc_a2 s ∧ sc_a2 s + 2 ≤ sc_a1 s := by clear p1 p2 p3 p4; omega
    have p1 := p1.resolve_left (by clear p1 p2 p3 p4; omega)
    have p2 := p2.resolve_left (by clear p1 p2 p3 p4; omega)
    have p3 := p3.resolve_left (by clear p1 p2 p3 p4; omega)
    have p4 := p4.resolve_left (by clear p1 p2 p3 p4; omega)
    obtain ⟨d1, l1, e1, k1⟩ := p1
    obtain ⟨d2, l2, e2, k2⟩ := p2
    obtain ⟨d3, l3, e3, k3⟩ := p3
    obtain ⟨d4, l4, e4, k4⟩ := p4
    rw [n0] at k1 k2 k3 k4
    have c1 := ye_lt (w := w) (i := 0) ⟨k1, by omega⟩ (by omega)
    have c2 := ye_lt (w := w) (i := d1 + 1) ⟨k2, by omega⟩ (by omega)
    have c3 := ye_lt (w := w) (i := d2 + 1) ⟨k3, by omega⟩ (by omega)
    have c4 := ye_lt (w := w) (i := d3 + 1) ⟨k4, by omega⟩ (by omega)
    have c5 := ye_mono pk w (i := d4 + 1) (16 - (d4 + 1))
    rw [show d4 + 1 + (16 - (d4 + 1)) = 16 by omega] at c5
    omega
end
section
/-- hides an exists from omega -/
def mg_H (P : Prop) : Prop := P
theorem er_0 (s : sc_S) (b : Nat) : (sc_c s ≤ sc_er s 0 b ∧ sc_lp s b + sc_rp s ≤ sc_er s 0 b ∧ sc_lf s b + sc_rfc s ≤ sc_er s 0 b ∧ sc_a1 s + 2 ≤ sc_er s 0 b ∧ sc_a4 s + 10 ≤ sc_er s 0 b) ∧
    (sc_er s 0 b = sc_c s ∨ sc_er s 0 b = sc_lp s b + sc_rp s ∨ sc_er s 0 b = sc_lf s b + sc_rfc s ∨ sc_er s 0 b = sc_a1 s + 2 ∨ sc_er s 0 b = sc_a4 s + 10) := by
  have e : sc_er s 0 b = sc_mx (sc_mx (sc_mx (sc_mx (sc_c s) (sc_lp s b + sc_rp s)) (sc_lf s b + sc_rfc s)) (sc_a1 s + 2)) (sc_a4 s + 10) := rfl
  have m1 := sc_mx_in (sc_c s) (sc_lp s b + sc_rp s)
  have m2 := sc_mx_in (sc_mx (sc_c s) (sc_lp s b + sc_rp s)) (sc_lf s b + sc_rfc s)
  have m3 := sc_mx_in (sc_mx (sc_mx (sc_c s) (sc_lp s b + sc_rp s)) (sc_lf s b + sc_rfc s)) (sc_a1 s + 2)
  have m4 := sc_mx_in (sc_mx (sc_mx (sc_mx (sc_c s) (sc_lp s b + sc_rp s)) (sc_lf s b + sc_rfc s)) (sc_a1 s + 2)) (sc_a4 s + 10)
  rw [e]; omega
theorem er_1 (s : sc_S) (b : Nat) : (sc_c s ≤ sc_er s 1 b ∧ sc_la s b + sc_rcd s ≤ sc_er s 1 b ∧ sc_ar s + 2 ≤ sc_er s 1 b ∧ sc_aw s + 4 ≤ sc_er s 1 b) ∧ (sc_er s 1 b = sc_c s ∨ sc_er s 1 b = sc_la s b + sc_rcd s ∨ sc_er s 1 b = sc_ar s + 2 ∨ sc_er s 1 b = sc_aw s + 4) := by
  have e : sc_er s 1 b = sc_mx (sc_mx (sc_mx (sc_c s) (sc_la s b + sc_rcd s)) (sc_ar s + 2)) (sc_aw s + 4) := rfl
  have m1 := sc_mx_in (sc_c s) (sc_la s b + sc_rcd s)
  have m2 := sc_mx_in (sc_mx (sc_c s) (sc_la s b + sc_rcd s)) (sc_ar s + 2)
  have m3 := sc_mx_in (sc_mx (sc_mx (sc_c s) (sc_la s b + sc_rcd s)) (sc_ar s + 2)) (sc_aw s + 4)
  rw [e]; omega
theorem er_2 (s : sc_S) (b : Nat) : (sc_c s ≤ sc_er s 2 b ∧ sc_la s b + sc_rcd s ≤ sc_er s 2 b ∧ sc_aw s + 2 ≤ sc_er s 2 b ∧ sc_ar s + 3 ≤ sc_er s 2 b) ∧ (sc_er s 2 b = sc_c s ∨ sc_er s 2 b = sc_la s b + sc_rcd s ∨ sc_er s 2 b = sc_aw s + 2 ∨ sc_er s 2 b = sc_ar s + 3) := by
  have e : sc_er s 2 b = sc_mx (sc_mx (sc_mx (sc_c s) (sc_la s b + sc_rcd s)) (sc_aw s + 2)) (sc_ar s + 3) := rfl
  have m1 := sc_mx_in (sc_c s) (sc_la s b + sc_rcd s)
  have m2 := sc_mx_in (sc_mx (sc_c s) (sc_la s b + sc_rcd s)) (sc_aw s + 2)
  have m3 := sc_mx_in (sc_mx (sc_mx (sc_c s) (sc_la s b + sc_rcd s)) (sc_aw s + 2)) (sc_ar s + 3)
  rw [e]; omega
theorem er_3 (s : sc_S) (b : Nat) : (sc_c s ≤ sc_er s 3 b ∧ sc_la s b + 5 ≤ sc_er s 3 b ∧ sc_lr s b + 2 ≤ sc_er s 3 b ∧ sc_lw s b + 4 ≤ sc_er s 3 b) ∧ (sc_er s 3 b = sc_c s ∨ sc_er s 3 b = sc_la s b + 5 ∨ sc_er s 3 b = sc_lr s b + 2 ∨ sc_er s 3 b = sc_lw s b + 4) := by
  have e : sc_er s 3 b = sc_mx (sc_mx (sc_mx (sc_c s) (sc_la s b + 5)) (sc_lr s b + 2)) (sc_lw s b + 4) := rfl
  have m1 := sc_mx_in (sc_c s) (sc_la s b + 5)
  have m2 := sc_mx_in (sc_mx (sc_c s) (sc_la s b + 5)) (sc_lr s b + 2)
  have m3 := sc_mx_in (sc_mx (sc_mx (sc_c s) (sc_la s b + 5)) (sc_lr s b + 2)) (sc_lw s b + 4)
  rw [e]; omega
theorem er_4 (s : sc_S) (b : Nat) : (sc_c s ≤ sc_er s 4 b ∧ sc_lp s b + sc_rp s ≤ sc_er s 4 b ∧ sc_lf s b + sc_rfc s ≤ sc_er s 4 b) ∧ (sc_er s 4 b = sc_c s ∨ sc_er s 4 b = sc_lp s b + sc_rp s ∨ sc_er s 4 b = sc_lf s b + sc_rfc s) := by
  have e : sc_er s 4 b = sc_mx (sc_mx (sc_c s) (sc_lp s b + sc_rp s)) (sc_lf s b + sc_rfc s) := rfl
  have m1 := sc_mx_in (sc_c s) (sc_lp s b + sc_rp s)
  have m2 := sc_mx_in (sc_mx (sc_c s) (sc_lp s b + sc_rp s)) (sc_lf s b + sc_rfc s)
  rw [e]; omega
/-- what keeps a command back, in the log and in the clocks -/
theorem mg_early {s : sc_S} {pk pb : Nat → Int32} {k b w : Nat} (W : sc_W s) (R : mg_R s pk pb) (hk : k < 5) (hb : b < 8) :
    ((∃ d f, d < 16 ∧ f < 5 ∧ pk d = nI f ∧ ((d + w : Nat) : Int) < yg_g (sc_rcd s) (sc_rp s) (sc_rfc s) f k (if pb d = nI b then 1 else 0)) ∨ (k = 0 ∧ 4 ≤ ye_c pk w 16)) ↔ sc_c s + w < sc_er s k b := by
  rw [mg_four (w := w) W R]
  obtain ⟨wp, w0, w1, w2, w3, w4, wb, -⟩ := W
  have wb := wb b hb
  obtain ⟨r1, r2, r3, r4, r5, r6⟩ := R
  obtain ⟨l0, l1, l2, l3, l4⟩ := r4 b hb
  obtain ⟨q1, q2, p1, -⟩ := r6
  let E : Prop := ∃ d f, d < 16 ∧ f < 5 ∧ pk d = nI f ∧ ((d + w : Nat) : Int) < yg_g (sc_rcd s) (sc_rp s) (sc_rfc s) f k (if pb d = nI b then 1 else 0)
  have L0 : (k = 1 ∨ k = 2 ∨ k = 3) → sc_c s + w < sc_la s b + yg_g (sc_rcd s) (sc_rp s) (sc_rfc s) 0 k 1 → yg_g (sc_rcd s) (sc_rp s) (sc_rfc s) 0 k 1 ≤ 10 → mg_H E := by
    intro _ h g
    rcases l0 with z | ⟨d, e1, e2, e3, e4⟩
    · exfalso; clear l1 l2 l3 l4 q1 q2 p1 r1 r3 r4 r5; omega
    · exact ⟨d, 0, e1, by decide, e3, by rw [if_pos e4]; clear l1 l2 l3 l4 q1 q2 p1 r1 r3 r4 r5; omega⟩
  have L1 : sc_c s + w < sc_lr s b + yg_g (sc_rcd s) (sc_rp s) (sc_rfc s) 1 k 1 → yg_g (sc_rcd s) (sc_rp s) (sc_rfc s) 1 k 1 ≤ 10 → mg_H E := by
    intro h g
    rcases l1 with z | ⟨d, e1, e2, e3, e4⟩
    · exfalso; clear l0 l2 l3 l4 q1 q2 p1 r1 r3 r4 r5; omega
    · exact ⟨d, 1, e1, by decide, e3, by rw [if_pos e4]; clear l0 l2 l3 l4 q1 q2 p1 r1 r3 r4 r5; omega⟩
  have L2 : sc_c s + w < sc_lw s b + yg_g (sc_rcd s) (sc_rp s) (sc_rfc s) 2 k 1 → yg_g (sc_rcd s) (sc_rp s) (sc_rfc s) 2 k 1 ≤ 10 → mg_H E := by
    intro h g
    rcases l2 with z | ⟨d, e1, e2, e3, e4⟩
    · exfalso; clear l0 l1 l3 l4 q1 q2 p1 r1 r3 r4 r5; omega
    · exact ⟨d, 2, e1, by decide, e3, by rw [if_pos e4]; clear l0 l1 l3 l4 q1 q2 p1 r1 r3 r4 r5; omega⟩
  have L3 : sc_c s + w < sc_lp s b + yg_g (sc_rcd s) (sc_rp s) (sc_rfc s) 3 k 1 → yg_g (sc_rcd s) (sc_rp s) (sc_rfc s) 3 k 1 ≤ 10 → mg_H E := by
    intro h g
    rcases l3 with z | ⟨d, e1, e2, e3, e4⟩
    · exfalso; clear l0 l1 l2 l4 q1 q2 p1 r1 r3 r4 r5; omega
    · exact ⟨d, 3, e1, by decide, e3, by rw [if_pos e4]; clear l0 l1 l2 l4 q1 q2 p1 r1 r3 r4 r5; omega⟩
  have L4 : sc_c s + w < sc_lf s b + yg_g (sc_rcd s) (sc_rp s) (sc_rfc s) 4 k 1 → yg_g (sc_rcd s) (sc_rp s) (sc_rfc s) 4 k 1 ≤ 10 → mg_H E := by
    intro h g
    rcases l4 with z | ⟨d, e1, e2, e3, e4⟩
    · exfalso; clear l0 l1 l2 l3 q1 q2 p1 r1 r3 r4 r5; omega
    · exact ⟨d, 4, e1, by decide, e3, by rw [if_pos e4]; clear l0 l1 l2 l3 q1 q2 p1 r1 r3 r4 r5; omega⟩
  have A0 : ∀ g, (∀ z, z < 2 → yg_g (sc_rcd s) (sc_rp s) (sc_rfc s) 0 k z = g) → g ≤ 10 → sc_c s + w < sc_a1 s + g → mg_H E := by
    intro g hg g10 h
    rcases p1 with z | ⟨d, e1, e2, e3⟩
    · exfalso; clear l0 l1 l2 l3 l4 q1 q2 r1 r3 r4 r5 L0 L1 L2 L3 L4 hg; omega
    · refine ⟨d, 0, e1, by decide, e3, ?_⟩
      rw [hg _ (by split <;> decide)]; clear l0 l1 l2 l3 l4 q1 q2 r1 r3 r4 r5 L0 L1 L2 L3 L4 hg; omega
  have A1 : ∀ g, (∀ z, z < 2 → yg_g (sc_rcd s) (sc_rp s) (sc_rfc s) 1 k z = g) → g ≤ 10 → sc_c s + w < sc_ar s + g → mg_H E := by
    intro g hg g10 h
    rcases q1 with z | ⟨d, e1, e2, e3⟩
    · exfalso; clear l0 l1 l2 l3 l4 p1 q2 r1 r3 r4 r5 L0 L1 L2 L3 L4 A0 hg; omega
    · refine ⟨d, 1, e1, by decide, e3, ?_⟩
      rw [hg _ (by split <;> decide)]; clear l0 l1 l2 l3 l4 p1 q2 r1 r3 r4 r5 L0 L1 L2 L3 L4 A0 hg; omega
  have A2 : ∀ g, (∀ z, z < 2 → yg_g (sc_rcd s) (sc_rp s) (sc_rfc s) 2 k z = g) → g ≤ 10 → sc_c s + w < sc_aw s + g → mg_H E := by
    intro g hg g10 h
    rcases q2 with z | ⟨d, e1, e2, e3⟩
    · exfalso; clear l0 l1 l2 l3 l4 p1 q1 r1 r3 r4 r5 L0 L1 L2 L3 L4 A0 A1 hg; omega
    · refine ⟨d, 2, e1, by decide, e3, ?_⟩
      rw [hg _ (by split <;> decide)]; clear l0 l1 l2 l3 l4 p1 q1 r1 r3 r4 r5 L0 L1 L2 L3 L4 A0 A1 hg; omega
  -- the clocks are at least what the log says
  have up : ∀ d f, d < 16 → f < 5 → pk d = nI f → (f = 1 → sc_c s - d ≤ sc_ar s) ∧ (f = 2 → sc_c s - d ≤ sc_aw s) ∧ (f = 0 → sc_c s - d ≤ sc_a1 s) ∧
      (pb d = nI b → (f = 0 → sc_c s - d ≤ sc_la s b) ∧ (f = 1 → sc_c s - d ≤ sc_lr s b) ∧ (f = 2 → sc_c s - d ≤ sc_lw s b) ∧ (f = 3 → sc_c s - d ≤ sc_lp s b) ∧ (f = 4 → sc_c s - d ≤ sc_lf s b)) := by
    intro d f h1 h2 h3
    have a := r5 d f h1 h3
    refine ⟨a.1, a.2.1, fun z => ?_, fun z => r3 d f b h1 hb h3 z⟩
    have := a.2.2 z
    clear l0 l1 l2 l3 l4 q1 q2 p1 r3 r5 r4 r1 a L0 L1 L2 L3 L4 A0 A1 A2
    omega
  have ck : k = 0 ∨ k = 1 ∨ k = 2 ∨ k = 3 ∨ k = 4 := by clear l0 l1 l2 l3 l4 q1 q2 p1 r3 r5 r4 r1 L0 L1 L2 L3 L4 A0 A1 A2 up; omega
  have z2 : ∀ z, z < 2 → z = 0 ∨ z = 1 := by intro z hz; omega
  constructor
  · rintro (⟨d, f, h1, h2, h3, h4⟩ | ⟨rfl, h⟩)
    · have u := up d f h1 h2 h3
      clear l0 l1 l2 l3 l4 q1 q2 p1 r3 r5 r4 r1 L0 L1 L2 L3 L4 A0 A1 A2 up
      have e0 := er_0 s b; have e1 := er_1 s b; have e2 := er_2 s b; have e3 := er_3 s b; have e4 := er_4 s b
      have cf : f = 0 ∨ f = 1 ∨ f = 2 ∨ f = 3 ∨ f = 4 := by omega
      unfold yg_g at h4
      by_cases z : pb d = nI b
      · rw [if_pos z] at h4
        have u2 := u.2.2.2 z
        rcases cf with rfl | rfl | rfl | rfl | rfl <;> rcases ck with rfl | rfl | rfl | rfl | rfl <;> simp at h4 u u2 <;> omega
      · rw [if_neg z] at h4
        rcases cf with rfl | rfl | rfl | rfl | rfl <;> rcases ck with rfl | rfl | rfl | rfl | rfl <;> simp at h4 u <;> omega
    · have e0 := er_0 s b
      clear l0 l1 l2 l3 l4 q1 q2 p1 r3 r5 r4 r1 L0 L1 L2 L3 L4 A0 A1 A2 up
      omega
  · intro h
    clear l0 l1 l2 l3 l4 q1 q2 p1 r3 r5 r4 r1 up
    rcases ck with rfl | rfl | rfl | rfl | rfl
    · rcases (er_0 s b).2 with y | y | y | y | y
      · exfalso; clear L0 L1 L2 L3 L4 A0 A1 A2; omega
      · exact .inl (L3 (by show _ < _ + sc_rp s; clear L0 L1 L2 L3 L4 A0 A1 A2; omega) (by show sc_rp s ≤ 10; clear L0 L1 L2 L3 L4 A0 A1 A2; omega))
      · exact .inl (L4 (by show _ < _ + sc_rfc s; clear L0 L1 L2 L3 L4 A0 A1 A2; omega) (by show sc_rfc s ≤ 10; clear L0 L1 L2 L3 L4 A0 A1 A2; omega))
      · exact .inl (A0 2 (fun z hz => by rcases z2 z hz with rfl | rfl <;> rfl) (by decide) (by clear L0 L1 L2 L3 L4 A0 A1 A2; omega))
      · exact .inr ⟨rfl, by clear L0 L1 L2 L3 L4 A0 A1 A2; omega⟩
    · rcases (er_1 s b).2 with y | y | y | y
      · exfalso; clear L0 L1 L2 L3 L4 A0 A1 A2; omega
      · exact .inl (L0 (.inl rfl) (by show _ < _ + sc_rcd s; clear L0 L1 L2 L3 L4 A0 A1 A2; omega) (by show sc_rcd s ≤ 10; clear L0 L1 L2 L3 L4 A0 A1 A2; omega))
      · exact .inl (A1 2 (fun z hz => by rcases z2 z hz with rfl | rfl <;> rfl) (by decide) (by clear L0 L1 L2 L3 L4 A0 A1 A2; omega))
      · exact .inl (A2 4 (fun z hz => by rcases z2 z hz with rfl | rfl <;> rfl) (by decide) (by clear L0 L1 L2 L3 L4 A0 A1 A2; omega))
    · rcases (er_2 s b).2 with y | y | y | y
      · exfalso; clear L0 L1 L2 L3 L4 A0 A1 A2; omega
      · exact .inl (L0 (.inr (.inl rfl)) (by show _ < _ + sc_rcd s; clear L0 L1 L2 L3 L4 A0 A1 A2; omega) (by show sc_rcd s ≤ 10; clear L0 L1 L2 L3 L4 A0 A1 A2; omega))
      · exact .inl (A2 2 (fun z hz => by rcases z2 z hz with rfl | rfl <;> rfl) (by decide) (by clear L0 L1 L2 L3 L4 A0 A1 A2; omega))
      · exact .inl (A1 3 (fun z hz => by rcases z2 z hz with rfl | rfl <;> rfl) (by decide) (by clear L0 L1 L2 L3 L4 A0 A1 A2; omega))
    · rcases (er_3 s b).2 with y | y | y | y
      · exfalso; clear L0 L1 L2 L3 L4 A0 A1 A2; omega
      · exact .inl (L0 (.inr (.inr rfl)) (by show _ < _ + 5; clear L0 L1 L2 L3 L4 A0 A1 A2; omega) (by show (5 : Int) ≤ 10; decide))
      · exact .inl (L1 (by show _ < _ + 2; clear L0 L1 L2 L3 L4 A0 A1 A2; omega) (by show (2 : Int) ≤ 10; decide))
      · exact .inl (L2 (by show _ < _ + 4; clear L0 L1 L2 L3 L4 A0 A1 A2; omega) (by show (4 : Int) ≤ 10; decide))
    · rcases (er_4 s b).2 with y | y | y
      · exfalso; clear L0 L1 L2 L3 L4 A0 A1 A2; omega
      · exact .inl (L3 (by show _ < _ + sc_rp s; clear L0 L1 L2 L3 L4 A0 A1 A2; omega) (by show sc_rp s ≤ 10; clear L0 L1 L2 L3 L4 A0 A1 A2; omega))
      · exact .inl (L4 (by show _ < _ + sc_rfc s; clear L0 L1 L2 L3 L4 A0 A1 A2; omega) (by show sc_rfc s ≤ 10; clear L0 L1 L2 L3 L4 A0 A1 A2; omega))
end
section
section
variable {y_rcd y_rp y_rfc y_cap y_busMode y_losses : Int32} {y_now : Int64} {b_words b_slotState b_slotLeft b_slotValue b_flight b_open b_ages b_pastKind b_pastBank : (Nat → Int32)}
theorem yw_early {post : Int32 → Prop} {s : sc_S} {k b w : Nat} (W : sc_W s) (R : mg_R s b_pastKind b_pastBank) (e1 : y_rcd.toInt = sc_rcd s) (e2 : y_rp.toInt = sc_rp s) (e3 : y_rfc.toInt = sc_rfc s) (hk : k < 5) (hb : b < 8) (hw : w ≤ 10)
    (h1 : sc_c s + w < sc_er s k b → post 1) (h0 : ¬ sc_c s + w < sc_er s k b → post 0) : wpY_early post (y_rcd, y_rp, y_rfc, y_cap, y_now, y_busMode, y_losses, b_words, b_slotState, b_slotLeft, b_slotValue, b_flight, b_open, b_ages, b_pastKind, b_pastBank) (nI k) (nI b) (nI w) := by
  have m := mg_early (w := w) W R hk hb
  have wp := W.1
  rw [← e1, ← e2, ← e3] at m
  exact ⟨17, yw_early_l hk hb hw (by rw [e1, e2, e3]; omega) R.1 (fun z => h1 (m.mp z)) (fun z => h0 (fun y => z (m.mpr y))) 17 0 (by omega) (by omega) (fun d f hd => by omega)⟩
theorem yw_wait_l {post : Int32 → Prop} {s : sc_S} {k b r : Nat} (W : sc_W s) (R : mg_R s b_pastKind b_pastBank) (e1 : y_rcd.toInt = sc_rcd s) (e2 : y_rp.toInt = sc_rp s) (e3 : y_rfc.toInt = sc_rfc s) (hk : k < 5) (hb : b < 8)
    (er : sc_er s k b = sc_c s + r) (hr : r ≤ 10) (K : post (nI r)) : ∀ n w, w ≤ r → 10 - w < n → wY_waitFor_50 post (nI k) (nI b) y_rcd y_rp y_rfc y_cap y_now y_busMode y_losses b_words b_slotState b_slotLeft b_slotValue b_flight b_open b_ages b_pastKind b_pastBank n (nI w)
  | 0, w, _, hn => by omega
  | n + 1, w, hw, hn => by
    unfold wY_waitFor_50
    by_cases e : w = 10
    · subst e
      have : r = 10 := by omega
      subst this
      exact br_t (by decide) K
    · refine br_f (nI_ge (b := 10) (by omega) (by decide)) (yw_early W R e1 e2 e3 hk hb (by omega) (fun z => br_f (by decide) (nm_r (nI_1 w) (yw_wait_l W R e1 e2 e3 hk hb er hr K n (w + 1) (by omega) (by omega)))) (fun z => br_t (by decide) ?_))
      have : w = r := by omega
      rw [this]; exact K
theorem yw_fits {post : Int32 → Prop} {k b : Nat} (hk : k < 5) (hb : b < 8) (h1 : ((b_open b).toInt < 0 ↔ (k = 0 ∨ k = 4)) → post 1) (h0 : ¬ ((b_open b).toInt < 0 ↔ (k = 0 ∨ k = 4)) → post 0) : wpY_fits post (y_rcd, y_rp, y_rfc, y_cap, y_now, y_busMode, y_losses, b_words, b_slotState, b_slotLeft, b_slotValue, b_flight, b_open, b_ages, b_pastKind, b_pastBank) (nI k) (nI b) := by
  have e : (nI b).toNatClampNeg = b := nI_clamp (by omega)
  have vb : vp_in (nI b) 8 := vp_in_nI hb (by omega)
  have o : (0 : Int32) ≤ b_open b ↔ ¬ (b_open b).toInt < 0 := by
    rw [Int32.le_iff_toInt_le]
    have : (0 : Int32).toInt = 0 := by decide
    omega
  unfold wpY_fits
  simp only [e]
  refine ⟨vb, ?_⟩
  unfold wY_fits_14
  have : k = 0 ∨ k = 1 ∨ k = 2 ∨ k = 3 ∨ k = 4 := by omega
  by_cases z : (b_open b).toInt < 0
  · refine br_f (fun y => (o.mp y) z) ?_
    rcases this with rfl | rfl | rfl | rfl | rfl
    · exact br_t (by decide) ⟨rfl, h1 ⟨fun _ => .inl rfl, fun _ => z⟩⟩
    · exact br_f (by decide) (br_f (by decide) (br_f (by decide) (h0 (fun y => by have := y.mp z; omega))))
    · exact br_f (by decide) (br_f (by decide) (br_f (by decide) (h0 (fun y => by have := y.mp z; omega))))
    · exact br_f (by decide) (br_f (by decide) (br_f (by decide) (h0 (fun y => by have := y.mp z; omega))))
    · exact br_f (by decide) (br_t (by decide) ⟨rfl, h1 ⟨fun _ => .inr rfl, fun _ => z⟩⟩)
  · refine br_t (o.mpr z) ?_
    rcases this with rfl | rfl | rfl | rfl | rfl
    · exact br_t (by decide) ⟨rfl, h0 (fun y => z (y.mpr (.inl rfl)))⟩
    · exact br_f (by decide) (br_f (by decide) (br_t (by decide) (h1 ⟨fun y => absurd y z, fun y => by omega⟩)))
    · exact br_f (by decide) (br_f (by decide) (br_t (by decide) (h1 ⟨fun y => absurd y z, fun y => by omega⟩)))
    · exact br_f (by decide) (br_f (by decide) (br_t (by decide) (h1 ⟨fun y => absurd y z, fun y => by omega⟩)))
    · exact br_f (by decide) (br_t (by decide) ⟨rfl, h0 (fun y => z (y.mpr (.inr rfl)))⟩)
end
/-- the wait is at most ten clocks -/
theorem er_le {s : sc_S} {k b : Nat} (W : sc_W s) (hk : k < 5) (hb : b < 8) : sc_c s ≤ sc_er s k b ∧ sc_er s k b ≤ sc_c s + 10 := by
  obtain ⟨wp, w0, w1, w2, w3, w4, wb, -⟩ := W
  have wb := wb b hb
  have e0 := er_0 s b; have e1 := er_1 s b; have e2 := er_2 s b; have e3 := er_3 s b; have e4 := er_4 s b
  have : k = 0 ∨ k = 1 ∨ k = 2 ∨ k = 3 ∨ k = 4 := by omega
  rcases this with rfl | rfl | rfl | rfl | rfl <;> omega
end
section
/-! The log kept through a MANUAL clock. -/
/-- a command k (5: none) on bank b at the present clock of MANUAL mode, and the clock -/
def mg_E (s t : sc_S) (k b : Nat) (r : Int) : Prop :=
  (sc_c t = sc_c s + 1 ∧ sc_rcd t = sc_rcd s ∧ sc_rp t = sc_rp s ∧ sc_rfc t = sc_rfc s ∧ sc_cap t = sc_cap s) ∧
  (sc_a1 t = (if k = 0 then sc_c s else sc_a1 s) ∧ sc_a2 t = (if k = 0 then sc_a1 s else sc_a2 s) ∧ sc_a3 t = (if k = 0 then sc_a2 s else sc_a3 s) ∧ sc_a4 t = (if k = 0 then sc_a3 s else sc_a4 s)) ∧
  (sc_ar t = (if k = 1 then sc_c s else sc_ar s) ∧ sc_aw t = (if k = 2 then sc_c s else sc_aw s)) ∧
  (∀ x, x < 8 → sc_op t x = if k = 0 ∧ x = b then r else if k = 3 ∧ x = b then -1 else sc_op s x) ∧
  (∀ x, x < 8 → sc_la t x = if k = 0 ∧ x = b then sc_c s else sc_la s x) ∧
  (∀ x, x < 8 → sc_lr t x = if k = 1 ∧ x = b then sc_c s else sc_lr s x) ∧
  (∀ x, x < 8 → sc_lw t x = if k = 2 ∧ x = b then sc_c s else sc_lw s x) ∧
  (∀ x, x < 8 → sc_lp t x = if k = 3 ∧ x = b then sc_c s else sc_lp s x) ∧
  (∀ x, x < 8 → sc_lf t x = if k = 4 ∧ x = b then sc_c s else sc_lf s x) ∧
  (∀ x, x < 8 → 0 ≤ sc_age t x ∧ sc_age t x ≤ (if k = 4 ∧ x = b then 0 else sc_age s x) + 1)
theorem mg_W {s t : sc_S} {k b : Nat} {r : Int} (W : sc_W s) (E : mg_E s t k b r) (P : k < 5 → sc_P s k b) (F : k = 4 → sc_op s b < 0) (pd : ∀ q, q < 12 → sc_pd t q = 0) : sc_W t := by
  obtain ⟨wp, w0, w1, w2, w3, w4, wb, -⟩ := W
  obtain ⟨⟨e1, e2, e3, e4, e5⟩, ⟨x1, x2, x3, x4⟩, ⟨y1, y2⟩, eo, ea, er, ew, ep, ef, eg⟩ := E
  have P0 : k = 0 → sc_lp s b + sc_rp s ≤ sc_c s ∧ sc_lf s b + sc_rfc s ≤ sc_c s ∧ sc_a1 s + 2 ≤ sc_c s ∧ sc_a4 s + 10 ≤ sc_c s := fun z => (P (by omega)).1 z
  refine ⟨by omega, by omega, ?_, ?_, ?_, ?_, fun x hx => ?_, fun p q hp hq z => absurd (pd p hp) z⟩
  · clear eo ea er ew ep ef eg wb; rw [x1]; split <;> omega
  · clear eo ea er ew ep ef eg wb; rw [y1]; split <;> omega
  · clear eo ea er ew ep ef eg wb; rw [y2]; split <;> omega
  · clear eo ea er ew ep ef eg wb
    by_cases z : k = 0
    · rw [if_pos z] at x1 x2 x3 x4
      have := P0 z
      omega
    · rw [if_neg z] at x1 x2 x3 x4
      omega
  · have wb := wb x hx
    have eo := eo x hx; have ea := ea x hx; have er := er x hx; have ew := ew x hx; have ep := ep x hx; have ef := ef x hx; have eg := eg x hx
    clear P
    by_cases n : x = b
    · subst n
      simp only [and_true] at eo ea er ew ep ef eg
      have c : k = 0 ∨ k = 1 ∨ k = 2 ∨ k = 3 ∨ k = 4 ∨ 5 ≤ k := by omega
      rcases c with rfl | rfl | rfl | rfl | rfl | c
      · simp at eo ea er ew ep ef eg y1 y2 P0
        omega
      · simp at eo ea er ew ep ef eg y1 y2
        omega
      · simp at eo ea er ew ep ef eg y1 y2
        omega
      · simp at eo ea er ew ep ef eg y1 y2
        omega
      · simp at eo ea er ew ep ef eg y1 y2 F
        omega
      · rw [if_neg (by omega)] at ea er ew ep ef eg y1 y2
        rw [if_neg (by omega), if_neg (by omega)] at eo
        omega
    · rw [if_neg (fun z => n z.2)] at ea er ew ep ef eg
      rw [if_neg (fun z => n z.2), if_neg (fun z => n z.2)] at eo
      have y1' : sc_ar s ≤ sc_ar t := by rw [y1]; split <;> omega
      have y2' : sc_aw s ≤ sc_aw t := by rw [y2]; split <;> omega
      omega
theorem nI_m1 {f : Nat} (h : f < 2147483648) : ¬ (-1 : Int32) = nI f := by
  intro q
  have : (nI f).toInt = (-1 : Int32).toInt := by rw [← q]
  rw [nI_toInt (by omega)] at this
  have : (-1 : Int32).toInt = -1 := by decide
  omega
theorem mg_mv {c L : Int} {Q Q' : Nat → Prop} (h : L ≤ c - 16 ∨ ∃ d : Nat, d < 16 ∧ L = c - d ∧ Q d) (z : ¬ Q 0) (m : ∀ d, 1 ≤ d → d < 15 → Q d → Q' (d + 1)) {c' : Int} (hc : c' = c + 1) : L ≤ c' - 16 ∨ ∃ d : Nat, d < 16 ∧ L = c' - d ∧ Q' d := by
  rcases h with h | ⟨d, h1, h2, h3⟩
  · left; clear m; omega
  · by_cases d0 : d = 0
    · subst d0; exact absurd h3 z
    · by_cases d15 : d = 15
      · left; clear m; omega
      · right
        refine ⟨d + 1, by clear m; omega, by clear m; omega, m d (by omega) (by omega) h3⟩
theorem mg_step {s t : sc_S} {pk pb pk' pb' : Nat → Int32} {k b : Nat} {r : Int} (W : sc_W s) (R : mg_R s pk pb) (E : mg_E s t k b r) (hk : k ≤ 5) (hb : b < 8)
    (p0 : pk' 0 = -1) (p1 : k < 5 → pk' 1 = nI k) (p2 : k = 5 → pk' 1 = -1) (b1 : k < 5 → pb' 1 = nI b) (ps : ∀ d, 1 ≤ d → d < 15 → pk' (d + 1) = pk d ∧ pb' (d + 1) = pb d) : mg_R t pk' pb' := by
  obtain ⟨r1, r2, r3, r4, r5, r6⟩ := R
  obtain ⟨⟨e1, -, -, -, -⟩, ⟨x1, x2, x3, x4⟩, ⟨y1, y2⟩, -, ea, er, ew, ep, ef, -⟩ := E
  obtain ⟨-, w0, w1, w2, w3, w4, wb, -⟩ := W
  have mv : ∀ (L : Int) (f x : Nat), f < 5 → (L ≤ sc_c s - 16 ∨ ∃ d : Nat, d < 16 ∧ L = sc_c s - d ∧ pk d = nI f ∧ pb d = nI x) → (L ≤ sc_c t - 16 ∨ ∃ d : Nat, d < 16 ∧ L = sc_c t - d ∧ pk' d = nI f ∧ pb' d = nI x) := by
    intro L f x hf h
    refine mg_mv h (fun z => ?_) (fun d h1 h2 q => ?_) e1
    · rw [r2] at z; exact nI_m1 (by omega) z.1
    · have := ps d h1 h2
      exact ⟨by rw [this.1]; exact q.1, by rw [this.2]; exact q.2⟩
  have mw : ∀ (L : Int) (f : Nat), f < 5 → (L ≤ sc_c s - 16 ∨ ∃ d : Nat, d < 16 ∧ L = sc_c s - d ∧ pk d = nI f) → (L ≤ sc_c t - 16 ∨ ∃ d : Nat, d < 16 ∧ L = sc_c t - d ∧ pk' d = nI f) := by
    intro L f hf h
    refine mg_mv h (fun z => ?_) (fun d h1 h2 q => ?_) e1
    · rw [r2] at z; exact nI_m1 (by omega) z
    · rw [(ps d h1 h2).1]; exact q
  have new : ∀ f, f < 5 → k = f → (sc_c s ≤ sc_c t - 16 ∨ ∃ d : Nat, d < 16 ∧ sc_c s = sc_c t - d ∧ pk' d = nI f ∧ pb' d = nI b) := by
    intro f hf e
    exact .inr ⟨1, by decide, by omega, by rw [← e]; exact p1 (by omega), b1 (by omega)⟩
  have newA : ∀ f, f < 5 → k = f → (sc_c s ≤ sc_c t - 16 ∨ ∃ d : Nat, d < 16 ∧ sc_c s = sc_c t - d ∧ pk' d = nI f) := by
    intro f hf e
    exact .inr ⟨1, by decide, by omega, by rw [← e]; exact p1 (by omega)⟩
  -- entries of the new log
  have ent : ∀ d f, d < 16 → f < 5 → pk' d = nI f → (d = 1 ∧ k = f) ∨ (∃ e, d = e + 1 ∧ 1 ≤ e ∧ e < 15 ∧ pk e = nI f) := by
    intro d f hd hf h
    by_cases d0 : d = 0
    · rw [d0, p0] at h; exact absurd h (nI_m1 (by omega))
    · by_cases d1 : d = 1
      · left
        refine ⟨d1, ?_⟩
        rw [d1] at h
        by_cases k5 : k = 5
        · rw [p2 k5] at h; exact absurd h (nI_m1 (by omega))
        · rw [p1 (by omega), nI_eq (by omega) (by omega)] at h; exact h
      · right
        refine ⟨d - 1, by omega, by omega, by omega, ?_⟩
        have := ps (d - 1) (by omega) (by omega)
        rw [show d - 1 + 1 = d by omega] at this
        rw [← this.1]; exact h
  refine ⟨fun d hd => ?_, p0, fun d f x hd hx h1 h2 => ?_, fun x hx => ⟨?_, ?_, ?_, ?_, ?_⟩, fun d f hd h1 => ?_, ?_, ?_, ?_, ?_, ?_, ?_⟩
  · by_cases d0 : d = 0
    · rw [d0]; exact .inl p0
    · by_cases d1 : d = 1
      · rw [d1]
        by_cases k5 : k = 5
        · exact .inl (p2 k5)
        · exact .inr ⟨k, by omega, p1 (by omega)⟩
      · have := ps (d - 1) (by omega) (by omega)
        rw [show d - 1 + 1 = d by omega] at this
        rw [this.1]; exact r1 (d - 1) (by omega)
  · by_cases hf : f < 5
    · rcases ent d f hd hf h1 with ⟨rfl, rfl⟩ | ⟨e, rfl, l1, l2, q⟩
      · have bx : b = x := by
          have := b1 hf
          rw [h2, nI_eq (by omega) (by omega)] at this
          exact this.symm
        subst bx
        have ea := ea b hb; have er := er b hb; have ew := ew b hb; have ep := ep b hb; have ef := ef b hb
        refine ⟨fun z => ?_, fun z => ?_, fun z => ?_, fun z => ?_, fun z => ?_⟩
        · rw [if_pos ⟨z, rfl⟩] at ea; omega
        · rw [if_pos ⟨z, rfl⟩] at er; omega
        · rw [if_pos ⟨z, rfl⟩] at ew; omega
        · rw [if_pos ⟨z, rfl⟩] at ep; omega
        · rw [if_pos ⟨z, rfl⟩] at ef; omega
      · rw [(ps e l1 l2).2] at h2
        have o := r3 e f x (by omega) hx q h2
        have wb := wb x hx
        have ea := ea x hx; have er := er x hx; have ew := ew x hx; have ep := ep x hx; have ef := ef x hx
        refine ⟨fun z => ?_, fun z => ?_, fun z => ?_, fun z => ?_, fun z => ?_⟩
        · have o := o.1 z; rw [ea]; split <;> omega
        · have o := o.2.1 z; rw [er]; split <;> omega
        · have o := o.2.2.1 z; rw [ew]; split <;> omega
        · have o := o.2.2.2.1 z; rw [ep]; split <;> omega
        · have o := o.2.2.2.2 z; rw [ef]; split <;> omega
    · exact ⟨fun z => by omega, fun z => by omega, fun z => by omega, fun z => by omega, fun z => by omega⟩
  · rw [ea x hx]
    by_cases c : k = 0 ∧ x = b
    · rw [if_pos c, c.2]; exact new 0 (by decide) c.1
    · rw [if_neg c]; exact mv _ 0 x (by decide) (r4 x hx).1
  · rw [er x hx]
    by_cases c : k = 1 ∧ x = b
    · rw [if_pos c, c.2]; exact new 1 (by decide) c.1
    · rw [if_neg c]; exact mv _ 1 x (by decide) (r4 x hx).2.1
  · rw [ew x hx]
    by_cases c : k = 2 ∧ x = b
    · rw [if_pos c, c.2]; exact new 2 (by decide) c.1
    · rw [if_neg c]; exact mv _ 2 x (by decide) (r4 x hx).2.2.1
  · rw [ep x hx]
    by_cases c : k = 3 ∧ x = b
    · rw [if_pos c, c.2]; exact new 3 (by decide) c.1
    · rw [if_neg c]; exact mv _ 3 x (by decide) (r4 x hx).2.2.2.1
  · rw [ef x hx]
    by_cases c : k = 4 ∧ x = b
    · rw [if_pos c, c.2]; exact new 4 (by decide) c.1
    · rw [if_neg c]; exact mv _ 4 x (by decide) (r4 x hx).2.2.2.2
  · by_cases hf : f < 5
    · rcases ent d f hd hf h1 with ⟨rfl, rfl⟩ | ⟨e, rfl, l1, l2, q⟩
      · refine ⟨fun z => ?_, fun z => ?_, fun z => ?_⟩
        · rw [if_pos z] at y1; omega
        · rw [if_pos z] at y2; omega
        · left; rw [if_pos z] at x1; omega
      · have o := r5 e f (by omega) q
        refine ⟨fun z => ?_, fun z => ?_, fun z => ?_⟩
        · have o := o.1 z; rw [y1]; split <;> omega
        · have o := o.2.1 z; rw [y2]; split <;> omega
        · have o := o.2.2 z
          clear mv mw new newA ent r1 r3 r4 r5 r6 ea er ew ep ef wb ps
          by_cases k0 : k = 0
          · rw [if_pos k0] at x1 x2 x3 x4
            omega
          · rw [if_neg k0] at x1 x2 x3 x4
            omega
    · exact ⟨fun z => by omega, fun z => by omega, fun z => by omega⟩
  · rw [y1]
    by_cases c : k = 1
    · rw [if_pos c]; exact newA 1 (by decide) c
    · rw [if_neg c]; exact mw _ 1 (by decide) r6.1
  · rw [y2]
    by_cases c : k = 2
    · rw [if_pos c]; exact newA 2 (by decide) c
    · rw [if_neg c]; exact mw _ 2 (by decide) r6.2.1
  · rw [x1]
    by_cases c : k = 0
    · rw [if_pos c]; exact newA 0 (by decide) c
    · rw [if_neg c]; exact mw _ 0 (by decide) r6.2.2.1
  · rw [x2]
    by_cases c : k = 0
    · rw [if_pos c]; exact mw _ 0 (by decide) r6.2.2.1
    · rw [if_neg c]; exact mw _ 0 (by decide) r6.2.2.2.1
  · rw [x3]
    by_cases c : k = 0
    · rw [if_pos c]; exact mw _ 0 (by decide) r6.2.2.2.1
    · rw [if_neg c]; exact mw _ 0 (by decide) r6.2.2.2.2.1
  · rw [x4]
    by_cases c : k = 0
    · rw [if_pos c]; exact mw _ 0 (by decide) r6.2.2.2.2.1
    · rw [if_neg c]; exact mw _ 0 (by decide) r6.2.2.2.2.2
/-- a settled device -/
def mg_0 (s : sc_S) : Prop :=
  (sc_a1 s = -1000 ∧ sc_a2 s = -1000 ∧ sc_a3 s = -1000 ∧ sc_a4 s = -1000 ∧ sc_ar s = -1000 ∧ sc_aw s = -1000) ∧
  (∀ b, b < 8 → sc_la s b = -1000 ∧ sc_lr s b = -1000 ∧ sc_lw s b = -1000 ∧ sc_lp s b = -1000 ∧ sc_lf s b = -1000 ∧ sc_age s b = 0 ∧ sc_op s b = -1)
theorem mg_R0 {s : sc_S} {pk pb : Nat → Int32} (h : mg_0 s) (c : 0 ≤ sc_c s) (hp : ∀ d, d < 16 → pk d = -1) : mg_R s pk pb := by
  obtain ⟨⟨h1, h2, h3, h4, h5, h6⟩, hb⟩ := h
  have no : ∀ d f, d < 16 → pk d = nI f → f < 5 → False := by
    intro d f hd e hf
    rw [hp d hd] at e; exact nI_m1 (by omega) e
  refine ⟨fun d hd => .inl (hp d hd), hp 0 (by decide), fun d f b hd _ e _ => ⟨fun z => ?_, fun z => ?_, fun z => ?_, fun z => ?_, fun z => ?_⟩, fun b hb' => ?_, fun d f hd e => ⟨fun z => ?_, fun z => ?_, fun z => ?_⟩, ?_⟩
  · exact (no d f hd e (by omega)).elim
  · exact (no d f hd e (by omega)).elim
  · exact (no d f hd e (by omega)).elim
  · exact (no d f hd e (by omega)).elim
  · exact (no d f hd e (by omega)).elim
  · have := hb b hb'
    exact ⟨.inl (by omega), .inl (by omega), .inl (by omega), .inl (by omega), .inl (by omega)⟩
  · exact (no d f hd e (by omega)).elim
  · exact (no d f hd e (by omega)).elim
  · exact (no d f hd e (by omega)).elim
  · exact ⟨.inl (by omega), .inl (by omega), .inl (by omega), .inl (by omega), .inl (by omega), .inl (by omega)⟩
theorem mg_W0 {s : sc_S} (h : mg_0 s) (c : 0 ≤ sc_c s) (wp : 1 ≤ sc_rcd s ∧ sc_rcd s ≤ 3 ∧ 1 ≤ sc_rp s ∧ sc_rp s ≤ 3 ∧ 4 ≤ sc_rfc s ∧ sc_rfc s ≤ 8 ∧ 8 ≤ sc_cap s ∧ sc_cap s ≤ 32) (pd : ∀ q, q < 12 → sc_pd s q = 0) : sc_W s := by
  obtain ⟨⟨h1, h2, h3, h4, h5, h6⟩, hb⟩ := h
  refine ⟨wp, c, by omega, by omega, by omega, by omega, fun x hx => ?_, fun p q hp hq z => absurd (pd p hp) z⟩
  have := hb x hx
  omega
end
section
/-! The run of SERVICE clocks so far. -/
def sc_Pre (s : sc_S) : Prop :=
  ((∀ b, b < 8 → sc_age s b = 0) ∧ (∀ q, q < 12 → sc_bo s q ≤ sc_c s ∧ (sc_pd s q ≠ 0 → sc_bo s q = sc_c s))) ∨
  ∃ (B : Nat → sc_S) (m : Nat) (t : sc_S) (k b q : Nat), sc_Run B m ∧ sc_Ch (B m) k b q ∧ sc_Ef (B m) t k b q ∧ sc_ns t = sc_ns (B m) ∧ sc_Bi t s ∧ sc_dr s = sc_dr t
theorem pr_run {s s' : sc_S} (pre : sc_Pre s) (w : sc_W s') (v : sc_V s') (e : ∀ f i, (f ≠ 0 ∨ i ≠ 1) → s' f i = s f i) (dr : sc_Dr s')
    (mono : sc_dr s ≠ 0 → sc_dr s' = 0 → ∀ p, 6 ≤ p → p < 12 → sc_pd s p = 0) : ∃ (B : Nat → sc_S) (n : Nat), sc_Run B n ∧ B n = s' := by
  rcases pre with ⟨p1, p2⟩ | ⟨B, m, t, k, b, q, run, ch, ef, en, bi, ed⟩
  · refine ⟨fun _ => s', 0, ⟨w, v, dr, fun b hb => ?_, fun q hq => ?_, fun i hi => by omega⟩, rfl⟩
    · show s' 1 b = 0
      rw [e 1 b (.inl (by decide))]; exact p1 b hb
    · show s' 12 q ≤ s' 0 0 ∧ (s' 8 q ≠ 0 → s' 12 q = s' 0 0)
      rw [e 12 q (.inl (by decide)), e 0 0 (.inr (by decide)), e 8 q (.inl (by decide))]; exact p2 q hq
  · refine ⟨fun i => if i ≤ m then B i else s', m + 1, ⟨?_, ?_, ?_, ?_, ?_, fun i hi => ?_⟩, by show (if _ then _ else _) = _; rw [if_neg (by omega)]⟩
    · show sc_W (if 0 ≤ m then B 0 else s')
      rw [if_pos (by omega)]; exact run.1
    · show sc_V (if 0 ≤ m then B 0 else s')
      rw [if_pos (by omega)]; exact run.2.1
    · show sc_Dr (if 0 ≤ m then B 0 else s')
      rw [if_pos (by omega)]; exact run.2.2.1
    · show ∀ b, b < 8 → sc_age (if 0 ≤ m then B 0 else s') b = 0
      rw [if_pos (by omega)]; exact run.2.2.2.1
    · show ∀ q, q < 12 → sc_bo (if 0 ≤ m then B 0 else s') q ≤ sc_c (if 0 ≤ m then B 0 else s') ∧ (sc_pd (if 0 ≤ m then B 0 else s') q ≠ 0 → sc_bo (if 0 ≤ m then B 0 else s') q = sc_c (if 0 ≤ m then B 0 else s'))
      rw [if_pos (by omega)]; exact run.2.2.2.2.1
    · show sc_Nx (if i ≤ m then B i else s') (if i + 1 ≤ m then B (i + 1) else s')
      rw [if_pos (by omega)]
      by_cases l : i + 1 ≤ m
      · rw [if_pos l]; exact run.2.2.2.2.2 i (by omega)
      · rw [if_neg l]
        have : i = m := by omega
        subst this
        refine ⟨t, k, b, q, ch, ef, en, ⟨fun j h1 h8 => ?_, fun f x h1 h7 hx => ?_, ?_, fun p hp => ?_⟩, w, v, dr, fun d1 d2 p h6 h12 => ?_⟩
        · rw [e 0 j (.inr h1)]; exact bi.1 j h1 h8
        · rw [e f x (.inl (by omega))]; exact bi.2.1 f x h1 h7 hx
        · show t 0 8 ≤ s' 0 8
          rw [e 0 8 (.inr (by decide))]; exact bi.2.2.1
        · show (s' 8 p = t 8 p ∧ s' 9 p = t 9 p ∧ s' 10 p = t 10 p ∧ s' 11 p = t 11 p ∧ s' 12 p = t 12 p ∧ s' 13 p = t 13 p) ∨ (t 8 p = 0 ∧ t 12 p + 256 ≤ t 0 0 ∧ s' 12 p = t 0 0 ∧ t 0 8 ≤ s' 13 p)
          rw [e 8 p (.inl (by decide)), e 9 p (.inl (by decide)), e 10 p (.inl (by decide)), e 11 p (.inl (by decide)), e 12 p (.inl (by decide)), e 13 p (.inl (by decide))]
          exact bi.2.2.2 p hp
        · show s' 8 p = 0
          rw [e 8 p (.inl (by decide))]
          exact mono (by rw [ed]; exact d1) d2 p h6 h12
theorem sc_Bi_refl (t : sc_S) : sc_Bi t t := ⟨fun _ _ _ => rfl, fun _ _ _ _ _ => rfl, Int.le_refl _, fun _ _ => .inl ⟨rfl, rfl, rfl, rfl, rfl, rfl⟩⟩
theorem pr_tick {s s' t : sc_S} {k b q : Nat} (pre : sc_Pre s) (w : sc_W s') (v : sc_V s') (e : ∀ f i, (f ≠ 0 ∨ i ≠ 1) → s' f i = s f i) (dr : sc_Dr s')
    (mono : sc_dr s ≠ 0 → sc_dr s' = 0 → ∀ p, 6 ≤ p → p < 12 → sc_pd s p = 0) (ch : sc_Ch s' k b q) (ef : sc_Ef s' t k b q) (en : sc_ns t = sc_ns s') :
    sc_Pre t ∧ sc_W t ∧ sc_V t ∧ (∀ p, p < 12 → sc_pd t p ≠ 0 → sc_c t - sc_bo t p ≤ 255) ∧ (∀ x, x < 8 → sc_age t x ≤ 469) := by
  obtain ⟨B, n, run, rfl⟩ := pr_run pre w v e dr mono
  have lat := sc_LAT_t run ch ef en
  refine ⟨.inr ⟨B, n, t, k, b, q, run, ch, ef, en, sc_Bi_refl t, rfl⟩, sc_W_step w ef ch, fun p hp z => ?_, lat.1, lat.2⟩
  have p1 := (sc_Ef_pd ef hp z).1
  have v := v p hp p1
  have c1 := ef.1
  have r := ef.2.2.2.2.2.2.2.2.2.2.2.2.2.2.2.2.2.2.2.2.2 p hp
  constructor
  · rw [r.2.2.2, en]; exact v.1
  · rw [r.2.2.1, c1]; have := v.2; omega
theorem pr_birth {s u : sc_S} {q0 : Nat} (pre : sc_Pre s) (w : sc_W s) (v : sc_V s) (z : sc_pd s q0 = 0) (old : sc_bo s q0 + 256 ≤ sc_c s)
    (e0 : ∀ i, i ≠ 8 → u 0 i = s 0 i) (en : sc_ns u = sc_ns s + 1) (eb : ∀ f b, 1 ≤ f → f ≤ 7 → b < 8 → u f b = s f b)
    (eq : ∀ q, q < 12 → q ≠ q0 → sc_pd u q = sc_pd s q ∧ sc_ad u q = sc_ad s q ∧ sc_fu u q = sc_fu s q ∧ sc_fe u q = sc_fe s q ∧ sc_bo u q = sc_bo s q ∧ sc_se u q = sc_se s q)
    (bo : sc_bo u q0 = sc_c s) (se : sc_se u q0 = sc_ns s) : sc_Pre u ∧ sc_W u ∧ sc_V u := by
  have ec : sc_c u = sc_c s := e0 0 (by decide)
  have ed : sc_dr u = sc_dr s := e0 1 (by decide)
  refine ⟨?_, ?_, ?_⟩
  · rcases pre with ⟨p1, p2⟩ | ⟨B, m, t, k, b, q, run, ch, ef, en2, bi, edr⟩
    · refine .inl ⟨fun b hb => ?_, fun q hq => ?_⟩
      · rw [show sc_age u b = sc_age s b from eb 1 b (by decide) (by decide) hb]; exact p1 b hb
      · by_cases y : q = q0
        · rw [y, bo, ec]; exact ⟨Int.le_refl _, fun _ => rfl⟩
        · obtain ⟨a1, -, -, -, a5, -⟩ := eq q hq y
          rw [a1, a5, ec]; exact p2 q hq
    · refine .inr ⟨B, m, t, k, b, q, run, ch, ef, en2, ⟨fun i h1 h8 => ?_, fun f x h1 h7 hx => ?_, ?_, fun p hp => ?_⟩, ?_⟩
      · rw [e0 i h8]; exact bi.1 i h1 h8
      · rw [eb f x h1 h7 hx]; exact bi.2.1 f x h1 h7 hx
      · have := bi.2.2.1
        omega
      · have b1 := bi.2.2.2 p hp
        have c1 : sc_c s = sc_c t := bi.1 0 (by decide) (by decide)
        by_cases y : p = q0
        · subst y
          right
          rcases b1 with ⟨g1, g2, g3, g4, g5, g6⟩ | ⟨g1, g2, g3, g4⟩
          · refine ⟨by rw [← g1]; exact z, by rw [← g5, ← c1]; exact old, by rw [bo, c1], by rw [se]; exact bi.2.2.1⟩
          · exfalso; omega
        · obtain ⟨a1, a2, a3, a4, a5, a6⟩ := eq p hp y
          rw [a1, a2, a3, a4, a5, a6]; exact b1
      · rw [ed]; exact edr
  · obtain ⟨wp, w0, w1, w2, w3, w4, wb, wq⟩ := w
    refine ⟨?_, ?_, ?_, ?_, ?_, ?_, fun x hx => ?_, fun p q hp hq z1 z2 => ?_⟩
    · rw [show sc_rcd u = sc_rcd s from e0 10 (by decide), show sc_rp u = sc_rp s from e0 11 (by decide), show sc_rfc u = sc_rfc s from e0 12 (by decide), show sc_cap u = sc_cap s from e0 13 (by decide)]; exact wp
    · rw [ec]; exact w0
    · rw [ec, show sc_a1 u = sc_a1 s from e0 2 (by decide)]; exact w1
    · rw [ec, show sc_ar u = sc_ar s from e0 6 (by decide)]; exact w2
    · rw [ec, show sc_aw u = sc_aw s from e0 7 (by decide)]; exact w3
    · rw [show sc_a1 u = sc_a1 s from e0 2 (by decide), show sc_a2 u = sc_a2 s from e0 3 (by decide), show sc_a3 u = sc_a3 s from e0 4 (by decide), show sc_a4 u = sc_a4 s from e0 5 (by decide)]; exact w4
    · rw [ec, show sc_la u x = sc_la s x from eb 3 x (by decide) (by decide) hx, show sc_lr u x = sc_lr s x from eb 4 x (by decide) (by decide) hx, show sc_lw u x = sc_lw s x from eb 5 x (by decide) (by decide) hx, show sc_lp u x = sc_lp s x from eb 6 x (by decide) (by decide) hx, show sc_lf u x = sc_lf s x from eb 7 x (by decide) (by decide) hx, show sc_age u x = sc_age s x from eb 1 x (by decide) (by decide) hx, show sc_op u x = sc_op s x from eb 2 x (by decide) (by decide) hx, show sc_ar u = sc_ar s from e0 6 (by decide), show sc_aw u = sc_aw s from e0 7 (by decide), show sc_rfc u = sc_rfc s from e0 12 (by decide)]
      exact wb x hx
    · by_cases y1 : p = q0
      · by_cases y2 : q = q0
        · subst y1; subst y2; exact ⟨fun _ => rfl, fun l => by omega⟩
        · obtain ⟨a1, -, -, -, a5, a6⟩ := eq q hq y2
          rw [a1] at z2
          have := v q hq z2
          rw [y1, se, bo, a5, a6]
          exact ⟨fun l => by omega, fun l => by omega⟩
      · obtain ⟨c1, -, -, -, c5, c6⟩ := eq p hp y1
        rw [c1] at z1
        by_cases y2 : q = q0
        · have := v p hp z1
          rw [y2, se, bo, c5, c6]
          exact ⟨fun l => by omega, fun l => by omega⟩
        · obtain ⟨a1, -, -, -, a5, a6⟩ := eq q hq y2
          rw [a1] at z2
          rw [a5, a6, c5, c6]
          exact wq p q hp hq z1 z2
  · intro q hq z1
    by_cases y : q = q0
    · rw [y, se, bo, en, ec]; omega
    · obtain ⟨a1, -, -, -, a5, a6⟩ := eq q hq y
      rw [a1] at z1
      have := v q hq z1
      rw [a5, a6, en, ec]; omega
/-- ranges kept by a SERVICE clock -/
theorem rg_tick {s t : sc_S} {k b q : Nat} (w : sc_W s) (rg : sc_Rg s) (ef : sc_Ef s t k b q) (en : sc_ns t = sc_ns s) (hc : sc_c s < 1000000) (ag : ∀ x, x < 8 → sc_age t x ≤ 469) : sc_Rg t := by
  obtain ⟨-, w0, w1, w2, w3, w4, -, -⟩ := w
  obtain ⟨g1, g2, g3, g4⟩ := rg
  obtain ⟨e1, -, -, -, -, e6, e7, e8, e9, e10, e11, e12, e13, e14, e15, e16, e17, e18, e19, e20, e21, e22⟩ := ef
  refine ⟨⟨by omega, by omega, by omega, by omega, by omega⟩, ?_, fun x hx => ?_, fun p hp => ?_⟩
  · clear e13 e14 e15 e16 e17 e18 e19 e20 e21 e22 g3 g4
    by_cases z : k = 0
    · rw [if_pos z] at e7 e8 e9 e10
      rw [if_neg (by omega)] at e11 e12
      omega
    · rw [if_neg z] at e7 e8 e9 e10
      have : -1000 ≤ sc_ar t := by rw [e11]; split <;> omega
      have : -1000 ≤ sc_aw t := by rw [e12]; split <;> omega
      omega
  · have a := ag x hx
    have g := g3 x hx
    have e13 := e13 x hx; have e14 := e14 x hx; have e15 := e15 x hx; have e16 := e16 x hx; have e17 := e17 x hx; have e18 := e18 x hx; have e19 := e19 x hx
    have ro : 0 ≤ sc_ro s q ∧ sc_ro s q < 8 := sc_rA_in _
    refine ⟨?_, ?_, ?_, ?_, ?_, ?_, by omega, ?_, ?_⟩
    · rw [e15]; split <;> omega
    · rw [e16]; split <;> omega
    · rw [e17]; split <;> omega
    · rw [e18]; split <;> omega
    · rw [e19]; split <;> omega
    · rw [e13]; split <;> omega
    · rw [e14]; split
      · omega
      · split <;> omega
    · rw [e14]; split
      · omega
      · split <;> omega
  · have g := g4 p hp
    have e22 := e22 p hp
    refine ⟨?_, ?_, ?_, ?_, ?_, ?_⟩
    · rw [e20 p hp]; split
      · exact .inl rfl
      · exact g.1
    · rw [e21 p hp]; split
      · exact .inr rfl
      · exact g.2.1
    · rw [e22.1]; exact g.2.2.1
    · rw [e22.1]; exact g.2.2.2.1
    · rw [e22.2.2.2]; exact g.2.2.2.2.1
    · rw [e22.2.2.2]; exact g.2.2.2.2.2
end
section
/-! MANUAL mode: the component's walks. -/
theorem xb_place5 {r b c : Nat} (hr : r < 8) (hb : b < 8) (hc : c < 4) : ((nI r * 32 + nI b * 4) + nI c) &&& 255 = nI (r * 32 + b * 4 + c) := by
  rw [xb_place4, pk_andN (by omega) 8 (by decide)]
  congr 1
  omega
theorem xb_t32 {x : Int64} {v : Int32} (h : x.toInt = v.toInt) : x.toInt32 = v := by
  rw [← Int32.toInt_inj, Int64.toInt_toInt32, h]
  have h1 := v.toInt_lt
  have h2 := v.le_toInt
  exact Int.bmod_eq_of_le (by omega) (by omega)
section
variable {f_rcd f_rp f_rfc f_cap f_refreshSoon f_refreshMust f_drainMark f_requests f_allLanes f_slotFree f_slotWaiting f_slotReady f_actNext f_writeHead f_writeCount f_draining f_mode f_faults f_lost f_retiredReads : Int32} {f_never f_anyAct f_anyRead f_anyWrite f_nextSerial f_clock : Int64} {a_cells a_openRows a_ages a_reqAddress a_reqLanes a_reqData a_reqBase a_reqFetched a_reqPending a_slotStates : (Nat → Int32)} {a_lastAct a_lastRead a_lastWrite a_lastPre a_lastRef a_actTimes a_reqBorn a_reqSerial : (Nat → Int64)}
variable {bo : Nat → Int}
theorem xw_mclk {post : Int32 → SX → Prop} (h : post (nI (xg_n a_ages 8)) (f_rcd, f_rp, f_rfc, f_cap, f_refreshSoon, f_refreshMust, f_drainMark, f_requests, f_allLanes, f_slotFree, f_slotWaiting, f_slotReady, f_never, f_anyAct, f_anyRead, f_anyWrite, f_actNext, f_nextSerial, f_writeHead, f_writeCount, f_draining, f_clock + 1, f_mode, f_faults, f_lost + nI (xg_n a_ages 8), f_retiredReads, xg_c a_cells a_ages 8, a_openRows, xg_a a_ages 8, a_lastAct, a_lastRead, a_lastWrite, a_lastPre, a_lastRef, a_actTimes, a_reqAddress, a_reqLanes, a_reqData, a_reqBase, a_reqFetched, a_reqPending, a_reqBorn, a_reqSerial, a_slotStates)) : wpX_passManualClock post (f_rcd, f_rp, f_rfc, f_cap, f_refreshSoon, f_refreshMust, f_drainMark, f_requests, f_allLanes, f_slotFree, f_slotWaiting, f_slotReady, f_never, f_anyAct, f_anyRead, f_anyWrite, f_actNext, f_nextSerial, f_writeHead, f_writeCount, f_draining, f_clock, f_mode, f_faults, f_lost, f_retiredReads, a_cells, a_openRows, a_ages, a_lastAct, a_lastRead, a_lastWrite, a_lastPre, a_lastRef, a_actTimes, a_reqAddress, a_reqLanes, a_reqData, a_reqBase, a_reqFetched, a_reqPending, a_reqBorn, a_reqSerial, a_slotStates) := by
  unfold wpX_passManualClock
  exact nm_e (xw_age (nm_e h))
theorem xw_iss69 {post : Int32 → SX → Prop} {k b : Nat} {p2 p3 : Int32} (hk : k < 5) (hb : b < 8) (w : sc_W (sc_ab f_rcd f_rp f_rfc f_cap f_anyAct f_anyRead f_anyWrite f_actNext f_nextSerial f_draining f_clock a_openRows a_ages a_lastAct a_lastRead a_lastWrite a_lastPre a_lastRef a_actTimes a_reqAddress a_reqLanes a_reqFetched a_reqPending a_reqSerial bo)) (rg : sc_Rg (sc_ab f_rcd f_rp f_rfc f_cap f_anyAct f_anyRead f_anyWrite f_actNext f_nextSerial f_draining f_clock a_openRows a_ages a_lastAct a_lastRead a_lastWrite a_lastPre a_lastRef a_actTimes a_reqAddress a_reqLanes a_reqFetched a_reqPending a_reqSerial bo)) (an : vp_in f_actNext 4)
    (hc : (k = 1 ∨ k = 2) → ∃ c, c < 4 ∧ p2 = nI c)
    (h5 : ¬ (sc_op (sc_ab f_rcd f_rp f_rfc f_cap f_anyAct f_anyRead f_anyWrite f_actNext f_nextSerial f_draining f_clock a_openRows a_ages a_lastAct a_lastRead a_lastWrite a_lastPre a_lastRef a_actTimes a_reqAddress a_reqLanes a_reqFetched a_reqPending a_reqSerial bo) b < 0 ↔ (k = 0 ∨ k = 4)) → post (-5) (f_rcd, f_rp, f_rfc, f_cap, f_refreshSoon, f_refreshMust, f_drainMark, f_requests, f_allLanes, f_slotFree, f_slotWaiting, f_slotReady, f_never, f_anyAct, f_anyRead, f_anyWrite, f_actNext, f_nextSerial, f_writeHead, f_writeCount, f_draining, f_clock, f_mode, f_faults, f_lost, f_retiredReads, a_cells, a_openRows, a_ages, a_lastAct, a_lastRead, a_lastWrite, a_lastPre, a_lastRef, a_actTimes, a_reqAddress, a_reqLanes, a_reqData, a_reqBase, a_reqFetched, a_reqPending, a_reqBorn, a_reqSerial, a_slotStates))
    (h6 : (sc_op (sc_ab f_rcd f_rp f_rfc f_cap f_anyAct f_anyRead f_anyWrite f_actNext f_nextSerial f_draining f_clock a_openRows a_ages a_lastAct a_lastRead a_lastWrite a_lastPre a_lastRef a_actTimes a_reqAddress a_reqLanes a_reqFetched a_reqPending a_reqSerial bo) b < 0 ↔ (k = 0 ∨ k = 4)) → ¬ sc_P (sc_ab f_rcd f_rp f_rfc f_cap f_anyAct f_anyRead f_anyWrite f_actNext f_nextSerial f_draining f_clock a_openRows a_ages a_lastAct a_lastRead a_lastWrite a_lastPre a_lastRef a_actTimes a_reqAddress a_reqLanes a_reqFetched a_reqPending a_reqSerial bo) k b → post (-6) (f_rcd, f_rp, f_rfc, f_cap, f_refreshSoon, f_refreshMust, f_drainMark, f_requests, f_allLanes, f_slotFree, f_slotWaiting, f_slotReady, f_never, f_anyAct, f_anyRead, f_anyWrite, f_actNext, f_nextSerial, f_writeHead, f_writeCount, f_draining, f_clock, f_mode, f_faults, f_lost, f_retiredReads, a_cells, a_openRows, a_ages, a_lastAct, a_lastRead, a_lastWrite, a_lastPre, a_lastRef, a_actTimes, a_reqAddress, a_reqLanes, a_reqData, a_reqBase, a_reqFetched, a_reqPending, a_reqBorn, a_reqSerial, a_slotStates))
    (K0 : k = 0 → (sc_op (sc_ab f_rcd f_rp f_rfc f_cap f_anyAct f_anyRead f_anyWrite f_actNext f_nextSerial f_draining f_clock a_openRows a_ages a_lastAct a_lastRead a_lastWrite a_lastPre a_lastRef a_actTimes a_reqAddress a_reqLanes a_reqFetched a_reqPending a_reqSerial bo) b < 0 ↔ (k = 0 ∨ k = 4)) → sc_P (sc_ab f_rcd f_rp f_rfc f_cap f_anyAct f_anyRead f_anyWrite f_actNext f_nextSerial f_draining f_clock a_openRows a_ages a_lastAct a_lastRead a_lastWrite a_lastPre a_lastRef a_actTimes a_reqAddress a_reqLanes a_reqFetched a_reqPending a_reqSerial bo) k b → post 0 (f_rcd, f_rp, f_rfc, f_cap, f_refreshSoon, f_refreshMust, f_drainMark, f_requests, f_allLanes, f_slotFree, f_slotWaiting, f_slotReady, f_never, f_clock, f_anyRead, f_anyWrite, (f_actNext + 1) &&& 3, f_nextSerial, f_writeHead, f_writeCount, f_draining, f_clock + 1, f_mode, f_faults, f_lost + nI (xg_n a_ages 8), f_retiredReads, xg_c a_cells a_ages 8, upd a_openRows b p2, xg_a a_ages 8, vp_updL a_lastAct b f_clock, a_lastRead, a_lastWrite, a_lastPre, a_lastRef, vp_updL a_actTimes f_actNext.toNatClampNeg f_clock, a_reqAddress, a_reqLanes, a_reqData, a_reqBase, a_reqFetched, a_reqPending, a_reqBorn, a_reqSerial, a_slotStates))
    (K1 : ∀ r c, k = 1 → r < 8 → c < 4 → p2 = nI c → a_openRows b = nI r → (sc_op (sc_ab f_rcd f_rp f_rfc f_cap f_anyAct f_anyRead f_anyWrite f_actNext f_nextSerial f_draining f_clock a_openRows a_ages a_lastAct a_lastRead a_lastWrite a_lastPre a_lastRef a_actTimes a_reqAddress a_reqLanes a_reqFetched a_reqPending a_reqSerial bo) b < 0 ↔ (k = 0 ∨ k = 4)) → sc_P (sc_ab f_rcd f_rp f_rfc f_cap f_anyAct f_anyRead f_anyWrite f_actNext f_nextSerial f_draining f_clock a_openRows a_ages a_lastAct a_lastRead a_lastWrite a_lastPre a_lastRef a_actTimes a_reqAddress a_reqLanes a_reqFetched a_reqPending a_reqSerial bo) k b → post (a_cells (r * 32 + b * 4 + c)) (f_rcd, f_rp, f_rfc, f_cap, f_refreshSoon, f_refreshMust, f_drainMark, f_requests, f_allLanes, f_slotFree, f_slotWaiting, f_slotReady, f_never, f_anyAct, f_clock, f_anyWrite, f_actNext, f_nextSerial, f_writeHead, f_writeCount, f_draining, f_clock + 1, f_mode, f_faults, f_lost + nI (xg_n a_ages 8), f_retiredReads, xg_c a_cells a_ages 8, a_openRows, xg_a a_ages 8, a_lastAct, vp_updL a_lastRead b f_clock, a_lastWrite, a_lastPre, a_lastRef, a_actTimes, a_reqAddress, a_reqLanes, a_reqData, a_reqBase, a_reqFetched, a_reqPending, a_reqBorn, a_reqSerial, a_slotStates))
    (K2 : ∀ r c, k = 2 → r < 8 → c < 4 → p2 = nI c → a_openRows b = nI r → (sc_op (sc_ab f_rcd f_rp f_rfc f_cap f_anyAct f_anyRead f_anyWrite f_actNext f_nextSerial f_draining f_clock a_openRows a_ages a_lastAct a_lastRead a_lastWrite a_lastPre a_lastRef a_actTimes a_reqAddress a_reqLanes a_reqFetched a_reqPending a_reqSerial bo) b < 0 ↔ (k = 0 ∨ k = 4)) → sc_P (sc_ab f_rcd f_rp f_rfc f_cap f_anyAct f_anyRead f_anyWrite f_actNext f_nextSerial f_draining f_clock a_openRows a_ages a_lastAct a_lastRead a_lastWrite a_lastPre a_lastRef a_actTimes a_reqAddress a_reqLanes a_reqFetched a_reqPending a_reqSerial bo) k b → post 0 (f_rcd, f_rp, f_rfc, f_cap, f_refreshSoon, f_refreshMust, f_drainMark, f_requests, f_allLanes, f_slotFree, f_slotWaiting, f_slotReady, f_never, f_anyAct, f_anyRead, f_clock, f_actNext, f_nextSerial, f_writeHead, f_writeCount, f_draining, f_clock + 1, f_mode, f_faults, f_lost + nI (xg_n a_ages 8), f_retiredReads, xg_c (upd a_cells (r * 32 + b * 4 + c) (p3 &&& 65535)) a_ages 8, a_openRows, xg_a a_ages 8, a_lastAct, a_lastRead, vp_updL a_lastWrite b f_clock, a_lastPre, a_lastRef, a_actTimes, a_reqAddress, a_reqLanes, a_reqData, a_reqBase, a_reqFetched, a_reqPending, a_reqBorn, a_reqSerial, a_slotStates))
    (K3 : k = 3 → (sc_op (sc_ab f_rcd f_rp f_rfc f_cap f_anyAct f_anyRead f_anyWrite f_actNext f_nextSerial f_draining f_clock a_openRows a_ages a_lastAct a_lastRead a_lastWrite a_lastPre a_lastRef a_actTimes a_reqAddress a_reqLanes a_reqFetched a_reqPending a_reqSerial bo) b < 0 ↔ (k = 0 ∨ k = 4)) → sc_P (sc_ab f_rcd f_rp f_rfc f_cap f_anyAct f_anyRead f_anyWrite f_actNext f_nextSerial f_draining f_clock a_openRows a_ages a_lastAct a_lastRead a_lastWrite a_lastPre a_lastRef a_actTimes a_reqAddress a_reqLanes a_reqFetched a_reqPending a_reqSerial bo) k b → post 0 (f_rcd, f_rp, f_rfc, f_cap, f_refreshSoon, f_refreshMust, f_drainMark, f_requests, f_allLanes, f_slotFree, f_slotWaiting, f_slotReady, f_never, f_anyAct, f_anyRead, f_anyWrite, f_actNext, f_nextSerial, f_writeHead, f_writeCount, f_draining, f_clock + 1, f_mode, f_faults, f_lost + nI (xg_n a_ages 8), f_retiredReads, xg_c a_cells a_ages 8, upd a_openRows b (-1), xg_a a_ages 8, a_lastAct, a_lastRead, a_lastWrite, vp_updL a_lastPre b f_clock, a_lastRef, a_actTimes, a_reqAddress, a_reqLanes, a_reqData, a_reqBase, a_reqFetched, a_reqPending, a_reqBorn, a_reqSerial, a_slotStates))
    (K4 : k = 4 → (sc_op (sc_ab f_rcd f_rp f_rfc f_cap f_anyAct f_anyRead f_anyWrite f_actNext f_nextSerial f_draining f_clock a_openRows a_ages a_lastAct a_lastRead a_lastWrite a_lastPre a_lastRef a_actTimes a_reqAddress a_reqLanes a_reqFetched a_reqPending a_reqSerial bo) b < 0 ↔ (k = 0 ∨ k = 4)) → sc_P (sc_ab f_rcd f_rp f_rfc f_cap f_anyAct f_anyRead f_anyWrite f_actNext f_nextSerial f_draining f_clock a_openRows a_ages a_lastAct a_lastRead a_lastWrite a_lastPre a_lastRef a_actTimes a_reqAddress a_reqLanes a_reqFetched a_reqPending a_reqSerial bo) k b → post 0 (f_rcd, f_rp, f_rfc, f_cap, f_refreshSoon, f_refreshMust, f_drainMark, f_requests, f_allLanes, f_slotFree, f_slotWaiting, f_slotReady, f_never, f_anyAct, f_anyRead, f_anyWrite, f_actNext, f_nextSerial, f_writeHead, f_writeCount, f_draining, f_clock + 1, f_mode, f_faults, f_lost + nI (xg_n (upd a_ages b 0) 8), f_retiredReads, xg_c a_cells (upd a_ages b 0) 8, a_openRows, xg_a (upd a_ages b 0) 8, a_lastAct, a_lastRead, a_lastWrite, a_lastPre, vp_updL a_lastRef b f_clock, a_actTimes, a_reqAddress, a_reqLanes, a_reqData, a_reqBase, a_reqFetched, a_reqPending, a_reqBorn, a_reqSerial, a_slotStates)) :
    wX_issue_69 post (nI k) (nI b) p2 p3 f_rcd f_rp f_rfc f_cap f_refreshSoon f_refreshMust f_drainMark f_requests f_allLanes f_slotFree f_slotWaiting f_slotReady f_never f_anyAct f_anyRead f_anyWrite f_actNext f_nextSerial f_writeHead f_writeCount f_draining f_clock f_mode f_faults f_lost f_retiredReads a_cells a_openRows a_ages a_lastAct a_lastRead a_lastWrite a_lastPre a_lastRef a_actTimes a_reqAddress a_reqLanes a_reqData a_reqBase a_reqFetched a_reqPending a_reqBorn a_reqSerial a_slotStates := by
  have e : (nI b).toNatClampNeg = b := nI_clamp (by omega)
  have vb : vp_in (nI b) 8 := vp_in_nI hb (by omega)
  have gb := rg.2.2.1 b hb
  rw [ab_op] at gb
  unfold wX_issue_69
  refine xw_fits (bo := bo) hk hb (fun f => br_f (by decide) (xw_perm (bo := bo) hk hb w rg an (fun p => br_f (by decide) ?_) (fun p => br_t (by decide) (h6 f p)))) (fun f => br_t (by decide) (h5 f))
  have ck : k = 0 ∨ k = 1 ∨ k = 2 ∨ k = 3 ∨ k = 4 := by omega
  have row : ¬ (k = 0 ∨ k = 4) → ∃ r, r < 8 ∧ a_openRows b = nI r := by
    intro z
    have : ¬ sc_op (sc_ab f_rcd f_rp f_rfc f_cap f_anyAct f_anyRead f_anyWrite f_actNext f_nextSerial f_draining f_clock a_openRows a_ages a_lastAct a_lastRead a_lastWrite a_lastPre a_lastRef a_actTimes a_reqAddress a_reqLanes a_reqFetched a_reqPending a_reqSerial bo) b < 0 := fun y => z (f.mp y)
    rw [ab_op] at this
    exact ⟨(a_openRows b).toInt.toNat, by omega, xb_n (by omega)⟩
  unfold wpX_perform wpX_place
  simp only [e]
  rcases ck with rfl | rfl | rfl | rfl | rfl
  · exact br_t (by decide) ⟨vb, nm_e ⟨vb, nm_e ⟨an, nm_e (nm_e (xw_mclk (K0 rfl f p)))⟩⟩⟩
  · obtain ⟨r, hr, er⟩ := row (by decide)
    obtain ⟨c, lc, rfl⟩ := hc (.inl rfl)
    have em : (nI (r * 32 + b * 4 + c)).toNatClampNeg = r * 32 + b * 4 + c := nI_clamp (by omega)
    simp only [er, xb_place5 hr hb lc, em]
    exact br_f (by decide) (br_t (by decide) ⟨vb, vp_in_nI (by omega) (by omega), nm_e ⟨vb, nm_e (xw_mclk (K1 r c rfl hr lc rfl er f p))⟩⟩)
  · obtain ⟨r, hr, er⟩ := row (by decide)
    obtain ⟨c, lc, rfl⟩ := hc (.inr rfl)
    have em : (nI (r * 32 + b * 4 + c)).toNatClampNeg = r * 32 + b * 4 + c := nI_clamp (by omega)
    simp only [er, xb_place5 hr hb lc, em]
    exact br_f (by decide) (br_f (by decide) (br_t (by decide) ⟨vb, vp_in_nI (by omega) (by omega), nm_e ⟨vb, nm_e (xw_mclk (K2 r c rfl hr lc rfl er f p))⟩⟩))
  · exact br_f (by decide) (br_f (by decide) (br_f (by decide) (br_t (by decide) ⟨vb, nm_e ⟨vb, nm_e (xw_mclk (K3 rfl f p))⟩⟩)))
  · exact br_f (by decide) (br_f (by decide) (br_f (by decide) (br_f (by decide) ⟨vb, nm_e ⟨vb, nm_e (xw_mclk (K4 rfl f p))⟩⟩)))
theorem xw_iss {post : Int32 → SX → Prop} {k b : Nat} {p2 p3 : Int32} (hk : k < 5) (hb : b < 8) (hr : k = 0 → ∃ r, r < 8 ∧ p2 = nI r) (hc : (k = 1 ∨ k = 2) → ∃ c, c < 4 ∧ p2 = nI c)
    (h : wX_issue_69 post (nI k) (nI b) p2 p3 f_rcd f_rp f_rfc f_cap f_refreshSoon f_refreshMust f_drainMark f_requests f_allLanes f_slotFree f_slotWaiting f_slotReady f_never f_anyAct f_anyRead f_anyWrite f_actNext f_nextSerial f_writeHead f_writeCount f_draining f_clock 1 f_faults f_lost f_retiredReads a_cells a_openRows a_ages a_lastAct a_lastRead a_lastWrite a_lastPre a_lastRef a_actTimes a_reqAddress a_reqLanes a_reqData a_reqBase a_reqFetched a_reqPending a_reqBorn a_reqSerial a_slotStates) : wpX_issue post (f_rcd, f_rp, f_rfc, f_cap, f_refreshSoon, f_refreshMust, f_drainMark, f_requests, f_allLanes, f_slotFree, f_slotWaiting, f_slotReady, f_never, f_anyAct, f_anyRead, f_anyWrite, f_actNext, f_nextSerial, f_writeHead, f_writeCount, f_draining, f_clock, 1, f_faults, f_lost, f_retiredReads, a_cells, a_openRows, a_ages, a_lastAct, a_lastRead, a_lastWrite, a_lastPre, a_lastRef, a_actTimes, a_reqAddress, a_reqLanes, a_reqData, a_reqBase, a_reqFetched, a_reqPending, a_reqBorn, a_reqSerial, a_slotStates) (nI k) (nI b) p2 p3 := by
  unfold wpX_issue
  refine br_t rfl (br_f (nI_pos (by omega)) (br_f ?_ (br_f (nI_pos (by omega)) (br_t (nI_lt (b := 8) hb (by decide)) ?_))))
  · rw [show (4 : Int32) = nI 4 by decide, nI_ltI (by omega) (by omega)]; omega
  · have ck : k = 0 ∨ k = 1 ∨ k = 2 ∨ k = 3 ∨ k = 4 := by omega
    unfold wX_issue_48 wX_issue_58
    rcases ck with rfl | rfl | rfl | rfl | rfl
    · obtain ⟨r, lr, rfl⟩ := hr rfl
      exact br_t (by decide) (br_f (nI_pos (by omega)) (br_t (nI_lt (b := 8) lr (by decide)) (br_f (by decide) (br_f (by decide) h))))
    · obtain ⟨c, lc, rfl⟩ := hc (.inl rfl)
      exact br_f (by decide) (br_t (by decide) (br_f (nI_pos (by omega)) (br_t (nI_lt (b := 4) lc (by decide)) h)))
    · obtain ⟨c, lc, rfl⟩ := hc (.inr rfl)
      exact br_f (by decide) (br_f (by decide) (br_t (by decide) (br_f (nI_pos (by omega)) (br_t (nI_lt (b := 4) lc (by decide)) h))))
    · exact br_f (by decide) (br_f (by decide) (br_f (by decide) h))
    · exact br_f (by decide) (br_f (by decide) (br_f (by decide) h))
end
/-- an issue whose arguments are out of range -/
def is_B (p0 p1 p2 : Int32) : Prop := p0 < 0 ∨ 5 ≤ p0 ∨ p1 < 0 ∨ 8 ≤ p1 ∨ (p0 = 0 ∧ (p2 < 0 ∨ 8 ≤ p2)) ∨ ((p0 = 1 ∨ p0 = 2) ∧ (p2 < 0 ∨ 4 ≤ p2))
theorem is_ok {p0 p1 p2 : Int32} (h : ¬ is_B p0 p1 p2) : ∃ k b, k < 5 ∧ b < 8 ∧ p0 = nI k ∧ p1 = nI b ∧ (k = 0 → ∃ r, r < 8 ∧ p2 = nI r) ∧ ((k = 1 ∨ k = 2) → ∃ c, c < 4 ∧ p2 = nI c) := by
  unfold is_B at h
  rcases pk_ix p0 (n := 5) (by decide) with z | z | ⟨k, hk, rfl⟩
  · exact absurd (.inl z) h
  · exact absurd (.inr (.inl z)) h
  rcases pk_ix p1 (n := 8) (by decide) with z | z | ⟨b, hb, rfl⟩
  · exact absurd (.inr (.inr (.inl z))) h
  · exact absurd (.inr (.inr (.inr (.inl z)))) h
  refine ⟨k, b, hk, hb, rfl, rfl, fun k0 => ?_, fun k0 => ?_⟩
  · subst k0
    rcases pk_ix p2 (n := 8) (by decide) with z | z | z
    · exact absurd (.inr (.inr (.inr (.inr (.inl ⟨by decide, .inl z⟩))))) h
    · exact absurd (.inr (.inr (.inr (.inr (.inl ⟨by decide, .inr z⟩))))) h
    · exact z
  · have k1 : nI k = 1 ∨ nI k = 2 := by
      rcases k0 with rfl | rfl
      · exact .inl (by decide)
      · exact .inr (by decide)
    rcases pk_ix p2 (n := 4) (by decide) with z | z | z
    · exact absurd (.inr (.inr (.inr (.inr (.inr ⟨k1, .inl z⟩))))) h
    · exact absurd (.inr (.inr (.inr (.inr (.inr ⟨k1, .inr z⟩))))) h
    · exact z
theorem is_n {x : Int32} {n : Nat} {N : Int32} (e : N.toInt = n) (h : N ≤ x) : ¬ x < N := by
  rw [Int32.lt_iff_toInt_lt]
  rw [Int32.le_iff_toInt_le] at h
  omega
theorem is_c (x y : Int32) : x < y ∨ y ≤ x := by
  rw [Int32.lt_iff_toInt_lt, Int32.le_iff_toInt_le]; omega
section
variable {f_rcd f_rp f_rfc f_cap f_refreshSoon f_refreshMust f_drainMark f_requests f_allLanes f_slotFree f_slotWaiting f_slotReady f_actNext f_writeHead f_writeCount f_draining f_mode f_faults f_lost f_retiredReads : Int32} {f_never f_anyAct f_anyRead f_anyWrite f_nextSerial f_clock : Int64} {a_cells a_openRows a_ages a_reqAddress a_reqLanes a_reqData a_reqBase a_reqFetched a_reqPending a_slotStates : (Nat → Int32)} {a_lastAct a_lastRead a_lastWrite a_lastPre a_lastRef a_actTimes a_reqBorn a_reqSerial : (Nat → Int64)}
theorem xw_issB {post : Int32 → SX → Prop} {p0 p1 p2 p3 : Int32} (h : is_B p0 p1 p2) (K : post (-1) (f_rcd, f_rp, f_rfc, f_cap, f_refreshSoon, f_refreshMust, f_drainMark, f_requests, f_allLanes, f_slotFree, f_slotWaiting, f_slotReady, f_never, f_anyAct, f_anyRead, f_anyWrite, f_actNext, f_nextSerial, f_writeHead, f_writeCount, f_draining, f_clock, 1, f_faults, f_lost, f_retiredReads, a_cells, a_openRows, a_ages, a_lastAct, a_lastRead, a_lastWrite, a_lastPre, a_lastRef, a_actTimes, a_reqAddress, a_reqLanes, a_reqData, a_reqBase, a_reqFetched, a_reqPending, a_reqBorn, a_reqSerial, a_slotStates)) : wpX_issue post (f_rcd, f_rp, f_rfc, f_cap, f_refreshSoon, f_refreshMust, f_drainMark, f_requests, f_allLanes, f_slotFree, f_slotWaiting, f_slotReady, f_never, f_anyAct, f_anyRead, f_anyWrite, f_actNext, f_nextSerial, f_writeHead, f_writeCount, f_draining, f_clock, 1, f_faults, f_lost, f_retiredReads, a_cells, a_openRows, a_ages, a_lastAct, a_lastRead, a_lastWrite, a_lastPre, a_lastRef, a_actTimes, a_reqAddress, a_reqLanes, a_reqData, a_reqBase, a_reqFetched, a_reqPending, a_reqBorn, a_reqSerial, a_slotStates) p0 p1 p2 p3 := by
  unfold wpX_issue
  refine br_t rfl (br_c (fun _ => K) (fun n0 => br_c (fun _ => K) (fun n4 => br_c (fun _ => K) (fun b0 => br_c (fun b8 => ?_) (fun _ => K)))))
  have g5 : ¬ (5 : Int32) ≤ p0 := by
    intro z
    apply n4
    rw [Int32.le_iff_toInt_le] at z
    rw [Int32.lt_iff_toInt_lt]
    have e1 : (5 : Int32).toInt = 5 := by decide
    have e2 : (4 : Int32).toInt = 4 := by decide
    omega
  have g8 : ¬ (8 : Int32) ≤ p1 := fun z => is_n (n := 8) (by decide) z b8
  have h : (p0 = 0 ∧ (p2 < 0 ∨ 8 ≤ p2)) ∨ ((p0 = 1 ∨ p0 = 2) ∧ (p2 < 0 ∨ 4 ≤ p2)) := by
    rcases h with z | z | z | z | z
    · exact absurd z n0
    · exact absurd z g5
    · exact absurd z b0
    · exact absurd z g8
    · exact z
  unfold wX_issue_48 wX_issue_58
  rcases h with ⟨z, y⟩ | ⟨z, y⟩
  · refine br_t z ?_
    rcases y with y | y
    · exact br_t y K
    · exact br_c (fun _ => K) (fun _ => br_f (is_n (n := 8) (by decide) y) K)
  · have z0 : ¬ p0 = 0 := by
      rcases z with z | z
      · rw [z]; decide
      · rw [z]; decide
    have fin : ((p2 < 0 → post (-1) (f_rcd, f_rp, f_rfc, f_cap, f_refreshSoon, f_refreshMust, f_drainMark, f_requests, f_allLanes, f_slotFree, f_slotWaiting, f_slotReady, f_never, f_anyAct, f_anyRead, f_anyWrite, f_actNext, f_nextSerial, f_writeHead, f_writeCount, f_draining, f_clock, 1, f_faults, f_lost, f_retiredReads, a_cells, a_openRows, a_ages, a_lastAct, a_lastRead, a_lastWrite, a_lastPre, a_lastRef, a_actTimes, a_reqAddress, a_reqLanes, a_reqData, a_reqBase, a_reqFetched, a_reqPending, a_reqBorn, a_reqSerial, a_slotStates)) ∧ (¬ p2 < 0 → ((p2 < 4 → wX_issue_69 post p0 p1 p2 p3 f_rcd f_rp f_rfc f_cap f_refreshSoon f_refreshMust f_drainMark f_requests f_allLanes f_slotFree f_slotWaiting f_slotReady f_never f_anyAct f_anyRead f_anyWrite f_actNext f_nextSerial f_writeHead f_writeCount f_draining f_clock 1 f_faults f_lost f_retiredReads a_cells a_openRows a_ages a_lastAct a_lastRead a_lastWrite a_lastPre a_lastRef a_actTimes a_reqAddress a_reqLanes a_reqData a_reqBase a_reqFetched a_reqPending a_reqBorn a_reqSerial a_slotStates) ∧ (¬ p2 < 4 → post (-1) (f_rcd, f_rp, f_rfc, f_cap, f_refreshSoon, f_refreshMust, f_drainMark, f_requests, f_allLanes, f_slotFree, f_slotWaiting, f_slotReady, f_never, f_anyAct, f_anyRead, f_anyWrite, f_actNext, f_nextSerial, f_writeHead, f_writeCount, f_draining, f_clock, 1, f_faults, f_lost, f_retiredReads, a_cells, a_openRows, a_ages, a_lastAct, a_lastRead, a_lastWrite, a_lastPre, a_lastRef, a_actTimes, a_reqAddress, a_reqLanes, a_reqData, a_reqBase, a_reqFetched, a_reqPending, a_reqBorn, a_reqSerial, a_slotStates))))) := by
      rcases y with y | y
      · exact br_t y K
      · exact br_c (fun _ => K) (fun _ => br_f (is_n (n := 4) (by decide) y) K)
    refine br_f z0 (br_c (fun _ => fin) (fun n1 => br_t (z.resolve_left n1) fin))
end
end
section
/-! MANUAL mode: the reference's walks. -/
section
variable {y_rcd y_rp y_rfc y_cap y_busMode y_losses : Int32} {y_now : Int64} {b_words b_slotState b_slotLeft b_slotValue b_flight b_open b_ages b_pastKind b_pastBank : (Nat → Int32)}
theorem yw_iss198 {post : Int32 → SY → Prop} {k b : Nat} {x7 : Int32} (ag : ∀ x, x < 8 → 0 ≤ (b_ages x).toInt ∧ (b_ages x).toInt ≤ 511)
    (K : post x7 (y_rcd, y_rp, y_rfc, y_cap, y_now + 1, y_busMode, y_losses + nI (xg_n b_ages 8), xg_c b_words b_ages 8, b_slotState, b_slotLeft, b_slotValue, b_flight, b_open, xg_a b_ages 8, yq_0 (upd b_pastKind 0 (nI k)), yq_k (upd b_pastBank 0 (nI b)) 0)) : wY_issue_198 post (nI k) (nI b) x7 y_rcd y_rp y_rfc y_cap y_now y_busMode y_losses b_words b_slotState b_slotLeft b_slotValue b_flight b_open b_ages b_pastKind b_pastBank := by
  unfold wY_issue_198
  exact nm_e (nm_e (yw_man ag K))
theorem yw_iss70 {post : Int32 → SY → Prop} {s : sc_S} {k b : Nat} {p2 p3 : Int32} (W : sc_W s) (R : mg_R s b_pastKind b_pastBank) (e1 : y_rcd.toInt = sc_rcd s) (e2 : y_rp.toInt = sc_rp s) (e3 : y_rfc.toInt = sc_rfc s) (hk : k < 5) (hb : b < 8)
    (op : (b_open b).toInt = sc_op s b)
    (ag : ∀ x, x < 8 → 0 ≤ (b_ages x).toInt ∧ (b_ages x).toInt ≤ 511)
    (h5 : ¬ (sc_op s b < 0 ↔ (k = 0 ∨ k = 4)) → post (-5) (y_rcd, y_rp, y_rfc, y_cap, y_now, y_busMode, y_losses, b_words, b_slotState, b_slotLeft, b_slotValue, b_flight, b_open, b_ages, b_pastKind, b_pastBank))
    (h6 : (sc_op s b < 0 ↔ (k = 0 ∨ k = 4)) → ¬ sc_P s k b → post (-6) (y_rcd, y_rp, y_rfc, y_cap, y_now, y_busMode, y_losses, b_words, b_slotState, b_slotLeft, b_slotValue, b_flight, b_open, b_ages, b_pastKind, b_pastBank))
    (K0 : k = 0 → (sc_op s b < 0 ↔ (k = 0 ∨ k = 4)) → sc_P s k b → post 0 (y_rcd, y_rp, y_rfc, y_cap, y_now + 1, y_busMode, y_losses + nI (xg_n b_ages 8), xg_c b_words b_ages 8, b_slotState, b_slotLeft, b_slotValue, b_flight, upd b_open b p2, xg_a b_ages 8, yq_0 (upd b_pastKind 0 (nI k)), yq_k (upd b_pastBank 0 (nI b)) 0))
    (K1 : k = 1 → (sc_op s b < 0 ↔ (k = 0 ∨ k = 4)) → sc_P s k b → ∃ r c, r < 8 ∧ c < 4 ∧ p2 = nI c ∧ b_open b = nI r ∧ post (b_words (r * 32 + b * 4 + c)) (y_rcd, y_rp, y_rfc, y_cap, y_now + 1, y_busMode, y_losses + nI (xg_n b_ages 8), xg_c b_words b_ages 8, b_slotState, b_slotLeft, b_slotValue, b_flight, b_open, xg_a b_ages 8, yq_0 (upd b_pastKind 0 (nI k)), yq_k (upd b_pastBank 0 (nI b)) 0))
    (K2 : k = 2 → (sc_op s b < 0 ↔ (k = 0 ∨ k = 4)) → sc_P s k b → ∃ r c, r < 8 ∧ c < 4 ∧ p2 = nI c ∧ b_open b = nI r ∧ post 0 (y_rcd, y_rp, y_rfc, y_cap, y_now + 1, y_busMode, y_losses + nI (xg_n b_ages 8), xg_c (upd b_words (r * 32 + b * 4 + c) (p3 &&& 65535)) b_ages 8, b_slotState, b_slotLeft, b_slotValue, b_flight, b_open, xg_a b_ages 8, yq_0 (upd b_pastKind 0 (nI k)), yq_k (upd b_pastBank 0 (nI b)) 0))
    (K3 : k = 3 → (sc_op s b < 0 ↔ (k = 0 ∨ k = 4)) → sc_P s k b → post 0 (y_rcd, y_rp, y_rfc, y_cap, y_now + 1, y_busMode, y_losses + nI (xg_n b_ages 8), xg_c b_words b_ages 8, b_slotState, b_slotLeft, b_slotValue, b_flight, upd b_open b (-1), xg_a b_ages 8, yq_0 (upd b_pastKind 0 (nI k)), yq_k (upd b_pastBank 0 (nI b)) 0))
    (K4 : k = 4 → (sc_op s b < 0 ↔ (k = 0 ∨ k = 4)) → sc_P s k b → post 0 (y_rcd, y_rp, y_rfc, y_cap, y_now + 1, y_busMode, y_losses + nI (xg_n (upd b_ages b 0) 8), xg_c b_words (upd b_ages b 0) 8, b_slotState, b_slotLeft, b_slotValue, b_flight, b_open, xg_a (upd b_ages b 0) 8, yq_0 (upd b_pastKind 0 (nI k)), yq_k (upd b_pastBank 0 (nI b)) 0)) :
    wY_issue_70 post (nI k) (nI b) p2 p3 y_rcd y_rp y_rfc y_cap y_now y_busMode y_losses b_words b_slotState b_slotLeft b_slotValue b_flight b_open b_ages b_pastKind b_pastBank := by
  have e : (nI b).toNatClampNeg = b := nI_clamp (by omega)
  have vb : vp_in (nI b) 8 := vp_in_nI hb (by omega)
  have el := er_le (k := k) W hk hb
  have ep := sc_er_P (s := s) (b := b) hk
  unfold wY_issue_70
  refine yw_fits hk hb (fun f => br_f (by decide) (yw_early (w := 0) W R e1 e2 e3 hk hb (by omega) (fun p => br_f (by decide) (h6 (by rw [← op]; exact f) (fun y => ?_))) (fun p => br_t (by decide) ?_))) (fun f => br_t (by decide) (h5 (by rw [← op]; exact f)))
  · have := ep.mpr y; omega
  rw [op] at f
  have p : sc_P s k b := ep.mp (by omega)
  have ck : k = 0 ∨ k = 1 ∨ k = 2 ∨ k = 3 ∨ k = 4 := by omega
  unfold wY_issue_117 wY_issue_144 wY_issue_174 wY_issue_186
  simp only [e]
  rcases ck with rfl | rfl | rfl | rfl | rfl
  · exact br_t (by decide) ⟨vb, nm_e (br_f (by decide) (br_f (by decide) (br_f (by decide) (br_f (by decide) (yw_iss198 ag (K0 rfl f p))))))⟩
  · obtain ⟨r, c, hr, hc, rfl, er, K⟩ := K1 rfl f p
    have em : (nI (r * 32 + b * 4 + c)).toNatClampNeg = r * 32 + b * 4 + c := nI_clamp (by omega)
    simp only [er, xb_place4, em]
    exact br_f (by decide) (br_t (by decide) ⟨vb, vp_in_nI (by omega) (by omega), nm_e (br_f (by decide) (br_f (by decide) (br_f (by decide) (yw_iss198 ag K))))⟩)
  · obtain ⟨r, c, hr, hc, rfl, er, K⟩ := K2 rfl f p
    have em : (nI (r * 32 + b * 4 + c)).toNatClampNeg = r * 32 + b * 4 + c := nI_clamp (by omega)
    simp only [er, xb_place4, em]
    exact br_f (by decide) (br_f (by decide) (br_t (by decide) ⟨vb, vp_in_nI (by omega) (by omega), nm_e (br_f (by decide) (br_f (by decide) (yw_iss198 ag K)))⟩))
  · exact br_f (by decide) (br_f (by decide) (br_f (by decide) (br_t (by decide) ⟨vb, nm_e (br_f (by decide) (yw_iss198 ag (K3 rfl f p)))⟩)))
  · refine br_f (by decide) (br_f (by decide) (br_f (by decide) (br_f (by decide) (br_t (by decide) ⟨vb, nm_e (yw_iss198 (fun x hx => ?_) (K4 rfl f p))⟩))))
    have := ag x hx
    rw [xb_upd]
    have : (0 : Int32).toInt = 0 := by decide
    split <;> omega
theorem yw_iss {post : Int32 → SY → Prop} {k b : Nat} {p2 p3 : Int32} (hk : k < 5) (hb : b < 8) (hr : k = 0 → ∃ r, r < 8 ∧ p2 = nI r) (hc : (k = 1 ∨ k = 2) → ∃ c, c < 4 ∧ p2 = nI c)
    (h : wY_issue_70 post (nI k) (nI b) p2 p3 y_rcd y_rp y_rfc y_cap y_now 1 y_losses b_words b_slotState b_slotLeft b_slotValue b_flight b_open b_ages b_pastKind b_pastBank) : wpY_issue post (y_rcd, y_rp, y_rfc, y_cap, y_now, 1, y_losses, b_words, b_slotState, b_slotLeft, b_slotValue, b_flight, b_open, b_ages, b_pastKind, b_pastBank) (nI k) (nI b) p2 p3 := by
  unfold wpY_issue
  refine br_f (by decide) (br_f (nI_pos (by omega)) (br_t (nI_le (b := 4) (by omega) (by decide)) (br_f (nI_pos (by omega)) (br_t (nI_lt (b := 8) hb (by decide)) ?_))))
  have ck : k = 0 ∨ k = 1 ∨ k = 2 ∨ k = 3 ∨ k = 4 := by omega
  unfold wY_issue_49 wY_issue_59
  rcases ck with rfl | rfl | rfl | rfl | rfl
  · obtain ⟨r, lr, rfl⟩ := hr rfl
    exact br_t (by decide) (br_f (nI_pos (by omega)) (br_t (nI_lt (b := 8) lr (by decide)) (br_f (by decide) (br_f (by decide) h))))
  · obtain ⟨c, lc, rfl⟩ := hc (.inl rfl)
    exact br_f (by decide) (br_t (by decide) (br_f (nI_pos (by omega)) (br_t (nI_lt (b := 4) lc (by decide)) h)))
  · obtain ⟨c, lc, rfl⟩ := hc (.inr rfl)
    exact br_f (by decide) (br_f (by decide) (br_t (by decide) (br_f (nI_pos (by omega)) (br_t (nI_lt (b := 4) lc (by decide)) h))))
  · exact br_f (by decide) (br_f (by decide) (br_f (by decide) h))
  · exact br_f (by decide) (br_f (by decide) (br_f (by decide) h))
theorem yw_issB {post : Int32 → SY → Prop} {p0 p1 p2 p3 : Int32} (h : is_B p0 p1 p2) (K : post (-1) (y_rcd, y_rp, y_rfc, y_cap, y_now, 1, y_losses, b_words, b_slotState, b_slotLeft, b_slotValue, b_flight, b_open, b_ages, b_pastKind, b_pastBank)) : wpY_issue post (y_rcd, y_rp, y_rfc, y_cap, y_now, 1, y_losses, b_words, b_slotState, b_slotLeft, b_slotValue, b_flight, b_open, b_ages, b_pastKind, b_pastBank) p0 p1 p2 p3 := by
  unfold wpY_issue
  refine br_f (by decide) (br_c (fun _ => K) (fun n0 => br_c (fun n4 => br_c (fun _ => K) (fun b0 => br_c (fun b8 => ?_) (fun _ => K))) (fun _ => K)))
  have g5 : ¬ (5 : Int32) ≤ p0 := by
    intro z
    rw [Int32.le_iff_toInt_le] at z n4
    have e1 : (5 : Int32).toInt = 5 := by decide
    have e2 : (4 : Int32).toInt = 4 := by decide
    omega
  have g8 : ¬ (8 : Int32) ≤ p1 := fun z => is_n (n := 8) (by decide) z b8
  have h : (p0 = 0 ∧ (p2 < 0 ∨ 8 ≤ p2)) ∨ ((p0 = 1 ∨ p0 = 2) ∧ (p2 < 0 ∨ 4 ≤ p2)) := by
    rcases h with z | z | z | z | z
    · exact absurd z n0
    · exact absurd z g5
    · exact absurd z b0
    · exact absurd z g8
    · exact z
  unfold wY_issue_49 wY_issue_59
  rcases h with ⟨z, y⟩ | ⟨z, y⟩
  · refine br_t z ?_
    rcases y with y | y
    · exact br_t y K
    · exact br_c (fun _ => K) (fun _ => br_f (is_n (n := 8) (by decide) y) K)
  · have z0 : ¬ p0 = 0 := by
      rcases z with z | z
      · rw [z]; decide
      · rw [z]; decide
    have fin : ((p2 < 0 → post (-1) (y_rcd, y_rp, y_rfc, y_cap, y_now, 1, y_losses, b_words, b_slotState, b_slotLeft, b_slotValue, b_flight, b_open, b_ages, b_pastKind, b_pastBank)) ∧ (¬ p2 < 0 → ((p2 < 4 → wY_issue_70 post p0 p1 p2 p3 y_rcd y_rp y_rfc y_cap y_now 1 y_losses b_words b_slotState b_slotLeft b_slotValue b_flight b_open b_ages b_pastKind b_pastBank) ∧ (¬ p2 < 4 → post (-1) (y_rcd, y_rp, y_rfc, y_cap, y_now, 1, y_losses, b_words, b_slotState, b_slotLeft, b_slotValue, b_flight, b_open, b_ages, b_pastKind, b_pastBank))))) := by
      rcases y with y | y
      · exact br_t y K
      · exact br_c (fun _ => K) (fun _ => br_f (is_n (n := 4) (by decide) y) K)
    refine br_f z0 (br_c (fun _ => fin) (fun n1 => br_t (z.resolve_left n1) fin))
end
end
section
/-! Words by their bits. -/
def mrg (w l d : Int32) : Int32 := (w &&& (l ^^^ (-1))) ||| d
/-- no bit above the sixteenth -/
def h16 (x : Int32) : Prop := ∀ i, 16 ≤ i → bt x i = false
/-- bits of d lie in l -/
def bsub (d l : Int32) : Prop := ∀ i, bt d i = true → bt l i = true
theorem bt_mrg (w l d : Int32) {i : Nat} (hi : i < 32) : bt (mrg w l d) i = ((bt w i && !bt l i) || bt d i) := by
  unfold mrg
  rw [b_or, b_and, b_xor, b_m1 i hi]
  cases bt l i <;> cases bt w i <;> cases bt d i <;> rfl
theorem h16_ext {x y : Int32} (hx : h16 x) (hy : h16 y) (h : ∀ i, i < 16 → bt x i = bt y i) : x = y := by
  refine b_ext (fun i _ => ?_)
  by_cases l : i < 16
  · exact h i l
  · rw [hx i (by omega), hy i (by omega)]
theorem h16_mrg {w l d : Int32} (hw : h16 w) (hd : h16 d) : h16 (mrg w l d) := by
  intro i hi
  by_cases l32 : i < 32
  · rw [bt_mrg _ _ _ l32, hw i hi, hd i hi]; rfl
  · exact b_big (by omega)
theorem h16_0 : h16 0 := fun i _ => b_0 i
theorem h16_and {x y : Int32} (h : h16 y) : h16 (x &&& y) := by
  intro i hi
  rw [b_and, h i hi, Bool.and_false]
theorem h16_or {x y : Int32} (h1 : h16 x) (h2 : h16 y) : h16 (x ||| y) := by
  intro i hi
  rw [b_or, h1 i hi, h2 i hi]; rfl
theorem h16_m : h16 65535 := by
  intro i hi
  rw [b_65535]
  exact decide_eq_false (by omega)
theorem h16_nn {x : Int32} (h : h16 x) : ¬ x < 0 := by
  have e : x &&& 65535 = x := by
    refine b_ext (fun i hi => ?_)
    rw [b_and, b_65535]
    by_cases l : i < 16
    · rw [decide_eq_true l, Bool.and_true]
    · rw [h i (by omega), Bool.false_and]
  obtain ⟨j, hj, ej⟩ := pk_andE x (m := 65535) 16 (by decide)
  rw [e] at ej
  rw [ej]
  exact nI_pos (by omega)
theorem mrg_full {w d : Int32} (hw : h16 w) : mrg w 65535 d = d := by
  refine b_ext (fun i hi => ?_)
  rw [bt_mrg _ _ _ hi, b_65535]
  by_cases l : i < 16
  · rw [decide_eq_true l]; cases bt w i <;> cases bt d i <;> rfl
  · rw [hw i (by omega)]; cases bt d i <;> rfl
theorem mrg_abs {w lw dw ls ds : Int32} (h1 : bsub lw ls) (h2 : bsub dw lw) : mrg (mrg w lw dw) ls ds = mrg w ls ds := by
  refine b_ext (fun i hi => ?_)
  rw [bt_mrg _ _ _ hi, bt_mrg _ _ _ hi, bt_mrg _ _ _ hi]
  have h1 := h1 i
  have h2 := h2 i
  revert h1 h2
  cases bt w i <;> cases bt lw i <;> cases bt dw i <;> cases bt ls i <;> cases bt ds i <;> simp
theorem mrg_or (w L D l d : Int32) : mrg (mrg w L D) l d = mrg w (L ||| l) (mrg D l d) := by
  refine b_ext (fun i hi => ?_)
  rw [bt_mrg _ _ _ hi, bt_mrg _ _ _ hi, bt_mrg _ _ _ hi, bt_mrg _ _ _ hi, b_or]
  cases bt w i <;> cases bt L i <;> cases bt D i <;> cases bt l i <;> cases bt d i <;> rfl
theorem mrg_0 (w : Int32) : mrg w 0 0 = w := by
  refine b_ext (fun i hi => ?_)
  rw [bt_mrg _ _ _ hi, b_0]
  cases bt w i <;> rfl
theorem mrg_lane (w L l v : Int32) : mrg (mrg w L (v &&& L)) l (v &&& l) = mrg w (L ||| l) (v &&& (L ||| l)) := by
  refine b_ext (fun i hi => ?_)
  rw [bt_mrg _ _ _ hi, bt_mrg _ _ _ hi, bt_mrg _ _ _ hi, b_or, b_and, b_and, b_and, b_or]
  cases bt w i <;> cases bt L i <;> cases bt l i <;> cases bt v i <;> rfl
theorem bsub_and (v l : Int32) : bsub (v &&& l) l := by
  intro i h
  rw [b_and, Bool.and_eq_true] at h
  exact h.2
theorem bsub_or1 (x y : Int32) : bsub x (x ||| y) := by
  intro i h
  rw [b_or, h]; rfl
theorem bsub_or2 (x y : Int32) : bsub y (x ||| y) := by
  intro i h
  rw [b_or, h, Bool.or_true]
theorem bsub_tr {x y z : Int32} (h1 : bsub x y) (h2 : bsub y z) : bsub x z := fun i h => h2 i (h1 i h)
/-- lanes of a mask: the reference writes lane by lane, the component all at once -/
theorem wl_eq (w v m : Int32) : ∀ i, wl_w w v m i = mrg w (lo_m m i) (v &&& lo_m m i)
  | 0 => by
    show w = mrg w 0 (v &&& 0)
    rw [show v &&& (0 : Int32) = 0 from b_ext (fun i _ => by rw [b_and, b_0, Bool.and_false])]
    exact (mrg_0 w).symm
  | i + 1 => by
    have ih := wl_eq w v m i
    have c : (m >>> (nI i &&& 31)) &&& 1 = 0 ∨ (m >>> (nI i &&& 31)) &&& 1 = 1 := by
      obtain ⟨j, hj, e⟩ := pk_andE (m >>> (nI i &&& 31)) (m := 1) 1 (by decide)
      rw [e]
      have : j = 0 ∨ j = 1 := by omega
      rcases this with rfl | rfl
      · exact .inl (by decide)
      · exact .inr (by decide)
    show (if _ then _ else _) = mrg w (if _ then _ else _) (v &&& (if _ then _ else _))
    rcases c with c | c
    · rw [if_neg (by rw [c]; decide), if_pos c]; exact ih
    · rw [if_pos c, if_neg (by rw [c]; decide), ih]
      exact mrg_lane _ _ _ _
theorem h16_of {x : Int32} (h : x &&& 65535 = x) : h16 x := by rw [← h]; exact h16_and h16_m
theorem lo_h16 (m : Int32) : ∀ i, i ≤ 4 → h16 (lo_m m i)
  | 0, _ => h16_0
  | i + 1, hi => by
    have ih := lo_h16 m i (by omega)
    show h16 (if _ then _ else _)
    have l : h16 (lo_l i) := by
      have : i = 0 ∨ i = 1 ∨ i = 2 ∨ i = 3 := by omega
      rcases this with rfl | rfl | rfl | rfl <;> exact h16_of (by decide)
    split
    · exact ih
    · exact h16_or ih l
/-- a word with the writes over it, by lanes and data forwarded -/
theorem ov_fw (pd ad ln dt : Nat → Int32) (A w : Int32) (h : Nat) : ∀ i, ov_w pd ad ln dt A w h i = mrg w (fw_L pd ad ln A h i) (fw_D pd ad ln dt A h i)
  | 0 => (mrg_0 w).symm
  | i + 1 => by
    have ih := ov_fw pd ad ln dt A w h i
    show (if _ then _ else _) = mrg w (if _ then _ else _) (if _ then _ else _)
    by_cases c : pd (rk h i) ≠ 0 ∧ ad (rk h i) = A
    · rw [if_pos c, if_pos c, if_pos c, ih]; exact mrg_or _ _ _ _ _
    · rw [if_neg c, if_neg c, if_neg c]; exact ih
theorem fw_sub (pd ad ln : Nat → Int32) (A : Int32) (h : Nat) {j : Nat} (p : pd (rk h j) ≠ 0) (a : ad (rk h j) = A) : ∀ i, j < i → bsub (ln (rk h j)) (fw_L pd ad ln A h i)
  | 0, hj => by omega
  | i + 1, hj => by
    show bsub _ (if _ then _ else _)
    by_cases e : j = i
    · subst e
      rw [if_pos ⟨p, a⟩]; exact bsub_or2 _ _
    · have ih := fw_sub pd ad ln A h p a i (by omega)
      split
      · exact bsub_tr ih (bsub_or1 _ _)
      · exact ih
theorem ov_cg {pd ad ln dt pd' ad' ln' dt' : Nat → Int32} {A w w' : Int32} {h m : Nat} (ew : w = w') (e : ∀ i, i < m → ((pd (rk h i) ≠ 0 ∧ ad (rk h i) = A) ↔ (pd' (rk h i) ≠ 0 ∧ ad' (rk h i) = A)) ∧ ((pd (rk h i) ≠ 0 ∧ ad (rk h i) = A) → ln (rk h i) = ln' (rk h i) ∧ dt (rk h i) = dt' (rk h i))) :
    ∀ i, i ≤ m → ov_w pd ad ln dt A w h i = ov_w pd' ad' ln' dt' A w' h i
  | 0, _ => ew
  | i + 1, hi => by
    have ih := ov_cg ew e i (by omega)
    have e1 := e i (by omega)
    show (if _ then _ else _) = (if _ then _ else _)
    by_cases c : pd (rk h i) ≠ 0 ∧ ad (rk h i) = A
    · rw [if_pos c, if_pos (e1.1.mp c), ih, (e1.2 c).1, (e1.2 c).2]
    · rw [if_neg c, if_neg (fun z => c (e1.1.mpr z))]; exact ih
theorem fw_Lcg {pd ad ln pd' ad' ln' : Nat → Int32} {A : Int32} {h m : Nat} (e : ∀ i, i < m → pd (rk h i) = pd' (rk h i) ∧ ad (rk h i) = ad' (rk h i) ∧ ln (rk h i) = ln' (rk h i)) :
    ∀ i, i ≤ m → fw_L pd ad ln A h i = fw_L pd' ad' ln' A h i
  | 0, _ => rfl
  | i + 1, hi => by
    have ih := fw_Lcg (A := A) e i (by omega)
    obtain ⟨e1, e2, e3⟩ := e i (by omega)
    show (if _ then _ else _) = (if _ then _ else _)
    rw [ih, e1, e2, e3]
theorem fw_Dcg {pd ad ln dt pd' ad' ln' dt' : Nat → Int32} {A : Int32} {h m : Nat} (e : ∀ i, i < m → pd (rk h i) = pd' (rk h i) ∧ ad (rk h i) = ad' (rk h i) ∧ ln (rk h i) = ln' (rk h i) ∧ dt (rk h i) = dt' (rk h i)) :
    ∀ i, i ≤ m → fw_D pd ad ln dt A h i = fw_D pd' ad' ln' dt' A h i
  | 0, _ => rfl
  | i + 1, hi => by
    have ih := fw_Dcg (A := A) e i (by omega)
    obtain ⟨e1, e2, e3, e4⟩ := e i (by omega)
    show (if _ then _ else _) = (if _ then _ else _)
    rw [ih, e1, e2, e3, e4]
theorem ov_h16 {pd ad ln dt : Nat → Int32} {A w : Int32} {h m : Nat} (hw : h16 w) (hd : ∀ i, i < m → pd (rk h i) ≠ 0 → h16 (dt (rk h i))) : ∀ i, i ≤ m → h16 (ov_w pd ad ln dt A w h i)
  | 0, _ => hw
  | i + 1, hi => by
    have ih := ov_h16 (ad := ad) (ln := ln) (A := A) hw hd i (by omega)
    show h16 (if _ then _ else _)
    by_cases c : pd (rk h i) ≠ 0 ∧ ad (rk h i) = A
    · rw [if_pos c]; exact h16_mrg ih (hd i (by omega) c.1)
    · rw [if_neg c]; exact ih
end
section
/-! The requests' times: component and reference. -/
theorem rk_inj {h i j : Nat} (hi : i < 6) (hj : j < 6) (e : rk h i = rk h j) : i = j := by unfold rk at e; omega
theorem rk_sur {h q : Nat} (hh : h < 6) (h6 : 6 ≤ q) (h12 : q < 12) : ∃ i, i < 6 ∧ q = rk h i := ⟨(q - h) % 6, by omega, by unfold rk; omega⟩
theorem rk_sh {h j i : Nat} : rk ((h + j) % 6) i = rk h (j + i) := by unfold rk; omega
theorem rk_w {h i : Nat} : rk h (i + 6) = rk h i := by unfold rk; omega
def ub (f : Nat → Int) (k : Nat) (x : Int) : Nat → Int := fun j => if j = k then x else f j
theorem ub_s {f : Nat → Int} {k : Nat} {x : Int} : ub f k x k = x := if_pos rfl
theorem ub_n {f : Nat → Int} {k j : Nat} {x : Int} (h : j ≠ k) : ub f k x j = f j := if_neg h
/-- reads and ring: births, times left -/
def dt_T (clk : Int) (bo : Nat → Int) (hd m : Nat) (pd : Nat → Int32) (born : Nat → Int64) (st left fl : Nat → Int32) : Prop :=
  hd < 6 ∧ m ≤ 6 ∧
  (∀ s, s < 6 → (st s = 0 ∨ st s = 1 ∨ st s = 2) ∧ (st s = 1 → bo s = (born s).toInt ∧ bo s ≤ clk ∧ clk ≤ bo s + 255 ∧ (left s).toInt = 256 - (clk - bo s)) ∧ (st s ≠ 1 → pd s = 0 ∧ bo s + 256 ≤ clk)) ∧
  (∀ i, i < m → bo (rk hd i) = (born (rk hd i)).toInt ∧ bo (rk hd i) ≤ clk ∧ clk ≤ bo (rk hd i) + 255 ∧ (fl i).toInt = 256 - (clk - bo (rk hd i))) ∧
  (∀ i, m ≤ i → i < 6 → pd (rk hd i) = 0 ∧ bo (rk hd i) + 256 ≤ clk ∧ fl i = 0) ∧
  (∀ i j, i ≤ j → j < m → bo (rk hd i) ≤ bo (rk hd j))
theorem dt_act {clk : Int} {bo : Nat → Int} {hd m : Nat} {pd : Nat → Int32} {born : Nat → Int64} {st left fl : Nat → Int32} (D : dt_T clk bo hd m pd born st left fl) {q : Nat} (hq : q < 12) (p : pd q ≠ 0) :
    bo q = (born q).toInt ∧ bo q ≤ clk ∧ clk ≤ bo q + 255 ∧ (q < 6 → st q = 1) ∧ (6 ≤ q → ∃ i, i < m ∧ q = rk hd i) := by
  obtain ⟨d1, d2, d3, d4, d5, d6⟩ := D
  by_cases l : q < 6
  · have e := d3 q l
    have s1 : st q = 1 := Classical.byContradiction (fun z => p (e.2.2 z).1)
    have := e.2.1 s1
    exact ⟨this.1, this.2.1, this.2.2.1, fun _ => s1, fun z => by omega⟩
  · obtain ⟨i, hi, rfl⟩ := rk_sur d1 (by omega) hq
    have im : i < m := by
      apply Classical.byContradiction
      intro z
      exact p (d5 i (by omega) hi).1
    have := d4 i im
    exact ⟨this.1, this.2.1, this.2.2.1, fun z => absurd z l, fun _ => ⟨i, im, rfl⟩⟩
/-- the ring popped -/
theorem dt_pop {clk' : Int64} {c' : Int} {bo : Nat → Int} {born : Nat → Int64} : ∀ n h m (f : Nat → Int32), h < 6 → m ≤ 6 →
    (∀ i, i < m → (256 ≤ clk' - born (rk h i) ↔ 256 ≤ c' - bo (rk h i)) ∧ c' - bo (rk h i) ≤ 256 ∧ (f i).toInt = 256 - (c' - bo (rk h i))) → (∀ i, m ≤ i → i < 6 → f i = 0) →
    ∃ j, j ≤ m ∧ xr_w clk' born n (h, m) = ((h + j) % 6, m - j) ∧ (∀ i, i < j → 256 ≤ c' - bo (rk h i)) ∧
      (∀ i, i < m - j → (yp_it n f i).toInt = 256 - (c' - bo (rk h (j + i)))) ∧ (∀ i, m - j ≤ i → i < 6 → yp_it n f i = 0) ∧ (m ≤ n → j = m ∨ ¬ 256 ≤ c' - bo (rk h j))
  | 0, h, m, f, hh, hm, a, z => by
    refine ⟨0, by omega, ?_, fun i hi => by omega, fun i hi => ?_, fun i h1 h2 => z i (by omega) h2, fun l => .inl (by omega)⟩
    · show (h, m) = _
      rw [show (h + 0) % 6 = h by omega]; rfl
    · rw [Nat.zero_add]; exact (a i (by omega)).2.2
  | n + 1, h, m, f, hh, hm, a, z => by
    have e0 : rk h 0 = 6 + h := by unfold rk; omega
    have z0 : (0 : Int32).toInt = 0 := by decide
    by_cases m0 : m = 0
    · -- nothing in flight
      subst m0
      have e1 : xr_w clk' born (n + 1) (h, 0) = xr_w clk' born n (h, 0) := by
        show xr_w clk' born n (if _ then _ else _) = _
        rw [if_neg (fun y => absurd y.1 (by show ¬ 0 < 0; omega))]
      have e2 : yp_it (n + 1) f = yp_it n (yp_sh f) := by
        show yp_it n (if _ then _ else _) = _
        rw [if_pos (z 0 (by omega) (by omega))]
      rw [e1, e2]
      obtain ⟨j, j1, j2, j3, j4, j5, j6⟩ := dt_pop n h 0 (yp_sh f) hh (by omega) (fun i hi => by omega) (fun i _ hi => by
        unfold yp_sh
        by_cases l : i < 5
        · rw [if_pos l]; exact z (i + 1) (by omega) (by omega)
        · rw [if_neg l, if_pos (by omega)])
      exact ⟨j, j1, j2, j3, j4, j5, fun _ => .inl (by omega)⟩
    · have a0 := a 0 (by omega)
      by_cases due : 256 ≤ c' - bo (rk h 0)
      · have e1 : xr_w clk' born (n + 1) (h, m) = xr_w clk' born n ((h + 1) % 6, m - 1) := by
          show xr_w clk' born n (if _ then _ else _) = _
          rw [if_pos ⟨by show 0 < m; omega, by show 256 ≤ clk' - born (6 + h); rw [← e0]; exact a0.1.mpr due⟩]
        have f0 : f 0 = 0 := by rw [xb_0]; omega
        have e2 : yp_it (n + 1) f = yp_it n (yp_sh f) := by
          show yp_it n (if _ then _ else _) = _
          rw [if_pos f0]
        rw [e1, e2]
        obtain ⟨j, j1, j2, j3, j4, j5, j6⟩ := dt_pop n ((h + 1) % 6) (m - 1) (yp_sh f) (by omega) (by omega) (fun i hi => by
          rw [rk_sh, Nat.add_comm 1 i]
          have := a (i + 1) (by omega)
          refine ⟨this.1, this.2.1, ?_⟩
          unfold yp_sh
          rw [if_pos (by omega)]; exact this.2.2) (fun i h1 h2 => by
          unfold yp_sh
          by_cases l : i < 5
          · rw [if_pos l]; exact z (i + 1) (by omega) (by omega)
          · rw [if_neg l, if_pos (by omega)])
        refine ⟨j + 1, by omega, ?_, fun i hi => ?_, fun i hi => ?_, fun i h1 h2 => j5 i (by omega) h2, fun l => ?_⟩
        · rw [j2, show ((h + 1) % 6 + j) % 6 = (h + (j + 1)) % 6 by omega, show m - 1 - j = m - (j + 1) by omega]
        · by_cases i0 : i = 0
          · rw [i0]; exact due
          · have := j3 (i - 1) (by omega)
            rw [rk_sh, show 1 + (i - 1) = i by omega] at this
            exact this
        · have := j4 i (by omega)
          rw [rk_sh, show 1 + (j + i) = j + 1 + i by omega] at this
          exact this
        · rcases j6 (by omega) with y | y
          · exact .inl (by omega)
          · right
            rw [rk_sh, Nat.add_comm 1 j] at y
            exact y
      · have e1 : xr_w clk' born (n + 1) (h, m) = xr_w clk' born n (h, m) := by
          show xr_w clk' born n (if _ then _ else _) = _
          rw [if_neg (fun y => due (a0.1.mp (by rw [e0]; exact y.2)))]
        have f0 : ¬ f 0 = 0 := by rw [xb_0]; omega
        have e2 : yp_it (n + 1) f = yp_it n f := by
          show yp_it n (if _ then _ else _) = _
          rw [if_neg f0]
        rw [e1, e2]
        obtain ⟨j, j1, j2, j3, j4, j5, j6⟩ := dt_pop n h m f hh hm a z
        have j0 : j = 0 := by
          apply Classical.byContradiction
          intro y
          exact due (j3 0 (by omega))
        subst j0
        exact ⟨0, j1, j2, j3, j4, j5, fun _ => .inr due⟩
theorem xb_sub1 {x : Int32} (h : 1 ≤ x.toInt) : (x - 1).toInt = x.toInt - 1 := by
  have := x.toInt_lt
  rw [Int32.toInt_sub]
  have e : (1 : Int32).toInt = 1 := by decide
  rw [e]
  exact Int.bmod_eq_of_le (by omega) (by omega)
theorem xb_256 {x y : Int64} (h1 : 0 ≤ x.toInt) (h2 : x.toInt ≤ 1000001) (h3 : 0 ≤ y.toInt) (h4 : y.toInt ≤ 1000000) : (x - y < 256 ↔ x.toInt - y.toInt < 256) ∧ (256 ≤ x - y ↔ 256 ≤ x.toInt - y.toInt) := by
  have e : (256 : Int64).toInt = 256 := by decide
  have s : (x - y).toInt = x.toInt - y.toInt := xb_sub (by omega) (by omega) (by omega) (by omega)
  rw [Int64.lt_iff_toInt_lt, Int64.le_iff_toInt_le, s, e]
  exact ⟨Iff.rfl, Iff.rfl⟩
section
variable {clk clk' : Int64} {bo : Nat → Int} {hd m : Nat} {pd pd' : Nat → Int32} {born : Nat → Int64} {st left fl : Nat → Int32}
/-- a read's time is over for both at the same clock -/
theorem dt_due (D : dt_T clk.toInt bo hd m pd born st left fl) (c0 : 0 ≤ clk.toInt) (c1 : clk.toInt ≤ 1000000) (e : clk'.toInt = clk.toInt + 1) (hb : ∀ q, q < 12 → 0 ≤ (born q).toInt ∧ (born q).toInt ≤ 1000000) {s : Nat} (hs : s < 6) (h1 : st s = 1) :
    (¬ clk' - born s < 256 ↔ left s - 1 = 0) ∧ (¬ clk' - born s < 256 ↔ clk.toInt + 1 - bo s = 256) := by
  have d := (D.2.2.1 s hs).2.1 h1
  have b := hb s (by omega)
  have z := (xb_256 (x := clk') (y := born s) (by omega) (by omega) b.1 b.2).1
  have l := xb_sub1 (x := left s) (by omega)
  rw [z, xb_0, l]
  omega
theorem dt_st (D : dt_T clk.toInt bo hd m pd born st left fl) (c0 : 0 ≤ clk.toInt) (c1 : clk.toInt ≤ 1000000) (e : clk'.toInt = clk.toInt + 1) (hb : ∀ q, q < 12 → 0 ≤ (born q).toInt ∧ (born q).toInt ≤ 1000000) : yp_s st left 6 = xr_s clk' born st 6 := by
  funext s
  unfold yp_s xr_s
  by_cases l : s < 6 ∧ st s = 1
  · have d := (dt_due D c0 c1 e hb l.1 l.2).1
    by_cases y : left s - 1 = 0
    · rw [if_pos ⟨l.1, l.2, y⟩, if_pos ⟨l.1, l.2, d.mpr y⟩]
    · rw [if_neg (fun q => y q.2.2), if_neg (fun q => y (d.mp q.2.2))]
  · rw [if_neg (fun q => l ⟨q.1, q.2.1⟩), if_neg (fun q => l ⟨q.1, q.2.1⟩)]
theorem dt_n (D : dt_T clk.toInt bo hd m pd born st left fl) (c0 : 0 ≤ clk.toInt) (c1 : clk.toInt ≤ 1000000) (e : clk'.toInt = clk.toInt + 1) (hb : ∀ q, q < 12 → 0 ≤ (born q).toInt ∧ (born q).toInt ≤ 1000000) : ∀ j, j ≤ 6 → yp_n st left j = xr_n clk' born st j
  | 0, _ => rfl
  | j + 1, hj => by
    have ih := dt_n D c0 c1 e hb j (by omega)
    show (if _ then _ else _) = (if _ then _ else _)
    by_cases l : st j = 1
    · have d := (dt_due D c0 c1 e hb (s := j) (by omega) l).1
      by_cases y : left j - 1 = 0
      · rw [if_pos ⟨l, y⟩, if_pos ⟨l, d.mpr y⟩, ih]
      · rw [if_neg (fun q => y q.2), if_neg (fun q => y (d.mp q.2)), ih]
    · rw [if_neg (fun q => l q.1), if_neg (fun q => l q.1), ih]
/-- times behind a SERVICE clock -/
theorem dt_tick (D : dt_T clk.toInt bo hd m pd born st left fl) (c0 : 0 ≤ clk.toInt) (c1 : clk.toInt ≤ 1000000) (e : clk'.toInt = clk.toInt + 1) (hb : ∀ q, q < 12 → 0 ≤ (born q).toInt ∧ (born q).toInt ≤ 1000000)
    (mo : ∀ q, q < 12 → pd q = 0 → pd' q = 0) (late : ∀ q, q < 12 → pd' q ≠ 0 → clk'.toInt - bo q ≤ 255) :
    ∃ j, j ≤ m ∧ xr_w clk' born 6 (hd, m) = ((hd + j) % 6, m - j) ∧ (∀ i, i < j → pd' (rk hd i) = 0) ∧
      dt_T clk'.toInt bo ((hd + j) % 6) (m - j) pd' born (xr_s clk' born st 6) (yp_l st left 6) (yp_it 6 (yp_f fl 6)) := by
  obtain ⟨d1, d2, d3, d4, d5, d6⟩ := id D
  have fpos : ∀ i, i < m → ¬ fl i ≤ 0 ∧ (fl i - 1).toInt = (fl i).toInt - 1 := by
    intro i hi
    have := d4 i hi
    refine ⟨?_, xb_sub1 (by omega)⟩
    rw [Int32.le_iff_toInt_le]
    have : (0 : Int32).toInt = 0 := by decide
    omega
  obtain ⟨j, j1, j2, j3, j4, j5, j6⟩ := dt_pop (clk' := clk') (c' := clk'.toInt) (bo := bo) (born := born) 6 hd m (yp_f fl 6) d1 d2 (fun i hi => by
      have r := d4 i hi
      have ri := rk_in (h := hd) (i := i)
      have b := hb (rk hd i) ri.2
      refine ⟨?_, by omega, ?_⟩
      · rw [(xb_256 (x := clk') (y := born (rk hd i)) (by omega) (by omega) b.1 b.2).2, r.1]
      · unfold yp_f
        rw [if_pos ⟨by omega, (fpos i hi).1⟩, (fpos i hi).2]; omega) (fun i h1 h2 => by
      unfold yp_f
      have := (d5 i h1 h2).2.2
      rw [if_neg (fun q => q.2 (by rw [this]; decide)), this])
  have gone : ∀ i, i < j → pd' (rk hd i) = 0 := by
    intro i hi
    apply Classical.byContradiction
    intro y
    have := late (rk hd i) rk_in.2 y
    have := j3 i hi
    omega
  refine ⟨j, j1, j2, gone, Nat.mod_lt _ (by decide), by omega, fun s hs => ?_, fun i hi => ?_, fun i h1 h2 => ?_, fun i k h1 h2 => ?_⟩
  · have d := d3 s hs
    unfold xr_s yp_l
    by_cases l : st s = 1
    · have a := d.2.1 l
      have du := (dt_due D c0 c1 e hb hs l).2
      by_cases y : clk' - born s < 256
      · rw [if_neg (fun q => q.2.2 y), if_pos ⟨hs, l⟩]
        refine ⟨d.1, fun _ => ⟨a.1, by omega, ?_, ?_⟩, fun q => absurd l q⟩
        · have : ¬ clk.toInt + 1 - bo s = 256 := fun q => (du.mpr q) y
          omega
        · rw [xb_sub1 (by omega)]; omega
      · rw [if_pos ⟨hs, l, y⟩]
        refine ⟨.inr (.inr rfl), fun q => absurd q (by decide), fun _ => ⟨?_, ?_⟩⟩
        · apply Classical.byContradiction
          intro q
          have := late s (by omega) q
          have := du.mp y
          omega
        · have := du.mp y; omega
    · rw [if_neg (fun q => l q.2.1)]
      refine ⟨d.1, fun q => absurd q l, fun _ => ?_⟩
      have := d.2.2 l
      exact ⟨mo s (by omega) this.1, by omega⟩
  · rw [rk_sh]
    have r := d4 (j + i) (by omega)
    have r0 := d6 j (j + i) (by omega) (by omega)
    have nd : ¬ 256 ≤ clk'.toInt - bo (rk hd j) := by
      rcases j6 d2 with y | y
      · omega
      · exact y
    exact ⟨r.1, by omega, by omega, j4 i hi⟩
  · rw [rk_sh]
    by_cases l : j + i < 6
    · have r := d5 (j + i) (by omega) l
      exact ⟨mo _ rk_in.2 r.1, by omega, j5 i h1 h2⟩
    · have eq : rk hd (j + i) = rk hd (j + i - 6) := by
        rw [← rk_w (i := j + i - 6)]; congr 1; omega
      rw [eq]
      have := j3 (j + i - 6) (by omega)
      exact ⟨gone _ (by omega), by omega, j5 i h1 h2⟩
  · rw [rk_sh, rk_sh]
    exact d6 (j + i) (j + k) (by omega) (by omega)
/-- times behind a MANUAL clock -/
theorem dt_man (D : dt_T clk.toInt bo hd 0 pd born st left fl) (ns : ∀ s, s < 6 → st s ≠ 1) (e : clk.toInt ≤ clk'.toInt) : dt_T clk'.toInt bo hd 0 pd born st left fl := by
  obtain ⟨d1, d2, d3, d4, d5, d6⟩ := D
  refine ⟨d1, d2, fun s hs => ⟨(d3 s hs).1, fun z => absurd z (ns s hs), fun z => ?_⟩, fun i hi => by omega, fun i h1 h2 => ?_, fun i j h1 h2 => by omega⟩
  · have := (d3 s hs).2.2 z
    exact ⟨this.1, by omega⟩
  · have := d5 i h1 h2
    exact ⟨this.1, by omega, this.2.2⟩
/-- a new write -/
theorem dt_wr (D : dt_T clk.toInt bo hd m pd born st left fl) (hm : m < 6) : dt_T clk.toInt (ub bo (rk hd m) clk.toInt) hd (m + 1) (upd pd (rk hd m) 1) (vp_updL born (rk hd m) clk) st left (upd fl m 256) := by
  obtain ⟨d1, d2, d3, d4, d5, d6⟩ := D
  have rm := rk_in (h := hd) (i := m)
  refine ⟨d1, by omega, fun s hs => ?_, fun i hi => ?_, fun i h1 h2 => ?_, fun i j h1 h2 => ?_⟩
  · have n : s ≠ rk hd m := by omega
    rw [ub_n n, pk_uLn n, pk_un n]
    exact d3 s hs
  · by_cases im : i = m
    · subst im
      rw [ub_s, pk_uLs, pk_us]
      have : (256 : Int32).toInt = 256 := by decide
      exact ⟨rfl, by omega, by omega, by omega⟩
    · have n : rk hd i ≠ rk hd m := fun z => im (rk_inj (by omega) hm z)
      rw [ub_n n, pk_uLn n, pk_un im]
      exact d4 i (by omega)
  · have im : i ≠ m := by omega
    have n : rk hd i ≠ rk hd m := fun z => im (rk_inj h2 hm z)
    rw [ub_n n, pk_un n, pk_un im]
    exact d5 i (by omega) h2
  · by_cases jm : j = m
    · subst jm
      rw [ub_s (k := rk hd j)]
      by_cases im : i = j
      · rw [im, ub_s]; omega
      · rw [ub_n (fun z => im (rk_inj (by omega) hm z))]
        exact (d4 i (by omega)).2.1
    · rw [ub_n (j := rk hd j) (fun z => jm (rk_inj (by omega) hm z)), ub_n (j := rk hd i) (fun z => absurd (rk_inj (by omega) hm z) (by omega))]
      exact d6 i j h1 (by omega)
/-- a new read -/
theorem dt_rd {p : Int32} (D : dt_T clk.toInt bo hd m pd born st left fl) {s : Nat} (hs : s < 6) : dt_T clk.toInt (ub bo s clk.toInt) hd m (upd pd s p) (vp_updL born s clk) (upd st s 1) (upd left s 256) fl := by
  obtain ⟨d1, d2, d3, d4, d5, d6⟩ := D
  have rn : ∀ i, rk hd i ≠ s := fun i => by have := rk_in (h := hd) (i := i); omega
  refine ⟨d1, d2, fun x hx => ?_, fun i hi => ?_, fun i h1 h2 => ?_, fun i j h1 h2 => ?_⟩
  · by_cases e : x = s
    · subst e
      rw [pk_us, pk_us, pk_uLs, ub_s]
      have : (256 : Int32).toInt = 256 := by decide
      exact ⟨.inr (.inl rfl), fun _ => ⟨rfl, by omega, by omega, by omega⟩, fun z => absurd rfl z⟩
    · rw [pk_un e, pk_un e, pk_un e, pk_uLn e, ub_n e]
      exact d3 x hx
  · rw [ub_n (rn i), pk_uLn (rn i)]; exact d4 i hi
  · rw [ub_n (rn i), pk_un (rn i)]; exact d5 i h1 h2
  · rw [ub_n (rn i), ub_n (rn j)]; exact d6 i j h1 h2
/-- a value taken -/
theorem dt_tk (D : dt_T clk.toInt bo hd m pd born st left fl) {s : Nat} (hs : s < 6) (h2 : st s ≠ 1) : dt_T clk.toInt bo hd m pd born (upd st s 0) left fl := by
  obtain ⟨d1, d2, d3, d4, d5, d6⟩ := D
  refine ⟨d1, d2, fun x hx => ?_, d4, d5, d6⟩
  by_cases e : x = s
  · subst e
    rw [pk_us]
    exact ⟨.inl rfl, fun z => absurd z (by decide), fun _ => (d3 x hx).2.2 h2⟩
  · rw [pk_un e]; exact d3 x hx
end
end
section
/-! The words: component and reference. -/
def dt_V (hd m : Nat) (cells ad ln dt bs fe pd : Nat → Int32) (se : Nat → Int64) (st words val : Nat → Int32) : Prop :=
  (∀ s, s < 6 → (pd s ≠ 0 → val s = mrg (cells (ad s).toInt.toNat) (ln s) (dt s)) ∧ (pd s = 0 → st s ≠ 0 → dt s = val s) ∧ (st s ≠ 0 → h16 (val s))) ∧
  (∀ i j, i < j → j < m → pd (rk hd i) ≠ 0 → pd (rk hd j) ≠ 0 → (se (rk hd i)).toInt < (se (rk hd j)).toInt) ∧
  (∀ a, a < 256 → words a = ov_w pd ad ln dt (nI a) (cells a) hd m) ∧
  (∀ a, a < 256 → h16 (cells a)) ∧
  (∀ q, 6 ≤ q → q < 12 → pd q ≠ 0 → h16 (dt q) ∧ bsub (dt q) (ln q) ∧ h16 (bs q) ∧ (fe q ≠ 0 → bs q = cells (ad q).toInt.toNat)) ∧
  (∀ w s, 6 ≤ w → w < 12 → s < 6 → pd w ≠ 0 → pd s ≠ 0 → ad w = ad s → (se w).toInt < (se s).toInt → bsub (ln w) (ln s))
/-- who may read and write -/
theorem ch_data {s : sc_S} {k b q : Nat} (ch : sc_Ch s k b q) (hk : k = 1 ∨ k = 2) : q < 12 ∧ sc_pd s q ≠ 0 ∧ (k = 2 → 6 ≤ q ∧ (sc_fu s q ≠ 0 ∨ sc_fe s q ≠ 0) ∧ ∀ o, o < 12 → sc_pd s o ≠ 0 → sc_ad s o = sc_ad s q → sc_se s q ≤ sc_se s o) := by
  have sk : ∀ x, k = sc_sk s x → False := by
    intro x e
    unfold sc_sk at e
    split at e <;> omega
  have kd : k = sc_kd s q → k = 2 → 6 ≤ q ∧ (sc_fu s q ≠ 0 ∨ sc_fe s q ≠ 0) := by
    intro e k2
    rw [k2] at e
    unfold sc_kd at e
    split at e
    · omega
    · split at e
      · omega
      · split at e
        · omega
        · rename_i c
          refine ⟨?_, ?_⟩
          · apply Classical.byContradiction
            intro z; exact c (.inl (by omega))
          · apply Classical.byContradiction
            intro z
            exact c (.inr ⟨Classical.byContradiction (fun y => z (.inl y)), Classical.byContradiction (fun y => z (.inr y))⟩)
  rcases ch with c | c | c | c | c
  · exact (sk b c.2.1).elim
  · obtain ⟨-, g, e, -⟩ := c
    exact ⟨g.1, g.2.1, fun k2 => ⟨(kd e k2).1, (kd e k2).2, fun o ho p _ => g.2.2.1 o ho p⟩⟩
  · obtain ⟨-, -, hq, el, e, -⟩ := c
    refine ⟨hq, el.1, fun k2 => ⟨(kd e k2).1, (kd e k2).2, ?_⟩⟩
    rcases el.2 with y | y
    · have := (kd e k2).1; omega
    · exact y.2
  · exact (sk b c.2.2.2.1).elim
  · have := c.2.2.1; omega
section
variable {hd m : Nat} {cells ad ln dt bs fe pd : Nat → Int32} {se : Nat → Int64} {st words val : Nat → Int32}
/-- the words behind a command -/
theorem dv_cmd {cells' dt' bs' fe' pd' : Nat → Int32} {k q : Nat} (D : dt_V hd m cells ad ln dt bs fe pd se st words val) (hd6 : hd < 6) (hm : m ≤ 6)
    (ina : ∀ i, m ≤ i → i < 6 → pd (rk hd i) = 0)
    (ra : ∀ p, p < 12 → 0 ≤ (ad p).toInt ∧ (ad p).toInt < 256)
    (un : ∀ p r, p < 12 → r < 12 → pd p ≠ 0 → pd r ≠ 0 → (se p).toInt = (se r).toInt → p = r)
    (hp : ∀ p, p < 12 → pd' p = if (k = 1 ∧ p < 6 ∧ ad p = ad q) ∨ (k = 2 ∧ p = q) then 0 else pd p)
    (hf : ∀ p, p < 12 → fe' p ≠ 0 → fe p ≠ 0 ∨ ((k = 1 ∨ k = 2) ∧ 6 ≤ p ∧ ad p = ad q))
    (da : sc_Dat ad ln pd cells dt bs cells' dt' bs' pd' k q)
    (hq : (k = 1 ∨ k = 2) → q < 12 ∧ pd q ≠ 0)
    (h2 : k = 2 → 6 ≤ q ∧ (ln q = 65535 ∨ fe q ≠ 0) ∧ ∀ o, o < 12 → pd o ≠ 0 → ad o = ad q → (se q).toInt ≤ (se o).toInt) :
    dt_V hd m cells' ad ln dt' bs' fe' pd' se st words val := by
  obtain ⟨v1, v2, v3, v4, v5, v6⟩ := D
  obtain ⟨a1, a2, a3⟩ := da
  have pp : ∀ p, p < 12 → pd' p ≠ 0 → pd p ≠ 0 ∧ ¬ ((k = 1 ∧ p < 6 ∧ ad p = ad q) ∨ (k = 2 ∧ p = q)) := by
    intro p h y
    rw [hp p h] at y
    by_cases c : (k = 1 ∧ p < 6 ∧ ad p = ad q) ∨ (k = 2 ∧ p = q)
    · rw [if_pos c] at y; exact absurd rfl y
    · rw [if_neg c] at y; exact ⟨y, c⟩
  -- what a write puts
  have put : k = 2 → mrg (bs q) (ln q) (dt q) = mrg (cells (ad q).toInt.toNat) (ln q) (dt q) := by
    intro k2
    have q2 := h2 k2
    have q1 := hq (.inr k2)
    have v := v5 q q2.1 q1.1 q1.2
    have r := ra q q1.1
    rcases q2.2.1 with y | y
    · rw [y, mrg_full v.2.2.1, mrg_full (v4 _ (by omega))]
    · rw [v.2.2.2 y]
  have cq : k = 2 → cells' (ad q).toInt.toNat = mrg (cells (ad q).toInt.toNat) (ln q) (dt q) := by
    intro k2
    have q1 := hq (.inr k2)
    have r := ra q q1.1
    rw [a1 _ (by omega), if_pos ⟨k2, rfl⟩]; exact put k2
  have cn : ∀ a, a < 256 → ¬ (k = 2 ∧ a = (ad q).toInt.toNat) → cells' a = cells a := by
    intro a ha c
    rw [a1 a ha, if_neg c]
  have adn : ∀ p, p < 12 → q < 12 → (ad p).toInt.toNat = (ad q).toInt.toNat → ad p = ad q := by
    intro p h1 h2 e
    have r1 := ra p h1
    have r2 := ra q h2
    rw [xb_eq]; omega
  have c16 : ∀ a, a < 256 → h16 (cells' a) := by
    intro a ha
    by_cases c : k = 2 ∧ a = (ad q).toInt.toNat
    · rw [c.2, cq c.1]
      have q1 := hq (.inr c.1)
      exact h16_mrg (v4 _ (by rw [← c.2]; exact ha)) (v5 q (h2 c.1).1 q1.1 q1.2).1
    · rw [cn a ha c]; exact v4 a ha
  have dn : ∀ p, 6 ≤ p → p < 12 → dt' p = dt p := by
    intro p h6 h12
    rw [a2 p h12, if_neg (fun z => by omega)]
  refine ⟨fun s hs => ⟨fun y => ?_, fun y z => ?_, (v1 s hs).2.2⟩, fun i j h1 h2 y1 y2 => v2 i j h1 h2 (pp _ rk_in.2 y1).1 (pp _ rk_in.2 y2).1, fun a ha => ?_, c16, fun p h6 h12 y => ?_, fun w s h6 h12 hs y1 y2 => v6 w s h6 h12 hs (pp w h12 y1).1 (pp s (by omega) y2).1⟩
  · -- a read still pending
    have y := pp s (by omega) y
    have v := (v1 s hs).1 y.1
    have e : dt' s = dt s := by
      rw [a2 s (by omega), if_neg (fun z => y.2 (.inl ⟨z.1, hs, z.2.2.2⟩))]
    rw [e]
    have rs := ra s (by omega)
    by_cases c : k = 2 ∧ (ad s).toInt.toNat = (ad q).toInt.toNat
    · have q1 := hq (.inr c.1)
      have q2 := h2 c.1
      have es : ad s = ad q := adn s (by omega) q1.1 c.2
      rw [es, cq c.1]
      have l := q2.2.2 s (by omega) y.1 es
      have ne : (se q).toInt ≠ (se s).toInt := fun z => by have := un q s q1.1 (by omega) q1.2 y.1 z; omega
      rw [mrg_abs (v6 q s q2.1 q1.1 hs q1.2 y.1 es.symm (by omega)) (v5 q q2.1 q1.1 q1.2).2.1, ← es]
      exact v
    · rw [cn _ (by omega) c]; exact v
  · -- a read served
    by_cases p0 : pd s = 0
    · rw [a2 s (by omega), if_neg (fun x => x.2.2.1 p0)]
      exact (v1 s hs).2.1 p0 z
    · have c : k = 1 ∧ ad s = ad q := by
        rw [hp s (by omega)] at y
        by_cases c : (k = 1 ∧ s < 6 ∧ ad s = ad q) ∨ (k = 2 ∧ s = q)
        · rcases c with c | c
          · exact ⟨c.1, c.2.2⟩
          · have := (h2 c.1).1; omega
        · rw [if_neg c] at y; exact absurd y p0
      rw [a2 s (by omega), if_pos ⟨c.1, hs, p0, c.2⟩, (v1 s hs).1 p0, c.2]
      rfl
  · -- the reference's words
    rw [v3 a ha]
    by_cases k2 : k = 2
    · have q1 := hq (.inr k2)
      have q2 := h2 k2
      have rq := ra q q1.1
      obtain ⟨i0, hi6, eq⟩ := rk_sur (h := hd) hd6 q2.1 q1.1
      have hi0 : i0 < m := by
        apply Classical.byContradiction
        intro z
        apply q1.2
        rw [eq]; exact ina i0 (by omega) hi6
      have pn : ∀ i, i < m → i ≠ i0 → pd' (rk hd i) = pd (rk hd i) := by
        intro i hi ne
        rw [hp _ rk_in.2, if_neg]
        rintro (c | c)
        · omega
        · exact ne (rk_inj (by omega) hi6 (by rw [c.2, ← eq]))
      have pq : pd' q = 0 := by rw [hp q q1.1, if_pos (.inr ⟨k2, rfl⟩)]
      by_cases c : a = (ad q).toInt.toNat
      · have eA : nI a = ad q := by rw [xb_eq, nI_toInt (by omega)]; omega
        -- before q, at q, behind q
        have go : ∀ j, j ≤ m → (j ≤ i0 → ov_w pd ad ln dt (nI a) (cells a) hd j = cells a ∧ ov_w pd' ad ln dt' (nI a) (cells' a) hd j = cells' a) ∧ (i0 < j → ov_w pd ad ln dt (nI a) (cells a) hd j = ov_w pd' ad ln dt' (nI a) (cells' a) hd j) := by
          intro j
          induction j with
          | zero => intro _; exact ⟨fun _ => ⟨rfl, rfl⟩, fun z => by omega⟩
          | succ j ih =>
            intro hj
            have ih := ih (by omega)
            have s1 : ov_w pd ad ln dt (nI a) (cells a) hd (j + 1) = if pd (rk hd j) ≠ 0 ∧ ad (rk hd j) = nI a then mrg (ov_w pd ad ln dt (nI a) (cells a) hd j) (ln (rk hd j)) (dt (rk hd j)) else ov_w pd ad ln dt (nI a) (cells a) hd j := rfl
            have s2 : ov_w pd' ad ln dt' (nI a) (cells' a) hd (j + 1) = if pd' (rk hd j) ≠ 0 ∧ ad (rk hd j) = nI a then mrg (ov_w pd' ad ln dt' (nI a) (cells' a) hd j) (ln (rk hd j)) (dt' (rk hd j)) else ov_w pd' ad ln dt' (nI a) (cells' a) hd j := rfl
            rw [s1, s2]
            refine ⟨fun l => ?_, fun l => ?_⟩
            · have ne : ¬ (pd (rk hd j) ≠ 0 ∧ ad (rk hd j) = nI a) := by
                intro z
                have t1 := v2 j i0 (by omega) hi0 z.1 (by rw [← eq]; exact q1.2)
                have t2 := q2.2.2 (rk hd j) rk_in.2 z.1 (by rw [z.2, eA])
                rw [← eq] at t1
                omega
              rw [if_neg ne, if_neg (fun z => ne ⟨by rw [← pn j (by omega) (by omega)]; exact z.1, z.2⟩)]
              exact ih.1 (by omega)
            · by_cases e : j = i0
              · subst e
                have ih := ih.1 (Nat.le_refl _)
                rw [← eq, if_pos ⟨q1.2, eA.symm⟩, if_neg (fun z => z.1 pq), ih.1, ih.2, c, cq k2]
              · have ih := ih.2 (by omega)
                rw [pn j (by omega) e, dn _ rk_in.1 rk_in.2, ih]
        exact (go m (Nat.le_refl _)).2 hi0
      · refine ov_cg (cn a ha (fun z => c z.2)).symm (fun i hi => ⟨?_, fun _ => ⟨rfl, (dn _ rk_in.1 rk_in.2).symm⟩⟩) m (Nat.le_refl _)
        by_cases e : i = i0
        · subst e
          have ne : ¬ ad (rk hd i) = nI a := by
            intro z
            apply c
            rw [eq, z, nI_toInt (by omega)]; omega
          exact ⟨fun z => absurd z.2 ne, fun z => absurd z.2 ne⟩
        · rw [pn i hi e]
    · refine ov_cg (cn a ha (fun z => k2 z.1)).symm (fun i hi => ⟨?_, fun _ => ⟨rfl, (dn _ rk_in.1 rk_in.2).symm⟩⟩) m (Nat.le_refl _)
      have := rk_in (h := hd) (i := i)
      rw [hp _ rk_in.2, if_neg (by rintro (c | c); omega; exact k2 c.1)]
  · have y0 := pp p h12 y
    have v := v5 p h6 h12 y0.1
    rw [dn p h6 h12]
    have rp := ra p h12
    refine ⟨v.1, v.2.1, ?_, fun f => ?_⟩
    · rw [a3 p h12]
      split
      · rename_i c
        have rq := ra q (hq c.1).1
        exact c16 _ (by omega)
      · exact v.2.2.1
    · rw [a3 p h12]
      by_cases c : (k = 1 ∨ k = 2) ∧ 6 ≤ p ∧ pd' p ≠ 0 ∧ ad p = ad q
      · rw [if_pos c, c.2.2.2]
      · rw [if_neg c]
        have f0 : fe p ≠ 0 := by
          rcases hf p h12 f with z | z
          · exact z
          · exact absurd ⟨z.1, z.2.1, y, z.2.2⟩ c
        rw [v.2.2.2 f0, cn _ (by omega)]
        intro z
        exact c ⟨.inr z.1, h6, y, adn p h12 (hq (.inr z.1)).1 z.2⟩
/-- writes that left the ring -/
theorem dv_pop {j : Nat} (D : dt_V hd m cells ad ln dt bs fe pd se st words val) (hj : j ≤ m) (g : ∀ i, i < j → pd (rk hd i) = 0) {st' : Nat → Int32} (hs : ∀ s, s < 6 → st' s ≠ 0 → st s ≠ 0) :
    dt_V ((hd + j) % 6) (m - j) cells ad ln dt bs fe pd se st' words val := by
  obtain ⟨v1, v2, v3, v4, v5, v6⟩ := D
  refine ⟨fun s h => ⟨(v1 s h).1, fun y z => (v1 s h).2.1 y (hs s h z), fun z => (v1 s h).2.2 (hs s h z)⟩, fun i k h1 h2 => ?_, fun a ha => ?_, v4, v5, v6⟩
  · rw [rk_sh, rk_sh]; exact v2 (j + i) (j + k) (by omega) (by omega)
  · rw [v3 a ha]
    have lo : ∀ i, i ≤ j → ov_w pd ad ln dt (nI a) (cells a) hd i = cells a := by
      intro i
      induction i with
      | zero => intro _; rfl
      | succ i ih =>
        intro hi
        show (if _ then _ else _) = _
        rw [if_neg (fun z => z.1 (g i (by omega)))]; exact ih (by omega)
    have hi : ∀ i, ov_w pd ad ln dt (nI a) (cells a) hd (j + i) = ov_w pd ad ln dt (nI a) (cells a) ((hd + j) % 6) i := by
      intro i
      induction i with
      | zero => exact lo j (Nat.le_refl _)
      | succ i ih =>
        show (if pd (rk hd (j + i)) ≠ 0 ∧ ad (rk hd (j + i)) = nI a then mrg (ov_w pd ad ln dt (nI a) (cells a) hd (j + i)) (ln (rk hd (j + i))) (dt (rk hd (j + i))) else ov_w pd ad ln dt (nI a) (cells a) hd (j + i)) =
          (if pd (rk ((hd + j) % 6) i) ≠ 0 ∧ ad (rk ((hd + j) % 6) i) = nI a then mrg (ov_w pd ad ln dt (nI a) (cells a) ((hd + j) % 6) i) (ln (rk ((hd + j) % 6) i)) (dt (rk ((hd + j) % 6) i)) else ov_w pd ad ln dt (nI a) (cells a) ((hd + j) % 6) i)
        rw [rk_sh, ih]
    have := hi (m - j)
    rw [show j + (m - j) = m by omega] at this
    exact this
/-- a new write -/
theorem dv_wr {c : Int64} {a : Nat} {v mk : Int32} (D : dt_V hd m cells ad ln dt bs fe pd se st words val) (hm : m < 6) (ha : a < 256)
    (z : pd (rk hd m) = 0) (lt : ∀ q, q < 12 → pd q ≠ 0 → (se q).toInt < c.toInt) :
    dt_V hd (m + 1) cells (upd ad (rk hd m) (nI a)) (upd ln (rk hd m) (lo_m mk 4)) (upd dt (rk hd m) (v &&& lo_m mk 4)) (upd bs (rk hd m) 0) (upd fe (rk hd m) 0) (upd pd (rk hd m) 1) (vp_updL se (rk hd m) c) st (upd words a (wl_w (words a) v mk 4)) val := by
  obtain ⟨v1, v2, v3, v4, v5, v6⟩ := D
  have rm := rk_in (h := hd) (i := m)
  have sn : ∀ s, s < 6 → s ≠ rk hd m := fun s hs => by omega
  have rn : ∀ i, i < m → rk hd i ≠ rk hd m := fun i hi e => absurd (rk_inj (by omega) hm e) (by omega)
  refine ⟨fun s hs => ?_, fun i j h1 h2 y1 y2 => ?_, fun x hx => ?_, v4, fun q h6 h12 y => ?_, fun w s h6 h12 hs y1 y2 e l => ?_⟩
  · have n := sn s hs
    rw [pk_un n, pk_un n, pk_un n, pk_un n]; exact v1 s hs
  · have i1 := rn i (by omega)
    rw [pk_un i1] at y1
    rw [pk_uLn i1]
    by_cases e : j = m
    · subst e
      rw [pk_uLs]
      exact lt _ rk_in.2 y1
    · have j1 := rn j (by omega)
      rw [pk_un j1] at y2
      rw [pk_uLn j1]
      exact v2 i j h1 (by omega) y1 y2
  · have low : ov_w (upd pd (rk hd m) 1) (upd ad (rk hd m) (nI a)) (upd ln (rk hd m) (lo_m mk 4)) (upd dt (rk hd m) (v &&& lo_m mk 4)) (nI x) (cells x) hd m = words x := by
      rw [v3 x hx]
      refine ov_cg rfl (fun i hi => ?_) m (Nat.le_refl _)
      have n := rn i hi
      rw [pk_un n, pk_un n, pk_un n, pk_un n]
      exact ⟨Iff.rfl, fun _ => ⟨rfl, rfl⟩⟩
    show _ = if upd pd (rk hd m) 1 (rk hd m) ≠ 0 ∧ upd ad (rk hd m) (nI a) (rk hd m) = nI x then mrg (ov_w (upd pd (rk hd m) 1) (upd ad (rk hd m) (nI a)) (upd ln (rk hd m) (lo_m mk 4)) (upd dt (rk hd m) (v &&& lo_m mk 4)) (nI x) (cells x) hd m) (upd ln (rk hd m) (lo_m mk 4) (rk hd m)) (upd dt (rk hd m) (v &&& lo_m mk 4) (rk hd m)) else ov_w (upd pd (rk hd m) 1) (upd ad (rk hd m) (nI a)) (upd ln (rk hd m) (lo_m mk 4)) (upd dt (rk hd m) (v &&& lo_m mk 4)) (nI x) (cells x) hd m
    rw [low, pk_us, pk_us, pk_us, pk_us]
    by_cases e : x = a
    · subst e
      rw [if_pos ⟨by decide, rfl⟩, pk_us, wl_eq]
    · rw [if_neg (fun y => e ((nI_eq (by omega) (by omega)).mp y.2).symm), pk_un e]
  · by_cases e : q = rk hd m
    · subst e
      rw [pk_us, pk_us, pk_us, pk_us, pk_us]
      exact ⟨h16_and (lo_h16 mk 4 (by omega)), bsub_and _ _, h16_0, fun y => absurd rfl y⟩
    · rw [pk_un e] at y
      rw [pk_un e, pk_un e, pk_un e, pk_un e, pk_un e]
      exact v5 q h6 h12 y
  · have n := sn s hs
    rw [pk_un n] at y2
    rw [pk_un (j := s) n] at e
    rw [pk_uLn (j := s) n] at l
    rw [pk_un (j := s) n]
    by_cases f : w = rk hd m
    · subst f
      rw [pk_uLs] at l
      have := lt s (by omega) y2
      omega
    · rw [pk_un f] at y1 e
      rw [pk_uLn f] at l
      rw [pk_un f]
      exact v6 w s h6 h12 hs y1 y2 e l
/-- a new read -/
theorem dv_rd {c : Int64} {a s : Nat} {L d p : Int32} (D : dt_V hd m cells ad ln dt bs fe pd se st words val) (hd6 : hd < 6) (hm : m ≤ 6) (ha : a < 256) (hs : s < 6)
    (ina : ∀ i, m ≤ i → i < 6 → pd (rk hd i) = 0)
    (hL : L = fw_L pd ad ln (nI a) hd m) (hD : d = fw_D pd ad ln dt (nI a) hd m) (hp : p = 0 → L = 65535) (z : pd s = 0) :
    dt_V hd m cells (upd ad s (nI a)) (upd ln s L) (upd dt s d) bs fe (upd pd s p) (vp_updL se s c) (upd st s 1) words (upd val s (words a)) := by
  obtain ⟨v1, v2, v3, v4, v5, v6⟩ := D
  have rn : ∀ i, rk hd i ≠ s := fun i => by have := rk_in (h := hd) (i := i); omega
  have wa : words a = mrg (cells a) L d := by rw [v3 a ha, ov_fw, hL, hD]
  have na : (nI a).toInt.toNat = a := by rw [nI_toInt (by omega)]; omega
  refine ⟨fun x hx => ?_, fun i j h1 h2 => ?_, fun x hx => ?_, v4, fun q h6 h12 y => ?_, fun w x h6 h12 hx y1 y2 e l => ?_⟩
  · by_cases e : x = s
    · subst e
      rw [pk_us, pk_us, pk_us, pk_us, pk_us, pk_us, na]
      refine ⟨fun _ => wa, fun y _ => ?_, fun _ => ?_⟩
      · rw [wa, hp y, mrg_full (v4 a ha)]
      · rw [v3 a ha]
        refine ov_h16 (v4 a ha) (fun i hi y => (v5 _ rk_in.1 rk_in.2 y).1) m (Nat.le_refl _)
    · rw [pk_un e, pk_un e, pk_un e, pk_un e, pk_un e, pk_un e]
      exact v1 x hx
  · rw [pk_un (rn i), pk_un (rn j), pk_uLn (rn i), pk_uLn (rn j)]; exact v2 i j h1 h2
  · rw [v3 x hx]
    refine ov_cg rfl (fun i hi => ?_) m (Nat.le_refl _)
    rw [pk_un (rn i), pk_un (rn i), pk_un (rn i), pk_un (rn i)]
    exact ⟨Iff.rfl, fun _ => ⟨rfl, rfl⟩⟩
  · have n : q ≠ s := by omega
    rw [pk_un n] at y
    rw [pk_un n, pk_un n, pk_un n]
    exact v5 q h6 h12 y
  · have n : w ≠ s := by omega
    rw [pk_un n] at y1 e
    rw [pk_uLn (j := w) n] at l
    rw [pk_un (j := w) n]
    by_cases f : x = s
    · subst f
      rw [pk_us] at e
      rw [pk_us, hL]
      obtain ⟨i, hi, rfl⟩ := rk_sur (h := hd) hd6 h6 h12
      have im : i < m := by
        apply Classical.byContradiction
        intro q
        exact y1 (ina i (by omega) hi)
      exact fw_sub pd ad ln (nI a) hd y1 e m im
    · rw [pk_un f] at y2 e
      rw [pk_uLn f] at l
      rw [pk_un f]
      exact v6 w x h6 h12 hx y1 y2 e l
/-- a value taken -/
theorem dv_tk (D : dt_V hd m cells ad ln dt bs fe pd se st words val) {s : Nat} : dt_V hd m cells ad ln dt bs fe pd se (upd st s 0) words val := by
  obtain ⟨v1, v2, v3, v4, v5, v6⟩ := D
  refine ⟨fun x hx => ?_, v2, v3, v4, v5, v6⟩
  have v := v1 x hx
  by_cases e : x = s
  · subst e
    rw [pk_us]
    exact ⟨v.1, fun _ z => absurd rfl z, fun z => absurd rfl z⟩
  · rw [pk_un e]; exact v
/-- MANUAL mode: the words change together -/
theorem dv_man {cells' words' : Nat → Int32} (D : dt_V hd 0 cells ad ln dt bs fe pd se st words val) (np : ∀ q, q < 12 → pd q = 0) (e : ∀ a, a < 256 → words' a = cells' a) (h : ∀ a, a < 256 → h16 (cells' a)) : dt_V hd 0 cells' ad ln dt bs fe pd se st words' val := by
  obtain ⟨v1, v2, v3, v4, v5, v6⟩ := D
  exact ⟨fun s hs => ⟨fun z => absurd (np s (by omega)) z, (v1 s hs).2⟩, v2, e, h, fun q h6 h12 y => absurd (np q h12) y, v6⟩
theorem dv_eq (D : dt_V hd 0 cells ad ln dt bs fe pd se st words val) : ∀ a, a < 256 → words a = cells a := fun a ha => D.2.2.1 a ha
end
end
section
/-! The relation. -/
def i_K (N : Nat) (hd : Nat) (m : Nat) (f_rcd : Int32) (f_rp : Int32) (f_rfc : Int32) (f_cap : Int32) (f_anyAct : Int64) (f_anyRead : Int64) (f_anyWrite : Int64) (f_actNext : Int32) (f_nextSerial : Int64) (f_draining : Int32) (f_clock : Int64) (a_openRows : (Nat → Int32)) (a_ages : (Nat → Int32)) (a_lastAct : (Nat → Int64)) (a_lastRead : (Nat → Int64)) (a_lastWrite : (Nat → Int64)) (a_lastPre : (Nat → Int64)) (a_lastRef : (Nat → Int64)) (a_actTimes : (Nat → Int64)) (a_reqAddress : (Nat → Int32)) (a_reqLanes : (Nat → Int32)) (a_reqFetched : (Nat → Int32)) (a_reqPending : (Nat → Int32)) (a_reqSerial : (Nat → Int64)) (bo : (Nat → Int)) (a_cells : (Nat → Int32)) (a_reqData : (Nat → Int32)) (a_reqBase : (Nat → Int32)) (a_reqBorn : (Nat → Int64)) (a_slotStates : (Nat → Int32)) (b_words : (Nat → Int32)) (b_slotLeft : (Nat → Int32)) (b_slotValue : (Nat → Int32)) (b_flight : (Nat → Int32)) : Prop :=
  (0 ≤ f_clock.toInt ∧ f_clock.toInt ≤ N ∧ f_nextSerial.toInt ≤ N) ∧ vp_in f_actNext 4 ∧ (a_actTimes ((f_actNext.toNatClampNeg + 3) % 4)).toInt = f_anyAct.toInt ∧
  sc_W (sc_ab f_rcd f_rp f_rfc f_cap f_anyAct f_anyRead f_anyWrite f_actNext f_nextSerial f_draining f_clock a_openRows a_ages a_lastAct a_lastRead a_lastWrite a_lastPre a_lastRef a_actTimes a_reqAddress a_reqLanes a_reqFetched a_reqPending a_reqSerial bo) ∧ sc_Rg (sc_ab f_rcd f_rp f_rfc f_cap f_anyAct f_anyRead f_anyWrite f_actNext f_nextSerial f_draining f_clock a_openRows a_ages a_lastAct a_lastRead a_lastWrite a_lastPre a_lastRef a_actTimes a_reqAddress a_reqLanes a_reqFetched a_reqPending a_reqSerial bo) ∧ sc_V (sc_ab f_rcd f_rp f_rfc f_cap f_anyAct f_anyRead f_anyWrite f_actNext f_nextSerial f_draining f_clock a_openRows a_ages a_lastAct a_lastRead a_lastWrite a_lastPre a_lastRef a_actTimes a_reqAddress a_reqLanes a_reqFetched a_reqPending a_reqSerial bo) ∧ (∀ q, q < 12 → 0 ≤ (a_reqBorn q).toInt ∧ (a_reqBorn q).toInt ≤ f_clock.toInt) ∧
  dt_T f_clock.toInt bo hd m a_reqPending a_reqBorn a_slotStates b_slotLeft b_flight ∧
  dt_V hd m a_cells a_reqAddress a_reqLanes a_reqData a_reqBase a_reqFetched a_reqPending a_reqSerial a_slotStates b_words b_slotValue
def i_M (m : Nat) (b_open : (Nat → Int32)) (b_ages : (Nat → Int32)) (b_pastKind : (Nat → Int32)) (b_pastBank : (Nat → Int32)) (a_slotStates : (Nat → Int32)) (f_rcd : Int32) (f_rp : Int32) (f_rfc : Int32) (f_cap : Int32) (f_anyAct : Int64) (f_anyRead : Int64) (f_anyWrite : Int64) (f_actNext : Int32) (f_nextSerial : Int64) (f_draining : Int32) (f_clock : Int64) (a_openRows : (Nat → Int32)) (a_ages : (Nat → Int32)) (a_lastAct : (Nat → Int64)) (a_lastRead : (Nat → Int64)) (a_lastWrite : (Nat → Int64)) (a_lastPre : (Nat → Int64)) (a_lastRef : (Nat → Int64)) (a_actTimes : (Nat → Int64)) (a_reqAddress : (Nat → Int32)) (a_reqLanes : (Nat → Int32)) (a_reqFetched : (Nat → Int32)) (a_reqPending : (Nat → Int32)) (a_reqSerial : (Nat → Int64)) (bo : (Nat → Int)) : Prop :=
  (∀ s, s < 6 → a_slotStates s ≠ 1) ∧ m = 0 ∧ (∀ x, x < 8 → b_open x = a_openRows x ∧ b_ages x = a_ages x ∧ (a_ages x).toInt ≤ 511) ∧ mg_R (sc_ab f_rcd f_rp f_rfc f_cap f_anyAct f_anyRead f_anyWrite f_actNext f_nextSerial f_draining f_clock a_openRows a_ages a_lastAct a_lastRead a_lastWrite a_lastPre a_lastRef a_actTimes a_reqAddress a_reqLanes a_reqFetched a_reqPending a_reqSerial bo) b_pastKind b_pastBank
def i_RN (N : Nat) (u : SX) (v : SY) : Prop := match u, v with
  | (f_rcd, f_rp, f_rfc, f_cap, f_refreshSoon, f_refreshMust, f_drainMark, f_requests, f_allLanes, f_slotFree, f_slotWaiting, f_slotReady, f_never, f_anyAct, f_anyRead, f_anyWrite, f_actNext, f_nextSerial, f_writeHead, f_writeCount, f_draining, f_clock, f_mode, f_faults, f_lost, f_retiredReads, a_cells, a_openRows, a_ages, a_lastAct, a_lastRead, a_lastWrite, a_lastPre, a_lastRef, a_actTimes, a_reqAddress, a_reqLanes, a_reqData, a_reqBase, a_reqFetched, a_reqPending, a_reqBorn, a_reqSerial, a_slotStates), (y_rcd, y_rp, y_rfc, y_cap, y_now, y_busMode, y_losses, b_words, b_slotState, b_slotLeft, b_slotValue, b_flight, b_open, b_ages, b_pastKind, b_pastBank) => ∃ (hd m : Nat) (bo : Nat → Int), (y_rcd = f_rcd ∧ y_rp = f_rp ∧ y_rfc = f_rfc ∧ y_cap = f_cap ∧ y_now = f_clock ∧ y_busMode = f_mode ∧ y_losses = f_lost ∧ b_slotState = a_slotStates ∧ f_faults = 0 ∧ f_writeHead = nI hd ∧ f_writeCount = nI m) ∧
    (i_K N hd m f_rcd f_rp f_rfc f_cap f_anyAct f_anyRead f_anyWrite f_actNext f_nextSerial f_draining f_clock a_openRows a_ages a_lastAct a_lastRead a_lastWrite a_lastPre a_lastRef a_actTimes a_reqAddress a_reqLanes a_reqFetched a_reqPending a_reqSerial bo a_cells a_reqData a_reqBase a_reqBorn a_slotStates b_words b_slotLeft b_slotValue b_flight) ∧ ((f_mode = 0 ∧ sc_Pre (sc_ab f_rcd f_rp f_rfc f_cap f_anyAct f_anyRead f_anyWrite f_actNext f_nextSerial f_draining f_clock a_openRows a_ages a_lastAct a_lastRead a_lastWrite a_lastPre a_lastRef a_actTimes a_reqAddress a_reqLanes a_reqFetched a_reqPending a_reqSerial bo)) ∨ (f_mode = 1 ∧ (i_M m b_open b_ages b_pastKind b_pastBank a_slotStates f_rcd f_rp f_rfc f_cap f_anyAct f_anyRead f_anyWrite f_actNext f_nextSerial f_draining f_clock a_openRows a_ages a_lastAct a_lastRead a_lastWrite a_lastPre a_lastRef a_actTimes a_reqAddress a_reqLanes a_reqFetched a_reqPending a_reqSerial bo)))
def i_Rel (k : Nat) (u : SX) (v : SY) : Prop := i_RN (26 * k) u v
section
variable {f_rcd f_rp f_rfc f_cap f_refreshSoon f_refreshMust f_drainMark f_requests f_allLanes f_slotFree f_slotWaiting f_slotReady f_actNext f_writeHead f_writeCount f_draining f_mode f_faults f_lost f_retiredReads : Int32} {f_never f_anyAct f_anyRead f_anyWrite f_nextSerial f_clock : Int64} {a_cells a_openRows a_ages a_reqAddress a_reqLanes a_reqData a_reqBase a_reqFetched a_reqPending a_slotStates : (Nat → Int32)} {a_lastAct a_lastRead a_lastWrite a_lastPre a_lastRef a_actTimes a_reqBorn a_reqSerial : (Nat → Int64)}
variable {y_rcd y_rp y_rfc y_cap y_busMode y_losses : Int32} {y_now : Int64} {b_words b_slotState b_slotLeft b_slotValue b_flight b_open b_ages b_pastKind b_pastBank : (Nat → Int32)}
variable {N hd m : Nat} {bo : Nat → Int}
theorem i_inS (K : (i_K N hd m f_rcd f_rp f_rfc f_cap f_anyAct f_anyRead f_anyWrite f_actNext f_nextSerial f_draining f_clock a_openRows a_ages a_lastAct a_lastRead a_lastWrite a_lastPre a_lastRef a_actTimes a_reqAddress a_reqLanes a_reqFetched a_reqPending a_reqSerial bo a_cells a_reqData a_reqBase a_reqBorn a_slotStates b_words b_slotLeft b_slotValue b_flight)) (pre : sc_Pre (sc_ab f_rcd f_rp f_rfc f_cap f_anyAct f_anyRead f_anyWrite f_actNext f_nextSerial f_draining f_clock a_openRows a_ages a_lastAct a_lastRead a_lastWrite a_lastPre a_lastRef a_actTimes a_reqAddress a_reqLanes a_reqFetched a_reqPending a_reqSerial bo)) : i_RN N (f_rcd, f_rp, f_rfc, f_cap, f_refreshSoon, f_refreshMust, f_drainMark, f_requests, f_allLanes, f_slotFree, f_slotWaiting, f_slotReady, f_never, f_anyAct, f_anyRead, f_anyWrite, f_actNext, f_nextSerial, nI hd, nI m, f_draining, f_clock, 0, 0, f_lost, f_retiredReads, a_cells, a_openRows, a_ages, a_lastAct, a_lastRead, a_lastWrite, a_lastPre, a_lastRef, a_actTimes, a_reqAddress, a_reqLanes, a_reqData, a_reqBase, a_reqFetched, a_reqPending, a_reqBorn, a_reqSerial, a_slotStates) (f_rcd, f_rp, f_rfc, f_cap, f_clock, 0, f_lost, b_words, a_slotStates, b_slotLeft, b_slotValue, b_flight, b_open, b_ages, b_pastKind, b_pastBank) :=
  ⟨hd, m, bo, ⟨rfl, rfl, rfl, rfl, rfl, rfl, rfl, rfl, rfl, rfl, rfl⟩, K, .inl ⟨rfl, pre⟩⟩
theorem i_inM (K : (i_K N hd m f_rcd f_rp f_rfc f_cap f_anyAct f_anyRead f_anyWrite f_actNext f_nextSerial f_draining f_clock a_openRows a_ages a_lastAct a_lastRead a_lastWrite a_lastPre a_lastRef a_actTimes a_reqAddress a_reqLanes a_reqFetched a_reqPending a_reqSerial bo a_cells a_reqData a_reqBase a_reqBorn a_slotStates b_words b_slotLeft b_slotValue b_flight)) (M : (i_M m b_open b_ages b_pastKind b_pastBank a_slotStates f_rcd f_rp f_rfc f_cap f_anyAct f_anyRead f_anyWrite f_actNext f_nextSerial f_draining f_clock a_openRows a_ages a_lastAct a_lastRead a_lastWrite a_lastPre a_lastRef a_actTimes a_reqAddress a_reqLanes a_reqFetched a_reqPending a_reqSerial bo)) : i_RN N (f_rcd, f_rp, f_rfc, f_cap, f_refreshSoon, f_refreshMust, f_drainMark, f_requests, f_allLanes, f_slotFree, f_slotWaiting, f_slotReady, f_never, f_anyAct, f_anyRead, f_anyWrite, f_actNext, f_nextSerial, nI hd, nI m, f_draining, f_clock, 1, 0, f_lost, f_retiredReads, a_cells, a_openRows, a_ages, a_lastAct, a_lastRead, a_lastWrite, a_lastPre, a_lastRef, a_actTimes, a_reqAddress, a_reqLanes, a_reqData, a_reqBase, a_reqFetched, a_reqPending, a_reqBorn, a_reqSerial, a_slotStates) (f_rcd, f_rp, f_rfc, f_cap, f_clock, 1, f_lost, b_words, a_slotStates, b_slotLeft, b_slotValue, b_flight, b_open, b_ages, b_pastKind, b_pastBank) :=
  ⟨hd, m, bo, ⟨rfl, rfl, rfl, rfl, rfl, rfl, rfl, rfl, rfl, rfl, rfl⟩, K, .inr ⟨rfl, M⟩⟩
end
theorem i_cs {N : Nat} {P : SX → SY → Prop} {u : SX} {v : SY} (I : i_RN N u v)
    (hS : ∀ (hd m : Nat) (bo : Nat → Int) (f_rcd : Int32) (f_rp : Int32) (f_rfc : Int32) (f_cap : Int32) (f_refreshSoon : Int32) (f_refreshMust : Int32) (f_drainMark : Int32) (f_requests : Int32) (f_allLanes : Int32) (f_slotFree : Int32) (f_slotWaiting : Int32) (f_slotReady : Int32) (f_never : Int64) (f_anyAct : Int64) (f_anyRead : Int64) (f_anyWrite : Int64) (f_actNext : Int32) (f_nextSerial : Int64) (f_writeHead : Int32) (f_writeCount : Int32) (f_draining : Int32) (f_clock : Int64) (f_mode : Int32) (f_faults : Int32) (f_lost : Int32) (f_retiredReads : Int32) (a_cells : (Nat → Int32)) (a_openRows : (Nat → Int32)) (a_ages : (Nat → Int32)) (a_lastAct : (Nat → Int64)) (a_lastRead : (Nat → Int64)) (a_lastWrite : (Nat → Int64)) (a_lastPre : (Nat → Int64)) (a_lastRef : (Nat → Int64)) (a_actTimes : (Nat → Int64)) (a_reqAddress : (Nat → Int32)) (a_reqLanes : (Nat → Int32)) (a_reqData : (Nat → Int32)) (a_reqBase : (Nat → Int32)) (a_reqFetched : (Nat → Int32)) (a_reqPending : (Nat → Int32)) (a_reqBorn : (Nat → Int64)) (a_reqSerial : (Nat → Int64)) (a_slotStates : (Nat → Int32)) (y_rcd : Int32) (y_rp : Int32) (y_rfc : Int32) (y_cap : Int32) (y_now : Int64) (y_busMode : Int32) (y_losses : Int32) (b_words : (Nat → Int32)) (b_slotState : (Nat → Int32)) (b_slotLeft : (Nat → Int32)) (b_slotValue : (Nat → Int32)) (b_flight : (Nat → Int32)) (b_open : (Nat → Int32)) (b_ages : (Nat → Int32)) (b_pastKind : (Nat → Int32)) (b_pastBank : (Nat → Int32)), (i_K N hd m f_rcd f_rp f_rfc f_cap f_anyAct f_anyRead f_anyWrite f_actNext f_nextSerial f_draining f_clock a_openRows a_ages a_lastAct a_lastRead a_lastWrite a_lastPre a_lastRef a_actTimes a_reqAddress a_reqLanes a_reqFetched a_reqPending a_reqSerial bo a_cells a_reqData a_reqBase a_reqBorn a_slotStates b_words b_slotLeft b_slotValue b_flight) → sc_Pre (sc_ab f_rcd f_rp f_rfc f_cap f_anyAct f_anyRead f_anyWrite f_actNext f_nextSerial f_draining f_clock a_openRows a_ages a_lastAct a_lastRead a_lastWrite a_lastPre a_lastRef a_actTimes a_reqAddress a_reqLanes a_reqFetched a_reqPending a_reqSerial bo) → P (f_rcd, f_rp, f_rfc, f_cap, f_refreshSoon, f_refreshMust, f_drainMark, f_requests, f_allLanes, f_slotFree, f_slotWaiting, f_slotReady, f_never, f_anyAct, f_anyRead, f_anyWrite, f_actNext, f_nextSerial, nI hd, nI m, f_draining, f_clock, 0, 0, f_lost, f_retiredReads, a_cells, a_openRows, a_ages, a_lastAct, a_lastRead, a_lastWrite, a_lastPre, a_lastRef, a_actTimes, a_reqAddress, a_reqLanes, a_reqData, a_reqBase, a_reqFetched, a_reqPending, a_reqBorn, a_reqSerial, a_slotStates) (f_rcd, f_rp, f_rfc, f_cap, f_clock, 0, f_lost, b_words, a_slotStates, b_slotLeft, b_slotValue, b_flight, b_open, b_ages, b_pastKind, b_pastBank))
    (hM : ∀ (hd m : Nat) (bo : Nat → Int) (f_rcd : Int32) (f_rp : Int32) (f_rfc : Int32) (f_cap : Int32) (f_refreshSoon : Int32) (f_refreshMust : Int32) (f_drainMark : Int32) (f_requests : Int32) (f_allLanes : Int32) (f_slotFree : Int32) (f_slotWaiting : Int32) (f_slotReady : Int32) (f_never : Int64) (f_anyAct : Int64) (f_anyRead : Int64) (f_anyWrite : Int64) (f_actNext : Int32) (f_nextSerial : Int64) (f_writeHead : Int32) (f_writeCount : Int32) (f_draining : Int32) (f_clock : Int64) (f_mode : Int32) (f_faults : Int32) (f_lost : Int32) (f_retiredReads : Int32) (a_cells : (Nat → Int32)) (a_openRows : (Nat → Int32)) (a_ages : (Nat → Int32)) (a_lastAct : (Nat → Int64)) (a_lastRead : (Nat → Int64)) (a_lastWrite : (Nat → Int64)) (a_lastPre : (Nat → Int64)) (a_lastRef : (Nat → Int64)) (a_actTimes : (Nat → Int64)) (a_reqAddress : (Nat → Int32)) (a_reqLanes : (Nat → Int32)) (a_reqData : (Nat → Int32)) (a_reqBase : (Nat → Int32)) (a_reqFetched : (Nat → Int32)) (a_reqPending : (Nat → Int32)) (a_reqBorn : (Nat → Int64)) (a_reqSerial : (Nat → Int64)) (a_slotStates : (Nat → Int32)) (y_rcd : Int32) (y_rp : Int32) (y_rfc : Int32) (y_cap : Int32) (y_now : Int64) (y_busMode : Int32) (y_losses : Int32) (b_words : (Nat → Int32)) (b_slotState : (Nat → Int32)) (b_slotLeft : (Nat → Int32)) (b_slotValue : (Nat → Int32)) (b_flight : (Nat → Int32)) (b_open : (Nat → Int32)) (b_ages : (Nat → Int32)) (b_pastKind : (Nat → Int32)) (b_pastBank : (Nat → Int32)), (i_K N hd m f_rcd f_rp f_rfc f_cap f_anyAct f_anyRead f_anyWrite f_actNext f_nextSerial f_draining f_clock a_openRows a_ages a_lastAct a_lastRead a_lastWrite a_lastPre a_lastRef a_actTimes a_reqAddress a_reqLanes a_reqFetched a_reqPending a_reqSerial bo a_cells a_reqData a_reqBase a_reqBorn a_slotStates b_words b_slotLeft b_slotValue b_flight) → (i_M m b_open b_ages b_pastKind b_pastBank a_slotStates f_rcd f_rp f_rfc f_cap f_anyAct f_anyRead f_anyWrite f_actNext f_nextSerial f_draining f_clock a_openRows a_ages a_lastAct a_lastRead a_lastWrite a_lastPre a_lastRef a_actTimes a_reqAddress a_reqLanes a_reqFetched a_reqPending a_reqSerial bo) → P (f_rcd, f_rp, f_rfc, f_cap, f_refreshSoon, f_refreshMust, f_drainMark, f_requests, f_allLanes, f_slotFree, f_slotWaiting, f_slotReady, f_never, f_anyAct, f_anyRead, f_anyWrite, f_actNext, f_nextSerial, nI hd, nI m, f_draining, f_clock, 1, 0, f_lost, f_retiredReads, a_cells, a_openRows, a_ages, a_lastAct, a_lastRead, a_lastWrite, a_lastPre, a_lastRef, a_actTimes, a_reqAddress, a_reqLanes, a_reqData, a_reqBase, a_reqFetched, a_reqPending, a_reqBorn, a_reqSerial, a_slotStates) (f_rcd, f_rp, f_rfc, f_cap, f_clock, 1, f_lost, b_words, a_slotStates, b_slotLeft, b_slotValue, b_flight, b_open, b_ages, b_pastKind, b_pastBank)) : P u v := by
  match u, v, I with
  | (f_rcd, f_rp, f_rfc, f_cap, f_refreshSoon, f_refreshMust, f_drainMark, f_requests, f_allLanes, f_slotFree, f_slotWaiting, f_slotReady, f_never, f_anyAct, f_anyRead, f_anyWrite, f_actNext, f_nextSerial, f_writeHead, f_writeCount, f_draining, f_clock, f_mode, f_faults, f_lost, f_retiredReads, a_cells, a_openRows, a_ages, a_lastAct, a_lastRead, a_lastWrite, a_lastPre, a_lastRef, a_actTimes, a_reqAddress, a_reqLanes, a_reqData, a_reqBase, a_reqFetched, a_reqPending, a_reqBorn, a_reqSerial, a_slotStates), (y_rcd, y_rp, y_rfc, y_cap, y_now, y_busMode, y_losses, b_words, b_slotState, b_slotLeft, b_slotValue, b_flight, b_open, b_ages, b_pastKind, b_pastBank), I =>
    obtain ⟨hd, m, bo, ⟨e1, e2, e3, e4, e5, e6, e7, e8, e9, e10, e11⟩, K, h⟩ := I
    subst e1 e2 e3 e4 e5 e7 e8 e9 e10 e11
    rcases h with ⟨e, pre⟩ | ⟨e, M⟩
    · subst e
      subst e6
      exact hS hd m bo y_rcd y_rp y_rfc y_cap f_refreshSoon f_refreshMust f_drainMark f_requests f_allLanes f_slotFree f_slotWaiting f_slotReady f_never f_anyAct f_anyRead f_anyWrite f_actNext f_nextSerial (nI hd) (nI m) f_draining y_now 0 0 y_losses f_retiredReads a_cells a_openRows a_ages a_lastAct a_lastRead a_lastWrite a_lastPre a_lastRef a_actTimes a_reqAddress a_reqLanes a_reqData a_reqBase a_reqFetched a_reqPending a_reqBorn a_reqSerial b_slotState y_rcd y_rp y_rfc y_cap y_now 0 y_losses b_words b_slotState b_slotLeft b_slotValue b_flight b_open b_ages b_pastKind b_pastBank K pre
    · subst e
      subst e6
      exact hM hd m bo y_rcd y_rp y_rfc y_cap f_refreshSoon f_refreshMust f_drainMark f_requests f_allLanes f_slotFree f_slotWaiting f_slotReady f_never f_anyAct f_anyRead f_anyWrite f_actNext f_nextSerial (nI hd) (nI m) f_draining y_now 1 0 y_losses f_retiredReads a_cells a_openRows a_ages a_lastAct a_lastRead a_lastWrite a_lastPre a_lastRef a_actTimes a_reqAddress a_reqLanes a_reqData a_reqBase a_reqFetched a_reqPending a_reqBorn a_reqSerial b_slotState y_rcd y_rp y_rfc y_cap y_now 1 y_losses b_words b_slotState b_slotLeft b_slotValue b_flight b_open b_ages b_pastKind b_pastBank K M
section
variable {f_rcd f_rp f_rfc f_cap f_refreshSoon f_refreshMust f_drainMark f_requests f_allLanes f_slotFree f_slotWaiting f_slotReady f_actNext f_writeHead f_writeCount f_draining f_mode f_faults f_lost f_retiredReads : Int32} {f_never f_anyAct f_anyRead f_anyWrite f_nextSerial f_clock : Int64} {a_cells a_openRows a_ages a_reqAddress a_reqLanes a_reqData a_reqBase a_reqFetched a_reqPending a_slotStates : (Nat → Int32)} {a_lastAct a_lastRead a_lastWrite a_lastPre a_lastRef a_actTimes a_reqBorn a_reqSerial : (Nat → Int64)}
variable {y_rcd y_rp y_rfc y_cap y_busMode y_losses : Int32} {y_now : Int64} {b_words b_slotState b_slotLeft b_slotValue b_flight b_open b_ages b_pastKind b_pastBank : (Nat → Int32)}
variable {N N' hd m : Nat} {bo : Nat → Int}
theorem i_K_up (K : (i_K N hd m f_rcd f_rp f_rfc f_cap f_anyAct f_anyRead f_anyWrite f_actNext f_nextSerial f_draining f_clock a_openRows a_ages a_lastAct a_lastRead a_lastWrite a_lastPre a_lastRef a_actTimes a_reqAddress a_reqLanes a_reqFetched a_reqPending a_reqSerial bo a_cells a_reqData a_reqBase a_reqBorn a_slotStates b_words b_slotLeft b_slotValue b_flight)) (h : N ≤ N') : (i_K N' hd m f_rcd f_rp f_rfc f_cap f_anyAct f_anyRead f_anyWrite f_actNext f_nextSerial f_draining f_clock a_openRows a_ages a_lastAct a_lastRead a_lastWrite a_lastPre a_lastRef a_actTimes a_reqAddress a_reqLanes a_reqFetched a_reqPending a_reqSerial bo a_cells a_reqData a_reqBase a_reqBorn a_slotStates b_words b_slotLeft b_slotValue b_flight) := by
  obtain ⟨⟨k1, k2, k3⟩, k⟩ := K
  exact ⟨⟨k1, by omega, by omega⟩, k⟩
end
theorem i_RN_up {N N' : Nat} (h : N ≤ N') {u : SX} {v : SY} (I : i_RN N u v) : i_RN N' u v := by
  refine i_cs (P := fun u v => i_RN N' u v) I ?_ ?_
  · intros
    exact i_inS (i_K_up (by assumption) h) (by assumption)
  · intros
    exact i_inM (i_K_up (by assumption) h) (by assumption)
theorem i_up {k : Nat} {u : SX} {v : SY} (h : i_Rel k u v) : i_Rel (k + 5) u v := i_RN_up (by omega) h
end
section
/-! Calls that only ask. -/
section
variable {f_rcd f_rp f_rfc f_cap f_refreshSoon f_refreshMust f_drainMark f_requests f_allLanes f_slotFree f_slotWaiting f_slotReady f_actNext f_writeHead f_writeCount f_draining f_mode f_faults f_lost f_retiredReads : Int32} {f_never f_anyAct f_anyRead f_anyWrite f_nextSerial f_clock : Int64} {a_cells a_openRows a_ages a_reqAddress a_reqLanes a_reqData a_reqBase a_reqFetched a_reqPending a_slotStates : (Nat → Int32)} {a_lastAct a_lastRead a_lastWrite a_lastPre a_lastRef a_actTimes a_reqBorn a_reqSerial : (Nat → Int64)}
variable {y_rcd y_rp y_rfc y_cap y_busMode y_losses : Int32} {y_now : Int64} {b_words b_slotState b_slotLeft b_slotValue b_flight b_open b_ages b_pastKind b_pastBank : (Nat → Int32)}
variable {N hd m : Nat} {bo : Nat → Int} {Q : Prop}
theorem fl_pos {clk : Int} {pd : Nat → Int32} {born : Nat → Int64} {st left fl : Nat → Int32} (D : dt_T clk bo hd m pd born st left fl) : (∀ i, i < m → ¬ fl i ≤ 0) ∧ (∀ i, m ≤ i → i < 6 → fl i = 0) := by
  refine ⟨fun i hi => ?_, fun i h1 h2 => (D.2.2.2.2.1 i h1 h2).2.2⟩
  have := D.2.2.2.1 i hi
  rw [Int32.le_iff_toInt_le]
  have : (0 : Int32).toInt = 0 := by decide
  omega
/-- the time left, as the component computes it -/
theorem c_lf {clk b : Int64} {v : Int32} {x : Int} (h0 : 0 ≤ clk.toInt) (h1 : clk.toInt ≤ 1000000) (h2 : 0 ≤ b.toInt) (h3 : b.toInt ≤ clk.toInt) (e : x = b.toInt) (h : v.toInt = 256 - (clk.toInt - x)) : ((b + 256) - clk).toInt32 = v := by
  have l : (256 : Int64).toInt = 256 := by decide
  have s1 : (b + 256).toInt = b.toInt + 256 := by rw [xb_add (by omega) (by omega) (by omega) (by omega), l]
  refine xb_t32 ?_
  rw [xb_sub (by omega) (by omega) (by omega) (by omega), s1, h]; omega
theorem c_left (K : (i_K N hd m f_rcd f_rp f_rfc f_cap f_anyAct f_anyRead f_anyWrite f_actNext f_nextSerial f_draining f_clock a_openRows a_ages a_lastAct a_lastRead a_lastWrite a_lastPre a_lastRef a_actTimes a_reqAddress a_reqLanes a_reqFetched a_reqPending a_reqSerial bo a_cells a_reqData a_reqBase a_reqBorn a_slotStates b_words b_slotLeft b_slotValue b_flight)) (R : Q) (v1 : Int32) : wpX_left (fun r => wpY_left (fun r' => r' = r ∧ Q) (f_rcd, f_rp, f_rfc, f_cap, f_clock, f_mode, f_lost, b_words, a_slotStates, b_slotLeft, b_slotValue, b_flight, b_open, b_ages, b_pastKind, b_pastBank) v1) (f_rcd, f_rp, f_rfc, f_cap, f_refreshSoon, f_refreshMust, f_drainMark, f_requests, f_allLanes, f_slotFree, f_slotWaiting, f_slotReady, f_never, f_anyAct, f_anyRead, f_anyWrite, f_actNext, f_nextSerial, nI hd, nI m, f_draining, f_clock, f_mode, 0, f_lost, f_retiredReads, a_cells, a_openRows, a_ages, a_lastAct, a_lastRead, a_lastWrite, a_lastPre, a_lastRef, a_actTimes, a_reqAddress, a_reqLanes, a_reqData, a_reqBase, a_reqFetched, a_reqPending, a_reqBorn, a_reqSerial, a_slotStates) v1 := by
  obtain ⟨⟨c0, c1, c2⟩, an, ri, w, rg, v, hb, T, V⟩ := K
  have g := rg.1
  rw [ab_c] at g
  unfold wpX_left wpY_left
  rcases pk_ix v1 (n := 6) (by decide) with z | z | ⟨j, hj, rfl⟩
  · exact br_t z (br_t z ⟨rfl, R⟩)
  · have z0 : ¬ v1 < 0 := by
      rw [Int32.lt_iff_toInt_lt]; rw [Int32.le_iff_toInt_le, nI_toInt (by decide)] at z
      have : (0 : Int32).toInt = 0 := by decide
      omega
    have z6 : ¬ v1 < 6 := is_n (n := 6) (by decide) z
    exact br_f z0 (br_f z6 (br_f z0 (br_f z6 ⟨rfl, R⟩)))
  · have e : (nI j).toNatClampNeg = j := nI_clamp (by omega)
    have vj : vp_in (nI j) 6 := vp_in_nI hj (by omega)
    have z0 : ¬ nI j < 0 := nI_pos (by omega)
    have z6 : nI j < 6 := nI_lt (b := 6) hj (by decide)
    simp only [e]
    have d := T.2.2.1 j hj
    refine br_f z0 (br_t z6 ⟨vj, br_c (fun y => br_f z0 (br_t z6 ⟨vj, br_t y ⟨trivial, R⟩⟩)) (fun y => ⟨vj, br_c (fun x => br_f z0 (br_t z6 ⟨vj, br_f y ⟨vj, br_t x ⟨trivial, R⟩⟩⟩)) (fun x => ⟨vp_in_nI (by omega) (by omega), br_f z0 (br_t z6 ⟨vj, br_f y ⟨vj, br_f x ⟨vj, ?_, R⟩⟩⟩)⟩)⟩)⟩)
    have s1 : a_slotStates j = 1 := by
      rcases d.1 with q | q | q
      · exact absurd q y
      · exact q
      · exact absurd q x
    have a := d.2.1 s1
    have b := hb j (by omega)
    exact (c_lf (x := bo j) (by omega) (by omega) b.1 b.2 a.1 a.2.2.2).symm
theorem c_lookX (K : (i_K N hd m f_rcd f_rp f_rfc f_cap f_anyAct f_anyRead f_anyWrite f_actNext f_nextSerial f_draining f_clock a_openRows a_ages a_lastAct a_lastRead a_lastWrite a_lastPre a_lastRef a_actTimes a_reqAddress a_reqLanes a_reqFetched a_reqPending a_reqSerial bo a_cells a_reqData a_reqBase a_reqBorn a_slotStates b_words b_slotLeft b_slotValue b_flight)) (v1 : Int32) {post : Int32 → Prop}
    (hB : v1 < 0 ∨ 6 ≤ v1 → post (-1)) (h0 : ∀ j, j < 6 → v1 = nI j → a_slotStates j = 0 → post (-7)) (h1 : ∀ j, j < 6 → v1 = nI j → a_slotStates j = 1 → post (-8))
    (h2 : ∀ j, j < 6 → v1 = nI j → a_slotStates j = 2 → ¬ a_reqData j < 0 → post (a_reqData j)) : wpX_look post (f_rcd, f_rp, f_rfc, f_cap, f_refreshSoon, f_refreshMust, f_drainMark, f_requests, f_allLanes, f_slotFree, f_slotWaiting, f_slotReady, f_never, f_anyAct, f_anyRead, f_anyWrite, f_actNext, f_nextSerial, nI hd, nI m, f_draining, f_clock, f_mode, 0, f_lost, f_retiredReads, a_cells, a_openRows, a_ages, a_lastAct, a_lastRead, a_lastWrite, a_lastPre, a_lastRef, a_actTimes, a_reqAddress, a_reqLanes, a_reqData, a_reqBase, a_reqFetched, a_reqPending, a_reqBorn, a_reqSerial, a_slotStates) v1 := by
  obtain ⟨⟨c0, c1, c2⟩, an, ri, w, rg, v, hb, T, V⟩ := K
  unfold wpX_look
  rcases pk_ix v1 (n := 6) (by decide) with z | z | ⟨j, hj, rfl⟩
  · exact br_t z (hB (.inl z))
  · have z0 : ¬ v1 < 0 := by
      rw [Int32.lt_iff_toInt_lt]; rw [Int32.le_iff_toInt_le, nI_toInt (by decide)] at z
      have : (0 : Int32).toInt = 0 := by decide
      omega
    have z6 : ¬ v1 < 6 := is_n (n := 6) (by decide) z
    exact br_f z0 (br_f z6 (hB (.inr z)))
  · have e : (nI j).toNatClampNeg = j := nI_clamp (by omega)
    have vj : vp_in (nI j) 6 := vp_in_nI hj (by omega)
    have vk : vp_in (nI j) 12 := vp_in_nI (by omega) (by omega)
    have z0 : ¬ nI j < 0 := nI_pos (by omega)
    have z6 : nI j < 6 := nI_lt (b := 6) hj (by decide)
    simp only [e]
    have d := T.2.2.1 j hj
    rcases d.1 with q | q | q
    · exact br_f z0 (br_t z6 ⟨vj, br_t q (h0 j hj rfl q)⟩)
    · have q0 : ¬ a_slotStates j = 0 := by rw [q]; decide
      exact br_f z0 (br_t z6 ⟨vj, br_f q0 ⟨vj, br_t q (h1 j hj rfl q)⟩⟩)
    · have q0 : ¬ a_slotStates j = 0 := by rw [q]; decide
      have q1 : ¬ a_slotStates j = 1 := by rw [q]; decide
      have ev := (V.1 j hj).2.1 (d.2.2 q1).1 q0
      have hv := (V.1 j hj).2.2 q0
      exact br_f z0 (br_t z6 ⟨vj, br_f q0 ⟨vj, br_f q1 ⟨vk, h2 j hj rfl q (by rw [ev]; exact h16_nn hv)⟩⟩⟩)
theorem c_lookY (K : (i_K N hd m f_rcd f_rp f_rfc f_cap f_anyAct f_anyRead f_anyWrite f_actNext f_nextSerial f_draining f_clock a_openRows a_ages a_lastAct a_lastRead a_lastWrite a_lastPre a_lastRef a_actTimes a_reqAddress a_reqLanes a_reqFetched a_reqPending a_reqSerial bo a_cells a_reqData a_reqBase a_reqBorn a_slotStates b_words b_slotLeft b_slotValue b_flight)) (v1 : Int32) {post : Int32 → Prop}
    (hB : v1 < 0 ∨ 6 ≤ v1 → post (-1)) (h0 : ∀ j, j < 6 → v1 = nI j → a_slotStates j = 0 → post (-7)) (h1 : ∀ j, j < 6 → v1 = nI j → a_slotStates j = 1 → post (-8))
    (h2 : ∀ j, j < 6 → v1 = nI j → a_slotStates j = 2 → post (a_reqData j)) : wpY_look post (f_rcd, f_rp, f_rfc, f_cap, f_clock, f_mode, f_lost, b_words, a_slotStates, b_slotLeft, b_slotValue, b_flight, b_open, b_ages, b_pastKind, b_pastBank) v1 := by
  obtain ⟨⟨c0, c1, c2⟩, an, ri, w, rg, v, hb, T, V⟩ := K
  unfold wpY_look
  rcases pk_ix v1 (n := 6) (by decide) with z | z | ⟨j, hj, rfl⟩
  · exact br_t z (hB (.inl z))
  · have z0 : ¬ v1 < 0 := by
      rw [Int32.lt_iff_toInt_lt]; rw [Int32.le_iff_toInt_le, nI_toInt (by decide)] at z
      have : (0 : Int32).toInt = 0 := by decide
      omega
    have z6 : ¬ v1 < 6 := is_n (n := 6) (by decide) z
    exact br_f z0 (br_f z6 (hB (.inr z)))
  · have e : (nI j).toNatClampNeg = j := nI_clamp (by omega)
    have vj : vp_in (nI j) 6 := vp_in_nI hj (by omega)
    have z0 : ¬ nI j < 0 := nI_pos (by omega)
    have z6 : nI j < 6 := nI_lt (b := 6) hj (by decide)
    simp only [e]
    have d := T.2.2.1 j hj
    rcases d.1 with q | q | q
    · exact br_f z0 (br_t z6 ⟨vj, br_t q (h0 j hj rfl q)⟩)
    · have q0 : ¬ a_slotStates j = 0 := by rw [q]; decide
      exact br_f z0 (br_t z6 ⟨vj, br_f q0 ⟨vj, br_t q (h1 j hj rfl q)⟩⟩)
    · have q0 : ¬ a_slotStates j = 0 := by rw [q]; decide
      have q1 : ¬ a_slotStates j = 1 := by rw [q]; decide
      have ev := (V.1 j hj).2.1 (d.2.2 q1).1 q0
      refine br_f z0 (br_t z6 ⟨vj, br_f q0 ⟨vj, br_f q1 ⟨vj, ?_⟩⟩⟩)
      rw [← ev]; exact h2 j hj rfl q
/-- the states of the looked-at slot -/
theorem c_bad {v1 : Int32} {j : Nat} (hj : j < 6) (e : v1 = nI j) : ¬ (v1 < 0 ∨ (6 : Int32) ≤ v1) := by
  rw [e]
  rintro (y | y)
  · exact nI_pos (by omega) y
  · exact nI_ge (b := 6) hj (by decide) y
theorem c_same {v1 : Int32} {i j : Nat} (hi : i < 6) (hj : j < 6) (e : v1 = nI i) (f : v1 = nI j) : i = j := (nI_eq (by omega) (by omega)).mp (by rw [← e, ← f])
theorem c_look (K : (i_K N hd m f_rcd f_rp f_rfc f_cap f_anyAct f_anyRead f_anyWrite f_actNext f_nextSerial f_draining f_clock a_openRows a_ages a_lastAct a_lastRead a_lastWrite a_lastPre a_lastRef a_actTimes a_reqAddress a_reqLanes a_reqFetched a_reqPending a_reqSerial bo a_cells a_reqData a_reqBase a_reqBorn a_slotStates b_words b_slotLeft b_slotValue b_flight)) (R : Q) (v1 : Int32) : wpX_look (fun r => wpY_look (fun r' => r' = r ∧ Q) (f_rcd, f_rp, f_rfc, f_cap, f_clock, f_mode, f_lost, b_words, a_slotStates, b_slotLeft, b_slotValue, b_flight, b_open, b_ages, b_pastKind, b_pastBank) v1) (f_rcd, f_rp, f_rfc, f_cap, f_refreshSoon, f_refreshMust, f_drainMark, f_requests, f_allLanes, f_slotFree, f_slotWaiting, f_slotReady, f_never, f_anyAct, f_anyRead, f_anyWrite, f_actNext, f_nextSerial, nI hd, nI m, f_draining, f_clock, f_mode, 0, f_lost, f_retiredReads, a_cells, a_openRows, a_ages, a_lastAct, a_lastRead, a_lastWrite, a_lastPre, a_lastRef, a_actTimes, a_reqAddress, a_reqLanes, a_reqData, a_reqBase, a_reqFetched, a_reqPending, a_reqBorn, a_reqSerial, a_slotStates) v1 := by
  refine c_lookX K v1 (fun b => ?_) (fun j hj e s => ?_) (fun j hj e s => ?_) (fun j hj e s n => ?_)
  · exact c_lookY K v1 (fun _ => ⟨rfl, R⟩) (fun i hi f _ => absurd b (c_bad hi f)) (fun i hi f _ => absurd b (c_bad hi f)) (fun i hi f _ => absurd b (c_bad hi f))
  · refine c_lookY K v1 (fun b => absurd b (c_bad hj e)) (fun i hi f t => ⟨rfl, R⟩) (fun i hi f t => ?_) (fun i hi f t => ?_)
    · rw [c_same hi hj f e, s] at t; exact absurd t (by decide)
    · rw [c_same hi hj f e, s] at t; exact absurd t (by decide)
  · refine c_lookY K v1 (fun b => absurd b (c_bad hj e)) (fun i hi f t => ?_) (fun i hi f t => ⟨rfl, R⟩) (fun i hi f t => ?_)
    · rw [c_same hi hj f e, s] at t; exact absurd t (by decide)
    · rw [c_same hi hj f e, s] at t; exact absurd t (by decide)
  · refine c_lookY K v1 (fun b => absurd b (c_bad hj e)) (fun i hi f t => ?_) (fun i hi f t => ?_) (fun i hi f t => ⟨?_, R⟩)
    · rw [c_same hi hj f e, s] at t; exact absurd t (by decide)
    · rw [c_same hi hj f e, s] at t; exact absurd t (by decide)
    · rw [c_same hi hj f e]
theorem c_rwait (R : Q) : wpX_readsWaiting (fun r => wpY_readsWaiting (fun r' => r' = r ∧ Q) (f_rcd, f_rp, f_rfc, f_cap, f_clock, f_mode, f_lost, b_words, a_slotStates, b_slotLeft, b_slotValue, b_flight, b_open, b_ages, b_pastKind, b_pastBank)) (f_rcd, f_rp, f_rfc, f_cap, f_refreshSoon, f_refreshMust, f_drainMark, f_requests, f_allLanes, f_slotFree, f_slotWaiting, f_slotReady, f_never, f_anyAct, f_anyRead, f_anyWrite, f_actNext, f_nextSerial, nI hd, nI m, f_draining, f_clock, f_mode, 0, f_lost, f_retiredReads, a_cells, a_openRows, a_ages, a_lastAct, a_lastRead, a_lastWrite, a_lastPre, a_lastRef, a_actTimes, a_reqAddress, a_reqLanes, a_reqData, a_reqBase, a_reqFetched, a_reqPending, a_reqBorn, a_reqSerial, a_slotStates) := xw_rwait (yw_rwait ⟨rfl, R⟩)
theorem c_wwait (K : (i_K N hd m f_rcd f_rp f_rfc f_cap f_anyAct f_anyRead f_anyWrite f_actNext f_nextSerial f_draining f_clock a_openRows a_ages a_lastAct a_lastRead a_lastWrite a_lastPre a_lastRef a_actTimes a_reqAddress a_reqLanes a_reqFetched a_reqPending a_reqSerial bo a_cells a_reqData a_reqBase a_reqBorn a_slotStates b_words b_slotLeft b_slotValue b_flight)) (R : Q) : wpX_writesWaiting (fun r => wpY_writesWaiting (fun r' => r' = r ∧ Q) (f_rcd, f_rp, f_rfc, f_cap, f_clock, f_mode, f_lost, b_words, a_slotStates, b_slotLeft, b_slotValue, b_flight, b_open, b_ages, b_pastKind, b_pastBank)) (f_rcd, f_rp, f_rfc, f_cap, f_refreshSoon, f_refreshMust, f_drainMark, f_requests, f_allLanes, f_slotFree, f_slotWaiting, f_slotReady, f_never, f_anyAct, f_anyRead, f_anyWrite, f_actNext, f_nextSerial, nI hd, nI m, f_draining, f_clock, f_mode, 0, f_lost, f_retiredReads, a_cells, a_openRows, a_ages, a_lastAct, a_lastRead, a_lastWrite, a_lastPre, a_lastRef, a_actTimes, a_reqAddress, a_reqLanes, a_reqData, a_reqBase, a_reqFetched, a_reqPending, a_reqBorn, a_reqSerial, a_slotStates) := by
  obtain ⟨-, -, -, -, -, -, -, T, -⟩ := K
  have f := fl_pos T
  unfold wpX_writesWaiting
  exact yw_ww T.2.1 f.1 f.2 ⟨rfl, R⟩
theorem c_wleft (K : (i_K N hd m f_rcd f_rp f_rfc f_cap f_anyAct f_anyRead f_anyWrite f_actNext f_nextSerial f_draining f_clock a_openRows a_ages a_lastAct a_lastRead a_lastWrite a_lastPre a_lastRef a_actTimes a_reqAddress a_reqLanes a_reqFetched a_reqPending a_reqSerial bo a_cells a_reqData a_reqBase a_reqBorn a_slotStates b_words b_slotLeft b_slotValue b_flight)) (R : Q) (v1 : Int32) : wpX_writeLeft (fun r => wpY_writeLeft (fun r' => r' = r ∧ Q) (f_rcd, f_rp, f_rfc, f_cap, f_clock, f_mode, f_lost, b_words, a_slotStates, b_slotLeft, b_slotValue, b_flight, b_open, b_ages, b_pastKind, b_pastBank) v1) (f_rcd, f_rp, f_rfc, f_cap, f_refreshSoon, f_refreshMust, f_drainMark, f_requests, f_allLanes, f_slotFree, f_slotWaiting, f_slotReady, f_never, f_anyAct, f_anyRead, f_anyWrite, f_actNext, f_nextSerial, nI hd, nI m, f_draining, f_clock, f_mode, 0, f_lost, f_retiredReads, a_cells, a_openRows, a_ages, a_lastAct, a_lastRead, a_lastWrite, a_lastPre, a_lastRef, a_actTimes, a_reqAddress, a_reqLanes, a_reqData, a_reqBase, a_reqFetched, a_reqPending, a_reqBorn, a_reqSerial, a_slotStates) v1 := by
  obtain ⟨⟨c0, c1, c2⟩, an, ri, w, rg, v, hb, T, V⟩ := K
  have g := rg.1
  rw [ab_c] at g
  have f := fl_pos T
  have hm := T.2.1
  unfold wpX_writeLeft wpY_writeLeft
  rcases pk_ix v1 (n := 6) (by decide) with z | z | ⟨j, hj, rfl⟩
  · exact br_t z (br_t z ⟨rfl, R⟩)
  · have z0 : ¬ v1 < 0 := by
      rw [Int32.lt_iff_toInt_lt]; rw [Int32.le_iff_toInt_le, nI_toInt (by decide)] at z
      have : (0 : Int32).toInt = 0 := by decide
      omega
    have z6 : ¬ v1 < 6 := is_n (n := 6) (by decide) z
    exact br_f z0 (br_f z6 (br_f z0 (br_f z6 ⟨rfl, R⟩)))
  · have e : (nI j).toNatClampNeg = j := nI_clamp (by omega)
    have vj : vp_in (nI j) 6 := vp_in_nI hj (by omega)
    have z0 : ¬ nI j < 0 := nI_pos (by omega)
    have z6 : nI j < 6 := nI_lt (b := 6) hj (by decide)
    have lt : nI j < nI m ↔ j < m := nI_ltI (by omega) (by omega)
    refine br_f z0 (br_t z6 (br_c (fun y => xw_wat T.1 hj rfl ?_) (fun y => br_f z0 (br_t z6 (yw_ww hm f.1 f.2 (br_f y ⟨rfl, R⟩))))))
    have er : (nI (rk hd j)).toNatClampNeg = rk hd j := nI_clamp (by have := (rk_in (h := hd) (i := j)).2; omega)
    rw [er]
    refine ⟨vp_in_nI rk_in.2 (by decide), br_f z0 (br_t z6 (yw_ww hm f.1 f.2 (br_t y ⟨vj, ?_, R⟩)))⟩
    have a := T.2.2.2.1 j (lt.mp y)
    have b := hb (rk hd j) rk_in.2
    rw [e]
    exact (c_lf (x := bo (rk hd j)) (by omega) (by omega) b.1 b.2 a.1 a.2.2.2).symm
theorem c_clock (R : Q) : wpX_clock (fun r => wpY_clock (fun r' => r' = r ∧ Q) (f_rcd, f_rp, f_rfc, f_cap, f_clock, f_mode, f_lost, b_words, a_slotStates, b_slotLeft, b_slotValue, b_flight, b_open, b_ages, b_pastKind, b_pastBank)) (f_rcd, f_rp, f_rfc, f_cap, f_refreshSoon, f_refreshMust, f_drainMark, f_requests, f_allLanes, f_slotFree, f_slotWaiting, f_slotReady, f_never, f_anyAct, f_anyRead, f_anyWrite, f_actNext, f_nextSerial, nI hd, nI m, f_draining, f_clock, f_mode, 0, f_lost, f_retiredReads, a_cells, a_openRows, a_ages, a_lastAct, a_lastRead, a_lastWrite, a_lastPre, a_lastRef, a_actTimes, a_reqAddress, a_reqLanes, a_reqData, a_reqBase, a_reqFetched, a_reqPending, a_reqBorn, a_reqSerial, a_slotStates) := ⟨rfl, R⟩
theorem c_mode (R : Q) : wpX_mode (fun r => wpY_mode (fun r' => r' = r ∧ Q) (f_rcd, f_rp, f_rfc, f_cap, f_clock, f_mode, f_lost, b_words, a_slotStates, b_slotLeft, b_slotValue, b_flight, b_open, b_ages, b_pastKind, b_pastBank)) (f_rcd, f_rp, f_rfc, f_cap, f_refreshSoon, f_refreshMust, f_drainMark, f_requests, f_allLanes, f_slotFree, f_slotWaiting, f_slotReady, f_never, f_anyAct, f_anyRead, f_anyWrite, f_actNext, f_nextSerial, nI hd, nI m, f_draining, f_clock, f_mode, 0, f_lost, f_retiredReads, a_cells, a_openRows, a_ages, a_lastAct, a_lastRead, a_lastWrite, a_lastPre, a_lastRef, a_actTimes, a_reqAddress, a_reqLanes, a_reqData, a_reqBase, a_reqFetched, a_reqPending, a_reqBorn, a_reqSerial, a_slotStates) := ⟨rfl, R⟩
theorem c_faults (R : Q) : wpX_faults (fun r => wpY_faults (fun r' => r' = r ∧ Q) (f_rcd, f_rp, f_rfc, f_cap, f_clock, f_mode, f_lost, b_words, a_slotStates, b_slotLeft, b_slotValue, b_flight, b_open, b_ages, b_pastKind, b_pastBank)) (f_rcd, f_rp, f_rfc, f_cap, f_refreshSoon, f_refreshMust, f_drainMark, f_requests, f_allLanes, f_slotFree, f_slotWaiting, f_slotReady, f_never, f_anyAct, f_anyRead, f_anyWrite, f_actNext, f_nextSerial, nI hd, nI m, f_draining, f_clock, f_mode, 0, f_lost, f_retiredReads, a_cells, a_openRows, a_ages, a_lastAct, a_lastRead, a_lastWrite, a_lastPre, a_lastRef, a_actTimes, a_reqAddress, a_reqLanes, a_reqData, a_reqBase, a_reqFetched, a_reqPending, a_reqBorn, a_reqSerial, a_slotStates) := ⟨rfl, R⟩
theorem c_lost (R : Q) : wpX_lost (fun r => wpY_lost (fun r' => r' = r ∧ Q) (f_rcd, f_rp, f_rfc, f_cap, f_clock, f_mode, f_lost, b_words, a_slotStates, b_slotLeft, b_slotValue, b_flight, b_open, b_ages, b_pastKind, b_pastBank)) (f_rcd, f_rp, f_rfc, f_cap, f_refreshSoon, f_refreshMust, f_drainMark, f_requests, f_allLanes, f_slotFree, f_slotWaiting, f_slotReady, f_never, f_anyAct, f_anyRead, f_anyWrite, f_actNext, f_nextSerial, nI hd, nI m, f_draining, f_clock, f_mode, 0, f_lost, f_retiredReads, a_cells, a_openRows, a_ages, a_lastAct, a_lastRead, a_lastWrite, a_lastPre, a_lastRef, a_actTimes, a_reqAddress, a_reqLanes, a_reqData, a_reqBase, a_reqFetched, a_reqPending, a_reqBorn, a_reqSerial, a_slotStates) := ⟨rfl, R⟩
theorem c_setting (R : Q) (v1 : Int32) : wpX_setting (fun r => wpY_setting (fun r' => r' = r ∧ Q) (f_rcd, f_rp, f_rfc, f_cap, f_clock, f_mode, f_lost, b_words, a_slotStates, b_slotLeft, b_slotValue, b_flight, b_open, b_ages, b_pastKind, b_pastBank) v1) (f_rcd, f_rp, f_rfc, f_cap, f_refreshSoon, f_refreshMust, f_drainMark, f_requests, f_allLanes, f_slotFree, f_slotWaiting, f_slotReady, f_never, f_anyAct, f_anyRead, f_anyWrite, f_actNext, f_nextSerial, nI hd, nI m, f_draining, f_clock, f_mode, 0, f_lost, f_retiredReads, a_cells, a_openRows, a_ages, a_lastAct, a_lastRead, a_lastWrite, a_lastPre, a_lastRef, a_actTimes, a_reqAddress, a_reqLanes, a_reqData, a_reqBase, a_reqFetched, a_reqPending, a_reqBorn, a_reqSerial, a_slotStates) v1 := by
  unfold wpX_setting wpY_setting
  exact br_c (fun a => br_t a ⟨rfl, R⟩) (fun a => br_c (fun b => br_f a (br_t b ⟨rfl, R⟩)) (fun b => br_c (fun c => br_f a (br_f b (br_t c ⟨rfl, R⟩))) (fun c => br_c (fun d => br_f a (br_f b (br_f c (br_t d ⟨rfl, R⟩)))) (fun d => br_f a (br_f b (br_f c (br_f d ⟨rfl, R⟩)))))))
theorem c_peek (K : (i_K N hd m f_rcd f_rp f_rfc f_cap f_anyAct f_anyRead f_anyWrite f_actNext f_nextSerial f_draining f_clock a_openRows a_ages a_lastAct a_lastRead a_lastWrite a_lastPre a_lastRef a_actTimes a_reqAddress a_reqLanes a_reqFetched a_reqPending a_reqSerial bo a_cells a_reqData a_reqBase a_reqBorn a_slotStates b_words b_slotLeft b_slotValue b_flight)) (R : Q) (v1 : Int32) : wpX_peek (fun r => wpY_peek (fun r' => r' = r ∧ Q) (f_rcd, f_rp, f_rfc, f_cap, f_clock, f_mode, f_lost, b_words, a_slotStates, b_slotLeft, b_slotValue, b_flight, b_open, b_ages, b_pastKind, b_pastBank) v1) (f_rcd, f_rp, f_rfc, f_cap, f_refreshSoon, f_refreshMust, f_drainMark, f_requests, f_allLanes, f_slotFree, f_slotWaiting, f_slotReady, f_never, f_anyAct, f_anyRead, f_anyWrite, f_actNext, f_nextSerial, nI hd, nI m, f_draining, f_clock, f_mode, 0, f_lost, f_retiredReads, a_cells, a_openRows, a_ages, a_lastAct, a_lastRead, a_lastWrite, a_lastPre, a_lastRef, a_actTimes, a_reqAddress, a_reqLanes, a_reqData, a_reqBase, a_reqFetched, a_reqPending, a_reqBorn, a_reqSerial, a_slotStates) v1 := by
  obtain ⟨-, -, -, -, -, -, -, T, V⟩ := K
  unfold wpX_peek
  rcases pk_ix v1 (n := 256) (by decide) with z | z | ⟨j, hj, rfl⟩
  · refine br_t z ?_
    unfold wpY_peek
    exact br_t z ⟨rfl, R⟩
  · have z0 : ¬ v1 < 0 := by
      rw [Int32.lt_iff_toInt_lt]; rw [Int32.le_iff_toInt_le, nI_toInt (by decide)] at z
      have : (0 : Int32).toInt = 0 := by decide
      omega
    have z6 : ¬ v1 < 256 := is_n (n := 256) (by decide) z
    refine br_f z0 (br_f z6 ?_)
    unfold wpY_peek
    exact br_f z0 (br_f z6 ⟨rfl, R⟩)
  · have e : (nI j).toNatClampNeg = j := nI_clamp (by omega)
    have vj : vp_in (nI j) 256 := vp_in_nI hj (by omega)
    have z0 : ¬ nI j < 0 := nI_pos (by omega)
    have z6 : nI j < 256 := nI_lt (b := 256) hj (by decide)
    rw [e]
    have go := xw_peek_l (post := fun r => wpY_peek (fun r' => r' = r ∧ Q) (f_rcd, f_rp, f_rfc, f_cap, f_clock, f_mode, f_lost, b_words, a_slotStates, b_slotLeft, b_slotValue, b_flight, b_open, b_ages, b_pastKind, b_pastBank) (nI j)) (A := nI j) (w := a_cells j) T.1 T.2.1 (rfl : nI hd = nI hd) (rfl : nI m = nI m) (f_rcd := f_rcd) (f_rp := f_rp) (f_rfc := f_rfc) (f_cap := f_cap) (f_refreshSoon := f_refreshSoon) (f_refreshMust := f_refreshMust) (f_drainMark := f_drainMark) (f_requests := f_requests) (f_allLanes := f_allLanes) (f_slotFree := f_slotFree) (f_slotWaiting := f_slotWaiting) (f_slotReady := f_slotReady) (f_never := f_never) (f_anyAct := f_anyAct) (f_anyRead := f_anyRead) (f_anyWrite := f_anyWrite) (f_actNext := f_actNext) (f_nextSerial := f_nextSerial) (f_draining := f_draining) (f_clock := f_clock) (f_mode := f_mode) (f_faults := 0) (f_lost := f_lost) (f_retiredReads := f_retiredReads) (a_cells := a_cells) (a_openRows := a_openRows) (a_ages := a_ages) (a_lastAct := a_lastAct) (a_lastRead := a_lastRead) (a_lastWrite := a_lastWrite) (a_lastPre := a_lastPre) (a_lastRef := a_lastRef) (a_actTimes := a_actTimes) (a_reqAddress := a_reqAddress) (a_reqLanes := a_reqLanes) (a_reqData := a_reqData) (a_reqBase := a_reqBase) (a_reqFetched := a_reqFetched) (a_reqPending := a_reqPending) (a_reqBorn := a_reqBorn) (a_reqSerial := a_reqSerial) (a_slotStates := a_slotStates) (by
      show wpY_peek _ (f_rcd, f_rp, f_rfc, f_cap, f_clock, f_mode, f_lost, b_words, a_slotStates, b_slotLeft, b_slotValue, b_flight, b_open, b_ages, b_pastKind, b_pastBank) (nI j)
      unfold wpY_peek
      refine br_f z0 (br_t z6 ⟨vj, ?_, R⟩)
      rw [e]; exact V.2.2.1 j hj) 7 0 (by omega) (by omega)
    have e0 : (if 0 < m then 0 else m) = 0 := by split <;> omega
    rw [e0] at go
    exact br_f z0 (br_t z6 ⟨vj, nm_e ⟨7, go⟩⟩)
end
end
section
/-! One clock in SERVICE mode, both machines. -/
section
variable {f_rcd f_rp f_rfc f_cap f_refreshSoon f_refreshMust f_drainMark f_requests f_allLanes f_slotFree f_slotWaiting f_slotReady f_actNext f_writeHead f_writeCount f_draining f_mode f_faults f_lost f_retiredReads : Int32} {f_never f_anyAct f_anyRead f_anyWrite f_nextSerial f_clock : Int64} {a_cells a_openRows a_ages a_reqAddress a_reqLanes a_reqData a_reqBase a_reqFetched a_reqPending a_slotStates : (Nat → Int32)} {a_lastAct a_lastRead a_lastWrite a_lastPre a_lastRef a_actTimes a_reqBorn a_reqSerial : (Nat → Int64)}
variable {y_rcd y_rp y_rfc y_cap y_busMode y_losses : Int32} {y_now : Int64} {b_words b_slotState b_slotLeft b_slotValue b_flight b_open b_ages b_pastKind b_pastBank : (Nat → Int32)}
variable {N hd m : Nat} {bo : Nat → Int}
theorem sp_pd {p : Nat} : sc_pd (sc_ab f_rcd f_rp f_rfc f_cap f_anyAct f_anyRead f_anyWrite f_actNext f_nextSerial f_draining f_clock a_openRows a_ages a_lastAct a_lastRead a_lastWrite a_lastPre a_lastRef a_actTimes a_reqAddress a_reqLanes a_reqFetched a_reqPending a_reqSerial bo) p ≠ 0 ↔ a_reqPending p ≠ 0 := by rw [ab_pd]; exact not_congr xb_0.symm
theorem sp_fe {p : Nat} : sc_fe (sc_ab f_rcd f_rp f_rfc f_cap f_anyAct f_anyRead f_anyWrite f_actNext f_nextSerial f_draining f_clock a_openRows a_ages a_lastAct a_lastRead a_lastWrite a_lastPre a_lastRef a_actTimes a_reqAddress a_reqLanes a_reqFetched a_reqPending a_reqSerial bo) p ≠ 0 ↔ a_reqFetched p ≠ 0 := by rw [ab_fe]; exact not_congr xb_0.symm
theorem sp_ad {p q : Nat} : sc_ad (sc_ab f_rcd f_rp f_rfc f_cap f_anyAct f_anyRead f_anyWrite f_actNext f_nextSerial f_draining f_clock a_openRows a_ages a_lastAct a_lastRead a_lastWrite a_lastPre a_lastRef a_actTimes a_reqAddress a_reqLanes a_reqFetched a_reqPending a_reqSerial bo) p = sc_ad (sc_ab f_rcd f_rp f_rfc f_cap f_anyAct f_anyRead f_anyWrite f_actNext f_nextSerial f_draining f_clock a_openRows a_ages a_lastAct a_lastRead a_lastWrite a_lastPre a_lastRef a_actTimes a_reqAddress a_reqLanes a_reqFetched a_reqPending a_reqSerial bo) q ↔ a_reqAddress p = a_reqAddress q := by rw [ab_ad, ab_ad]; exact xb_eq.symm
theorem sp_fu {p : Nat} (h : sc_fu (sc_ab f_rcd f_rp f_rfc f_cap f_anyAct f_anyRead f_anyWrite f_actNext f_nextSerial f_draining f_clock a_openRows a_ages a_lastAct a_lastRead a_lastWrite a_lastPre a_lastRef a_actTimes a_reqAddress a_reqLanes a_reqFetched a_reqPending a_reqSerial bo) p ≠ 0) : a_reqLanes p = 65535 := by
  rw [ab_fu] at h
  by_cases c : a_reqLanes p = 65535
  · exact c
  · rw [if_neg c] at h; exact absurd rfl h
theorem sp_dr {d : Int32} : ∀ f i, (f ≠ 0 ∨ i ≠ 1) → (sc_ab f_rcd f_rp f_rfc f_cap f_anyAct f_anyRead f_anyWrite f_actNext f_nextSerial d f_clock a_openRows a_ages a_lastAct a_lastRead a_lastWrite a_lastPre a_lastRef a_actTimes a_reqAddress a_reqLanes a_reqFetched a_reqPending a_reqSerial bo) f i = (sc_ab f_rcd f_rp f_rfc f_cap f_anyAct f_anyRead f_anyWrite f_actNext f_nextSerial f_draining f_clock a_openRows a_ages a_lastAct a_lastRead a_lastWrite a_lastPre a_lastRef a_actTimes a_reqAddress a_reqLanes a_reqFetched a_reqPending a_reqSerial bo) f i := by
  intro f i h
  unfold sc_ab
  split
  · split <;> first | rfl | (exfalso; omega)
  all_goals rfl
theorem sp_V {d : Int32} (v : sc_V (sc_ab f_rcd f_rp f_rfc f_cap f_anyAct f_anyRead f_anyWrite f_actNext f_nextSerial f_draining f_clock a_openRows a_ages a_lastAct a_lastRead a_lastWrite a_lastPre a_lastRef a_actTimes a_reqAddress a_reqLanes a_reqFetched a_reqPending a_reqSerial bo)) : sc_V (sc_ab f_rcd f_rp f_rfc f_cap f_anyAct f_anyRead f_anyWrite f_actNext f_nextSerial d f_clock a_openRows a_ages a_lastAct a_lastRead a_lastWrite a_lastPre a_lastRef a_actTimes a_reqAddress a_reqLanes a_reqFetched a_reqPending a_reqSerial bo) := by
  intro q hq p
  rw [ab_pd] at p
  have := v q hq (by rw [ab_pd]; exact p)
  rw [ab_se, ab_ns, ab_bo, ab_c] at this ⊢
  exact this
theorem sv_clk {post : Int32 → SX → Prop} (K : (i_K N hd m f_rcd f_rp f_rfc f_cap f_anyAct f_anyRead f_anyWrite f_actNext f_nextSerial f_draining f_clock a_openRows a_ages a_lastAct a_lastRead a_lastWrite a_lastPre a_lastRef a_actTimes a_reqAddress a_reqLanes a_reqFetched a_reqPending a_reqSerial bo a_cells a_reqData a_reqBase a_reqBorn a_slotStates b_words b_slotLeft b_slotValue b_flight)) (pre : sc_Pre (sc_ab f_rcd f_rp f_rfc f_cap f_anyAct f_anyRead f_anyWrite f_actNext f_nextSerial f_draining f_clock a_openRows a_ages a_lastAct a_lastRead a_lastWrite a_lastPre a_lastRef a_actTimes a_reqAddress a_reqLanes a_reqFetched a_reqPending a_reqSerial bo)) (hN : N < 1000000)
    (h : ∀ (r : Int32) (u' : SX) (v' : SY), i_RN (N + 1) u' v' → (∀ postY : Int32 → SY → Prop, postY r v' → wpY_passService postY (f_rcd, f_rp, f_rfc, f_cap, f_clock, 0, f_lost, b_words, a_slotStates, b_slotLeft, b_slotValue, b_flight, b_open, b_ages, b_pastKind, b_pastBank)) → post r u') : wpX_passServiceClock post (f_rcd, f_rp, f_rfc, f_cap, f_refreshSoon, f_refreshMust, f_drainMark, f_requests, f_allLanes, f_slotFree, f_slotWaiting, f_slotReady, f_never, f_anyAct, f_anyRead, f_anyWrite, f_actNext, f_nextSerial, nI hd, nI m, f_draining, f_clock, 0, 0, f_lost, f_retiredReads, a_cells, a_openRows, a_ages, a_lastAct, a_lastRead, a_lastWrite, a_lastPre, a_lastRef, a_actTimes, a_reqAddress, a_reqLanes, a_reqData, a_reqBase, a_reqFetched, a_reqPending, a_reqBorn, a_reqSerial, a_slotStates) := by
  obtain ⟨⟨c0, c1, c2⟩, an, ri, w, rg, v, hb, T, V⟩ := K
  have hb2 : ∀ q, q < 12 → 0 ≤ (a_reqBorn q).toInt ∧ (a_reqBorn q).toInt ≤ 1000000 := fun q hq => ⟨(hb q hq).1, by have := (hb q hq).2; omega⟩
  refine xw_svc (bo := bo) T.1 T.2.1 rfl rfl w rg an ri hb2 (fun q hq p => (dt_act T hq (sp_pd.mp p)).1) ?_
  intro d n_anyAct n_anyRead n_anyWrite n_actNext n_cells n_openRows n_ages n_lastAct n_lastRead n_lastWrite n_lastPre n_lastRef n_actTimes n_reqData n_reqBase n_reqFetched n_reqPending k b q hd0 hdr hmo af
  obtain ⟨ch, ef, da, an', ri', ag'⟩ := af
  have wd := sc_W_dr (d := d) w
  have rd := sc_Rg_dr hd0 rg
  have ck := xb_clk rg
  have en : sc_ns (sc_ab f_rcd f_rp f_rfc f_cap n_anyAct n_anyRead n_anyWrite n_actNext f_nextSerial d (f_clock + 1) n_openRows (xf_ag n_ages 8) n_lastAct n_lastRead n_lastWrite n_lastPre n_lastRef n_actTimes a_reqAddress a_reqLanes n_reqFetched n_reqPending a_reqSerial bo) = sc_ns (sc_ab f_rcd f_rp f_rfc f_cap f_anyAct f_anyRead f_anyWrite f_actNext f_nextSerial d f_clock a_openRows a_ages a_lastAct a_lastRead a_lastWrite a_lastPre a_lastRef a_actTimes a_reqAddress a_reqLanes a_reqFetched a_reqPending a_reqSerial bo) := by rw [ab_ns, ab_ns]
  obtain ⟨pre', w', v', lat, age⟩ := pr_tick pre wd (sp_V v) sp_dr hdr (fun h1 h2 => hmo (fun z => h1 (by rw [ab_dr]; exact xb_0.mp z)) (by rw [ab_dr] at h2; exact xb_0.mpr h2)) ch ef en
  -- Int32 facts of the command
  have hp : ∀ p, p < 12 → n_reqPending p = if (k = 1 ∧ p < 6 ∧ a_reqAddress p = a_reqAddress q) ∨ (k = 2 ∧ p = q) then 0 else a_reqPending p := by
    intro p h12
    have e := ef.2.2.2.2.2.2.2.2.2.2.2.2.2.2.2.2.2.2.2.1 p h12
    rw [ab_pd, ab_pd, ab_ad, ab_ad] at e
    by_cases c : (k = 1 ∧ p < 6 ∧ a_reqAddress p = a_reqAddress q) ∨ (k = 2 ∧ p = q)
    · rw [if_pos c, xb_0, e, if_pos]
      rcases c with c | c
      · exact .inl ⟨c.1, c.2.1, xb_eq.mp c.2.2⟩
      · exact .inr c
    · rw [if_neg c, xb_eq, e, if_neg]
      rintro (z | z)
      · exact c (.inl ⟨z.1, z.2.1, xb_eq.mpr z.2.2⟩)
      · exact c (.inr z)
  have mo : ∀ p, p < 12 → a_reqPending p = 0 → n_reqPending p = 0 := by
    intro p h12 z
    rw [hp p h12]
    split
    · rfl
    · exact z
  have late : ∀ p, p < 12 → n_reqPending p ≠ 0 → (f_clock + 1).toInt - bo p ≤ 255 := by
    intro p h12 z
    have := lat p h12 (sp_pd.mpr z)
    rw [ab_c, ab_bo] at this
    exact this
  have hf : ∀ p, p < 12 → n_reqFetched p ≠ 0 → a_reqFetched p ≠ 0 ∨ ((k = 1 ∨ k = 2) ∧ 6 ≤ p ∧ a_reqAddress p = a_reqAddress q) := by
    intro p h12 z
    have e := ef.2.2.2.2.2.2.2.2.2.2.2.2.2.2.2.2.2.2.2.2.1 p h12
    rw [ab_fe, ab_fe, ab_pd, ab_ad, ab_ad] at e
    by_cases c : (k = 1 ∨ (k = 2 ∧ p ≠ q)) ∧ 6 ≤ p ∧ (a_reqPending p).toInt ≠ 0 ∧ (a_reqAddress p).toInt = (a_reqAddress q).toInt
    · refine .inr ⟨?_, c.2.1, xb_eq.mpr c.2.2.2⟩
      rcases c.1 with y | y
      · exact .inl y
      · exact .inr y.1
    · rw [if_neg c] at e
      left
      intro y
      apply z
      rw [xb_0, e]; exact xb_0.mp y
  have ra : ∀ p, p < 12 → 0 ≤ (a_reqAddress p).toInt ∧ (a_reqAddress p).toInt < 256 := by
    intro p h12
    have := (rg.2.2.2 p h12).2.2
    rw [ab_ad] at this
    exact ⟨this.1, this.2.1⟩
  have un : ∀ p r, p < 12 → r < 12 → a_reqPending p ≠ 0 → a_reqPending r ≠ 0 → (a_reqSerial p).toInt = (a_reqSerial r).toInt → p = r := by
    intro p r h1 h2 z1 z2 z3
    refine (w.2.2.2.2.2.2.2 p r h1 h2 (sp_pd.mpr z1) (sp_pd.mpr z2)).1 ?_
    rw [ab_se, ab_se]; exact z3
  have V1 := dv_cmd V T.1 T.2.1 (fun i h1 h2 => (T.2.2.2.2.1 i h1 h2).1) ra un hp hf da (fun hk => ⟨(ch_data ch hk).1, sp_pd.mp (ch_data ch hk).2.1⟩) (fun k2 => by
    obtain ⟨q1, q2, q3⟩ := (ch_data ch (.inr k2)).2.2 k2
    refine ⟨q1, ?_, fun o ho z1 z2 => ?_⟩
    · rcases q2 with y | y
      · exact .inl (sp_fu y)
      · exact .inr (sp_fe.mp y)
    · have := q3 o ho (sp_pd.mpr z1) (sp_ad.mpr z2)
      rw [ab_se, ab_se] at this
      exact this)
  obtain ⟨j, j1, j2, j3, T'⟩ := dt_tick T c0 (by omega) ck hb2 mo late
  have V2 := dv_pop V1 j1 j3 (st' := xr_s (f_clock + 1) a_reqBorn a_slotStates 6) (fun s hs z => by
    unfold xr_s at z
    by_cases c : s < 6 ∧ a_slotStates s = 1 ∧ ¬ (f_clock + 1) - a_reqBorn s < 256
    · rw [c.2.1]; decide
    · rw [if_neg c] at z; exact z)
  have rg' := rg_tick wd rd ef en (by rw [ab_c]; omega) age
  refine ⟨fun x hx => ?_, fun p h12 z => ?_, ?_⟩
  · have a := age x hx
    have g := ag' x hx
    rw [ab_age, xf_ag_toInt hx g.1 g.2] at a
    omega
  · apply Classical.byContradiction
    intro y
    have l := late p h12 y
    have a := dt_act T h12 (fun q => y (mo p h12 q))
    have b := hb2 p h12
    apply z
    rw [(xb_256 (x := f_clock + 1) (y := a_reqBorn p) (by omega) (by omega) b.1 b.2).1]
    omega
  · refine h _ _ (f_rcd, f_rp, f_rfc, f_cap, f_clock + 1, 0, f_lost, b_words, xr_s (f_clock + 1) a_reqBorn a_slotStates 6, yp_l a_slotStates b_slotLeft 6, b_slotValue, yp_it 6 (yp_f b_flight 6), b_open, b_ages, b_pastKind, b_pastBank) ?_ (fun postY hY => yw_svc ?_)
    · rw [j2]
      refine i_inS (hd := (hd + j) % 6) (m := m - j) (bo := bo) ⟨⟨by omega, by omega, by omega⟩, an', ri', w', rg', v', fun p h12 => ?_, T', V2⟩ pre'
      have := hb p h12
      omega
    · rw [dt_n T c0 (by omega) ck hb2 6 (Nat.le_refl _), dt_st T c0 (by omega) ck hb2]
      exact hY
end
end
section
/-! One clock in MANUAL mode, both machines. -/
theorem xg_ns (ages : Nat → Int32) (j : Nat) : xg_n ages (j + 1) = if ages j + 1 < 512 then xg_n ages j else xg_n ages j + 1 := rfl
theorem xg_cs (cells ages : Nat → Int32) (j : Nat) : xg_c cells ages (j + 1) = if ages j + 1 < 512 then xg_c cells ages j else xf_wp (xg_c cells ages j) j := rfl
theorem xg_cg {cells words a b : Nat → Int32} (e : ∀ x, x < 8 → b x = a x) (ew : ∀ i, i < 256 → words i = cells i) : ∀ j, j ≤ 8 → xg_n b j = xg_n a j ∧ ∀ i, i < 256 → xg_c words b j i = xg_c cells a j i
  | 0, _ => ⟨rfl, ew⟩
  | j + 1, hj => by
    obtain ⟨h1, h2⟩ := xg_cg e ew j (by omega)
    rw [xg_ns, xg_ns, xg_cs, xg_cs, e j (by omega)]
    by_cases c : a j + 1 < 512
    · rw [if_pos c, if_pos c, if_pos c, if_pos c]; exact ⟨h1, h2⟩
    · rw [if_neg c, if_neg c, if_neg c, if_neg c]
      refine ⟨by rw [h1], fun i hi => ?_⟩
      unfold xf_wp
      split
      · rfl
      · exact h2 i hi
theorem xg_16 {cells a : Nat → Int32} (h : ∀ i, i < 256 → h16 (cells i)) : ∀ j i, i < 256 → h16 (xg_c cells a j i)
  | 0, i, hi => h i hi
  | j + 1, i, hi => by
    have ih := xg_16 (a := a) h j i hi
    rw [xg_cs]
    split
    · exact ih
    · unfold xf_wp
      split
      · exact h16_0
      · exact ih
theorem xg_ag {a : Nat → Int32} {x : Nat} (hx : x < 8) (h0 : 0 ≤ (a x).toInt) (h1 : (a x).toInt ≤ 511) : 0 ≤ (xg_a a 8 x).toInt ∧ (xg_a a 8 x).toInt ≤ (a x).toInt + 1 ∧ (xg_a a 8 x).toInt ≤ 511 := by
  have e1 : (1 : Int32).toInt = 1 := by decide
  have e2 : (512 : Int32).toInt = 512 := by decide
  have e0 : (0 : Int32).toInt = 0 := by decide
  have s : (a x + 1).toInt = (a x).toInt + 1 := by
    rw [Int32.toInt_add, e1]
    exact Int.bmod_eq_of_le (by omega) (by omega)
  unfold xg_a
  rw [if_pos hx]
  by_cases c : a x + 1 < 512
  · rw [if_pos c]
    rw [Int32.lt_iff_toInt_lt] at c
    omega
  · rw [if_neg c]; omega
theorem xg_ae {a b : Nat → Int32} (e : ∀ x, x < 8 → b x = a x) {x : Nat} (hx : x < 8) : xg_a b 8 x = xg_a a 8 x := by
  unfold xg_a
  rw [if_pos hx, if_pos hx, e x hx]
/-- ranges kept in MANUAL mode -/
theorem rg_man {s t : sc_S} {k b : Nat} {r : Int} (w : sc_W s) (rg : sc_Rg s) (E : mg_E s t k b r) (hr : k = 0 → 0 ≤ r ∧ r ≤ 7) (hc : sc_c s < 1000000) (ag : ∀ x, x < 8 → sc_age t x ≤ 511) (e0 : sc_ns t = sc_ns s ∧ sc_dr t = sc_dr s)
    (eq : ∀ q, q < 12 → sc_pd t q = sc_pd s q ∧ sc_fe t q = sc_fe s q ∧ sc_ad t q = sc_ad s q ∧ sc_se t q = sc_se s q) : sc_Rg t := by
  obtain ⟨-, w0, w1, w2, w3, w4, -, -⟩ := w
  obtain ⟨g1, g2, g3, g4⟩ := rg
  obtain ⟨⟨e1, -, -, -, -⟩, ⟨x1, x2, x3, x4⟩, ⟨y1, y2⟩, eo, ea, er, ew, ep, ef, eg⟩ := E
  refine ⟨⟨by omega, by omega, by omega, by omega, by omega⟩, ?_, fun x hx => ?_, fun p hp => ?_⟩
  · clear eo ea er ew ep ef eg g3 g4 eq
    have t1 : -1000 ≤ sc_ar t := by rw [y1]; split <;> omega
    have t2 : -1000 ≤ sc_aw t := by rw [y2]; split <;> omega
    by_cases z : k = 0
    · rw [if_pos z] at x1 x2 x3 x4
      omega
    · rw [if_neg z] at x1 x2 x3 x4
      omega
  · have a := ag x hx
    have g := g3 x hx
    have eo := eo x hx; have ea := ea x hx; have er := er x hx; have ew := ew x hx; have ep := ep x hx; have ef := ef x hx; have eg := eg x hx
    refine ⟨?_, ?_, ?_, ?_, ?_, eg.1, by omega, ?_, ?_⟩
    · rw [ea]; split <;> omega
    · rw [er]; split <;> omega
    · rw [ew]; split <;> omega
    · rw [ep]; split <;> omega
    · rw [ef]; split <;> omega
    · rw [eo]; split
      · rename_i c
        have := hr c.1; omega
      · split <;> omega
    · rw [eo]; split
      · rename_i c
        have := hr c.1; omega
      · split <;> omega
  · obtain ⟨q1, q2, q3, q4⟩ := eq p hp
    rw [q1, q2, q3, q4]; exact g4 p hp
section
variable {f_rcd f_rp f_rfc f_cap f_refreshSoon f_refreshMust f_drainMark f_requests f_allLanes f_slotFree f_slotWaiting f_slotReady f_actNext f_writeHead f_writeCount f_draining f_mode f_faults f_lost f_retiredReads : Int32} {f_never f_anyAct f_anyRead f_anyWrite f_nextSerial f_clock : Int64} {a_cells a_openRows a_ages a_reqAddress a_reqLanes a_reqData a_reqBase a_reqFetched a_reqPending a_slotStates : (Nat → Int32)} {a_lastAct a_lastRead a_lastWrite a_lastPre a_lastRef a_actTimes a_reqBorn a_reqSerial : (Nat → Int64)}
variable {y_rcd y_rp y_rfc y_cap y_busMode y_losses : Int32} {y_now : Int64} {b_words b_slotState b_slotLeft b_slotValue b_flight b_open b_ages b_pastKind b_pastBank : (Nat → Int32)}
variable {N hd m : Nat} {bo : Nat → Int}
theorem i_np (K : (i_K N hd m f_rcd f_rp f_rfc f_cap f_anyAct f_anyRead f_anyWrite f_actNext f_nextSerial f_draining f_clock a_openRows a_ages a_lastAct a_lastRead a_lastWrite a_lastPre a_lastRef a_actTimes a_reqAddress a_reqLanes a_reqFetched a_reqPending a_reqSerial bo a_cells a_reqData a_reqBase a_reqBorn a_slotStates b_words b_slotLeft b_slotValue b_flight)) (M : (i_M m b_open b_ages b_pastKind b_pastBank a_slotStates f_rcd f_rp f_rfc f_cap f_anyAct f_anyRead f_anyWrite f_actNext f_nextSerial f_draining f_clock a_openRows a_ages a_lastAct a_lastRead a_lastWrite a_lastPre a_lastRef a_actTimes a_reqAddress a_reqLanes a_reqFetched a_reqPending a_reqSerial bo)) : ∀ q, q < 12 → a_reqPending q = 0 := by
  obtain ⟨-, -, -, -, -, -, -, T, -⟩ := K
  obtain ⟨n1, n0, -⟩ := M
  intro q hq
  apply Classical.byContradiction
  intro z
  have a := dt_act T hq z
  by_cases l : q < 6
  · exact n1 q l (a.2.2.2.1 l)
  · obtain ⟨i, hi, -⟩ := a.2.2.2.2 (by omega)
    omega
theorem mn_step {k b : Nat} {r : Int} {l : Int32} {n_anyAct n_anyRead n_anyWrite : Int64} {n_actNext : Int32} {n_cells n_openRows n_ages : Nat → Int32} {n_lastAct n_lastRead n_lastWrite n_lastPre n_lastRef n_actTimes : Nat → Int64} {c_words c_open c_ages c_pk c_pb : Nat → Int32}
    (K : (i_K N hd m f_rcd f_rp f_rfc f_cap f_anyAct f_anyRead f_anyWrite f_actNext f_nextSerial f_draining f_clock a_openRows a_ages a_lastAct a_lastRead a_lastWrite a_lastPre a_lastRef a_actTimes a_reqAddress a_reqLanes a_reqFetched a_reqPending a_reqSerial bo a_cells a_reqData a_reqBase a_reqBorn a_slotStates b_words b_slotLeft b_slotValue b_flight)) (M : (i_M m b_open b_ages b_pastKind b_pastBank a_slotStates f_rcd f_rp f_rfc f_cap f_anyAct f_anyRead f_anyWrite f_actNext f_nextSerial f_draining f_clock a_openRows a_ages a_lastAct a_lastRead a_lastWrite a_lastPre a_lastRef a_actTimes a_reqAddress a_reqLanes a_reqFetched a_reqPending a_reqSerial bo)) (hN : N < 1000000) (hk : k ≤ 5) (hb : b < 8)
    (E : mg_E (sc_ab f_rcd f_rp f_rfc f_cap f_anyAct f_anyRead f_anyWrite f_actNext f_nextSerial f_draining f_clock a_openRows a_ages a_lastAct a_lastRead a_lastWrite a_lastPre a_lastRef a_actTimes a_reqAddress a_reqLanes a_reqFetched a_reqPending a_reqSerial bo) (sc_ab f_rcd f_rp f_rfc f_cap n_anyAct n_anyRead n_anyWrite n_actNext f_nextSerial f_draining (f_clock + 1) n_openRows n_ages n_lastAct n_lastRead n_lastWrite n_lastPre n_lastRef n_actTimes a_reqAddress a_reqLanes a_reqFetched a_reqPending a_reqSerial bo) k b r)
    (P : k < 5 → sc_P (sc_ab f_rcd f_rp f_rfc f_cap f_anyAct f_anyRead f_anyWrite f_actNext f_nextSerial f_draining f_clock a_openRows a_ages a_lastAct a_lastRead a_lastWrite a_lastPre a_lastRef a_actTimes a_reqAddress a_reqLanes a_reqFetched a_reqPending a_reqSerial bo) k b) (F : k = 4 → sc_op (sc_ab f_rcd f_rp f_rfc f_cap f_anyAct f_anyRead f_anyWrite f_actNext f_nextSerial f_draining f_clock a_openRows a_ages a_lastAct a_lastRead a_lastWrite a_lastPre a_lastRef a_actTimes a_reqAddress a_reqLanes a_reqFetched a_reqPending a_reqSerial bo) b < 0) (hr : k = 0 → 0 ≤ r ∧ r ≤ 7) (an : vp_in n_actNext 4) (ri : (n_actTimes ((n_actNext.toNatClampNeg + 3) % 4)).toInt = n_anyAct.toInt)
    (ag : ∀ x, x < 8 → (n_ages x).toInt ≤ 511) (ce : ∀ a, a < 256 → c_words a = n_cells a ∧ h16 (n_cells a)) (op : ∀ x, x < 8 → c_open x = n_openRows x ∧ c_ages x = n_ages x)
    (p0 : c_pk 0 = -1) (p1 : k < 5 → c_pk 1 = nI k) (p2 : k = 5 → c_pk 1 = -1) (b1 : k < 5 → c_pb 1 = nI b) (ps : ∀ d, 1 ≤ d → d < 15 → c_pk (d + 1) = b_pastKind d ∧ c_pb (d + 1) = b_pastBank d) :
    i_RN (N + 1) (f_rcd, f_rp, f_rfc, f_cap, f_refreshSoon, f_refreshMust, f_drainMark, f_requests, f_allLanes, f_slotFree, f_slotWaiting, f_slotReady, f_never, n_anyAct, n_anyRead, n_anyWrite, n_actNext, f_nextSerial, nI hd, nI m, f_draining, f_clock + 1, 1, 0, l, f_retiredReads, n_cells, n_openRows, n_ages, n_lastAct, n_lastRead, n_lastWrite, n_lastPre, n_lastRef, n_actTimes, a_reqAddress, a_reqLanes, a_reqData, a_reqBase, a_reqFetched, a_reqPending, a_reqBorn, a_reqSerial, a_slotStates)
      (f_rcd, f_rp, f_rfc, f_cap, f_clock + 1, 1, l, c_words, a_slotStates, b_slotLeft, b_slotValue, b_flight, c_open, c_ages, c_pk, c_pb) := by
  have np := i_np K M
  obtain ⟨⟨c0, c1, c2⟩, -, -, w, rg, v, hbn, T, V⟩ := K
  obtain ⟨n1, n0, n2, R⟩ := M
  subst n0
  have ck := xb_clk rg
  have w' := mg_W w E P F (fun q hq => by rw [ab_pd]; exact xb_0.mp (np q hq))
  have rg' := rg_man w rg E hr (by rw [ab_c]; omega) (fun x hx => by rw [ab_age]; exact ag x hx) ⟨by rw [ab_ns, ab_ns], by rw [ab_dr, ab_dr]⟩ (fun q hq => ⟨by rw [ab_pd, ab_pd], by rw [ab_fe, ab_fe], by rw [ab_ad, ab_ad], by rw [ab_se, ab_se]⟩)
  have R' := mg_step w R E hk hb p0 p1 p2 b1 ps
  refine i_inM (hd := hd) (m := 0) (bo := bo) ⟨⟨by omega, by omega, by omega⟩, an, ri, w', rg', fun q hq z => ?_, fun q hq => ?_, dt_man T n1 (by omega), dv_man V np (fun a ha => (ce a ha).1) (fun a ha => (ce a ha).2)⟩ ⟨n1, rfl, fun x hx => ⟨(op x hx).1, (op x hx).2, ag x hx⟩, R'⟩
  · rw [ab_pd] at z
    exact absurd (xb_0.mp (np q hq)) z
  · have := hbn q hq
    omega
theorem mn_ag (K : (i_K N hd m f_rcd f_rp f_rfc f_cap f_anyAct f_anyRead f_anyWrite f_actNext f_nextSerial f_draining f_clock a_openRows a_ages a_lastAct a_lastRead a_lastWrite a_lastPre a_lastRef a_actTimes a_reqAddress a_reqLanes a_reqFetched a_reqPending a_reqSerial bo a_cells a_reqData a_reqBase a_reqBorn a_slotStates b_words b_slotLeft b_slotValue b_flight)) (M : (i_M m b_open b_ages b_pastKind b_pastBank a_slotStates f_rcd f_rp f_rfc f_cap f_anyAct f_anyRead f_anyWrite f_actNext f_nextSerial f_draining f_clock a_openRows a_ages a_lastAct a_lastRead a_lastWrite a_lastPre a_lastRef a_actTimes a_reqAddress a_reqLanes a_reqFetched a_reqPending a_reqSerial bo)) : ∀ x, x < 8 → 0 ≤ (a_ages x).toInt ∧ (a_ages x).toInt ≤ 511 := by
  intro x hx
  have g := K.2.2.2.2.1.2.2.1 x hx
  rw [ab_age] at g
  exact ⟨g.2.2.2.2.2.1, (M.2.2.1 x hx).2.2⟩
theorem mn_bag (K : (i_K N hd m f_rcd f_rp f_rfc f_cap f_anyAct f_anyRead f_anyWrite f_actNext f_nextSerial f_draining f_clock a_openRows a_ages a_lastAct a_lastRead a_lastWrite a_lastPre a_lastRef a_actTimes a_reqAddress a_reqLanes a_reqFetched a_reqPending a_reqSerial bo a_cells a_reqData a_reqBase a_reqBorn a_slotStates b_words b_slotLeft b_slotValue b_flight)) (M : (i_M m b_open b_ages b_pastKind b_pastBank a_slotStates f_rcd f_rp f_rfc f_cap f_anyAct f_anyRead f_anyWrite f_actNext f_nextSerial f_draining f_clock a_openRows a_ages a_lastAct a_lastRead a_lastWrite a_lastPre a_lastRef a_actTimes a_reqAddress a_reqLanes a_reqFetched a_reqPending a_reqSerial bo)) : ∀ x, x < 8 → 0 ≤ (b_ages x).toInt ∧ (b_ages x).toInt ≤ 511 := by
  intro x hx
  rw [(M.2.2.1 x hx).2.1]; exact mn_ag K M x hx
/-- the ages of a MANUAL clock, as mg_E wants them -/
theorem mn_age {a : Nat → Int32} {x : Nat} (hx : x < 8) (h : 0 ≤ (a x).toInt ∧ (a x).toInt ≤ 511) : 0 ≤ (xg_a a 8 x).toInt ∧ (xg_a a 8 x).toInt ≤ (a x).toInt + 1 := ⟨(xg_ag hx h.1 h.2).1, (xg_ag hx h.1 h.2).2.1⟩
theorem me_none (K : (i_K N hd m f_rcd f_rp f_rfc f_cap f_anyAct f_anyRead f_anyWrite f_actNext f_nextSerial f_draining f_clock a_openRows a_ages a_lastAct a_lastRead a_lastWrite a_lastPre a_lastRef a_actTimes a_reqAddress a_reqLanes a_reqFetched a_reqPending a_reqSerial bo a_cells a_reqData a_reqBase a_reqBorn a_slotStates b_words b_slotLeft b_slotValue b_flight)) (M : (i_M m b_open b_ages b_pastKind b_pastBank a_slotStates f_rcd f_rp f_rfc f_cap f_anyAct f_anyRead f_anyWrite f_actNext f_nextSerial f_draining f_clock a_openRows a_ages a_lastAct a_lastRead a_lastWrite a_lastPre a_lastRef a_actTimes a_reqAddress a_reqLanes a_reqFetched a_reqPending a_reqSerial bo)) : mg_E (sc_ab f_rcd f_rp f_rfc f_cap f_anyAct f_anyRead f_anyWrite f_actNext f_nextSerial f_draining f_clock a_openRows a_ages a_lastAct a_lastRead a_lastWrite a_lastPre a_lastRef a_actTimes a_reqAddress a_reqLanes a_reqFetched a_reqPending a_reqSerial bo) (sc_ab f_rcd f_rp f_rfc f_cap f_anyAct f_anyRead f_anyWrite f_actNext f_nextSerial f_draining (f_clock + 1) a_openRows (xg_a a_ages 8) a_lastAct a_lastRead a_lastWrite a_lastPre a_lastRef a_actTimes a_reqAddress a_reqLanes a_reqFetched a_reqPending a_reqSerial bo) 5 0 0 := by
  have ag := mn_ag K M
  have rg := K.2.2.2.2.1
  refine ⟨⟨?_, ?_, ?_, ?_, ?_⟩, ⟨?_, ?_, ?_, ?_⟩, ⟨?_, ?_⟩, fun x hx => ?_, fun x hx => ?_, fun x hx => ?_, fun x hx => ?_, fun x hx => ?_, fun x hx => ?_, fun x hx => ?_⟩
  · rw [ab_c, ab_c]; exact xb_clk rg
  · rw [ab_rcd, ab_rcd]
  · rw [ab_rp, ab_rp]
  · rw [ab_rfc, ab_rfc]
  · rw [ab_cap, ab_cap]
  · rw [if_neg (by decide), ab_a1, ab_a1]
  · rw [if_neg (by decide), ab_a2, ab_a2]
  · rw [if_neg (by decide), ab_a3, ab_a3]
  · rw [if_neg (by decide), ab_a4, ab_a4]
  · rw [if_neg (by decide), ab_ar, ab_ar]
  · rw [if_neg (by decide), ab_aw, ab_aw]
  · rw [if_neg (by omega), if_neg (by omega), ab_op, ab_op]
  · rw [if_neg (by omega), ab_la, ab_la]
  · rw [if_neg (by omega), ab_lr, ab_lr]
  · rw [if_neg (by omega), ab_lw, ab_lw]
  · rw [if_neg (by omega), ab_lp, ab_lp]
  · rw [if_neg (by omega), ab_lf, ab_lf]
  · rw [if_neg (by omega), ab_age, ab_age]; exact mn_age hx (ag x hx)
theorem me_act (K : (i_K N hd m f_rcd f_rp f_rfc f_cap f_anyAct f_anyRead f_anyWrite f_actNext f_nextSerial f_draining f_clock a_openRows a_ages a_lastAct a_lastRead a_lastWrite a_lastPre a_lastRef a_actTimes a_reqAddress a_reqLanes a_reqFetched a_reqPending a_reqSerial bo a_cells a_reqData a_reqBase a_reqBorn a_slotStates b_words b_slotLeft b_slotValue b_flight)) (M : (i_M m b_open b_ages b_pastKind b_pastBank a_slotStates f_rcd f_rp f_rfc f_cap f_anyAct f_anyRead f_anyWrite f_actNext f_nextSerial f_draining f_clock a_openRows a_ages a_lastAct a_lastRead a_lastWrite a_lastPre a_lastRef a_actTimes a_reqAddress a_reqLanes a_reqFetched a_reqPending a_reqSerial bo)) {b r : Nat} (hr : r < 8) : mg_E (sc_ab f_rcd f_rp f_rfc f_cap f_anyAct f_anyRead f_anyWrite f_actNext f_nextSerial f_draining f_clock a_openRows a_ages a_lastAct a_lastRead a_lastWrite a_lastPre a_lastRef a_actTimes a_reqAddress a_reqLanes a_reqFetched a_reqPending a_reqSerial bo) (sc_ab f_rcd f_rp f_rfc f_cap f_clock f_anyRead f_anyWrite ((f_actNext + 1) &&& 3) f_nextSerial f_draining (f_clock + 1) (upd a_openRows b (nI r)) (xg_a a_ages 8) (vp_updL a_lastAct b f_clock) a_lastRead a_lastWrite a_lastPre a_lastRef (vp_updL a_actTimes f_actNext.toNatClampNeg f_clock) a_reqAddress a_reqLanes a_reqFetched a_reqPending a_reqSerial bo) 0 b r := by
  have ag := mn_ag K M
  have rg := K.2.2.2.2.1
  have ri := K.2.2.1
  obtain ⟨n, hn, e0, e1, e2, -⟩ := xb_an K.2.1
  refine ⟨⟨?_, ?_, ?_, ?_, ?_⟩, ⟨?_, ?_, ?_, ?_⟩, ⟨?_, ?_⟩, fun x hx => ?_, fun x hx => ?_, fun x hx => ?_, fun x hx => ?_, fun x hx => ?_, fun x hx => ?_, fun x hx => ?_⟩
  · rw [ab_c, ab_c]; exact xb_clk rg
  · rw [ab_rcd, ab_rcd]
  · rw [ab_rp, ab_rp]
  · rw [ab_rfc, ab_rfc]
  · rw [ab_cap, ab_cap]
  · rw [if_pos rfl, ab_a1, ab_c]
  · rw [if_pos rfl, ab_a2, ab_a1, xb_updL, e2, if_neg (by omega), ← ri, e1]
    congr 2; omega
  · rw [if_pos rfl, ab_a3, ab_a2, xb_updL, e2, if_neg (by omega), e1]
    congr 2; omega
  · rw [if_pos rfl, ab_a4, ab_a3, xb_updL, e2, if_neg (by omega), e1]
  · rw [if_neg (by decide), ab_ar, ab_ar]
  · rw [if_neg (by decide), ab_aw, ab_aw]
  · rw [ab_op, xb_upd]
    by_cases e : x = b
    · rw [if_pos e, if_pos ⟨rfl, e⟩, nI_toInt (by omega)]
    · rw [if_neg e, if_neg (fun z => e z.2), if_neg (by omega), ab_op]
  · rw [ab_la, ab_la, xb_updL]
    by_cases e : x = b
    · rw [if_pos e, if_pos ⟨rfl, e⟩, ab_c]
    · rw [if_neg e, if_neg (fun z => e z.2)]
  · rw [if_neg (by omega), ab_lr, ab_lr]
  · rw [if_neg (by omega), ab_lw, ab_lw]
  · rw [if_neg (by omega), ab_lp, ab_lp]
  · rw [if_neg (by omega), ab_lf, ab_lf]
  · rw [if_neg (by omega), ab_age, ab_age]; exact mn_age hx (ag x hx)
theorem me_rd (K : (i_K N hd m f_rcd f_rp f_rfc f_cap f_anyAct f_anyRead f_anyWrite f_actNext f_nextSerial f_draining f_clock a_openRows a_ages a_lastAct a_lastRead a_lastWrite a_lastPre a_lastRef a_actTimes a_reqAddress a_reqLanes a_reqFetched a_reqPending a_reqSerial bo a_cells a_reqData a_reqBase a_reqBorn a_slotStates b_words b_slotLeft b_slotValue b_flight)) (M : (i_M m b_open b_ages b_pastKind b_pastBank a_slotStates f_rcd f_rp f_rfc f_cap f_anyAct f_anyRead f_anyWrite f_actNext f_nextSerial f_draining f_clock a_openRows a_ages a_lastAct a_lastRead a_lastWrite a_lastPre a_lastRef a_actTimes a_reqAddress a_reqLanes a_reqFetched a_reqPending a_reqSerial bo)) {b : Nat} : mg_E (sc_ab f_rcd f_rp f_rfc f_cap f_anyAct f_anyRead f_anyWrite f_actNext f_nextSerial f_draining f_clock a_openRows a_ages a_lastAct a_lastRead a_lastWrite a_lastPre a_lastRef a_actTimes a_reqAddress a_reqLanes a_reqFetched a_reqPending a_reqSerial bo) (sc_ab f_rcd f_rp f_rfc f_cap f_anyAct f_clock f_anyWrite f_actNext f_nextSerial f_draining (f_clock + 1) a_openRows (xg_a a_ages 8) a_lastAct (vp_updL a_lastRead b f_clock) a_lastWrite a_lastPre a_lastRef a_actTimes a_reqAddress a_reqLanes a_reqFetched a_reqPending a_reqSerial bo) 1 b 0 := by
  have ag := mn_ag K M
  have rg := K.2.2.2.2.1
  refine ⟨⟨?_, ?_, ?_, ?_, ?_⟩, ⟨?_, ?_, ?_, ?_⟩, ⟨?_, ?_⟩, fun x hx => ?_, fun x hx => ?_, fun x hx => ?_, fun x hx => ?_, fun x hx => ?_, fun x hx => ?_, fun x hx => ?_⟩
  · rw [ab_c, ab_c]; exact xb_clk rg
  · rw [ab_rcd, ab_rcd]
  · rw [ab_rp, ab_rp]
  · rw [ab_rfc, ab_rfc]
  · rw [ab_cap, ab_cap]
  · rw [if_neg (by decide), ab_a1, ab_a1]
  · rw [if_neg (by decide), ab_a2, ab_a2]
  · rw [if_neg (by decide), ab_a3, ab_a3]
  · rw [if_neg (by decide), ab_a4, ab_a4]
  · rw [if_pos rfl, ab_ar, ab_c]
  · rw [if_neg (by decide), ab_aw, ab_aw]
  · rw [if_neg (by omega), if_neg (by omega), ab_op, ab_op]
  · rw [if_neg (by omega), ab_la, ab_la]
  · rw [ab_lr, ab_lr, xb_updL]
    by_cases e : x = b
    · rw [if_pos e, if_pos ⟨rfl, e⟩, ab_c]
    · rw [if_neg e, if_neg (fun z => e z.2)]
  · rw [if_neg (by omega), ab_lw, ab_lw]
  · rw [if_neg (by omega), ab_lp, ab_lp]
  · rw [if_neg (by omega), ab_lf, ab_lf]
  · rw [if_neg (by omega), ab_age, ab_age]; exact mn_age hx (ag x hx)
theorem me_wr (K : (i_K N hd m f_rcd f_rp f_rfc f_cap f_anyAct f_anyRead f_anyWrite f_actNext f_nextSerial f_draining f_clock a_openRows a_ages a_lastAct a_lastRead a_lastWrite a_lastPre a_lastRef a_actTimes a_reqAddress a_reqLanes a_reqFetched a_reqPending a_reqSerial bo a_cells a_reqData a_reqBase a_reqBorn a_slotStates b_words b_slotLeft b_slotValue b_flight)) (M : (i_M m b_open b_ages b_pastKind b_pastBank a_slotStates f_rcd f_rp f_rfc f_cap f_anyAct f_anyRead f_anyWrite f_actNext f_nextSerial f_draining f_clock a_openRows a_ages a_lastAct a_lastRead a_lastWrite a_lastPre a_lastRef a_actTimes a_reqAddress a_reqLanes a_reqFetched a_reqPending a_reqSerial bo)) {b : Nat} : mg_E (sc_ab f_rcd f_rp f_rfc f_cap f_anyAct f_anyRead f_anyWrite f_actNext f_nextSerial f_draining f_clock a_openRows a_ages a_lastAct a_lastRead a_lastWrite a_lastPre a_lastRef a_actTimes a_reqAddress a_reqLanes a_reqFetched a_reqPending a_reqSerial bo) (sc_ab f_rcd f_rp f_rfc f_cap f_anyAct f_anyRead f_clock f_actNext f_nextSerial f_draining (f_clock + 1) a_openRows (xg_a a_ages 8) a_lastAct a_lastRead (vp_updL a_lastWrite b f_clock) a_lastPre a_lastRef a_actTimes a_reqAddress a_reqLanes a_reqFetched a_reqPending a_reqSerial bo) 2 b 0 := by
  have ag := mn_ag K M
  have rg := K.2.2.2.2.1
  refine ⟨⟨?_, ?_, ?_, ?_, ?_⟩, ⟨?_, ?_, ?_, ?_⟩, ⟨?_, ?_⟩, fun x hx => ?_, fun x hx => ?_, fun x hx => ?_, fun x hx => ?_, fun x hx => ?_, fun x hx => ?_, fun x hx => ?_⟩
  · rw [ab_c, ab_c]; exact xb_clk rg
  · rw [ab_rcd, ab_rcd]
  · rw [ab_rp, ab_rp]
  · rw [ab_rfc, ab_rfc]
  · rw [ab_cap, ab_cap]
  · rw [if_neg (by decide), ab_a1, ab_a1]
  · rw [if_neg (by decide), ab_a2, ab_a2]
  · rw [if_neg (by decide), ab_a3, ab_a3]
  · rw [if_neg (by decide), ab_a4, ab_a4]
  · rw [if_neg (by decide), ab_ar, ab_ar]
  · rw [if_pos rfl, ab_aw, ab_c]
  · rw [if_neg (by omega), if_neg (by omega), ab_op, ab_op]
  · rw [if_neg (by omega), ab_la, ab_la]
  · rw [if_neg (by omega), ab_lr, ab_lr]
  · rw [ab_lw, ab_lw, xb_updL]
    by_cases e : x = b
    · rw [if_pos e, if_pos ⟨rfl, e⟩, ab_c]
    · rw [if_neg e, if_neg (fun z => e z.2)]
  · rw [if_neg (by omega), ab_lp, ab_lp]
  · rw [if_neg (by omega), ab_lf, ab_lf]
  · rw [if_neg (by omega), ab_age, ab_age]; exact mn_age hx (ag x hx)
theorem me_pre (K : (i_K N hd m f_rcd f_rp f_rfc f_cap f_anyAct f_anyRead f_anyWrite f_actNext f_nextSerial f_draining f_clock a_openRows a_ages a_lastAct a_lastRead a_lastWrite a_lastPre a_lastRef a_actTimes a_reqAddress a_reqLanes a_reqFetched a_reqPending a_reqSerial bo a_cells a_reqData a_reqBase a_reqBorn a_slotStates b_words b_slotLeft b_slotValue b_flight)) (M : (i_M m b_open b_ages b_pastKind b_pastBank a_slotStates f_rcd f_rp f_rfc f_cap f_anyAct f_anyRead f_anyWrite f_actNext f_nextSerial f_draining f_clock a_openRows a_ages a_lastAct a_lastRead a_lastWrite a_lastPre a_lastRef a_actTimes a_reqAddress a_reqLanes a_reqFetched a_reqPending a_reqSerial bo)) {b : Nat} : mg_E (sc_ab f_rcd f_rp f_rfc f_cap f_anyAct f_anyRead f_anyWrite f_actNext f_nextSerial f_draining f_clock a_openRows a_ages a_lastAct a_lastRead a_lastWrite a_lastPre a_lastRef a_actTimes a_reqAddress a_reqLanes a_reqFetched a_reqPending a_reqSerial bo) (sc_ab f_rcd f_rp f_rfc f_cap f_anyAct f_anyRead f_anyWrite f_actNext f_nextSerial f_draining (f_clock + 1) (upd a_openRows b (-1)) (xg_a a_ages 8) a_lastAct a_lastRead a_lastWrite (vp_updL a_lastPre b f_clock) a_lastRef a_actTimes a_reqAddress a_reqLanes a_reqFetched a_reqPending a_reqSerial bo) 3 b 0 := by
  have ag := mn_ag K M
  have rg := K.2.2.2.2.1
  refine ⟨⟨?_, ?_, ?_, ?_, ?_⟩, ⟨?_, ?_, ?_, ?_⟩, ⟨?_, ?_⟩, fun x hx => ?_, fun x hx => ?_, fun x hx => ?_, fun x hx => ?_, fun x hx => ?_, fun x hx => ?_, fun x hx => ?_⟩
  · rw [ab_c, ab_c]; exact xb_clk rg
  · rw [ab_rcd, ab_rcd]
  · rw [ab_rp, ab_rp]
  · rw [ab_rfc, ab_rfc]
  · rw [ab_cap, ab_cap]
  · rw [if_neg (by decide), ab_a1, ab_a1]
  · rw [if_neg (by decide), ab_a2, ab_a2]
  · rw [if_neg (by decide), ab_a3, ab_a3]
  · rw [if_neg (by decide), ab_a4, ab_a4]
  · rw [if_neg (by decide), ab_ar, ab_ar]
  · rw [if_neg (by decide), ab_aw, ab_aw]
  · rw [if_neg (by omega), ab_op, xb_upd]
    by_cases e : x = b
    · rw [if_pos e, if_pos ⟨rfl, e⟩]; decide
    · rw [if_neg e, if_neg (fun z => e z.2), ab_op]
  · rw [if_neg (by omega), ab_la, ab_la]
  · rw [if_neg (by omega), ab_lr, ab_lr]
  · rw [if_neg (by omega), ab_lw, ab_lw]
  · rw [ab_lp, ab_lp, xb_updL]
    by_cases e : x = b
    · rw [if_pos e, if_pos ⟨rfl, e⟩, ab_c]
    · rw [if_neg e, if_neg (fun z => e z.2)]
  · rw [if_neg (by omega), ab_lf, ab_lf]
  · rw [if_neg (by omega), ab_age, ab_age]; exact mn_age hx (ag x hx)
theorem me_ref (K : (i_K N hd m f_rcd f_rp f_rfc f_cap f_anyAct f_anyRead f_anyWrite f_actNext f_nextSerial f_draining f_clock a_openRows a_ages a_lastAct a_lastRead a_lastWrite a_lastPre a_lastRef a_actTimes a_reqAddress a_reqLanes a_reqFetched a_reqPending a_reqSerial bo a_cells a_reqData a_reqBase a_reqBorn a_slotStates b_words b_slotLeft b_slotValue b_flight)) (M : (i_M m b_open b_ages b_pastKind b_pastBank a_slotStates f_rcd f_rp f_rfc f_cap f_anyAct f_anyRead f_anyWrite f_actNext f_nextSerial f_draining f_clock a_openRows a_ages a_lastAct a_lastRead a_lastWrite a_lastPre a_lastRef a_actTimes a_reqAddress a_reqLanes a_reqFetched a_reqPending a_reqSerial bo)) {b : Nat} : mg_E (sc_ab f_rcd f_rp f_rfc f_cap f_anyAct f_anyRead f_anyWrite f_actNext f_nextSerial f_draining f_clock a_openRows a_ages a_lastAct a_lastRead a_lastWrite a_lastPre a_lastRef a_actTimes a_reqAddress a_reqLanes a_reqFetched a_reqPending a_reqSerial bo) (sc_ab f_rcd f_rp f_rfc f_cap f_anyAct f_anyRead f_anyWrite f_actNext f_nextSerial f_draining (f_clock + 1) a_openRows (xg_a (upd a_ages b 0) 8) a_lastAct a_lastRead a_lastWrite a_lastPre (vp_updL a_lastRef b f_clock) a_actTimes a_reqAddress a_reqLanes a_reqFetched a_reqPending a_reqSerial bo) 4 b 0 := by
  have ag := mn_ag K M
  have rg := K.2.2.2.2.1
  have z0 : (0 : Int32).toInt = 0 := by decide
  refine ⟨⟨?_, ?_, ?_, ?_, ?_⟩, ⟨?_, ?_, ?_, ?_⟩, ⟨?_, ?_⟩, fun x hx => ?_, fun x hx => ?_, fun x hx => ?_, fun x hx => ?_, fun x hx => ?_, fun x hx => ?_, fun x hx => ?_⟩
  · rw [ab_c, ab_c]; exact xb_clk rg
  · rw [ab_rcd, ab_rcd]
  · rw [ab_rp, ab_rp]
  · rw [ab_rfc, ab_rfc]
  · rw [ab_cap, ab_cap]
  · rw [if_neg (by decide), ab_a1, ab_a1]
  · rw [if_neg (by decide), ab_a2, ab_a2]
  · rw [if_neg (by decide), ab_a3, ab_a3]
  · rw [if_neg (by decide), ab_a4, ab_a4]
  · rw [if_neg (by decide), ab_ar, ab_ar]
  · rw [if_neg (by decide), ab_aw, ab_aw]
  · rw [if_neg (by omega), if_neg (by omega), ab_op, ab_op]
  · rw [if_neg (by omega), ab_la, ab_la]
  · rw [if_neg (by omega), ab_lr, ab_lr]
  · rw [if_neg (by omega), ab_lw, ab_lw]
  · rw [if_neg (by omega), ab_lp, ab_lp]
  · rw [ab_lf, ab_lf, xb_updL]
    by_cases e : x = b
    · rw [if_pos e, if_pos ⟨rfl, e⟩, ab_c]
    · rw [if_neg e, if_neg (fun z => e z.2)]
  · have g := ag x hx
    have u : 0 ≤ (upd a_ages b 0 x).toInt ∧ (upd a_ages b 0 x).toInt ≤ 511 := by rw [xb_upd]; split <;> omega
    have r := mn_age (a := upd a_ages b 0) hx u
    rw [ab_age, ab_age]
    refine ⟨r.1, ?_⟩
    by_cases e : x = b
    · rw [xb_upd, if_pos e] at r
      rw [if_pos ⟨rfl, e⟩]; omega
    · rw [xb_upd, if_neg e] at r
      rw [if_neg (fun z => e z.2)]; exact r.2
theorem mn_clk {post : Int32 → SX → Prop} (K : (i_K N hd m f_rcd f_rp f_rfc f_cap f_anyAct f_anyRead f_anyWrite f_actNext f_nextSerial f_draining f_clock a_openRows a_ages a_lastAct a_lastRead a_lastWrite a_lastPre a_lastRef a_actTimes a_reqAddress a_reqLanes a_reqFetched a_reqPending a_reqSerial bo a_cells a_reqData a_reqBase a_reqBorn a_slotStates b_words b_slotLeft b_slotValue b_flight)) (M : (i_M m b_open b_ages b_pastKind b_pastBank a_slotStates f_rcd f_rp f_rfc f_cap f_anyAct f_anyRead f_anyWrite f_actNext f_nextSerial f_draining f_clock a_openRows a_ages a_lastAct a_lastRead a_lastWrite a_lastPre a_lastRef a_actTimes a_reqAddress a_reqLanes a_reqFetched a_reqPending a_reqSerial bo)) (hN : N < 1000000)
    (h : ∀ (r : Int32) (u' : SX) (v' : SY), i_RN (N + 1) u' v' → (∀ postY : Int32 → SY → Prop, postY r v' → wpY_passManual postY (f_rcd, f_rp, f_rfc, f_cap, f_clock, 1, f_lost, b_words, a_slotStates, b_slotLeft, b_slotValue, b_flight, b_open, b_ages, b_pastKind, b_pastBank)) → post r u') : wpX_passManualClock post (f_rcd, f_rp, f_rfc, f_cap, f_refreshSoon, f_refreshMust, f_drainMark, f_requests, f_allLanes, f_slotFree, f_slotWaiting, f_slotReady, f_never, f_anyAct, f_anyRead, f_anyWrite, f_actNext, f_nextSerial, nI hd, nI m, f_draining, f_clock, 1, 0, f_lost, f_retiredReads, a_cells, a_openRows, a_ages, a_lastAct, a_lastRead, a_lastWrite, a_lastPre, a_lastRef, a_actTimes, a_reqAddress, a_reqLanes, a_reqData, a_reqBase, a_reqFetched, a_reqPending, a_reqBorn, a_reqSerial, a_slotStates) := by
  have ag := mn_ag K M
  have bag := mn_bag K M
  have V := K.2.2.2.2.2.2.2.2
  have n0 := M.2.1
  have ve : ∀ a, a < 256 → b_words a = a_cells a := by subst n0; exact dv_eq V
  have cg := xg_cg (fun x hx => (M.2.2.1 x hx).2.1) ve 8 (Nat.le_refl _)
  refine xw_mclk (h _ _ (f_rcd, f_rp, f_rfc, f_cap, f_clock + 1, 1, f_lost + nI (xg_n a_ages 8), xg_c b_words b_ages 8, a_slotStates, b_slotLeft, b_slotValue, b_flight, b_open, xg_a b_ages 8, yq_0 b_pastKind, yq_k b_pastBank 0) ?_ (fun postY hY => yw_man bag ?_))
  · refine mn_step (k := 5) (b := 0) (r := 0) K M hN (Nat.le_refl _) (by decide) (me_none K M) (fun z => by omega) (fun z => by omega) (fun z => by omega) K.2.1 K.2.2.1 (fun x hx => (xg_ag hx (ag x hx).1 (ag x hx).2).2.2) (fun a ha => ⟨cg.2 a ha, xg_16 V.2.2.2.1 8 a ha⟩) (fun x hx => ⟨(M.2.2.1 x hx).1, xg_ae (fun y hy => (M.2.2.1 y hy).2.1) hx⟩) rfl (fun z => by omega) (fun _ => ?_) (fun z => by omega) (fun d h1 h2 => ⟨?_, ?_⟩)
    · exact M.2.2.2.2.1
    · unfold yq_0
      rw [if_neg (by omega), if_pos (by omega)]; rfl
    · unfold yq_k
      rw [if_pos (by omega)]; rfl
  · rw [cg.1]; exact hY
end
end
section
/-! The call tick. -/
def tkX (post : Int32 → SX → Prop) (x1 : Int32) (n : Nat) (c i : Int32) (u : SX) : Prop := match u with | (f_rcd, f_rp, f_rfc, f_cap, f_refreshSoon, f_refreshMust, f_drainMark, f_requests, f_allLanes, f_slotFree, f_slotWaiting, f_slotReady, f_never, f_anyAct, f_anyRead, f_anyWrite, f_actNext, f_nextSerial, f_writeHead, f_writeCount, f_draining, f_clock, f_mode, f_faults, f_lost, f_retiredReads, a_cells, a_openRows, a_ages, a_lastAct, a_lastRead, a_lastWrite, a_lastPre, a_lastRef, a_actTimes, a_reqAddress, a_reqLanes, a_reqData, a_reqBase, a_reqFetched, a_reqPending, a_reqBorn, a_reqSerial, a_slotStates) => wX_tick_18 post x1 n c i f_rcd f_rp f_rfc f_cap f_refreshSoon f_refreshMust f_drainMark f_requests f_allLanes f_slotFree f_slotWaiting f_slotReady f_never f_anyAct f_anyRead f_anyWrite f_actNext f_nextSerial f_writeHead f_writeCount f_draining f_clock f_mode f_faults f_lost f_retiredReads a_cells a_openRows a_ages a_lastAct a_lastRead a_lastWrite a_lastPre a_lastRef a_actTimes a_reqAddress a_reqLanes a_reqData a_reqBase a_reqFetched a_reqPending a_reqBorn a_reqSerial a_slotStates
def tkY (post : Int32 → SY → Prop) (x1 : Int32) (n : Nat) (c i : Int32) (v : SY) : Prop := match v with | (y_rcd, y_rp, y_rfc, y_cap, y_now, y_busMode, y_losses, b_words, b_slotState, b_slotLeft, b_slotValue, b_flight, b_open, b_ages, b_pastKind, b_pastBank) => wY_tick_18 post x1 n c i y_rcd y_rp y_rfc y_cap y_now y_busMode y_losses b_words b_slotState b_slotLeft b_slotValue b_flight b_open b_ages b_pastKind b_pastBank
theorem tkX_m {post : Int32 → SX → Prop} {x1 c i r : Int32} {n : Nat} (u : SX) (h : tkX post x1 n (c + r) (i + 1) u) : (match u with | (f_rcd, f_rp, f_rfc, f_cap, f_refreshSoon, f_refreshMust, f_drainMark, f_requests, f_allLanes, f_slotFree, f_slotWaiting, f_slotReady, f_never, f_anyAct, f_anyRead, f_anyWrite, f_actNext, f_nextSerial, f_writeHead, f_writeCount, f_draining, f_clock, f_mode, f_faults, f_lost, f_retiredReads, a_cells, a_openRows, a_ages, a_lastAct, a_lastRead, a_lastWrite, a_lastPre, a_lastRef, a_actTimes, a_reqAddress, a_reqLanes, a_reqData, a_reqBase, a_reqFetched, a_reqPending, a_reqBorn, a_reqSerial, a_slotStates) => ∀ x2 : Int32, x2 = c + r → ∀ x3 : Int32, x3 = i + 1 → wX_tick_18 post x1 n x2 x3 f_rcd f_rp f_rfc f_cap f_refreshSoon f_refreshMust f_drainMark f_requests f_allLanes f_slotFree f_slotWaiting f_slotReady f_never f_anyAct f_anyRead f_anyWrite f_actNext f_nextSerial f_writeHead f_writeCount f_draining f_clock f_mode f_faults f_lost f_retiredReads a_cells a_openRows a_ages a_lastAct a_lastRead a_lastWrite a_lastPre a_lastRef a_actTimes a_reqAddress a_reqLanes a_reqData a_reqBase a_reqFetched a_reqPending a_reqBorn a_reqSerial a_slotStates) := by
  match u, h with
  | (f_rcd, f_rp, f_rfc, f_cap, f_refreshSoon, f_refreshMust, f_drainMark, f_requests, f_allLanes, f_slotFree, f_slotWaiting, f_slotReady, f_never, f_anyAct, f_anyRead, f_anyWrite, f_actNext, f_nextSerial, f_writeHead, f_writeCount, f_draining, f_clock, f_mode, f_faults, f_lost, f_retiredReads, a_cells, a_openRows, a_ages, a_lastAct, a_lastRead, a_lastWrite, a_lastPre, a_lastRef, a_actTimes, a_reqAddress, a_reqLanes, a_reqData, a_reqBase, a_reqFetched, a_reqPending, a_reqBorn, a_reqSerial, a_slotStates), h => exact nm_e (nm_e h)
theorem tkY_m {post : Int32 → SY → Prop} {x1 c i r : Int32} {n : Nat} (v : SY) (h : tkY post x1 n (c + r) (i + 1) v) : (match v with | (y_rcd, y_rp, y_rfc, y_cap, y_now, y_busMode, y_losses, b_words, b_slotState, b_slotLeft, b_slotValue, b_flight, b_open, b_ages, b_pastKind, b_pastBank) => ∀ x2 : Int32, x2 = c + r → ∀ x3 : Int32, x3 = i + 1 → wY_tick_18 post x1 n x2 x3 y_rcd y_rp y_rfc y_cap y_now y_busMode y_losses b_words b_slotState b_slotLeft b_slotValue b_flight b_open b_ages b_pastKind b_pastBank) := by
  match v, h with
  | (y_rcd, y_rp, y_rfc, y_cap, y_now, y_busMode, y_losses, b_words, b_slotState, b_slotLeft, b_slotValue, b_flight, b_open, b_ages, b_pastKind, b_pastBank), h => exact nm_e (nm_e h)
theorem tkX_e {post : Int32 → SX → Prop} {x : Nat} (hx : x ≤ 128) {n : Nat} {c : Int32} (u : SX) (h : post c u) : tkX post (nI x) (n + 1) c (nI x) u := by
  match u, h with
  | (f_rcd, f_rp, f_rfc, f_cap, f_refreshSoon, f_refreshMust, f_drainMark, f_requests, f_allLanes, f_slotFree, f_slotWaiting, f_slotReady, f_never, f_anyAct, f_anyRead, f_anyWrite, f_actNext, f_nextSerial, f_writeHead, f_writeCount, f_draining, f_clock, f_mode, f_faults, f_lost, f_retiredReads, a_cells, a_openRows, a_ages, a_lastAct, a_lastRead, a_lastWrite, a_lastPre, a_lastRef, a_actTimes, a_reqAddress, a_reqLanes, a_reqData, a_reqBase, a_reqFetched, a_reqPending, a_reqBorn, a_reqSerial, a_slotStates), h =>
    unfold tkX wX_tick_18
    exact br_t (nI_le (Nat.le_refl _) (by omega)) h
theorem tkY_e {post : Int32 → SY → Prop} {x : Nat} (hx : x ≤ 128) {n : Nat} {c : Int32} (v : SY) (h : post c v) : tkY post (nI x) (n + 1) c (nI x) v := by
  match v, h with
  | (y_rcd, y_rp, y_rfc, y_cap, y_now, y_busMode, y_losses, b_words, b_slotState, b_slotLeft, b_slotValue, b_flight, b_open, b_ages, b_pastKind, b_pastBank), h =>
    unfold tkY wY_tick_18
    exact br_t (nI_le (Nat.le_refl _) (by omega)) h
theorem tk_l {x : Nat} (hx : x ≤ 128) {v0 : SY} {N : Nat} (hN : N + 200 < 1000000) {post : Int32 → SX → Prop}
    (hp : ∀ c u v, i_RN (N + x) u v → (∀ postY : Int32 → SY → Prop, postY c v → ∃ n, tkY postY (nI x) n 0 0 v0) → post c u) :
    ∀ d i c u v, i + d = x → i_RN (N + i) u v → (∀ postY : Int32 → SY → Prop, (∃ n, tkY postY (nI x) n c (nI i) v) → ∃ n, tkY postY (nI x) n 0 0 v0) → tkX post (nI x) (d + 1) c (nI i) u
  | 0, i, c, u, v, e, I, HY => by
    have : i = x := by omega
    subst this
    exact tkX_e hx u (hp c u v I (fun postY h => HY postY ⟨1, tkY_e hx v h⟩))
  | d + 1, i, c, u, v, e, I, HY => by
    have nle : ¬ nI x ≤ nI i := nI_ge (by omega) (by omega)
    refine i_cs (P := fun u v => (∀ postY : Int32 → SY → Prop, (∃ n, tkY postY (nI x) n c (nI i) v) → ∃ n, tkY postY (nI x) n 0 0 v0) → tkX post (nI x) (d + 1 + 1) c (nI i) u) I ?_ ?_ HY
    · intro hd m bo f_rcd f_rp f_rfc f_cap f_refreshSoon f_refreshMust f_drainMark f_requests f_allLanes f_slotFree f_slotWaiting f_slotReady f_never f_anyAct f_anyRead f_anyWrite f_actNext f_nextSerial f_writeHead f_writeCount f_draining f_clock f_mode f_faults f_lost f_retiredReads a_cells a_openRows a_ages a_lastAct a_lastRead a_lastWrite a_lastPre a_lastRef a_actTimes a_reqAddress a_reqLanes a_reqData a_reqBase a_reqFetched a_reqPending a_reqBorn a_reqSerial a_slotStates y_rcd y_rp y_rfc y_cap y_now y_busMode y_losses b_words b_slotState b_slotLeft b_slotValue b_flight b_open b_ages b_pastKind b_pastBank K pre HY
      unfold tkX wX_tick_18
      refine br_f nle (br_t rfl (sv_clk (b_open := b_open) (b_ages := b_ages) (b_pastKind := b_pastKind) (b_pastBank := b_pastBank) K pre (by omega) (fun r u' v' I' hY => tkX_m u' ?_)))
      rw [nI_1]
      refine tk_l hx hN hp d (i + 1) (c + r) u' v' (by omega) I' (fun postY h => HY postY ?_)
      obtain ⟨n, hn⟩ := h
      refine ⟨n + 1, ?_⟩
      unfold tkY wY_tick_18
      refine br_f nle (br_t rfl (hY _ (tkY_m v' ?_)))
      rw [nI_1]; exact hn
    · intro hd m bo f_rcd f_rp f_rfc f_cap f_refreshSoon f_refreshMust f_drainMark f_requests f_allLanes f_slotFree f_slotWaiting f_slotReady f_never f_anyAct f_anyRead f_anyWrite f_actNext f_nextSerial f_writeHead f_writeCount f_draining f_clock f_mode f_faults f_lost f_retiredReads a_cells a_openRows a_ages a_lastAct a_lastRead a_lastWrite a_lastPre a_lastRef a_actTimes a_reqAddress a_reqLanes a_reqData a_reqBase a_reqFetched a_reqPending a_reqBorn a_reqSerial a_slotStates y_rcd y_rp y_rfc y_cap y_now y_busMode y_losses b_words b_slotState b_slotLeft b_slotValue b_flight b_open b_ages b_pastKind b_pastBank K M HY
      unfold tkX wX_tick_18
      refine br_f nle (br_f (by decide) (mn_clk K M (by omega) (fun r u' v' I' hY => tkX_m u' ?_)))
      rw [nI_1]
      refine tk_l hx hN hp d (i + 1) (c + r) u' v' (by omega) I' (fun postY h => HY postY ?_)
      obtain ⟨n, hn⟩ := h
      refine ⟨n + 1, ?_⟩
      unfold tkY wY_tick_18
      refine br_f nle (br_f (by decide) (hY _ (tkY_m v' ?_)))
      rw [nI_1]; exact hn
theorem tkX_0 {post : Int32 → SX → Prop} {x1 : Int32} {n : Nat} {u : SX} (h1 : ¬ x1 < 1) (h2 : x1 ≤ 128) (h : tkX post x1 n 0 0 u) : wpX_tick post u x1 := by
  match u, h with
  | (f_rcd, f_rp, f_rfc, f_cap, f_refreshSoon, f_refreshMust, f_drainMark, f_requests, f_allLanes, f_slotFree, f_slotWaiting, f_slotReady, f_never, f_anyAct, f_anyRead, f_anyWrite, f_actNext, f_nextSerial, f_writeHead, f_writeCount, f_draining, f_clock, f_mode, f_faults, f_lost, f_retiredReads, a_cells, a_openRows, a_ages, a_lastAct, a_lastRead, a_lastWrite, a_lastPre, a_lastRef, a_actTimes, a_reqAddress, a_reqLanes, a_reqData, a_reqBase, a_reqFetched, a_reqPending, a_reqBorn, a_reqSerial, a_slotStates), h =>
    unfold wpX_tick
    exact br_f h1 (br_t h2 ⟨n, h⟩)
theorem tkY_0 {post : Int32 → SY → Prop} {x1 : Int32} {n : Nat} {v : SY} (h1 : ¬ x1 < 1) (h2 : x1 ≤ 128) (h : tkY post x1 n 0 0 v) : wpY_tick post v x1 := by
  match v, h with
  | (y_rcd, y_rp, y_rfc, y_cap, y_now, y_busMode, y_losses, b_words, b_slotState, b_slotLeft, b_slotValue, b_flight, b_open, b_ages, b_pastKind, b_pastBank), h =>
    unfold wpY_tick
    exact br_f h1 (br_t h2 ⟨n, h⟩)
theorem tkX_b {post : Int32 → SX → Prop} {x1 : Int32} {u : SX} (h : x1 < 1 ∨ ¬ x1 ≤ 128) (p : post (-1) u) : wpX_tick post u x1 := by
  match u, p with
  | (f_rcd, f_rp, f_rfc, f_cap, f_refreshSoon, f_refreshMust, f_drainMark, f_requests, f_allLanes, f_slotFree, f_slotWaiting, f_slotReady, f_never, f_anyAct, f_anyRead, f_anyWrite, f_actNext, f_nextSerial, f_writeHead, f_writeCount, f_draining, f_clock, f_mode, f_faults, f_lost, f_retiredReads, a_cells, a_openRows, a_ages, a_lastAct, a_lastRead, a_lastWrite, a_lastPre, a_lastRef, a_actTimes, a_reqAddress, a_reqLanes, a_reqData, a_reqBase, a_reqFetched, a_reqPending, a_reqBorn, a_reqSerial, a_slotStates), p =>
    unfold wpX_tick
    rcases h with h | h
    · exact br_t h p
    · exact br_c (fun _ => p) (fun _ => br_f h p)
theorem tkY_b {post : Int32 → SY → Prop} {x1 : Int32} {v : SY} (h : x1 < 1 ∨ ¬ x1 ≤ 128) (p : post (-1) v) : wpY_tick post v x1 := by
  match v, p with
  | (y_rcd, y_rp, y_rfc, y_cap, y_now, y_busMode, y_losses, b_words, b_slotState, b_slotLeft, b_slotValue, b_flight, b_open, b_ages, b_pastKind, b_pastBank), p =>
    unfold wpY_tick
    rcases h with h | h
    · exact br_t h p
    · exact br_c (fun _ => p) (fun _ => br_f h p)
theorem i_vc_tick {k : Nat} {u : SX} {v : SY} (I : i_Rel k u v) (hk : k + 5 ≤ 2564) (v1 : Int32) : wpX_tick (fun r u' => wpY_tick (fun r' v' => r' = r ∧ i_Rel (k + 5) u' v') v v1) u v1 := by
  have R : i_RN (26 * (k + 5)) u v := i_RN_up (by omega) I
  by_cases b : v1 < 1 ∨ ¬ v1 ≤ 128
  · exact tkX_b b (tkY_b b ⟨rfl, R⟩)
  · have b1 : ¬ v1 < 1 := fun z => b (.inl z)
    have b2 : v1 ≤ 128 := Classical.byContradiction (fun z => b (.inr z))
    obtain ⟨x, hx, rfl⟩ : ∃ x, x ≤ 128 ∧ v1 = nI x := by
      rw [Int32.lt_iff_toInt_lt] at b1
      rw [Int32.le_iff_toInt_le] at b2
      have e1 : (1 : Int32).toInt = 1 := by decide
      have e2 : (128 : Int32).toInt = 128 := by decide
      exact ⟨v1.toInt.toNat, by omega, xb_n (by omega)⟩
    refine tkX_0 b1 b2 (n := x + 1) (tk_l hx (N := 26 * k) (v0 := v) (by omega) (fun c u' v' I' hY => ?_) x 0 0 u v (by omega) I (fun postY h => h))
    obtain ⟨n, hn⟩ := hY (fun r' w => r' = c ∧ i_Rel (k + 5) u' w) ⟨rfl, i_RN_up (by omega) I'⟩
    exact tkY_0 b1 b2 hn
end
section
/-! Change of mode. -/
theorem cw_0 {st : Nat → Int32} {v : Int32} : ∀ j, cw_n st v j = 0 → ∀ s, s < j → st s ≠ v
  | 0, _, s, hs => by omega
  | j + 1, h, s, hs => by
    have e : cw_n st v (j + 1) = if st j = v then cw_n st v j + 1 else cw_n st v j := rfl
    rw [e] at h
    by_cases c : st j = v
    · rw [if_pos c] at h; omega
    · rw [if_neg c] at h
      by_cases y : s = j
      · rw [y]; exact c
      · exact cw_0 j h s (by omega)
theorem rg_0 {s t : sc_S} (rg : sc_Rg s) (h : mg_0 t) (ec : sc_c t = sc_c s) (en : sc_ns t = sc_ns s) (ed : sc_dr t = 0 ∨ sc_dr t = 1)
    (eq : ∀ q, q < 12 → sc_pd t q = sc_pd s q ∧ sc_fe t q = sc_fe s q ∧ sc_ad t q = sc_ad s q ∧ sc_se t q = sc_se s q) : sc_Rg t := by
  obtain ⟨g1, g2, g3, g4⟩ := rg
  obtain ⟨⟨h1, h2, h3, h4, h5, h6⟩, hb⟩ := h
  refine ⟨⟨by omega, by omega, by omega, by omega, ed⟩, by omega, fun x hx => ?_, fun p hp => ?_⟩
  · have := hb x hx
    omega
  · obtain ⟨q1, q2, q3, q4⟩ := eq p hp
    rw [q1, q2, q3, q4]; exact g4 p hp
theorem xs_it {a : Nat → Int32} {v : Int32} {j b : Nat} (h : b < j) : xs_i a v j b = v := by unfold xs_i; rw [if_pos h]
theorem xs_lt {a : Nat → Int64} {v : Int64} {j b : Nat} (h : b < j) : xs_l a v j b = v := by unfold xs_l; rw [if_pos h]
section
variable {f_rcd f_rp f_rfc f_cap f_refreshSoon f_refreshMust f_drainMark f_requests f_allLanes f_slotFree f_slotWaiting f_slotReady f_actNext f_writeHead f_writeCount f_draining f_mode f_faults f_lost f_retiredReads : Int32} {f_never f_anyAct f_anyRead f_anyWrite f_nextSerial f_clock : Int64} {a_cells a_openRows a_ages a_reqAddress a_reqLanes a_reqData a_reqBase a_reqFetched a_reqPending a_slotStates : (Nat → Int32)} {a_lastAct a_lastRead a_lastWrite a_lastPre a_lastRef a_actTimes a_reqBorn a_reqSerial : (Nat → Int64)}
variable {y_rcd y_rp y_rfc y_cap y_busMode y_losses : Int32} {y_now : Int64} {b_words b_slotState b_slotLeft b_slotValue b_flight b_open b_ages b_pastKind b_pastBank : (Nat → Int32)}
variable {N hd m : Nat} {bo : Nat → Int}
theorem set_0 {d : Int32} : mg_0 (sc_ab f_rcd f_rp f_rfc f_cap (-1000) (-1000) (-1000) 0 f_nextSerial d f_clock (xs_i a_openRows (-1) 8) (xs_i a_ages 0 8) (xs_l a_lastAct (-1000) 8) (xs_l a_lastRead (-1000) 8) (xs_l a_lastWrite (-1000) 8) (xs_l a_lastPre (-1000) 8) (xs_l a_lastRef (-1000) 8) (xs_l a_actTimes (-1000) 4) a_reqAddress a_reqLanes a_reqFetched a_reqPending a_reqSerial bo) := by
  have e : (-1000 : Int64).toInt = -1000 := by decide
  have c0 : (0 : Int32).toNatClampNeg = 0 := by decide
  refine ⟨⟨?_, ?_, ?_, ?_, ?_, ?_⟩, fun b hb => ⟨?_, ?_, ?_, ?_, ?_, ?_, ?_⟩⟩
  · rw [ab_a1, e]
  · rw [ab_a2, xs_lt (by rw [c0]; decide), e]
  · rw [ab_a3, xs_lt (by rw [c0]; decide), e]
  · rw [ab_a4, xs_lt (by rw [c0]; decide), e]
  · rw [ab_ar, e]
  · rw [ab_aw, e]
  · rw [ab_la, xs_lt hb, e]
  · rw [ab_lr, xs_lt hb, e]
  · rw [ab_lw, xs_lt hb, e]
  · rw [ab_lp, xs_lt hb, e]
  · rw [ab_lf, xs_lt hb, e]
  · rw [ab_age, xs_it hb]; decide
  · rw [ab_op, xs_it hb]; decide
theorem set_K {d : Int32} (hd0 : d = 0 ∨ d = 1) (K : (i_K N hd m f_rcd f_rp f_rfc f_cap f_anyAct f_anyRead f_anyWrite f_actNext f_nextSerial f_draining f_clock a_openRows a_ages a_lastAct a_lastRead a_lastWrite a_lastPre a_lastRef a_actTimes a_reqAddress a_reqLanes a_reqFetched a_reqPending a_reqSerial bo a_cells a_reqData a_reqBase a_reqBorn a_slotStates b_words b_slotLeft b_slotValue b_flight)) (np : ∀ q, q < 12 → a_reqPending q = 0) : (i_K N hd m f_rcd f_rp f_rfc f_cap (-1000) (-1000) (-1000) 0 f_nextSerial d f_clock (xs_i a_openRows (-1) 8) (xs_i a_ages 0 8) (xs_l a_lastAct (-1000) 8) (xs_l a_lastRead (-1000) 8) (xs_l a_lastWrite (-1000) 8) (xs_l a_lastPre (-1000) 8) (xs_l a_lastRef (-1000) 8) (xs_l a_actTimes (-1000) 4) a_reqAddress a_reqLanes a_reqFetched a_reqPending a_reqSerial bo a_cells a_reqData a_reqBase a_reqBorn a_slotStates b_words b_slotLeft b_slotValue b_flight) := by
  obtain ⟨⟨c0, c1, c2⟩, an, ri, w, rg, v, hb, T, V⟩ := K
  have z := set_0 (d := d) (f_rcd := f_rcd) (f_rp := f_rp) (f_rfc := f_rfc) (f_cap := f_cap) (f_nextSerial := f_nextSerial) (f_clock := f_clock) (a_openRows := a_openRows) (a_ages := a_ages) (a_lastAct := a_lastAct) (a_lastRead := a_lastRead) (a_lastWrite := a_lastWrite) (a_lastPre := a_lastPre) (a_lastRef := a_lastRef) (a_actTimes := a_actTimes) (a_reqAddress := a_reqAddress) (a_reqLanes := a_reqLanes) (a_reqFetched := a_reqFetched) (a_reqPending := a_reqPending) (a_reqSerial := a_reqSerial) (bo := bo)
  have c4 : (0 : Int32).toNatClampNeg = 0 := by decide
  refine ⟨⟨c0, c1, c2⟩, vp_in_iff.mpr (by decide), ?_, mg_W0 z (by rw [ab_c]; exact c0) ?_ (fun q hq => by rw [ab_pd]; exact xb_0.mp (np q hq)), rg_0 rg z (by rw [ab_c, ab_c]) (by rw [ab_ns, ab_ns]) ?_ (fun q hq => ⟨by rw [ab_pd, ab_pd], by rw [ab_fe, ab_fe], by rw [ab_ad, ab_ad], by rw [ab_se, ab_se]⟩), fun q hq y => ?_, hb, T, V⟩
  · rw [xs_lt (by rw [c4]; decide)]
  · have := w.1
    rw [ab_rcd, ab_rp, ab_rfc, ab_cap] at this ⊢
    exact this
  · rw [ab_dr]
    rcases hd0 with rfl | rfl
    · exact .inl (by decide)
    · exact .inr (by decide)
  · rw [ab_pd] at y
    exact absurd (xb_0.mp (np q hq)) y
theorem c_take {k : Nat} (K : (i_K (26 * k) hd m f_rcd f_rp f_rfc f_cap f_anyAct f_anyRead f_anyWrite f_actNext f_nextSerial f_draining f_clock a_openRows a_ages a_lastAct a_lastRead a_lastWrite a_lastPre a_lastRef a_actTimes a_reqAddress a_reqLanes a_reqFetched a_reqPending a_reqSerial bo a_cells a_reqData a_reqBase a_reqBorn a_slotStates b_words b_slotLeft b_slotValue b_flight)) (pre : sc_Pre (sc_ab f_rcd f_rp f_rfc f_cap f_anyAct f_anyRead f_anyWrite f_actNext f_nextSerial f_draining f_clock a_openRows a_ages a_lastAct a_lastRead a_lastWrite a_lastPre a_lastRef a_actTimes a_reqAddress a_reqLanes a_reqFetched a_reqPending a_reqSerial bo)) : wpX_takeBus (fun r u' => wpY_takeBus (fun r' v' => r' = r ∧ i_Rel (k + 5) u' v') (f_rcd, f_rp, f_rfc, f_cap, f_clock, 0, f_lost, b_words, a_slotStates, b_slotLeft, b_slotValue, b_flight, b_open, b_ages, b_pastKind, b_pastBank)) (f_rcd, f_rp, f_rfc, f_cap, f_refreshSoon, f_refreshMust, f_drainMark, f_requests, f_allLanes, f_slotFree, f_slotWaiting, f_slotReady, f_never, f_anyAct, f_anyRead, f_anyWrite, f_actNext, f_nextSerial, nI hd, nI m, f_draining, f_clock, 0, 0, f_lost, f_retiredReads, a_cells, a_openRows, a_ages, a_lastAct, a_lastRead, a_lastWrite, a_lastPre, a_lastRef, a_actTimes, a_reqAddress, a_reqLanes, a_reqData, a_reqBase, a_reqFetched, a_reqPending, a_reqBorn, a_reqSerial, a_slotStates) := by
  have T := K.2.2.2.2.2.2.2.1
  have f := fl_pos T
  have hm := T.2.1
  have cl := cw_le a_slotStates 1 6
  have K5 := i_K_up K (show 26 * k ≤ 26 * (k + 5) by omega)
  have R : i_RN (26 * (k + 5)) (f_rcd, f_rp, f_rfc, f_cap, f_refreshSoon, f_refreshMust, f_drainMark, f_requests, f_allLanes, f_slotFree, f_slotWaiting, f_slotReady, f_never, f_anyAct, f_anyRead, f_anyWrite, f_actNext, f_nextSerial, nI hd, nI m, f_draining, f_clock, 0, 0, f_lost, f_retiredReads, a_cells, a_openRows, a_ages, a_lastAct, a_lastRead, a_lastWrite, a_lastPre, a_lastRef, a_actTimes, a_reqAddress, a_reqLanes, a_reqData, a_reqBase, a_reqFetched, a_reqPending, a_reqBorn, a_reqSerial, a_slotStates) (f_rcd, f_rp, f_rfc, f_cap, f_clock, 0, f_lost, b_words, a_slotStates, b_slotLeft, b_slotValue, b_flight, b_open, b_ages, b_pastKind, b_pastBank) := i_inS K5 pre
  unfold wpX_takeBus
  refine br_t rfl (xw_rwait ?_)
  by_cases c : cw_n a_slotStates 1 6 = 0
  · have z : ¬ (0 : Int32) < nI (cw_n a_slotStates 1 6) := by rw [c]; decide
    refine br_f z ?_
    by_cases m0 : m = 0
    · subst m0
      have ns := cw_0 6 c
      have np : ∀ q, q < 12 → a_reqPending q = 0 := by
        intro q hq
        apply Classical.byContradiction
        intro y
        have a := dt_act T hq y
        by_cases l : q < 6
        · exact ns q l (a.2.2.2.1 l)
        · obtain ⟨i, hi, -⟩ := a.2.2.2.2 (by omega)
          omega
      refine br_t (by decide) (xw_settle ?_)
      unfold wpY_takeBus
      refine br_f (by decide) (yw_rwait (yw_ww hm f.1 f.2 (br_f z (br_t (by decide) (yw_settle ⟨rfl, ?_⟩)))))
      have dr := (xb_dr K.2.2.2.2.1).2
      refine i_inM (set_K dr K5 np) ⟨ns, rfl, fun x hx => ⟨?_, ?_, ?_⟩, mg_R0 set_0 ?_ (fun d hd => xs_it hd)⟩
      · rw [xs_it hx, xs_it hx]
      · rw [xs_it hx, xs_it hx]
      · rw [xs_it hx]; decide
      · rw [ab_c]; exact K.1.1
    · have nm : ¬ nI m ≤ 0 := nI_nle (by omega) (by omega)
      refine br_f nm ?_
      unfold wpY_takeBus
      exact br_f (by decide) (yw_rwait (yw_ww hm f.1 f.2 (br_f z (br_f nm ⟨rfl, R⟩))))
  · have z : (0 : Int32) < nI (cw_n a_slotStates 1 6) := by
      rw [show (0 : Int32) = nI 0 by decide, nI_ltI (by omega) (by omega)]; omega
    refine br_t z ?_
    unfold wpY_takeBus
    exact br_f (by decide) (yw_rwait (yw_ww hm f.1 f.2 (br_t z ⟨rfl, R⟩)))
theorem c_takeM {Q : SX → SY → Prop} (R : Q (f_rcd, f_rp, f_rfc, f_cap, f_refreshSoon, f_refreshMust, f_drainMark, f_requests, f_allLanes, f_slotFree, f_slotWaiting, f_slotReady, f_never, f_anyAct, f_anyRead, f_anyWrite, f_actNext, f_nextSerial, nI hd, nI m, f_draining, f_clock, 1, 0, f_lost, f_retiredReads, a_cells, a_openRows, a_ages, a_lastAct, a_lastRead, a_lastWrite, a_lastPre, a_lastRef, a_actTimes, a_reqAddress, a_reqLanes, a_reqData, a_reqBase, a_reqFetched, a_reqPending, a_reqBorn, a_reqSerial, a_slotStates) (f_rcd, f_rp, f_rfc, f_cap, f_clock, 1, f_lost, b_words, a_slotStates, b_slotLeft, b_slotValue, b_flight, b_open, b_ages, b_pastKind, b_pastBank)) : wpX_takeBus (fun r u' => wpY_takeBus (fun r' v' => r' = r ∧ Q u' v') (f_rcd, f_rp, f_rfc, f_cap, f_clock, 1, f_lost, b_words, a_slotStates, b_slotLeft, b_slotValue, b_flight, b_open, b_ages, b_pastKind, b_pastBank)) (f_rcd, f_rp, f_rfc, f_cap, f_refreshSoon, f_refreshMust, f_drainMark, f_requests, f_allLanes, f_slotFree, f_slotWaiting, f_slotReady, f_never, f_anyAct, f_anyRead, f_anyWrite, f_actNext, f_nextSerial, nI hd, nI m, f_draining, f_clock, 1, 0, f_lost, f_retiredReads, a_cells, a_openRows, a_ages, a_lastAct, a_lastRead, a_lastWrite, a_lastPre, a_lastRef, a_actTimes, a_reqAddress, a_reqLanes, a_reqData, a_reqBase, a_reqFetched, a_reqPending, a_reqBorn, a_reqSerial, a_slotStates) := by
  unfold wpX_takeBus
  refine br_f (by decide) ?_
  unfold wpY_takeBus
  exact br_t rfl ⟨rfl, R⟩
theorem c_giveS {Q : SX → SY → Prop} (R : Q (f_rcd, f_rp, f_rfc, f_cap, f_refreshSoon, f_refreshMust, f_drainMark, f_requests, f_allLanes, f_slotFree, f_slotWaiting, f_slotReady, f_never, f_anyAct, f_anyRead, f_anyWrite, f_actNext, f_nextSerial, nI hd, nI m, f_draining, f_clock, 0, 0, f_lost, f_retiredReads, a_cells, a_openRows, a_ages, a_lastAct, a_lastRead, a_lastWrite, a_lastPre, a_lastRef, a_actTimes, a_reqAddress, a_reqLanes, a_reqData, a_reqBase, a_reqFetched, a_reqPending, a_reqBorn, a_reqSerial, a_slotStates) (f_rcd, f_rp, f_rfc, f_cap, f_clock, 0, f_lost, b_words, a_slotStates, b_slotLeft, b_slotValue, b_flight, b_open, b_ages, b_pastKind, b_pastBank)) : wpX_giveBus (fun r u' => wpY_giveBus (fun r' v' => r' = r ∧ Q u' v') (f_rcd, f_rp, f_rfc, f_cap, f_clock, 0, f_lost, b_words, a_slotStates, b_slotLeft, b_slotValue, b_flight, b_open, b_ages, b_pastKind, b_pastBank)) (f_rcd, f_rp, f_rfc, f_cap, f_refreshSoon, f_refreshMust, f_drainMark, f_requests, f_allLanes, f_slotFree, f_slotWaiting, f_slotReady, f_never, f_anyAct, f_anyRead, f_anyWrite, f_actNext, f_nextSerial, nI hd, nI m, f_draining, f_clock, 0, 0, f_lost, f_retiredReads, a_cells, a_openRows, a_ages, a_lastAct, a_lastRead, a_lastWrite, a_lastPre, a_lastRef, a_actTimes, a_reqAddress, a_reqLanes, a_reqData, a_reqBase, a_reqFetched, a_reqPending, a_reqBorn, a_reqSerial, a_slotStates) := by
  unfold wpX_giveBus
  refine br_f (by decide) ?_
  unfold wpY_giveBus
  exact br_t rfl ⟨rfl, R⟩
theorem c_give {k : Nat} (K : (i_K (26 * k) hd m f_rcd f_rp f_rfc f_cap f_anyAct f_anyRead f_anyWrite f_actNext f_nextSerial f_draining f_clock a_openRows a_ages a_lastAct a_lastRead a_lastWrite a_lastPre a_lastRef a_actTimes a_reqAddress a_reqLanes a_reqFetched a_reqPending a_reqSerial bo a_cells a_reqData a_reqBase a_reqBorn a_slotStates b_words b_slotLeft b_slotValue b_flight)) (M : (i_M m b_open b_ages b_pastKind b_pastBank a_slotStates f_rcd f_rp f_rfc f_cap f_anyAct f_anyRead f_anyWrite f_actNext f_nextSerial f_draining f_clock a_openRows a_ages a_lastAct a_lastRead a_lastWrite a_lastPre a_lastRef a_actTimes a_reqAddress a_reqLanes a_reqFetched a_reqPending a_reqSerial bo)) : wpX_giveBus (fun r u' => wpY_giveBus (fun r' v' => r' = r ∧ i_Rel (k + 5) u' v') (f_rcd, f_rp, f_rfc, f_cap, f_clock, 1, f_lost, b_words, a_slotStates, b_slotLeft, b_slotValue, b_flight, b_open, b_ages, b_pastKind, b_pastBank)) (f_rcd, f_rp, f_rfc, f_cap, f_refreshSoon, f_refreshMust, f_drainMark, f_requests, f_allLanes, f_slotFree, f_slotWaiting, f_slotReady, f_never, f_anyAct, f_anyRead, f_anyWrite, f_actNext, f_nextSerial, nI hd, nI m, f_draining, f_clock, 1, 0, f_lost, f_retiredReads, a_cells, a_openRows, a_ages, a_lastAct, a_lastRead, a_lastWrite, a_lastPre, a_lastRef, a_actTimes, a_reqAddress, a_reqLanes, a_reqData, a_reqBase, a_reqFetched, a_reqPending, a_reqBorn, a_reqSerial, a_slotStates) := by
  have T := K.2.2.2.2.2.2.2.1
  have np := i_np K M
  obtain ⟨n1, n0, -⟩ := M
  subst n0
  have K5 := i_K_up K (show 26 * k ≤ 26 * (k + 5) by omega)
  unfold wpX_giveBus
  refine br_t rfl (xw_settle ?_)
  unfold wpY_giveBus
  refine br_f (by decide) (yw_settle ⟨rfl, ?_⟩)
  refine i_inS (set_K (.inl rfl) K5 np) (.inl ⟨fun b hb => ?_, fun q hq => ⟨?_, fun y => ?_⟩⟩)
  · rw [ab_age, xs_it hb]; decide
  · rw [ab_bo, ab_c]
    by_cases l : q < 6
    · have := ((T.2.2.1 q l).2.2 (n1 q l)).2; omega
    · obtain ⟨i, hi, rfl⟩ := rk_sur T.1 (by omega) hq
      have := (T.2.2.2.2.1 i (by omega) hi).2.1; omega
  · rw [ab_pd] at y
    exact absurd (xb_0.mp (np q hq)) y
end
end
section
/-! MANUAL calls. -/
theorem is_nn {v : Int32} {n : Nat} (hn : n < 2147483648) (z : nI n ≤ v) : ¬ v < 0 := by
  rw [Int32.lt_iff_toInt_lt]; rw [Int32.le_iff_toInt_le, nI_toInt (by omega)] at z
  have : (0 : Int32).toInt = 0 := by decide
  omega
theorem is_n2 {v : Int32} {n : Nat} (z : nI n ≤ v) : ¬ v < nI n := by
  rw [Int32.lt_iff_toInt_lt]; rw [Int32.le_iff_toInt_le] at z
  omega
section
variable {f_rcd f_rp f_rfc f_cap f_refreshSoon f_refreshMust f_drainMark f_requests f_allLanes f_slotFree f_slotWaiting f_slotReady f_actNext f_writeHead f_writeCount f_draining f_mode f_faults f_lost f_retiredReads : Int32} {f_never f_anyAct f_anyRead f_anyWrite f_nextSerial f_clock : Int64} {a_cells a_openRows a_ages a_reqAddress a_reqLanes a_reqData a_reqBase a_reqFetched a_reqPending a_slotStates : (Nat → Int32)} {a_lastAct a_lastRead a_lastWrite a_lastPre a_lastRef a_actTimes a_reqBorn a_reqSerial : (Nat → Int64)}
variable {y_rcd y_rp y_rfc y_cap y_busMode y_losses : Int32} {y_now : Int64} {b_words b_slotState b_slotLeft b_slotValue b_flight b_open b_ages b_pastKind b_pastBank : (Nat → Int32)}
variable {N hd m : Nat} {bo : Nat → Int} {Q : Prop}
theorem c_openS (R : Q) (v1 : Int32) : wpX_openRow (fun r => wpY_openRow (fun r' => r' = r ∧ Q) (f_rcd, f_rp, f_rfc, f_cap, f_clock, 0, f_lost, b_words, a_slotStates, b_slotLeft, b_slotValue, b_flight, b_open, b_ages, b_pastKind, b_pastBank) v1) (f_rcd, f_rp, f_rfc, f_cap, f_refreshSoon, f_refreshMust, f_drainMark, f_requests, f_allLanes, f_slotFree, f_slotWaiting, f_slotReady, f_never, f_anyAct, f_anyRead, f_anyWrite, f_actNext, f_nextSerial, nI hd, nI m, f_draining, f_clock, 0, 0, f_lost, f_retiredReads, a_cells, a_openRows, a_ages, a_lastAct, a_lastRead, a_lastWrite, a_lastPre, a_lastRef, a_actTimes, a_reqAddress, a_reqLanes, a_reqData, a_reqBase, a_reqFetched, a_reqPending, a_reqBorn, a_reqSerial, a_slotStates) v1 := by
  unfold wpX_openRow
  refine br_f (by decide) ?_
  unfold wpY_openRow
  exact br_t rfl ⟨rfl, R⟩
theorem c_ageS (R : Q) (v1 : Int32) : wpX_age (fun r => wpY_age (fun r' => r' = r ∧ Q) (f_rcd, f_rp, f_rfc, f_cap, f_clock, 0, f_lost, b_words, a_slotStates, b_slotLeft, b_slotValue, b_flight, b_open, b_ages, b_pastKind, b_pastBank) v1) (f_rcd, f_rp, f_rfc, f_cap, f_refreshSoon, f_refreshMust, f_drainMark, f_requests, f_allLanes, f_slotFree, f_slotWaiting, f_slotReady, f_never, f_anyAct, f_anyRead, f_anyWrite, f_actNext, f_nextSerial, nI hd, nI m, f_draining, f_clock, 0, 0, f_lost, f_retiredReads, a_cells, a_openRows, a_ages, a_lastAct, a_lastRead, a_lastWrite, a_lastPre, a_lastRef, a_actTimes, a_reqAddress, a_reqLanes, a_reqData, a_reqBase, a_reqFetched, a_reqPending, a_reqBorn, a_reqSerial, a_slotStates) v1 := by
  unfold wpX_age
  refine br_f (by decide) ?_
  unfold wpY_age
  exact br_t rfl ⟨rfl, R⟩
theorem c_waitS (R : Q) (v1 v2 : Int32) : wpX_waitFor (fun r => wpY_waitFor (fun r' => r' = r ∧ Q) (f_rcd, f_rp, f_rfc, f_cap, f_clock, 0, f_lost, b_words, a_slotStates, b_slotLeft, b_slotValue, b_flight, b_open, b_ages, b_pastKind, b_pastBank) v1 v2) (f_rcd, f_rp, f_rfc, f_cap, f_refreshSoon, f_refreshMust, f_drainMark, f_requests, f_allLanes, f_slotFree, f_slotWaiting, f_slotReady, f_never, f_anyAct, f_anyRead, f_anyWrite, f_actNext, f_nextSerial, nI hd, nI m, f_draining, f_clock, 0, 0, f_lost, f_retiredReads, a_cells, a_openRows, a_ages, a_lastAct, a_lastRead, a_lastWrite, a_lastPre, a_lastRef, a_actTimes, a_reqAddress, a_reqLanes, a_reqData, a_reqBase, a_reqFetched, a_reqPending, a_reqBorn, a_reqSerial, a_slotStates) v1 v2 := by
  unfold wpX_waitFor
  refine br_f (by decide) ?_
  unfold wpY_waitFor
  exact br_t rfl ⟨rfl, R⟩
theorem c_issS {Q : SX → SY → Prop} (R : Q (f_rcd, f_rp, f_rfc, f_cap, f_refreshSoon, f_refreshMust, f_drainMark, f_requests, f_allLanes, f_slotFree, f_slotWaiting, f_slotReady, f_never, f_anyAct, f_anyRead, f_anyWrite, f_actNext, f_nextSerial, nI hd, nI m, f_draining, f_clock, 0, 0, f_lost, f_retiredReads, a_cells, a_openRows, a_ages, a_lastAct, a_lastRead, a_lastWrite, a_lastPre, a_lastRef, a_actTimes, a_reqAddress, a_reqLanes, a_reqData, a_reqBase, a_reqFetched, a_reqPending, a_reqBorn, a_reqSerial, a_slotStates) (f_rcd, f_rp, f_rfc, f_cap, f_clock, 0, f_lost, b_words, a_slotStates, b_slotLeft, b_slotValue, b_flight, b_open, b_ages, b_pastKind, b_pastBank)) (v1 v2 v3 v4 : Int32) : wpX_issue (fun r u' => wpY_issue (fun r' v' => r' = r ∧ Q u' v') (f_rcd, f_rp, f_rfc, f_cap, f_clock, 0, f_lost, b_words, a_slotStates, b_slotLeft, b_slotValue, b_flight, b_open, b_ages, b_pastKind, b_pastBank) v1 v2 v3 v4) (f_rcd, f_rp, f_rfc, f_cap, f_refreshSoon, f_refreshMust, f_drainMark, f_requests, f_allLanes, f_slotFree, f_slotWaiting, f_slotReady, f_never, f_anyAct, f_anyRead, f_anyWrite, f_actNext, f_nextSerial, nI hd, nI m, f_draining, f_clock, 0, 0, f_lost, f_retiredReads, a_cells, a_openRows, a_ages, a_lastAct, a_lastRead, a_lastWrite, a_lastPre, a_lastRef, a_actTimes, a_reqAddress, a_reqLanes, a_reqData, a_reqBase, a_reqFetched, a_reqPending, a_reqBorn, a_reqSerial, a_slotStates) v1 v2 v3 v4 := by
  unfold wpX_issue
  refine br_f (by decide) ?_
  unfold wpY_issue
  exact br_t rfl ⟨rfl, R⟩
theorem c_open (M : (i_M m b_open b_ages b_pastKind b_pastBank a_slotStates f_rcd f_rp f_rfc f_cap f_anyAct f_anyRead f_anyWrite f_actNext f_nextSerial f_draining f_clock a_openRows a_ages a_lastAct a_lastRead a_lastWrite a_lastPre a_lastRef a_actTimes a_reqAddress a_reqLanes a_reqFetched a_reqPending a_reqSerial bo)) (R : Q) (v1 : Int32) : wpX_openRow (fun r => wpY_openRow (fun r' => r' = r ∧ Q) (f_rcd, f_rp, f_rfc, f_cap, f_clock, 1, f_lost, b_words, a_slotStates, b_slotLeft, b_slotValue, b_flight, b_open, b_ages, b_pastKind, b_pastBank) v1) (f_rcd, f_rp, f_rfc, f_cap, f_refreshSoon, f_refreshMust, f_drainMark, f_requests, f_allLanes, f_slotFree, f_slotWaiting, f_slotReady, f_never, f_anyAct, f_anyRead, f_anyWrite, f_actNext, f_nextSerial, nI hd, nI m, f_draining, f_clock, 1, 0, f_lost, f_retiredReads, a_cells, a_openRows, a_ages, a_lastAct, a_lastRead, a_lastWrite, a_lastPre, a_lastRef, a_actTimes, a_reqAddress, a_reqLanes, a_reqData, a_reqBase, a_reqFetched, a_reqPending, a_reqBorn, a_reqSerial, a_slotStates) v1 := by
  unfold wpX_openRow
  refine br_t rfl ?_
  rcases pk_ix v1 (n := 8) (by decide) with z | z | ⟨j, hj, rfl⟩
  · refine br_t z ?_
    unfold wpY_openRow
    exact br_f (by decide) (br_t z ⟨rfl, R⟩)
  · refine br_f (is_nn (by decide) z) (br_f (is_n2 z) ?_)
    unfold wpY_openRow
    exact br_f (by decide) (br_f (is_nn (by decide) z) (br_f (is_n2 z) ⟨rfl, R⟩))
  · have e : (nI j).toNatClampNeg = j := nI_clamp (by omega)
    have vj : vp_in (nI j) 8 := vp_in_nI hj (by omega)
    have z0 : ¬ nI j < 0 := nI_pos (by omega)
    have z6 : nI j < 8 := nI_lt (b := 8) hj (by decide)
    have eo := (M.2.2.1 j hj).1
    rw [e]
    refine br_f z0 (br_t z6 ⟨vj, br_c (fun y => ⟨vj, ?_⟩) (fun y => ?_)⟩)
    · unfold wpY_openRow
      dsimp only
      rw [e, eo]
      exact br_f (by decide) (br_f z0 (br_t z6 ⟨vj, br_t y ⟨vj, rfl, R⟩⟩))
    · unfold wpY_openRow
      dsimp only
      rw [e, eo]
      exact br_f (by decide) (br_f z0 (br_t z6 ⟨vj, br_f y ⟨rfl, R⟩⟩))
theorem c_age (M : (i_M m b_open b_ages b_pastKind b_pastBank a_slotStates f_rcd f_rp f_rfc f_cap f_anyAct f_anyRead f_anyWrite f_actNext f_nextSerial f_draining f_clock a_openRows a_ages a_lastAct a_lastRead a_lastWrite a_lastPre a_lastRef a_actTimes a_reqAddress a_reqLanes a_reqFetched a_reqPending a_reqSerial bo)) (R : Q) (v1 : Int32) : wpX_age (fun r => wpY_age (fun r' => r' = r ∧ Q) (f_rcd, f_rp, f_rfc, f_cap, f_clock, 1, f_lost, b_words, a_slotStates, b_slotLeft, b_slotValue, b_flight, b_open, b_ages, b_pastKind, b_pastBank) v1) (f_rcd, f_rp, f_rfc, f_cap, f_refreshSoon, f_refreshMust, f_drainMark, f_requests, f_allLanes, f_slotFree, f_slotWaiting, f_slotReady, f_never, f_anyAct, f_anyRead, f_anyWrite, f_actNext, f_nextSerial, nI hd, nI m, f_draining, f_clock, 1, 0, f_lost, f_retiredReads, a_cells, a_openRows, a_ages, a_lastAct, a_lastRead, a_lastWrite, a_lastPre, a_lastRef, a_actTimes, a_reqAddress, a_reqLanes, a_reqData, a_reqBase, a_reqFetched, a_reqPending, a_reqBorn, a_reqSerial, a_slotStates) v1 := by
  unfold wpX_age
  refine br_t rfl ?_
  rcases pk_ix v1 (n := 8) (by decide) with z | z | ⟨j, hj, rfl⟩
  · refine br_t z ?_
    unfold wpY_age
    exact br_f (by decide) (br_t z ⟨rfl, R⟩)
  · refine br_f (is_nn (by decide) z) (br_f (is_n2 z) ?_)
    unfold wpY_age
    exact br_f (by decide) (br_f (is_nn (by decide) z) (br_f (is_n2 z) ⟨rfl, R⟩))
  · have e : (nI j).toNatClampNeg = j := nI_clamp (by omega)
    have vj : vp_in (nI j) 8 := vp_in_nI hj (by omega)
    have z0 : ¬ nI j < 0 := nI_pos (by omega)
    have z6 : nI j < 8 := nI_lt (b := 8) hj (by decide)
    have eo := (M.2.2.1 j hj).2.1
    rw [e]
    refine br_f z0 (br_t z6 ⟨vj, ?_⟩)
    unfold wpY_age
    dsimp only
    rw [e, eo]
    exact br_f (by decide) (br_f z0 (br_t z6 ⟨vj, rfl, R⟩))
theorem c_wait (K : (i_K N hd m f_rcd f_rp f_rfc f_cap f_anyAct f_anyRead f_anyWrite f_actNext f_nextSerial f_draining f_clock a_openRows a_ages a_lastAct a_lastRead a_lastWrite a_lastPre a_lastRef a_actTimes a_reqAddress a_reqLanes a_reqFetched a_reqPending a_reqSerial bo a_cells a_reqData a_reqBase a_reqBorn a_slotStates b_words b_slotLeft b_slotValue b_flight)) (M : (i_M m b_open b_ages b_pastKind b_pastBank a_slotStates f_rcd f_rp f_rfc f_cap f_anyAct f_anyRead f_anyWrite f_actNext f_nextSerial f_draining f_clock a_openRows a_ages a_lastAct a_lastRead a_lastWrite a_lastPre a_lastRef a_actTimes a_reqAddress a_reqLanes a_reqFetched a_reqPending a_reqSerial bo)) (R : Q) (v1 v2 : Int32) : wpX_waitFor (fun r => wpY_waitFor (fun r' => r' = r ∧ Q) (f_rcd, f_rp, f_rfc, f_cap, f_clock, 1, f_lost, b_words, a_slotStates, b_slotLeft, b_slotValue, b_flight, b_open, b_ages, b_pastKind, b_pastBank) v1 v2) (f_rcd, f_rp, f_rfc, f_cap, f_refreshSoon, f_refreshMust, f_drainMark, f_requests, f_allLanes, f_slotFree, f_slotWaiting, f_slotReady, f_never, f_anyAct, f_anyRead, f_anyWrite, f_actNext, f_nextSerial, nI hd, nI m, f_draining, f_clock, 1, 0, f_lost, f_retiredReads, a_cells, a_openRows, a_ages, a_lastAct, a_lastRead, a_lastWrite, a_lastPre, a_lastRef, a_actTimes, a_reqAddress, a_reqLanes, a_reqData, a_reqBase, a_reqFetched, a_reqPending, a_reqBorn, a_reqSerial, a_slotStates) v1 v2 := by
  obtain ⟨⟨c0, c1, c2⟩, an, ri, w, rg, v, hb, T, V⟩ := K
  obtain ⟨n1, n0, n2, L⟩ := M
  have g := rg.1
  rw [ab_c] at g
  unfold wpX_waitFor
  refine br_t rfl ?_
  rcases pk_ix v1 (n := 5) (by decide) with z | z | ⟨k, hk, rfl⟩
  · refine br_t z ?_
    unfold wpY_waitFor
    exact br_f (by decide) (br_t z ⟨rfl, R⟩)
  · have z4 : (4 : Int32) < v1 := by
      rw [Int32.lt_iff_toInt_lt]; rw [Int32.le_iff_toInt_le, nI_toInt (by decide)] at z
      have : (4 : Int32).toInt = 4 := by decide
      omega
    have z5 : ¬ v1 ≤ 4 := by
      rw [Int32.le_iff_toInt_le]; rw [Int32.lt_iff_toInt_lt] at z4
      omega
    refine br_f (is_nn (by decide) z) (br_t z4 ?_)
    unfold wpY_waitFor
    exact br_f (by decide) (br_f (is_nn (by decide) z) (br_f z5 ⟨rfl, R⟩))
  · have k0 : ¬ nI k < 0 := nI_pos (by omega)
    have k4 : ¬ (4 : Int32) < nI k := by rw [show (4 : Int32) = nI 4 by decide, nI_ltI (by omega) (by omega)]; omega
    have k5 : nI k ≤ 4 := nI_le (b := 4) (by omega) (by decide)
    refine br_f k0 (br_f k4 ?_)
    rcases pk_ix v2 (n := 8) (by decide) with z | z | ⟨b, hb8, rfl⟩
    · refine br_t z ?_
      unfold wpY_waitFor
      exact br_f (by decide) (br_f k0 (br_t k5 (br_t z ⟨rfl, R⟩)))
    · refine br_f (is_nn (by decide) z) (br_f (is_n2 z) ?_)
      unfold wpY_waitFor
      exact br_f (by decide) (br_f k0 (br_t k5 (br_f (is_nn (by decide) z) (br_f (is_n2 z) ⟨rfl, R⟩))))
    · have b0 : ¬ nI b < 0 := nI_pos (by omega)
      have b8 : nI b < 8 := nI_lt (b := 8) hb8 (by decide)
      have eo := (n2 b hb8).1
      have el := er_le (k := k) w hk hb8
      have o : (b_open b).toInt = sc_op (sc_ab f_rcd f_rp f_rfc f_cap f_anyAct f_anyRead f_anyWrite f_actNext f_nextSerial f_draining f_clock a_openRows a_ages a_lastAct a_lastRead a_lastWrite a_lastPre a_lastRef a_actTimes a_reqAddress a_reqLanes a_reqFetched a_reqPending a_reqSerial bo) b := by rw [eo, ab_op]
      refine br_f b0 (br_t b8 (xw_fits (bo := bo) hk hb8 (fun f => br_f (by decide) (xw_earliest (bo := bo) hk hb8 w rg an (fun r hr => ?_))) (fun f => br_t (by decide) ?_)))
      · unfold wpY_waitFor
        refine br_f (by decide) (br_f k0 (br_t k5 (br_f b0 (br_t b8 (yw_fits hk hb8 (fun f' => br_f (by decide) ?_) (fun f' => absurd (by rw [o]; exact f) f'))))))
        have ec := ab_c (f_rcd := f_rcd) (f_rp := f_rp) (f_rfc := f_rfc) (f_cap := f_cap) (f_anyAct := f_anyAct) (f_anyRead := f_anyRead) (f_anyWrite := f_anyWrite) (f_actNext := f_actNext) (f_nextSerial := f_nextSerial) (f_draining := f_draining) (f_clock := f_clock) (a_openRows := a_openRows) (a_ages := a_ages) (a_lastAct := a_lastAct) (a_lastRead := a_lastRead) (a_lastWrite := a_lastWrite) (a_lastPre := a_lastPre) (a_lastRef := a_lastRef) (a_actTimes := a_actTimes) (a_reqAddress := a_reqAddress) (a_reqLanes := a_reqLanes) (a_reqFetched := a_reqFetched) (a_reqPending := a_reqPending) (a_reqSerial := a_reqSerial) (bo := bo)
        refine ⟨11, yw_wait_l (s := (sc_ab f_rcd f_rp f_rfc f_cap f_anyAct f_anyRead f_anyWrite f_actNext f_nextSerial f_draining f_clock a_openRows a_ages a_lastAct a_lastRead a_lastWrite a_lastPre a_lastRef a_actTimes a_reqAddress a_reqLanes a_reqFetched a_reqPending a_reqSerial bo)) (r := (sc_er (sc_ab f_rcd f_rp f_rfc f_cap f_anyAct f_anyRead f_anyWrite f_actNext f_nextSerial f_draining f_clock a_openRows a_ages a_lastAct a_lastRead a_lastWrite a_lastPre a_lastRef a_actTimes a_reqAddress a_reqLanes a_reqFetched a_reqPending a_reqSerial bo) k b - sc_c (sc_ab f_rcd f_rp f_rfc f_cap f_anyAct f_anyRead f_anyWrite f_actNext f_nextSerial f_draining f_clock a_openRows a_ages a_lastAct a_lastRead a_lastWrite a_lastPre a_lastRef a_actTimes a_reqAddress a_reqLanes a_reqFetched a_reqPending a_reqSerial bo)).toNat) w L (by rw [ab_rcd]) (by rw [ab_rp]) (by rw [ab_rfc]) hk hb8 (by omega) (by omega) ⟨?_, R⟩ 11 0 (by omega) (by omega)⟩
        refine (xb_t32 ?_).symm
        rw [nI_toInt (by omega), xb_sub (by omega) (by omega) (by omega) (by omega), hr]
        omega
      · unfold wpY_waitFor
        exact br_f (by decide) (br_f k0 (br_t k5 (br_f b0 (br_t b8 (yw_fits hk hb8 (fun f' => absurd (by rw [← o]; exact f') f) (fun f' => br_t (by decide) ⟨rfl, R⟩))))))
/-- entries of the log behind a command -/
theorem pk_log {pk : Nat → Int32} {x : Int32} : yq_0 (upd pk 0 x) 0 = -1 ∧ yq_0 (upd pk 0 x) 1 = x ∧ ∀ d, 1 ≤ d → d < 15 → yq_0 (upd pk 0 x) (d + 1) = pk d := by
  refine ⟨rfl, rfl, fun d h1 h2 => ?_⟩
  unfold yq_0
  rw [if_neg (by omega), if_pos (by omega)]
  show upd pk 0 x d = pk d
  exact pk_un (by omega)
theorem pb_log {pb : Nat → Int32} {x : Int32} : yq_k (upd pb 0 x) 0 1 = x ∧ ∀ d, 1 ≤ d → d < 15 → yq_k (upd pb 0 x) 0 (d + 1) = pb d := by
  refine ⟨rfl, fun d h1 h2 => ?_⟩
  unfold yq_k
  rw [if_pos (by omega)]
  show upd pb 0 x d = pb d
  exact pk_un (by omega)
theorem c_iss (K : (i_K N hd m f_rcd f_rp f_rfc f_cap f_anyAct f_anyRead f_anyWrite f_actNext f_nextSerial f_draining f_clock a_openRows a_ages a_lastAct a_lastRead a_lastWrite a_lastPre a_lastRef a_actTimes a_reqAddress a_reqLanes a_reqFetched a_reqPending a_reqSerial bo a_cells a_reqData a_reqBase a_reqBorn a_slotStates b_words b_slotLeft b_slotValue b_flight)) (M : (i_M m b_open b_ages b_pastKind b_pastBank a_slotStates f_rcd f_rp f_rfc f_cap f_anyAct f_anyRead f_anyWrite f_actNext f_nextSerial f_draining f_clock a_openRows a_ages a_lastAct a_lastRead a_lastWrite a_lastPre a_lastRef a_actTimes a_reqAddress a_reqLanes a_reqFetched a_reqPending a_reqSerial bo)) (hN : N < 1000000) {Q : SX → SY → Prop} (hQ : ∀ u v, i_RN (N + 1) u v → Q u v) (v1 v2 v3 v4 : Int32) : wpX_issue (fun r u' => wpY_issue (fun r' v' => r' = r ∧ Q u' v') (f_rcd, f_rp, f_rfc, f_cap, f_clock, 1, f_lost, b_words, a_slotStates, b_slotLeft, b_slotValue, b_flight, b_open, b_ages, b_pastKind, b_pastBank) v1 v2 v3 v4) (f_rcd, f_rp, f_rfc, f_cap, f_refreshSoon, f_refreshMust, f_drainMark, f_requests, f_allLanes, f_slotFree, f_slotWaiting, f_slotReady, f_never, f_anyAct, f_anyRead, f_anyWrite, f_actNext, f_nextSerial, nI hd, nI m, f_draining, f_clock, 1, 0, f_lost, f_retiredReads, a_cells, a_openRows, a_ages, a_lastAct, a_lastRead, a_lastWrite, a_lastPre, a_lastRef, a_actTimes, a_reqAddress, a_reqLanes, a_reqData, a_reqBase, a_reqFetched, a_reqPending, a_reqBorn, a_reqSerial, a_slotStates) v1 v2 v3 v4 := by
  have R : Q (f_rcd, f_rp, f_rfc, f_cap, f_refreshSoon, f_refreshMust, f_drainMark, f_requests, f_allLanes, f_slotFree, f_slotWaiting, f_slotReady, f_never, f_anyAct, f_anyRead, f_anyWrite, f_actNext, f_nextSerial, nI hd, nI m, f_draining, f_clock, 1, 0, f_lost, f_retiredReads, a_cells, a_openRows, a_ages, a_lastAct, a_lastRead, a_lastWrite, a_lastPre, a_lastRef, a_actTimes, a_reqAddress, a_reqLanes, a_reqData, a_reqBase, a_reqFetched, a_reqPending, a_reqBorn, a_reqSerial, a_slotStates) (f_rcd, f_rp, f_rfc, f_cap, f_clock, 1, f_lost, b_words, a_slotStates, b_slotLeft, b_slotValue, b_flight, b_open, b_ages, b_pastKind, b_pastBank) := hQ _ _ (i_inM (i_K_up K (by omega)) M)
  by_cases bad : is_B v1 v2 v3
  · exact xw_issB bad (yw_issB bad ⟨rfl, R⟩)
  obtain ⟨k, b, hk, hb, rfl, rfl, hr, hc⟩ := is_ok bad
  have ag := mn_ag K M
  have bag := mn_bag K M
  have w := K.2.2.2.1
  have rg := K.2.2.2.2.1
  have an := K.2.1
  have ri := K.2.2.1
  have V := K.2.2.2.2.2.2.2.2
  have L := M.2.2.2
  have n0 := M.2.1
  have ve : ∀ a, a < 256 → b_words a = a_cells a := by subst n0; exact dv_eq V
  have ea : ∀ x, x < 8 → b_ages x = a_ages x := fun x hx => (M.2.2.1 x hx).2.1
  have eo : ∀ x, x < 8 → b_open x = a_openRows x := fun x hx => (M.2.2.1 x hx).1
  have o : (b_open b).toInt = sc_op (sc_ab f_rcd f_rp f_rfc f_cap f_anyAct f_anyRead f_anyWrite f_actNext f_nextSerial f_draining f_clock a_openRows a_ages a_lastAct a_lastRead a_lastWrite a_lastPre a_lastRef a_actTimes a_reqAddress a_reqLanes a_reqFetched a_reqPending a_reqSerial bo) b := by rw [eo b hb, ab_op]
  have cg := xg_cg ea ve 8 (Nat.le_refl _)
  have a511 : ∀ x, x < 8 → (xg_a a_ages 8 x).toInt ≤ 511 := fun x hx => (xg_ag hx (ag x hx).1 (ag x hx).2).2.2
  have c16 := xg_16 (a := a_ages) V.2.2.2.1 8
  have fits : (sc_op (sc_ab f_rcd f_rp f_rfc f_cap f_anyAct f_anyRead f_anyWrite f_actNext f_nextSerial f_draining f_clock a_openRows a_ages a_lastAct a_lastRead a_lastWrite a_lastPre a_lastRef a_actTimes a_reqAddress a_reqLanes a_reqFetched a_reqPending a_reqSerial bo) b < 0 ↔ (k = 0 ∨ k = 4)) → ¬ (k = 0 ∨ k = 4) → ∃ r, r < 8 ∧ a_openRows b = nI r := by
    intro f z
    have g := rg.2.2.1 b hb
    have : ¬ sc_op (sc_ab f_rcd f_rp f_rfc f_cap f_anyAct f_anyRead f_anyWrite f_actNext f_nextSerial f_draining f_clock a_openRows a_ages a_lastAct a_lastRead a_lastWrite a_lastPre a_lastRef a_actTimes a_reqAddress a_reqLanes a_reqFetched a_reqPending a_reqSerial bo) b < 0 := fun y => z (f.mp y)
    rw [ab_op] at this g
    exact ⟨(a_openRows b).toInt.toNat, by omega, xb_n (by omega)⟩
  refine xw_iss hk hb hr hc (xw_iss69 (bo := bo) hk hb w rg an hc (fun h5 => ?_) (fun f h6 => ?_) (fun k0 f p => ?_) (fun r c k1 lr lc e2 er f p => ?_) (fun r c k2 lr lc e2 er f p => ?_) (fun k3 f p => ?_) (fun k4 f p => ?_))
  · exact yw_iss hk hb hr hc (yw_iss70 (s := (sc_ab f_rcd f_rp f_rfc f_cap f_anyAct f_anyRead f_anyWrite f_actNext f_nextSerial f_draining f_clock a_openRows a_ages a_lastAct a_lastRead a_lastWrite a_lastPre a_lastRef a_actTimes a_reqAddress a_reqLanes a_reqFetched a_reqPending a_reqSerial bo)) w L (by rw [ab_rcd]) (by rw [ab_rp]) (by rw [ab_rfc]) hk hb o bag (fun _ => ⟨rfl, R⟩) (fun z => absurd z h5) (fun _ z => absurd z h5) (fun _ z => absurd z h5) (fun _ z => absurd z h5) (fun _ z => absurd z h5) (fun _ z => absurd z h5))
  · exact yw_iss hk hb hr hc (yw_iss70 (s := (sc_ab f_rcd f_rp f_rfc f_cap f_anyAct f_anyRead f_anyWrite f_actNext f_nextSerial f_draining f_clock a_openRows a_ages a_lastAct a_lastRead a_lastWrite a_lastPre a_lastRef a_actTimes a_reqAddress a_reqLanes a_reqFetched a_reqPending a_reqSerial bo)) w L (by rw [ab_rcd]) (by rw [ab_rp]) (by rw [ab_rfc]) hk hb o bag (fun z => absurd f z) (fun _ _ => ⟨rfl, R⟩) (fun _ _ z => absurd z h6) (fun _ _ z => absurd z h6) (fun _ _ z => absurd z h6) (fun _ _ z => absurd z h6) (fun _ _ z => absurd z h6))
  · -- ACT
    subst k0
    obtain ⟨r, lr, rfl⟩ := hr rfl
    refine yw_iss hk hb hr hc (yw_iss70 (s := (sc_ab f_rcd f_rp f_rfc f_cap f_anyAct f_anyRead f_anyWrite f_actNext f_nextSerial f_draining f_clock a_openRows a_ages a_lastAct a_lastRead a_lastWrite a_lastPre a_lastRef a_actTimes a_reqAddress a_reqLanes a_reqFetched a_reqPending a_reqSerial bo)) w L (by rw [ab_rcd]) (by rw [ab_rp]) (by rw [ab_rfc]) hk hb o bag (fun z => absurd f z) (fun _ z => absurd p z) (fun _ _ _ => ⟨rfl, hQ _ _ ?_⟩) (fun z => by omega) (fun z => by omega) (fun z => by omega) (fun z => by omega))
    obtain ⟨n, hn, e0, e1, e2, e3⟩ := xb_an an
    rw [cg.1]
    refine mn_step (k := 0) (b := b) (r := r) K M hN (by decide) hb (me_act K M lr) (fun _ => p) (fun z => by omega) (fun _ => by omega) e3 ?_ a511 (fun a ha => ⟨cg.2 a ha, c16 a ha⟩) (fun x hx => ⟨?_, xg_ae ea hx⟩) pk_log.1 (fun _ => pk_log.2.1) (fun z => by omega) (fun _ => pb_log.1) (fun d h1 h2 => ⟨pk_log.2.2 d h1 h2, pb_log.2 d h1 h2⟩)
    · rw [xb_updL, e2, e1, if_pos (by omega)]
    · unfold upd; split
      · rfl
      · exact eo x hx
  · -- READ
    subst k1
    refine yw_iss hk hb hr hc (yw_iss70 (s := (sc_ab f_rcd f_rp f_rfc f_cap f_anyAct f_anyRead f_anyWrite f_actNext f_nextSerial f_draining f_clock a_openRows a_ages a_lastAct a_lastRead a_lastWrite a_lastPre a_lastRef a_actTimes a_reqAddress a_reqLanes a_reqFetched a_reqPending a_reqSerial bo)) w L (by rw [ab_rcd]) (by rw [ab_rp]) (by rw [ab_rfc]) hk hb o bag (fun z => absurd f z) (fun _ z => absurd p z) (fun z => by omega) (fun _ _ _ => ⟨r, c, lr, lc, e2, by rw [eo b hb]; exact er, ve _ (by omega), hQ _ _ ?_⟩) (fun z => by omega) (fun z => by omega) (fun z => by omega))
    rw [cg.1]
    exact mn_step (k := 1) (b := b) (r := 0) K M hN (by decide) hb (me_rd K M) (fun _ => p) (fun z => by omega) (fun z => by omega) an ri a511 (fun a ha => ⟨cg.2 a ha, c16 a ha⟩) (fun x hx => ⟨eo x hx, xg_ae ea hx⟩) pk_log.1 (fun _ => pk_log.2.1) (fun z => by omega) (fun _ => pb_log.1) (fun d h1 h2 => ⟨pk_log.2.2 d h1 h2, pb_log.2 d h1 h2⟩)
  · -- WRITE
    subst k2
    refine yw_iss hk hb hr hc (yw_iss70 (s := (sc_ab f_rcd f_rp f_rfc f_cap f_anyAct f_anyRead f_anyWrite f_actNext f_nextSerial f_draining f_clock a_openRows a_ages a_lastAct a_lastRead a_lastWrite a_lastPre a_lastRef a_actTimes a_reqAddress a_reqLanes a_reqFetched a_reqPending a_reqSerial bo)) w L (by rw [ab_rcd]) (by rw [ab_rp]) (by rw [ab_rfc]) hk hb o bag (fun z => absurd f z) (fun _ z => absurd p z) (fun z => by omega) (fun z => by omega) (fun _ _ _ => ⟨r, c, lr, lc, e2, by rw [eo b hb]; exact er, rfl, hQ _ _ ?_⟩) (fun z => by omega) (fun z => by omega))
    have wg := xg_cg (cells := upd a_cells (r * 32 + b * 4 + c) (v4 &&& 65535)) (words := upd b_words (r * 32 + b * 4 + c) (v4 &&& 65535)) ea (fun a ha => by unfold upd; split; rfl; exact ve a ha) 8 (Nat.le_refl _)
    have w16 := xg_16 (cells := upd a_cells (r * 32 + b * 4 + c) (v4 &&& 65535)) (a := a_ages) (fun a ha => by
      unfold upd; split
      · exact h16_and h16_m
      · exact V.2.2.2.1 a ha) 8
    rw [cg.1]
    exact mn_step (k := 2) (b := b) (r := 0) K M hN (by decide) hb (me_wr K M) (fun _ => p) (fun z => by omega) (fun z => by omega) an ri a511 (fun a ha => ⟨wg.2 a ha, w16 a ha⟩) (fun x hx => ⟨eo x hx, xg_ae ea hx⟩) pk_log.1 (fun _ => pk_log.2.1) (fun z => by omega) (fun _ => pb_log.1) (fun d h1 h2 => ⟨pk_log.2.2 d h1 h2, pb_log.2 d h1 h2⟩)
  · -- PRE
    subst k3
    refine yw_iss hk hb hr hc (yw_iss70 (s := (sc_ab f_rcd f_rp f_rfc f_cap f_anyAct f_anyRead f_anyWrite f_actNext f_nextSerial f_draining f_clock a_openRows a_ages a_lastAct a_lastRead a_lastWrite a_lastPre a_lastRef a_actTimes a_reqAddress a_reqLanes a_reqFetched a_reqPending a_reqSerial bo)) w L (by rw [ab_rcd]) (by rw [ab_rp]) (by rw [ab_rfc]) hk hb o bag (fun z => absurd f z) (fun _ z => absurd p z) (fun z => by omega) (fun z => by omega) (fun z => by omega) (fun _ _ _ => ⟨rfl, hQ _ _ ?_⟩) (fun z => by omega))
    rw [cg.1]
    refine mn_step (k := 3) (b := b) (r := 0) K M hN (by decide) hb (me_pre K M) (fun _ => p) (fun z => by omega) (fun z => by omega) an ri a511 (fun a ha => ⟨cg.2 a ha, c16 a ha⟩) (fun x hx => ⟨?_, xg_ae ea hx⟩) pk_log.1 (fun _ => pk_log.2.1) (fun z => by omega) (fun _ => pb_log.1) (fun d h1 h2 => ⟨pk_log.2.2 d h1 h2, pb_log.2 d h1 h2⟩)
    unfold upd; split
    · rfl
    · exact eo x hx
  · -- REF
    subst k4
    refine yw_iss hk hb hr hc (yw_iss70 (s := (sc_ab f_rcd f_rp f_rfc f_cap f_anyAct f_anyRead f_anyWrite f_actNext f_nextSerial f_draining f_clock a_openRows a_ages a_lastAct a_lastRead a_lastWrite a_lastPre a_lastRef a_actTimes a_reqAddress a_reqLanes a_reqFetched a_reqPending a_reqSerial bo)) w L (by rw [ab_rcd]) (by rw [ab_rp]) (by rw [ab_rfc]) hk hb o bag (fun z => absurd f z) (fun _ z => absurd p z) (fun z => by omega) (fun z => by omega) (fun z => by omega) (fun z => by omega) (fun _ _ _ => ⟨rfl, hQ _ _ ?_⟩))
    have eu : ∀ x, x < 8 → upd b_ages b 0 x = upd a_ages b 0 x := fun x hx => by
      unfold upd; split
      · rfl
      · exact ea x hx
    have ug := xg_cg (a := upd a_ages b 0) (b := upd b_ages b 0) eu ve 8 (Nat.le_refl _)
    have z0 : (0 : Int32).toInt = 0 := by decide
    have au : ∀ x, x < 8 → 0 ≤ (upd a_ages b 0 x).toInt ∧ (upd a_ages b 0 x).toInt ≤ 511 := fun x hx => by
      have := ag x hx
      rw [xb_upd]; split <;> omega
    rw [ug.1]
    exact mn_step (k := 4) (b := b) (r := 0) K M hN (by decide) hb (me_ref K M) (fun _ => p) (fun _ => f.mpr (.inr rfl)) (fun z => by omega) an ri (fun x hx => (xg_ag hx (au x hx).1 (au x hx).2).2.2) (fun a ha => ⟨ug.2 a ha, xg_16 V.2.2.2.1 8 a ha⟩) (fun x hx => ⟨eo x hx, xg_ae eu hx⟩) pk_log.1 (fun _ => pk_log.2.1) (fun z => by omega) (fun _ => pb_log.1) (fun d h1 h2 => ⟨pk_log.2.2 d h1 h2, pb_log.2 d h1 h2⟩)
end
end
section
/-! New requests. -/
theorem rg_birth {s u : sc_S} {q0 : Nat} (rg : sc_Rg s) (e0 : ∀ i, i ≠ 8 → u 0 i = s 0 i) (en : sc_ns u = sc_ns s + 1) (hn : sc_ns s + 1 ≤ 1000000) (eb : ∀ f b, 1 ≤ f → f ≤ 7 → b < 8 → u f b = s f b)
    (eq : ∀ q, q < 12 → q ≠ q0 → sc_pd u q = sc_pd s q ∧ sc_ad u q = sc_ad s q ∧ sc_fu u q = sc_fu s q ∧ sc_fe u q = sc_fe s q ∧ sc_bo u q = sc_bo s q ∧ sc_se u q = sc_se s q)
    (h1 : sc_pd u q0 = 0 ∨ sc_pd u q0 = 1) (h2 : sc_fe u q0 = 0 ∨ sc_fe u q0 = 1) (h3 : 0 ≤ sc_ad u q0 ∧ sc_ad u q0 < 256) (se : sc_se u q0 = sc_ns s) : sc_Rg u := by
  obtain ⟨g1, g2, g3, g4⟩ := rg
  refine ⟨?_, ?_, fun x hx => ?_, fun p hp => ?_⟩
  · rw [show sc_c u = sc_c s from e0 0 (by decide), show sc_dr u = sc_dr s from e0 1 (by decide), en]
    exact ⟨g1.1, g1.2.1, by omega, by omega, g1.2.2.2.2⟩
  · rw [show sc_c u = sc_c s from e0 0 (by decide), show sc_a1 u = sc_a1 s from e0 2 (by decide), show sc_a2 u = sc_a2 s from e0 3 (by decide), show sc_a3 u = sc_a3 s from e0 4 (by decide), show sc_a4 u = sc_a4 s from e0 5 (by decide), show sc_ar u = sc_ar s from e0 6 (by decide), show sc_aw u = sc_aw s from e0 7 (by decide)]
    exact g2
  · rw [show sc_la u x = sc_la s x from eb 3 x (by decide) (by decide) hx, show sc_lr u x = sc_lr s x from eb 4 x (by decide) (by decide) hx, show sc_lw u x = sc_lw s x from eb 5 x (by decide) (by decide) hx, show sc_lp u x = sc_lp s x from eb 6 x (by decide) (by decide) hx, show sc_lf u x = sc_lf s x from eb 7 x (by decide) (by decide) hx, show sc_age u x = sc_age s x from eb 1 x (by decide) (by decide) hx, show sc_op u x = sc_op s x from eb 2 x (by decide) (by decide) hx]
    exact g3 x hx
  · by_cases y : p = q0
    · subst y
      exact ⟨h1, h2, h3.1, h3.2, by omega, by omega⟩
    · obtain ⟨a1, a2, -, a4, -, a6⟩ := eq p hp y
      rw [a1, a2, a4, a6]; exact g4 p hp
theorem upd_2 {f : Nat → Int32} {k : Nat} {x y : Int32} : upd (upd f k x) k y = upd f k y := by
  funext j; unfold upd
  by_cases c : j = k
  · rw [if_pos c, if_pos c]
  · rw [if_neg c, if_neg c, if_neg c]
section
variable {f_rcd f_rp f_rfc f_cap f_refreshSoon f_refreshMust f_drainMark f_requests f_allLanes f_slotFree f_slotWaiting f_slotReady f_actNext f_writeHead f_writeCount f_draining f_mode f_faults f_lost f_retiredReads : Int32} {f_never f_anyAct f_anyRead f_anyWrite f_nextSerial f_clock : Int64} {a_cells a_openRows a_ages a_reqAddress a_reqLanes a_reqData a_reqBase a_reqFetched a_reqPending a_slotStates : (Nat → Int32)} {a_lastAct a_lastRead a_lastWrite a_lastPre a_lastRef a_actTimes a_reqBorn a_reqSerial : (Nat → Int64)}
variable {y_rcd y_rp y_rfc y_cap y_busMode y_losses : Int32} {y_now : Int64} {b_words b_slotState b_slotLeft b_slotValue b_flight b_open b_ages b_pastKind b_pastBank : (Nat → Int32)}
variable {N hd m : Nat} {bo : Nat → Int}
theorem sq_0 {q : Nat} {n_ns : Int64} {n_ad n_ln n_fe n_pd : Nat → Int32} {n_se : Nat → Int64} {n_bo : Nat → Int} : ∀ i, i ≠ 8 → (sc_ab f_rcd f_rp f_rfc f_cap f_anyAct f_anyRead f_anyWrite f_actNext n_ns f_draining f_clock a_openRows a_ages a_lastAct a_lastRead a_lastWrite a_lastPre a_lastRef a_actTimes n_ad n_ln n_fe n_pd n_se n_bo) 0 i = (sc_ab f_rcd f_rp f_rfc f_cap f_anyAct f_anyRead f_anyWrite f_actNext f_nextSerial f_draining f_clock a_openRows a_ages a_lastAct a_lastRead a_lastWrite a_lastPre a_lastRef a_actTimes a_reqAddress a_reqLanes a_reqFetched a_reqPending a_reqSerial bo) 0 i := by
  have key : ∀ f i, f = 0 → i ≠ 8 → (sc_ab f_rcd f_rp f_rfc f_cap f_anyAct f_anyRead f_anyWrite f_actNext n_ns f_draining f_clock a_openRows a_ages a_lastAct a_lastRead a_lastWrite a_lastPre a_lastRef a_actTimes n_ad n_ln n_fe n_pd n_se n_bo) f i = (sc_ab f_rcd f_rp f_rfc f_cap f_anyAct f_anyRead f_anyWrite f_actNext f_nextSerial f_draining f_clock a_openRows a_ages a_lastAct a_lastRead a_lastWrite a_lastPre a_lastRef a_actTimes a_reqAddress a_reqLanes a_reqFetched a_reqPending a_reqSerial bo) f i := by
    intro f i hf h
    unfold sc_ab
    split
    · split <;> first | rfl | (exfalso; omega)
    all_goals first | rfl | (exfalso; omega)
  exact fun i h => key 0 i rfl h
theorem sq_b {n_ns : Int64} {n_ad n_ln n_fe n_pd : Nat → Int32} {n_se : Nat → Int64} {n_bo : Nat → Int} : ∀ f b, 1 ≤ f → f ≤ 7 → b < 8 → (sc_ab f_rcd f_rp f_rfc f_cap f_anyAct f_anyRead f_anyWrite f_actNext n_ns f_draining f_clock a_openRows a_ages a_lastAct a_lastRead a_lastWrite a_lastPre a_lastRef a_actTimes n_ad n_ln n_fe n_pd n_se n_bo) f b = (sc_ab f_rcd f_rp f_rfc f_cap f_anyAct f_anyRead f_anyWrite f_actNext f_nextSerial f_draining f_clock a_openRows a_ages a_lastAct a_lastRead a_lastWrite a_lastPre a_lastRef a_actTimes a_reqAddress a_reqLanes a_reqFetched a_reqPending a_reqSerial bo) f b := by
  intro f b h1 h7 _
  have : f = 1 ∨ f = 2 ∨ f = 3 ∨ f = 4 ∨ f = 5 ∨ f = 6 ∨ f = 7 := by omega
  rcases this with rfl | rfl | rfl | rfl | rfl | rfl | rfl
  · show sc_age _ b = sc_age _ b
    rw [ab_age, ab_age]
  · show sc_op _ b = sc_op _ b
    rw [ab_op, ab_op]
  · show sc_la _ b = sc_la _ b
    rw [ab_la, ab_la]
  · show sc_lr _ b = sc_lr _ b
    rw [ab_lr, ab_lr]
  · show sc_lw _ b = sc_lw _ b
    rw [ab_lw, ab_lw]
  · show sc_lp _ b = sc_lp _ b
    rw [ab_lp, ab_lp]
  · show sc_lf _ b = sc_lf _ b
    rw [ab_lf, ab_lf]
theorem xb_ns (rg : sc_Rg (sc_ab f_rcd f_rp f_rfc f_cap f_anyAct f_anyRead f_anyWrite f_actNext f_nextSerial f_draining f_clock a_openRows a_ages a_lastAct a_lastRead a_lastWrite a_lastPre a_lastRef a_actTimes a_reqAddress a_reqLanes a_reqFetched a_reqPending a_reqSerial bo)) : (f_nextSerial + 1).toInt = f_nextSerial.toInt + 1 := by
  have g := rg.1
  rw [ab_ns] at g
  have l1 : (1 : Int64).toInt = 1 := by decide
  rw [xb_add (by omega) (by omega) (by omega) (by omega), l1]
theorem sq_bn (hb : ∀ q, q < 12 → 0 ≤ (a_reqBorn q).toInt ∧ (a_reqBorn q).toInt ≤ f_clock.toInt) (c0 : 0 ≤ f_clock.toInt) (q0 : Nat) : ∀ q, q < 12 → 0 ≤ (vp_updL a_reqBorn q0 f_clock q).toInt ∧ (vp_updL a_reqBorn q0 f_clock q).toInt ≤ f_clock.toInt := by
  intro q hq
  rw [xb_updL]
  have := hb q hq
  split <;> omega
theorem wr_K {a : Nat} {v mk : Int32} (K : (i_K N hd m f_rcd f_rp f_rfc f_cap f_anyAct f_anyRead f_anyWrite f_actNext f_nextSerial f_draining f_clock a_openRows a_ages a_lastAct a_lastRead a_lastWrite a_lastPre a_lastRef a_actTimes a_reqAddress a_reqLanes a_reqFetched a_reqPending a_reqSerial bo a_cells a_reqData a_reqBase a_reqBorn a_slotStates b_words b_slotLeft b_slotValue b_flight)) (pre : sc_Pre (sc_ab f_rcd f_rp f_rfc f_cap f_anyAct f_anyRead f_anyWrite f_actNext f_nextSerial f_draining f_clock a_openRows a_ages a_lastAct a_lastRead a_lastWrite a_lastPre a_lastRef a_actTimes a_reqAddress a_reqLanes a_reqFetched a_reqPending a_reqSerial bo)) (hN : N < 1000000) (hm : m < 6) (ha : a < 256) :
    (i_K (N + 1) hd (m + 1) f_rcd f_rp f_rfc f_cap f_anyAct f_anyRead f_anyWrite f_actNext (f_nextSerial + 1) f_draining f_clock a_openRows a_ages a_lastAct a_lastRead a_lastWrite a_lastPre a_lastRef a_actTimes (upd a_reqAddress (rk hd m) (nI a)) (upd a_reqLanes (rk hd m) (lo_m mk 4)) (upd a_reqFetched (rk hd m) 0) (upd a_reqPending (rk hd m) 1) (vp_updL a_reqSerial (rk hd m) f_nextSerial) (ub bo (rk hd m) f_clock.toInt) a_cells (upd a_reqData (rk hd m) (v &&& lo_m mk 4)) (upd a_reqBase (rk hd m) 0) (vp_updL a_reqBorn (rk hd m) f_clock) a_slotStates (upd b_words a (wl_w (b_words a) v mk 4)) b_slotLeft b_slotValue (upd b_flight m 256)) ∧
    sc_Pre (sc_ab f_rcd f_rp f_rfc f_cap f_anyAct f_anyRead f_anyWrite f_actNext (f_nextSerial + 1) f_draining f_clock a_openRows a_ages a_lastAct a_lastRead a_lastWrite a_lastPre a_lastRef a_actTimes (upd a_reqAddress (rk hd m) (nI a)) (upd a_reqLanes (rk hd m) (lo_m mk 4)) (upd a_reqFetched (rk hd m) 0) (upd a_reqPending (rk hd m) 1) (vp_updL a_reqSerial (rk hd m) f_nextSerial) (ub bo (rk hd m) f_clock.toInt)) := by
  obtain ⟨⟨c0, c1, c2⟩, an, ri, w, rg, vv, hb, T, V⟩ := K
  have rm := rk_in (h := hd) (i := m)
  have in0 := T.2.2.2.2.1 m (Nat.le_refl _) hm
  have g := rg.1
  rw [ab_ns] at g
  have en : sc_ns (sc_ab f_rcd f_rp f_rfc f_cap f_anyAct f_anyRead f_anyWrite f_actNext (f_nextSerial + 1) f_draining f_clock a_openRows a_ages a_lastAct a_lastRead a_lastWrite a_lastPre a_lastRef a_actTimes (upd a_reqAddress (rk hd m) (nI a)) (upd a_reqLanes (rk hd m) (lo_m mk 4)) (upd a_reqFetched (rk hd m) 0) (upd a_reqPending (rk hd m) 1) (vp_updL a_reqSerial (rk hd m) f_nextSerial) (ub bo (rk hd m) f_clock.toInt)) = sc_ns (sc_ab f_rcd f_rp f_rfc f_cap f_anyAct f_anyRead f_anyWrite f_actNext f_nextSerial f_draining f_clock a_openRows a_ages a_lastAct a_lastRead a_lastWrite a_lastPre a_lastRef a_actTimes a_reqAddress a_reqLanes a_reqFetched a_reqPending a_reqSerial bo) + 1 := by rw [ab_ns, ab_ns, xb_ns rg]
  have eq : ∀ q, q < 12 → q ≠ rk hd m → sc_pd (sc_ab f_rcd f_rp f_rfc f_cap f_anyAct f_anyRead f_anyWrite f_actNext (f_nextSerial + 1) f_draining f_clock a_openRows a_ages a_lastAct a_lastRead a_lastWrite a_lastPre a_lastRef a_actTimes (upd a_reqAddress (rk hd m) (nI a)) (upd a_reqLanes (rk hd m) (lo_m mk 4)) (upd a_reqFetched (rk hd m) 0) (upd a_reqPending (rk hd m) 1) (vp_updL a_reqSerial (rk hd m) f_nextSerial) (ub bo (rk hd m) f_clock.toInt)) q = sc_pd (sc_ab f_rcd f_rp f_rfc f_cap f_anyAct f_anyRead f_anyWrite f_actNext f_nextSerial f_draining f_clock a_openRows a_ages a_lastAct a_lastRead a_lastWrite a_lastPre a_lastRef a_actTimes a_reqAddress a_reqLanes a_reqFetched a_reqPending a_reqSerial bo) q ∧ sc_ad (sc_ab f_rcd f_rp f_rfc f_cap f_anyAct f_anyRead f_anyWrite f_actNext (f_nextSerial + 1) f_draining f_clock a_openRows a_ages a_lastAct a_lastRead a_lastWrite a_lastPre a_lastRef a_actTimes (upd a_reqAddress (rk hd m) (nI a)) (upd a_reqLanes (rk hd m) (lo_m mk 4)) (upd a_reqFetched (rk hd m) 0) (upd a_reqPending (rk hd m) 1) (vp_updL a_reqSerial (rk hd m) f_nextSerial) (ub bo (rk hd m) f_clock.toInt)) q = sc_ad (sc_ab f_rcd f_rp f_rfc f_cap f_anyAct f_anyRead f_anyWrite f_actNext f_nextSerial f_draining f_clock a_openRows a_ages a_lastAct a_lastRead a_lastWrite a_lastPre a_lastRef a_actTimes a_reqAddress a_reqLanes a_reqFetched a_reqPending a_reqSerial bo) q ∧ sc_fu (sc_ab f_rcd f_rp f_rfc f_cap f_anyAct f_anyRead f_anyWrite f_actNext (f_nextSerial + 1) f_draining f_clock a_openRows a_ages a_lastAct a_lastRead a_lastWrite a_lastPre a_lastRef a_actTimes (upd a_reqAddress (rk hd m) (nI a)) (upd a_reqLanes (rk hd m) (lo_m mk 4)) (upd a_reqFetched (rk hd m) 0) (upd a_reqPending (rk hd m) 1) (vp_updL a_reqSerial (rk hd m) f_nextSerial) (ub bo (rk hd m) f_clock.toInt)) q = sc_fu (sc_ab f_rcd f_rp f_rfc f_cap f_anyAct f_anyRead f_anyWrite f_actNext f_nextSerial f_draining f_clock a_openRows a_ages a_lastAct a_lastRead a_lastWrite a_lastPre a_lastRef a_actTimes a_reqAddress a_reqLanes a_reqFetched a_reqPending a_reqSerial bo) q ∧ sc_fe (sc_ab f_rcd f_rp f_rfc f_cap f_anyAct f_anyRead f_anyWrite f_actNext (f_nextSerial + 1) f_draining f_clock a_openRows a_ages a_lastAct a_lastRead a_lastWrite a_lastPre a_lastRef a_actTimes (upd a_reqAddress (rk hd m) (nI a)) (upd a_reqLanes (rk hd m) (lo_m mk 4)) (upd a_reqFetched (rk hd m) 0) (upd a_reqPending (rk hd m) 1) (vp_updL a_reqSerial (rk hd m) f_nextSerial) (ub bo (rk hd m) f_clock.toInt)) q = sc_fe (sc_ab f_rcd f_rp f_rfc f_cap f_anyAct f_anyRead f_anyWrite f_actNext f_nextSerial f_draining f_clock a_openRows a_ages a_lastAct a_lastRead a_lastWrite a_lastPre a_lastRef a_actTimes a_reqAddress a_reqLanes a_reqFetched a_reqPending a_reqSerial bo) q ∧ sc_bo (sc_ab f_rcd f_rp f_rfc f_cap f_anyAct f_anyRead f_anyWrite f_actNext (f_nextSerial + 1) f_draining f_clock a_openRows a_ages a_lastAct a_lastRead a_lastWrite a_lastPre a_lastRef a_actTimes (upd a_reqAddress (rk hd m) (nI a)) (upd a_reqLanes (rk hd m) (lo_m mk 4)) (upd a_reqFetched (rk hd m) 0) (upd a_reqPending (rk hd m) 1) (vp_updL a_reqSerial (rk hd m) f_nextSerial) (ub bo (rk hd m) f_clock.toInt)) q = sc_bo (sc_ab f_rcd f_rp f_rfc f_cap f_anyAct f_anyRead f_anyWrite f_actNext f_nextSerial f_draining f_clock a_openRows a_ages a_lastAct a_lastRead a_lastWrite a_lastPre a_lastRef a_actTimes a_reqAddress a_reqLanes a_reqFetched a_reqPending a_reqSerial bo) q ∧ sc_se (sc_ab f_rcd f_rp f_rfc f_cap f_anyAct f_anyRead f_anyWrite f_actNext (f_nextSerial + 1) f_draining f_clock a_openRows a_ages a_lastAct a_lastRead a_lastWrite a_lastPre a_lastRef a_actTimes (upd a_reqAddress (rk hd m) (nI a)) (upd a_reqLanes (rk hd m) (lo_m mk 4)) (upd a_reqFetched (rk hd m) 0) (upd a_reqPending (rk hd m) 1) (vp_updL a_reqSerial (rk hd m) f_nextSerial) (ub bo (rk hd m) f_clock.toInt)) q = sc_se (sc_ab f_rcd f_rp f_rfc f_cap f_anyAct f_anyRead f_anyWrite f_actNext f_nextSerial f_draining f_clock a_openRows a_ages a_lastAct a_lastRead a_lastWrite a_lastPre a_lastRef a_actTimes a_reqAddress a_reqLanes a_reqFetched a_reqPending a_reqSerial bo) q := by
    intro q _ n
    exact ⟨by rw [ab_pd, ab_pd, pk_un n], by rw [ab_ad, ab_ad, pk_un n], by rw [ab_fu, ab_fu, pk_un n], by rw [ab_fe, ab_fe, pk_un n], by rw [ab_bo, ab_bo, ub_n n], by rw [ab_se, ab_se, pk_uLn n]⟩
  obtain ⟨p', w', v'⟩ := pr_birth (u := (sc_ab f_rcd f_rp f_rfc f_cap f_anyAct f_anyRead f_anyWrite f_actNext (f_nextSerial + 1) f_draining f_clock a_openRows a_ages a_lastAct a_lastRead a_lastWrite a_lastPre a_lastRef a_actTimes (upd a_reqAddress (rk hd m) (nI a)) (upd a_reqLanes (rk hd m) (lo_m mk 4)) (upd a_reqFetched (rk hd m) 0) (upd a_reqPending (rk hd m) 1) (vp_updL a_reqSerial (rk hd m) f_nextSerial) (ub bo (rk hd m) f_clock.toInt))) (q0 := rk hd m) pre w vv (by rw [ab_pd]; exact xb_0.mp in0.1) (by rw [ab_bo, ab_c]; exact in0.2.1) (sq_0 (q := 0)) en sq_b eq (by rw [ab_bo, ab_c, ub_s]) (by rw [ab_se, ab_ns, pk_uLs])
  have rg' := rg_birth (q0 := rk hd m) rg (sq_0 (q := 0)) en (by rw [ab_ns]; omega) sq_b eq (.inr (by rw [ab_pd, pk_us]; decide)) (.inl (by rw [ab_fe, pk_us]; decide)) (by rw [ab_ad, pk_us, nI_toInt (by omega)]; omega) (by rw [ab_se, ab_ns, pk_uLs])
  refine ⟨⟨⟨c0, by omega, by rw [xb_ns rg]; omega⟩, an, ri, w', rg', v', sq_bn hb c0 _, dt_wr T hm, dv_wr V hm ha in0.1 (fun q hq y => ?_)⟩, p'⟩
  have := (vv q hq (sp_pd.mpr y)).1
  rw [ab_se, ab_ns] at this
  exact this
theorem rd_K {a s : Nat} {L d p : Int32} (K : (i_K N hd m f_rcd f_rp f_rfc f_cap f_anyAct f_anyRead f_anyWrite f_actNext f_nextSerial f_draining f_clock a_openRows a_ages a_lastAct a_lastRead a_lastWrite a_lastPre a_lastRef a_actTimes a_reqAddress a_reqLanes a_reqFetched a_reqPending a_reqSerial bo a_cells a_reqData a_reqBase a_reqBorn a_slotStates b_words b_slotLeft b_slotValue b_flight)) (pre : sc_Pre (sc_ab f_rcd f_rp f_rfc f_cap f_anyAct f_anyRead f_anyWrite f_actNext f_nextSerial f_draining f_clock a_openRows a_ages a_lastAct a_lastRead a_lastWrite a_lastPre a_lastRef a_actTimes a_reqAddress a_reqLanes a_reqFetched a_reqPending a_reqSerial bo)) (hN : N < 1000000) (hs : s < 6) (st0 : a_slotStates s = 0) (ha : a < 256) (hp : p = 0 ∨ p = 1) (hL : L = fw_L a_reqPending a_reqAddress a_reqLanes (nI a) hd m) (hD : d = fw_D a_reqPending a_reqAddress a_reqLanes a_reqData (nI a) hd m) (pL : p = 0 → L = 65535) :
    (i_K (N + 1) hd m f_rcd f_rp f_rfc f_cap f_anyAct f_anyRead f_anyWrite f_actNext (f_nextSerial + 1) f_draining f_clock a_openRows a_ages a_lastAct a_lastRead a_lastWrite a_lastPre a_lastRef a_actTimes (upd a_reqAddress s (nI a)) (upd a_reqLanes s L) a_reqFetched (upd a_reqPending s p) (vp_updL a_reqSerial s f_nextSerial) (ub bo s f_clock.toInt) a_cells (upd a_reqData s d) a_reqBase (vp_updL a_reqBorn s f_clock) (upd a_slotStates s 1) b_words (upd b_slotLeft s 256) (upd b_slotValue s (b_words a)) b_flight) ∧
    sc_Pre (sc_ab f_rcd f_rp f_rfc f_cap f_anyAct f_anyRead f_anyWrite f_actNext (f_nextSerial + 1) f_draining f_clock a_openRows a_ages a_lastAct a_lastRead a_lastWrite a_lastPre a_lastRef a_actTimes (upd a_reqAddress s (nI a)) (upd a_reqLanes s L) a_reqFetched (upd a_reqPending s p) (vp_updL a_reqSerial s f_nextSerial) (ub bo s f_clock.toInt)) := by
  obtain ⟨⟨c0, c1, c2⟩, an, ri, w, rg, vv, hb, T, V⟩ := K
  have in0 := (T.2.2.1 s hs).2.2 (by rw [st0]; decide)
  have g := rg.1
  rw [ab_ns] at g
  have en : sc_ns (sc_ab f_rcd f_rp f_rfc f_cap f_anyAct f_anyRead f_anyWrite f_actNext (f_nextSerial + 1) f_draining f_clock a_openRows a_ages a_lastAct a_lastRead a_lastWrite a_lastPre a_lastRef a_actTimes (upd a_reqAddress s (nI a)) (upd a_reqLanes s L) a_reqFetched (upd a_reqPending s p) (vp_updL a_reqSerial s f_nextSerial) (ub bo s f_clock.toInt)) = sc_ns (sc_ab f_rcd f_rp f_rfc f_cap f_anyAct f_anyRead f_anyWrite f_actNext f_nextSerial f_draining f_clock a_openRows a_ages a_lastAct a_lastRead a_lastWrite a_lastPre a_lastRef a_actTimes a_reqAddress a_reqLanes a_reqFetched a_reqPending a_reqSerial bo) + 1 := by rw [ab_ns, ab_ns, xb_ns rg]
  have eq : ∀ q, q < 12 → q ≠ s → sc_pd (sc_ab f_rcd f_rp f_rfc f_cap f_anyAct f_anyRead f_anyWrite f_actNext (f_nextSerial + 1) f_draining f_clock a_openRows a_ages a_lastAct a_lastRead a_lastWrite a_lastPre a_lastRef a_actTimes (upd a_reqAddress s (nI a)) (upd a_reqLanes s L) a_reqFetched (upd a_reqPending s p) (vp_updL a_reqSerial s f_nextSerial) (ub bo s f_clock.toInt)) q = sc_pd (sc_ab f_rcd f_rp f_rfc f_cap f_anyAct f_anyRead f_anyWrite f_actNext f_nextSerial f_draining f_clock a_openRows a_ages a_lastAct a_lastRead a_lastWrite a_lastPre a_lastRef a_actTimes a_reqAddress a_reqLanes a_reqFetched a_reqPending a_reqSerial bo) q ∧ sc_ad (sc_ab f_rcd f_rp f_rfc f_cap f_anyAct f_anyRead f_anyWrite f_actNext (f_nextSerial + 1) f_draining f_clock a_openRows a_ages a_lastAct a_lastRead a_lastWrite a_lastPre a_lastRef a_actTimes (upd a_reqAddress s (nI a)) (upd a_reqLanes s L) a_reqFetched (upd a_reqPending s p) (vp_updL a_reqSerial s f_nextSerial) (ub bo s f_clock.toInt)) q = sc_ad (sc_ab f_rcd f_rp f_rfc f_cap f_anyAct f_anyRead f_anyWrite f_actNext f_nextSerial f_draining f_clock a_openRows a_ages a_lastAct a_lastRead a_lastWrite a_lastPre a_lastRef a_actTimes a_reqAddress a_reqLanes a_reqFetched a_reqPending a_reqSerial bo) q ∧ sc_fu (sc_ab f_rcd f_rp f_rfc f_cap f_anyAct f_anyRead f_anyWrite f_actNext (f_nextSerial + 1) f_draining f_clock a_openRows a_ages a_lastAct a_lastRead a_lastWrite a_lastPre a_lastRef a_actTimes (upd a_reqAddress s (nI a)) (upd a_reqLanes s L) a_reqFetched (upd a_reqPending s p) (vp_updL a_reqSerial s f_nextSerial) (ub bo s f_clock.toInt)) q = sc_fu (sc_ab f_rcd f_rp f_rfc f_cap f_anyAct f_anyRead f_anyWrite f_actNext f_nextSerial f_draining f_clock a_openRows a_ages a_lastAct a_lastRead a_lastWrite a_lastPre a_lastRef a_actTimes a_reqAddress a_reqLanes a_reqFetched a_reqPending a_reqSerial bo) q ∧ sc_fe (sc_ab f_rcd f_rp f_rfc f_cap f_anyAct f_anyRead f_anyWrite f_actNext (f_nextSerial + 1) f_draining f_clock a_openRows a_ages a_lastAct a_lastRead a_lastWrite a_lastPre a_lastRef a_actTimes (upd a_reqAddress s (nI a)) (upd a_reqLanes s L) a_reqFetched (upd a_reqPending s p) (vp_updL a_reqSerial s f_nextSerial) (ub bo s f_clock.toInt)) q = sc_fe (sc_ab f_rcd f_rp f_rfc f_cap f_anyAct f_anyRead f_anyWrite f_actNext f_nextSerial f_draining f_clock a_openRows a_ages a_lastAct a_lastRead a_lastWrite a_lastPre a_lastRef a_actTimes a_reqAddress a_reqLanes a_reqFetched a_reqPending a_reqSerial bo) q ∧ sc_bo (sc_ab f_rcd f_rp f_rfc f_cap f_anyAct f_anyRead f_anyWrite f_actNext (f_nextSerial + 1) f_draining f_clock a_openRows a_ages a_lastAct a_lastRead a_lastWrite a_lastPre a_lastRef a_actTimes (upd a_reqAddress s (nI a)) (upd a_reqLanes s L) a_reqFetched (upd a_reqPending s p) (vp_updL a_reqSerial s f_nextSerial) (ub bo s f_clock.toInt)) q = sc_bo (sc_ab f_rcd f_rp f_rfc f_cap f_anyAct f_anyRead f_anyWrite f_actNext f_nextSerial f_draining f_clock a_openRows a_ages a_lastAct a_lastRead a_lastWrite a_lastPre a_lastRef a_actTimes a_reqAddress a_reqLanes a_reqFetched a_reqPending a_reqSerial bo) q ∧ sc_se (sc_ab f_rcd f_rp f_rfc f_cap f_anyAct f_anyRead f_anyWrite f_actNext (f_nextSerial + 1) f_draining f_clock a_openRows a_ages a_lastAct a_lastRead a_lastWrite a_lastPre a_lastRef a_actTimes (upd a_reqAddress s (nI a)) (upd a_reqLanes s L) a_reqFetched (upd a_reqPending s p) (vp_updL a_reqSerial s f_nextSerial) (ub bo s f_clock.toInt)) q = sc_se (sc_ab f_rcd f_rp f_rfc f_cap f_anyAct f_anyRead f_anyWrite f_actNext f_nextSerial f_draining f_clock a_openRows a_ages a_lastAct a_lastRead a_lastWrite a_lastPre a_lastRef a_actTimes a_reqAddress a_reqLanes a_reqFetched a_reqPending a_reqSerial bo) q := by
    intro q _ n
    exact ⟨by rw [ab_pd, ab_pd, pk_un n], by rw [ab_ad, ab_ad, pk_un n], by rw [ab_fu, ab_fu, pk_un n], by rw [ab_fe, ab_fe], by rw [ab_bo, ab_bo, ub_n n], by rw [ab_se, ab_se, pk_uLn n]⟩
  obtain ⟨p', w', v'⟩ := pr_birth (u := (sc_ab f_rcd f_rp f_rfc f_cap f_anyAct f_anyRead f_anyWrite f_actNext (f_nextSerial + 1) f_draining f_clock a_openRows a_ages a_lastAct a_lastRead a_lastWrite a_lastPre a_lastRef a_actTimes (upd a_reqAddress s (nI a)) (upd a_reqLanes s L) a_reqFetched (upd a_reqPending s p) (vp_updL a_reqSerial s f_nextSerial) (ub bo s f_clock.toInt))) (q0 := s) pre w vv (by rw [ab_pd]; exact xb_0.mp in0.1) (by rw [ab_bo, ab_c]; exact in0.2) (sq_0 (q := 0)) en sq_b eq (by rw [ab_bo, ab_c, ub_s]) (by rw [ab_se, ab_ns, pk_uLs])
  have rg' := rg_birth (q0 := s) rg (sq_0 (q := 0)) en (by rw [ab_ns]; omega) sq_b eq (by rw [ab_pd, pk_us]; rcases hp with rfl | rfl; exact .inl (by decide); exact .inr (by decide)) (by rw [ab_fe]; have := (rg.2.2.2 s (by omega)).2.1; rw [ab_fe] at this; exact this) (by rw [ab_ad, pk_us, nI_toInt (by omega)]; omega) (by rw [ab_se, ab_ns, pk_uLs])
  exact ⟨⟨⟨c0, by omega, by rw [xb_ns rg]; omega⟩, an, ri, w', rg', v', sq_bn hb c0 _, dt_rd T hs, dv_rd V T.1 T.2.1 ha hs (fun i h1 h2 => (T.2.2.2.2.1 i h1 h2).1) hL hD pL in0.1⟩, p'⟩
end
end
section
/-! The calls. -/
section
variable {f_rcd f_rp f_rfc f_cap f_refreshSoon f_refreshMust f_drainMark f_requests f_allLanes f_slotFree f_slotWaiting f_slotReady f_actNext f_writeHead f_writeCount f_draining f_mode f_faults f_lost f_retiredReads : Int32} {f_never f_anyAct f_anyRead f_anyWrite f_nextSerial f_clock : Int64} {a_cells a_openRows a_ages a_reqAddress a_reqLanes a_reqData a_reqBase a_reqFetched a_reqPending a_slotStates : (Nat → Int32)} {a_lastAct a_lastRead a_lastWrite a_lastPre a_lastRef a_actTimes a_reqBorn a_reqSerial : (Nat → Int64)}
variable {y_rcd y_rp y_rfc y_cap y_busMode y_losses : Int32} {y_now : Int64} {b_words b_slotState b_slotLeft b_slotValue b_flight b_open b_ages b_pastKind b_pastBank : (Nat → Int32)}
variable {N hd m : Nat} {bo : Nat → Int}
theorem c_writeM {Q : SX → SY → Prop} (R : Q (f_rcd, f_rp, f_rfc, f_cap, f_refreshSoon, f_refreshMust, f_drainMark, f_requests, f_allLanes, f_slotFree, f_slotWaiting, f_slotReady, f_never, f_anyAct, f_anyRead, f_anyWrite, f_actNext, f_nextSerial, nI hd, nI m, f_draining, f_clock, 1, 0, f_lost, f_retiredReads, a_cells, a_openRows, a_ages, a_lastAct, a_lastRead, a_lastWrite, a_lastPre, a_lastRef, a_actTimes, a_reqAddress, a_reqLanes, a_reqData, a_reqBase, a_reqFetched, a_reqPending, a_reqBorn, a_reqSerial, a_slotStates) (f_rcd, f_rp, f_rfc, f_cap, f_clock, 1, f_lost, b_words, a_slotStates, b_slotLeft, b_slotValue, b_flight, b_open, b_ages, b_pastKind, b_pastBank)) (v1 v2 v3 : Int32) : wpX_write (fun r u' => wpY_write (fun r' v' => r' = r ∧ Q u' v') (f_rcd, f_rp, f_rfc, f_cap, f_clock, 1, f_lost, b_words, a_slotStates, b_slotLeft, b_slotValue, b_flight, b_open, b_ages, b_pastKind, b_pastBank) v1 v2 v3) (f_rcd, f_rp, f_rfc, f_cap, f_refreshSoon, f_refreshMust, f_drainMark, f_requests, f_allLanes, f_slotFree, f_slotWaiting, f_slotReady, f_never, f_anyAct, f_anyRead, f_anyWrite, f_actNext, f_nextSerial, nI hd, nI m, f_draining, f_clock, 1, 0, f_lost, f_retiredReads, a_cells, a_openRows, a_ages, a_lastAct, a_lastRead, a_lastWrite, a_lastPre, a_lastRef, a_actTimes, a_reqAddress, a_reqLanes, a_reqData, a_reqBase, a_reqFetched, a_reqPending, a_reqBorn, a_reqSerial, a_slotStates) v1 v2 v3 := by
  unfold wpX_write
  refine br_f (by decide) ?_
  unfold wpY_write
  exact br_t rfl ⟨rfl, R⟩
theorem c_readM {Q : SX → SY → Prop} (R : Q (f_rcd, f_rp, f_rfc, f_cap, f_refreshSoon, f_refreshMust, f_drainMark, f_requests, f_allLanes, f_slotFree, f_slotWaiting, f_slotReady, f_never, f_anyAct, f_anyRead, f_anyWrite, f_actNext, f_nextSerial, nI hd, nI m, f_draining, f_clock, 1, 0, f_lost, f_retiredReads, a_cells, a_openRows, a_ages, a_lastAct, a_lastRead, a_lastWrite, a_lastPre, a_lastRef, a_actTimes, a_reqAddress, a_reqLanes, a_reqData, a_reqBase, a_reqFetched, a_reqPending, a_reqBorn, a_reqSerial, a_slotStates) (f_rcd, f_rp, f_rfc, f_cap, f_clock, 1, f_lost, b_words, a_slotStates, b_slotLeft, b_slotValue, b_flight, b_open, b_ages, b_pastKind, b_pastBank)) (v1 : Int32) : wpX_read (fun r u' => wpY_read (fun r' v' => r' = r ∧ Q u' v') (f_rcd, f_rp, f_rfc, f_cap, f_clock, 1, f_lost, b_words, a_slotStates, b_slotLeft, b_slotValue, b_flight, b_open, b_ages, b_pastKind, b_pastBank) v1) (f_rcd, f_rp, f_rfc, f_cap, f_refreshSoon, f_refreshMust, f_drainMark, f_requests, f_allLanes, f_slotFree, f_slotWaiting, f_slotReady, f_never, f_anyAct, f_anyRead, f_anyWrite, f_actNext, f_nextSerial, nI hd, nI m, f_draining, f_clock, 1, 0, f_lost, f_retiredReads, a_cells, a_openRows, a_ages, a_lastAct, a_lastRead, a_lastWrite, a_lastPre, a_lastRef, a_actTimes, a_reqAddress, a_reqLanes, a_reqData, a_reqBase, a_reqFetched, a_reqPending, a_reqBorn, a_reqSerial, a_slotStates) v1 := by
  unfold wpX_read
  refine br_f (by decide) ?_
  unfold wpY_read
  exact br_t rfl ⟨rfl, R⟩
theorem c_write (K : (i_K N hd m f_rcd f_rp f_rfc f_cap f_anyAct f_anyRead f_anyWrite f_actNext f_nextSerial f_draining f_clock a_openRows a_ages a_lastAct a_lastRead a_lastWrite a_lastPre a_lastRef a_actTimes a_reqAddress a_reqLanes a_reqFetched a_reqPending a_reqSerial bo a_cells a_reqData a_reqBase a_reqBorn a_slotStates b_words b_slotLeft b_slotValue b_flight)) (pre : sc_Pre (sc_ab f_rcd f_rp f_rfc f_cap f_anyAct f_anyRead f_anyWrite f_actNext f_nextSerial f_draining f_clock a_openRows a_ages a_lastAct a_lastRead a_lastWrite a_lastPre a_lastRef a_actTimes a_reqAddress a_reqLanes a_reqFetched a_reqPending a_reqSerial bo)) (hN : N < 1000000) {Q : SX → SY → Prop} (hQ : ∀ u v, i_RN (N + 1) u v → Q u v) (v1 v2 v3 : Int32) : wpX_write (fun r u' => wpY_write (fun r' v' => r' = r ∧ Q u' v') (f_rcd, f_rp, f_rfc, f_cap, f_clock, 0, f_lost, b_words, a_slotStates, b_slotLeft, b_slotValue, b_flight, b_open, b_ages, b_pastKind, b_pastBank) v1 v2 v3) (f_rcd, f_rp, f_rfc, f_cap, f_refreshSoon, f_refreshMust, f_drainMark, f_requests, f_allLanes, f_slotFree, f_slotWaiting, f_slotReady, f_never, f_anyAct, f_anyRead, f_anyWrite, f_actNext, f_nextSerial, nI hd, nI m, f_draining, f_clock, 0, 0, f_lost, f_retiredReads, a_cells, a_openRows, a_ages, a_lastAct, a_lastRead, a_lastWrite, a_lastPre, a_lastRef, a_actTimes, a_reqAddress, a_reqLanes, a_reqData, a_reqBase, a_reqFetched, a_reqPending, a_reqBorn, a_reqSerial, a_slotStates) v1 v2 v3 := by
  have R : Q (f_rcd, f_rp, f_rfc, f_cap, f_refreshSoon, f_refreshMust, f_drainMark, f_requests, f_allLanes, f_slotFree, f_slotWaiting, f_slotReady, f_never, f_anyAct, f_anyRead, f_anyWrite, f_actNext, f_nextSerial, nI hd, nI m, f_draining, f_clock, 0, 0, f_lost, f_retiredReads, a_cells, a_openRows, a_ages, a_lastAct, a_lastRead, a_lastWrite, a_lastPre, a_lastRef, a_actTimes, a_reqAddress, a_reqLanes, a_reqData, a_reqBase, a_reqFetched, a_reqPending, a_reqBorn, a_reqSerial, a_slotStates) (f_rcd, f_rp, f_rfc, f_cap, f_clock, 0, f_lost, b_words, a_slotStates, b_slotLeft, b_slotValue, b_flight, b_open, b_ages, b_pastKind, b_pastBank) := hQ _ _ (i_inS (i_K_up K (by omega)) pre)
  have T := K.2.2.2.2.2.2.2.1
  have f := fl_pos T
  have hm := T.2.1
  unfold wpX_write
  refine br_t rfl ?_
  rcases pk_ix v1 (n := 256) (by decide) with z | z | ⟨a, ha, rfl⟩
  · refine br_t z ?_
    unfold wpY_write
    exact br_f (by decide) (br_t z ⟨rfl, R⟩)
  · refine br_f (is_nn (by decide) z) (br_t z ?_)
    unfold wpY_write
    exact br_f (by decide) (br_f (is_nn (by decide) z) (br_f (is_n2 z) ⟨rfl, R⟩))
  · have z0 : ¬ nI a < 0 := nI_pos (by omega)
    have z1 : ¬ (256 : Int32) ≤ nI a := nI_ge (b := 256) ha (by decide)
    have z2 : nI a < 256 := nI_lt (b := 256) ha (by decide)
    refine br_f z0 (br_f z1 (br_c (fun l1 => ?_) (fun l1 => br_c (fun l2 => br_c (fun l3 => ?_) (fun l3 => ?_)) (fun l2 => ?_))))
    · unfold wpY_write
      exact br_f (by decide) (br_f z0 (br_t z2 (br_t l1 ⟨rfl, R⟩)))
    · have m6 : m < 6 := by
        rw [show (6 : Int32) = nI 6 by decide, nI_ltI (by omega) (by omega)] at l3; exact l3
      have er : (nI (rk hd m)).toNatClampNeg = rk hd m := nI_clamp (by have := (rk_in (h := hd) (i := m)).2; omega)
      have vr : vp_in (nI (rk hd m)) 12 := vp_in_nI rk_in.2 (by decide)
      refine xw_wat T.1 m6 rfl (xw_lanes (xw_enter rk_in.2 ?_))
      dsimp only
      rw [er, xb_nar0]
      refine ⟨vr, nm_e ⟨vr, nm_e ⟨vr, nm_e ⟨vr, nm_e (nm_r (nI_1 m) ?_)⟩⟩⟩⟩
      unfold wpY_write
      refine br_f (by decide) (br_f z0 (br_t z2 (br_f l1 (br_t l2 (yw_ww hm f.1 f.2 (br_t l3 (yw_wr ha m6 ⟨rfl, hQ _ _ ?_⟩)))))))
      have r := wr_K (v := v2) (mk := v3) K pre hN m6 ha
      exact i_inS r.1 r.2
    · unfold wpY_write
      exact br_f (by decide) (br_f z0 (br_t z2 (br_f l1 (br_t l2 (yw_ww hm f.1 f.2 (br_f l3 ⟨rfl, R⟩))))))
    · unfold wpY_write
      exact br_f (by decide) (br_f z0 (br_t z2 (br_f l1 (br_f l2 ⟨rfl, R⟩))))
theorem c_read (K : (i_K N hd m f_rcd f_rp f_rfc f_cap f_anyAct f_anyRead f_anyWrite f_actNext f_nextSerial f_draining f_clock a_openRows a_ages a_lastAct a_lastRead a_lastWrite a_lastPre a_lastRef a_actTimes a_reqAddress a_reqLanes a_reqFetched a_reqPending a_reqSerial bo a_cells a_reqData a_reqBase a_reqBorn a_slotStates b_words b_slotLeft b_slotValue b_flight)) (pre : sc_Pre (sc_ab f_rcd f_rp f_rfc f_cap f_anyAct f_anyRead f_anyWrite f_actNext f_nextSerial f_draining f_clock a_openRows a_ages a_lastAct a_lastRead a_lastWrite a_lastPre a_lastRef a_actTimes a_reqAddress a_reqLanes a_reqFetched a_reqPending a_reqSerial bo)) (hN : N < 1000000) {Q : SX → SY → Prop} (hQ : ∀ u v, i_RN (N + 1) u v → Q u v) (v1 : Int32) : wpX_read (fun r u' => wpY_read (fun r' v' => r' = r ∧ Q u' v') (f_rcd, f_rp, f_rfc, f_cap, f_clock, 0, f_lost, b_words, a_slotStates, b_slotLeft, b_slotValue, b_flight, b_open, b_ages, b_pastKind, b_pastBank) v1) (f_rcd, f_rp, f_rfc, f_cap, f_refreshSoon, f_refreshMust, f_drainMark, f_requests, f_allLanes, f_slotFree, f_slotWaiting, f_slotReady, f_never, f_anyAct, f_anyRead, f_anyWrite, f_actNext, f_nextSerial, nI hd, nI m, f_draining, f_clock, 0, 0, f_lost, f_retiredReads, a_cells, a_openRows, a_ages, a_lastAct, a_lastRead, a_lastWrite, a_lastPre, a_lastRef, a_actTimes, a_reqAddress, a_reqLanes, a_reqData, a_reqBase, a_reqFetched, a_reqPending, a_reqBorn, a_reqSerial, a_slotStates) v1 := by
  have R : Q (f_rcd, f_rp, f_rfc, f_cap, f_refreshSoon, f_refreshMust, f_drainMark, f_requests, f_allLanes, f_slotFree, f_slotWaiting, f_slotReady, f_never, f_anyAct, f_anyRead, f_anyWrite, f_actNext, f_nextSerial, nI hd, nI m, f_draining, f_clock, 0, 0, f_lost, f_retiredReads, a_cells, a_openRows, a_ages, a_lastAct, a_lastRead, a_lastWrite, a_lastPre, a_lastRef, a_actTimes, a_reqAddress, a_reqLanes, a_reqData, a_reqBase, a_reqFetched, a_reqPending, a_reqBorn, a_reqSerial, a_slotStates) (f_rcd, f_rp, f_rfc, f_cap, f_clock, 0, f_lost, b_words, a_slotStates, b_slotLeft, b_slotValue, b_flight, b_open, b_ages, b_pastKind, b_pastBank) := hQ _ _ (i_inS (i_K_up K (by omega)) pre)
  have T := K.2.2.2.2.2.2.2.1
  unfold wpX_read
  refine br_t rfl ?_
  rcases pk_ix v1 (n := 256) (by decide) with z | z | ⟨a, ha, rfl⟩
  · refine br_t z ?_
    unfold wpY_read
    exact br_f (by decide) (br_t z ⟨rfl, R⟩)
  · refine br_f (is_nn (by decide) z) (br_f (is_n2 z) ?_)
    unfold wpY_read
    exact br_f (by decide) (br_f (is_nn (by decide) z) (br_f (is_n2 z) ⟨rfl, R⟩))
  · have z0 : ¬ nI a < 0 := nI_pos (by omega)
    have z2 : nI a < 256 := nI_lt (b := 256) ha (by decide)
    refine br_f z0 (br_t z2 (xw_free (fun no => br_f (by decide) ?_) (fun s hs st0 lo => br_t (nI_pos' (by omega)) ?_)))
    · unfold wpY_read
      exact br_f (by decide) (br_f z0 (br_t z2 (yw_rd ha (fun _ => ⟨rfl, R⟩) (fun s hs s0 _ => absurd s0 (no s hs)))))
    · have es : (nI s).toNatClampNeg = s := nI_clamp (by omega)
      have vs : vp_in (nI s) 6 := vp_in_nI hs (by decide)
      have rn : ∀ i, rk hd i ≠ s := fun i => by have := rk_in (h := hd) (i := i); omega
      have eL : fw_L (upd a_reqPending s 1) (upd a_reqAddress s (nI a)) a_reqLanes (nI a) hd m = fw_L a_reqPending a_reqAddress a_reqLanes (nI a) hd m :=
        fw_Lcg (fun i _ => ⟨pk_un (rn i), pk_un (rn i), rfl⟩) m (Nat.le_refl _)
      have eD : fw_D (upd a_reqPending s 1) (upd a_reqAddress s (nI a)) a_reqLanes a_reqData (nI a) hd m = fw_D a_reqPending a_reqAddress a_reqLanes a_reqData (nI a) hd m :=
        fw_Dcg (fun i _ => ⟨pk_un (rn i), pk_un (rn i), rfl, rfl⟩) m (Nat.le_refl _)
      -- the reference takes the same slot
      have Y : ∀ u : SX, Q u (f_rcd, f_rp, f_rfc, f_cap, f_clock, 0, f_lost, b_words, upd a_slotStates s 1, upd b_slotLeft s 256, upd b_slotValue s (b_words a), b_flight, b_open, b_ages, b_pastKind, b_pastBank) → wpY_read (fun r' v' => r' = nI s ∧ Q u v') (f_rcd, f_rp, f_rfc, f_cap, f_clock, 0, f_lost, b_words, a_slotStates, b_slotLeft, b_slotValue, b_flight, b_open, b_ages, b_pastKind, b_pastBank) (nI a) := by
        intro u hu
        unfold wpY_read
        refine br_f (by decide) (br_f z0 (br_t z2 (yw_rd ha (fun no => absurd st0 (no s hs)) (fun t ht t0 lo2 => ?_))))
        have : t = s := by
          rcases Nat.lt_trichotomy t s with y | y | y
          · exact absurd t0 (lo t y)
          · exact y
          · exact absurd st0 (lo2 s y)
        subst this
        exact ⟨rfl, hu⟩
      refine xw_enter (by omega) (xw_fwd (by omega) T.1 T.2.1 rfl rfl (fun full => ?_) (fun part => ?_))
      · dsimp only
        rw [es]
        refine ⟨vs, nm_e (Y _ (hQ _ _ ?_))⟩
        rw [upd_2]
        have r := rd_K (s := s) (p := 0) K pre hN hs st0 ha (.inl rfl) eL eD (fun _ => full)
        exact i_inS r.1 r.2
      · dsimp only
        rw [es]
        refine ⟨vs, nm_e (Y _ (hQ _ _ ?_))⟩
        have r := rd_K (s := s) (p := 1) K pre hN hs st0 ha (.inr rfl) eL eD (fun z => absurd z (by decide))
        exact i_inS r.1 r.2
theorem c_takeV (K : (i_K N hd m f_rcd f_rp f_rfc f_cap f_anyAct f_anyRead f_anyWrite f_actNext f_nextSerial f_draining f_clock a_openRows a_ages a_lastAct a_lastRead a_lastWrite a_lastPre a_lastRef a_actTimes a_reqAddress a_reqLanes a_reqFetched a_reqPending a_reqSerial bo a_cells a_reqData a_reqBase a_reqBorn a_slotStates b_words b_slotLeft b_slotValue b_flight)) {Q : SX → SY → Prop} (R : Q (f_rcd, f_rp, f_rfc, f_cap, f_refreshSoon, f_refreshMust, f_drainMark, f_requests, f_allLanes, f_slotFree, f_slotWaiting, f_slotReady, f_never, f_anyAct, f_anyRead, f_anyWrite, f_actNext, f_nextSerial, nI hd, nI m, f_draining, f_clock, f_mode, 0, f_lost, f_retiredReads, a_cells, a_openRows, a_ages, a_lastAct, a_lastRead, a_lastWrite, a_lastPre, a_lastRef, a_actTimes, a_reqAddress, a_reqLanes, a_reqData, a_reqBase, a_reqFetched, a_reqPending, a_reqBorn, a_reqSerial, a_slotStates) (f_rcd, f_rp, f_rfc, f_cap, f_clock, f_mode, f_lost, b_words, a_slotStates, b_slotLeft, b_slotValue, b_flight, b_open, b_ages, b_pastKind, b_pastBank)) (R2 : ∀ s, s < 6 → a_slotStates s ≠ 1 → Q (f_rcd, f_rp, f_rfc, f_cap, f_refreshSoon, f_refreshMust, f_drainMark, f_requests, f_allLanes, f_slotFree, f_slotWaiting, f_slotReady, f_never, f_anyAct, f_anyRead, f_anyWrite, f_actNext, f_nextSerial, nI hd, nI m, f_draining, f_clock, f_mode, 0, f_lost, f_retiredReads, a_cells, a_openRows, a_ages, a_lastAct, a_lastRead, a_lastWrite, a_lastPre, a_lastRef, a_actTimes, a_reqAddress, a_reqLanes, a_reqData, a_reqBase, a_reqFetched, a_reqPending, a_reqBorn, a_reqSerial, upd a_slotStates s 0) (f_rcd, f_rp, f_rfc, f_cap, f_clock, f_mode, f_lost, b_words, upd a_slotStates s 0, b_slotLeft, b_slotValue, b_flight, b_open, b_ages, b_pastKind, b_pastBank)) (v1 : Int32) : wpX_take (fun r u' => wpY_take (fun r' v' => r' = r ∧ Q u' v') (f_rcd, f_rp, f_rfc, f_cap, f_clock, f_mode, f_lost, b_words, a_slotStates, b_slotLeft, b_slotValue, b_flight, b_open, b_ages, b_pastKind, b_pastBank) v1) (f_rcd, f_rp, f_rfc, f_cap, f_refreshSoon, f_refreshMust, f_drainMark, f_requests, f_allLanes, f_slotFree, f_slotWaiting, f_slotReady, f_never, f_anyAct, f_anyRead, f_anyWrite, f_actNext, f_nextSerial, nI hd, nI m, f_draining, f_clock, f_mode, 0, f_lost, f_retiredReads, a_cells, a_openRows, a_ages, a_lastAct, a_lastRead, a_lastWrite, a_lastPre, a_lastRef, a_actTimes, a_reqAddress, a_reqLanes, a_reqData, a_reqBase, a_reqFetched, a_reqPending, a_reqBorn, a_reqSerial, a_slotStates) v1 := by
  unfold wpX_take
  have cl : ∀ j, j < 6 → (nI j).toNatClampNeg = j := fun j hj => nI_clamp (by omega)
  have vj : ∀ j, j < 6 → vp_in (nI j) 6 := fun j hj => vp_in_nI hj (by omega)
  have z0 : ∀ j, j < 6 → ¬ nI j < 0 := fun j hj => nI_pos (by omega)
  have z6 : ∀ j, j < 6 → nI j < 6 := fun j hj => nI_lt (b := 6) hj (by decide)
  refine c_lookX K v1 (fun b => br_t (by decide) ?_) (fun j hj e s => br_t (by decide) ?_) (fun j hj e s => br_t (by decide) ?_) (fun j hj e s n => br_f n ?_)
  · unfold wpY_take
    rcases b with b | b
    · exact br_t b ⟨rfl, R⟩
    · exact br_c (fun _ => ⟨rfl, R⟩) (fun _ => br_f (is_n (n := 6) (by decide) b) ⟨rfl, R⟩)
  · subst e
    unfold wpY_take
    refine br_f (z0 j hj) (br_t (z6 j hj) (c_lookY K _ (fun b => absurd b (c_bad hj rfl)) (fun i hi f t => ⟨vj j hj, br_f ?_ ⟨rfl, R⟩⟩) (fun i hi f t => ?_) (fun i hi f t => ?_)))
    · rw [cl j hj, s]; decide
    · rw [c_same hi hj f rfl, s] at t; exact absurd t (by decide)
    · rw [c_same hi hj f rfl, s] at t; exact absurd t (by decide)
  · subst e
    unfold wpY_take
    refine br_f (z0 j hj) (br_t (z6 j hj) (c_lookY K _ (fun b => absurd b (c_bad hj rfl)) (fun i hi f t => ?_) (fun i hi f t => ⟨vj j hj, br_f ?_ ⟨rfl, R⟩⟩) (fun i hi f t => ?_)))
    · rw [c_same hi hj f rfl, s] at t; exact absurd t (by decide)
    · rw [cl j hj, s]; decide
    · rw [c_same hi hj f rfl, s] at t; exact absurd t (by decide)
  · subst e
    rw [cl j hj]
    refine ⟨vj j hj, nm_e ?_⟩
    unfold wpY_take
    refine br_f (z0 j hj) (br_t (z6 j hj) (c_lookY K _ (fun b => absurd b (c_bad hj rfl)) (fun i hi f t => ?_) (fun i hi f t => ?_) (fun i hi f t => ?_)))
    · rw [c_same hi hj f rfl, s] at t; exact absurd t (by decide)
    · rw [c_same hi hj f rfl, s] at t; exact absurd t (by decide)
    · rw [cl j hj, c_same hi hj f rfl]
      exact ⟨vj j hj, br_t s ⟨vj j hj, nm_e ⟨rfl, R2 j hj (by rw [s]; decide)⟩⟩⟩
theorem tk_K (K : (i_K N hd m f_rcd f_rp f_rfc f_cap f_anyAct f_anyRead f_anyWrite f_actNext f_nextSerial f_draining f_clock a_openRows a_ages a_lastAct a_lastRead a_lastWrite a_lastPre a_lastRef a_actTimes a_reqAddress a_reqLanes a_reqFetched a_reqPending a_reqSerial bo a_cells a_reqData a_reqBase a_reqBorn a_slotStates b_words b_slotLeft b_slotValue b_flight)) {s : Nat} (hs : s < 6) (h1 : a_slotStates s ≠ 1) : (i_K N hd m f_rcd f_rp f_rfc f_cap f_anyAct f_anyRead f_anyWrite f_actNext f_nextSerial f_draining f_clock a_openRows a_ages a_lastAct a_lastRead a_lastWrite a_lastPre a_lastRef a_actTimes a_reqAddress a_reqLanes a_reqFetched a_reqPending a_reqSerial bo a_cells a_reqData a_reqBase a_reqBorn (upd a_slotStates s 0) b_words b_slotLeft b_slotValue b_flight) := by
  obtain ⟨c, an, ri, w, rg, vv, hb, T, V⟩ := K
  exact ⟨c, an, ri, w, rg, vv, hb, dt_tk T hs h1, dv_tk V⟩
theorem tk_M (M : (i_M m b_open b_ages b_pastKind b_pastBank a_slotStates f_rcd f_rp f_rfc f_cap f_anyAct f_anyRead f_anyWrite f_actNext f_nextSerial f_draining f_clock a_openRows a_ages a_lastAct a_lastRead a_lastWrite a_lastPre a_lastRef a_actTimes a_reqAddress a_reqLanes a_reqFetched a_reqPending a_reqSerial bo)) {s : Nat} : (i_M m b_open b_ages b_pastKind b_pastBank (upd a_slotStates s 0) f_rcd f_rp f_rfc f_cap f_anyAct f_anyRead f_anyWrite f_actNext f_nextSerial f_draining f_clock a_openRows a_ages a_lastAct a_lastRead a_lastWrite a_lastPre a_lastRef a_actTimes a_reqAddress a_reqLanes a_reqFetched a_reqPending a_reqSerial bo) := by
  obtain ⟨n1, n0, n2, L⟩ := M
  refine ⟨fun x hx => ?_, n0, n2, L⟩
  unfold upd; split
  · decide
  · exact n1 x hx
end
theorem i_vc_write {k : Nat} {u : SX} {v : SY} (I : i_Rel k u v) (hk : k + 5 ≤ 2564) (v1 : Int32) (v2 : Int32) (v3 : Int32) : wpX_write (fun r u' => wpY_write (fun r' v' => r' = r ∧ i_Rel (k + 5) u' v') v v1 v2 v3) u v1 v2 v3 := by
  refine i_cs (P := fun u v => wpX_write (fun r u' => wpY_write (fun r' v' => r' = r ∧ i_Rel (k + 5) u' v') v v1 v2 v3) u v1 v2 v3) I ?_ ?_
  · intro hd m bo f_rcd f_rp f_rfc f_cap f_refreshSoon f_refreshMust f_drainMark f_requests f_allLanes f_slotFree f_slotWaiting f_slotReady f_never f_anyAct f_anyRead f_anyWrite f_actNext f_nextSerial f_writeHead f_writeCount f_draining f_clock f_mode f_faults f_lost f_retiredReads a_cells a_openRows a_ages a_lastAct a_lastRead a_lastWrite a_lastPre a_lastRef a_actTimes a_reqAddress a_reqLanes a_reqData a_reqBase a_reqFetched a_reqPending a_reqBorn a_reqSerial a_slotStates y_rcd y_rp y_rfc y_cap y_now y_busMode y_losses b_words b_slotState b_slotLeft b_slotValue b_flight b_open b_ages b_pastKind b_pastBank K pre
    exact c_write (Q := fun u' v' => i_Rel (k + 5) u' v') K pre (by omega) (fun u v h => i_RN_up (by omega) h) v1 v2 v3
  · intro hd m bo f_rcd f_rp f_rfc f_cap f_refreshSoon f_refreshMust f_drainMark f_requests f_allLanes f_slotFree f_slotWaiting f_slotReady f_never f_anyAct f_anyRead f_anyWrite f_actNext f_nextSerial f_writeHead f_writeCount f_draining f_clock f_mode f_faults f_lost f_retiredReads a_cells a_openRows a_ages a_lastAct a_lastRead a_lastWrite a_lastPre a_lastRef a_actTimes a_reqAddress a_reqLanes a_reqData a_reqBase a_reqFetched a_reqPending a_reqBorn a_reqSerial a_slotStates y_rcd y_rp y_rfc y_cap y_now y_busMode y_losses b_words b_slotState b_slotLeft b_slotValue b_flight b_open b_ages b_pastKind b_pastBank K M
    exact c_writeM (Q := fun u' v' => i_Rel (k + 5) u' v') (i_inM (i_K_up K (by omega)) M) v1 v2 v3
theorem i_vc_read {k : Nat} {u : SX} {v : SY} (I : i_Rel k u v) (hk : k + 5 ≤ 2564) (v1 : Int32) : wpX_read (fun r u' => wpY_read (fun r' v' => r' = r ∧ i_Rel (k + 5) u' v') v v1) u v1 := by
  refine i_cs (P := fun u v => wpX_read (fun r u' => wpY_read (fun r' v' => r' = r ∧ i_Rel (k + 5) u' v') v v1) u v1) I ?_ ?_
  · intro hd m bo f_rcd f_rp f_rfc f_cap f_refreshSoon f_refreshMust f_drainMark f_requests f_allLanes f_slotFree f_slotWaiting f_slotReady f_never f_anyAct f_anyRead f_anyWrite f_actNext f_nextSerial f_writeHead f_writeCount f_draining f_clock f_mode f_faults f_lost f_retiredReads a_cells a_openRows a_ages a_lastAct a_lastRead a_lastWrite a_lastPre a_lastRef a_actTimes a_reqAddress a_reqLanes a_reqData a_reqBase a_reqFetched a_reqPending a_reqBorn a_reqSerial a_slotStates y_rcd y_rp y_rfc y_cap y_now y_busMode y_losses b_words b_slotState b_slotLeft b_slotValue b_flight b_open b_ages b_pastKind b_pastBank K pre
    exact c_read (Q := fun u' v' => i_Rel (k + 5) u' v') K pre (by omega) (fun u v h => i_RN_up (by omega) h) v1
  · intro hd m bo f_rcd f_rp f_rfc f_cap f_refreshSoon f_refreshMust f_drainMark f_requests f_allLanes f_slotFree f_slotWaiting f_slotReady f_never f_anyAct f_anyRead f_anyWrite f_actNext f_nextSerial f_writeHead f_writeCount f_draining f_clock f_mode f_faults f_lost f_retiredReads a_cells a_openRows a_ages a_lastAct a_lastRead a_lastWrite a_lastPre a_lastRef a_actTimes a_reqAddress a_reqLanes a_reqData a_reqBase a_reqFetched a_reqPending a_reqBorn a_reqSerial a_slotStates y_rcd y_rp y_rfc y_cap y_now y_busMode y_losses b_words b_slotState b_slotLeft b_slotValue b_flight b_open b_ages b_pastKind b_pastBank K M
    exact c_readM (Q := fun u' v' => i_Rel (k + 5) u' v') (i_inM (i_K_up K (by omega)) M) v1
theorem i_vc_left {k : Nat} {u : SX} {v : SY} (I : i_Rel k u v) (hk : k + 5 ≤ 2564) (v1 : Int32) : wpX_left (fun r => wpY_left (fun r' => r' = r ∧ i_Rel (k + 5) u v) v v1) u v1 := by
  refine i_cs (P := fun u v => wpX_left (fun r => wpY_left (fun r' => r' = r ∧ i_Rel (k + 5) u v) v v1) u v1) I ?_ ?_
  · intro hd m bo f_rcd f_rp f_rfc f_cap f_refreshSoon f_refreshMust f_drainMark f_requests f_allLanes f_slotFree f_slotWaiting f_slotReady f_never f_anyAct f_anyRead f_anyWrite f_actNext f_nextSerial f_writeHead f_writeCount f_draining f_clock f_mode f_faults f_lost f_retiredReads a_cells a_openRows a_ages a_lastAct a_lastRead a_lastWrite a_lastPre a_lastRef a_actTimes a_reqAddress a_reqLanes a_reqData a_reqBase a_reqFetched a_reqPending a_reqBorn a_reqSerial a_slotStates y_rcd y_rp y_rfc y_cap y_now y_busMode y_losses b_words b_slotState b_slotLeft b_slotValue b_flight b_open b_ages b_pastKind b_pastBank K pre
    exact c_left K (i_inS (i_K_up K (by omega)) pre) v1
  · intro hd m bo f_rcd f_rp f_rfc f_cap f_refreshSoon f_refreshMust f_drainMark f_requests f_allLanes f_slotFree f_slotWaiting f_slotReady f_never f_anyAct f_anyRead f_anyWrite f_actNext f_nextSerial f_writeHead f_writeCount f_draining f_clock f_mode f_faults f_lost f_retiredReads a_cells a_openRows a_ages a_lastAct a_lastRead a_lastWrite a_lastPre a_lastRef a_actTimes a_reqAddress a_reqLanes a_reqData a_reqBase a_reqFetched a_reqPending a_reqBorn a_reqSerial a_slotStates y_rcd y_rp y_rfc y_cap y_now y_busMode y_losses b_words b_slotState b_slotLeft b_slotValue b_flight b_open b_ages b_pastKind b_pastBank K M
    exact c_left K (i_inM (i_K_up K (by omega)) M) v1
theorem i_vc_look {k : Nat} {u : SX} {v : SY} (I : i_Rel k u v) (hk : k + 5 ≤ 2564) (v1 : Int32) : wpX_look (fun r => wpY_look (fun r' => r' = r ∧ i_Rel (k + 5) u v) v v1) u v1 := by
  refine i_cs (P := fun u v => wpX_look (fun r => wpY_look (fun r' => r' = r ∧ i_Rel (k + 5) u v) v v1) u v1) I ?_ ?_
  · intro hd m bo f_rcd f_rp f_rfc f_cap f_refreshSoon f_refreshMust f_drainMark f_requests f_allLanes f_slotFree f_slotWaiting f_slotReady f_never f_anyAct f_anyRead f_anyWrite f_actNext f_nextSerial f_writeHead f_writeCount f_draining f_clock f_mode f_faults f_lost f_retiredReads a_cells a_openRows a_ages a_lastAct a_lastRead a_lastWrite a_lastPre a_lastRef a_actTimes a_reqAddress a_reqLanes a_reqData a_reqBase a_reqFetched a_reqPending a_reqBorn a_reqSerial a_slotStates y_rcd y_rp y_rfc y_cap y_now y_busMode y_losses b_words b_slotState b_slotLeft b_slotValue b_flight b_open b_ages b_pastKind b_pastBank K pre
    exact c_look K (i_inS (i_K_up K (by omega)) pre) v1
  · intro hd m bo f_rcd f_rp f_rfc f_cap f_refreshSoon f_refreshMust f_drainMark f_requests f_allLanes f_slotFree f_slotWaiting f_slotReady f_never f_anyAct f_anyRead f_anyWrite f_actNext f_nextSerial f_writeHead f_writeCount f_draining f_clock f_mode f_faults f_lost f_retiredReads a_cells a_openRows a_ages a_lastAct a_lastRead a_lastWrite a_lastPre a_lastRef a_actTimes a_reqAddress a_reqLanes a_reqData a_reqBase a_reqFetched a_reqPending a_reqBorn a_reqSerial a_slotStates y_rcd y_rp y_rfc y_cap y_now y_busMode y_losses b_words b_slotState b_slotLeft b_slotValue b_flight b_open b_ages b_pastKind b_pastBank K M
    exact c_look K (i_inM (i_K_up K (by omega)) M) v1
theorem i_vc_take {k : Nat} {u : SX} {v : SY} (I : i_Rel k u v) (hk : k + 5 ≤ 2564) (v1 : Int32) : wpX_take (fun r u' => wpY_take (fun r' v' => r' = r ∧ i_Rel (k + 5) u' v') v v1) u v1 := by
  refine i_cs (P := fun u v => wpX_take (fun r u' => wpY_take (fun r' v' => r' = r ∧ i_Rel (k + 5) u' v') v v1) u v1) I ?_ ?_
  · intro hd m bo f_rcd f_rp f_rfc f_cap f_refreshSoon f_refreshMust f_drainMark f_requests f_allLanes f_slotFree f_slotWaiting f_slotReady f_never f_anyAct f_anyRead f_anyWrite f_actNext f_nextSerial f_writeHead f_writeCount f_draining f_clock f_mode f_faults f_lost f_retiredReads a_cells a_openRows a_ages a_lastAct a_lastRead a_lastWrite a_lastPre a_lastRef a_actTimes a_reqAddress a_reqLanes a_reqData a_reqBase a_reqFetched a_reqPending a_reqBorn a_reqSerial a_slotStates y_rcd y_rp y_rfc y_cap y_now y_busMode y_losses b_words b_slotState b_slotLeft b_slotValue b_flight b_open b_ages b_pastKind b_pastBank K pre
    exact c_takeV (Q := fun u' v' => i_Rel (k + 5) u' v') K (i_inS (i_K_up K (by omega)) pre) (fun s hs h1 => i_inS (i_K_up (tk_K K hs h1) (by omega)) pre) v1
  · intro hd m bo f_rcd f_rp f_rfc f_cap f_refreshSoon f_refreshMust f_drainMark f_requests f_allLanes f_slotFree f_slotWaiting f_slotReady f_never f_anyAct f_anyRead f_anyWrite f_actNext f_nextSerial f_writeHead f_writeCount f_draining f_clock f_mode f_faults f_lost f_retiredReads a_cells a_openRows a_ages a_lastAct a_lastRead a_lastWrite a_lastPre a_lastRef a_actTimes a_reqAddress a_reqLanes a_reqData a_reqBase a_reqFetched a_reqPending a_reqBorn a_reqSerial a_slotStates y_rcd y_rp y_rfc y_cap y_now y_busMode y_losses b_words b_slotState b_slotLeft b_slotValue b_flight b_open b_ages b_pastKind b_pastBank K M
    exact c_takeV (Q := fun u' v' => i_Rel (k + 5) u' v') K (i_inM (i_K_up K (by omega)) M) (fun s hs h1 => i_inM (i_K_up (tk_K K hs h1) (by omega)) (tk_M M)) v1
theorem i_vc_readsWaiting {k : Nat} {u : SX} {v : SY} (I : i_Rel k u v) (hk : k + 5 ≤ 2564) : wpX_readsWaiting (fun r => wpY_readsWaiting (fun r' => r' = r ∧ i_Rel (k + 5) u v) v) u := by
  refine i_cs (P := fun u v => wpX_readsWaiting (fun r => wpY_readsWaiting (fun r' => r' = r ∧ i_Rel (k + 5) u v) v) u) I ?_ ?_
  · intro hd m bo f_rcd f_rp f_rfc f_cap f_refreshSoon f_refreshMust f_drainMark f_requests f_allLanes f_slotFree f_slotWaiting f_slotReady f_never f_anyAct f_anyRead f_anyWrite f_actNext f_nextSerial f_writeHead f_writeCount f_draining f_clock f_mode f_faults f_lost f_retiredReads a_cells a_openRows a_ages a_lastAct a_lastRead a_lastWrite a_lastPre a_lastRef a_actTimes a_reqAddress a_reqLanes a_reqData a_reqBase a_reqFetched a_reqPending a_reqBorn a_reqSerial a_slotStates y_rcd y_rp y_rfc y_cap y_now y_busMode y_losses b_words b_slotState b_slotLeft b_slotValue b_flight b_open b_ages b_pastKind b_pastBank K pre
    exact c_rwait (i_inS (i_K_up K (by omega)) pre)
  · intro hd m bo f_rcd f_rp f_rfc f_cap f_refreshSoon f_refreshMust f_drainMark f_requests f_allLanes f_slotFree f_slotWaiting f_slotReady f_never f_anyAct f_anyRead f_anyWrite f_actNext f_nextSerial f_writeHead f_writeCount f_draining f_clock f_mode f_faults f_lost f_retiredReads a_cells a_openRows a_ages a_lastAct a_lastRead a_lastWrite a_lastPre a_lastRef a_actTimes a_reqAddress a_reqLanes a_reqData a_reqBase a_reqFetched a_reqPending a_reqBorn a_reqSerial a_slotStates y_rcd y_rp y_rfc y_cap y_now y_busMode y_losses b_words b_slotState b_slotLeft b_slotValue b_flight b_open b_ages b_pastKind b_pastBank K M
    exact c_rwait (i_inM (i_K_up K (by omega)) M)
theorem i_vc_writesWaiting {k : Nat} {u : SX} {v : SY} (I : i_Rel k u v) (hk : k + 5 ≤ 2564) : wpX_writesWaiting (fun r => wpY_writesWaiting (fun r' => r' = r ∧ i_Rel (k + 5) u v) v) u := by
  refine i_cs (P := fun u v => wpX_writesWaiting (fun r => wpY_writesWaiting (fun r' => r' = r ∧ i_Rel (k + 5) u v) v) u) I ?_ ?_
  · intro hd m bo f_rcd f_rp f_rfc f_cap f_refreshSoon f_refreshMust f_drainMark f_requests f_allLanes f_slotFree f_slotWaiting f_slotReady f_never f_anyAct f_anyRead f_anyWrite f_actNext f_nextSerial f_writeHead f_writeCount f_draining f_clock f_mode f_faults f_lost f_retiredReads a_cells a_openRows a_ages a_lastAct a_lastRead a_lastWrite a_lastPre a_lastRef a_actTimes a_reqAddress a_reqLanes a_reqData a_reqBase a_reqFetched a_reqPending a_reqBorn a_reqSerial a_slotStates y_rcd y_rp y_rfc y_cap y_now y_busMode y_losses b_words b_slotState b_slotLeft b_slotValue b_flight b_open b_ages b_pastKind b_pastBank K pre
    exact c_wwait K (i_inS (i_K_up K (by omega)) pre)
  · intro hd m bo f_rcd f_rp f_rfc f_cap f_refreshSoon f_refreshMust f_drainMark f_requests f_allLanes f_slotFree f_slotWaiting f_slotReady f_never f_anyAct f_anyRead f_anyWrite f_actNext f_nextSerial f_writeHead f_writeCount f_draining f_clock f_mode f_faults f_lost f_retiredReads a_cells a_openRows a_ages a_lastAct a_lastRead a_lastWrite a_lastPre a_lastRef a_actTimes a_reqAddress a_reqLanes a_reqData a_reqBase a_reqFetched a_reqPending a_reqBorn a_reqSerial a_slotStates y_rcd y_rp y_rfc y_cap y_now y_busMode y_losses b_words b_slotState b_slotLeft b_slotValue b_flight b_open b_ages b_pastKind b_pastBank K M
    exact c_wwait K (i_inM (i_K_up K (by omega)) M)
theorem i_vc_writeLeft {k : Nat} {u : SX} {v : SY} (I : i_Rel k u v) (hk : k + 5 ≤ 2564) (v1 : Int32) : wpX_writeLeft (fun r => wpY_writeLeft (fun r' => r' = r ∧ i_Rel (k + 5) u v) v v1) u v1 := by
  refine i_cs (P := fun u v => wpX_writeLeft (fun r => wpY_writeLeft (fun r' => r' = r ∧ i_Rel (k + 5) u v) v v1) u v1) I ?_ ?_
  · intro hd m bo f_rcd f_rp f_rfc f_cap f_refreshSoon f_refreshMust f_drainMark f_requests f_allLanes f_slotFree f_slotWaiting f_slotReady f_never f_anyAct f_anyRead f_anyWrite f_actNext f_nextSerial f_writeHead f_writeCount f_draining f_clock f_mode f_faults f_lost f_retiredReads a_cells a_openRows a_ages a_lastAct a_lastRead a_lastWrite a_lastPre a_lastRef a_actTimes a_reqAddress a_reqLanes a_reqData a_reqBase a_reqFetched a_reqPending a_reqBorn a_reqSerial a_slotStates y_rcd y_rp y_rfc y_cap y_now y_busMode y_losses b_words b_slotState b_slotLeft b_slotValue b_flight b_open b_ages b_pastKind b_pastBank K pre
    exact c_wleft K (i_inS (i_K_up K (by omega)) pre) v1
  · intro hd m bo f_rcd f_rp f_rfc f_cap f_refreshSoon f_refreshMust f_drainMark f_requests f_allLanes f_slotFree f_slotWaiting f_slotReady f_never f_anyAct f_anyRead f_anyWrite f_actNext f_nextSerial f_writeHead f_writeCount f_draining f_clock f_mode f_faults f_lost f_retiredReads a_cells a_openRows a_ages a_lastAct a_lastRead a_lastWrite a_lastPre a_lastRef a_actTimes a_reqAddress a_reqLanes a_reqData a_reqBase a_reqFetched a_reqPending a_reqBorn a_reqSerial a_slotStates y_rcd y_rp y_rfc y_cap y_now y_busMode y_losses b_words b_slotState b_slotLeft b_slotValue b_flight b_open b_ages b_pastKind b_pastBank K M
    exact c_wleft K (i_inM (i_K_up K (by omega)) M) v1
theorem i_vc_clock {k : Nat} {u : SX} {v : SY} (I : i_Rel k u v) (hk : k + 5 ≤ 2564) : wpX_clock (fun r => wpY_clock (fun r' => r' = r ∧ i_Rel (k + 5) u v) v) u := by
  refine i_cs (P := fun u v => wpX_clock (fun r => wpY_clock (fun r' => r' = r ∧ i_Rel (k + 5) u v) v) u) I ?_ ?_
  · intro hd m bo f_rcd f_rp f_rfc f_cap f_refreshSoon f_refreshMust f_drainMark f_requests f_allLanes f_slotFree f_slotWaiting f_slotReady f_never f_anyAct f_anyRead f_anyWrite f_actNext f_nextSerial f_writeHead f_writeCount f_draining f_clock f_mode f_faults f_lost f_retiredReads a_cells a_openRows a_ages a_lastAct a_lastRead a_lastWrite a_lastPre a_lastRef a_actTimes a_reqAddress a_reqLanes a_reqData a_reqBase a_reqFetched a_reqPending a_reqBorn a_reqSerial a_slotStates y_rcd y_rp y_rfc y_cap y_now y_busMode y_losses b_words b_slotState b_slotLeft b_slotValue b_flight b_open b_ages b_pastKind b_pastBank K pre
    exact c_clock (i_inS (i_K_up K (by omega)) pre)
  · intro hd m bo f_rcd f_rp f_rfc f_cap f_refreshSoon f_refreshMust f_drainMark f_requests f_allLanes f_slotFree f_slotWaiting f_slotReady f_never f_anyAct f_anyRead f_anyWrite f_actNext f_nextSerial f_writeHead f_writeCount f_draining f_clock f_mode f_faults f_lost f_retiredReads a_cells a_openRows a_ages a_lastAct a_lastRead a_lastWrite a_lastPre a_lastRef a_actTimes a_reqAddress a_reqLanes a_reqData a_reqBase a_reqFetched a_reqPending a_reqBorn a_reqSerial a_slotStates y_rcd y_rp y_rfc y_cap y_now y_busMode y_losses b_words b_slotState b_slotLeft b_slotValue b_flight b_open b_ages b_pastKind b_pastBank K M
    exact c_clock (i_inM (i_K_up K (by omega)) M)
theorem i_vc_mode {k : Nat} {u : SX} {v : SY} (I : i_Rel k u v) (hk : k + 5 ≤ 2564) : wpX_mode (fun r => wpY_mode (fun r' => r' = r ∧ i_Rel (k + 5) u v) v) u := by
  refine i_cs (P := fun u v => wpX_mode (fun r => wpY_mode (fun r' => r' = r ∧ i_Rel (k + 5) u v) v) u) I ?_ ?_
  · intro hd m bo f_rcd f_rp f_rfc f_cap f_refreshSoon f_refreshMust f_drainMark f_requests f_allLanes f_slotFree f_slotWaiting f_slotReady f_never f_anyAct f_anyRead f_anyWrite f_actNext f_nextSerial f_writeHead f_writeCount f_draining f_clock f_mode f_faults f_lost f_retiredReads a_cells a_openRows a_ages a_lastAct a_lastRead a_lastWrite a_lastPre a_lastRef a_actTimes a_reqAddress a_reqLanes a_reqData a_reqBase a_reqFetched a_reqPending a_reqBorn a_reqSerial a_slotStates y_rcd y_rp y_rfc y_cap y_now y_busMode y_losses b_words b_slotState b_slotLeft b_slotValue b_flight b_open b_ages b_pastKind b_pastBank K pre
    exact c_mode (i_inS (i_K_up K (by omega)) pre)
  · intro hd m bo f_rcd f_rp f_rfc f_cap f_refreshSoon f_refreshMust f_drainMark f_requests f_allLanes f_slotFree f_slotWaiting f_slotReady f_never f_anyAct f_anyRead f_anyWrite f_actNext f_nextSerial f_writeHead f_writeCount f_draining f_clock f_mode f_faults f_lost f_retiredReads a_cells a_openRows a_ages a_lastAct a_lastRead a_lastWrite a_lastPre a_lastRef a_actTimes a_reqAddress a_reqLanes a_reqData a_reqBase a_reqFetched a_reqPending a_reqBorn a_reqSerial a_slotStates y_rcd y_rp y_rfc y_cap y_now y_busMode y_losses b_words b_slotState b_slotLeft b_slotValue b_flight b_open b_ages b_pastKind b_pastBank K M
    exact c_mode (i_inM (i_K_up K (by omega)) M)
theorem i_vc_peek {k : Nat} {u : SX} {v : SY} (I : i_Rel k u v) (hk : k + 5 ≤ 2564) (v1 : Int32) : wpX_peek (fun r => wpY_peek (fun r' => r' = r ∧ i_Rel (k + 5) u v) v v1) u v1 := by
  refine i_cs (P := fun u v => wpX_peek (fun r => wpY_peek (fun r' => r' = r ∧ i_Rel (k + 5) u v) v v1) u v1) I ?_ ?_
  · intro hd m bo f_rcd f_rp f_rfc f_cap f_refreshSoon f_refreshMust f_drainMark f_requests f_allLanes f_slotFree f_slotWaiting f_slotReady f_never f_anyAct f_anyRead f_anyWrite f_actNext f_nextSerial f_writeHead f_writeCount f_draining f_clock f_mode f_faults f_lost f_retiredReads a_cells a_openRows a_ages a_lastAct a_lastRead a_lastWrite a_lastPre a_lastRef a_actTimes a_reqAddress a_reqLanes a_reqData a_reqBase a_reqFetched a_reqPending a_reqBorn a_reqSerial a_slotStates y_rcd y_rp y_rfc y_cap y_now y_busMode y_losses b_words b_slotState b_slotLeft b_slotValue b_flight b_open b_ages b_pastKind b_pastBank K pre
    exact c_peek K (i_inS (i_K_up K (by omega)) pre) v1
  · intro hd m bo f_rcd f_rp f_rfc f_cap f_refreshSoon f_refreshMust f_drainMark f_requests f_allLanes f_slotFree f_slotWaiting f_slotReady f_never f_anyAct f_anyRead f_anyWrite f_actNext f_nextSerial f_writeHead f_writeCount f_draining f_clock f_mode f_faults f_lost f_retiredReads a_cells a_openRows a_ages a_lastAct a_lastRead a_lastWrite a_lastPre a_lastRef a_actTimes a_reqAddress a_reqLanes a_reqData a_reqBase a_reqFetched a_reqPending a_reqBorn a_reqSerial a_slotStates y_rcd y_rp y_rfc y_cap y_now y_busMode y_losses b_words b_slotState b_slotLeft b_slotValue b_flight b_open b_ages b_pastKind b_pastBank K M
    exact c_peek K (i_inM (i_K_up K (by omega)) M) v1
theorem i_vc_setting {k : Nat} {u : SX} {v : SY} (I : i_Rel k u v) (hk : k + 5 ≤ 2564) (v1 : Int32) : wpX_setting (fun r => wpY_setting (fun r' => r' = r ∧ i_Rel (k + 5) u v) v v1) u v1 := by
  refine i_cs (P := fun u v => wpX_setting (fun r => wpY_setting (fun r' => r' = r ∧ i_Rel (k + 5) u v) v v1) u v1) I ?_ ?_
  · intro hd m bo f_rcd f_rp f_rfc f_cap f_refreshSoon f_refreshMust f_drainMark f_requests f_allLanes f_slotFree f_slotWaiting f_slotReady f_never f_anyAct f_anyRead f_anyWrite f_actNext f_nextSerial f_writeHead f_writeCount f_draining f_clock f_mode f_faults f_lost f_retiredReads a_cells a_openRows a_ages a_lastAct a_lastRead a_lastWrite a_lastPre a_lastRef a_actTimes a_reqAddress a_reqLanes a_reqData a_reqBase a_reqFetched a_reqPending a_reqBorn a_reqSerial a_slotStates y_rcd y_rp y_rfc y_cap y_now y_busMode y_losses b_words b_slotState b_slotLeft b_slotValue b_flight b_open b_ages b_pastKind b_pastBank K pre
    exact c_setting (i_inS (i_K_up K (by omega)) pre) v1
  · intro hd m bo f_rcd f_rp f_rfc f_cap f_refreshSoon f_refreshMust f_drainMark f_requests f_allLanes f_slotFree f_slotWaiting f_slotReady f_never f_anyAct f_anyRead f_anyWrite f_actNext f_nextSerial f_writeHead f_writeCount f_draining f_clock f_mode f_faults f_lost f_retiredReads a_cells a_openRows a_ages a_lastAct a_lastRead a_lastWrite a_lastPre a_lastRef a_actTimes a_reqAddress a_reqLanes a_reqData a_reqBase a_reqFetched a_reqPending a_reqBorn a_reqSerial a_slotStates y_rcd y_rp y_rfc y_cap y_now y_busMode y_losses b_words b_slotState b_slotLeft b_slotValue b_flight b_open b_ages b_pastKind b_pastBank K M
    exact c_setting (i_inM (i_K_up K (by omega)) M) v1
theorem i_vc_faults {k : Nat} {u : SX} {v : SY} (I : i_Rel k u v) (hk : k + 5 ≤ 2564) : wpX_faults (fun r => wpY_faults (fun r' => r' = r ∧ i_Rel (k + 5) u v) v) u := by
  refine i_cs (P := fun u v => wpX_faults (fun r => wpY_faults (fun r' => r' = r ∧ i_Rel (k + 5) u v) v) u) I ?_ ?_
  · intro hd m bo f_rcd f_rp f_rfc f_cap f_refreshSoon f_refreshMust f_drainMark f_requests f_allLanes f_slotFree f_slotWaiting f_slotReady f_never f_anyAct f_anyRead f_anyWrite f_actNext f_nextSerial f_writeHead f_writeCount f_draining f_clock f_mode f_faults f_lost f_retiredReads a_cells a_openRows a_ages a_lastAct a_lastRead a_lastWrite a_lastPre a_lastRef a_actTimes a_reqAddress a_reqLanes a_reqData a_reqBase a_reqFetched a_reqPending a_reqBorn a_reqSerial a_slotStates y_rcd y_rp y_rfc y_cap y_now y_busMode y_losses b_words b_slotState b_slotLeft b_slotValue b_flight b_open b_ages b_pastKind b_pastBank K pre
    exact c_faults (i_inS (i_K_up K (by omega)) pre)
  · intro hd m bo f_rcd f_rp f_rfc f_cap f_refreshSoon f_refreshMust f_drainMark f_requests f_allLanes f_slotFree f_slotWaiting f_slotReady f_never f_anyAct f_anyRead f_anyWrite f_actNext f_nextSerial f_writeHead f_writeCount f_draining f_clock f_mode f_faults f_lost f_retiredReads a_cells a_openRows a_ages a_lastAct a_lastRead a_lastWrite a_lastPre a_lastRef a_actTimes a_reqAddress a_reqLanes a_reqData a_reqBase a_reqFetched a_reqPending a_reqBorn a_reqSerial a_slotStates y_rcd y_rp y_rfc y_cap y_now y_busMode y_losses b_words b_slotState b_slotLeft b_slotValue b_flight b_open b_ages b_pastKind b_pastBank K M
    exact c_faults (i_inM (i_K_up K (by omega)) M)
theorem i_vc_lost {k : Nat} {u : SX} {v : SY} (I : i_Rel k u v) (hk : k + 5 ≤ 2564) : wpX_lost (fun r => wpY_lost (fun r' => r' = r ∧ i_Rel (k + 5) u v) v) u := by
  refine i_cs (P := fun u v => wpX_lost (fun r => wpY_lost (fun r' => r' = r ∧ i_Rel (k + 5) u v) v) u) I ?_ ?_
  · intro hd m bo f_rcd f_rp f_rfc f_cap f_refreshSoon f_refreshMust f_drainMark f_requests f_allLanes f_slotFree f_slotWaiting f_slotReady f_never f_anyAct f_anyRead f_anyWrite f_actNext f_nextSerial f_writeHead f_writeCount f_draining f_clock f_mode f_faults f_lost f_retiredReads a_cells a_openRows a_ages a_lastAct a_lastRead a_lastWrite a_lastPre a_lastRef a_actTimes a_reqAddress a_reqLanes a_reqData a_reqBase a_reqFetched a_reqPending a_reqBorn a_reqSerial a_slotStates y_rcd y_rp y_rfc y_cap y_now y_busMode y_losses b_words b_slotState b_slotLeft b_slotValue b_flight b_open b_ages b_pastKind b_pastBank K pre
    exact c_lost (i_inS (i_K_up K (by omega)) pre)
  · intro hd m bo f_rcd f_rp f_rfc f_cap f_refreshSoon f_refreshMust f_drainMark f_requests f_allLanes f_slotFree f_slotWaiting f_slotReady f_never f_anyAct f_anyRead f_anyWrite f_actNext f_nextSerial f_writeHead f_writeCount f_draining f_clock f_mode f_faults f_lost f_retiredReads a_cells a_openRows a_ages a_lastAct a_lastRead a_lastWrite a_lastPre a_lastRef a_actTimes a_reqAddress a_reqLanes a_reqData a_reqBase a_reqFetched a_reqPending a_reqBorn a_reqSerial a_slotStates y_rcd y_rp y_rfc y_cap y_now y_busMode y_losses b_words b_slotState b_slotLeft b_slotValue b_flight b_open b_ages b_pastKind b_pastBank K M
    exact c_lost (i_inM (i_K_up K (by omega)) M)
theorem i_vc_takeBus {k : Nat} {u : SX} {v : SY} (I : i_Rel k u v) (hk : k + 5 ≤ 2564) : wpX_takeBus (fun r u' => wpY_takeBus (fun r' v' => r' = r ∧ i_Rel (k + 5) u' v') v) u := by
  refine i_cs (P := fun u v => wpX_takeBus (fun r u' => wpY_takeBus (fun r' v' => r' = r ∧ i_Rel (k + 5) u' v') v) u) I ?_ ?_
  · intro hd m bo f_rcd f_rp f_rfc f_cap f_refreshSoon f_refreshMust f_drainMark f_requests f_allLanes f_slotFree f_slotWaiting f_slotReady f_never f_anyAct f_anyRead f_anyWrite f_actNext f_nextSerial f_writeHead f_writeCount f_draining f_clock f_mode f_faults f_lost f_retiredReads a_cells a_openRows a_ages a_lastAct a_lastRead a_lastWrite a_lastPre a_lastRef a_actTimes a_reqAddress a_reqLanes a_reqData a_reqBase a_reqFetched a_reqPending a_reqBorn a_reqSerial a_slotStates y_rcd y_rp y_rfc y_cap y_now y_busMode y_losses b_words b_slotState b_slotLeft b_slotValue b_flight b_open b_ages b_pastKind b_pastBank K pre
    exact c_take K pre
  · intro hd m bo f_rcd f_rp f_rfc f_cap f_refreshSoon f_refreshMust f_drainMark f_requests f_allLanes f_slotFree f_slotWaiting f_slotReady f_never f_anyAct f_anyRead f_anyWrite f_actNext f_nextSerial f_writeHead f_writeCount f_draining f_clock f_mode f_faults f_lost f_retiredReads a_cells a_openRows a_ages a_lastAct a_lastRead a_lastWrite a_lastPre a_lastRef a_actTimes a_reqAddress a_reqLanes a_reqData a_reqBase a_reqFetched a_reqPending a_reqBorn a_reqSerial a_slotStates y_rcd y_rp y_rfc y_cap y_now y_busMode y_losses b_words b_slotState b_slotLeft b_slotValue b_flight b_open b_ages b_pastKind b_pastBank K M
    exact c_takeM (Q := fun u' v' => i_Rel (k + 5) u' v') (i_inM (i_K_up K (by omega)) M)
theorem i_vc_giveBus {k : Nat} {u : SX} {v : SY} (I : i_Rel k u v) (hk : k + 5 ≤ 2564) : wpX_giveBus (fun r u' => wpY_giveBus (fun r' v' => r' = r ∧ i_Rel (k + 5) u' v') v) u := by
  refine i_cs (P := fun u v => wpX_giveBus (fun r u' => wpY_giveBus (fun r' v' => r' = r ∧ i_Rel (k + 5) u' v') v) u) I ?_ ?_
  · intro hd m bo f_rcd f_rp f_rfc f_cap f_refreshSoon f_refreshMust f_drainMark f_requests f_allLanes f_slotFree f_slotWaiting f_slotReady f_never f_anyAct f_anyRead f_anyWrite f_actNext f_nextSerial f_writeHead f_writeCount f_draining f_clock f_mode f_faults f_lost f_retiredReads a_cells a_openRows a_ages a_lastAct a_lastRead a_lastWrite a_lastPre a_lastRef a_actTimes a_reqAddress a_reqLanes a_reqData a_reqBase a_reqFetched a_reqPending a_reqBorn a_reqSerial a_slotStates y_rcd y_rp y_rfc y_cap y_now y_busMode y_losses b_words b_slotState b_slotLeft b_slotValue b_flight b_open b_ages b_pastKind b_pastBank K pre
    exact c_giveS (Q := fun u' v' => i_Rel (k + 5) u' v') (i_inS (i_K_up K (by omega)) pre)
  · intro hd m bo f_rcd f_rp f_rfc f_cap f_refreshSoon f_refreshMust f_drainMark f_requests f_allLanes f_slotFree f_slotWaiting f_slotReady f_never f_anyAct f_anyRead f_anyWrite f_actNext f_nextSerial f_writeHead f_writeCount f_draining f_clock f_mode f_faults f_lost f_retiredReads a_cells a_openRows a_ages a_lastAct a_lastRead a_lastWrite a_lastPre a_lastRef a_actTimes a_reqAddress a_reqLanes a_reqData a_reqBase a_reqFetched a_reqPending a_reqBorn a_reqSerial a_slotStates y_rcd y_rp y_rfc y_cap y_now y_busMode y_losses b_words b_slotState b_slotLeft b_slotValue b_flight b_open b_ages b_pastKind b_pastBank K M
    exact c_give K M
theorem i_vc_issue {k : Nat} {u : SX} {v : SY} (I : i_Rel k u v) (hk : k + 5 ≤ 2564) (v1 : Int32) (v2 : Int32) (v3 : Int32) (v4 : Int32) : wpX_issue (fun r u' => wpY_issue (fun r' v' => r' = r ∧ i_Rel (k + 5) u' v') v v1 v2 v3 v4) u v1 v2 v3 v4 := by
  refine i_cs (P := fun u v => wpX_issue (fun r u' => wpY_issue (fun r' v' => r' = r ∧ i_Rel (k + 5) u' v') v v1 v2 v3 v4) u v1 v2 v3 v4) I ?_ ?_
  · intro hd m bo f_rcd f_rp f_rfc f_cap f_refreshSoon f_refreshMust f_drainMark f_requests f_allLanes f_slotFree f_slotWaiting f_slotReady f_never f_anyAct f_anyRead f_anyWrite f_actNext f_nextSerial f_writeHead f_writeCount f_draining f_clock f_mode f_faults f_lost f_retiredReads a_cells a_openRows a_ages a_lastAct a_lastRead a_lastWrite a_lastPre a_lastRef a_actTimes a_reqAddress a_reqLanes a_reqData a_reqBase a_reqFetched a_reqPending a_reqBorn a_reqSerial a_slotStates y_rcd y_rp y_rfc y_cap y_now y_busMode y_losses b_words b_slotState b_slotLeft b_slotValue b_flight b_open b_ages b_pastKind b_pastBank K pre
    exact c_issS (Q := fun u' v' => i_Rel (k + 5) u' v') (i_inS (i_K_up K (by omega)) pre) v1 v2 v3 v4
  · intro hd m bo f_rcd f_rp f_rfc f_cap f_refreshSoon f_refreshMust f_drainMark f_requests f_allLanes f_slotFree f_slotWaiting f_slotReady f_never f_anyAct f_anyRead f_anyWrite f_actNext f_nextSerial f_writeHead f_writeCount f_draining f_clock f_mode f_faults f_lost f_retiredReads a_cells a_openRows a_ages a_lastAct a_lastRead a_lastWrite a_lastPre a_lastRef a_actTimes a_reqAddress a_reqLanes a_reqData a_reqBase a_reqFetched a_reqPending a_reqBorn a_reqSerial a_slotStates y_rcd y_rp y_rfc y_cap y_now y_busMode y_losses b_words b_slotState b_slotLeft b_slotValue b_flight b_open b_ages b_pastKind b_pastBank K M
    exact c_iss (Q := fun u' v' => i_Rel (k + 5) u' v') K M (by omega) (fun u v h => i_RN_up (by omega) h) v1 v2 v3 v4
theorem i_vc_waitFor {k : Nat} {u : SX} {v : SY} (I : i_Rel k u v) (hk : k + 5 ≤ 2564) (v1 : Int32) (v2 : Int32) : wpX_waitFor (fun r => wpY_waitFor (fun r' => r' = r ∧ i_Rel (k + 5) u v) v v1 v2) u v1 v2 := by
  refine i_cs (P := fun u v => wpX_waitFor (fun r => wpY_waitFor (fun r' => r' = r ∧ i_Rel (k + 5) u v) v v1 v2) u v1 v2) I ?_ ?_
  · intro hd m bo f_rcd f_rp f_rfc f_cap f_refreshSoon f_refreshMust f_drainMark f_requests f_allLanes f_slotFree f_slotWaiting f_slotReady f_never f_anyAct f_anyRead f_anyWrite f_actNext f_nextSerial f_writeHead f_writeCount f_draining f_clock f_mode f_faults f_lost f_retiredReads a_cells a_openRows a_ages a_lastAct a_lastRead a_lastWrite a_lastPre a_lastRef a_actTimes a_reqAddress a_reqLanes a_reqData a_reqBase a_reqFetched a_reqPending a_reqBorn a_reqSerial a_slotStates y_rcd y_rp y_rfc y_cap y_now y_busMode y_losses b_words b_slotState b_slotLeft b_slotValue b_flight b_open b_ages b_pastKind b_pastBank K pre
    exact c_waitS (i_inS (i_K_up K (by omega)) pre) v1 v2
  · intro hd m bo f_rcd f_rp f_rfc f_cap f_refreshSoon f_refreshMust f_drainMark f_requests f_allLanes f_slotFree f_slotWaiting f_slotReady f_never f_anyAct f_anyRead f_anyWrite f_actNext f_nextSerial f_writeHead f_writeCount f_draining f_clock f_mode f_faults f_lost f_retiredReads a_cells a_openRows a_ages a_lastAct a_lastRead a_lastWrite a_lastPre a_lastRef a_actTimes a_reqAddress a_reqLanes a_reqData a_reqBase a_reqFetched a_reqPending a_reqBorn a_reqSerial a_slotStates y_rcd y_rp y_rfc y_cap y_now y_busMode y_losses b_words b_slotState b_slotLeft b_slotValue b_flight b_open b_ages b_pastKind b_pastBank K M
    exact c_wait K M (i_inM (i_K_up K (by omega)) M) v1 v2
theorem i_vc_openRow {k : Nat} {u : SX} {v : SY} (I : i_Rel k u v) (hk : k + 5 ≤ 2564) (v1 : Int32) : wpX_openRow (fun r => wpY_openRow (fun r' => r' = r ∧ i_Rel (k + 5) u v) v v1) u v1 := by
  refine i_cs (P := fun u v => wpX_openRow (fun r => wpY_openRow (fun r' => r' = r ∧ i_Rel (k + 5) u v) v v1) u v1) I ?_ ?_
  · intro hd m bo f_rcd f_rp f_rfc f_cap f_refreshSoon f_refreshMust f_drainMark f_requests f_allLanes f_slotFree f_slotWaiting f_slotReady f_never f_anyAct f_anyRead f_anyWrite f_actNext f_nextSerial f_writeHead f_writeCount f_draining f_clock f_mode f_faults f_lost f_retiredReads a_cells a_openRows a_ages a_lastAct a_lastRead a_lastWrite a_lastPre a_lastRef a_actTimes a_reqAddress a_reqLanes a_reqData a_reqBase a_reqFetched a_reqPending a_reqBorn a_reqSerial a_slotStates y_rcd y_rp y_rfc y_cap y_now y_busMode y_losses b_words b_slotState b_slotLeft b_slotValue b_flight b_open b_ages b_pastKind b_pastBank K pre
    exact c_openS (i_inS (i_K_up K (by omega)) pre) v1
  · intro hd m bo f_rcd f_rp f_rfc f_cap f_refreshSoon f_refreshMust f_drainMark f_requests f_allLanes f_slotFree f_slotWaiting f_slotReady f_never f_anyAct f_anyRead f_anyWrite f_actNext f_nextSerial f_writeHead f_writeCount f_draining f_clock f_mode f_faults f_lost f_retiredReads a_cells a_openRows a_ages a_lastAct a_lastRead a_lastWrite a_lastPre a_lastRef a_actTimes a_reqAddress a_reqLanes a_reqData a_reqBase a_reqFetched a_reqPending a_reqBorn a_reqSerial a_slotStates y_rcd y_rp y_rfc y_cap y_now y_busMode y_losses b_words b_slotState b_slotLeft b_slotValue b_flight b_open b_ages b_pastKind b_pastBank K M
    exact c_open M (i_inM (i_K_up K (by omega)) M) v1
theorem i_vc_age {k : Nat} {u : SX} {v : SY} (I : i_Rel k u v) (hk : k + 5 ≤ 2564) (v1 : Int32) : wpX_age (fun r => wpY_age (fun r' => r' = r ∧ i_Rel (k + 5) u v) v v1) u v1 := by
  refine i_cs (P := fun u v => wpX_age (fun r => wpY_age (fun r' => r' = r ∧ i_Rel (k + 5) u v) v v1) u v1) I ?_ ?_
  · intro hd m bo f_rcd f_rp f_rfc f_cap f_refreshSoon f_refreshMust f_drainMark f_requests f_allLanes f_slotFree f_slotWaiting f_slotReady f_never f_anyAct f_anyRead f_anyWrite f_actNext f_nextSerial f_writeHead f_writeCount f_draining f_clock f_mode f_faults f_lost f_retiredReads a_cells a_openRows a_ages a_lastAct a_lastRead a_lastWrite a_lastPre a_lastRef a_actTimes a_reqAddress a_reqLanes a_reqData a_reqBase a_reqFetched a_reqPending a_reqBorn a_reqSerial a_slotStates y_rcd y_rp y_rfc y_cap y_now y_busMode y_losses b_words b_slotState b_slotLeft b_slotValue b_flight b_open b_ages b_pastKind b_pastBank K pre
    exact c_ageS (i_inS (i_K_up K (by omega)) pre) v1
  · intro hd m bo f_rcd f_rp f_rfc f_cap f_refreshSoon f_refreshMust f_drainMark f_requests f_allLanes f_slotFree f_slotWaiting f_slotReady f_never f_anyAct f_anyRead f_anyWrite f_actNext f_nextSerial f_writeHead f_writeCount f_draining f_clock f_mode f_faults f_lost f_retiredReads a_cells a_openRows a_ages a_lastAct a_lastRead a_lastWrite a_lastPre a_lastRef a_actTimes a_reqAddress a_reqLanes a_reqData a_reqBase a_reqFetched a_reqPending a_reqBorn a_reqSerial a_slotStates y_rcd y_rp y_rfc y_cap y_now y_busMode y_losses b_words b_slotState b_slotLeft b_slotValue b_flight b_open b_ages b_pastKind b_pastBank K M
    exact c_age M (i_inM (i_K_up K (by omega)) M) v1
end
section
/-! The constructors. -/
theorem i_vc0 (k0 : Int32) (k1 : Int32) (k2 : Int32) (k3 : Int32) : wpX_init (fun u => wpY_init (fun v => i_Rel 4 u v) k0 k1 k2 k3) k0 k1 k2 k3 := by
  unfold wpX_init
  refine xw_clamp (fun r1 b1 e1 => xw_clamp (fun r2 b2 e2 => xw_clamp (fun r3 b3 e3 => xw_clamp (fun r4 b4 e4 => xw_settle ?_))))
  have b1 := b1 (by decide)
  have b2 := b2 (by decide)
  have b3 := b3 (by decide)
  have b4 := b4 (by decide)
  have t1 : (1 : Int32).toInt = 1 := by decide
  have t3 : (3 : Int32).toInt = 3 := by decide
  have t4 : (4 : Int32).toInt = 4 := by decide
  have t8 : (8 : Int32).toInt = 8 := by decide
  have t32 : (32 : Int32).toInt = 32 := by decide
  have z := set_0 (d := 0) (f_rcd := r1) (f_rp := r2) (f_rfc := r3) (f_cap := r4) (f_nextSerial := 0) (f_clock := 0) (a_openRows := fun _ => 0) (a_ages := fun _ => 0) (a_lastAct := fun _ => 0) (a_lastRead := fun _ => 0) (a_lastWrite := fun _ => 0) (a_lastPre := fun _ => 0) (a_lastRef := fun _ => 0) (a_actTimes := fun _ => 0) (a_reqAddress := fun _ => 0) (a_reqLanes := fun _ => 0) (a_reqFetched := fun _ => 0) (a_reqPending := fun _ => 0) (a_reqSerial := fun _ => 0) (bo := fun _ => -256)
  have l0 : (0 : Int64).toInt = 0 := by decide
  have i0 : (0 : Int32).toInt = 0 := by decide
  have c4 : (0 : Int32).toNatClampNeg = 0 := by decide
  dsimp only
  unfold wpY_init
  refine yw_clamp e1 (yw_clamp e2 (yw_clamp e3 (yw_clamp e4 (yw_settle ?_))))
  dsimp only
  refine i_inS (N := 26 * 4) (hd := 0) (m := 0) (bo := fun _ => -256) ⟨⟨by rw [l0]; decide, by rw [l0]; decide, by rw [l0]; decide⟩, vp_in_iff.mpr (by decide), ?_, mg_W0 z ?_ ?_ (fun q hq => ?_), ⟨?_, ?_, fun x hx => ?_, fun p hp => ?_⟩, fun q hq y => ?_, fun q hq => ?_, ⟨by decide, by decide, fun s hs => ⟨.inl rfl, fun y => absurd y (by show ¬ (0 : Int32) = 1; decide), fun _ => ⟨rfl, by rw [l0]; show (-256 : Int) + 256 ≤ 0; decide⟩⟩, fun i hi => by omega, fun i h1 h2 => ⟨rfl, by rw [l0]; show (-256 : Int) + 256 ≤ 0; decide, rfl⟩, fun i j h1 h2 => by omega⟩, ⟨fun s hs => ⟨fun y => absurd rfl y, fun _ y => absurd rfl y, fun y => absurd rfl y⟩, fun i j h1 h2 => by omega, fun a ha => rfl, fun a ha => h16_0, fun q h6 h12 y => absurd rfl y, fun w s h6 h12 hs y => absurd rfl y⟩⟩ (.inl ⟨fun b hb => ?_, fun q hq => ⟨?_, fun y => ?_⟩⟩)
  · rw [xs_lt (by rw [c4]; decide)]
  · rw [ab_c, l0]; decide
  · rw [ab_rcd, ab_rp, ab_rfc, ab_cap]; omega
  · rw [ab_pd, i0]
  · rw [ab_c, ab_ns, ab_dr, l0, i0]; decide
  · have h := z.1
    have c := ab_c (f_rcd := r1) (f_rp := r2) (f_rfc := r3) (f_cap := r4) (f_anyAct := -1000) (f_anyRead := -1000) (f_anyWrite := -1000) (f_actNext := 0) (f_draining := 0) (f_nextSerial := 0) (f_clock := 0) (a_openRows := xs_i (fun _ => 0) (-1) 8) (a_ages := xs_i (fun _ => 0) 0 8) (a_lastAct := xs_l (fun _ => 0) (-1000) 8) (a_lastRead := xs_l (fun _ => 0) (-1000) 8) (a_lastWrite := xs_l (fun _ => 0) (-1000) 8) (a_lastPre := xs_l (fun _ => 0) (-1000) 8) (a_lastRef := xs_l (fun _ => 0) (-1000) 8) (a_actTimes := xs_l (fun _ => 0) (-1000) 4) (a_reqAddress := fun _ => 0) (a_reqLanes := fun _ => 0) (a_reqFetched := fun _ => 0) (a_reqPending := fun _ => 0) (a_reqSerial := fun _ => 0) (bo := fun _ => -256)
    rw [l0] at c
    omega
  · have := z.2 x hx
    omega
  · rw [ab_pd, ab_fe, ab_ad, ab_se, i0, l0]; decide
  · rw [ab_pd, i0] at y; exact absurd rfl y
  · rw [l0]; decide
  · exact (z.2 b hb).2.2.2.2.2.1
  · rw [ab_bo, ab_c, l0]; decide
  · rw [ab_pd, i0] at y; exact absurd rfl y
end
