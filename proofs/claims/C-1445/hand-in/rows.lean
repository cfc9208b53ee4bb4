section
/-! pure rows to paste: stores, nI and lN arithmetic, masks, shifts, narrowing, branches by naturals (pk_le, pk_lt, pk_eq), loops (lp1 .. lp16: the measure of the state; rp1 ..: recursion), negatives. Take what you need -/
theorem pk_us {f : Nat → Int32} {k : Nat} {x : Int32} : upd f k x k = x := if_pos rfl
theorem pk_un {f : Nat → Int32} {k j : Nat} {x : Int32} (h : j ≠ k) : upd f k x j = f j := if_neg h
theorem pk_uLs {f : Nat → Int64} {k : Nat} {x : Int64} : vp_updL f k x k = x := if_pos rfl
theorem pk_uLn {f : Nat → Int64} {k j : Nat} {x : Int64} (h : j ≠ k) : vp_updL f k x j = f j := if_neg h
theorem pk_sub {a b : Nat} (h : b ≤ a) : nI a - nI b = nI (a - b) := by
  obtain ⟨c, rfl⟩ : ∃ c, a = c + b := ⟨a - b, by omega⟩
  rw [← nI_add, Int32.add_sub_cancel, Nat.add_sub_cancel]
theorem pk_m1 (n : Nat) : nI (n + 1) + (-1) = nI n := by
  rw [← nI_1, Int32.add_assoc, show (1 : Int32) + (-1) = 0 from rfl, Int32.add_zero]
theorem pk_mul (a b : Nat) : nI a * nI b = nI (a * b) := (Int32.ofNat_mul a b).symm
theorem pk_div {a d : Nat} (ha : a < 2 ^ 31) (h0 : 0 < d) (hd : d < 2 ^ 31) : nI a / nI d = nI (a / d) := by
  apply Int32.toInt_inj.mp
  rw [lg_idiv_nonneg (by rw [nI_toInt ha]; omega) (by rw [nI_toInt hd]; omega), nI_toInt ha, nI_toInt hd, nI_toInt (Nat.lt_of_le_of_lt (Nat.div_le_self a d) ha)]
  first | rfl | exact (Int.natCast_ediv _ _).symm
theorem pk_rem {a d : Nat} (ha : a < 2 ^ 31) (h0 : 0 < d) (hd : d < 2 ^ 31) : nI a - nI a / nI d * nI d = nI (a % d) := by
  rw [pk_div ha h0 hd, pk_mul, pk_sub (Nat.div_mul_le_self a d)]
  exact congrArg nI (by have := Nat.div_add_mod' a d; omega)
theorem pk_sub_toInt {a b : Nat} (ha : a < 2 ^ 30) (hb : b < 2 ^ 30) : (nI a - nI b).toInt = (a : Int) - b := by
  rw [Int32.toInt_sub, nI_toInt (by omega), nI_toInt (by omega)]
  exact Int.bmod_eq_of_le (by omega) (by omega)
theorem pk_sneg {a b : Nat} (hb : b < 2 ^ 30) (h : a < b) : nI a - nI b < 0 := by
  rw [Int32.lt_iff_toInt_lt, pk_sub_toInt (by omega) hb, show (0 : Int32).toInt = 0 from by decide]
  omega
theorem pk_ix (x : Int32) {n : Nat} (hn : n < 2 ^ 31) : x < 0 ∨ nI n ≤ x ∨ ∃ j : Nat, j < n ∧ x = nI j := by
  by_cases h : x < 0
  · exact Or.inl h
  · obtain ⟨j, hj, rfl⟩ := nI_of h
    by_cases h2 : j < n
    · exact Or.inr (Or.inr ⟨j, h2, rfl⟩)
    · exact Or.inr (Or.inl (nI_le (by omega) hj))
theorem pk_le {x y : Int32} {A B : Prop} (a b : Nat) (f : a ≤ b → A) (g : b < a → B) (hx : x = nI a := by rfl) (hy : y = nI b := by rfl) (ha : a < 2 ^ 31 := by omega) (hb : b < 2 ^ 31 := by omega) : (x ≤ y → A) ∧ (¬ x ≤ y → B) := by
  subst hx hy
  rw [nI_leI ha hb]
  exact ⟨f, fun z => g (by omega)⟩
theorem pk_lt {x y : Int32} {A B : Prop} (a b : Nat) (f : a < b → A) (g : b ≤ a → B) (hx : x = nI a := by rfl) (hy : y = nI b := by rfl) (ha : a < 2 ^ 31 := by omega) (hb : b < 2 ^ 31 := by omega) : (x < y → A) ∧ (¬ x < y → B) := by
  subst hx hy
  rw [nI_ltI ha hb]
  exact ⟨f, fun z => g (by omega)⟩
theorem pk_eq {x y : Int32} {A B : Prop} (a b : Nat) (f : a = b → A) (g : a ≠ b → B) (hx : x = nI a := by rfl) (hy : y = nI b := by rfl) (ha : a < 2 ^ 31 := by omega) (hb : b < 2 ^ 31 := by omega) : (x = y → A) ∧ (¬ x = y → B) := by
  subst hx hy
  rw [nI_eq ha hb]
  exact ⟨f, g⟩
theorem pk_in {x : Int32} (n N : Nat) (h : n < N) (hx : x = nI n := by rfl) (hN : N < 2 ^ 31 := by omega) : vp_in x N := by
  subst hx
  exact vp_in_nI h hN
theorem pk_cl {x : Int32} (n : Nat) (hx : x = nI n := by rfl) (h : n < 2 ^ 31 := by omega) : x.toNatClampNeg = n := by
  subst hx
  exact nI_clamp h
theorem pk_tn {n : Nat} (h : n < 2 ^ 32) : (nI n).toBitVec.toNat = n := Nat.mod_eq_of_lt h
theorem pk_and (x : Int32) {m : Int32} (k : Nat) (hm : m.toBitVec.toNat = 2 ^ k - 1) : x &&& m = nI (x.toBitVec.toNat % 2 ^ k) := by
  apply Int32.toBitVec_inj.mp
  apply BitVec.eq_of_toNat_eq
  rw [Int32.toBitVec_and, BitVec.toNat_and, hm, Nat.and_two_pow_sub_one_eq_mod]
  show _ = (BitVec.ofNat 32 _).toNat
  rw [BitVec.toNat_ofNat]
  exact (Nat.mod_eq_of_lt (Nat.lt_of_le_of_lt (Nat.mod_le _ _) x.toBitVec.isLt)).symm
theorem pk_andN {n : Nat} (h : n < 2 ^ 32) {m : Int32} (k : Nat) (hm : m.toBitVec.toNat = 2 ^ k - 1) : nI n &&& m = nI (n % 2 ^ k) := by
  rw [pk_and _ k hm, pk_tn h]
theorem pk_andE (x : Int32) {m : Int32} (k : Nat) (hm : m.toBitVec.toNat = 2 ^ k - 1) : ∃ j : Nat, j < 2 ^ k ∧ x &&& m = nI j := ⟨_, Nat.mod_lt _ (Nat.two_pow_pos k), pk_and x k hm⟩
theorem pk_andIn (x : Int32) {m : Int32} (k : Nat) (hm : m.toBitVec.toNat = 2 ^ k - 1) (hk : k ≤ 30) : vp_in (x &&& m) (2 ^ k) := by
  obtain ⟨j, hj, e⟩ := pk_andE x k hm
  rw [e]
  exact vp_in_nI hj (Nat.lt_of_le_of_lt (Nat.pow_le_pow_right (by decide) hk) (by decide))
theorem pk_shl (a s : Int32) (k : Nat) (hs : (s.toBitVec.smod 32).toNat = k) : (a <<< s).toBitVec.toNat = a.toBitVec.toNat * 2 ^ k % 2 ^ 32 := by
  show (a.toBitVec <<< (s.toBitVec.smod 32).toNat).toNat = _
  rw [hs, BitVec.toNat_shiftLeft, Nat.shiftLeft_eq]
theorem pk_shlN {n : Nat} (s : Int32) (k : Nat) (hs : (s.toBitVec.smod 32).toNat = k) (h : n * 2 ^ k < 2 ^ 32) : nI n <<< s = nI (n * 2 ^ k) := by
  apply Int32.toBitVec_inj.mp
  apply BitVec.eq_of_toNat_eq
  have hn : n < 2 ^ 32 := Nat.lt_of_le_of_lt (Nat.le_mul_of_pos_right n (Nat.two_pow_pos k)) h
  rw [pk_shl _ _ k hs, pk_tn hn, pk_tn h, Nat.mod_eq_of_lt h]
theorem pk_shr (a s : Int32) (k : Nat) (hs : (s.toBitVec.smod 32).toNat = k) : (a >>> s).toInt = a.toInt >>> k := by
  show (a.toBitVec.sshiftRight (s.toBitVec.smod 32).toNat).toInt = _
  rw [hs, BitVec.toInt_sshiftRight]
  rfl
theorem pk_shrN {n : Nat} (h : n < 2 ^ 31) (s : Int32) (k : Nat) (hs : (s.toBitVec.smod 32).toNat = k) : nI n >>> s = nI (n / 2 ^ k) := by
  apply Int32.toInt_inj.mp
  have h2 : n / 2 ^ k ≤ n := Nat.div_le_self _ _
  rw [pk_shr _ _ k hs, nI_toInt h, nI_toInt (by omega), Int.shiftRight_eq_div_pow]
  rfl
theorem pk_ushr (x s : Int32) (k : Nat) (hs : ((s.toUInt32 &&& Int32.toUInt32 31).toBitVec % 32).toNat = k) : (x.toUInt32 >>> (s.toUInt32 &&& Int32.toUInt32 31)).toInt32.toBitVec.toNat = x.toBitVec.toNat / 2 ^ k := by
  have e : (x.toUInt32 >>> (s.toUInt32 &&& Int32.toUInt32 31)).toInt32.toBitVec = x.toBitVec >>> k := by
    rw [← hs]
    exact UInt32.toBitVec_shiftRight _ _
  rw [e, BitVec.toNat_ushiftRight, Nat.shiftRight_eq_div_pow]
theorem pk_ushrN {n : Nat} (hn : n < 2 ^ 32) (s : Int32) (k : Nat) (hs : ((s.toUInt32 &&& Int32.toUInt32 31).toBitVec % 32).toNat = k) : ((nI n).toUInt32 >>> (s.toUInt32 &&& Int32.toUInt32 31)).toInt32 = nI (n / 2 ^ k) := by
  apply Int32.toBitVec_inj.mp
  apply BitVec.eq_of_toNat_eq
  rw [pk_ushr _ s k hs, pk_tn hn, pk_tn (Nat.lt_of_le_of_lt (Nat.div_le_self _ _) hn)]
theorem pk_nb (z : Int32) : narrow .byte (.int z.toInt8.toInt32) = .int z.toInt8.toInt32 := congrArg Value.int (by simp)
theorem pk_ns (z : Int32) : narrow .short (.int z.toInt16.toInt32) = .int z.toInt16.toInt32 := congrArg Value.int (by simp)
theorem pk_fb (r : Int32) : fits .byte (.int r.toInt8.toInt32) = true := by
  have ⟨a, b⟩ := lg_i2b_range r
  have h1 : (-128 : Int32).toInt = -128 := by decide
  have h2 : (127 : Int32).toInt = 127 := by decide
  simp only [fits, Bool.and_eq_true, decide_eq_true_eq, Int32.le_iff_toInt_le, h1, h2]
  omega
theorem pk_fs (r : Int32) : fits .short (.int r.toInt16.toInt32) = true := by
  have ⟨a, b⟩ := lg_i2s_range r
  have h1 : (-32768 : Int32).toInt = -32768 := by decide
  have h2 : (32767 : Int32).toInt = 32767 := by decide
  simp only [fits, Bool.and_eq_true, decide_eq_true_eq, Int32.le_iff_toInt_le, h1, h2]
  omega
theorem pk_charN {q : Nat} (hq : q < 65536) : narrow .char (.int (nI q)) = .int (nI q) ∧ fits .char (.int (nI q)) = true := by
  constructor
  · have e : (nI q).toUInt32.toUInt16.toUInt32.toInt32 = nI q := by
      apply Int32.toBitVec_inj.mp
      apply BitVec.eq_of_toNat_eq
      show (nI q).toUInt32.toUInt16.toUInt32.toNat = q % 2 ^ 32
      rw [UInt16.toNat_toUInt32, UInt32.toNat_toUInt16, show (nI q).toUInt32.toNat = q % 2 ^ 32 from rfl]
      omega
    exact congrArg Value.int e
  · have a : (0 : Int32) ≤ nI q := nI_pos' (by omega)
    have b : nI q ≤ 65535 := nI_le (b := 65535) (by omega) (by decide)
    show (decide ((0 : Int32) ≤ nI q) && decide (nI q ≤ 65535)) = true
    rw [decide_eq_true a, decide_eq_true b]
    rfl
theorem pk_char (x : Int32) : (x.toUInt32 % 65536).toInt32 = nI (x.toBitVec.toNat % 65536) := by
  apply Int32.toBitVec_inj.mp
  apply BitVec.eq_of_toNat_eq
  rw [pk_tn (by omega)]
  show (x.toUInt32 % 65536).toNat = _
  rw [UInt32.toNat_mod]
  rfl
theorem pk_nc (x : Int32) : narrow .char (.int (x.toUInt32 % 65536).toInt32) = .int (x.toUInt32 % 65536).toInt32 := by
  rw [pk_char]
  exact (pk_charN (Nat.mod_lt _ (by decide))).1
theorem pk_fc (x : Int32) : fits .char (.int (x.toUInt32 % 65536).toInt32) = true := by
  rw [pk_char]
  exact (pk_charN (Nat.mod_lt _ (by decide))).2
theorem pk_vb (z : Int32) : vp_nar .byte z.toInt8.toInt32 = z.toInt8.toInt32 := by rw [vp_nar_byte]; simp
theorem pk_vs (z : Int32) : vp_nar .short z.toInt16.toInt32 = z.toInt16.toInt32 := by rw [vp_nar_short]; simp
theorem pk_vc (z : Int32) : vp_nar .char (z.toUInt32 % 65536).toInt32 = (z.toUInt32 % 65536).toInt32 := Value.int.inj (pk_nc z)
theorem pk_lT {n : Nat} (h : n < 2 ^ 63) : (lN n).toInt = (n : Int) := lg_ofNat_toInt h
theorem pk_lLT {a b : Nat} (ha : a < 2 ^ 63) (hb : b < 2 ^ 63) : lN a < lN b ↔ a < b := by
  rw [Int64.lt_iff_toInt_lt, pk_lT ha, pk_lT hb]; omega
theorem pk_lLE {a b : Nat} (ha : a < 2 ^ 63) (hb : b < 2 ^ 63) : lN a ≤ lN b ↔ a ≤ b := by
  rw [Int64.le_iff_toInt_le, pk_lT ha, pk_lT hb]; omega
theorem pk_lEQ {a b : Nat} (ha : a < 2 ^ 63) (hb : b < 2 ^ 63) : lN a = lN b ↔ a = b := by
  rw [← Int64.toInt_inj, pk_lT ha, pk_lT hb]; omega
theorem pk_lOf {x : Int64} (h : ¬ x < 0) : ∃ k : Nat, k < 2 ^ 63 ∧ x = lN k := by
  rw [Int64.lt_iff_toInt_lt] at h
  have h0 : (0 : Int64).toInt = 0 := by decide
  have hx := Int64.toInt_lt x
  refine ⟨x.toInt.toNat, by omega, Int64.toInt_inj.mp ?_⟩
  rw [pk_lT (by omega)]
  omega
theorem pk_lDiv {a b : Nat} (ha : a < 2 ^ 63) (h0 : 0 < b) (hb : b < 2 ^ 63) : lN a / lN b = lN (a / b) := by
  apply Int64.toInt_inj.mp
  rw [lg_ldiv_nonneg (by rw [pk_lT ha]; omega) (by rw [pk_lT hb]; omega), pk_lT ha, pk_lT hb, pk_lT (Nat.lt_of_le_of_lt (Nat.div_le_self a b) ha)]
  rfl
theorem pk_lRem {a b : Nat} (ha : a < 2 ^ 63) (h0 : 0 < b) (hb : b < 2 ^ 63) : lN a - lN a / lN b * lN b = lN (a % b) := by
  rw [pk_lDiv ha h0 hb, lN_mul, lN_sub (Nat.div_mul_le_self a b)]
  exact congrArg lN (by have := Nat.div_add_mod' a b; omega)
theorem pk_loop {σ : Type} (W : Nat → Nat → σ → Prop) (I : Nat → σ → Prop) (e i0 : Nat) (s : σ) (hi : i0 ≤ e) (h0 : I i0 s) (hx : ∀ n s, I e s → W (n + 1) e s)
    (hs : ∀ n i s, i < e → I i s → (∀ s', I (i + 1) s' → W n (i + 1) s') → W (n + 1) i s) : ∃ n, W n i0 s :=
  ⟨e + 1, loop_i W I e hx hs (e + 1) i0 s hi (by omega) h0⟩
theorem pk_loopD {σ : Type} (W : Nat → Nat → σ → Prop) (I : Nat → σ → Prop) (hx : ∀ n s, I 0 s → W (n + 1) 0 s)
    (hs : ∀ n i s, I (i + 1) s → (∀ s', I i s' → W n i s') → W (n + 1) (i + 1) s) : ∀ (e : Nat) (s : σ), I e s → W (e + 1) e s := by
  intro e
  induction e with
  | zero => exact fun s h => hx 0 s h
  | succ e ih => exact fun s h => hs (e + 1) e s h (fun s' h' => ih s' h')
theorem lp1 {A1 : Type} (W : Nat → A1 → Prop) (I : A1 → Prop) (μ : A1 → Nat) (hs : ∀ (n : Nat) (a1 : A1), I a1 → (∀ (b1 : A1), I b1 → μ b1 < μ a1 → W n b1) → W (n + 1) a1) (a1 : A1) (h : I a1) : ∃ n, W n a1 :=
  loop_m (σ := A1) (fun n s => W n s) (fun s => I s) (fun s => μ s) (fun n s hI hk => hs n s hI (fun b1 h9 hm => hk b1 h9 hm)) a1 h
theorem lp2 {A1 A2 : Type} (W : Nat → A1 → A2 → Prop) (I : A1 → A2 → Prop) (μ : A1 → A2 → Nat) (hs : ∀ (n : Nat) (a1 : A1) (a2 : A2), I a1 a2 → (∀ (b1 : A1) (b2 : A2), I b1 b2 → μ b1 b2 < μ a1 a2 → W n b1 b2) → W (n + 1) a1 a2) (a1 : A1) (a2 : A2) (h : I a1 a2) : ∃ n, W n a1 a2 :=
  loop_m (σ := A1 × A2) (fun n s => W n s.1 s.2) (fun s => I s.1 s.2) (fun s => μ s.1 s.2) (fun n s hI hk => hs n s.1 s.2 hI (fun b1 b2 h9 hm => hk (b1, b2) h9 hm)) (a1, a2) h
theorem lp3 {A1 A2 A3 : Type} (W : Nat → A1 → A2 → A3 → Prop) (I : A1 → A2 → A3 → Prop) (μ : A1 → A2 → A3 → Nat) (hs : ∀ (n : Nat) (a1 : A1) (a2 : A2) (a3 : A3), I a1 a2 a3 → (∀ (b1 : A1) (b2 : A2) (b3 : A3), I b1 b2 b3 → μ b1 b2 b3 < μ a1 a2 a3 → W n b1 b2 b3) → W (n + 1) a1 a2 a3) (a1 : A1) (a2 : A2) (a3 : A3) (h : I a1 a2 a3) : ∃ n, W n a1 a2 a3 :=
  loop_m (σ := A1 × A2 × A3) (fun n s => W n s.1 s.2.1 s.2.2) (fun s => I s.1 s.2.1 s.2.2) (fun s => μ s.1 s.2.1 s.2.2) (fun n s hI hk => hs n s.1 s.2.1 s.2.2 hI (fun b1 b2 b3 h9 hm => hk (b1, b2, b3) h9 hm)) (a1, a2, a3) h
theorem lp4 {A1 A2 A3 A4 : Type} (W : Nat → A1 → A2 → A3 → A4 → Prop) (I : A1 → A2 → A3 → A4 → Prop) (μ : A1 → A2 → A3 → A4 → Nat) (hs : ∀ (n : Nat) (a1 : A1) (a2 : A2) (a3 : A3) (a4 : A4), I a1 a2 a3 a4 → (∀ (b1 : A1) (b2 : A2) (b3 : A3) (b4 : A4), I b1 b2 b3 b4 → μ b1 b2 b3 b4 < μ a1 a2 a3 a4 → W n b1 b2 b3 b4) → W (n + 1) a1 a2 a3 a4) (a1 : A1) (a2 : A2) (a3 : A3) (a4 : A4) (h : I a1 a2 a3 a4) : ∃ n, W n a1 a2 a3 a4 :=
  loop_m (σ := A1 × A2 × A3 × A4) (fun n s => W n s.1 s.2.1 s.2.2.1 s.2.2.2) (fun s => I s.1 s.2.1 s.2.2.1 s.2.2.2) (fun s => μ s.1 s.2.1 s.2.2.1 s.2.2.2) (fun n s hI hk => hs n s.1 s.2.1 s.2.2.1 s.2.2.2 hI (fun b1 b2 b3 b4 h9 hm => hk (b1, b2, b3, b4) h9 hm)) (a1, a2, a3, a4) h
theorem lp5 {A1 A2 A3 A4 A5 : Type} (W : Nat → A1 → A2 → A3 → A4 → A5 → Prop) (I : A1 → A2 → A3 → A4 → A5 → Prop) (μ : A1 → A2 → A3 → A4 → A5 → Nat) (hs : ∀ (n : Nat) (a1 : A1) (a2 : A2) (a3 : A3) (a4 : A4) (a5 : A5), I a1 a2 a3 a4 a5 → (∀ (b1 : A1) (b2 : A2) (b3 : A3) (b4 : A4) (b5 : A5), I b1 b2 b3 b4 b5 → μ b1 b2 b3 b4 b5 < μ a1 a2 a3 a4 a5 → W n b1 b2 b3 b4 b5) → W (n + 1) a1 a2 a3 a4 a5) (a1 : A1) (a2 : A2) (a3 : A3) (a4 : A4) (a5 : A5) (h : I a1 a2 a3 a4 a5) : ∃ n, W n a1 a2 a3 a4 a5 :=
  loop_m (σ := A1 × A2 × A3 × A4 × A5) (fun n s => W n s.1 s.2.1 s.2.2.1 s.2.2.2.1 s.2.2.2.2) (fun s => I s.1 s.2.1 s.2.2.1 s.2.2.2.1 s.2.2.2.2) (fun s => μ s.1 s.2.1 s.2.2.1 s.2.2.2.1 s.2.2.2.2) (fun n s hI hk => hs n s.1 s.2.1 s.2.2.1 s.2.2.2.1 s.2.2.2.2 hI (fun b1 b2 b3 b4 b5 h9 hm => hk (b1, b2, b3, b4, b5) h9 hm)) (a1, a2, a3, a4, a5) h
theorem lp6 {A1 A2 A3 A4 A5 A6 : Type} (W : Nat → A1 → A2 → A3 → A4 → A5 → A6 → Prop) (I : A1 → A2 → A3 → A4 → A5 → A6 → Prop) (μ : A1 → A2 → A3 → A4 → A5 → A6 → Nat) (hs : ∀ (n : Nat) (a1 : A1) (a2 : A2) (a3 : A3) (a4 : A4) (a5 : A5) (a6 : A6), I a1 a2 a3 a4 a5 a6 → (∀ (b1 : A1) (b2 : A2) (b3 : A3) (b4 : A4) (b5 : A5) (b6 : A6), I b1 b2 b3 b4 b5 b6 → μ b1 b2 b3 b4 b5 b6 < μ a1 a2 a3 a4 a5 a6 → W n b1 b2 b3 b4 b5 b6) → W (n + 1) a1 a2 a3 a4 a5 a6) (a1 : A1) (a2 : A2) (a3 : A3) (a4 : A4) (a5 : A5) (a6 : A6) (h : I a1 a2 a3 a4 a5 a6) : ∃ n, W n a1 a2 a3 a4 a5 a6 :=
  loop_m (σ := A1 × A2 × A3 × A4 × A5 × A6) (fun n s => W n s.1 s.2.1 s.2.2.1 s.2.2.2.1 s.2.2.2.2.1 s.2.2.2.2.2) (fun s => I s.1 s.2.1 s.2.2.1 s.2.2.2.1 s.2.2.2.2.1 s.2.2.2.2.2) (fun s => μ s.1 s.2.1 s.2.2.1 s.2.2.2.1 s.2.2.2.2.1 s.2.2.2.2.2) (fun n s hI hk => hs n s.1 s.2.1 s.2.2.1 s.2.2.2.1 s.2.2.2.2.1 s.2.2.2.2.2 hI (fun b1 b2 b3 b4 b5 b6 h9 hm => hk (b1, b2, b3, b4, b5, b6) h9 hm)) (a1, a2, a3, a4, a5, a6) h
theorem lp7 {A1 A2 A3 A4 A5 A6 A7 : Type} (W : Nat → A1 → A2 → A3 → A4 → A5 → A6 → A7 → Prop) (I : A1 → A2 → A3 → A4 → A5 → A6 → A7 → Prop) (μ : A1 → A2 → A3 → A4 → A5 → A6 → A7 → Nat) (hs : ∀ (n : Nat) (a1 : A1) (a2 : A2) (a3 : A3) (a4 : A4) (a5 : A5) (a6 : A6) (a7 : A7), I a1 a2 a3 a4 a5 a6 a7 → (∀ (b1 : A1) (b2 : A2) (b3 : A3) (b4 : A4) (b5 : A5) (b6 : A6) (b7 : A7), I b1 b2 b3 b4 b5 b6 b7 → μ b1 b2 b3 b4 b5 b6 b7 < μ a1 a2 a3 a4 a5 a6 a7 → W n b1 b2 b3 b4 b5 b6 b7) → W (n + 1) a1 a2 a3 a4 a5 a6 a7) (a1 : A1) (a2 : A2) (a3 : A3) (a4 : A4) (a5 : A5) (a6 : A6) (a7 : A7) (h : I a1 a2 a3 a4 a5 a6 a7) : ∃ n, W n a1 a2 a3 a4 a5 a6 a7 :=
  loop_m (σ := A1 × A2 × A3 × A4 × A5 × A6 × A7) (fun n s => W n s.1 s.2.1 s.2.2.1 s.2.2.2.1 s.2.2.2.2.1 s.2.2.2.2.2.1 s.2.2.2.2.2.2) (fun s => I s.1 s.2.1 s.2.2.1 s.2.2.2.1 s.2.2.2.2.1 s.2.2.2.2.2.1 s.2.2.2.2.2.2) (fun s => μ s.1 s.2.1 s.2.2.1 s.2.2.2.1 s.2.2.2.2.1 s.2.2.2.2.2.1 s.2.2.2.2.2.2) (fun n s hI hk => hs n s.1 s.2.1 s.2.2.1 s.2.2.2.1 s.2.2.2.2.1 s.2.2.2.2.2.1 s.2.2.2.2.2.2 hI (fun b1 b2 b3 b4 b5 b6 b7 h9 hm => hk (b1, b2, b3, b4, b5, b6, b7) h9 hm)) (a1, a2, a3, a4, a5, a6, a7) h
theorem lp8 {A1 A2 A3 A4 A5 A6 A7 A8 : Type} (W : Nat → A1 → A2 → A3 → A4 → A5 → A6 → A7 → A8 → Prop) (I : A1 → A2 → A3 → A4 → A5 → A6 → A7 → A8 → Prop) (μ : A1 → A2 → A3 → A4 → A5 → A6 → A7 → A8 → Nat) (hs : ∀ (n : Nat) (a1 : A1) (a2 : A2) (a3 : A3) (a4 : A4) (a5 : A5) (a6 : A6) (a7 : A7) (a8 : A8), I a1 a2 a3 a4 a5 a6 a7 a8 → (∀ (b1 : A1) (b2 : A2) (b3 : A3) (b4 : A4) (b5 : A5) (b6 : A6) (b7 : A7) (b8 : A8), I b1 b2 b3 b4 b5 b6 b7 b8 → μ b1 b2 b3 b4 b5 b6 b7 b8 < μ a1 a2 a3 a4 a5 a6 a7 a8 → W n b1 b2 b3 b4 b5 b6 b7 b8) → W (n + 1) a1 a2 a3 a4 a5 a6 a7 a8) (a1 : A1) (a2 : A2) (a3 : A3) (a4 : A4) (a5 : A5) (a6 : A6) (a7 : A7) (a8 : A8) (h : I a1 a2 a3 a4 a5 a6 a7 a8) : ∃ n, W n a1 a2 a3 a4 a5 a6 a7 a8 :=
  loop_m (σ := A1 × A2 × A3 × A4 × A5 × A6 × A7 × A8) (fun n s => W n s.1 s.2.1 s.2.2.1 s.2.2.2.1 s.2.2.2.2.1 s.2.2.2.2.2.1 s.2.2.2.2.2.2.1 s.2.2.2.2.2.2.2) (fun s => I s.1 s.2.1 s.2.2.1 s.2.2.2.1 s.2.2.2.2.1 s.2.2.2.2.2.1 s.2.2.2.2.2.2.1 s.2.2.2.2.2.2.2) (fun s => μ s.1 s.2.1 s.2.2.1 s.2.2.2.1 s.2.2.2.2.1 s.2.2.2.2.2.1 s.2.2.2.2.2.2.1 s.2.2.2.2.2.2.2) (fun n s hI hk => hs n s.1 s.2.1 s.2.2.1 s.2.2.2.1 s.2.2.2.2.1 s.2.2.2.2.2.1 s.2.2.2.2.2.2.1 s.2.2.2.2.2.2.2 hI (fun b1 b2 b3 b4 b5 b6 b7 b8 h9 hm => hk (b1, b2, b3, b4, b5, b6, b7, b8) h9 hm)) (a1, a2, a3, a4, a5, a6, a7, a8) h
theorem lp9 {A1 A2 A3 A4 A5 A6 A7 A8 A9 : Type} (W : Nat → A1 → A2 → A3 → A4 → A5 → A6 → A7 → A8 → A9 → Prop) (I : A1 → A2 → A3 → A4 → A5 → A6 → A7 → A8 → A9 → Prop) (μ : A1 → A2 → A3 → A4 → A5 → A6 → A7 → A8 → A9 → Nat) (hs : ∀ (n : Nat) (a1 : A1) (a2 : A2) (a3 : A3) (a4 : A4) (a5 : A5) (a6 : A6) (a7 : A7) (a8 : A8) (a9 : A9), I a1 a2 a3 a4 a5 a6 a7 a8 a9 → (∀ (b1 : A1) (b2 : A2) (b3 : A3) (b4 : A4) (b5 : A5) (b6 : A6) (b7 : A7) (b8 : A8) (b9 : A9), I b1 b2 b3 b4 b5 b6 b7 b8 b9 → μ b1 b2 b3 b4 b5 b6 b7 b8 b9 < μ a1 a2 a3 a4 a5 a6 a7 a8 a9 → W n b1 b2 b3 b4 b5 b6 b7 b8 b9) → W (n + 1) a1 a2 a3 a4 a5 a6 a7 a8 a9) (a1 : A1) (a2 : A2) (a3 : A3) (a4 : A4) (a5 : A5) (a6 : A6) (a7 : A7) (a8 : A8) (a9 : A9) (h : I a1 a2 a3 a4 a5 a6 a7 a8 a9) : ∃ n, W n a1 a2 a3 a4 a5 a6 a7 a8 a9 :=
  loop_m (σ := A1 × A2 × A3 × A4 × A5 × A6 × A7 × A8 × A9) (fun n s => W n s.1 s.2.1 s.2.2.1 s.2.2.2.1 s.2.2.2.2.1 s.2.2.2.2.2.1 s.2.2.2.2.2.2.1 s.2.2.2.2.2.2.2.1 s.2.2.2.2.2.2.2.2) (fun s => I s.1 s.2.1 s.2.2.1 s.2.2.2.1 s.2.2.2.2.1 s.2.2.2.2.2.1 s.2.2.2.2.2.2.1 s.2.2.2.2.2.2.2.1 s.2.2.2.2.2.2.2.2) (fun s => μ s.1 s.2.1 s.2.2.1 s.2.2.2.1 s.2.2.2.2.1 s.2.2.2.2.2.1 s.2.2.2.2.2.2.1 s.2.2.2.2.2.2.2.1 s.2.2.2.2.2.2.2.2) (fun n s hI hk => hs n s.1 s.2.1 s.2.2.1 s.2.2.2.1 s.2.2.2.2.1 s.2.2.2.2.2.1 s.2.2.2.2.2.2.1 s.2.2.2.2.2.2.2.1 s.2.2.2.2.2.2.2.2 hI (fun b1 b2 b3 b4 b5 b6 b7 b8 b9 h9 hm => hk (b1, b2, b3, b4, b5, b6, b7, b8, b9) h9 hm)) (a1, a2, a3, a4, a5, a6, a7, a8, a9) h
theorem lp10 {A1 A2 A3 A4 A5 A6 A7 A8 A9 A10 : Type} (W : Nat → A1 → A2 → A3 → A4 → A5 → A6 → A7 → A8 → A9 → A10 → Prop) (I : A1 → A2 → A3 → A4 → A5 → A6 → A7 → A8 → A9 → A10 → Prop) (μ : A1 → A2 → A3 → A4 → A5 → A6 → A7 → A8 → A9 → A10 → Nat) (hs : ∀ (n : Nat) (a1 : A1) (a2 : A2) (a3 : A3) (a4 : A4) (a5 : A5) (a6 : A6) (a7 : A7) (a8 : A8) (a9 : A9) (a10 : A10), I a1 a2 a3 a4 a5 a6 a7 a8 a9 a10 → (∀ (b1 : A1) (b2 : A2) (b3 : A3) (b4 : A4) (b5 : A5) (b6 : A6) (b7 : A7) (b8 : A8) (b9 : A9) (b10 : A10), I b1 b2 b3 b4 b5 b6 b7 b8 b9 b10 → μ b1 b2 b3 b4 b5 b6 b7 b8 b9 b10 < μ a1 a2 a3 a4 a5 a6 a7 a8 a9 a10 → W n b1 b2 b3 b4 b5 b6 b7 b8 b9 b10) → W (n + 1) a1 a2 a3 a4 a5 a6 a7 a8 a9 a10) (a1 : A1) (a2 : A2) (a3 : A3) (a4 : A4) (a5 : A5) (a6 : A6) (a7 : A7) (a8 : A8) (a9 : A9) (a10 : A10) (h : I a1 a2 a3 a4 a5 a6 a7 a8 a9 a10) : ∃ n, W n a1 a2 a3 a4 a5 a6 a7 a8 a9 a10 :=
  loop_m (σ := A1 × A2 × A3 × A4 × A5 × A6 × A7 × A8 × A9 × A10) (fun n s => W n s.1 s.2.1 s.2.2.1 s.2.2.2.1 s.2.2.2.2.1 s.2.2.2.2.2.1 s.2.2.2.2.2.2.1 s.2.2.2.2.2.2.2.1 s.2.2.2.2.2.2.2.2.1 s.2.2.2.2.2.2.2.2.2) (fun s => I s.1 s.2.1 s.2.2.1 s.2.2.2.1 s.2.2.2.2.1 s.2.2.2.2.2.1 s.2.2.2.2.2.2.1 s.2.2.2.2.2.2.2.1 s.2.2.2.2.2.2.2.2.1 s.2.2.2.2.2.2.2.2.2) (fun s => μ s.1 s.2.1 s.2.2.1 s.2.2.2.1 s.2.2.2.2.1 s.2.2.2.2.2.1 s.2.2.2.2.2.2.1 s.2.2.2.2.2.2.2.1 s.2.2.2.2.2.2.2.2.1 s.2.2.2.2.2.2.2.2.2) (fun n s hI hk => hs n s.1 s.2.1 s.2.2.1 s.2.2.2.1 s.2.2.2.2.1 s.2.2.2.2.2.1 s.2.2.2.2.2.2.1 s.2.2.2.2.2.2.2.1 s.2.2.2.2.2.2.2.2.1 s.2.2.2.2.2.2.2.2.2 hI (fun b1 b2 b3 b4 b5 b6 b7 b8 b9 b10 h9 hm => hk (b1, b2, b3, b4, b5, b6, b7, b8, b9, b10) h9 hm)) (a1, a2, a3, a4, a5, a6, a7, a8, a9, a10) h
theorem lp11 {A1 A2 A3 A4 A5 A6 A7 A8 A9 A10 A11 : Type} (W : Nat → A1 → A2 → A3 → A4 → A5 → A6 → A7 → A8 → A9 → A10 → A11 → Prop) (I : A1 → A2 → A3 → A4 → A5 → A6 → A7 → A8 → A9 → A10 → A11 → Prop) (μ : A1 → A2 → A3 → A4 → A5 → A6 → A7 → A8 → A9 → A10 → A11 → Nat) (hs : ∀ (n : Nat) (a1 : A1) (a2 : A2) (a3 : A3) (a4 : A4) (a5 : A5) (a6 : A6) (a7 : A7) (a8 : A8) (a9 : A9) (a10 : A10) (a11 : A11), I a1 a2 a3 a4 a5 a6 a7 a8 a9 a10 a11 → (∀ (b1 : A1) (b2 : A2) (b3 : A3) (b4 : A4) (b5 : A5) (b6 : A6) (b7 : A7) (b8 : A8) (b9 : A9) (b10 : A10) (b11 : A11), I b1 b2 b3 b4 b5 b6 b7 b8 b9 b10 b11 → μ b1 b2 b3 b4 b5 b6 b7 b8 b9 b10 b11 < μ a1 a2 a3 a4 a5 a6 a7 a8 a9 a10 a11 → W n b1 b2 b3 b4 b5 b6 b7 b8 b9 b10 b11) → W (n + 1) a1 a2 a3 a4 a5 a6 a7 a8 a9 a10 a11) (a1 : A1) (a2 : A2) (a3 : A3) (a4 : A4) (a5 : A5) (a6 : A6) (a7 : A7) (a8 : A8) (a9 : A9) (a10 : A10) (a11 : A11) (h : I a1 a2 a3 a4 a5 a6 a7 a8 a9 a10 a11) : ∃ n, W n a1 a2 a3 a4 a5 a6 a7 a8 a9 a10 a11 :=
  loop_m (σ := A1 × A2 × A3 × A4 × A5 × A6 × A7 × A8 × A9 × A10 × A11) (fun n s => W n s.1 s.2.1 s.2.2.1 s.2.2.2.1 s.2.2.2.2.1 s.2.2.2.2.2.1 s.2.2.2.2.2.2.1 s.2.2.2.2.2.2.2.1 s.2.2.2.2.2.2.2.2.1 s.2.2.2.2.2.2.2.2.2.1 s.2.2.2.2.2.2.2.2.2.2) (fun s => I s.1 s.2.1 s.2.2.1 s.2.2.2.1 s.2.2.2.2.1 s.2.2.2.2.2.1 s.2.2.2.2.2.2.1 s.2.2.2.2.2.2.2.1 s.2.2.2.2.2.2.2.2.1 s.2.2.2.2.2.2.2.2.2.1 s.2.2.2.2.2.2.2.2.2.2) (fun s => μ s.1 s.2.1 s.2.2.1 s.2.2.2.1 s.2.2.2.2.1 s.2.2.2.2.2.1 s.2.2.2.2.2.2.1 s.2.2.2.2.2.2.2.1 s.2.2.2.2.2.2.2.2.1 s.2.2.2.2.2.2.2.2.2.1 s.2.2.2.2.2.2.2.2.2.2) (fun n s hI hk => hs n s.1 s.2.1 s.2.2.1 s.2.2.2.1 s.2.2.2.2.1 s.2.2.2.2.2.1 s.2.2.2.2.2.2.1 s.2.2.2.2.2.2.2.1 s.2.2.2.2.2.2.2.2.1 s.2.2.2.2.2.2.2.2.2.1 s.2.2.2.2.2.2.2.2.2.2 hI (fun b1 b2 b3 b4 b5 b6 b7 b8 b9 b10 b11 h9 hm => hk (b1, b2, b3, b4, b5, b6, b7, b8, b9, b10, b11) h9 hm)) (a1, a2, a3, a4, a5, a6, a7, a8, a9, a10, a11) h
theorem lp12 {A1 A2 A3 A4 A5 A6 A7 A8 A9 A10 A11 A12 : Type} (W : Nat → A1 → A2 → A3 → A4 → A5 → A6 → A7 → A8 → A9 → A10 → A11 → A12 → Prop) (I : A1 → A2 → A3 → A4 → A5 → A6 → A7 → A8 → A9 → A10 → A11 → A12 → Prop) (μ : A1 → A2 → A3 → A4 → A5 → A6 → A7 → A8 → A9 → A10 → A11 → A12 → Nat) (hs : ∀ (n : Nat) (a1 : A1) (a2 : A2) (a3 : A3) (a4 : A4) (a5 : A5) (a6 : A6) (a7 : A7) (a8 : A8) (a9 : A9) (a10 : A10) (a11 : A11) (a12 : A12), I a1 a2 a3 a4 a5 a6 a7 a8 a9 a10 a11 a12 → (∀ (b1 : A1) (b2 : A2) (b3 : A3) (b4 : A4) (b5 : A5) (b6 : A6) (b7 : A7) (b8 : A8) (b9 : A9) (b10 : A10) (b11 : A11) (b12 : A12), I b1 b2 b3 b4 b5 b6 b7 b8 b9 b10 b11 b12 → μ b1 b2 b3 b4 b5 b6 b7 b8 b9 b10 b11 b12 < μ a1 a2 a3 a4 a5 a6 a7 a8 a9 a10 a11 a12 → W n b1 b2 b3 b4 b5 b6 b7 b8 b9 b10 b11 b12) → W (n + 1) a1 a2 a3 a4 a5 a6 a7 a8 a9 a10 a11 a12) (a1 : A1) (a2 : A2) (a3 : A3) (a4 : A4) (a5 : A5) (a6 : A6) (a7 : A7) (a8 : A8) (a9 : A9) (a10 : A10) (a11 : A11) (a12 : A12) (h : I a1 a2 a3 a4 a5 a6 a7 a8 a9 a10 a11 a12) : ∃ n, W n a1 a2 a3 a4 a5 a6 a7 a8 a9 a10 a11 a12 :=
  loop_m (σ := A1 × A2 × A3 × A4 × A5 × A6 × A7 × A8 × A9 × A10 × A11 × A12) (fun n s => W n s.1 s.2.1 s.2.2.1 s.2.2.2.1 s.2.2.2.2.1 s.2.2.2.2.2.1 s.2.2.2.2.2.2.1 s.2.2.2.2.2.2.2.1 s.2.2.2.2.2.2.2.2.1 s.2.2.2.2.2.2.2.2.2.1 s.2.2.2.2.2.2.2.2.2.2.1 s.2.2.2.2.2.2.2.2.2.2.2) (fun s => I s.1 s.2.1 s.2.2.1 s.2.2.2.1 s.2.2.2.2.1 s.2.2.2.2.2.1 s.2.2.2.2.2.2.1 s.2.2.2.2.2.2.2.1 s.2.2.2.2.2.2.2.2.1 s.2.2.2.2.2.2.2.2.2.1 s.2.2.2.2.2.2.2.2.2.2.1 s.2.2.2.2.2.2.2.2.2.2.2) (fun s => μ s.1 s.2.1 s.2.2.1 s.2.2.2.1 s.2.2.2.2.1 s.2.2.2.2.2.1 s.2.2.2.2.2.2.1 s.2.2.2.2.2.2.2.1 s.2.2.2.2.2.2.2.2.1 s.2.2.2.2.2.2.2.2.2.1 s.2.2.2.2.2.2.2.2.2.2.1 s.2.2.2.2.2.2.2.2.2.2.2) (fun n s hI hk => hs n s.1 s.2.1 s.2.2.1 s.2.2.2.1 s.2.2.2.2.1 s.2.2.2.2.2.1 s.2.2.2.2.2.2.1 s.2.2.2.2.2.2.2.1 s.2.2.2.2.2.2.2.2.1 s.2.2.2.2.2.2.2.2.2.1 s.2.2.2.2.2.2.2.2.2.2.1 s.2.2.2.2.2.2.2.2.2.2.2 hI (fun b1 b2 b3 b4 b5 b6 b7 b8 b9 b10 b11 b12 h9 hm => hk (b1, b2, b3, b4, b5, b6, b7, b8, b9, b10, b11, b12) h9 hm)) (a1, a2, a3, a4, a5, a6, a7, a8, a9, a10, a11, a12) h
theorem lp13 {A1 A2 A3 A4 A5 A6 A7 A8 A9 A10 A11 A12 A13 : Type} (W : Nat → A1 → A2 → A3 → A4 → A5 → A6 → A7 → A8 → A9 → A10 → A11 → A12 → A13 → Prop) (I : A1 → A2 → A3 → A4 → A5 → A6 → A7 → A8 → A9 → A10 → A11 → A12 → A13 → Prop) (μ : A1 → A2 → A3 → A4 → A5 → A6 → A7 → A8 → A9 → A10 → A11 → A12 → A13 → Nat) (hs : ∀ (n : Nat) (a1 : A1) (a2 : A2) (a3 : A3) (a4 : A4) (a5 : A5) (a6 : A6) (a7 : A7) (a8 : A8) (a9 : A9) (a10 : A10) (a11 : A11) (a12 : A12) (a13 : A13), I a1 a2 a3 a4 a5 a6 a7 a8 a9 a10 a11 a12 a13 → (∀ (b1 : A1) (b2 : A2) (b3 : A3) (b4 : A4) (b5 : A5) (b6 : A6) (b7 : A7) (b8 : A8) (b9 : A9) (b10 : A10) (b11 : A11) (b12 : A12) (b13 : A13), I b1 b2 b3 b4 b5 b6 b7 b8 b9 b10 b11 b12 b13 → μ b1 b2 b3 b4 b5 b6 b7 b8 b9 b10 b11 b12 b13 < μ a1 a2 a3 a4 a5 a6 a7 a8 a9 a10 a11 a12 a13 → W n b1 b2 b3 b4 b5 b6 b7 b8 b9 b10 b11 b12 b13) → W (n + 1) a1 a2 a3 a4 a5 a6 a7 a8 a9 a10 a11 a12 a13) (a1 : A1) (a2 : A2) (a3 : A3) (a4 : A4) (a5 : A5) (a6 : A6) (a7 : A7) (a8 : A8) (a9 : A9) (a10 : A10) (a11 : A11) (a12 : A12) (a13 : A13) (h : I a1 a2 a3 a4 a5 a6 a7 a8 a9 a10 a11 a12 a13) : ∃ n, W n a1 a2 a3 a4 a5 a6 a7 a8 a9 a10 a11 a12 a13 :=
  loop_m (σ := A1 × A2 × A3 × A4 × A5 × A6 × A7 × A8 × A9 × A10 × A11 × A12 × A13) (fun n s => W n s.1 s.2.1 s.2.2.1 s.2.2.2.1 s.2.2.2.2.1 s.2.2.2.2.2.1 s.2.2.2.2.2.2.1 s.2.2.2.2.2.2.2.1 s.2.2.2.2.2.2.2.2.1 s.2.2.2.2.2.2.2.2.2.1 s.2.2.2.2.2.2.2.2.2.2.1 s.2.2.2.2.2.2.2.2.2.2.2.1 s.2.2.2.2.2.2.2.2.2.2.2.2) (fun s => I s.1 s.2.1 s.2.2.1 s.2.2.2.1 s.2.2.2.2.1 s.2.2.2.2.2.1 s.2.2.2.2.2.2.1 s.2.2.2.2.2.2.2.1 s.2.2.2.2.2.2.2.2.1 s.2.2.2.2.2.2.2.2.2.1 s.2.2.2.2.2.2.2.2.2.2.1 s.2.2.2.2.2.2.2.2.2.2.2.1 s.2.2.2.2.2.2.2.2.2.2.2.2) (fun s => μ s.1 s.2.1 s.2.2.1 s.2.2.2.1 s.2.2.2.2.1 s.2.2.2.2.2.1 s.2.2.2.2.2.2.1 s.2.2.2.2.2.2.2.1 s.2.2.2.2.2.2.2.2.1 s.2.2.2.2.2.2.2.2.2.1 s.2.2.2.2.2.2.2.2.2.2.1 s.2.2.2.2.2.2.2.2.2.2.2.1 s.2.2.2.2.2.2.2.2.2.2.2.2) (fun n s hI hk => hs n s.1 s.2.1 s.2.2.1 s.2.2.2.1 s.2.2.2.2.1 s.2.2.2.2.2.1 s.2.2.2.2.2.2.1 s.2.2.2.2.2.2.2.1 s.2.2.2.2.2.2.2.2.1 s.2.2.2.2.2.2.2.2.2.1 s.2.2.2.2.2.2.2.2.2.2.1 s.2.2.2.2.2.2.2.2.2.2.2.1 s.2.2.2.2.2.2.2.2.2.2.2.2 hI (fun b1 b2 b3 b4 b5 b6 b7 b8 b9 b10 b11 b12 b13 h9 hm => hk (b1, b2, b3, b4, b5, b6, b7, b8, b9, b10, b11, b12, b13) h9 hm)) (a1, a2, a3, a4, a5, a6, a7, a8, a9, a10, a11, a12, a13) h
theorem lp14 {A1 A2 A3 A4 A5 A6 A7 A8 A9 A10 A11 A12 A13 A14 : Type} (W : Nat → A1 → A2 → A3 → A4 → A5 → A6 → A7 → A8 → A9 → A10 → A11 → A12 → A13 → A14 → Prop) (I : A1 → A2 → A3 → A4 → A5 → A6 → A7 → A8 → A9 → A10 → A11 → A12 → A13 → A14 → Prop) (μ : A1 → A2 → A3 → A4 → A5 → A6 → A7 → A8 → A9 → A10 → A11 → A12 → A13 → A14 → Nat) (hs : ∀ (n : Nat) (a1 : A1) (a2 : A2) (a3 : A3) (a4 : A4) (a5 : A5) (a6 : A6) (a7 : A7) (a8 : A8) (a9 : A9) (a10 : A10) (a11 : A11) (a12 : A12) (a13 : A13) (a14 : A14), I a1 a2 a3 a4 a5 a6 a7 a8 a9 a10 a11 a12 a13 a14 → (∀ (b1 : A1) (b2 : A2) (b3 : A3) (b4 : A4) (b5 : A5) (b6 : A6) (b7 : A7) (b8 : A8) (b9 : A9) (b10 : A10) (b11 : A11) (b12 : A12) (b13 : A13) (b14 : A14), I b1 b2 b3 b4 b5 b6 b7 b8 b9 b10 b11 b12 b13 b14 → μ b1 b2 b3 b4 b5 b6 b7 b8 b9 b10 b11 b12 b13 b14 < μ a1 a2 a3 a4 a5 a6 a7 a8 a9 a10 a11 a12 a13 a14 → W n b1 b2 b3 b4 b5 b6 b7 b8 b9 b10 b11 b12 b13 b14) → W (n + 1) a1 a2 a3 a4 a5 a6 a7 a8 a9 a10 a11 a12 a13 a14) (a1 : A1) (a2 : A2) (a3 : A3) (a4 : A4) (a5 : A5) (a6 : A6) (a7 : A7) (a8 : A8) (a9 : A9) (a10 : A10) (a11 : A11) (a12 : A12) (a13 : A13) (a14 : A14) (h : I a1 a2 a3 a4 a5 a6 a7 a8 a9 a10 a11 a12 a13 a14) : ∃ n, W n a1 a2 a3 a4 a5 a6 a7 a8 a9 a10 a11 a12 a13 a14 :=
  loop_m (σ := A1 × A2 × A3 × A4 × A5 × A6 × A7 × A8 × A9 × A10 × A11 × A12 × A13 × A14) (fun n s => W n s.1 s.2.1 s.2.2.1 s.2.2.2.1 s.2.2.2.2.1 s.2.2.2.2.2.1 s.2.2.2.2.2.2.1 s.2.2.2.2.2.2.2.1 s.2.2.2.2.2.2.2.2.1 s.2.2.2.2.2.2.2.2.2.1 s.2.2.2.2.2.2.2.2.2.2.1 s.2.2.2.2.2.2.2.2.2.2.2.1 s.2.2.2.2.2.2.2.2.2.2.2.2.1 s.2.2.2.2.2.2.2.2.2.2.2.2.2) (fun s => I s.1 s.2.1 s.2.2.1 s.2.2.2.1 s.2.2.2.2.1 s.2.2.2.2.2.1 s.2.2.2.2.2.2.1 s.2.2.2.2.2.2.2.1 s.2.2.2.2.2.2.2.2.1 s.2.2.2.2.2.2.2.2.2.1 s.2.2.2.2.2.2.2.2.2.2.1 s.2.2.2.2.2.2.2.2.2.2.2.1 s.2.2.2.2.2.2.2.2.2.2.2.2.1 s.2.2.2.2.2.2.2.2.2.2.2.2.2) (fun s => μ s.1 s.2.1 s.2.2.1 s.2.2.2.1 s.2.2.2.2.1 s.2.2.2.2.2.1 s.2.2.2.2.2.2.1 s.2.2.2.2.2.2.2.1 s.2.2.2.2.2.2.2.2.1 s.2.2.2.2.2.2.2.2.2.1 s.2.2.2.2.2.2.2.2.2.2.1 s.2.2.2.2.2.2.2.2.2.2.2.1 s.2.2.2.2.2.2.2.2.2.2.2.2.1 s.2.2.2.2.2.2.2.2.2.2.2.2.2) (fun n s hI hk => hs n s.1 s.2.1 s.2.2.1 s.2.2.2.1 s.2.2.2.2.1 s.2.2.2.2.2.1 s.2.2.2.2.2.2.1 s.2.2.2.2.2.2.2.1 s.2.2.2.2.2.2.2.2.1 s.2.2.2.2.2.2.2.2.2.1 s.2.2.2.2.2.2.2.2.2.2.1 s.2.2.2.2.2.2.2.2.2.2.2.1 s.2.2.2.2.2.2.2.2.2.2.2.2.1 s.2.2.2.2.2.2.2.2.2.2.2.2.2 hI (fun b1 b2 b3 b4 b5 b6 b7 b8 b9 b10 b11 b12 b13 b14 h9 hm => hk (b1, b2, b3, b4, b5, b6, b7, b8, b9, b10, b11, b12, b13, b14) h9 hm)) (a1, a2, a3, a4, a5, a6, a7, a8, a9, a10, a11, a12, a13, a14) h
theorem lp15 {A1 A2 A3 A4 A5 A6 A7 A8 A9 A10 A11 A12 A13 A14 A15 : Type} (W : Nat → A1 → A2 → A3 → A4 → A5 → A6 → A7 → A8 → A9 → A10 → A11 → A12 → A13 → A14 → A15 → Prop) (I : A1 → A2 → A3 → A4 → A5 → A6 → A7 → A8 → A9 → A10 → A11 → A12 → A13 → A14 → A15 → Prop) (μ : A1 → A2 → A3 → A4 → A5 → A6 → A7 → A8 → A9 → A10 → A11 → A12 → A13 → A14 → A15 → Nat) (hs : ∀ (n : Nat) (a1 : A1) (a2 : A2) (a3 : A3) (a4 : A4) (a5 : A5) (a6 : A6) (a7 : A7) (a8 : A8) (a9 : A9) (a10 : A10) (a11 : A11) (a12 : A12) (a13 : A13) (a14 : A14) (a15 : A15), I a1 a2 a3 a4 a5 a6 a7 a8 a9 a10 a11 a12 a13 a14 a15 → (∀ (b1 : A1) (b2 : A2) (b3 : A3) (b4 : A4) (b5 : A5) (b6 : A6) (b7 : A7) (b8 : A8) (b9 : A9) (b10 : A10) (b11 : A11) (b12 : A12) (b13 : A13) (b14 : A14) (b15 : A15), I b1 b2 b3 b4 b5 b6 b7 b8 b9 b10 b11 b12 b13 b14 b15 → μ b1 b2 b3 b4 b5 b6 b7 b8 b9 b10 b11 b12 b13 b14 b15 < μ a1 a2 a3 a4 a5 a6 a7 a8 a9 a10 a11 a12 a13 a14 a15 → W n b1 b2 b3 b4 b5 b6 b7 b8 b9 b10 b11 b12 b13 b14 b15) → W (n + 1) a1 a2 a3 a4 a5 a6 a7 a8 a9 a10 a11 a12 a13 a14 a15) (a1 : A1) (a2 : A2) (a3 : A3) (a4 : A4) (a5 : A5) (a6 : A6) (a7 : A7) (a8 : A8) (a9 : A9) (a10 : A10) (a11 : A11) (a12 : A12) (a13 : A13) (a14 : A14) (a15 : A15) (h : I a1 a2 a3 a4 a5 a6 a7 a8 a9 a10 a11 a12 a13 a14 a15) : ∃ n, W n a1 a2 a3 a4 a5 a6 a7 a8 a9 a10 a11 a12 a13 a14 a15 :=
  loop_m (σ := A1 × A2 × A3 × A4 × A5 × A6 × A7 × A8 × A9 × A10 × A11 × A12 × A13 × A14 × A15) (fun n s => W n s.1 s.2.1 s.2.2.1 s.2.2.2.1 s.2.2.2.2.1 s.2.2.2.2.2.1 s.2.2.2.2.2.2.1 s.2.2.2.2.2.2.2.1 s.2.2.2.2.2.2.2.2.1 s.2.2.2.2.2.2.2.2.2.1 s.2.2.2.2.2.2.2.2.2.2.1 s.2.2.2.2.2.2.2.2.2.2.2.1 s.2.2.2.2.2.2.2.2.2.2.2.2.1 s.2.2.2.2.2.2.2.2.2.2.2.2.2.1 s.2.2.2.2.2.2.2.2.2.2.2.2.2.2) (fun s => I s.1 s.2.1 s.2.2.1 s.2.2.2.1 s.2.2.2.2.1 s.2.2.2.2.2.1 s.2.2.2.2.2.2.1 s.2.2.2.2.2.2.2.1 s.2.2.2.2.2.2.2.2.1 s.2.2.2.2.2.2.2.2.2.1 s.2.2.2.2.2.2.2.2.2.2.1 s.2.2.2.2.2.2.2.2.2.2.2.1 s.2.2.2.2.2.2.2.2.2.2.2.2.1 s.2.2.2.2.2.2.2.2.2.2.2.2.2.1 s.2.2.2.2.2.2.2.2.2.2.2.2.2.2) (fun s => μ s.1 s.2.1 s.2.2.1 s.2.2.2.1 s.2.2.2.2.1 s.2.2.2.2.2.1 s.2.2.2.2.2.2.1 s.2.2.2.2.2.2.2.1 s.2.2.2.2.2.2.2.2.1 s.2.2.2.2.2.2.2.2.2.1 s.2.2.2.2.2.2.2.2.2.2.1 s.2.2.2.2.2.2.2.2.2.2.2.1 s.2.2.2.2.2.2.2.2.2.2.2.2.1 s.2.2.2.2.2.2.2.2.2.2.2.2.2.1 s.2.2.2.2.2.2.2.2.2.2.2.2.2.2) (fun n s hI hk => hs n s.1 s.2.1 s.2.2.1 s.2.2.2.1 s.2.2.2.2.1 s.2.2.2.2.2.1 s.2.2.2.2.2.2.1 s.2.2.2.2.2.2.2.1 s.2.2.2.2.2.2.2.2.1 s.2.2.2.2.2.2.2.2.2.1 s.2.2.2.2.2.2.2.2.2.2.1 s.2.2.2.2.2.2.2.2.2.2.2.1 s.2.2.2.2.2.2.2.2.2.2.2.2.1 s.2.2.2.2.2.2.2.2.2.2.2.2.2.1 s.2.2.2.2.2.2.2.2.2.2.2.2.2.2 hI (fun b1 b2 b3 b4 b5 b6 b7 b8 b9 b10 b11 b12 b13 b14 b15 h9 hm => hk (b1, b2, b3, b4, b5, b6, b7, b8, b9, b10, b11, b12, b13, b14, b15) h9 hm)) (a1, a2, a3, a4, a5, a6, a7, a8, a9, a10, a11, a12, a13, a14, a15) h
theorem lp16 {A1 A2 A3 A4 A5 A6 A7 A8 A9 A10 A11 A12 A13 A14 A15 A16 : Type} (W : Nat → A1 → A2 → A3 → A4 → A5 → A6 → A7 → A8 → A9 → A10 → A11 → A12 → A13 → A14 → A15 → A16 → Prop) (I : A1 → A2 → A3 → A4 → A5 → A6 → A7 → A8 → A9 → A10 → A11 → A12 → A13 → A14 → A15 → A16 → Prop) (μ : A1 → A2 → A3 → A4 → A5 → A6 → A7 → A8 → A9 → A10 → A11 → A12 → A13 → A14 → A15 → A16 → Nat) (hs : ∀ (n : Nat) (a1 : A1) (a2 : A2) (a3 : A3) (a4 : A4) (a5 : A5) (a6 : A6) (a7 : A7) (a8 : A8) (a9 : A9) (a10 : A10) (a11 : A11) (a12 : A12) (a13 : A13) (a14 : A14) (a15 : A15) (a16 : A16), I a1 a2 a3 a4 a5 a6 a7 a8 a9 a10 a11 a12 a13 a14 a15 a16 → (∀ (b1 : A1) (b2 : A2) (b3 : A3) (b4 : A4) (b5 : A5) (b6 : A6) (b7 : A7) (b8 : A8) (b9 : A9) (b10 : A10) (b11 : A11) (b12 : A12) (b13 : A13) (b14 : A14) (b15 : A15) (b16 : A16), I b1 b2 b3 b4 b5 b6 b7 b8 b9 b10 b11 b12 b13 b14 b15 b16 → μ b1 b2 b3 b4 b5 b6 b7 b8 b9 b10 b11 b12 b13 b14 b15 b16 < μ a1 a2 a3 a4 a5 a6 a7 a8 a9 a10 a11 a12 a13 a14 a15 a16 → W n b1 b2 b3 b4 b5 b6 b7 b8 b9 b10 b11 b12 b13 b14 b15 b16) → W (n + 1) a1 a2 a3 a4 a5 a6 a7 a8 a9 a10 a11 a12 a13 a14 a15 a16) (a1 : A1) (a2 : A2) (a3 : A3) (a4 : A4) (a5 : A5) (a6 : A6) (a7 : A7) (a8 : A8) (a9 : A9) (a10 : A10) (a11 : A11) (a12 : A12) (a13 : A13) (a14 : A14) (a15 : A15) (a16 : A16) (h : I a1 a2 a3 a4 a5 a6 a7 a8 a9 a10 a11 a12 a13 a14 a15 a16) : ∃ n, W n a1 a2 a3 a4 a5 a6 a7 a8 a9 a10 a11 a12 a13 a14 a15 a16 :=
  loop_m (σ := A1 × A2 × A3 × A4 × A5 × A6 × A7 × A8 × A9 × A10 × A11 × A12 × A13 × A14 × A15 × A16) (fun n s => W n s.1 s.2.1 s.2.2.1 s.2.2.2.1 s.2.2.2.2.1 s.2.2.2.2.2.1 s.2.2.2.2.2.2.1 s.2.2.2.2.2.2.2.1 s.2.2.2.2.2.2.2.2.1 s.2.2.2.2.2.2.2.2.2.1 s.2.2.2.2.2.2.2.2.2.2.1 s.2.2.2.2.2.2.2.2.2.2.2.1 s.2.2.2.2.2.2.2.2.2.2.2.2.1 s.2.2.2.2.2.2.2.2.2.2.2.2.2.1 s.2.2.2.2.2.2.2.2.2.2.2.2.2.2.1 s.2.2.2.2.2.2.2.2.2.2.2.2.2.2.2) (fun s => I s.1 s.2.1 s.2.2.1 s.2.2.2.1 s.2.2.2.2.1 s.2.2.2.2.2.1 s.2.2.2.2.2.2.1 s.2.2.2.2.2.2.2.1 s.2.2.2.2.2.2.2.2.1 s.2.2.2.2.2.2.2.2.2.1 s.2.2.2.2.2.2.2.2.2.2.1 s.2.2.2.2.2.2.2.2.2.2.2.1 s.2.2.2.2.2.2.2.2.2.2.2.2.1 s.2.2.2.2.2.2.2.2.2.2.2.2.2.1 s.2.2.2.2.2.2.2.2.2.2.2.2.2.2.1 s.2.2.2.2.2.2.2.2.2.2.2.2.2.2.2) (fun s => μ s.1 s.2.1 s.2.2.1 s.2.2.2.1 s.2.2.2.2.1 s.2.2.2.2.2.1 s.2.2.2.2.2.2.1 s.2.2.2.2.2.2.2.1 s.2.2.2.2.2.2.2.2.1 s.2.2.2.2.2.2.2.2.2.1 s.2.2.2.2.2.2.2.2.2.2.1 s.2.2.2.2.2.2.2.2.2.2.2.1 s.2.2.2.2.2.2.2.2.2.2.2.2.1 s.2.2.2.2.2.2.2.2.2.2.2.2.2.1 s.2.2.2.2.2.2.2.2.2.2.2.2.2.2.1 s.2.2.2.2.2.2.2.2.2.2.2.2.2.2.2) (fun n s hI hk => hs n s.1 s.2.1 s.2.2.1 s.2.2.2.1 s.2.2.2.2.1 s.2.2.2.2.2.1 s.2.2.2.2.2.2.1 s.2.2.2.2.2.2.2.1 s.2.2.2.2.2.2.2.2.1 s.2.2.2.2.2.2.2.2.2.1 s.2.2.2.2.2.2.2.2.2.2.1 s.2.2.2.2.2.2.2.2.2.2.2.1 s.2.2.2.2.2.2.2.2.2.2.2.2.1 s.2.2.2.2.2.2.2.2.2.2.2.2.2.1 s.2.2.2.2.2.2.2.2.2.2.2.2.2.2.1 s.2.2.2.2.2.2.2.2.2.2.2.2.2.2.2 hI (fun b1 b2 b3 b4 b5 b6 b7 b8 b9 b10 b11 b12 b13 b14 b15 b16 h9 hm => hk (b1, b2, b3, b4, b5, b6, b7, b8, b9, b10, b11, b12, b13, b14, b15, b16) h9 hm)) (a1, a2, a3, a4, a5, a6, a7, a8, a9, a10, a11, a12, a13, a14, a15, a16) h
theorem pk_least (P : Nat → Prop) (h : ∃ k, P k) : ∃ k, P k ∧ ∀ j, j < k → ¬ P j := by
  obtain ⟨k, hk⟩ := h
  induction k using Nat.strongRecOn with
  | ind k ih =>
    by_cases e : ∃ j, j < k ∧ P j
    · obtain ⟨j, hj, pj⟩ := e
      exact ih j hj pj
    · exact ⟨k, hk, fun j hj pj => e ⟨j, hj, pj⟩⟩
theorem rp1 {ρ A1 : Type} (W : Nat → (ρ → Prop) → A1 → Prop) (ok : A1 → Prop) (μ : A1 → Nat) (val : A1 → ρ)
    (hs : ∀ (d : Nat) (post : ρ → Prop) (a1 : A1), ok a1 → post (val a1) → (∀ (post' : ρ → Prop) (b1 : A1), ok b1 → μ b1 < μ a1 → post' (val b1) → W d post' b1) → W (d + 1) post a1) :
    ∀ (d : Nat) (post : ρ → Prop) (a1 : A1), ok a1 → μ a1 < d → post (val a1) → W d post a1 := by
  intro d
  induction d with
  | zero => intro post a1 _ h; omega
  | succ d ih =>
    intro post a1 ho hm hp
    exact hs d post a1 ho hp (fun post' b1 ho' hm' hp' => ih post' b1 ho' (by omega) hp')
theorem rp2 {ρ A1 A2 : Type} (W : Nat → (ρ → Prop) → A1 → A2 → Prop) (ok : A1 → A2 → Prop) (μ : A1 → A2 → Nat) (val : A1 → A2 → ρ)
    (hs : ∀ (d : Nat) (post : ρ → Prop) (a1 : A1) (a2 : A2), ok a1 a2 → post (val a1 a2) → (∀ (post' : ρ → Prop) (b1 : A1) (b2 : A2), ok b1 b2 → μ b1 b2 < μ a1 a2 → post' (val b1 b2) → W d post' b1 b2) → W (d + 1) post a1 a2) :
    ∀ (d : Nat) (post : ρ → Prop) (a1 : A1) (a2 : A2), ok a1 a2 → μ a1 a2 < d → post (val a1 a2) → W d post a1 a2 := by
  intro d
  induction d with
  | zero => intro post a1 a2 _ h; omega
  | succ d ih =>
    intro post a1 a2 ho hm hp
    exact hs d post a1 a2 ho hp (fun post' b1 b2 ho' hm' hp' => ih post' b1 b2 ho' (by omega) hp')
theorem rp3 {ρ A1 A2 A3 : Type} (W : Nat → (ρ → Prop) → A1 → A2 → A3 → Prop) (ok : A1 → A2 → A3 → Prop) (μ : A1 → A2 → A3 → Nat) (val : A1 → A2 → A3 → ρ)
    (hs : ∀ (d : Nat) (post : ρ → Prop) (a1 : A1) (a2 : A2) (a3 : A3), ok a1 a2 a3 → post (val a1 a2 a3) → (∀ (post' : ρ → Prop) (b1 : A1) (b2 : A2) (b3 : A3), ok b1 b2 b3 → μ b1 b2 b3 < μ a1 a2 a3 → post' (val b1 b2 b3) → W d post' b1 b2 b3) → W (d + 1) post a1 a2 a3) :
    ∀ (d : Nat) (post : ρ → Prop) (a1 : A1) (a2 : A2) (a3 : A3), ok a1 a2 a3 → μ a1 a2 a3 < d → post (val a1 a2 a3) → W d post a1 a2 a3 := by
  intro d
  induction d with
  | zero => intro post a1 a2 a3 _ h; omega
  | succ d ih =>
    intro post a1 a2 a3 ho hm hp
    exact hs d post a1 a2 a3 ho hp (fun post' b1 b2 b3 ho' hm' hp' => ih post' b1 b2 b3 ho' (by omega) hp')
theorem rp4 {ρ A1 A2 A3 A4 : Type} (W : Nat → (ρ → Prop) → A1 → A2 → A3 → A4 → Prop) (ok : A1 → A2 → A3 → A4 → Prop) (μ : A1 → A2 → A3 → A4 → Nat) (val : A1 → A2 → A3 → A4 → ρ)
    (hs : ∀ (d : Nat) (post : ρ → Prop) (a1 : A1) (a2 : A2) (a3 : A3) (a4 : A4), ok a1 a2 a3 a4 → post (val a1 a2 a3 a4) → (∀ (post' : ρ → Prop) (b1 : A1) (b2 : A2) (b3 : A3) (b4 : A4), ok b1 b2 b3 b4 → μ b1 b2 b3 b4 < μ a1 a2 a3 a4 → post' (val b1 b2 b3 b4) → W d post' b1 b2 b3 b4) → W (d + 1) post a1 a2 a3 a4) :
    ∀ (d : Nat) (post : ρ → Prop) (a1 : A1) (a2 : A2) (a3 : A3) (a4 : A4), ok a1 a2 a3 a4 → μ a1 a2 a3 a4 < d → post (val a1 a2 a3 a4) → W d post a1 a2 a3 a4 := by
  intro d
  induction d with
  | zero => intro post a1 a2 a3 a4 _ h; omega
  | succ d ih =>
    intro post a1 a2 a3 a4 ho hm hp
    exact hs d post a1 a2 a3 a4 ho hp (fun post' b1 b2 b3 b4 ho' hm' hp' => ih post' b1 b2 b3 b4 ho' (by omega) hp')
theorem rp5 {ρ A1 A2 A3 A4 A5 : Type} (W : Nat → (ρ → Prop) → A1 → A2 → A3 → A4 → A5 → Prop) (ok : A1 → A2 → A3 → A4 → A5 → Prop) (μ : A1 → A2 → A3 → A4 → A5 → Nat) (val : A1 → A2 → A3 → A4 → A5 → ρ)
    (hs : ∀ (d : Nat) (post : ρ → Prop) (a1 : A1) (a2 : A2) (a3 : A3) (a4 : A4) (a5 : A5), ok a1 a2 a3 a4 a5 → post (val a1 a2 a3 a4 a5) → (∀ (post' : ρ → Prop) (b1 : A1) (b2 : A2) (b3 : A3) (b4 : A4) (b5 : A5), ok b1 b2 b3 b4 b5 → μ b1 b2 b3 b4 b5 < μ a1 a2 a3 a4 a5 → post' (val b1 b2 b3 b4 b5) → W d post' b1 b2 b3 b4 b5) → W (d + 1) post a1 a2 a3 a4 a5) :
    ∀ (d : Nat) (post : ρ → Prop) (a1 : A1) (a2 : A2) (a3 : A3) (a4 : A4) (a5 : A5), ok a1 a2 a3 a4 a5 → μ a1 a2 a3 a4 a5 < d → post (val a1 a2 a3 a4 a5) → W d post a1 a2 a3 a4 a5 := by
  intro d
  induction d with
  | zero => intro post a1 a2 a3 a4 a5 _ h; omega
  | succ d ih =>
    intro post a1 a2 a3 a4 a5 ho hm hp
    exact hs d post a1 a2 a3 a4 a5 ho hp (fun post' b1 b2 b3 b4 b5 ho' hm' hp' => ih post' b1 b2 b3 b4 b5 ho' (by omega) hp')
theorem rp6 {ρ A1 A2 A3 A4 A5 A6 : Type} (W : Nat → (ρ → Prop) → A1 → A2 → A3 → A4 → A5 → A6 → Prop) (ok : A1 → A2 → A3 → A4 → A5 → A6 → Prop) (μ : A1 → A2 → A3 → A4 → A5 → A6 → Nat) (val : A1 → A2 → A3 → A4 → A5 → A6 → ρ)
    (hs : ∀ (d : Nat) (post : ρ → Prop) (a1 : A1) (a2 : A2) (a3 : A3) (a4 : A4) (a5 : A5) (a6 : A6), ok a1 a2 a3 a4 a5 a6 → post (val a1 a2 a3 a4 a5 a6) → (∀ (post' : ρ → Prop) (b1 : A1) (b2 : A2) (b3 : A3) (b4 : A4) (b5 : A5) (b6 : A6), ok b1 b2 b3 b4 b5 b6 → μ b1 b2 b3 b4 b5 b6 < μ a1 a2 a3 a4 a5 a6 → post' (val b1 b2 b3 b4 b5 b6) → W d post' b1 b2 b3 b4 b5 b6) → W (d + 1) post a1 a2 a3 a4 a5 a6) :
    ∀ (d : Nat) (post : ρ → Prop) (a1 : A1) (a2 : A2) (a3 : A3) (a4 : A4) (a5 : A5) (a6 : A6), ok a1 a2 a3 a4 a5 a6 → μ a1 a2 a3 a4 a5 a6 < d → post (val a1 a2 a3 a4 a5 a6) → W d post a1 a2 a3 a4 a5 a6 := by
  intro d
  induction d with
  | zero => intro post a1 a2 a3 a4 a5 a6 _ h; omega
  | succ d ih =>
    intro post a1 a2 a3 a4 a5 a6 ho hm hp
    exact hs d post a1 a2 a3 a4 a5 a6 ho hp (fun post' b1 b2 b3 b4 b5 b6 ho' hm' hp' => ih post' b1 b2 b3 b4 b5 b6 ho' (by omega) hp')
theorem rec_p {σ ρ : Type} (W : Nat → (ρ → Prop) → σ → Prop) (ok : σ → Prop) (μ : σ → Nat) (val : σ → ρ)
    (hs : ∀ d s post, ok s → post (val s) → (∀ s' post', ok s' → μ s' < μ s → post' (val s') → W d post' s') → W (d + 1) post s) :
    ∀ d s post, ok s → μ s < d → post (val s) → W d post s := by
  intro d
  induction d with
  | zero => intro s post _ h; omega
  | succ d ih =>
    intro s post ho hm hp
    exact hs d s post ho hp (fun s' post' ho' hm' hp' => ih s' post' ho' (by omega) hp')
theorem rec_q {σ ρ : Type} (W : Nat → (ρ → Prop) → σ → Prop) (ok : σ → Prop) (μ : σ → Nat) (Q : σ → ρ → Prop)
    (hs : ∀ d s post, ok s → (∀ r, Q s r → post r) → (∀ s' post', ok s' → μ s' < μ s → (∀ r, Q s' r → post' r) → W d post' s') → W (d + 1) post s) :
    ∀ d s post, ok s → μ s < d → (∀ r, Q s r → post r) → W d post s := by
  intro d
  induction d with
  | zero => intro s post _ h; omega
  | succ d ih =>
    intro s post ho hm hp
    exact hs d s post ho hp (fun s' post' ho' hm' hp' => ih s' post' ho' (by omega) hp')
def bx_sum (f : Nat → Int32) : Nat → Int32
  | 0 => 0
  | n + 1 => bx_sum f n + f n
theorem ek_u {A : Prop} {B : Nat → Prop} {k N : Nat} (hk : k < N) (h : B k) : (some k = none → A) ∧ (∀ y : Nat, some k = some y → (y < N ∧ B y)) :=
  ⟨fun z => absurd z (Option.some_ne_none k), fun _ e => (by cases e; exact ⟨hk, h⟩)⟩
theorem ek_nu {A : Prop} {B : Nat → Prop} (h : A) : ((none : Option Nat) = none → A) ∧ (∀ y : Nat, (none : Option Nat) = some y → B y) :=
  ⟨fun _ => h, fun _ e => (by cases e)⟩
theorem ek_if {c d A B : Prop} (e : c ↔ d) (f : d → A) (g : ¬ d → B) : (c → A) ∧ (¬ c → B) :=
  ⟨fun z => f (e.mp z), fun z => g (fun y => z (e.mpr y))⟩
theorem ek_v {α : Sort _} {P : α → Prop} {a b : α} (e : a = b) (h : P b) : P a := e ▸ h
theorem co_some {x : Option Nat} {A : Prop} {B : Nat → Prop} (i : Nat) (h : B i) (hx : x = some i := by rfl) : (x = none → A) ∧ (∀ y : Nat, x = some y → B y) := by
  subst hx
  exact ⟨fun e => (nomatch e), fun y e => Option.some.inj e ▸ h⟩
theorem co_none {x : Option Nat} {A : Prop} {B : Nat → Prop} (h : A) (hx : x = none := by rfl) : (x = none → A) ∧ (∀ y : Nat, x = some y → B y) := by
  subst hx
  exact ⟨fun _ => h, fun y e => (nomatch e)⟩
theorem co_any {x : Option Nat} {A : Prop} {B : Nat → Prop} (hn : x = none → A) (hs : ∀ i : Nat, x = some i → B i) : (x = none → A) ∧ (∀ y : Nat, x = some y → B y) := ⟨hn, hs⟩
theorem co_2 {P : Nat → Prop} (h0 : P 0) (h1 : P 1) {i : Nat} (hi : i < 2) : P i :=
  match i, hi with
  | 0, _ => h0
  | 1, _ => h1
theorem co_3 {P : Nat → Prop} (h0 : P 0) (h1 : P 1) (h2 : P 2) {i : Nat} (hi : i < 3) : P i :=
  match i, hi with
  | 0, _ => h0
  | 1, _ => h1
  | 2, _ => h2
theorem co_4 {P : Nat → Prop} (h0 : P 0) (h1 : P 1) (h2 : P 2) (h3 : P 3) {i : Nat} (hi : i < 4) : P i :=
  match i, hi with
  | 0, _ => h0
  | 1, _ => h1
  | 2, _ => h2
  | 3, _ => h3
theorem co_dec {N : Nat} {P : Nat → Prop} [DecidablePred P] (h : (List.range N).all (fun i => decide (P i)) = true) {i : Nat} (hi : i < N) : P i := by
  have := List.all_eq_true.mp h i (List.mem_range.mpr hi)
  exact of_decide_eq_true this
theorem co_tab {α : Type} {l : List α} {d : α} {P : α → Prop} (h : ∀ a, a ∈ l → P a) {i : Nat} (hi : i < l.length) : P (l.getD i d) := by
  rw [List.getD_eq_getElem?_getD, List.getElem?_eq_getElem hi]
  exact h _ (List.getElem_mem hi)
theorem pk_mu {x : Int32} {L : Nat} (h0 : ¬ x < 0) (h : ¬ nI L ≤ x) (hL : L < 2 ^ 31) : ∃ j : Nat, j < L ∧ x = nI j ∧ x + 1 = nI (j + 1) ∧ x.toNatClampNeg = j ∧ L - (x + 1).toNatClampNeg < L - x.toNatClampNeg := by
  obtain ⟨j, hj, rfl⟩ := nI_of h0
  have hl : j < L := Nat.not_le.mp fun q => h (nI_le q hj)
  refine ⟨j, hl, rfl, nI_1 j, nI_clamp hj, ?_⟩
  rw [nI_1, nI_clamp (by omega), nI_clamp hj]
  omega
theorem op_s {α : Type} {r : Option α} {A : Prop} {B : α → Prop} {y : α} (h : r = some y) (b : B y) : (r = none → A) ∧ ∀ z, r = some z → B z :=
  ⟨fun e => (by rw [h] at e; cases e), fun z e => (by rw [h] at e; cases e; exact b)⟩
def l_holds {α : Type} (a : Nat → Option Nat) (LP : List Nat) (p : Nat → α) (c : Nat) (b : Nat → α) : Prop :=
  ∀ j, j < c → ∃ y, a j = some y ∧ y ∈ LP ∧ p y = b j
theorem l_holds_0 {α : Type} {a : Nat → Option Nat} {LP : List Nat} {p b : Nat → α} : l_holds a LP p 0 b := fun j h => absurd h (Nat.not_lt_zero j)
theorem l_in_new (LP : List Nat) (q : Nat) : q ∈ LP ++ [q] := List.mem_append.mpr (Or.inr (List.mem_singleton.mpr rfl))
def l_sum (b : Nat → Int32) : Nat → Int32
  | 0 => 0
  | k + 1 => l_sum b k + b k
theorem sb_shr0 (x : Int32) : x >>> ((0 : Int32) &&& 31) = x := by
  rw [show ((0 : Int32) &&& 31) = 0 by decide]
  simp
theorem sb_shl0 (x : Int32) : x <<< ((0 : Int32) &&& 31) = x := by
  rw [show ((0 : Int32) &&& 31) = 0 by decide]
  simp
theorem sb_cl0 : (0 : Int32).toNatClampNeg = 0 := by decide
theorem sb_m1 {p : Nat} (h : 0 < p) : nI p + (-1) = nI (p - 1) := by
  obtain ⟨q, rfl⟩ : ∃ q, p = q + 1 := ⟨p - 1, by omega⟩
  exact pk_m1 q
def sb_b (c : Nat) : Int32 := (nI c).toInt8.toInt32
theorem sb_byte : ∀ c, c < 256 → sb_b c &&& 255 = nI c ∧ ((nI c).toUInt32 % 65536).toInt32 = nI c ∧ nI c ≤ 255 := by decide +kernel
def sb_Fit (a : Nat → Int32) : Prop := ∀ j, fits .byte (.int (a j)) = true
def sb_Lat (t : Nat → Nat) (n : Nat) (a : Nat → Int32) : Prop := ∀ j, j < n → t j < 256 ∧ a j = sb_b (t j)
theorem sb_fitB (c : Nat) : fits .byte (.int (sb_b c)) = true := pk_fb _
theorem sb_fit0 : sb_Fit (fun _ => 0) := fun _ => by
  show fits .byte (.int 0) = true
  decide
theorem sb_fitU {a : Nat → Int32} {k : Nat} {x : Int32} (h : sb_Fit a) (hx : fits .byte (.int x) = true) : sb_Fit (upd a k x) := by
  intro j
  by_cases e : j = k
  · subst e
    rw [pk_us]
    exact hx
  · rw [pk_un e]
    exact h j
def sb_cat (t : Nat → Nat) (n : Nat) (s : Nat → Nat) : Nat → Nat := fun j => if j < n then t j else s (j - n)
theorem sb_cat_lo {t s : Nat → Nat} {n j : Nat} (h : j < n) : sb_cat t n s j = t j := if_pos h
theorem sb_cat_hi {t s : Nat → Nat} {n j : Nat} : sb_cat t n s (n + j) = s j := by
  show (if n + j < n then t (n + j) else s (n + j - n)) = s j
  rw [if_neg (by omega), Nat.add_sub_cancel_left]
theorem sb_latPut {t s : Nat → Nat} {n w : Nat} {a a' : Nat → Int32} (h : sb_Lat t n a) (hk : ∀ j, j < n → a' j = a j) (hs : ∀ i, i < w → s i < 256 ∧ a' (n + i) = sb_b (s i)) : sb_Lat (sb_cat t n s) (n + w) a' := by
  intro j hj
  by_cases e : j < n
  · rw [sb_cat_lo e, hk j e]
    exact h j e
  · obtain ⟨i, rfl⟩ : ∃ i, j = n + i := ⟨j - n, by omega⟩
    rw [sb_cat_hi]
    exact hs i (by omega)
theorem sb_latKeep {t : Nat → Nat} {n : Nat} {a a' : Nat → Int32} (h : sb_Lat t n a) (hk : ∀ j, j < n → a' j = a j) : sb_Lat t n a' := fun j hj => by
  rw [hk j hj]
  exact h j hj
def sb_cap (q m : Nat) : Nat := if q ≤ m then m else if 2 * m + 2 < q then q else 2 * m + 2
def sb_Room (q m mc ms : Nat) : Prop := q ≤ m ∨ (1 ≤ mc ∧ sb_cap q m ≤ ms ∧ sb_cap q m ≤ 65536)
theorem sb_cap_ge (q m : Nat) : q ≤ sb_cap q m := by
  unfold sb_cap
  split
  · omega
  · split <;> omega
theorem sb_cap_gem (q m : Nat) : m ≤ sb_cap q m := by
  unfold sb_cap
  split
  · omega
  · split <;> omega
theorem sb_cap_le {q m mc ms : Nat} (hm : m ≤ 65536) (hr : sb_Room q m mc ms) : sb_cap q m ≤ 65536 := by
  rcases hr with h | h
  · rw [sb_cap, if_pos h]
    exact hm
  · exact h.2.2
theorem sb_at {P : Int32 → Prop} {x y : Int32} (e : x = y) (h : P y) : P x := e ▸ h
def sb_dg (w : Nat) : Nat := if w < 10 then 1 else if w < 100 then 2 else if w < 1000 then 3 else if w < 10000 then 4 else if w < 100000 then 5 else if w < 1000000 then 6 else if w < 10000000 then 7 else if w < 100000000 then 8 else if w < 1000000000 then 9 else 10
def sb_dec (v : Nat) : Nat → Nat := fun i => 48 + v / 10 ^ (sb_dg v - 1 - i) % 10
theorem sb_dg_in (w : Nat) : 1 ≤ sb_dg w ∧ sb_dg w ≤ 10 := by
  unfold sb_dg
  constructor <;> (repeat' split) <;> omega
theorem sb_dg100 {w : Nat} (h : 100 ≤ w) (hw : w < 2 ^ 31) : sb_dg w = sb_dg (w / 100) + 2 := by
  rw [sb_dg, sb_dg, if_neg (show ¬ w < 10 by omega), if_neg (show ¬ w < 100 by omega)]
  by_cases h3 : w < 1000
  · rw [if_pos h3, if_pos (show w / 100 < 10 by omega)]
  rw [if_neg h3, if_neg (show ¬ w / 100 < 10 by omega)]
  by_cases h4 : w < 10000
  · rw [if_pos h4, if_pos (show w / 100 < 100 by omega)]
  rw [if_neg h4, if_neg (show ¬ w / 100 < 100 by omega)]
  by_cases h5 : w < 100000
  · rw [if_pos h5, if_pos (show w / 100 < 1000 by omega)]
  rw [if_neg h5, if_neg (show ¬ w / 100 < 1000 by omega)]
  by_cases h6 : w < 1000000
  · rw [if_pos h6, if_pos (show w / 100 < 10000 by omega)]
  rw [if_neg h6, if_neg (show ¬ w / 100 < 10000 by omega)]
  by_cases h7 : w < 10000000
  · rw [if_pos h7, if_pos (show w / 100 < 100000 by omega)]
  rw [if_neg h7, if_neg (show ¬ w / 100 < 100000 by omega)]
  by_cases h8 : w < 100000000
  · rw [if_pos h8, if_pos (show w / 100 < 1000000 by omega)]
  rw [if_neg h8, if_neg (show ¬ w / 100 < 1000000 by omega)]
  by_cases h9 : w < 1000000000
  · rw [if_pos h9, if_pos (show w / 100 < 10000000 by omega)]
  rw [if_neg h9, if_neg (show ¬ w / 100 < 10000000 by omega)]
  rw [if_pos (show w / 100 < 100000000 by omega)]
theorem sb_negT {w : Nat} (h : w < 2 ^ 31) : (-nI w).toInt = -(w : Int) := by
  rw [Int32.toInt_neg, nI_toInt h]
  exact Int.bmod_eq_of_le (by omega) (by omega)
theorem sb_nle {a b : Nat} (ha : a < 2 ^ 31) (hb : b < 2 ^ 31) : -nI a ≤ -nI b ↔ b ≤ a := by
  rw [Int32.le_iff_toInt_le, sb_negT ha, sb_negT hb]
  omega
theorem sb_nlt {a b : Nat} (ha : a < 2 ^ 31) (hb : b < 2 ^ 31) : -nI a < -nI b ↔ b < a := by
  rw [Int32.lt_iff_toInt_lt, sb_negT ha, sb_negT hb]
  omega
theorem sb_cmp {A B : Prop} {x : Int32} (v c : Nat) (f : c ≤ v → A) (g : v < c → B) (hv : v < 2 ^ 31) (hx : x = -nI c := by rfl) (hc : c < 2 ^ 31 := by omega) : (-nI v ≤ x → A) ∧ (¬ -nI v ≤ x → B) := by
  subst hx
  rw [sb_nle hv hc]
  exact ⟨f, fun z => g (by omega)⟩
theorem sb_ndiv {w : Nat} (hw : w < 2 ^ 31) : (-nI w) / 100 = -nI (w / 100) := by
  apply Int32.toInt_inj.mp
  have h100 : (100 : Int32).toInt = 100 := by decide
  rw [Int32.toInt_div, sb_negT hw, h100, sb_negT (by omega), Int.neg_tdiv, Int.tdiv_eq_ediv_of_nonneg (by omega), Int.bmod_eq_of_le (by omega) (by omega)]
  omega
theorem sb_nrem {w : Nat} (hw : w < 2 ^ 31) : (-nI (w / 100)) * 100 - (-nI w) = nI (w % 100) := by
  have h := pk_rem (a := w) (d := 100) hw (by decide) (by decide)
  rw [pk_div hw (by decide) (by decide)] at h
  rw [← h]
  show (-nI (w / 100)) * nI 100 - (-nI w) = nI w - nI (w / 100) * nI 100
  rw [Int32.neg_mul, Int32.sub_neg, Int32.add_comm, ← Int32.sub_eq_add_neg]
end
section
/-! rows on bits, shifts and unsigned numbers, to paste: each family out of a closed proof of our own, whole with what it rests on; each by itself clean at Lean in its own claim (generation 39, form 5). Take a family whole -/
/-! ===== Int32 by its bits: bt x i ===== -/
def bt (x : Int32) (i : Nat) : Bool := x.toBitVec.getLsbD i
theorem b_ext {x y : Int32} (h : ∀ i, i < 32 → bt x i = bt y i) : x = y := Int32.toBitVec_inj.mp (BitVec.eq_of_getLsbD_eq (fun i hi => h i hi))
theorem b_or (x y : Int32) (i : Nat) : bt (x ||| y) i = (bt x i || bt y i) := by unfold bt; rw [Int32.toBitVec_or, BitVec.getLsbD_or]
theorem b_and (x y : Int32) (i : Nat) : bt (x &&& y) i = (bt x i && bt y i) := by unfold bt; rw [Int32.toBitVec_and, BitVec.getLsbD_and]
theorem b_xor (x y : Int32) (i : Nat) : bt (x ^^^ y) i = (bt x i ^^ bt y i) := by unfold bt; rw [Int32.toBitVec_xor, BitVec.getLsbD_xor]
theorem b_big {x : Int32} {i : Nat} (h : 32 ≤ i) : bt x i = false := BitVec.getLsbD_of_ge _ _ h
theorem b_255 (i : Nat) : bt 255 i = decide (i < 8) := by
  rcases Nat.lt_or_ge i 32 with h | h
  · exact (by decide +kernel : ∀ i, i < 32 → bt 255 i = decide (i < 8)) i h
  · rw [b_big h, decide_eq_false (by omega)]
theorem b_65535 (i : Nat) : bt 65535 i = decide (i < 16) := by
  rcases Nat.lt_or_ge i 32 with h | h
  · exact (by decide +kernel : ∀ i, i < 32 → bt 65535 i = decide (i < 16)) i h
  · rw [b_big h, decide_eq_false (by omega)]
theorem b_m1 : ∀ i, i < 32 → bt (-1) i = true := by decide +kernel
theorem b_0 (i : Nat) : bt 0 i = false := BitVec.getLsbD_zero
theorem s_l : ∀ n, n < 32 → ((nI n &&& 31).toBitVec.smod 32).toNat = n := by decide +kernel
theorem s_u : ∀ n, n < 32 → (((nI n).toUInt32 &&& Int32.toUInt32 31).toBitVec % 32).toNat = n := by decide +kernel
theorem b_shl (n : Nat) (hn : n < 32) (x : Int32) {i : Nat} (hi : i < 32) : bt (x <<< (nI n &&& 31)) i = (decide (n ≤ i) && bt x (i - n)) := by
  unfold bt
  rw [Int32.toBitVec_shiftLeft]
  show (x.toBitVec <<< ((nI n &&& 31).toBitVec.smod 32).toNat).getLsbD i = _
  rw [s_l n hn, BitVec.getLsbD_shiftLeft]
  rcases Nat.lt_or_ge i n with h | h
  · simp [h, Nat.not_le.mpr h]
  · simp [hi, h, Nat.not_lt.mpr h]
theorem b_ushr (n : Nat) (hn : n < 32) (x : Int32) (i : Nat) : bt ((x.toUInt32 >>> ((nI n).toUInt32 &&& Int32.toUInt32 31)).toInt32) i = bt x (n + i) := by
  show (x.toUInt32 >>> ((nI n).toUInt32 &&& Int32.toUInt32 31)).toBitVec.getLsbD i = x.toUInt32.toBitVec.getLsbD (n + i)
  rw [UInt32.toBitVec_shiftRight]
  show (x.toUInt32.toBitVec >>> (((nI n).toUInt32 &&& Int32.toUInt32 31).toBitVec % 32).toNat).getLsbD i = _
  rw [s_u n hn, BitVec.getLsbD_ushiftRight]
theorem b_sshr (n : Nat) (hn : n < 32) (x : Int32) {i : Nat} (hi : i < 32) : bt (x >>> (nI n &&& 31)) i = if n + i < 32 then bt x (n + i) else bt x 31 := by
  unfold bt
  rw [Int32.toBitVec_shiftRight]
  show (x.toBitVec.sshiftRight ((nI n &&& 31).toBitVec.smod 32).toNat).getLsbD i = _
  rw [s_l n hn, BitVec.getLsbD_sshiftRight, BitVec.msb_eq_getLsbD_last]
  simp [hi]
theorem b_shl8 (x : Int32) {i : Nat} (hi : i < 32) : bt (x <<< ((8 : Int32) &&& 31)) i = (decide (8 ≤ i) && bt x (i - 8)) := b_shl 8 (by omega) x hi
theorem b_shl16 (x : Int32) {i : Nat} (hi : i < 32) : bt (x <<< ((16 : Int32) &&& 31)) i = (decide (16 ≤ i) && bt x (i - 16)) := b_shl 16 (by omega) x hi
theorem b_shl24 (x : Int32) {i : Nat} (hi : i < 32) : bt (x <<< ((24 : Int32) &&& 31)) i = (decide (24 ≤ i) && bt x (i - 24)) := b_shl 24 (by omega) x hi
theorem b_sshr8 (x : Int32) {i : Nat} (hi : i < 32) : bt (x >>> ((8 : Int32) &&& 31)) i = if 8 + i < 32 then bt x (8 + i) else bt x 31 := b_sshr 8 (by omega) x hi
/-! ===== nI under and, xor, >>>, one bit, 65535 ===== -/
theorem nx_and (a b : Nat) : nI a &&& nI b = nI (a &&& b) := by
  apply Int32.toBitVec_inj.1
  show BitVec.ofNat 32 a &&& BitVec.ofNat 32 b = BitVec.ofNat 32 (a &&& b)
  apply BitVec.eq_of_getLsbD_eq
  intro i hi
  simp [hi]
theorem nx_xor (a b : Nat) : nI a ^^^ nI b = nI (a ^^^ b) := by
  apply Int32.toBitVec_inj.1
  show BitVec.ofNat 32 a ^^^ BitVec.ofNat 32 b = BitVec.ofNat 32 (a ^^^ b)
  apply BitVec.eq_of_getLsbD_eq
  intro i hi
  simp [hi]
theorem nx_cnt : ∀ j : Fin 32, (UInt32.ofNat j.val &&& Int32.toUInt32 31).toNat % 32 = j.val := by decide +kernel
theorem nx_ush {k j : Nat} (hk : k < 65536) (hj : j < 32) : ((nI k).toUInt32 >>> ((nI j).toUInt32 &&& Int32.toUInt32 31)).toInt32 = nI (k >>> j) := by
  have hs : k >>> j ≤ k := by
    rw [Nat.shiftRight_eq_div_pow]
    exact Nat.div_le_self _ _
  have e2 : UInt32.ofNat k >>> (UInt32.ofNat j &&& Int32.toUInt32 31) = UInt32.ofNat (k >>> j) := by
    apply UInt32.toNat_inj.1
    have h1 : (UInt32.ofNat k).toNat = k := Nat.mod_eq_of_lt (by omega)
    have h2 : (UInt32.ofNat (k >>> j)).toNat = k >>> j := Nat.mod_eq_of_lt (by omega)
    rw [UInt32.toNat_shiftRight, nx_cnt ⟨j, hj⟩, h1, h2]
  show (UInt32.ofNat k >>> (UInt32.ofNat j &&& Int32.toUInt32 31)).toInt32 = _
  rw [e2]
  rfl
theorem nx_bit {k j : Nat} (hk : k < 65536) (hj : j < 16) : (((nI k).toUInt32 >>> ((nI j).toUInt32 &&& Int32.toUInt32 31)).toInt32 &&& 1) = 0 ↔ k.testBit j = false := by
  rw [nx_ush hk (by omega)]
  show nI (k >>> j) &&& nI 1 = 0 ↔ _
  rw [nx_and, Nat.and_one_is_mod, ← nI_0, nI_eq (by omega) (by omega), Nat.testBit_eq_decide_div_mod_eq, Nat.shiftRight_eq_div_pow, decide_eq_false_iff_not]
  generalize k / 2 ^ j = z
  omega
theorem nx_mod (k : Nat) : nI k &&& 65535 = nI (k % 65536) := by
  show nI k &&& nI 65535 = _
  rw [nx_and, show (65535 : Nat) = 2 ^ 16 - 1 from rfl, Nat.and_two_pow_sub_one_eq_mod]
theorem nx_m16 {k : Nat} (h : k < 65536) : nI k &&& 65535 = nI k := by rw [nx_mod, Nat.mod_eq_of_lt h]
theorem nx_mask (x : Int32) : ∃ k, k < 65536 ∧ x &&& 65535 = nI k := by
  have e : x = nI x.toBitVec.toNat := by
    apply Int32.toBitVec_inj.1
    show x.toBitVec = BitVec.ofNat 32 x.toBitVec.toNat
    simp
  refine ⟨x.toBitVec.toNat % 65536, Nat.mod_lt _ (by omega), ?_⟩
  rw [← nx_mod, ← e]
/-! ===== Int32 as a set of bits: test, set ===== -/
def nf_M (m : Int32) : Nat := 4294967296 - m.toBitVec.toNat
theorem nf_sh : ∀ l, l < 32 → ((1 : Int32) <<< (nI l &&& 31)).toBitVec = BitVec.twoPow 32 l := by decide +kernel
theorem nf_sl : ∀ l, l < 32 → (((nI l).toUInt32 &&& Int32.toUInt32 31).toBitVec % 32).toNat = l := by decide +kernel
theorem nf_tp : ∀ l, l < 32 → BitVec.twoPow 32 l ≠ 0#32 := by decide +kernel
theorem nf_bit (m : Int32) (l : Nat) (hl : l < 32) : ((m.toUInt32 >>> ((nI l).toUInt32 &&& Int32.toUInt32 31)).toInt32 &&& 1) = 0 ↔ (m &&& ((1 : Int32) <<< (nI l &&& 31))) = 0 := by
  have e : ((m.toUInt32 >>> ((nI l).toUInt32 &&& Int32.toUInt32 31)).toInt32).toBitVec = m.toBitVec >>> l := by
    show m.toBitVec >>> (((nI l).toUInt32 &&& Int32.toUInt32 31).toBitVec % 32) = m.toBitVec >>> l
    rw [BitVec.ushiftRight_eq', nf_sl l hl]
  rw [← Int32.toBitVec_inj, ← Int32.toBitVec_inj, Int32.toBitVec_and, Int32.toBitVec_and, nf_sh l hl, e, BitVec.and_twoPow]
  show (m.toBitVec >>> l &&& 1#32) = 0#32 ↔ _ = 0#32
  rw [BitVec.and_one_eq_setWidth_ofBool_getLsbD, BitVec.getLsbD_ushiftRight, Nat.add_zero]
  cases hb : m.toBitVec.getLsbD l
  · exact ⟨fun _ => by simp, fun _ => by decide⟩
  · exact ⟨fun z => absurd z (by decide), fun z => absurd ((if_pos rfl).symm.trans z) (nf_tp l hl)⟩
theorem nf_gr (m k : Int32) (h : m &&& k = 0) (hk : k ≠ 0) : nf_M (m ||| k) < nf_M m := by
  have hm := m.toBitVec.isLt
  have hm' := (m ||| k).toBitVec.isLt
  have h1 : m.toBitVec.toNat ≤ (m ||| k).toBitVec.toNat := by
    rw [Int32.toBitVec_or, BitVec.toNat_or]
    exact Nat.left_le_or
  have h2 : m.toBitVec.toNat ≠ (m ||| k).toBitVec.toNat := by
    intro e
    have e2 : m = m ||| k := Int32.toBitVec_inj.mp (BitVec.eq_of_toNat_eq e)
    apply hk
    apply Int32.toBitVec_inj.mp
    show k.toBitVec = 0#32
    apply BitVec.eq_of_getLsbD_eq
    intro i hi
    have a : m.toBitVec.getLsbD i = (m.toBitVec.getLsbD i || k.toBitVec.getLsbD i) := by rw [← BitVec.getLsbD_or, ← Int32.toBitVec_or, ← e2]
    have b : (m.toBitVec.getLsbD i && k.toBitVec.getLsbD i) = false := by
      rw [← BitVec.getLsbD_and, ← Int32.toBitVec_and, h]
      exact BitVec.getLsbD_zero
    rw [BitVec.getLsbD_zero]
    revert a b
    cases m.toBitVec.getLsbD i <;> cases k.toBitVec.getLsbD i <;> simp
  unfold nf_M
  omega
/-! ===== a byte read unsigned ===== -/
theorem bp_b (x : Int32) : x.toInt8.toInt32 &&& 255 = x &&& 255 := by
  apply Int32.toBitVec_inj.mp
  rw [Int32.toBitVec_and, Int32.toBitVec_and, Int8.toBitVec_toInt32, Int32.toBitVec_toInt8]
  apply BitVec.eq_of_getLsbD_eq
  intro i hi
  rw [BitVec.getLsbD_and, BitVec.getLsbD_and]
  have hm : ∀ i < 32, 8 ≤ i → (255 : Int32).toBitVec.getLsbD i = false := by decide
  rcases Nat.lt_or_ge i 8 with z | z
  · rw [BitVec.getLsbD_signExtend, BitVec.getLsbD_signExtend, if_pos z, if_pos hi]
    simp only [z, hi, decide_true, Bool.true_and]
  · rw [hm i hi z]; simp
end
section
/-! numbers: bytes, small ranges, ors, masks -/
theorem zn_or (a b : Nat) : nI a ||| nI b = nI (a ||| b) := by
  apply Int32.toBitVec_inj.1
  show BitVec.ofNat 32 a ||| BitVec.ofNat 32 b = BitVec.ofNat 32 (a ||| b)
  apply BitVec.eq_of_getLsbD_eq
  intro i hi
  simp [hi]
theorem zn_orp {a b k : Nat} (h : a < 2 ^ k) : nI a ||| nI (b * 2 ^ k) = nI (a + b * 2 ^ k) := by
  rw [zn_or, Nat.or_comm, Nat.mul_comm b, ← Nat.two_pow_add_eq_or_of_lt h, Nat.add_comm]
theorem zn_b8 (m : Nat) : (nI m).toInt8.toInt32 = sb_b (m % 256) := by
  have e : (nI m).toInt8 = (nI (m % 256)).toInt8 := by
    show (Int32.ofNat m).toInt8 = (Int32.ofNat (m % 256)).toInt8
    rw [Int32.toInt8_ofNat', Int32.toInt8_ofNat']
    apply Int8.toBitVec_inj.1
    apply BitVec.eq_of_toNat_eq
    show m % 2 ^ 8 = (m % 256) % 2 ^ 8
    omega
  show (nI m).toInt8.toInt32 = (nI (m % 256)).toInt8.toInt32
  rw [e]
theorem zn_b8s : ∀ c, c < 128 → sb_b c = nI c := by decide +kernel
theorem zn_i8 {m : Nat} (h : m < 128) : (nI m).toInt8.toInt32 = nI m := by
  rw [zn_b8, Nat.mod_eq_of_lt (by omega), zn_b8s m h]
theorem zn_i16 {m : Nat} (h : m < 32768) : (nI m).toInt16.toInt32 = nI m := by
  apply Int32.toInt_inj.mp
  have e : (nI m).toInt16 = Int16.ofNat m := Int32.toInt16_ofNat'
  rw [e, Int16.toInt_toInt32, nI_toInt (by omega), Int16.toInt_ofNat_of_lt (by omega)]
theorem zn_vs {m : Nat} (h : m < 32768) : vp_nar .short (nI m) = nI m := by
  rw [vp_nar_short, zn_i16 h]
theorem zn_vs2 {m : Nat} (h : m < 32768) : vp_nar .short (nI m).toInt16.toInt32 = nI m := by
  rw [pk_vs, zn_i16 h]
theorem zn_vb {m : Nat} (h : m < 128) : vp_nar .byte (nI m) = nI m := by
  rw [vp_nar_byte, zn_i8 h]
theorem zn_vb2 {m : Nat} (h : m < 128) : vp_nar .byte (nI m).toInt8.toInt32 = nI m := by
  rw [pk_vb, zn_i8 h]
theorem zn_vbm : vp_nar .byte (-1) = -1 := by rw [vp_nar_byte]; decide
theorem zn_vb0 : vp_nar .byte 0 = 0 := by rw [vp_nar_byte]; decide
theorem zn_vs0 : vp_nar .short 0 = 0 := by rw [vp_nar_short]; decide
theorem zn_vb1 : vp_nar .byte 1 = 1 := by rw [vp_nar_byte]; decide
theorem zn_bo0 : vp_nar .boolean 0 = 0 := by decide
theorem zn_bo1 : vp_nar .boolean 1 = 1 := by decide
/-- a value that is a byte -/
def zn_B (x : Int32) : Prop := x.toInt8.toInt32 = x
theorem zn_B8 (x : Int32) : zn_B x.toInt8.toInt32 := by show x.toInt8.toInt32.toInt8.toInt32 = _; simp
theorem zn_Bb (c : Nat) : zn_B (sb_b c) := zn_B8 _
theorem zn_Bv {x : Int32} (h : zn_B x) : vp_nar .byte x = x := by rw [vp_nar_byte]; exact h
theorem zn_Bn {m : Nat} (h : m < 128) : zn_B (nI m) := zn_i8 h
theorem zn_B0 : zn_B 0 := by show (0 : Int32).toInt8.toInt32 = 0; decide
theorem zn_sb255 {c : Nat} (h : c < 256) : sb_b c &&& 255 = nI c := (sb_byte c h).1
theorem zn_and255 (m : Nat) : nI m &&& 255 = nI (m % 256) := by
  show nI m &&& nI 255 = _
  rw [nx_and, show (255 : Nat) = 2 ^ 8 - 1 from rfl, Nat.and_two_pow_sub_one_eq_mod]
theorem zn_m255 (x : Int32) : (x &&& 255).toInt8 = x.toInt8 := by
  have h := congrArg Int32.toInt8 (bp_b x)
  rw [Int32.toInt8_and, Int32.toInt8_and, Int8.toInt8_toInt32] at h
  rw [Int32.toInt8_and]
  have e : (255 : Int32).toInt8 = -1 := by decide
  rw [e]
  simp
theorem zn_e255 {x y : Int32} (h : x.toInt8 = y.toInt8) : x &&& 255 = y &&& 255 := by
  rw [← bp_b x, ← bp_b y, h]
theorem zn_r255 (x : Int32) : ∃ j : Nat, j < 256 ∧ x &&& 255 = nI j := pk_andE x 8 (by decide)
theorem zn_sbI {a b : Nat} (ha : a < 256) (hb : b < 256) (h : sb_b a = sb_b b) : a = b := by
  have h2 : sb_b a &&& 255 = sb_b b &&& 255 := by rw [h]
  rw [zn_sb255 ha, zn_sb255 hb] at h2
  exact (nI_eq (by omega) (by omega)).mp h2
theorem zn_mask {n : Nat} (h : n < 31) : ((1 : Int32) <<< (nI n &&& 31)) - 1 = nI (2 ^ n - 1) := by
  have e : (1 : Int32) <<< (nI n &&& 31) = nI (2 ^ n) := by
    have := pk_shlN (n := 1) (nI n &&& 31) n (s_l n (by omega)) (by
      have := Nat.pow_lt_pow_right (a := 2) (by decide) (show n < 32 by omega)
      omega)
    rw [Nat.one_mul] at this
    exact this
  rw [e]
  have := pk_sub (a := 2 ^ n) (b := 1) Nat.one_le_two_pow
  exact this
theorem zn_p1 {n : Nat} (h : n < 31) : (1 : Int32) <<< (nI n &&& 31) = nI (2 ^ n) := by
  have := pk_shlN (n := 1) (nI n &&& 31) n (s_l n (by omega)) (by
    have := Nat.pow_lt_pow_right (a := 2) (by decide) (show n < 32 by omega)
    omega)
  rw [Nat.one_mul] at this
  exact this
theorem zn_andm (a : Nat) {n : Nat} : nI a &&& nI (2 ^ n - 1) = nI (a % 2 ^ n) := by
  rw [nx_and, Nat.and_two_pow_sub_one_eq_mod]
theorem zn_shl {a k : Nat} (hk : k < 32) (h : a * 2 ^ k < 2 ^ 32) : nI a <<< (nI k &&& 31) = nI (a * 2 ^ k) :=
  pk_shlN _ k (s_l k hk) h
theorem zn_shr {a k : Nat} (hk : k < 32) (h : a < 2 ^ 31) : nI a >>> (nI k &&& 31) = nI (a / 2 ^ k) :=
  pk_shrN h _ k (s_l k hk)
theorem zn_ushr {a k : Nat} (hk : k < 32) (h : a < 2 ^ 32) : ((nI a).toUInt32 >>> ((nI k).toUInt32 &&& Int32.toUInt32 31)).toInt32 = nI (a / 2 ^ k) :=
  pk_ushrN h _ k (s_u k hk)
theorem zn_pow {a b : Nat} (h : a ≤ b) : 2 ^ a ≤ 2 ^ b := Nat.pow_le_pow_right (by decide) h
theorem zn_pos (k : Nat) : 0 < 2 ^ k := Nat.two_pow_pos k
theorem zn_pd (N a b : Nat) : N / 2 ^ a / 2 ^ b = N / 2 ^ (a + b) := by
  rw [Nat.div_div_eq_div_mul, Nat.pow_add]
theorem zn_us {f : Nat → Int32} {k j : Nat} {x : Int32} (h : j = k) : upd f k x j = x := if_pos h
end
section
/-! streams of fields (value, width), the writer and the reader -/
def zs_v : List (Nat × Nat) → Nat
  | [] => 0
  | f :: r => f.1 + 2 ^ f.2 * zs_v r
def zs_l : List (Nat × Nat) → Nat
  | [] => 0
  | f :: r => f.2 + zs_l r
def zs_k : List (Nat × Nat) → Prop
  | [] => True
  | f :: r => f.1 < 2 ^ f.2 ∧ zs_k r
theorem zs_l_app (a b : List (Nat × Nat)) : zs_l (a ++ b) = zs_l a + zs_l b := by
  induction a with
  | nil => show zs_l b = 0 + zs_l b; omega
  | cons f r ih =>
    show f.2 + zs_l (r ++ b) = f.2 + zs_l r + zs_l b
    omega
theorem zs_v_app (a b : List (Nat × Nat)) : zs_v (a ++ b) = zs_v a + 2 ^ zs_l a * zs_v b := by
  induction a with
  | nil => show zs_v b = 0 + 2 ^ 0 * zs_v b; omega
  | cons f r ih =>
    show f.1 + 2 ^ f.2 * zs_v (r ++ b) = f.1 + 2 ^ f.2 * zs_v r + 2 ^ (f.2 + zs_l r) * zs_v b
    rw [ih, Nat.pow_add, Nat.mul_add, Nat.mul_assoc, Nat.add_assoc]
theorem zs_k_app {a b : List (Nat × Nat)} (ha : zs_k a) (hb : zs_k b) : zs_k (a ++ b) := by
  induction a with
  | nil => exact hb
  | cons f r ih => exact ⟨ha.1, ih ha.2⟩
theorem zs_k_l {a b : List (Nat × Nat)} (h : zs_k (a ++ b)) : zs_k a := by
  induction a with
  | nil => exact trivial
  | cons f r ih => exact ⟨h.1, ih h.2⟩
theorem zs_k_r {a b : List (Nat × Nat)} (h : zs_k (a ++ b)) : zs_k b := by
  induction a with
  | nil => exact h
  | cons f r ih => exact ih h.2
theorem zs_lt {a : List (Nat × Nat)} (h : zs_k a) : zs_v a < 2 ^ zs_l a := by
  induction a with
  | nil => exact Nat.lt_succ_self 0
  | cons f r ih =>
    show f.1 + 2 ^ f.2 * zs_v r < 2 ^ (f.2 + zs_l r)
    have h1 := ih h.2
    have h2 := h.1
    rw [Nat.pow_add]
    have h3 : 2 ^ f.2 * (zs_v r + 1) ≤ 2 ^ f.2 * 2 ^ zs_l r := Nat.mul_le_mul_left _ h1
    rw [Nat.mul_add, Nat.mul_one] at h3
    omega
theorem zs_v1 (fs : List (Nat × Nat)) (v n : Nat) : zs_v (fs ++ [(v, n)]) = zs_v fs + 2 ^ zs_l fs * v := by
  rw [zs_v_app]
  show zs_v fs + 2 ^ zs_l fs * (v + 2 ^ n * 0) = _
  rw [Nat.mul_zero, Nat.add_zero]
theorem zs_l1 (fs : List (Nat × Nat)) (v n : Nat) : zs_l (fs ++ [(v, n)]) = zs_l fs + n := by
  rw [zs_l_app]
  show zs_l fs + (n + 0) = _
  rw [Nat.add_zero]
/-- the writer within a flush: l bytes are out -/
def zs_M (N L l : Nat) (bl b bc : Int32) (bo : Nat → Int32) : Prop :=
  bl = nI l ∧ b = nI (N / 2 ^ (8 * l)) ∧ bc = nI (L - 8 * l) ∧ ∀ i, i < l → bo i = sb_b (N / 2 ^ (8 * i) % 256)
/-- the writer holds the stream fs -/
def zs_W (fs : List (Nat × Nat)) (bl b bc : Int32) (bo : Nat → Int32) : Prop :=
  zs_k fs ∧ zs_M (zs_v fs) (zs_l fs) (zs_l fs / 8) bl b bc bo
theorem zs_W0 (bo : Nat → Int32) : zs_W [] 0 0 0 bo := ⟨trivial, rfl, rfl, rfl, fun i hi => absurd hi (Nat.not_lt_zero i)⟩
section
variable {f_bodyLength f_bits f_bitCount f_readAt f_readEnd f_w f_h : Int32} {a_pixels a_users a_buffer a_wide a_high a_start a_right a_down a_factor a_offset a_files a_fileLength a_plain a_body a_residue a_tokens a_distances a_heads a_chain a_weight a_parent a_symbol a_codeLength a_codeOf a_lengthOf a_perLength a_before a_last : Nat → Int32}
theorem zs_flush {post : SX → Prop} {N L : Nat} (hN : N < 2 ^ L) (hL : L ≤ 1864)
    (K : ∀ bl b bc bo, zs_M N L (L / 8) bl b bc bo → post (bl, b, bc, f_readAt, f_readEnd, f_w, f_h, a_pixels, a_users, a_buffer, a_wide, a_high, a_start, a_right, a_down, a_factor, a_offset, a_files, a_fileLength, a_plain, bo, a_residue, a_tokens, a_distances, a_heads, a_chain, a_weight, a_parent, a_symbol, a_codeLength, a_codeOf, a_lengthOf, a_perLength, a_before, a_last)) :
    ∀ d l, l + d = L / 8 → L - 8 * l ≤ 30 → ∀ bl b bc bo, zs_M N L l bl b bc bo → ∀ n, d < n →
      wX_putBits_25 post f_readAt f_readEnd f_w f_h n bl b bc a_pixels a_users a_buffer a_wide a_high a_start a_right a_down a_factor a_offset a_files a_fileLength a_plain bo a_residue a_tokens a_distances a_heads a_chain a_weight a_parent a_symbol a_codeLength a_codeOf a_lengthOf a_perLength a_before a_last := by
  intro d
  induction d with
  | zero =>
    intro l hl h30 bl b bc bo hM n hn
    obtain ⟨n, rfl⟩ : ∃ m, n = m + 1 := ⟨n - 1, by omega⟩
    obtain ⟨e1, e2, e3, e4⟩ := hM
    subst e1 e2 e3
    have e : l = L / 8 := by omega
    subst e
    exact br_t (nI_lt (a := L - 8 * (L / 8)) (b := 8) (by omega) (by decide)) (K _ _ _ _ ⟨rfl, rfl, rfl, e4⟩)
  | succ d ih =>
    intro l hl h30 bl b bc bo hM n hn
    obtain ⟨n, rfl⟩ : ∃ m, n = m + 1 := ⟨n - 1, by omega⟩
    obtain ⟨e1, e2, e3, e4⟩ := hM
    subst e1 e2 e3
    have hlt : N / 2 ^ (8 * l) < 2 ^ 30 := by
      have h1 : N < 2 ^ (8 * l) * 2 ^ 30 := by
        rw [← Nat.pow_add]
        exact Nat.lt_of_lt_of_le hN (zn_pow (by omega))
      exact Nat.div_lt_of_lt_mul h1
    have hn8 : ¬ nI (L - 8 * l) < (8 : Int32) := nI_nlt (a := L - 8 * l) (b := 8) (by omega) (by omega)
    refine br_f hn8 (nm_r (nI_1 l) ⟨vp_in_nI (by omega) (by decide), nm_e ?_⟩)
    refine nm_r (e' := nI (N / 2 ^ (8 * (l + 1)))) ?_ (nm_r (e' := nI (L - 8 * (l + 1))) ?_ ?_)
    · have h := zn_ushr (a := N / 2 ^ (8 * l)) (k := 8) (by decide) (by omega)
      rw [zn_pd] at h
      exact h
    · have h := pk_sub (a := L - 8 * l) (b := 8) (by omega)
      rw [show L - 8 * l - 8 = L - 8 * (l + 1) by omega] at h
      exact h
    · refine ih (l + 1) (by omega) (by omega) _ _ _ _ ⟨rfl, rfl, rfl, ?_⟩ n (by omega)
      intro i hi
      rw [nI_clamp (by omega), pk_vb, zn_b8]
      by_cases e : i = l
      · subst e; rw [pk_us]
      · rw [pk_un e]; exact e4 i (by omega)
theorem zs_put {post : SX → Prop} {fs : List (Nat × Nat)} {pv pn : Int32} (v n : Nat) (hpv : pv = nI v) (hpn : pn = nI n) (hv : v < 2 ^ n) (hn : n ≤ 16) (hL : zs_l fs + n ≤ 1864)
    (W : zs_W fs f_bodyLength f_bits f_bitCount a_body)
    (K : ∀ bl b bc bo, zs_W (fs ++ [(v, n)]) bl b bc bo → post (bl, b, bc, f_readAt, f_readEnd, f_w, f_h, a_pixels, a_users, a_buffer, a_wide, a_high, a_start, a_right, a_down, a_factor, a_offset, a_files, a_fileLength, a_plain, bo, a_residue, a_tokens, a_distances, a_heads, a_chain, a_weight, a_parent, a_symbol, a_codeLength, a_codeOf, a_lengthOf, a_perLength, a_before, a_last)) :
    wpX_putBits post (f_bodyLength, f_bits, f_bitCount, f_readAt, f_readEnd, f_w, f_h, a_pixels, a_users, a_buffer, a_wide, a_high, a_start, a_right, a_down, a_factor, a_offset, a_files, a_fileLength, a_plain, a_body, a_residue, a_tokens, a_distances, a_heads, a_chain, a_weight, a_parent, a_symbol, a_codeLength, a_codeOf, a_lengthOf, a_perLength, a_before, a_last) pv pn := by
  subst hpv hpn
  obtain ⟨hk, e1, e2, e3, e4⟩ := W
  subst e1 e2 e3
  generalize hLd : zs_l fs = L at *
  generalize hNd : zs_v fs = N at *
  have hN : N < 2 ^ L := by rw [← hLd, ← hNd]; exact zs_lt hk
  have hc : L - 8 * (L / 8) < 8 := by omega
  have hp : 2 ^ L = 2 ^ (8 * (L / 8)) * 2 ^ (L - 8 * (L / 8)) := by rw [← Nat.pow_add]; congr 1; omega
  have hlo : N / 2 ^ (8 * (L / 8)) < 2 ^ (L - 8 * (L / 8)) := by
    rw [hp] at hN
    exact Nat.div_lt_of_lt_mul hN
  have hk2 : zs_k (fs ++ [(v, n)]) := zs_k_app hk ⟨hv, trivial⟩
  have hN2 : N + 2 ^ L * v < 2 ^ (L + n) := by
    have h := zs_lt hk2
    rw [zs_v1, zs_l1, hLd, hNd] at h
    exact h
  have hd : (N + 2 ^ L * v) / 2 ^ (8 * (L / 8)) = N / 2 ^ (8 * (L / 8)) + v * 2 ^ (L - 8 * (L / 8)) := by
    rw [hp, Nat.mul_assoc, Nat.add_mul_div_left _ _ (zn_pos _), Nat.mul_comm v]
  have hv2 : v * 2 ^ (L - 8 * (L / 8)) < 2 ^ 24 := by
    have h1 : v * 2 ^ (L - 8 * (L / 8)) < 2 ^ n * 2 ^ (L - 8 * (L / 8)) := Nat.mul_lt_mul_of_pos_right hv (zn_pos _)
    rw [← Nat.pow_add] at h1
    exact Nat.lt_of_lt_of_le h1 (zn_pow (by omega))
  refine nm_r (e' := nI ((N + 2 ^ L * v) / 2 ^ (8 * (L / 8)))) ?_ (nm_r (e' := nI (L + n - 8 * (L / 8))) ?_ ?_)
  · rw [zn_shl (by omega) (by omega), zn_orp hlo, hd]
  · rw [nI_add]
    exact congrArg nI (by omega)
  · refine ⟨_, zs_flush hN2 hL ?_ ((L + n) / 8 - L / 8) (L / 8) (by omega) (by omega) _ _ _ _ ⟨rfl, rfl, rfl, ?_⟩ _ (Nat.lt_succ_self _)⟩
    · intro bl b bc bo hM
      refine K bl b bc bo ⟨hk2, ?_⟩
      rw [zs_v1, zs_l1, hLd, hNd]
      exact hM
    · intro i hi
      rw [e4 i hi]
      congr 1
      have hp2 : 2 ^ L = 2 ^ (8 * i) * (256 * 2 ^ (L - 8 * i - 8)) := by
        rw [show (256 : Nat) = 2 ^ 8 from rfl, ← Nat.pow_add, ← Nat.pow_add]
        congr 1
        omega
      rw [hp2, Nat.mul_assoc, Nat.add_mul_div_left _ _ (zn_pos _), Nat.mul_assoc, Nat.add_mul_mod_self_left]
/-- behind endWriting: whole bytes, the rest zero -/
def zs_E (fs : List (Nat × Nat)) (bl : Int32) (bo : Nat → Int32) : Prop :=
  bl = nI ((zs_l fs + 7) / 8) ∧ ∀ i, i < (zs_l fs + 7) / 8 → bo i = sb_b (zs_v fs / 2 ^ (8 * i) % 256)
theorem zs_end {post : SX → Prop} {fs : List (Nat × Nat)} (hL : zs_l fs ≤ 1856)
    (W : zs_W fs f_bodyLength f_bits f_bitCount a_body)
    (K : ∀ bl b bc bo, zs_E fs bl bo → post (bl, b, bc, f_readAt, f_readEnd, f_w, f_h, a_pixels, a_users, a_buffer, a_wide, a_high, a_start, a_right, a_down, a_factor, a_offset, a_files, a_fileLength, a_plain, bo, a_residue, a_tokens, a_distances, a_heads, a_chain, a_weight, a_parent, a_symbol, a_codeLength, a_codeOf, a_lengthOf, a_perLength, a_before, a_last)) :
    wpX_endWriting post (f_bodyLength, f_bits, f_bitCount, f_readAt, f_readEnd, f_w, f_h, a_pixels, a_users, a_buffer, a_wide, a_high, a_start, a_right, a_down, a_factor, a_offset, a_files, a_fileLength, a_plain, a_body, a_residue, a_tokens, a_distances, a_heads, a_chain, a_weight, a_parent, a_symbol, a_codeLength, a_codeOf, a_lengthOf, a_perLength, a_before, a_last) := by
  have W0 := W
  obtain ⟨hk, e1, e2, e3, e4⟩ := W
  subst e1 e2 e3
  by_cases h : zs_l fs - 8 * (zs_l fs / 8) = 0
  · rw [h] at W0 ⊢
    refine br_t (by decide) (K _ _ _ _ ⟨?_, ?_⟩)
    · exact congrArg nI (by omega)
    · intro i hi
      exact e4 i (by omega)
  · refine br_f (nI_nle (by omega) (by omega)) ?_
    refine zs_put (fs := fs) 0 (8 - (zs_l fs - 8 * (zs_l fs / 8))) rfl ?_ (zn_pos _) (by omega) (by omega) W0 ?_
    · exact pk_sub (a := 8) (by omega)
    · intro bl b bc bo ⟨_, f1, _, _, f4⟩
      rw [zs_v1, Nat.mul_zero, Nat.add_zero, zs_l1] at f4
      rw [zs_l1] at f1
      refine K _ _ _ _ ⟨?_, ?_⟩
      · rw [f1]
        exact congrArg nI (by omega)
      · intro i hi
        exact f4 i (by omega)
/-- the reader stands at the stream fs -/
def zs_Q (T L bc r e : Nat) (b c ra re : Int32) (fi : Nat → Int32) : Prop :=
  c = nI bc ∧ ra = nI r ∧ re = nI e ∧ e ≤ 960 ∧ 8 * r + L ≤ 8 * e + bc ∧ b = nI (T % 2 ^ bc) ∧ ∀ i, r + i < e → fi (r + i) &&& 255 = nI (T / 2 ^ bc / 2 ^ (8 * i) % 256)
def zs_R (fs : List (Nat × Nat)) (b c ra re : Int32) (fi : Nat → Int32) : Prop :=
  zs_k fs ∧ ∃ bc r e, bc < 8 ∧ zs_Q (zs_v fs) (zs_l fs) bc r e b c ra re fi
theorem zs_load {post : Int32 → SX → Prop} {T L n : Nat} (hn : n ≤ 16) (hnL : n ≤ L)
    (K : ∀ bc r e b c ra, n ≤ bc → bc < n + 8 → zs_Q T L bc r e b c ra f_readEnd a_files →
      post (nI (T % 2 ^ n)) (f_bodyLength, nI (T % 2 ^ bc / 2 ^ n), nI (bc - n), ra, f_readEnd, f_w, f_h, a_pixels, a_users, a_buffer, a_wide, a_high, a_start, a_right, a_down, a_factor, a_offset, a_files, a_fileLength, a_plain, a_body, a_residue, a_tokens, a_distances, a_heads, a_chain, a_weight, a_parent, a_symbol, a_codeLength, a_codeOf, a_lengthOf, a_perLength, a_before, a_last)) :
    ∀ m bc r e b c ra, n - bc < m → bc < n + 8 → zs_Q T L bc r e b c ra f_readEnd a_files →
      wX_getBits_0 post (nI n) f_bodyLength f_readEnd f_w f_h a_pixels a_users a_buffer a_wide a_high a_start a_right a_down a_factor a_offset a_files a_fileLength a_plain a_body a_residue a_tokens a_distances a_heads a_chain a_weight a_parent a_symbol a_codeLength a_codeOf a_lengthOf a_perLength a_before a_last m b c ra := by
  intro m
  induction m with
  | zero => intro bc r e b c ra h; omega
  | succ m ih =>
    intro bc r e b c ra hm h8 hQ
    have hQ0 := hQ
    obtain ⟨e1, e2, e3, e4, e5, e6, e7⟩ := hQ
    subst e1 e2 e6
    have hb : T % 2 ^ bc < 2 ^ 24 := Nat.lt_of_lt_of_le (Nat.mod_lt _ (zn_pos _)) (zn_pow (by omega))
    by_cases h : n ≤ bc
    · refine br_t (nI_le h (by omega)) (nm_r (e' := nI (T % 2 ^ n)) ?_ (nm_r (e' := nI (T % 2 ^ bc / 2 ^ n)) ?_ (nm_r (e' := nI (bc - n)) ?_ (K bc r e _ _ _ h h8 hQ0))))
      · rw [zn_mask (by omega), zn_andm, Nat.mod_mod_of_dvd _ (Nat.pow_dvd_pow 2 h)]
      · exact zn_ushr (by omega) (by omega)
      · exact pk_sub h
    · have hr : r < e := by omega
      have hre : ¬ f_readEnd ≤ nI r := by rw [e3]; exact nI_ge hr (by omega)
      refine br_f (nI_ge (by omega) (by omega)) (br_f hre ⟨vp_in_nI (by omega) (by decide), ?_⟩)
      have hz : a_files (nI r).toNatClampNeg &&& 255 = nI (T / 2 ^ bc % 256) := by
        have := e7 0 hr
        rw [Nat.mul_zero, Nat.pow_zero, Nat.div_one, Nat.add_zero] at this
        rw [nI_clamp (by omega)]
        exact this
      rw [hz]
      unfold wX_getBits_36
      have hby : T / 2 ^ bc % 256 < 256 := Nat.mod_lt _ (by decide)
      have hp8 : T / 2 ^ bc % 256 * 2 ^ bc < 2 ^ 32 := by
        have h1 : T / 2 ^ bc % 256 * 2 ^ bc < 256 * 2 ^ bc := Nat.mul_lt_mul_of_pos_right hby (zn_pos _)
        have h2 : 256 * 2 ^ bc ≤ 2 ^ 32 := by
          rw [show (256 : Nat) = 2 ^ 8 from rfl, ← Nat.pow_add]
          exact zn_pow (by omega)
        omega
      refine nm_r (nI_1 r) (nm_r (e' := nI (T % 2 ^ (bc + 8))) ?_ (nm_r (e' := nI (bc + 8)) ?_ ?_))
      · rw [zn_shl (by omega) hp8, zn_orp (Nat.mod_lt _ (zn_pos _)), Nat.pow_add, Nat.mod_mul, Nat.mul_comm (2 ^ bc)]
      · exact nI_add bc 8
      · refine ih (bc + 8) (r + 1) e _ _ _ (by omega) (by omega) ⟨rfl, rfl, e3, e4, by omega, rfl, ?_⟩
        intro i hi
        have h1 := e7 (i + 1) (by omega)
        rw [zn_pd] at h1 ⊢
        rw [show r + 1 + i = r + (i + 1) by omega, h1, show bc + 8 * (i + 1) = bc + 8 + 8 * i by omega]
theorem zs_get {post : Int32 → SX → Prop} {fs : List (Nat × Nat)} {v n : Nat} {pn : Int32} (hpn : pn = nI n) (hn : n ≤ 16)
    (R : zs_R ((v, n) :: fs) f_bits f_bitCount f_readAt f_readEnd a_files)
    (K : ∀ b c ra, zs_R fs b c ra f_readEnd a_files → post (nI v) (f_bodyLength, b, c, ra, f_readEnd, f_w, f_h, a_pixels, a_users, a_buffer, a_wide, a_high, a_start, a_right, a_down, a_factor, a_offset, a_files, a_fileLength, a_plain, a_body, a_residue, a_tokens, a_distances, a_heads, a_chain, a_weight, a_parent, a_symbol, a_codeLength, a_codeOf, a_lengthOf, a_perLength, a_before, a_last)) :
    wpX_getBits post (f_bodyLength, f_bits, f_bitCount, f_readAt, f_readEnd, f_w, f_h, a_pixels, a_users, a_buffer, a_wide, a_high, a_start, a_right, a_down, a_factor, a_offset, a_files, a_fileLength, a_plain, a_body, a_residue, a_tokens, a_distances, a_heads, a_chain, a_weight, a_parent, a_symbol, a_codeLength, a_codeOf, a_lengthOf, a_perLength, a_before, a_last) pn := by
  subst hpn
  obtain ⟨⟨hv, hk⟩, bc, r, e, h8, hQ⟩ := R
  have hT : zs_v ((v, n) :: fs) = v + 2 ^ n * zs_v fs := rfl
  have hLn : zs_l ((v, n) :: fs) = n + zs_l fs := rfl
  rw [hT, hLn] at hQ
  have hm : (v + 2 ^ n * zs_v fs) % 2 ^ n = v := by
    rw [Nat.add_mul_mod_self_left]
    exact Nat.mod_eq_of_lt hv
  have hd : (v + 2 ^ n * zs_v fs) / 2 ^ n = zs_v fs := by
    rw [Nat.add_mul_div_left _ _ (zn_pos _), Nat.div_eq_of_lt hv, Nat.zero_add]
  refine ⟨_, zs_load (T := v + 2 ^ n * zs_v fs) (L := n + zs_l fs) hn (by omega) ?_ (n + 1) bc r e _ _ _ (by omega) (by omega) hQ⟩
  intro bc2 r2 e2 b2 c2 ra2 h1 h2 hQ2
  rw [hm]
  obtain ⟨g1, g2, g3, g4, g5, g6, g7⟩ := hQ2
  have hp : 2 ^ bc2 = 2 ^ n * 2 ^ (bc2 - n) := by rw [← Nat.pow_add]; congr 1; omega
  refine K _ _ _ ⟨hk, bc2 - n, r2, e2, by omega, rfl, g2, g3, g4, by omega, ?_, ?_⟩
  · rw [hp, Nat.mod_mul_right_div_self, hd]
  · intro i hi
    rw [g7 i hi, hp, ← Nat.div_div_eq_div_mul, hd]
end
end
section
/-! format 0: runs and stretches -/
/-- the values on their way -/
def zp_P (pl : Nat → Int32) (p : Nat → Nat) (n : Nat) : Prop := ∀ k, k < n → p k < 256 ∧ pl k = nI (p k)
theorem zp_up {pl : Nat → Int32} {p : Nat → Nat} {n : Nat} {x : Int32} (h : zp_P pl p n) (h1 : p n < 256) (h2 : x = nI (p n)) : zp_P (upd pl n x) p (n + 1) := by
  intro k hk
  by_cases e : k = n
  · subst e; rw [pk_us]; exact ⟨h1, h2⟩
  · rw [pk_un e]; exact h k (by omega)
theorem zp_mono {pl : Nat → Int32} {p : Nat → Nat} {n m : Nat} (h : zp_P pl p n) (hm : m ≤ n) : zp_P pl p m := fun k hk => h k (by omega)
theorem zp_0 (pl : Nat → Int32) (p : Nat → Nat) : zp_P pl p 0 := fun k hk => absurd hk (Nat.not_lt_zero k)
def z0_px (p : Nat → Nat) (k : Nat) : Nat → List (Nat × Nat)
  | 0 => []
  | m + 1 => (p k, 8) :: z0_px p (k + 1) m
theorem z0_pxl (p : Nat → Nat) : ∀ m k, zs_l (z0_px p k m) = 8 * m := by
  intro m
  induction m with
  | zero => intro k; rfl
  | succ m ih =>
    intro k
    show 8 + zs_l (z0_px p (k + 1) m) = _
    rw [ih]
    omega
def z0_D (n : Nat) (p : Nat → Nat) : Nat → Nat → List (Nat × Nat) → Prop
  | 0, k, fs => k = n ∧ fs = []
  | m + 1, k, fs => ∃ r fs', 1 ≤ r ∧ k + r ≤ n ∧ z0_D n p m (k + r) fs' ∧ ((fs = (127 + r, 8) :: (p k, 8) :: fs' ∧ ∀ j, j < r → p (k + j) = p k) ∨ fs = (r - 1, 8) :: (z0_px p k r ++ fs'))
theorem z0_Dle {n : Nat} {p : Nat → Nat} : ∀ m k fs, z0_D n p m k fs → k ≤ n := by
  intro m
  induction m with
  | zero => intro k fs h; exact Nat.le_of_eq h.1
  | succ m ih => intro k fs ⟨r, fs', h1, h2, _⟩; omega
section
variable {f_bodyLength f_bits f_bitCount f_readAt f_readEnd f_w f_h : Int32} {a_pixels a_users a_buffer a_wide a_high a_start a_right a_down a_factor a_offset a_files a_fileLength a_plain a_body a_residue a_tokens a_distances a_heads a_chain a_weight a_parent a_symbol a_codeLength a_codeOf a_lengthOf a_perLength a_before a_last : Nat → Int32}
theorem z0_run {post : Int32 → Prop} {n k : Nat} {p : Nat → Nat} (hk : k < n) (hn : n ≤ 64) (P : zp_P a_plain p n)
    (K : ∀ r, 1 ≤ r → k + r ≤ n → (∀ j, j < r → p (k + j) = p k) → (r = 1 → k + 1 = n ∨ p (k + 1) ≠ p k) → post (nI r)) :
    ∀ m r, n - (k + r) < m → 1 ≤ r → k + r ≤ n → (∀ j, j < r → p (k + j) = p k) → wX_runAt_4 post (nI k) (nI n) f_bodyLength f_bits f_bitCount f_readAt f_readEnd f_w f_h a_pixels a_users a_buffer a_wide a_high a_start a_right a_down a_factor a_offset a_files a_fileLength a_plain a_body a_residue a_tokens a_distances a_heads a_chain a_weight a_parent a_symbol a_codeLength a_codeOf a_lengthOf a_perLength a_before a_last m (nI (k + r)) := by
  intro m
  induction m with
  | zero => intro r h; omega
  | succ m ih =>
    intro r hm h1 h2 h3
    have es : nI (k + r) - nI k = nI r := by
      rw [pk_sub (by omega)]
      exact congrArg nI (by omega)
    by_cases h : n ≤ k + r
    · refine br_t (nI_le h (by omega)) ?_
      rw [es]
      exact K r h1 h2 h3 (fun e => Or.inl (by omega))
    · refine br_f (nI_ge (by omega) (by omega)) ⟨vp_in_nI (by omega) (by decide), vp_in_nI (by omega) (by decide), ?_⟩
      rw [nI_clamp (by omega), nI_clamp (by omega), (P (k + r) (by omega)).2, (P k hk).2]
      have b1 := (P (k + r) (by omega)).1
      have b2 := (P k hk).1
      by_cases e : p (k + r) = p k
      · refine br_t (by rw [e]) (nm_r (nI_1 _) ?_)
        exact ih (r + 1) (by omega) (by omega) (by omega) (fun j hj => by
          by_cases e2 : j = r
          · rw [e2]; exact e
          · exact h3 j (by omega))
      · refine br_f (fun z => e ((nI_eq (by omega) (by omega)).mp z)) ?_
        rw [es]
        exact K r h1 h2 h3 (fun e1 => Or.inr (by rw [e1] at e; exact e))
theorem z0_runAt {post : Int32 → Prop} {n k : Nat} {p : Nat → Nat} (hk : k < n) (hn : n ≤ 64) (P : zp_P a_plain p n)
    (K : ∀ r, 1 ≤ r → k + r ≤ n → (∀ j, j < r → p (k + j) = p k) → (r = 1 → k + 1 = n ∨ p (k + 1) ≠ p k) → post (nI r)) :
    wpX_runAt post (f_bodyLength, f_bits, f_bitCount, f_readAt, f_readEnd, f_w, f_h, a_pixels, a_users, a_buffer, a_wide, a_high, a_start, a_right, a_down, a_factor, a_offset, a_files, a_fileLength, a_plain, a_body, a_residue, a_tokens, a_distances, a_heads, a_chain, a_weight, a_parent, a_symbol, a_codeLength, a_codeOf, a_lengthOf, a_perLength, a_before, a_last) (nI k) (nI n) := by
  refine nm_r (nI_1 k) ⟨n + 1, ?_⟩
  exact z0_run hk hn P K (n + 1) 1 (by omega) (by omega) (by omega) (fun j hj => by
    rw [show j = 0 by omega]; rfl)
end
section
variable {f_bodyLength f_bits f_bitCount f_readAt f_readEnd f_w f_h : Int32} {a_pixels a_users a_buffer a_wide a_high a_start a_right a_down a_factor a_offset a_files a_fileLength a_plain a_body a_residue a_tokens a_distances a_heads a_chain a_weight a_parent a_symbol a_codeLength a_codeOf a_lengthOf a_perLength a_before a_last : Nat → Int32}
theorem z0_pxs {post : Int32 → SX → Prop} {n e : Nat} {p : Nat → Nat} (he : e ≤ n) (hn : n ≤ 64) (P : zp_P a_plain p n) :
    ∀ d x fs bl b bc bo, x + d = e → zs_l fs + 8 * d ≤ 1864 → zs_W fs bl b bc bo →
      (∀ bl b bc bo, zs_W (fs ++ z0_px p x d) bl b bc bo → post (nI e) (bl, b, bc, f_readAt, f_readEnd, f_w, f_h, a_pixels, a_users, a_buffer, a_wide, a_high, a_start, a_right, a_down, a_factor, a_offset, a_files, a_fileLength, a_plain, bo, a_residue, a_tokens, a_distances, a_heads, a_chain, a_weight, a_parent, a_symbol, a_codeLength, a_codeOf, a_lengthOf, a_perLength, a_before, a_last)) →
      ∀ m, d < m → wX_packStretch_51 post (nI e) m (nI x) bl b bc f_readAt f_readEnd f_w f_h a_pixels a_users a_buffer a_wide a_high a_start a_right a_down a_factor a_offset a_files a_fileLength a_plain bo a_residue a_tokens a_distances a_heads a_chain a_weight a_parent a_symbol a_codeLength a_codeOf a_lengthOf a_perLength a_before a_last := by
  intro d
  induction d with
  | zero =>
    intro x fs bl b bc bo hx hl hW K m hm
    obtain ⟨m, rfl⟩ : ∃ q, m = q + 1 := ⟨m - 1, by omega⟩
    refine br_t (nI_le (by omega) (by omega)) (K _ _ _ _ ?_)
    show zs_W (fs ++ []) _ _ _ _
    rw [List.append_nil]
    exact hW
  | succ d ih =>
    intro x fs bl b bc bo hx hl hW K m hm
    obtain ⟨m, rfl⟩ : ∃ q, m = q + 1 := ⟨m - 1, by omega⟩
    have b1 := (P x (by omega)).1
    refine br_f (nI_ge (by omega) (by omega)) ⟨vp_in_nI (by omega) (by decide), ?_⟩
    rw [nI_clamp (by omega)]
    refine zs_put (fs := fs) (p x) 8 (P x (by omega)).2 rfl b1 (by decide) (by omega) hW ?_
    intro bl2 b2 bc2 bo2 hW2
    refine nm_r (nI_1 x) ?_
    refine ih (x + 1) (fs ++ [(p x, 8)]) bl2 b2 bc2 bo2 (by omega) (by rw [zs_l1]; omega) hW2 ?_ m (by omega)
    intro bl3 b3 bc3 bo3 hW3
    rw [List.append_assoc] at hW3
    exact K _ _ _ _ hW3
theorem z0_37 {post : Int32 → SX → Prop} {n k r : Nat} {p : Nat → Nat} {fs : List (Nat × Nat)} (hr : 1 ≤ r) (he : k + r ≤ n) (hn : n ≤ 64) (P : zp_P a_plain p n)
    (W : zs_W fs f_bodyLength f_bits f_bitCount a_body) (hl : zs_l fs + 8 + 8 * r ≤ 1864)
    (K : ∀ bl b bc bo, zs_W (fs ++ (r - 1, 8) :: z0_px p k r) bl b bc bo → post (nI (k + r)) (bl, b, bc, f_readAt, f_readEnd, f_w, f_h, a_pixels, a_users, a_buffer, a_wide, a_high, a_start, a_right, a_down, a_factor, a_offset, a_files, a_fileLength, a_plain, bo, a_residue, a_tokens, a_distances, a_heads, a_chain, a_weight, a_parent, a_symbol, a_codeLength, a_codeOf, a_lengthOf, a_perLength, a_before, a_last)) :
    wX_packStretch_37 post (nI k) (nI (k + r)) f_bodyLength f_bits f_bitCount f_readAt f_readEnd f_w f_h a_pixels a_users a_buffer a_wide a_high a_start a_right a_down a_factor a_offset a_files a_fileLength a_plain a_body a_residue a_tokens a_distances a_heads a_chain a_weight a_parent a_symbol a_codeLength a_codeOf a_lengthOf a_perLength a_before a_last := by
  have e1 : (nI (k + r) - nI k) - 1 = nI (r - 1) := by
    rw [pk_sub (by omega)]
    have h := pk_sub (a := k + r - k) (b := 1) (by omega)
    rw [show k + r - k - 1 = r - 1 by omega] at h
    exact h
  refine zs_put (fs := fs) (r - 1) 8 e1 rfl (by omega) (by decide) (by omega) W ?_
  intro bl b bc bo hW
  refine ⟨r + 1, z0_pxs he hn P r k (fs ++ [(r - 1, 8)]) bl b bc bo rfl (by rw [zs_l1]; omega) hW ?_ _ (Nat.lt_succ_self r)⟩
  intro bl2 b2 bc2 bo2 hW2
  rw [List.append_assoc] at hW2
  exact K _ _ _ _ hW2
theorem z0_str {post : Int32 → SX → Prop} {n k : Nat} {p : Nat → Nat} {fs : List (Nat × Nat)} (hn : n ≤ 64) (P : zp_P a_plain p n) (hk : k < n)
    (hne : k + 1 = n ∨ p (k + 1) ≠ p k)
    (W : zs_W fs f_bodyLength f_bits f_bitCount a_body) (hl : zs_l fs + 8 + 8 * (n - k) ≤ 1864)
    (K : ∀ r, 1 ≤ r → k + r ≤ n → ∀ bl b bc bo, zs_W (fs ++ (r - 1, 8) :: z0_px p k r) bl b bc bo → post (nI (k + r)) (bl, b, bc, f_readAt, f_readEnd, f_w, f_h, a_pixels, a_users, a_buffer, a_wide, a_high, a_start, a_right, a_down, a_factor, a_offset, a_files, a_fileLength, a_plain, bo, a_residue, a_tokens, a_distances, a_heads, a_chain, a_weight, a_parent, a_symbol, a_codeLength, a_codeOf, a_lengthOf, a_perLength, a_before, a_last)) :
    ∀ m r, n - (k + r) < m → k + r ≤ n → wX_packStretch_2 post (nI k) (nI n) f_bodyLength f_bits f_bitCount f_readAt f_readEnd f_w f_h a_pixels a_users a_buffer a_wide a_high a_start a_right a_down a_factor a_offset a_files a_fileLength a_plain a_body a_residue a_tokens a_distances a_heads a_chain a_weight a_parent a_symbol a_codeLength a_codeOf a_lengthOf a_perLength a_before a_last m (nI (k + r)) := by
  intro m
  induction m with
  | zero => intro r h; omega
  | succ m ih =>
    intro r hm h2
    have e1 : nI (k + r) + 1 = nI (k + r + 1) := nI_1 _
    by_cases h : n ≤ k + r
    · exact br_t (nI_le h (by omega)) (z0_37 (by omega) h2 hn P W (by omega) (K r (by omega) h2))
    · refine br_f (nI_ge (by omega) (by omega)) ?_
      rw [e1]
      by_cases h3 : k + r + 1 = n
      · exact br_t (by rw [h3]) (nm_e (ih (r + 1) (by omega) (by omega)))
      · refine br_f (fun z => h3 ((nI_eq (by omega) (by omega)).mp z)) ⟨vp_in_nI (by omega) (by decide), vp_in_nI (by omega) (by decide), ?_⟩
        rw [nI_clamp (by omega), nI_clamp (by omega), (P (k + r) (by omega)).2, (P (k + r + 1) (by omega)).2]
        have b1 := (P (k + r) (by omega)).1
        have b2 := (P (k + r + 1) (by omega)).1
        by_cases e : p (k + r) = p (k + r + 1)
        · have hr : 1 ≤ r := by
            rcases Nat.eq_zero_or_pos r with z | z
            · subst z
              rcases hne with q | q
              · exact absurd q h3
              · exact absurd e.symm q
            · exact z
          exact br_t (by rw [e]) (z0_37 hr h2 hn P W (by omega) (K r hr h2))
        · exact br_f (fun z => e ((nI_eq (by omega) (by omega)).mp z)) (nm_e (ih (r + 1) (by omega) (by omega)))
theorem z0_packStretch {post : Int32 → SX → Prop} {n k : Nat} {p : Nat → Nat} {fs : List (Nat × Nat)} (hn : n ≤ 64) (P : zp_P a_plain p n) (hk : k < n)
    (hne : k + 1 = n ∨ p (k + 1) ≠ p k)
    (W : zs_W fs f_bodyLength f_bits f_bitCount a_body) (hl : zs_l fs + 8 + 8 * (n - k) ≤ 1864)
    (K : ∀ r, 1 ≤ r → k + r ≤ n → ∀ bl b bc bo, zs_W (fs ++ (r - 1, 8) :: z0_px p k r) bl b bc bo → post (nI (k + r)) (bl, b, bc, f_readAt, f_readEnd, f_w, f_h, a_pixels, a_users, a_buffer, a_wide, a_high, a_start, a_right, a_down, a_factor, a_offset, a_files, a_fileLength, a_plain, bo, a_residue, a_tokens, a_distances, a_heads, a_chain, a_weight, a_parent, a_symbol, a_codeLength, a_codeOf, a_lengthOf, a_perLength, a_before, a_last)) :
    wpX_packStretch post (f_bodyLength, f_bits, f_bitCount, f_readAt, f_readEnd, f_w, f_h, a_pixels, a_users, a_buffer, a_wide, a_high, a_start, a_right, a_down, a_factor, a_offset, a_files, a_fileLength, a_plain, a_body, a_residue, a_tokens, a_distances, a_heads, a_chain, a_weight, a_parent, a_symbol, a_codeLength, a_codeOf, a_lengthOf, a_perLength, a_before, a_last) (nI k) (nI n) :=
  ⟨n + 1, z0_str hn P hk hne W hl K (n + 1) 0 (by omega) (by omega)⟩
theorem z0_pk {post : SX → Prop} {n : Nat} {p : Nat → Nat} (hn : n ≤ 64) (P : zp_P a_plain p n) :
    ∀ m k fs bl b bc bo, n - k < m → k ≤ n → zs_l fs ≤ 16 * k → zs_W fs bl b bc bo →
      (∀ c fs' bl b bc bo, z0_D n p c k fs' → zs_l (fs ++ fs') ≤ 16 * n → zs_W (fs ++ fs') bl b bc bo → post (bl, b, bc, f_readAt, f_readEnd, f_w, f_h, a_pixels, a_users, a_buffer, a_wide, a_high, a_start, a_right, a_down, a_factor, a_offset, a_files, a_fileLength, a_plain, bo, a_residue, a_tokens, a_distances, a_heads, a_chain, a_weight, a_parent, a_symbol, a_codeLength, a_codeOf, a_lengthOf, a_perLength, a_before, a_last)) →
      wX_packRuns_12 post (nI n) m (nI k) bl b bc f_readAt f_readEnd f_w f_h a_pixels a_users a_buffer a_wide a_high a_start a_right a_down a_factor a_offset a_files a_fileLength a_plain bo a_residue a_tokens a_distances a_heads a_chain a_weight a_parent a_symbol a_codeLength a_codeOf a_lengthOf a_perLength a_before a_last := by
  intro m
  induction m with
  | zero => intro k fs bl b bc bo h; omega
  | succ m ih =>
    intro k fs bl b bc bo hm hkn hl hW K
    by_cases h : n ≤ k
    · refine br_t (nI_le h (by omega)) (K 0 [] _ _ _ _ ⟨by omega, rfl⟩ ?_ ?_)
      · rw [List.append_nil]; omega
      · rw [List.append_nil]; exact hW
    · refine br_f (nI_ge (by omega) (by omega)) (z0_runAt (by omega) hn P ?_)
      intro r h1 h2 h3 h4
      by_cases hr : r = 1
      · subst hr
        refine br_t (by decide) (z0_packStretch hn P (by omega) (h4 rfl) hW (by omega) ?_)
        intro q hq1 hq2 bl2 b2 bc2 bo2 hW2
        refine ih (k + q) (fs ++ (q - 1, 8) :: z0_px p k q) bl2 b2 bc2 bo2 (by omega) hq2 ?_ hW2 ?_
        · rw [zs_l_app]
          show zs_l fs + (8 + zs_l (z0_px p k q)) ≤ _
          rw [z0_pxl]
          omega
        · intro c fs' bl3 b3 bc3 bo3 hD hl3 hW3
          rw [List.append_assoc] at hW3 hl3
          exact K (c + 1) _ _ _ _ _ ⟨q, fs', hq1, hq2, hD, Or.inr rfl⟩ hl3 hW3
      · have hr1 : ¬ nI r ≤ (1 : Int32) := nI_ge (a := 1) (b := r) (by omega) (by omega)
        have e1 : (128 + nI r) - 1 = nI (127 + r) := by
          have h5 : (128 : Int32) + nI r = nI (128 + r) := nI_add 128 r
          rw [h5]
          have h6 := pk_sub (a := 128 + r) (b := 1) (by omega)
          rw [show 128 + r - 1 = 127 + r by omega] at h6
          exact h6
        refine br_f hr1 (zs_put (fs := fs) (127 + r) 8 e1 rfl (by omega) (by decide) (by omega) hW ?_)
        intro bl2 b2 bc2 bo2 hW2
        refine ⟨vp_in_nI (by omega) (by decide), ?_⟩
        rw [nI_clamp (by omega)]
        have b1 := (P k (by omega)).1
        refine zs_put (fs := fs ++ [(127 + r, 8)]) (p k) 8 (P k (by omega)).2 rfl b1 (by decide) (by rw [zs_l1]; omega) hW2 ?_
        intro bl3 b3 bc3 bo3 hW3
        refine nm_r (nI_add k r) ?_
        refine ih (k + r) (fs ++ [(127 + r, 8)] ++ [(p k, 8)]) bl3 b3 bc3 bo3 (by omega) h2 (by rw [zs_l1, zs_l1]; omega) hW3 ?_
        intro c fs' bl4 b4 bc4 bo4 hD hl4 hW4
        rw [List.append_assoc, List.append_assoc] at hW4 hl4
        exact K (c + 1) _ _ _ _ _ ⟨r, fs', h1, h2, hD, Or.inl ⟨rfl, h3⟩⟩ hl4 hW4
theorem z0_pack {post : SX → Prop} {w h : Nat} {p : Nat → Nat} (hw : f_w = nI w) (hh : f_h = nI h) (hn : w * h ≤ 64) (P : zp_P a_plain p (w * h))
    (W : zs_W [] f_bodyLength f_bits f_bitCount a_body)
    (K : ∀ c fs bl b bc bo, z0_D (w * h) p c 0 fs → zs_l fs ≤ 1024 → zs_W fs bl b bc bo → post (bl, b, bc, f_readAt, f_readEnd, f_w, f_h, a_pixels, a_users, a_buffer, a_wide, a_high, a_start, a_right, a_down, a_factor, a_offset, a_files, a_fileLength, a_plain, bo, a_residue, a_tokens, a_distances, a_heads, a_chain, a_weight, a_parent, a_symbol, a_codeLength, a_codeOf, a_lengthOf, a_perLength, a_before, a_last)) :
    wpX_packRuns post (f_bodyLength, f_bits, f_bitCount, f_readAt, f_readEnd, f_w, f_h, a_pixels, a_users, a_buffer, a_wide, a_high, a_start, a_right, a_down, a_factor, a_offset, a_files, a_fileLength, a_plain, a_body, a_residue, a_tokens, a_distances, a_heads, a_chain, a_weight, a_parent, a_symbol, a_codeLength, a_codeOf, a_lengthOf, a_perLength, a_before, a_last) := by
  subst hw hh
  refine nm_r (pk_mul w h) ⟨w * h + 1, ?_⟩
  refine z0_pk hn P (w * h + 1) 0 [] _ _ _ _ (by omega) (by omega) (Nat.le_refl 0) W ?_
  intro c fs bl b bc bo hD hl hW
  rw [List.nil_append] at hl hW
  exact K c fs bl b bc bo hD (by omega) hW
end
section
variable {f_bodyLength f_bits f_bitCount f_readAt f_readEnd f_w f_h : Int32} {a_pixels a_users a_buffer a_wide a_high a_start a_right a_down a_factor a_offset a_files a_fileLength a_plain a_body a_residue a_tokens a_distances a_heads a_chain a_weight a_parent a_symbol a_codeLength a_codeOf a_lengthOf a_perLength a_before a_last : Nat → Int32}
/-- the rest of a run -/
theorem z0_ur {post : SX → Prop} {J2 : Int32 → Int32 → Int32 → Int32 → Int32 → Int32 → Int32 → Int32 → (Nat → Int32) → (Nat → Int32) → (Nat → Int32) → (Nat → Int32) → (Nat → Int32) → (Nat → Int32) → (Nat → Int32) → (Nat → Int32) → (Nat → Int32) → (Nat → Int32) → (Nat → Int32) → (Nat → Int32) → (Nat → Int32) → (Nat → Int32) → (Nat → Int32) → (Nat → Int32) → (Nat → Int32) → (Nat → Int32) → (Nat → Int32) → (Nat → Int32) → (Nat → Int32) → (Nat → Int32) → (Nat → Int32) → (Nat → Int32) → (Nat → Int32) → (Nat → Int32) → (Nat → Int32) → (Nat → Int32) → Prop} {n k r : Nat} {p : Nat → Nat} (hn : n ≤ 64) (he : k + r ≤ n) (hpk : p k < 256) (hp : ∀ j, j < r → p (k + j) = p k)
    (K : ∀ pl, zp_P pl p (k + r) → J2 (nI (k + r)) f_bodyLength f_bits f_bitCount f_readAt f_readEnd f_w f_h a_pixels a_users a_buffer a_wide a_high a_start a_right a_down a_factor a_offset a_files a_fileLength pl a_body a_residue a_tokens a_distances a_heads a_chain a_weight a_parent a_symbol a_codeLength a_codeOf a_lengthOf a_perLength a_before a_last) :
    ∀ d j pl, j + d = r → 1 ≤ j → zp_P pl p (k + j) → ∀ m, d < m →
      wX_unpackRuns_35 post J2 (nI (127 + r)) (nI r) m (nI (k + j)) (nI (p k)) (nI j) f_bodyLength f_bits f_bitCount f_readAt f_readEnd f_w f_h a_pixels a_users a_buffer a_wide a_high a_start a_right a_down a_factor a_offset a_files a_fileLength pl a_body a_residue a_tokens a_distances a_heads a_chain a_weight a_parent a_symbol a_codeLength a_codeOf a_lengthOf a_perLength a_before a_last := by
  intro d
  induction d with
  | zero =>
    intro j pl hj h1 hP m hm
    obtain ⟨m, rfl⟩ : ∃ q, m = q + 1 := ⟨m - 1, by omega⟩
    have e : j = r := by omega
    subst e
    exact br_t (nI_le (by omega) (by omega)) (K pl hP)
  | succ d ih =>
    intro j pl hj h1 hP m hm
    obtain ⟨m, rfl⟩ : ∃ q, m = q + 1 := ⟨m - 1, by omega⟩
    refine br_f (nI_ge (by omega) (by omega)) (br_f (nI_ge (b := 64) (by omega) (by decide)) (br_f (nI_nlt (a := 127 + r) (b := 128) (by omega) (by omega)) (br_f (nI_ne0 (by omega) (by omega)) ?_)))
    unfold wX_unpackRuns_67
    refine nm_r (nI_1 _) ⟨vp_in_nI (by omega) (by decide), nm_e (nm_r (nI_1 _) ?_)⟩
    rw [nI_clamp (by omega), zn_vs2 (by omega)]
    refine ih (j + 1) _ (by omega) (by omega) ?_ m (by omega)
    exact zp_up hP (by rw [hp j (by omega)]; exact hpk) (by rw [hp j (by omega)])
/-- a stretch -/
theorem z0_us {post : SX → Prop} {J2 : Int32 → Int32 → Int32 → Int32 → Int32 → Int32 → Int32 → Int32 → (Nat → Int32) → (Nat → Int32) → (Nat → Int32) → (Nat → Int32) → (Nat → Int32) → (Nat → Int32) → (Nat → Int32) → (Nat → Int32) → (Nat → Int32) → (Nat → Int32) → (Nat → Int32) → (Nat → Int32) → (Nat → Int32) → (Nat → Int32) → (Nat → Int32) → (Nat → Int32) → (Nat → Int32) → (Nat → Int32) → (Nat → Int32) → (Nat → Int32) → (Nat → Int32) → (Nat → Int32) → (Nat → Int32) → (Nat → Int32) → (Nat → Int32) → (Nat → Int32) → (Nat → Int32) → (Nat → Int32) → Prop} {n k r : Nat} {p : Nat → Nat} {fs : List (Nat × Nat)} (hn : n ≤ 64) (he : k + r ≤ n)
    (K : ∀ b c ra pl, zs_R fs b c ra f_readEnd a_files → zp_P pl p (k + r) → J2 (nI (k + r)) f_bodyLength b c ra f_readEnd f_w f_h a_pixels a_users a_buffer a_wide a_high a_start a_right a_down a_factor a_offset a_files a_fileLength pl a_body a_residue a_tokens a_distances a_heads a_chain a_weight a_parent a_symbol a_codeLength a_codeOf a_lengthOf a_perLength a_before a_last) :
    ∀ d j b c ra pl vv, j + d = r → zp_P pl p (k + j) → zs_R (z0_px p (k + j) d ++ fs) b c ra f_readEnd a_files → ∀ m, d < m →
      wX_unpackRuns_35 post J2 (nI (r - 1)) (nI r) m (nI (k + j)) vv (nI j) f_bodyLength b c ra f_readEnd f_w f_h a_pixels a_users a_buffer a_wide a_high a_start a_right a_down a_factor a_offset a_files a_fileLength pl a_body a_residue a_tokens a_distances a_heads a_chain a_weight a_parent a_symbol a_codeLength a_codeOf a_lengthOf a_perLength a_before a_last := by
  intro d
  induction d with
  | zero =>
    intro j b c ra pl vv hj hP hR m hm
    obtain ⟨m, rfl⟩ : ∃ q, m = q + 1 := ⟨m - 1, by omega⟩
    have e : j = r := by omega
    subst e
    exact br_t (nI_le (by omega) (by omega)) (K b c ra pl hR hP)
  | succ d ih =>
    intro j b c ra pl vv hj hP hR m hm
    obtain ⟨m, rfl⟩ : ∃ q, m = q + 1 := ⟨m - 1, by omega⟩
    have hb : p (k + j) < 256 := hR.1.1
    refine br_f (nI_ge (by omega) (by omega)) (br_f (nI_ge (b := 64) (by omega) (by decide)) (br_t (nI_lt (a := r - 1) (b := 128) (by omega) (by decide)) ?_))
    unfold wX_unpackRuns_59
    refine zs_get (fs := z0_px p (k + j + 1) d ++ fs) (v := p (k + j)) (n := 8) rfl (by decide) hR ?_
    intro b2 c2 ra2 hR2
    show wX_unpackRuns_67 _ _ _ _ _ _ _ _ f_bodyLength b2 c2 ra2 f_readEnd f_w f_h a_pixels a_users a_buffer a_wide a_high a_start a_right a_down a_factor a_offset a_files a_fileLength pl a_body a_residue a_tokens a_distances a_heads a_chain a_weight a_parent a_symbol a_codeLength a_codeOf a_lengthOf a_perLength a_before a_last
    unfold wX_unpackRuns_67
    refine nm_r (nI_1 _) ⟨vp_in_nI (by omega) (by decide), nm_e (nm_r (nI_1 _) ?_)⟩
    rw [nI_clamp (by omega), zn_vs2 (by omega)]
    exact ih (j + 1) b2 c2 ra2 _ _ (by omega) (zp_up hP hb rfl) hR2 m (by omega)
theorem z0_unp {post : SX → Prop} {n : Nat} {p : Nat → Nat} (hwh : f_w * f_h = nI n) (hn : n ≤ 64)
    (K : ∀ b c ra pl, zp_P pl p n → post (f_bodyLength, b, c, ra, f_readEnd, f_w, f_h, a_pixels, a_users, a_buffer, a_wide, a_high, a_start, a_right, a_down, a_factor, a_offset, a_files, a_fileLength, pl, a_body, a_residue, a_tokens, a_distances, a_heads, a_chain, a_weight, a_parent, a_symbol, a_codeLength, a_codeOf, a_lengthOf, a_perLength, a_before, a_last)) :
    ∀ c k fs b cc ra pl, z0_D n p c k fs → zp_P pl p k → zs_R fs b cc ra f_readEnd a_files → ∀ m, c < m →
      wX_unpackRuns_2 post m (nI k) f_bodyLength b cc ra f_readEnd f_w f_h a_pixels a_users a_buffer a_wide a_high a_start a_right a_down a_factor a_offset a_files a_fileLength pl a_body a_residue a_tokens a_distances a_heads a_chain a_weight a_parent a_symbol a_codeLength a_codeOf a_lengthOf a_perLength a_before a_last := by
  intro c
  induction c with
  | zero =>
    intro k fs b cc ra pl hD hP hR m hm
    obtain ⟨m, rfl⟩ : ∃ q, m = q + 1 := ⟨m - 1, by omega⟩
    have e : k = n := hD.1
    subst e
    exact br_t (by rw [hwh]; exact nI_le (by omega) (by omega)) (K _ _ _ _ hP)
  | succ c ih =>
    intro k fs b cc ra pl hD hP hR m hm
    obtain ⟨m, rfl⟩ : ∃ q, m = q + 1 := ⟨m - 1, by omega⟩
    obtain ⟨r, fs', h1, h2, hD2, hc⟩ := hD
    refine br_f (by rw [hwh]; exact nI_ge (by omega) (by omega)) ?_
    rcases hc with ⟨rfl, hp⟩ | rfl
    · refine zs_get (fs := (p k, 8) :: fs') (v := 127 + r) (n := 8) rfl (by decide) hR ?_
      intro b2 c2 ra2 hR2
      have hpk : p k < 256 := hR2.1.1
      refine nm_r (e' := nI r) ?_ ⟨r + 1, ?_⟩
      · have h5 := pk_andN (n := 127 + r) (by omega) (m := 127) 7 (by decide)
        rw [h5, nI_1]
        exact congrArg nI (by omega)
      · refine br_f (nI_ge (a := 0) (by omega) (by omega)) (br_f (nI_ge (b := 64) (by omega) (by decide)) (br_f (nI_nlt (a := 127 + r) (b := 128) (by omega) (by omega)) (br_t rfl ?_)))
        unfold wX_unpackRuns_59
        refine zs_get (fs := fs') (v := p k) (n := 8) rfl (by decide) hR2 ?_
        intro b3 c3 ra3 hR3
        show wX_unpackRuns_67 _ _ _ _ _ _ _ _ f_bodyLength b3 c3 ra3 f_readEnd f_w f_h a_pixels a_users a_buffer a_wide a_high a_start a_right a_down a_factor a_offset a_files a_fileLength pl a_body a_residue a_tokens a_distances a_heads a_chain a_weight a_parent a_symbol a_codeLength a_codeOf a_lengthOf a_perLength a_before a_last
        unfold wX_unpackRuns_67
        refine nm_r (nI_1 _) ⟨vp_in_nI (by omega) (by decide), nm_e (nm_e ?_)⟩
        rw [nI_clamp (by omega), zn_vs2 (by omega)]
        refine z0_ur (f_bits := b3) (f_bitCount := c3) (f_readAt := ra3) hn h2 hpk hp ?_ (r - 1) 1 _ (by omega) (by omega) (zp_up hP hpk rfl) r (by omega)
        intro pl2 hP2
        exact ih (k + r) fs' b3 c3 ra3 pl2 hD2 hP2 hR3 m (by omega)
    · refine zs_get (fs := z0_px p k r ++ fs') (v := r - 1) (n := 8) rfl (by decide) hR ?_
      intro b2 c2 ra2 hR2
      refine nm_r (e' := nI r) ?_ ⟨r + 1, ?_⟩
      · have h5 := pk_andN (n := r - 1) (by omega) (m := 127) 7 (by decide)
        rw [h5, nI_1]
        exact congrArg nI (by omega)
      · refine z0_us (k := k) hn h2 ?_ r 0 b2 c2 ra2 pl 0 (by omega) hP hR2 (r + 1) (by omega)
        intro b3 c3 ra3 pl3 hR3 hP3
        exact ih (k + r) fs' b3 c3 ra3 pl3 hD2 hP3 hR3 m (by omega)
theorem z0_unpack {post : SX → Prop} {w h c : Nat} {p : Nat → Nat} {fs : List (Nat × Nat)} (hw : f_w = nI w) (hh : f_h = nI h) (hn : w * h ≤ 64)
    (hD : z0_D (w * h) p c 0 fs) (hR : zs_R fs f_bits f_bitCount f_readAt f_readEnd a_files)
    (K : ∀ b c ra pl, zp_P pl p (w * h) → post (f_bodyLength, b, c, ra, f_readEnd, f_w, f_h, a_pixels, a_users, a_buffer, a_wide, a_high, a_start, a_right, a_down, a_factor, a_offset, a_files, a_fileLength, pl, a_body, a_residue, a_tokens, a_distances, a_heads, a_chain, a_weight, a_parent, a_symbol, a_codeLength, a_codeOf, a_lengthOf, a_perLength, a_before, a_last)) :
    wpX_unpackRuns post (f_bodyLength, f_bits, f_bitCount, f_readAt, f_readEnd, f_w, f_h, a_pixels, a_users, a_buffer, a_wide, a_high, a_start, a_right, a_down, a_factor, a_offset, a_files, a_fileLength, a_plain, a_body, a_residue, a_tokens, a_distances, a_heads, a_chain, a_weight, a_parent, a_symbol, a_codeLength, a_codeOf, a_lengthOf, a_perLength, a_before, a_last) :=
  ⟨c + 1, z0_unp (by rw [hw, hh, pk_mul]) hn K c 0 fs _ _ _ _ hD (zp_0 _ _) hR (c + 1) (Nat.lt_succ_self c)⟩
end
end
section
/-! format 3: differences to the left, in unary and binary -/
def z3_left (p : Nat → Nat) (w k : Nat) : Nat := if k % w = 0 then 0 else p (k - 1)
def z3_d (p : Nat → Nat) (w k : Nat) : Nat := (p k + 256 - z3_left p w k) % 256
def z3_f (d : Nat) : Nat := if d < 128 then 2 * d else 511 - 2 * d
def z3_u (p : Nat → Nat) (w k : Nat) : Nat := z3_f (z3_d p w k)
theorem z3_f256 {d : Nat} (h : d < 256) : z3_f d < 256 := by
  unfold z3_f
  split <;> omega
theorem z3_u256 (p : Nat → Nat) (w k : Nat) : z3_u p w k < 256 := z3_f256 (Nat.mod_lt _ (by decide))
theorem z3_fold : ∀ d, d < 256 → ((sb_b d <<< ((1 : Int32) &&& 31)) ^^^ (sb_b d >>> ((31 : Int32) &&& 31))) &&& 255 = nI (z3_f d) := by decide +kernel
theorem z3_unf : ∀ d, d < 256 → ((((nI (z3_f d)).toUInt32 >>> ((1 : Int32).toUInt32 &&& Int32.toUInt32 31)).toInt32) ^^^ (-(nI (z3_f d) &&& 1))).toInt8 = (nI d).toInt8 := by decide +kernel
theorem z3_sub8 {a b : Nat} (hb : b ≤ 256) : (nI a - nI b).toInt8.toInt32 = sb_b ((a + 256 - b) % 256) := by
  rw [← zn_b8]
  have e : nI (a + 256 - b) = nI a + nI 256 - nI b := by
    rw [nI_add, pk_sub (by omega)]
  rw [e, Int32.toInt8_sub, Int32.toInt8_sub, Int32.toInt8_add]
  have e2 : (nI 256).toInt8 = 0 := by decide +kernel
  rw [e2]
  simp
theorem z3_back {p : Nat → Nat} {w k : Nat} (hp : p k < 256) (hl : z3_left p w k < 256) {y : Int32} (hy : y.toInt8 = (nI (z3_d p w k)).toInt8) :
    (y + nI (z3_left p w k)) &&& 255 = nI (p k) := by
  have e : (y + nI (z3_left p w k)) &&& 255 = nI (z3_d p w k + z3_left p w k) &&& 255 := by
    apply zn_e255
    rw [← nI_add, Int32.toInt8_add, Int32.toInt8_add, hy]
  rw [e, zn_and255]
  refine congrArg nI ?_
  unfold z3_d
  omega
def z3_px (low : Nat) (p : Nat → Nat) (w k : Nat) (r : List (Nat × Nat)) : List (Nat × Nat) :=
  List.replicate (z3_u p w k / 2 ^ low) (1, 1) ++ (0, 1) :: (z3_u p w k % 2 ^ low, low) :: r
def z3_E (low : Nat) (p : Nat → Nat) (w : Nat) : Nat → Nat → List (Nat × Nat)
  | 0, _ => []
  | m + 1, k => z3_px low p w k (z3_E low p w m (k + 1))
def z3_c (low : Nat) (p : Nat → Nat) (w : Nat) : Nat → Nat → Nat
  | 0, _ => 0
  | m + 1, k => (z3_u p w k / 2 ^ low + 1 + low) + z3_c low p w m (k + 1)
theorem z3_c9 (p : Nat → Nat) (w : Nat) : ∀ m k, z3_c 7 p w m k ≤ 9 * m := by
  intro m
  induction m with
  | zero => intro k; exact Nat.le_refl 0
  | succ m ih =>
    intro k
    show (z3_u p w k / 2 ^ 7 + 1 + 7) + z3_c 7 p w m (k + 1) ≤ _
    have h1 := ih (k + 1)
    have h2 := z3_u256 p w k
    omega
theorem z3_cb (low : Nat) (p : Nat → Nat) (w : Nat) (hl : low < 8) : ∀ m k, z3_c low p w m k ≤ 263 * m := by
  intro m
  induction m with
  | zero => intro k; exact Nat.le_refl 0
  | succ m ih =>
    intro k
    show (z3_u p w k / 2 ^ low + 1 + low) + z3_c low p w m (k + 1) ≤ _
    have h1 := ih (k + 1)
    have h2 := z3_u256 p w k
    have h3 := Nat.div_le_self (z3_u p w k) (2 ^ low)
    omega
theorem z3_repl (q : Nat) : zs_l (List.replicate q (1, 1)) = q := by
  induction q with
  | zero => rfl
  | succ q ih =>
    rw [List.replicate_succ]
    show 1 + zs_l (List.replicate q (1, 1)) = q + 1
    omega
section
variable {f_bodyLength f_bits f_bitCount f_readAt f_readEnd f_w f_h : Int32} {a_pixels a_users a_buffer a_wide a_high a_start a_right a_down a_factor a_offset a_files a_fileLength a_plain a_body a_residue a_tokens a_distances a_heads a_chain a_weight a_parent a_symbol a_codeLength a_codeOf a_lengthOf a_perLength a_before a_last : Nat → Int32}
theorem z3_folded {post : Int32 → Prop} {w k n : Nat} {p : Nat → Nat} (hw : f_w = nI w) (hw1 : 1 ≤ w) (hw8 : w ≤ 8) (hn : n ≤ 64) (P : zp_P a_plain p n) (hk : k < n)
    (K : post (nI (z3_u p w k))) : wpX_folded post (f_bodyLength, f_bits, f_bitCount, f_readAt, f_readEnd, f_w, f_h, a_pixels, a_users, a_buffer, a_wide, a_high, a_start, a_right, a_down, a_factor, a_offset, a_files, a_fileLength, a_plain, a_body, a_residue, a_tokens, a_distances, a_heads, a_chain, a_weight, a_parent, a_symbol, a_codeLength, a_codeOf, a_lengthOf, a_perLength, a_before, a_last) (nI k) := by
  subst hw
  have hkk := P k hk
  refine ⟨vp_in_nI (by omega) (by decide), nI_ne0 (by omega) (by omega), ?_⟩
  rw [pk_rem (by omega) (by omega) (by omega), nI_clamp (by omega), hkk.2]
  have hc : ∀ z, z = nI (z3_left p w k) → z3_left p w k < 256 → wX_folded_27 post z (nI (p k)) f_bodyLength f_bits f_bitCount f_readAt f_readEnd (nI w) f_h a_pixels a_users a_buffer a_wide a_high a_start a_right a_down a_factor a_offset a_files a_fileLength a_plain a_body a_residue a_tokens a_distances a_heads a_chain a_weight a_parent a_symbol a_codeLength a_codeOf a_lengthOf a_perLength a_before a_last := by
    intro z hz hz2
    subst hz
    unfold wX_folded_27
    refine nm_r (z3_sub8 (by omega)) ?_
    have h5 := z3_fold _ (Nat.mod_lt (p k + 256 - z3_left p w k) (show 256 > 0 by decide))
    rw [h5]
    exact K
  by_cases h : k % w = 0
  · have e : z3_left p w k = 0 := if_pos h
    refine br_t (by rw [h]; rfl) (hc 0 (by rw [e]; rfl) (by omega))
  · have e : z3_left p w k = p (k - 1) := if_neg h
    have hk0 : k ≠ 0 := fun z => h (by rw [z]; exact Nat.zero_mod w)
    have hk1 := P (k - 1) (by omega)
    have e1 : nI k - 1 = nI (k - 1) := pk_sub (a := k) (b := 1) (by omega)
    refine br_f (nI_ne0 (by omega) (Nat.lt_of_le_of_lt (Nat.mod_le k w) (by omega))) ?_
    rw [e1]
    refine ⟨vp_in_nI (by omega) (by decide), ?_⟩
    rw [nI_clamp (by omega)]
    exact hc _ (by rw [e]; exact hk1.2) (by rw [e]; exact hk1.1)
theorem z3_cost {post : Int32 → Prop} {w n low : Nat} {p : Nat → Nat} (hw : f_w = nI w) (hwh : f_w * f_h = nI n) (hw1 : 1 ≤ w) (hw8 : w ≤ 8) (hn : n ≤ 64) (P : zp_P a_plain p n) (hl : low < 8)
    (K : post (nI (z3_c low p w n 0))) : wpX_cost post (f_bodyLength, f_bits, f_bitCount, f_readAt, f_readEnd, f_w, f_h, a_pixels, a_users, a_buffer, a_wide, a_high, a_start, a_right, a_down, a_factor, a_offset, a_files, a_fileLength, a_plain, a_body, a_residue, a_tokens, a_distances, a_heads, a_chain, a_weight, a_parent, a_symbol, a_codeLength, a_codeOf, a_lengthOf, a_perLength, a_before, a_last) (nI low) := by
  have H : ∀ d k acc, k + d = n → acc + z3_c low p w d k = z3_c low p w n 0 → ∀ m, d < m → wX_cost_4 post (nI low) f_bodyLength f_bits f_bitCount f_readAt f_readEnd f_w f_h a_pixels a_users a_buffer a_wide a_high a_start a_right a_down a_factor a_offset a_files a_fileLength a_plain a_body a_residue a_tokens a_distances a_heads a_chain a_weight a_parent a_symbol a_codeLength a_codeOf a_lengthOf a_perLength a_before a_last m (nI acc) (nI k) := by
    intro d
    induction d with
    | zero =>
      intro k acc hk ha m hm
      obtain ⟨m, rfl⟩ : ∃ q, m = q + 1 := ⟨m - 1, by omega⟩
      refine br_t (by rw [hwh]; exact nI_le (by omega) (by omega)) ?_
      rw [show acc = z3_c low p w n 0 from ha]
      exact K
    | succ d ih =>
      intro k acc hk ha m hm
      obtain ⟨m, rfl⟩ : ∃ q, m = q + 1 := ⟨m - 1, by omega⟩
      refine br_f (by rw [hwh]; exact nI_ge (by omega) (by omega)) (z3_folded hw hw1 hw8 hn P (by omega) ?_)
      have hu := z3_u256 p w k
      refine nm_r (e' := nI (acc + (z3_u p w k / 2 ^ low + 1 + low))) ?_ (nm_r (nI_1 k) ?_)
      · rw [zn_shr (by omega) (by omega), nI_1, nI_add, nI_add]
      · exact ih (k + 1) _ (by omega) (by rw [Nat.add_assoc]; exact ha) m (by omega)
  exact ⟨n + 1, H n 0 0 (by omega) (by omega) (n + 1) (by omega)⟩
end
section
variable {f_bodyLength f_bits f_bitCount f_readAt f_readEnd f_w f_h : Int32} {a_pixels a_users a_buffer a_wide a_high a_start a_right a_down a_factor a_offset a_files a_fileLength a_plain a_body a_residue a_tokens a_distances a_heads a_chain a_weight a_parent a_symbol a_codeLength a_codeOf a_lengthOf a_perLength a_before a_last : Nat → Int32}
theorem z3_74 {post : SX → Prop} {J : Int32 → Int32 → Int32 → Int32 → Int32 → Int32 → Int32 → Int32 → (Nat → Int32) → (Nat → Int32) → (Nat → Int32) → (Nat → Int32) → (Nat → Int32) → (Nat → Int32) → (Nat → Int32) → (Nat → Int32) → (Nat → Int32) → (Nat → Int32) → (Nat → Int32) → (Nat → Int32) → (Nat → Int32) → (Nat → Int32) → (Nat → Int32) → (Nat → Int32) → (Nat → Int32) → (Nat → Int32) → (Nat → Int32) → (Nat → Int32) → (Nat → Int32) → (Nat → Int32) → (Nat → Int32) → (Nat → Int32) → (Nat → Int32) → (Nat → Int32) → (Nat → Int32) → (Nat → Int32) → Prop} {low k u : Nat} (hl : low < 8) (hu : u < 256) :
    ∀ q fs bl b bc bo, zs_l fs + q + 1 + low ≤ 1864 → q < 256 → zs_W fs bl b bc bo →
      (∀ bl b bc bo, zs_W (fs ++ (List.replicate q (1, 1) ++ [(0, 1), (u % 2 ^ low, low)])) bl b bc bo → J (nI (k + 1)) bl b bc f_readAt f_readEnd f_w f_h a_pixels a_users a_buffer a_wide a_high a_start a_right a_down a_factor a_offset a_files a_fileLength a_plain bo a_residue a_tokens a_distances a_heads a_chain a_weight a_parent a_symbol a_codeLength a_codeOf a_lengthOf a_perLength a_before a_last) →
      ∀ m, q < m → wX_packDifferences_74 post J (nI low) (nI k) (nI u) m (nI q) bl b bc f_readAt f_readEnd f_w f_h a_pixels a_users a_buffer a_wide a_high a_start a_right a_down a_factor a_offset a_files a_fileLength a_plain bo a_residue a_tokens a_distances a_heads a_chain a_weight a_parent a_symbol a_codeLength a_codeOf a_lengthOf a_perLength a_before a_last := by
  intro q
  induction q with
  | zero =>
    intro fs bl b bc bo hL hq hW K m hm
    obtain ⟨m, rfl⟩ : ∃ q, m = q + 1 := ⟨m - 1, by omega⟩
    refine br_t (by decide) (zs_put (fs := fs) 0 1 rfl rfl (by decide) (by decide) (by omega) hW ?_)
    intro bl2 b2 bc2 bo2 hW2
    refine zs_put (fs := fs ++ [(0, 1)]) (u % 2 ^ low) low ?_ rfl (Nat.mod_lt _ (zn_pos _)) (by omega) (by rw [zs_l1]; omega) hW2 ?_
    · rw [zn_mask (by omega), zn_andm]
    · intro bl3 b3 bc3 bo3 hW3
      refine nm_r (nI_1 k) (K _ _ _ _ ?_)
      rw [List.append_assoc] at hW3
      exact hW3
  | succ q ih =>
    intro fs bl b bc bo hL hq hW K m hm
    obtain ⟨m, rfl⟩ : ∃ q, m = q + 1 := ⟨m - 1, by omega⟩
    refine br_f (nI_nle (by omega) (by omega)) (zs_put (fs := fs) 1 1 rfl rfl (by decide) (by decide) (by omega) hW ?_)
    intro bl2 b2 bc2 bo2 hW2
    refine nm_r (pk_m1 q) ?_
    refine ih (fs ++ [(1, 1)]) bl2 b2 bc2 bo2 (by rw [zs_l1]; omega) (by omega) hW2 ?_ m (by omega)
    intro bl3 b3 bc3 bo3 hW3
    refine K _ _ _ _ ?_
    rw [List.append_assoc] at hW3
    rw [List.replicate_succ]
    exact hW3
theorem z3_48 {post : SX → Prop} {w n low : Nat} {p : Nat → Nat} (hw : f_w = nI w) (hwh : f_w * f_h = nI n) (hw1 : 1 ≤ w) (hw8 : w ≤ 8) (hn : n ≤ 64) (P : zp_P a_plain p n) (hl : low < 8) :
    ∀ d k fs bl b bc bo, k + d = n → zs_l fs + z3_c low p w d k ≤ 1864 → zs_W fs bl b bc bo →
      (∀ bl b bc bo, zs_W (fs ++ z3_E low p w d k) bl b bc bo → zs_l (fs ++ z3_E low p w d k) = zs_l fs + z3_c low p w d k → post (bl, b, bc, f_readAt, f_readEnd, f_w, f_h, a_pixels, a_users, a_buffer, a_wide, a_high, a_start, a_right, a_down, a_factor, a_offset, a_files, a_fileLength, a_plain, bo, a_residue, a_tokens, a_distances, a_heads, a_chain, a_weight, a_parent, a_symbol, a_codeLength, a_codeOf, a_lengthOf, a_perLength, a_before, a_last)) →
      ∀ m, d < m → wX_packDifferences_48 post (nI low) m (nI k) bl b bc f_readAt f_readEnd f_w f_h a_pixels a_users a_buffer a_wide a_high a_start a_right a_down a_factor a_offset a_files a_fileLength a_plain bo a_residue a_tokens a_distances a_heads a_chain a_weight a_parent a_symbol a_codeLength a_codeOf a_lengthOf a_perLength a_before a_last := by
  intro d
  induction d with
  | zero =>
    intro k fs bl b bc bo hk hL hW K m hm
    obtain ⟨m, rfl⟩ : ∃ q, m = q + 1 := ⟨m - 1, by omega⟩
    refine br_t (by rw [hwh]; exact nI_le (by omega) (by omega)) (K _ _ _ _ ?_ ?_)
    · show zs_W (fs ++ []) _ _ _ _
      rw [List.append_nil]; exact hW
    · show zs_l (fs ++ []) = zs_l fs + 0
      rw [List.append_nil]; rfl
  | succ d ih =>
    intro k fs bl b bc bo hk hL hW K m hm
    obtain ⟨m, rfl⟩ : ∃ q, m = q + 1 := ⟨m - 1, by omega⟩
    have hc : z3_c low p w (d + 1) k = (z3_u p w k / 2 ^ low + 1 + low) + z3_c low p w d (k + 1) := rfl
    rw [hc] at hL K
    have hu := z3_u256 p w k
    have hq : z3_u p w k / 2 ^ low ≤ z3_u p w k := Nat.div_le_self _ _
    refine br_f (by rw [hwh]; exact nI_ge (by omega) (by omega)) (z3_folded hw hw1 hw8 hn P (by omega) ?_)
    refine nm_r (zn_shr (by omega) (by omega)) ⟨_, z3_74 hl hu (z3_u p w k / 2 ^ low) fs bl b bc bo (by omega) (by omega) hW ?_ _ (Nat.lt_succ_self _)⟩
    intro bl2 b2 bc2 bo2 hW2
    have hl2 : zs_l (fs ++ (List.replicate (z3_u p w k / 2 ^ low) (1, 1) ++ [(0, 1), (z3_u p w k % 2 ^ low, low)])) = zs_l fs + (z3_u p w k / 2 ^ low + 1 + low) := by
      rw [zs_l_app, zs_l_app, z3_repl]
      show _ + (_ + (1 + (low + 0))) = _
      omega
    refine ih (k + 1) _ bl2 b2 bc2 bo2 (by omega) (by rw [hl2]; omega) hW2 ?_ m (by omega)
    intro bl3 b3 bc3 bo3 hW3 hL3
    have e : fs ++ (List.replicate (z3_u p w k / 2 ^ low) (1, 1) ++ [(0, 1), (z3_u p w k % 2 ^ low, low)]) ++ z3_E low p w d (k + 1) = fs ++ z3_E low p w (d + 1) k := by
      show _ = fs ++ (List.replicate _ (1, 1) ++ (0, 1) :: (_, low) :: z3_E low p w d (k + 1))
      rw [List.append_assoc, List.append_assoc]
      rfl
    rw [e] at hW3 hL3
    exact K _ _ _ _ hW3 (by rw [hL3, hl2]; omega)
theorem z3_pack {post : SX → Prop} {w h : Nat} {p : Nat → Nat} (hw : f_w = nI w) (hh : f_h = nI h) (hw1 : 1 ≤ w) (hw8 : w ≤ 8) (hn : w * h ≤ 64) (P : zp_P a_plain p (w * h))
    (W : zs_W [] f_bodyLength f_bits f_bitCount a_body)
    (K : ∀ low bl b bc bo, low < 8 → zs_l ((low, 3) :: z3_E low p w (w * h) 0) ≤ 1024 → zs_W ((low, 3) :: z3_E low p w (w * h) 0) bl b bc bo → post (bl, b, bc, f_readAt, f_readEnd, f_w, f_h, a_pixels, a_users, a_buffer, a_wide, a_high, a_start, a_right, a_down, a_factor, a_offset, a_files, a_fileLength, a_plain, bo, a_residue, a_tokens, a_distances, a_heads, a_chain, a_weight, a_parent, a_symbol, a_codeLength, a_codeOf, a_lengthOf, a_perLength, a_before, a_last)) :
    wpX_packDifferences post (f_bodyLength, f_bits, f_bitCount, f_readAt, f_readEnd, f_w, f_h, a_pixels, a_users, a_buffer, a_wide, a_high, a_start, a_right, a_down, a_factor, a_offset, a_files, a_fileLength, a_plain, a_body, a_residue, a_tokens, a_distances, a_heads, a_chain, a_weight, a_parent, a_symbol, a_codeLength, a_codeOf, a_lengthOf, a_perLength, a_before, a_last) := by
  have hwh : f_w * f_h = nI (w * h) := by rw [hw, hh, pk_mul]
  generalize hnd : w * h = n at *
  refine z3_cost (low := 0) hw hwh hw1 hw8 hn P (by decide) ?_
  have H : ∀ d k lo, k + d = 8 → lo < k → lo < 8 → (∀ j, j < k → z3_c lo p w n 0 ≤ z3_c j p w n 0) → ∀ m, d < m →
      wX_packDifferences_10 post f_bodyLength f_bits f_bitCount f_readAt f_readEnd f_w f_h a_pixels a_users a_buffer a_wide a_high a_start a_right a_down a_factor a_offset a_files a_fileLength a_plain a_body a_residue a_tokens a_distances a_heads a_chain a_weight a_parent a_symbol a_codeLength a_codeOf a_lengthOf a_perLength a_before a_last m (nI lo) (nI (z3_c lo p w n 0)) (nI k) := by
    intro d
    induction d with
    | zero =>
      intro k lo hk h1 h8 hmin m hm
      obtain ⟨m, rfl⟩ : ∃ q, m = q + 1 := ⟨m - 1, by omega⟩
      have h9 := z3_c9 p w n 0
      have h7 := hmin 7 (by omega)
      refine br_t (nI_le (a := 8) (by omega) (by omega)) (zs_put (fs := []) lo 3 rfl rfl (by omega) (by decide) (by show 0 + 3 ≤ _; decide) W ?_)
      intro bl b bc bo hW
      refine ⟨_, z3_48 hw hwh hw1 hw8 hn P h8 n 0 [(lo, 3)] bl b bc bo (by omega) ?_ hW ?_ _ (Nat.lt_succ_self _)⟩
      · show 3 + 0 + _ ≤ _
        omega
      · intro bl2 b2 bc2 bo2 hW2 hL2
        refine K lo _ _ _ _ h8 ?_ hW2
        have : zs_l ([(lo, 3)] ++ z3_E lo p w n 0) = zs_l ((lo, 3) :: z3_E lo p w n 0) := rfl
        rw [← this, hL2]
        show 3 + 0 + _ ≤ _
        omega
    | succ d ih =>
      intro k lo hk h1 h8 hmin m hm
      obtain ⟨m, rfl⟩ : ∃ q, m = q + 1 := ⟨m - 1, by omega⟩
      have hb1 := z3_cb k p w (by omega) n 0
      have hb2 := z3_cb lo p w (by omega) n 0
      refine br_f (nI_ge (b := 8) (by omega) (by omega)) (z3_cost (low := k) hw hwh hw1 hw8 hn P (by omega) ?_)
      by_cases hc : z3_c lo p w n 0 ≤ z3_c k p w n 0
      · refine br_t (nI_le hc (by omega)) (nm_r (nI_1 k) (ih (k + 1) lo (by omega) (by omega) h8 ?_ m (by omega)))
        intro j hj
        by_cases e : j = k
        · rw [e]; exact hc
        · exact hmin j (by omega)
      · refine br_f (nI_ge (by omega) (by omega)) (nm_r (nI_1 k) (ih (k + 1) k (by omega) (by omega) (by omega) ?_ m (by omega)))
        intro j hj
        by_cases e : j = k
        · rw [e]; exact Nat.le_refl _
        · have := hmin j (by omega)
          omega
  exact ⟨8, H 7 1 0 (by omega) (by omega) (by omega) (fun j hj => by rw [show j = 0 by omega]; exact Nat.le_refl _) 8 (by omega)⟩
end
section
variable {f_bodyLength f_bits f_bitCount f_readAt f_readEnd f_w f_h : Int32} {a_pixels a_users a_buffer a_wide a_high a_start a_right a_down a_factor a_offset a_files a_fileLength a_plain a_body a_residue a_tokens a_distances a_heads a_chain a_weight a_parent a_symbol a_codeLength a_codeOf a_lengthOf a_perLength a_before a_last : Nat → Int32}
theorem z3_56 {post : SX → Prop} {J : Int32 → Int32 → Int32 → Int32 → Int32 → Int32 → Int32 → Int32 → (Nat → Int32) → (Nat → Int32) → (Nat → Int32) → (Nat → Int32) → (Nat → Int32) → (Nat → Int32) → (Nat → Int32) → (Nat → Int32) → (Nat → Int32) → (Nat → Int32) → (Nat → Int32) → (Nat → Int32) → (Nat → Int32) → (Nat → Int32) → (Nat → Int32) → (Nat → Int32) → (Nat → Int32) → (Nat → Int32) → (Nat → Int32) → (Nat → Int32) → (Nat → Int32) → (Nat → Int32) → (Nat → Int32) → (Nat → Int32) → (Nat → Int32) → (Nat → Int32) → (Nat → Int32) → (Nat → Int32) → Prop} {w n low k : Nat} {p : Nat → Nat} {fs : List (Nat × Nat)} (hw : f_w = nI w) (hw1 : 1 ≤ w) (hw8 : w ≤ 8) (hn : n ≤ 64) (hl : low < 8) (hk : k < n)
    (hpk : p k < 256) (P : zp_P a_plain p k)
    (R : zs_R ((z3_u p w k % 2 ^ low, low) :: fs) f_bits f_bitCount f_readAt f_readEnd a_files)
    (K : ∀ b c ra pl, zs_R fs b c ra f_readEnd a_files → zp_P pl p (k + 1) → J (nI (k + 1)) f_bodyLength b c ra f_readEnd f_w f_h a_pixels a_users a_buffer a_wide a_high a_start a_right a_down a_factor a_offset a_files a_fileLength pl a_body a_residue a_tokens a_distances a_heads a_chain a_weight a_parent a_symbol a_codeLength a_codeOf a_lengthOf a_perLength a_before a_last) :
    wX_unpackDifferences_56 post J (nI low) (nI k) (nI (z3_u p w k / 2 ^ low)) f_bodyLength f_bits f_bitCount f_readAt f_readEnd f_w f_h a_pixels a_users a_buffer a_wide a_high a_start a_right a_down a_factor a_offset a_files a_fileLength a_plain a_body a_residue a_tokens a_distances a_heads a_chain a_weight a_parent a_symbol a_codeLength a_codeOf a_lengthOf a_perLength a_before a_last := by
  subst hw
  have hu := z3_u256 p w k
  have hq : z3_u p w k / 2 ^ low * 2 ^ low ≤ z3_u p w k := Nat.div_mul_le_self _ _
  unfold wX_unpackDifferences_56
  refine zs_get (v := z3_u p w k % 2 ^ low) (n := low) rfl (by omega) R ?_
  intro b c ra hR
  refine nm_r (e' := nI (z3_u p w k)) ?_ (nm_e ?_)
  · rw [zn_shl (by omega) (by omega), Int32.or_comm, zn_orp (Nat.mod_lt _ (zn_pos _))]
    exact congrArg nI (by rw [Nat.add_comm]; exact Nat.div_add_mod' _ _)
  · refine ⟨nI_ne0 (by omega) (by omega), ?_⟩
    have hy := z3_unf (z3_d p w k) (Nat.mod_lt _ (by decide))
    rw [pk_rem (by omega) (by omega) (by omega)]
    by_cases h : k % w = 0
    · have e : z3_left p w k = 0 := if_pos h
      refine br_t (by rw [h]; rfl) ⟨vp_in_nI (by omega) (by decide), nm_e (nm_r (nI_1 k) ?_)⟩
      have hb := z3_back hpk (by omega) hy
      rw [e] at hb
      refine K _ _ _ _ hR ?_
      rw [nI_clamp (by omega)]
      refine zp_up P hpk ?_
      rw [pk_vs]
      show (((_ ^^^ _) + nI 0) &&& 255).toInt16.toInt32 = _
      refine Eq.trans (congrArg (fun z : Int32 => z.toInt16.toInt32) hb) (zn_i16 (by omega))
    · have e : z3_left p w k = p (k - 1) := if_neg h
      have hk0 : k ≠ 0 := fun z => h (by rw [z]; exact Nat.zero_mod w)
      have hk1 := P (k - 1) (by omega)
      have e1 : nI k - 1 = nI (k - 1) := pk_sub (a := k) (b := 1) (by omega)
      refine br_f (nI_ne0 (by omega) (Nat.lt_of_le_of_lt (Nat.mod_le k w) (by omega))) ?_
      rw [e1]
      refine ⟨vp_in_nI (by omega) (by decide), vp_in_nI (by omega) (by decide), nm_e (nm_r (nI_1 k) ?_)⟩
      have hb := z3_back hpk (by rw [e]; exact hk1.1) hy
      rw [e] at hb
      refine K _ _ _ _ hR ?_
      rw [nI_clamp (by omega), nI_clamp (by omega), hk1.2]
      refine zp_up P hpk ?_
      rw [pk_vs]
      refine Eq.trans (congrArg (fun z : Int32 => z.toInt16.toInt32) hb) (zn_i16 (by omega))
theorem z3_30 {post : SX → Prop} {J : Int32 → Int32 → Int32 → Int32 → Int32 → Int32 → Int32 → Int32 → (Nat → Int32) → (Nat → Int32) → (Nat → Int32) → (Nat → Int32) → (Nat → Int32) → (Nat → Int32) → (Nat → Int32) → (Nat → Int32) → (Nat → Int32) → (Nat → Int32) → (Nat → Int32) → (Nat → Int32) → (Nat → Int32) → (Nat → Int32) → (Nat → Int32) → (Nat → Int32) → (Nat → Int32) → (Nat → Int32) → (Nat → Int32) → (Nat → Int32) → (Nat → Int32) → (Nat → Int32) → (Nat → Int32) → (Nat → Int32) → (Nat → Int32) → (Nat → Int32) → (Nat → Int32) → (Nat → Int32) → Prop} {w n low k : Nat} {p : Nat → Nat} {fs : List (Nat × Nat)} (hw : f_w = nI w) (hw1 : 1 ≤ w) (hw8 : w ≤ 8) (hn : n ≤ 64) (hl : low < 8) (hk : k < n)
    (hpk : p k < 256) (P : zp_P a_plain p k)
    (K : ∀ b c ra pl, zs_R fs b c ra f_readEnd a_files → zp_P pl p (k + 1) → J (nI (k + 1)) f_bodyLength b c ra f_readEnd f_w f_h a_pixels a_users a_buffer a_wide a_high a_start a_right a_down a_factor a_offset a_files a_fileLength pl a_body a_residue a_tokens a_distances a_heads a_chain a_weight a_parent a_symbol a_codeLength a_codeOf a_lengthOf a_perLength a_before a_last) :
    ∀ d q b c ra, q + d = z3_u p w k / 2 ^ low →
      (d = 0 → zs_R ((z3_u p w k % 2 ^ low, low) :: fs) b c ra f_readEnd a_files) →
      (∀ d', d = d' + 1 → zs_R (List.replicate d' (1, 1) ++ (0, 1) :: (z3_u p w k % 2 ^ low, low) :: fs) b c ra f_readEnd a_files) →
      ∀ x, (d = 0 → x = 0) → (d ≠ 0 → x = 1) → ∀ m, d < m →
      wX_unpackDifferences_30 post J (nI low) (nI k) m (nI q) x f_bodyLength b c ra f_readEnd f_w f_h a_pixels a_users a_buffer a_wide a_high a_start a_right a_down a_factor a_offset a_files a_fileLength a_plain a_body a_residue a_tokens a_distances a_heads a_chain a_weight a_parent a_symbol a_codeLength a_codeOf a_lengthOf a_perLength a_before a_last := by
  have hu := z3_u256 p w k
  have hqq : z3_u p w k / 2 ^ low ≤ z3_u p w k := Nat.div_le_self _ _
  intro d
  induction d with
  | zero =>
    intro q b c ra hq h0 h1 x hx0 hx1 m hm
    obtain ⟨m, rfl⟩ : ∃ q, m = q + 1 := ⟨m - 1, by omega⟩
    rw [hx0 rfl]
    refine br_f (by decide) ?_
    rw [show q = z3_u p w k / 2 ^ low by omega]
    exact z3_56 (f_bits := b) (f_bitCount := c) (f_readAt := ra) hw hw1 hw8 hn hl hk hpk P (h0 rfl) K
  | succ d ih =>
    intro q b c ra hq h0 h1 x hx0 hx1 m hm
    obtain ⟨m, rfl⟩ : ∃ q, m = q + 1 := ⟨m - 1, by omega⟩
    rw [hx1 (by omega)]
    refine br_t rfl (br_f (nI_ge (b := 255) (by omega) (by decide)) (nm_r (nI_1 q) ?_))
    have hR := h1 d rfl
    cases d with
    | zero =>
      refine zs_get (v := 0) (n := 1) (fs := (z3_u p w k % 2 ^ low, low) :: fs) rfl (by decide) hR ?_
      intro b2 c2 ra2 hR2
      exact ih (q + 1) b2 c2 ra2 (by omega) (fun _ => hR2) (fun d' h => absurd h (by omega)) 0 (fun _ => rfl) (fun h => absurd rfl h) m (by omega)
    | succ d =>
      rw [List.replicate_succ, List.cons_append] at hR
      refine zs_get (v := 1) (n := 1) (fs := List.replicate d (1, 1) ++ (0, 1) :: (z3_u p w k % 2 ^ low, low) :: fs) rfl (by decide) hR ?_
      intro b2 c2 ra2 hR2
      exact ih (q + 1) b2 c2 ra2 (by omega) (fun h => absurd h (by omega)) (fun d' h => by rw [show d' = d by omega]; exact hR2) 1 (fun h => absurd h (by omega)) (fun _ => rfl) m (by omega)
theorem z3_8 {post : SX → Prop} {w n low : Nat} {p : Nat → Nat} (hw : f_w = nI w) (hwh : f_w * f_h = nI n) (hw1 : 1 ≤ w) (hw8 : w ≤ 8) (hn : n ≤ 64) (hl : low < 8)
    (hp : ∀ k, k < n → p k < 256)
    (K : ∀ b c ra pl, zp_P pl p n → post (f_bodyLength, b, c, ra, f_readEnd, f_w, f_h, a_pixels, a_users, a_buffer, a_wide, a_high, a_start, a_right, a_down, a_factor, a_offset, a_files, a_fileLength, pl, a_body, a_residue, a_tokens, a_distances, a_heads, a_chain, a_weight, a_parent, a_symbol, a_codeLength, a_codeOf, a_lengthOf, a_perLength, a_before, a_last)) :
    ∀ d k b c ra pl, k + d = n → zp_P pl p k → zs_R (z3_E low p w d k) b c ra f_readEnd a_files → ∀ m, d < m →
      wX_unpackDifferences_8 post (nI low) m (nI k) f_bodyLength b c ra f_readEnd f_w f_h a_pixels a_users a_buffer a_wide a_high a_start a_right a_down a_factor a_offset a_files a_fileLength pl a_body a_residue a_tokens a_distances a_heads a_chain a_weight a_parent a_symbol a_codeLength a_codeOf a_lengthOf a_perLength a_before a_last := by
  intro d
  induction d with
  | zero =>
    intro k b c ra pl hk hP hR m hm
    obtain ⟨m, rfl⟩ : ∃ q, m = q + 1 := ⟨m - 1, by omega⟩
    refine br_t (by rw [hwh]; exact nI_le (by omega) (by omega)) (K _ _ _ _ ?_)
    rw [← show k = n by omega]
    exact hP
  | succ d ih =>
    intro k b c ra pl hk hP hR m hm
    obtain ⟨m, rfl⟩ : ∃ q, m = q + 1 := ⟨m - 1, by omega⟩
    refine br_f (by rw [hwh]; exact nI_ge (by omega) (by omega)) ?_
    have hu := z3_u256 p w k
    have hE : z3_E low p w (d + 1) k = List.replicate (z3_u p w k / 2 ^ low) (1, 1) ++ (0, 1) :: (z3_u p w k % 2 ^ low, low) :: z3_E low p w d (k + 1) := rfl
    rw [hE] at hR
    generalize hQ : z3_u p w k / 2 ^ low = Q at *
    cases Q with
    | zero =>
      refine zs_get (v := 0) (n := 1) (fs := (z3_u p w k % 2 ^ low, low) :: z3_E low p w d (k + 1)) rfl (by decide) hR ?_
      intro b2 c2 ra2 hR2
      refine ⟨1, z3_30 (a_plain := pl) (fs := z3_E low p w d (k + 1)) hw hw1 hw8 hn hl (by omega) (hp k (by omega)) hP ?_ 0 0 b2 c2 ra2 (by omega) (fun _ => hR2) (fun d' h => absurd h (by omega)) 0 (fun _ => rfl) (fun h => absurd rfl h) 1 (by omega)⟩
      intro b3 c3 ra3 pl3 hR3 hP3
      exact ih (k + 1) b3 c3 ra3 pl3 (by omega) hP3 hR3 m (by omega)
    | succ Q =>
      rw [List.replicate_succ, List.cons_append] at hR
      refine zs_get (v := 1) (n := 1) (fs := List.replicate Q (1, 1) ++ (0, 1) :: (z3_u p w k % 2 ^ low, low) :: z3_E low p w d (k + 1)) rfl (by decide) hR ?_
      intro b2 c2 ra2 hR2
      refine ⟨Q + 2, z3_30 (a_plain := pl) (fs := z3_E low p w d (k + 1)) hw hw1 hw8 hn hl (by omega) (hp k (by omega)) hP ?_ (Q + 1) 0 b2 c2 ra2 (by omega) (fun h => absurd h (by omega)) (fun d' h => by rw [show d' = Q by omega]; exact hR2) 1 (fun h => absurd h (by omega)) (fun _ => rfl) (Q + 2) (by omega)⟩
      intro b3 c3 ra3 pl3 hR3 hP3
      exact ih (k + 1) b3 c3 ra3 pl3 (by omega) hP3 hR3 m (by omega)
theorem z3_unpack {post : SX → Prop} {w h low : Nat} {p : Nat → Nat} (hw : f_w = nI w) (hh : f_h = nI h) (hw1 : 1 ≤ w) (hw8 : w ≤ 8) (hn : w * h ≤ 64) (hl : low < 8)
    (hp : ∀ k, k < w * h → p k < 256)
    (hR : zs_R ((low, 3) :: z3_E low p w (w * h) 0) f_bits f_bitCount f_readAt f_readEnd a_files)
    (K : ∀ b c ra pl, zp_P pl p (w * h) → post (f_bodyLength, b, c, ra, f_readEnd, f_w, f_h, a_pixels, a_users, a_buffer, a_wide, a_high, a_start, a_right, a_down, a_factor, a_offset, a_files, a_fileLength, pl, a_body, a_residue, a_tokens, a_distances, a_heads, a_chain, a_weight, a_parent, a_symbol, a_codeLength, a_codeOf, a_lengthOf, a_perLength, a_before, a_last)) :
    wpX_unpackDifferences post (f_bodyLength, f_bits, f_bitCount, f_readAt, f_readEnd, f_w, f_h, a_pixels, a_users, a_buffer, a_wide, a_high, a_start, a_right, a_down, a_factor, a_offset, a_files, a_fileLength, a_plain, a_body, a_residue, a_tokens, a_distances, a_heads, a_chain, a_weight, a_parent, a_symbol, a_codeLength, a_codeOf, a_lengthOf, a_perLength, a_before, a_last) := by
  refine zs_get (v := low) (n := 3) rfl (by decide) hR ?_
  intro b c ra hR2
  exact ⟨w * h + 1, z3_8 hw (by rw [hw, hh, pk_mul]) hw1 hw8 hn hl hp K (w * h) 0 b c ra _ (by omega) (zp_0 _ _) hR2 (w * h + 1) (by omega)⟩
end
end
section
/-! format 1: a growing list of strings -/
def zu (f : Nat → Nat) (k x : Nat) : Nat → Nat := fun j => if j = k then x else f j
theorem zu_s {f : Nat → Nat} {k x : Nat} : zu f k x k = x := if_pos rfl
theorem zu_n {f : Nat → Nat} {k x j : Nat} (h : j ≠ k) : zu f k x j = f j := if_neg h
def z1_w (t : Nat) : Nat := Nat.log2 t + 1
theorem z1_wlt (t : Nat) : t < 2 ^ z1_w t := Nat.lt_log2_self
theorem z1_wle {t k : Nat} (h1 : 1 ≤ t) (h : t < 2 ^ k) : z1_w t ≤ k := by
  have h2 : 2 ^ Nat.log2 t ≤ t := Nat.log2_self_le (by omega)
  have h3 : 2 ^ Nat.log2 t < 2 ^ k := by omega
  have h4 : Nat.log2 t < k := (Nat.pow_lt_pow_iff_right (by decide)).mp h3
  unfold z1_w
  omega
theorem z1_width {post : Int32 → Prop} {t : Nat} (h1 : 1 ≤ t) (h : t < 2 ^ 20) (K : post (nI (z1_w t))) : wpX_widthFor post (nI t) := by
  have hw := z1_wle h1 h
  have H : ∀ d n, n + d = z1_w t → 1 ≤ n → ∀ m, d < m → wX_widthFor_2 post (nI t) m (nI n) := by
    intro d
    induction d with
    | zero =>
      intro n hn h1n m hm
      obtain ⟨m, rfl⟩ : ∃ q, m = q + 1 := ⟨m - 1, by omega⟩
      have e : n = z1_w t := by omega
      subst e
      refine br_t ?_ K
      rw [zn_shr (by omega) (by omega), Nat.div_eq_of_lt (z1_wlt t)]
      rfl
    | succ d ih =>
      intro n hn h1n m hm
      obtain ⟨m, rfl⟩ : ∃ q, m = q + 1 := ⟨m - 1, by omega⟩
      refine br_f ?_ (nm_r (nI_1 n) (ih (n + 1) (by omega) (by omega) m (by omega)))
      rw [zn_shr (by omega) (by omega)]
      have hle : n ≤ Nat.log2 t := by unfold z1_w at hn; omega
      have h2 : 2 ^ n ≤ t := Nat.le_trans (zn_pow hle) (Nat.log2_self_le (by omega))
      have h3 : 0 < t / 2 ^ n := Nat.div_pos h2 (zn_pos n)
      have h4 := Nat.div_le_self t (2 ^ n)
      exact nI_ne0 h3 (by omega)
  exact ⟨_, H (z1_w t - 1) 1 (by unfold z1_w; omega) (by omega) _ (Nat.lt_succ_self _)⟩
/-- the string of a code: its length, the code, its values -/
def z1_S (bf la : Nat → Nat) (cl : Nat) : Nat → Nat → Nat → (Nat → Nat) → Prop
  | 0, _, _, _ => False
  | m + 1, e, c, s => (c < cl ∧ m = 0 ∧ s 0 = c) ∨ (cl < c ∧ c - cl - 1 < e ∧ la (c - cl - 1) = s m ∧ z1_S bf la cl m (c - cl - 1) (bf (c - cl - 1)) s)
theorem z1_S1 {bf la : Nat → Nat} {cl m e c : Nat} {s : Nat → Nat} (h : z1_S bf la cl m e c s) : 1 ≤ m ∧ (c < cl ∨ (cl < c ∧ c - cl - 1 < e)) := by
  cases m with
  | zero => exact absurd h id
  | succ m =>
    refine ⟨by omega, ?_⟩
    rcases h with ⟨h, _⟩ | ⟨h1, h2, _⟩
    · exact Or.inl h
    · exact Or.inr ⟨h1, h2⟩
theorem z1_Slow {bf la : Nat → Nat} {cl m e e' c : Nat} {s : Nat → Nat} (h : z1_S bf la cl m e c s) (h2 : c < cl ∨ (cl < c ∧ c - cl - 1 < e')) : z1_S bf la cl m e' c s := by
  cases m with
  | zero => exact absurd h id
  | succ m =>
    rcases h with h | ⟨h3, _, h5⟩
    · exact Or.inl h
    · refine Or.inr ⟨h3, ?_, h5⟩
      rcases h2 with h2 | h2
      · omega
      · exact h2.2
/-- what is left of a stream -/
def z1_D (n cl : Nat) (p : Nat → Nat) : Nat → (Nat → Nat) → (Nat → Nat) → Nat → Nat → List (Nat × Nat) → Prop
  | 0, _, _, _, _, _ => False
  | m + 1, bf, la, sent, s, fs => ∃ len c fs', z1_S bf la cl len sent c (fun j => p (s + j)) ∧ s + len ≤ n ∧ fs = (c, z1_w (cl + sent)) :: fs' ∧
      (s + len = n ∨ (s + len < n ∧ sent + 1 < 24 ∧ z1_D n cl p m (zu bf sent c) (zu la sent (p (s + len))) (sent + 1) (s + len) fs') ∨
        (s + len < n ∧ sent + 1 = 24 ∧ ∃ fs'', fs' = (cl, z1_w (cl + 24)) :: fs'' ∧ z1_D n cl p m (zu bf sent c) (zu la sent (p (s + len))) 0 (s + len) fs''))
/-- the tables hold the first e strings -/
def z1_T (bf la : Nat → Nat) (e : Nat) (tb tl : Nat → Int32) : Prop := ∀ j, j < e → tb j = nI (bf j) ∧ tl j = nI (la j) ∧ bf j < 512 ∧ la j < 256
theorem z1_Tup {bf la : Nat → Nat} {e c v : Nat} {tb tl : Nat → Int32} {x y : Int32} (h : z1_T bf la e tb tl) (hc : c < 512) (hv : v < 256) (hx : x = nI c) (hy : y = nI v) :
    z1_T (zu bf e c) (zu la e v) (e + 1) (upd tb e x) (upd tl e y) := by
  intro j hj
  by_cases he : j = e
  · subst he
    rw [zu_s, zu_s, pk_us, pk_us]
    exact ⟨hx, hy, hc, hv⟩
  · rw [zu_n he, zu_n he, pk_un he, pk_un he]
    exact h j (by omega)
section
variable {f_bodyLength f_bits f_bitCount f_readAt f_readEnd f_w f_h : Int32} {a_pixels a_users a_buffer a_wide a_high a_start a_right a_down a_factor a_offset a_files a_fileLength a_plain a_body a_residue a_tokens a_distances a_heads a_chain a_weight a_parent a_symbol a_codeLength a_codeOf a_lengthOf a_perLength a_before a_last : Nat → Int32}
theorem z1_entry {post : Int32 → Prop} {bf la : Nat → Nat} {c v e : Nat} (T : z1_T bf la e a_before a_last) (he : e ≤ 24) (hc : c < 512) (hv : v < 256)
    (K0 : post (-1)) (K1 : ∀ j, j < e → bf j = c → la j = v → post (nI j)) : wpX_entry post (f_bodyLength, f_bits, f_bitCount, f_readAt, f_readEnd, f_w, f_h, a_pixels, a_users, a_buffer, a_wide, a_high, a_start, a_right, a_down, a_factor, a_offset, a_files, a_fileLength, a_plain, a_body, a_residue, a_tokens, a_distances, a_heads, a_chain, a_weight, a_parent, a_symbol, a_codeLength, a_codeOf, a_lengthOf, a_perLength, a_before, a_last) (nI c) (nI v) (nI e) := by
  have H : ∀ d j, j + d = e → ∀ m, d < m → wX_entry_3 post (nI c) (nI v) (nI e) f_bodyLength f_bits f_bitCount f_readAt f_readEnd f_w f_h a_pixels a_users a_buffer a_wide a_high a_start a_right a_down a_factor a_offset a_files a_fileLength a_plain a_body a_residue a_tokens a_distances a_heads a_chain a_weight a_parent a_symbol a_codeLength a_codeOf a_lengthOf a_perLength a_before a_last m (nI j) := by
    intro d
    induction d with
    | zero =>
      intro j hj m hm
      obtain ⟨m, rfl⟩ : ∃ q, m = q + 1 := ⟨m - 1, by omega⟩
      have h1 : nI e ≤ nI j := nI_le (by omega) (by omega)
      exact br_t h1 (br_t h1 K0)
    | succ d ih =>
      intro j hj m hm
      obtain ⟨m, rfl⟩ : ∃ q, m = q + 1 := ⟨m - 1, by omega⟩
      have h1 : ¬ nI e ≤ nI j := nI_ge (by omega) (by omega)
      obtain ⟨t1, t2, t3, t4⟩ := T j (by omega)
      refine br_f h1 ⟨vp_in_nI (by omega) (by decide), ?_⟩
      rw [nI_clamp (by omega), t1, t2]
      by_cases h2 : bf j = c
      · refine br_t (by rw [h2]) ⟨vp_in_nI (by omega) (by decide), ?_⟩
        by_cases h3 : la j = v
        · exact br_t (by rw [h3]) (br_f h1 (K1 j (by omega) h2 h3))
        · exact br_f (fun z => h3 ((nI_eq (by omega) (by omega)).mp z)) (nm_r (nI_1 j) (ih (j + 1) (by omega) m (by omega)))
      · exact br_f (fun z => h2 ((nI_eq (by omega) (by omega)).mp z)) (nm_r (nI_1 j) (ih (j + 1) (by omega) m (by omega)))
  exact ⟨_, H e 0 (by omega) _ (Nat.lt_succ_self _)⟩
theorem z1_put {post : SX → Prop} {fs : List (Nat × Nat)} {t c : Nat} (ht1 : 1 ≤ t) (ht : t < 512) (hc : c < 2 ^ z1_w t) (hL : zs_l fs + 9 ≤ 1864)
    (W : zs_W fs f_bodyLength f_bits f_bitCount a_body)
    (K : ∀ bl b bc bo, zs_W (fs ++ [(c, z1_w t)]) bl b bc bo → zs_l (fs ++ [(c, z1_w t)]) ≤ zs_l fs + 9 → post (bl, b, bc, f_readAt, f_readEnd, f_w, f_h, a_pixels, a_users, a_buffer, a_wide, a_high, a_start, a_right, a_down, a_factor, a_offset, a_files, a_fileLength, a_plain, bo, a_residue, a_tokens, a_distances, a_heads, a_chain, a_weight, a_parent, a_symbol, a_codeLength, a_codeOf, a_lengthOf, a_perLength, a_before, a_last)) :
    wpX_widthFor (fun r => wpX_putBits post (f_bodyLength, f_bits, f_bitCount, f_readAt, f_readEnd, f_w, f_h, a_pixels, a_users, a_buffer, a_wide, a_high, a_start, a_right, a_down, a_factor, a_offset, a_files, a_fileLength, a_plain, a_body, a_residue, a_tokens, a_distances, a_heads, a_chain, a_weight, a_parent, a_symbol, a_codeLength, a_codeOf, a_lengthOf, a_perLength, a_before, a_last) (nI c) r) (nI t) := by
  have h9 : z1_w t ≤ 9 := z1_wle ht1 ht
  refine z1_width ht1 (by omega) ?_
  refine zs_put (fs := fs) c (z1_w t) rfl rfl hc (by omega) (by omega) W ?_
  intro bl b bc bo hW
  exact K _ _ _ _ hW (by rw [zs_l1]; omega)
end
section
variable {f_bodyLength f_bits f_bitCount f_readAt f_readEnd f_w f_h : Int32} {a_pixels a_users a_buffer a_wide a_high a_start a_right a_down a_factor a_offset a_files a_fileLength a_plain a_body a_residue a_tokens a_distances a_heads a_chain a_weight a_parent a_symbol a_codeLength a_codeOf a_lengthOf a_perLength a_before a_last : Nat → Int32}
theorem z1_clt {bf la : Nat → Nat} {cl len sent c : Nat} {s : Nat → Nat} (h : z1_S bf la cl len sent c s) : c ≤ cl + sent := by
  rcases (z1_S1 h).2 with h | h <;> omega
/-- how the strings' own strings stand below them -/
def z1_B (bf : Nat → Nat) (cl e : Nat) : Prop := ∀ j, j < e → bf j < cl ∨ (cl < bf j ∧ bf j - cl - 1 < j)
theorem z1_Bup {bf : Nat → Nat} {cl e c : Nat} (h : z1_B bf cl e) (hc : c < cl ∨ (cl < c ∧ c - cl - 1 < e)) : z1_B (zu bf e c) cl (e + 1) := by
  intro j hj
  by_cases he : j = e
  · subst he; rw [zu_s]; exact hc
  · rw [zu_n he]; exact h j (by omega)
theorem z1_pk {post : SX → Prop} {n cl : Nat} {p : Nat → Nat} (hwh : f_w * f_h = nI n) (hn : n ≤ 64) (P : zp_P a_plain p n) (hcl2 : 2 ≤ cl) (hcl : cl ≤ 256) (hp : ∀ j, j < n → p j < cl) :
    ∀ d k fs bl b bc bo sent s len c bf la tb tl, k + d = n → zs_l fs ≤ 18 * k + 4 → sent < 24 → s + len = k →
      z1_S bf la cl len sent c (fun j => p (s + j)) → z1_T bf la sent tb tl → z1_B bf cl sent → zs_W fs bl b bc bo →
      (∀ m fs' bl b bc bo tb tl, z1_D n cl p m bf la sent s fs' → zs_l (fs ++ fs') ≤ 18 * n + 22 → zs_W (fs ++ fs') bl b bc bo → post (bl, b, bc, f_readAt, f_readEnd, f_w, f_h, a_pixels, a_users, a_buffer, a_wide, a_high, a_start, a_right, a_down, a_factor, a_offset, a_files, a_fileLength, a_plain, bo, a_residue, a_tokens, a_distances, a_heads, a_chain, a_weight, a_parent, a_symbol, a_codeLength, a_codeOf, a_lengthOf, a_perLength, tb, tl)) →
      ∀ m, d < m → wX_packStrings_69 post (nI cl) m (nI sent) (nI c) (nI k) bl b bc f_readAt f_readEnd f_w f_h a_pixels a_users a_buffer a_wide a_high a_start a_right a_down a_factor a_offset a_files a_fileLength a_plain bo a_residue a_tokens a_distances a_heads a_chain a_weight a_parent a_symbol a_codeLength a_codeOf a_lengthOf a_perLength tb tl := by
  intro d
  induction d with
  | zero =>
    intro k fs bl b bc bo sent s len c bf la tb tl hk hL hs hsl hS hT hB hW K m hm
    obtain ⟨m, rfl⟩ : ∃ q, m = q + 1 := ⟨m - 1, by omega⟩
    have hc := z1_clt hS
    have hw := z1_wlt (cl + sent)
    refine br_t (by rw [hwh]; exact nI_le (by omega) (by omega)) ?_
    rw [nI_add]
    refine z1_put (fs := fs) (c := c) (by omega) (by omega) (by omega) (by omega) hW ?_
    intro bl2 b2 bc2 bo2 hW2 hL2
    exact K 1 [(c, z1_w (cl + sent))] _ _ _ _ _ _ ⟨len, c, [], hS, by omega, rfl, Or.inl (by omega)⟩ (by omega) hW2
  | succ d ih =>
    intro k fs bl b bc bo sent s len c bf la tb tl hk hL hs hsl hS hT hB hW K m hm
    obtain ⟨m, rfl⟩ : ∃ q, m = q + 1 := ⟨m - 1, by omega⟩
    have hc := z1_clt hS
    have hw := z1_wlt (cl + sent)
    have hPk := P k (by omega)
    have hS1 := z1_S1 hS
    refine br_f (by rw [hwh]; exact nI_ge (by omega) (by omega)) ⟨vp_in_nI (by omega) (by decide), ?_⟩
    have ePk : a_plain (nI k).toNatClampNeg = nI (p k) := by rw [nI_clamp (by omega)]; exact hPk.2
    rw [ePk]
    refine z1_entry hT (by omega) (by omega) hPk.1 ?_ ?_
    · -- a new string
      refine br_t (by decide) ?_
      rw [nI_add]
      refine z1_put (fs := fs) (c := c) (by omega) (by omega) (by omega) (by omega) hW ?_
      intro bl2 b2 bc2 bo2 hW2 hL2
      refine ⟨vp_in_nI (by omega) (by decide), nm_e (nm_r (nI_1 sent) ⟨vp_in_nI (by omega) (by decide), vp_in_nI (by omega) (by decide), nm_e ⟨vp_in_nI (by omega) (by decide), nm_e ?_⟩⟩)⟩
      rw [nI_clamp (by omega), nI_clamp (by omega), hPk.2, zn_vs2 (by omega), zn_vs (by omega)]
      have hT2 := z1_Tup (c := c) (v := p k) hT (by omega) hPk.1 rfl rfl
      have hB2 := z1_Bup hB hS1.2
      have hlit : ∀ bf la e, z1_S bf la cl 1 e (p k) (fun j => p (k + j)) := fun bf la e => Or.inl ⟨hp k (by omega), rfl, rfl⟩
      by_cases h24 : sent + 1 = 24
      · refine br_t (by rw [h24]; rfl) ?_
        show wpX_restart _ (bl2, b2, bc2, f_readAt, f_readEnd, f_w, f_h, a_pixels, a_users, a_buffer, a_wide, a_high, a_start, a_right, a_down, a_factor, a_offset, a_files, a_fileLength, a_plain, bo2, a_residue, a_tokens, a_distances, a_heads, a_chain, a_weight, a_parent, a_symbol, a_codeLength, a_codeOf, a_lengthOf, a_perLength, upd tb sent (nI c), upd tl sent (nI (p k))) (nI cl)
        unfold wpX_restart
        have e24 : nI cl + 24 = nI (cl + 24) := nI_add cl 24
        rw [e24]
        refine z1_put (fs := fs ++ [(c, z1_w (cl + sent))]) (c := cl) (by omega) (by omega) ?_ (by omega) hW2 ?_
        · have := z1_wlt (cl + 24); omega
        · intro bl3 b3 bc3 bo3 hW3 hL3
          refine nm_r (nI_1 k) ?_
          refine ih (k + 1) _ bl3 b3 bc3 bo3 0 k 1 (p k) (zu bf sent c) (zu la sent (p k)) _ _ (by omega) (by omega) (by omega) rfl (hlit _ _ _)
            (fun j hj => absurd hj (Nat.not_lt_zero j)) (fun j hj => absurd hj (Nat.not_lt_zero j)) hW3 ?_ m (by omega)
          intro m2 fs' bl4 b4 bc4 bo4 tb4 tl4 hD hL4 hW4
          rw [List.append_assoc, List.append_assoc] at hW4 hL4
          refine K (m2 + 1) _ _ _ _ _ _ _ ⟨len, c, _, hS, by omega, rfl, Or.inr (Or.inr ⟨by omega, h24, fs', rfl, ?_⟩)⟩ hL4 hW4
          rw [hsl]
          exact hD
      · refine br_f (fun z => h24 ((nI_eq (by omega) (by omega)).mp z)) (nm_r (nI_1 k) ?_)
        refine ih (k + 1) _ bl2 b2 bc2 bo2 (sent + 1) k 1 (p k) (zu bf sent c) (zu la sent (p k)) _ _ (by omega) (by omega) (by omega) rfl (hlit _ _ _)
          hT2 hB2 hW2 ?_ m (by omega)
        intro m2 fs' bl4 b4 bc4 bo4 tb4 tl4 hD hL4 hW4
        rw [List.append_assoc] at hW4 hL4
        refine K (m2 + 1) _ _ _ _ _ _ _ ⟨len, c, _, hS, by omega, rfl, Or.inr (Or.inl ⟨by omega, by omega, ?_⟩)⟩ hL4 hW4
        rw [hsl]
        exact hD
    · -- a longer known one
      intro j hj hbf hla
      refine br_f (nI_pos (by omega)) (nm_r (e' := nI (cl + 1 + j)) ?_ (nm_r (nI_1 k) ?_))
      · rw [nI_1, nI_add]
      · refine ih (k + 1) fs bl b bc bo sent s (len + 1) (cl + 1 + j) bf la tb tl (by omega) (by omega) hs (by omega) ?_ hT hB hW K m (by omega)
        have ej : cl + 1 + j - cl - 1 = j := by omega
        refine Or.inr ⟨by omega, by omega, ?_, ?_⟩
        · rw [ej, hla]
          show p k = p (s + len)
          rw [hsl]
        · rw [ej, hbf]
          refine z1_Slow hS ?_
          rw [← hbf]
          exact hB j hj
theorem z1_pack {post : SX → Prop} {w h : Nat} {p : Nat → Nat} (hw : f_w = nI w) (hh : f_h = nI h) (hn1 : 1 ≤ w * h) (hn : w * h ≤ 64) (P : zp_P a_plain p (w * h))
    (W : zs_W [] f_bodyLength f_bits f_bitCount a_body)
    (K : ∀ root m fs bl b bc bo tb tl, 1 ≤ root → root ≤ 8 → z1_D (w * h) (2 ^ root) p m (fun _ => 0) (fun _ => 0) 0 0 fs → zs_l ((root, 4) :: fs) ≤ 1200 → zs_W ((root, 4) :: fs) bl b bc bo →
      post (bl, b, bc, f_readAt, f_readEnd, f_w, f_h, a_pixels, a_users, a_buffer, a_wide, a_high, a_start, a_right, a_down, a_factor, a_offset, a_files, a_fileLength, a_plain, bo, a_residue, a_tokens, a_distances, a_heads, a_chain, a_weight, a_parent, a_symbol, a_codeLength, a_codeOf, a_lengthOf, a_perLength, tb, tl)) :
    wpX_packStrings post (f_bodyLength, f_bits, f_bitCount, f_readAt, f_readEnd, f_w, f_h, a_pixels, a_users, a_buffer, a_wide, a_high, a_start, a_right, a_down, a_factor, a_offset, a_files, a_fileLength, a_plain, a_body, a_residue, a_tokens, a_distances, a_heads, a_chain, a_weight, a_parent, a_symbol, a_codeLength, a_codeOf, a_lengthOf, a_perLength, a_before, a_last) := by
  have hwh : f_w * f_h = nI (w * h) := by rw [hw, hh, pk_mul]
  generalize hnd : w * h = n at *
  have H : ∀ d k mo, k + d = n → 1 ≤ mo → mo < 256 → (∀ j, j < k → p j ≤ mo) → ∀ m, d < m → wX_packStrings_4 post f_bodyLength f_bits f_bitCount f_readAt f_readEnd f_w f_h a_pixels a_users a_buffer a_wide a_high a_start a_right a_down a_factor a_offset a_files a_fileLength a_plain a_body a_residue a_tokens a_distances a_heads a_chain a_weight a_parent a_symbol a_codeLength a_codeOf a_lengthOf a_perLength a_before a_last m (nI mo) (nI k) := by
    intro d
    induction d with
    | zero =>
      intro k mo hk h1 h256 hmx m hm
      obtain ⟨m, rfl⟩ : ∃ q, m = q + 1 := ⟨m - 1, by omega⟩
      have hr8 : z1_w mo ≤ 8 := z1_wle h1 h256
      have hr1 : 1 ≤ z1_w mo := by unfold z1_w; omega
      have hlt := z1_wlt mo
      refine br_t (by rw [hwh]; exact nI_le (by omega) (by omega)) (z1_width h1 (by omega) ?_)
      refine zs_put (fs := []) (z1_w mo) 4 rfl rfl (by omega) (by decide) (by show 0 + 4 ≤ _; decide) W ?_
      intro bl b bc bo hW
      refine nm_r (zn_p1 (by omega)) (nm_r (P 0 (by omega)).2 ?_)
      have hc2 : 2 ^ 1 ≤ 2 ^ z1_w mo := zn_pow hr1
      have hc8 : 2 ^ z1_w mo ≤ 2 ^ 8 := zn_pow hr8
      refine ⟨_, z1_pk hwh hn P (by omega) (by omega) (fun j hj => by have := hmx j (by omega); omega) (n - 1) 1 [(z1_w mo, 4)] bl b bc bo 0 0 1 (p 0) (fun _ => 0) (fun _ => 0) _ _
        (by omega) (by show 4 + 0 ≤ _; omega) (by omega) rfl ?_ (fun j hj => absurd hj (Nat.not_lt_zero j)) (fun j hj => absurd hj (Nat.not_lt_zero j)) hW ?_ _ (Nat.lt_succ_self _)⟩
      · refine Or.inl ⟨?_, rfl, rfl⟩
        have := hmx 0 (by omega)
        omega
      · intro m2 fs' bl2 b2 bc2 bo2 tb tl hD hL hW2
        exact K (z1_w mo) m2 fs' bl2 b2 bc2 bo2 tb tl hr1 hr8 hD (by
          have e : zs_l ([(z1_w mo, 4)] ++ fs') = zs_l ((z1_w mo, 4) :: fs') := rfl
          rw [← e]; omega) hW2
    | succ d ih =>
      intro k mo hk h1 h256 hmx m hm
      obtain ⟨m, rfl⟩ : ∃ q, m = q + 1 := ⟨m - 1, by omega⟩
      have hPk := P k (by omega)
      refine br_f (by rw [hwh]; exact nI_ge (by omega) (by omega)) ⟨vp_in_nI (by omega) (by decide), ?_⟩
      rw [nI_clamp (by omega), hPk.2]
      by_cases hc : p k ≤ mo
      · refine br_t (nI_le hc (by omega)) (nm_r (nI_1 k) (ih (k + 1) mo (by omega) h1 h256 ?_ m (by omega)))
        intro j hj
        by_cases e : j = k
        · rw [e]; exact hc
        · exact hmx j (by omega)
      · refine br_f (nI_ge (by omega) (by omega)) ⟨vp_in_nI (by omega) (by decide), nm_e (nm_r (nI_1 k) (ih (k + 1) (p k) (by omega) (by omega) hPk.1 ?_ m (by omega)))⟩
        intro j hj
        by_cases e : j = k
        · rw [e]; exact Nat.le_refl _
        · have := hmx j (by omega)
          omega
  exact ⟨n + 1, H n 0 1 (by omega) (by omega) (by omega) (fun j hj => absurd hj (Nat.not_lt_zero j)) (n + 1) (by omega)⟩
end
section
variable {f_bodyLength f_bits f_bitCount f_readAt f_readEnd f_w f_h : Int32} {a_pixels a_users a_buffer a_wide a_high a_start a_right a_down a_factor a_offset a_files a_fileLength a_plain a_body a_residue a_tokens a_distances a_heads a_chain a_weight a_parent a_symbol a_codeLength a_codeOf a_lengthOf a_perLength a_before a_last : Nat → Int32}
theorem z1_ix {c cl : Nat} (h : cl < c) : (nI c - nI cl) - 1 = nI (c - cl - 1) := by
  rw [pk_sub (by omega)]
  exact pk_sub (a := c - cl) (b := 1) (by omega)
theorem z1_ws42 {post : Int32 → SX → Prop} {bf la : Nat → Nat} {cl at_ tot : Nat} {s : Nat → Nat} {E : Nat} (T : z1_T bf la E a_before a_last) (hE : E ≤ 24) (hcl : cl ≤ 256)
    (hs : ∀ j, j < tot → s j < 256) (hat : at_ + tot ≤ 72) :
    ∀ len e c pl, z1_S bf la cl len e c s → e ≤ E → len ≤ tot →
      (∀ pl', (∀ j, j < len → pl' (at_ + j) = nI (s j)) → (∀ i, i < at_ ∨ at_ + len ≤ i → pl' i = pl i) → post (nI (at_ + tot)) (f_bodyLength, f_bits, f_bitCount, f_readAt, f_readEnd, f_w, f_h, a_pixels, a_users, a_buffer, a_wide, a_high, a_start, a_right, a_down, a_factor, a_offset, a_files, a_fileLength, pl', a_body, a_residue, a_tokens, a_distances, a_heads, a_chain, a_weight, a_parent, a_symbol, a_codeLength, a_codeOf, a_lengthOf, a_perLength, a_before, a_last)) →
      ∀ m, len ≤ m → wX_writeString_42 post (nI cl) (nI at_) (nI tot) f_bodyLength f_bits f_bitCount f_readAt f_readEnd f_w f_h m (nI (at_ + len - 1)) (nI c) a_pixels a_users a_buffer a_wide a_high a_start a_right a_down a_factor a_offset a_files a_fileLength pl a_body a_residue a_tokens a_distances a_heads a_chain a_weight a_parent a_symbol a_codeLength a_codeOf a_lengthOf a_perLength a_before a_last := by
  intro len
  induction len with
  | zero => intro e c pl h; exact absurd h id
  | succ len ih =>
    intro e c pl hS he hlen K m hm
    obtain ⟨m, rfl⟩ : ∃ q, m = q + 1 := ⟨m - 1, by omega⟩
    rcases hS with ⟨h1, h2, h3⟩ | ⟨h1, h2, h3, h4⟩
    · subst h2
      refine br_t (nI_le (by omega) (by omega)) ⟨vp_in_nI (by omega) (by decide), nm_e ?_⟩
      rw [nI_clamp (by omega), zn_vs2 (by omega), nI_add]
      refine K _ ?_ ?_
      · intro j hj
        have e0 : j = 0 := by omega
        subst e0
        rw [h3]
        exact zn_us (by omega)
      · intro i hi
        exact pk_un (by omega)
    · have hl1 := (z1_S1 h4).1
      obtain ⟨t1, t2, t3, t4⟩ := T (c - cl - 1) (by omega)
      refine br_f (nI_ge (by omega) (by omega)) ?_
      rw [z1_ix h1]
      refine nm_r (sb_m1 (by omega)) ⟨vp_in_nI (by omega) (by decide), vp_in_nI (by omega) (by decide), nm_e ⟨vp_in_nI (by omega) (by decide), nm_e ?_⟩⟩
      rw [nI_clamp (by omega), nI_clamp (by omega), t1, t2, zn_vs (by omega)]
      have e1 : at_ + (len + 1) - 1 - 1 = at_ + len - 1 := by omega
      rw [e1]
      refine ih (c - cl - 1) _ _ h4 (by omega) (by omega) ?_ m (by omega)
      intro pl' hp1 hp2
      refine K pl' ?_ ?_
      · intro j hj
        by_cases ej : j = len
        · subst ej
          rw [hp2 _ (Or.inr (Nat.le_refl _)), h3]
          exact zn_us (by omega)
        · exact hp1 j (by omega)
      · intro i hi
        rw [hp2 i (by omega)]
        exact pk_un (by omega)
theorem z1_ws6 {post : Int32 → SX → Prop} {bf la : Nat → Nat} {cl at_ c0 : Nat} {s : Nat → Nat} {E : Nat} (T : z1_T bf la E a_before a_last) (hE : E ≤ 24) (hcl : cl ≤ 256) {tot : Nat}
    (K : ∃ n, wX_writeString_42 post (nI cl) (nI at_) (nI tot) f_bodyLength f_bits f_bitCount f_readAt f_readEnd f_w f_h n (nI (at_ + tot - 1)) (nI c0) a_pixels a_users a_buffer a_wide a_high a_start a_right a_down a_factor a_offset a_files a_fileLength a_plain a_body a_residue a_tokens a_distances a_heads a_chain a_weight a_parent a_symbol a_codeLength a_codeOf a_lengthOf a_perLength a_before a_last) (hat : at_ + tot ≤ 72) :
    ∀ len e c x, z1_S bf la cl len e c s → e ≤ E → 1 ≤ x → x + len = tot + 1 → ∀ m, len ≤ m → wX_writeString_6 post (nI c0) (nI cl) (nI at_) f_bodyLength f_bits f_bitCount f_readAt f_readEnd f_w f_h a_pixels a_users a_buffer a_wide a_high a_start a_right a_down a_factor a_offset a_files a_fileLength a_plain a_body a_residue a_tokens a_distances a_heads a_chain a_weight a_parent a_symbol a_codeLength a_codeOf a_lengthOf a_perLength a_before a_last m (nI x) (nI c) := by
  intro len
  induction len with
  | zero => intro e c x h; exact absurd h id
  | succ len ih =>
    intro e c x hS he hx1 hx m hm
    obtain ⟨m, rfl⟩ : ∃ q, m = q + 1 := ⟨m - 1, by omega⟩
    rcases hS with ⟨h1, h2, h3⟩ | ⟨h1, h2, h3, h4⟩
    · have ex : x = tot := by omega
      subst ex
      refine br_t (nI_le (by omega) (by omega)) (nm_r (e' := nI (at_ + x - 1)) ?_ K)
      rw [nI_add]
      exact pk_sub (b := 1) (by omega)
    · obtain ⟨t1, t2, t3, t4⟩ := T (c - cl - 1) (by omega)
      refine br_f (nI_ge (by omega) (by omega)) ?_
      rw [z1_ix h1]
      refine nm_r (nI_1 x) ⟨vp_in_nI (by omega) (by decide), nm_e ?_⟩
      rw [nI_clamp (by omega), t1]
      exact ih (c - cl - 1) _ (x + 1) h4 (by omega) (by omega) (by omega) m (by omega)
theorem z1_ws {post : Int32 → SX → Prop} {bf la : Nat → Nat} {cl at_ c len e : Nat} {s : Nat → Nat} {E : Nat} (T : z1_T bf la E a_before a_last) (hE : E ≤ 24) (hcl : cl ≤ 256)
    (hs : ∀ j, j < len → s j < 256) (hat : at_ + len ≤ 72) (hS : z1_S bf la cl len e c s) (he : e ≤ E)
    (K : ∀ pl', (∀ j, j < len → pl' (at_ + j) = nI (s j)) → (∀ i, i < at_ ∨ at_ + len ≤ i → pl' i = a_plain i) → post (nI (at_ + len)) (f_bodyLength, f_bits, f_bitCount, f_readAt, f_readEnd, f_w, f_h, a_pixels, a_users, a_buffer, a_wide, a_high, a_start, a_right, a_down, a_factor, a_offset, a_files, a_fileLength, pl', a_body, a_residue, a_tokens, a_distances, a_heads, a_chain, a_weight, a_parent, a_symbol, a_codeLength, a_codeOf, a_lengthOf, a_perLength, a_before, a_last)) :
    wpX_writeString post (f_bodyLength, f_bits, f_bitCount, f_readAt, f_readEnd, f_w, f_h, a_pixels, a_users, a_buffer, a_wide, a_high, a_start, a_right, a_down, a_factor, a_offset, a_files, a_fileLength, a_plain, a_body, a_residue, a_tokens, a_distances, a_heads, a_chain, a_weight, a_parent, a_symbol, a_codeLength, a_codeOf, a_lengthOf, a_perLength, a_before, a_last) (nI c) (nI cl) (nI at_) := by
  have h1 := (z1_S1 hS).1
  refine ⟨len, z1_ws6 T hE hcl (tot := len) ⟨len, ?_⟩ hat len e c 1 hS he (by omega) (by omega) len (Nat.le_refl _)⟩
  exact z1_ws42 T hE hcl hs hat len e c _ hS he (Nat.le_refl _) K len (Nat.le_refl _)
end
end
section
/-! format 1: the reader -/
theorem z1_known {sent c cl : Nat} (h1 : sent ≤ 24) (h2 : c ≤ 1000) (h3 : cl ≤ 1000) : (nI sent - 1) ≤ ((nI c - nI cl) - 1) ↔ (sent : Int) ≤ (c : Int) - cl := by
  rw [Int32.le_iff_toInt_le]
  have e1 : (nI sent - 1).toInt = (sent : Int) - 1 := pk_sub_toInt (a := sent) (b := 1) (by omega) (by omega)
  have e2 : ((nI c - nI cl) - 1).toInt = (c : Int) - cl - 1 := by
    rw [Int32.toInt_sub, pk_sub_toInt (by omega) (by omega), show (1 : Int32).toInt = 1 from by decide]
    exact Int.bmod_eq_of_le (by omega) (by omega)
  rw [e1, e2]
  omega
section
variable {f_bodyLength f_bits f_bitCount f_readAt f_readEnd f_w f_h : Int32} {a_pixels a_users a_buffer a_wide a_high a_start a_right a_down a_factor a_offset a_files a_fileLength a_plain a_body a_residue a_tokens a_distances a_heads a_chain a_weight a_parent a_symbol a_codeLength a_codeOf a_lengthOf a_perLength a_before a_last : Nat → Int32}
theorem z1_120 {post : SX → Prop} {J : Int32 → Int32 → Int32 → Int32 → Int32 → Int32 → Int32 → Int32 → Int32 → Int32 → (Nat → Int32) → (Nat → Int32) → (Nat → Int32) → (Nat → Int32) → (Nat → Int32) → (Nat → Int32) → (Nat → Int32) → (Nat → Int32) → (Nat → Int32) → (Nat → Int32) → (Nat → Int32) → (Nat → Int32) → (Nat → Int32) → (Nat → Int32) → (Nat → Int32) → (Nat → Int32) → (Nat → Int32) → (Nat → Int32) → (Nat → Int32) → (Nat → Int32) → (Nat → Int32) → (Nat → Int32) → (Nat → Int32) → (Nat → Int32) → (Nat → Int32) → (Nat → Int32) → (Nat → Int32) → (Nat → Int32) → Prop} {bf la : Nat → Nat} {sent s at_ : Nat} {p : Nat → Nat} {x1 x6 prior : Int32} (hs : sent < 24) (hs2 : s < 64)
    (hps : a_plain s = nI (p s)) (hp256 : p s < 256) (T : z1_T bf la (sent - 1) a_before a_last)
    (h0 : sent = 0 → prior = -1) (h1 : 0 < sent → prior = nI (bf (sent - 1)) ∧ bf (sent - 1) < 512 ∧ la (sent - 1) = p s)
    (K : ∀ tb tl, z1_T bf la sent tb tl → J (nI (sent + 1)) (nI at_) x6 f_bodyLength f_bits f_bitCount f_readAt f_readEnd f_w f_h a_pixels a_users a_buffer a_wide a_high a_start a_right a_down a_factor a_offset a_files a_fileLength a_plain a_body a_residue a_tokens a_distances a_heads a_chain a_weight a_parent a_symbol a_codeLength a_codeOf a_lengthOf a_perLength tb tl) :
    wX_unpackStrings_120 post J x1 (nI sent) (nI at_) prior x6 (nI s) f_bodyLength f_bits f_bitCount f_readAt f_readEnd f_w f_h a_pixels a_users a_buffer a_wide a_high a_start a_right a_down a_factor a_offset a_files a_fileLength a_plain a_body a_residue a_tokens a_distances a_heads a_chain a_weight a_parent a_symbol a_codeLength a_codeOf a_lengthOf a_perLength a_before a_last := by
  unfold wX_unpackStrings_120
  rcases Nat.eq_zero_or_pos sent with e | e
  · rw [h0 e]
    exact br_t (by decide) (nm_r (nI_1 sent) (K _ _ (fun j hj => absurd hj (by omega))))
  · obtain ⟨g1, g2, g3⟩ := h1 e
    have e1 : nI sent - 1 = nI (sent - 1) := pk_sub (b := 1) (by omega)
    rw [g1, e1]
    refine br_f (nI_pos (by omega)) ⟨vp_in_nI (by omega) (by decide), nm_e ⟨vp_in_nI (by omega) (by decide), vp_in_nI (by omega) (by decide), nm_e (nm_r (nI_1 sent) ?_)⟩⟩
    rw [nI_clamp (by omega), nI_clamp (by omega), zn_vs2 (by omega), hps, zn_vs (by omega)]
    refine K _ _ ?_
    intro j hj
    by_cases ej : j = sent - 1
    · subst ej
      rw [pk_us, pk_us, g3]
      exact ⟨rfl, rfl, g2, hp256⟩
    · rw [pk_un ej, pk_un ej]
      exact T j (by omega)
theorem z1_code {post : SX → Prop} {J : Int32 → Int32 → Int32 → Int32 → Int32 → Int32 → Int32 → Int32 → Int32 → Int32 → (Nat → Int32) → (Nat → Int32) → (Nat → Int32) → (Nat → Int32) → (Nat → Int32) → (Nat → Int32) → (Nat → Int32) → (Nat → Int32) → (Nat → Int32) → (Nat → Int32) → (Nat → Int32) → (Nat → Int32) → (Nat → Int32) → (Nat → Int32) → (Nat → Int32) → (Nat → Int32) → (Nat → Int32) → (Nat → Int32) → (Nat → Int32) → (Nat → Int32) → (Nat → Int32) → (Nat → Int32) → (Nat → Int32) → (Nat → Int32) → (Nat → Int32) → (Nat → Int32) → (Nat → Int32) → (Nat → Int32) → Prop} {n cl : Nat} {p : Nat → Nat} {bf la : Nat → Nat} {sent s len c : Nat} {prior : Int32} (hn : n ≤ 64) (hcl : cl ≤ 256)
    (hp : ∀ j, j < n → p j < 256) (hs : sent < 24) (hS : z1_S bf la cl len sent c (fun j => p (s + j))) (hsn : s + len ≤ n) (P : zp_P a_plain p s)
    (T : z1_T bf la (sent - 1) a_before a_last)
    (h0 : sent = 0 → prior = -1) (h1 : 0 < sent → prior = nI (bf (sent - 1)) ∧ bf (sent - 1) < 512 ∧ la (sent - 1) = p s)
    (K : ∀ pl tb tl, zp_P pl p (s + len) → z1_T bf la sent tb tl → J (nI (sent + 1)) (nI (s + len)) (nI c) f_bodyLength f_bits f_bitCount f_readAt f_readEnd f_w f_h a_pixels a_users a_buffer a_wide a_high a_start a_right a_down a_factor a_offset a_files a_fileLength pl a_body a_residue a_tokens a_distances a_heads a_chain a_weight a_parent a_symbol a_codeLength a_codeOf a_lengthOf a_perLength tb tl) :
    (((nI sent - 1) ≤ ((nI c - nI cl) - 1) → (wX_unpackStrings_78 post J (nI cl) (nI sent) (nI s) prior (nI c) (nI s) 0 f_bodyLength f_bits f_bitCount f_readAt f_readEnd f_w f_h a_pixels a_users a_buffer a_wide a_high a_start a_right a_down a_factor a_offset a_files a_fileLength a_plain a_body a_residue a_tokens a_distances a_heads a_chain a_weight a_parent a_symbol a_codeLength a_codeOf a_lengthOf a_perLength a_before a_last)) ∧
      (¬ (nI sent - 1) ≤ ((nI c - nI cl) - 1) → (wX_unpackStrings_78 post J (nI cl) (nI sent) (nI s) prior (nI c) (nI s) 1 f_bodyLength f_bits f_bitCount f_readAt f_readEnd f_w f_h a_pixels a_users a_buffer a_wide a_high a_start a_right a_down a_factor a_offset a_files a_fileLength a_plain a_body a_residue a_tokens a_distances a_heads a_chain a_weight a_parent a_symbol a_codeLength a_codeOf a_lengthOf a_perLength a_before a_last))) := by
  have hS1 := z1_S1 hS
  have hcc := z1_clt hS
  have hkn := z1_known (sent := sent) (c := c) (cl := cl) (by omega) (by omega) (by omega)
  have hP : ∀ (pl : Nat → Int32) (L : Nat), L ≤ len → (∀ j, j < L → pl (s + j) = nI (p (s + j))) → (∀ i, i < s → pl i = a_plain i) → zp_P pl p (s + L) := by
    intro pl L hL q1 q2 k hk
    refine ⟨hp k (by omega), ?_⟩
    by_cases hks : k < s
    · rw [q2 k hks]; exact (P k hks).2
    · have := q1 (k - s) (by omega)
      rw [show s + (k - s) = k by omega] at this
      exact this
  by_cases hk : (sent : Int) ≤ (c : Int) - cl
  · -- the string that is just being made
    refine br_t (hkn.mpr hk) ?_
    cases len with
    | zero => exact absurd hS id
    | succ len =>
      rcases hS with ⟨q1, _⟩ | ⟨q1, q2, q3, q4⟩
      · omega
      · have es : 0 < sent := by omega
        have ec : c - cl - 1 = sent - 1 := by omega
        rw [ec] at q3 q4
        obtain ⟨g1, g2, g3⟩ := h1 es
        have hl1 := (z1_S1 q4).1
        unfold wX_unpackStrings_78
        refine br_t rfl ?_
        unfold wX_unpackStrings_93
        rw [g1]
        refine z1_ws T (by omega) hcl (fun j hj => hp _ (by omega)) (by omega) q4 (Nat.le_refl _) ?_
        intro pl hp1 hp2
        have hps : pl s = nI (p s) := hp1 0 (by omega)
        refine br_t rfl (nm_r (nI_1 _) ⟨vp_in_nI (by omega) (by decide), vp_in_nI (by omega) (by decide), nm_e ?_⟩)
        rw [nI_clamp (by omega), nI_clamp (by omega), hps, zn_vs (by have := hp s (by omega); omega)]
        have hPl := zp_up (x := nI (p s)) (hP pl len (by omega) hp1 (fun i hi => hp2 i (Or.inl hi))) (hp (s + len) (by omega)) (by rw [← g3, q3])
        refine z1_120 (a_plain := upd pl (s + len) (nI (p s))) (p := p) hs (by omega) (hPl s (by omega)).2 (hp s (by omega)) T (fun z => absurd z (by omega)) (fun _ => ⟨rfl, g2, g3⟩) ?_
        intro tb tl hT
        exact K _ tb tl hPl hT
  · -- a known string
    refine br_f (fun z => hk (hkn.mp z)) ?_
    unfold wX_unpackStrings_78
    refine br_f (by decide) ?_
    unfold wX_unpackStrings_93
    have hS2 : z1_S bf la cl len (sent - 1) c (fun j => p (s + j)) := z1_Slow hS (by
      rcases hS1.2 with q | q
      · exact Or.inl q
      · exact Or.inr ⟨q.1, by omega⟩)
    refine z1_ws T (by omega) hcl (fun j hj => hp _ (by omega)) (by omega) hS2 (Nat.le_refl _) ?_
    intro pl hp1 hp2
    have hPl := hP pl len (Nat.le_refl _) hp1 (fun i hi => hp2 i (Or.inl hi))
    refine br_f (by decide) ?_
    refine z1_120 (a_plain := pl) (p := p) hs (by omega) (hPl s (by omega)).2 (hp s (by omega)) T h0 h1 ?_
    intro tb tl hT
    exact K _ tb tl hPl hT
end
section
variable {f_bodyLength f_bits f_bitCount f_readAt f_readEnd f_w f_h : Int32} {a_pixels a_users a_buffer a_wide a_high a_start a_right a_down a_factor a_offset a_files a_fileLength a_plain a_body a_residue a_tokens a_distances a_heads a_chain a_weight a_parent a_symbol a_codeLength a_codeOf a_lengthOf a_perLength a_before a_last : Nat → Int32}
theorem z1_unp {post : SX → Prop} {n cl : Nat} {p : Nat → Nat} (hwh : f_w * f_h = nI n) (hn : n ≤ 64) (hcl2 : 2 ≤ cl) (hcl : cl ≤ 256) (hp : ∀ j, j < n → p j < 256)
    (K : ∀ b c ra pl tb tl, zp_P pl p n → post (f_bodyLength, b, c, ra, f_readEnd, f_w, f_h, a_pixels, a_users, a_buffer, a_wide, a_high, a_start, a_right, a_down, a_factor, a_offset, a_files, a_fileLength, pl, a_body, a_residue, a_tokens, a_distances, a_heads, a_chain, a_weight, a_parent, a_symbol, a_codeLength, a_codeOf, a_lengthOf, a_perLength, tb, tl)) :
    ∀ m bf la sent s fs prior b cc ra pl tb tl, z1_D n cl p m bf la sent s fs → sent < 24 → zs_R fs b cc ra f_readEnd a_files → zp_P pl p s →
      z1_T bf la (sent - 1) tb tl → (sent = 0 → prior = -1) → (0 < sent → prior = nI (bf (sent - 1)) ∧ bf (sent - 1) < 512 ∧ la (sent - 1) = p s) →
      ∀ f, 2 * m ≤ f → wX_unpackStrings_15 post (nI cl) f (nI sent) (nI s) prior f_bodyLength b cc ra f_readEnd f_w f_h a_pixels a_users a_buffer a_wide a_high a_start a_right a_down a_factor a_offset a_files a_fileLength pl a_body a_residue a_tokens a_distances a_heads a_chain a_weight a_parent a_symbol a_codeLength a_codeOf a_lengthOf a_perLength tb tl := by
  intro m
  induction m with
  | zero => intro bf la sent s fs prior b cc ra pl tb tl h; exact absurd h id
  | succ m ih =>
    intro bf la sent s fs prior b cc ra pl tb tl hD hs hR hP hT h0 h1 f hf
    obtain ⟨f, rfl⟩ : ∃ q, f = q + 2 := ⟨f - 2, by omega⟩
    obtain ⟨len, c, fs', hS, hsn, rfl, hrest⟩ := hD
    have hS1 := z1_S1 hS
    have hcc := z1_clt hS
    have hw9 : z1_w (cl + sent) ≤ 9 := z1_wle (by omega) (by omega)
    refine br_f (by rw [hwh]; exact nI_ge (by omega) (by omega)) ?_
    rw [nI_add]
    refine z1_width (by omega) (by omega) ?_
    refine zs_get (v := c) (n := z1_w (cl + sent)) (fs := fs') rfl (by omega) hR ?_
    intro b2 c2 ra2 hR2
    refine br_f (fun z => ?_) ?_
    · have := (nI_eq (by omega) (by omega)).mp z
      rcases hS1.2 with q | q <;> omega
    · refine z1_code (f_bits := b2) (f_bitCount := c2) (f_readAt := ra2) (a_plain := pl) (a_before := tb) (a_last := tl) (p := p) hn hcl hp hs hS hsn hP hT h0 h1 ?_
      intro pl2 tb2 tl2 hP2 hT2
      have hzT : ∀ x y, z1_T (zu bf sent x) (zu la sent y) sent tb2 tl2 := by
        intro x y j hj
        rw [zu_n (by omega), zu_n (by omega)]
        exact hT2 j hj
      rcases hrest with he | ⟨he, h24, hD2⟩ | ⟨he, h24, fs'', rfl, hD2⟩
      · refine br_t (by rw [hwh]; exact nI_le (by omega) (by omega)) (K _ _ _ _ _ _ ?_)
        rw [← he]
        exact hP2
      · refine ih _ _ (sent + 1) (s + len) fs' (nI c) b2 c2 ra2 pl2 tb2 tl2 hD2 h24 hR2 hP2 (hzT _ _) (fun z => absurd z (by omega)) (fun _ => ?_) (f + 1) (by omega)
        rw [Nat.add_sub_cancel, zu_s, zu_s]
        exact ⟨rfl, by omega, rfl⟩
      · have hw9' : z1_w (cl + 24) ≤ 9 := z1_wle (by omega) (by omega)
        refine br_f (by rw [hwh]; exact nI_ge (by omega) (by omega)) ?_
        rw [nI_add, h24]
        refine z1_width (by omega) (by omega) ?_
        refine zs_get (v := cl) (n := z1_w (cl + 24)) (fs := fs'') rfl (by omega) hR2 ?_
        intro b3 c3 ra3 hR3
        refine br_t rfl ?_
        exact ih _ _ 0 (s + len) fs'' (-1) b3 c3 ra3 pl2 tb2 tl2 hD2 (by omega) hR3 hP2 (fun j hj => absurd hj (by omega)) (fun _ => rfl) (fun z => absurd z (by omega)) f (by omega)
theorem z1_unpack {post : SX → Prop} {w h root m : Nat} {p : Nat → Nat} {fs : List (Nat × Nat)} (hw : f_w = nI w) (hh : f_h = nI h) (hn : w * h ≤ 64) (hr1 : 1 ≤ root) (hr8 : root ≤ 8)
    (hp : ∀ k, k < w * h → p k < 256) (hD : z1_D (w * h) (2 ^ root) p m (fun _ => 0) (fun _ => 0) 0 0 fs)
    (hR : zs_R ((root, 4) :: fs) f_bits f_bitCount f_readAt f_readEnd a_files)
    (K : ∀ b c ra pl tb tl, zp_P pl p (w * h) → post (f_bodyLength, b, c, ra, f_readEnd, f_w, f_h, a_pixels, a_users, a_buffer, a_wide, a_high, a_start, a_right, a_down, a_factor, a_offset, a_files, a_fileLength, pl, a_body, a_residue, a_tokens, a_distances, a_heads, a_chain, a_weight, a_parent, a_symbol, a_codeLength, a_codeOf, a_lengthOf, a_perLength, tb, tl)) :
    wpX_unpackStrings post (f_bodyLength, f_bits, f_bitCount, f_readAt, f_readEnd, f_w, f_h, a_pixels, a_users, a_buffer, a_wide, a_high, a_start, a_right, a_down, a_factor, a_offset, a_files, a_fileLength, a_plain, a_body, a_residue, a_tokens, a_distances, a_heads, a_chain, a_weight, a_parent, a_symbol, a_codeLength, a_codeOf, a_lengthOf, a_perLength, a_before, a_last) := by
  have hwh : f_w * f_h = nI (w * h) := by rw [hw, hh, pk_mul]
  refine zs_get (v := root) (n := 4) (fs := fs) rfl (by decide) hR ?_
  intro b c ra hR2
  have hc2 : 2 ^ 1 ≤ 2 ^ root := zn_pow hr1
  have hc8 : 2 ^ root ≤ 2 ^ 8 := zn_pow hr8
  refine nm_r (zn_p1 (by omega)) ⟨2 * m, ?_⟩
  exact z1_unp hwh hn (by omega) (by omega) hp K m _ _ 0 0 fs (-1) b c ra _ _ _ hD (by omega) hR2 (zp_0 _ _) (fun j hj => absurd hj (by omega)) (fun _ => rfl) (fun z => absurd z (by omega)) (2 * m) (Nat.le_refl _)
end
end
section
/-! the cyclic check -/
def zc_s (v : Int32) : Int32 := if (v &&& 1) = 0 then (v.toUInt32 >>> ((1 : Int32).toUInt32 &&& Int32.toUInt32 31)).toInt32 else ((v.toUInt32 >>> ((1 : Int32).toUInt32 &&& Int32.toUInt32 31)).toInt32) ^^^ (-306674912)
def zc_b : Nat → Int32 → Int32
  | 0, v => v
  | m + 1, v => zc_b m (zc_s v)
def zc_c (fi : Nat → Int32) : Nat → Nat → Int32 → Int32
  | _, 0, c => c
  | a, m + 1, c => zc_c fi (a + 1) m (zc_b 8 (c ^^^ (fi a &&& 255)))
def zc_crc (fi : Nat → Int32) (a n : Nat) : Int32 := zc_c fi a n (-1) ^^^ (-1)
def zc_M (fi : Nat → Int32) : Nat → Nat → Int32 → Prop
  | _, 0, _ => True
  | k, m + 1, c => fi k = c.toInt8.toInt32 ∧ zc_M fi (k + 1) m (c >>> ((8 : Int32) &&& 31))
def zc_I (fi : Nat → Int32) (a ln : Nat) : Prop := 7 ≤ ln ∧ fi (a + 2) &&& 255 = nI (ln - 7) ∧ zc_M fi (a + ln - 4) 4 (zc_crc fi a (ln - 4))
theorem zc_cF {fi fj : Nat → Int32} : ∀ n a c, (∀ k, a ≤ k → k < a + n → fi k = fj k) → zc_c fi a n c = zc_c fj a n c := by
  intro n
  induction n with
  | zero => intro a c h; rfl
  | succ n ih =>
    intro a c h
    show zc_c fi (a + 1) n _ = zc_c fj (a + 1) n _
    rw [h a (Nat.le_refl _) (by omega)]
    exact ih (a + 1) _ (fun k h1 h2 => h k (by omega) (by omega))
theorem zc_MF {fi fj : Nat → Int32} : ∀ n a c, (∀ k, a ≤ k → k < a + n → fi k = fj k) → zc_M fi a n c → zc_M fj a n c := by
  intro n
  induction n with
  | zero => intro a c h _; trivial
  | succ n ih =>
    intro a c h ⟨h1, h2⟩
    refine ⟨?_, ih (a + 1) _ (fun k h1 h2 => h k (by omega) (by omega)) h2⟩
    rw [← h a (Nat.le_refl _) (by omega)]
    exact h1
theorem zc_IF {fi fj : Nat → Int32} {a b ln : Nat} (h : ∀ k, k < ln → fi (a + k) = fj (b + k)) (hI : zc_I fi a ln) : zc_I fj b ln := by
  obtain ⟨h7, h2, hM⟩ := hI
  have hS : ∀ n k c, k + n ≤ ln → zc_c fi (a + k) n c = zc_c fj (b + k) n c := by
    intro n
    induction n with
    | zero => intro k c _; rfl
    | succ n ih =>
      intro k c hk
      show zc_c fi (a + k + 1) n _ = zc_c fj (b + k + 1) n _
      rw [h k (by omega)]
      exact ih (k + 1) _ (by omega)
  have hM' : ∀ n k c, k + n ≤ ln → zc_M fi (a + k) n c → zc_M fj (b + k) n c := by
    intro n
    induction n with
    | zero => intro k c _ _; trivial
    | succ n ih =>
      intro k c hk ⟨q1, q2⟩
      refine ⟨?_, ih (k + 1) _ (by omega) q2⟩
      rw [← h k (by omega)]
      exact q1
  refine ⟨h7, ?_, ?_⟩
  · rw [← h 2 (by omega)]; exact h2
  · have e1 : zc_crc fj b (ln - 4) = zc_crc fi a (ln - 4) := by
      unfold zc_crc
      have := hS (ln - 4) 0 (-1) (by omega)
      rw [Nat.add_zero, Nat.add_zero] at this
      rw [this]
    rw [e1, show b + ln - 4 = b + (ln - 4) by omega]
    rw [show a + ln - 4 = a + (ln - 4) by omega] at hM
    exact hM' 4 (ln - 4) _ (by omega) hM
theorem zc_IF' {fi fj : Nat → Int32} {a b ln : Nat} (h : ∀ k, k < ln → fi (a + k) = fj (b + k)) : zc_I fi a ln ↔ zc_I fj b ln :=
  ⟨zc_IF h, zc_IF (fun k hk => (h k hk).symm)⟩
theorem zc_b1 : ∀ i, i < 32 → bt 1 i = decide (i = 0) := by decide +kernel
theorem zc_even (v : Int32) : (v &&& 1) = 0 ↔ bt v 0 = false := by
  constructor
  · intro h
    have h2 : bt (v &&& 1) 0 = bt 0 0 := by rw [h]
    rw [b_and, b_0, zc_b1 0 (by decide)] at h2
    simpa using h2
  · intro h
    apply b_ext
    intro i hi
    rw [b_and, b_0, zc_b1 i hi]
    by_cases e : i = 0
    · subst e; rw [h]; rfl
    · simp [e]
theorem zc_sb (v : Int32) (i : Nat) : bt (zc_s v) i = (bt v (1 + i) ^^ (bt v 0 && bt (-306674912) i)) := by
  have hu : ∀ i, bt ((v.toUInt32 >>> ((1 : Int32).toUInt32 &&& Int32.toUInt32 31)).toInt32) i = bt v (1 + i) := fun i => b_ushr 1 (by decide) v i
  unfold zc_s
  by_cases h : (v &&& 1) = 0
  · rw [if_pos h, (zc_even v).mp h, hu]
    simp
  · rw [if_neg h, b_xor, hu]
    have h2 : bt v 0 = true := by
      cases hb : bt v 0
      · exact absurd ((zc_even v).mpr hb) h
      · rfl
    rw [h2]
    simp
theorem zc_inj {v w : Int32} (h : zc_s v = zc_s w) : v = w := by
  have hp : bt (-306674912) 31 = true := by decide +kernel
  have hb : ∀ i, (bt v (1 + i) ^^ (bt v 0 && bt (-306674912) i)) = (bt w (1 + i) ^^ (bt w 0 && bt (-306674912) i)) := by
    intro i
    rw [← zc_sb, ← zc_sb, h]
  have h0 : bt v 0 = bt w 0 := by
    have := hb 31
    rw [b_big (x := v) (i := 1 + 31) (by decide), b_big (x := w) (i := 1 + 31) (by decide), hp] at this
    simpa using this
  apply b_ext
  intro i hi
  cases i with
  | zero => exact h0
  | succ i =>
    have := hb i
    rw [h0] at this
    rw [Nat.add_comm i 1]
    simpa using this
theorem zc_binj : ∀ m {v w : Int32}, zc_b m v = zc_b m w → v = w := by
  intro m
  induction m with
  | zero => intro v w h; exact h
  | succ m ih => intro v w h; exact zc_inj (ih h)
theorem zc_xl {a b c : Int32} (h : a ^^^ c = b ^^^ c) : a = b := by
  have := congrArg (fun z => z ^^^ c) h
  simpa [Int32.xor_assoc] using this
theorem zc_xr {a b c : Int32} (h : c ^^^ a = c ^^^ b) : a = b := by
  rw [Int32.xor_comm c a, Int32.xor_comm c b] at h
  exact zc_xl h
theorem zc_cinj (fi : Nat → Int32) : ∀ n a {c d : Int32}, zc_c fi a n c = zc_c fi a n d → c = d := by
  intro n
  induction n with
  | zero => intro a c d h; exact h
  | succ n ih => intro a c d h; exact zc_xl (zc_binj 8 (ih (a + 1) h))
theorem zc_one {fi fj : Nat → Int32} {j : Nat} (hj : ∀ k, k ≠ j → fi k = fj k) (hne : fi j &&& 255 ≠ fj j &&& 255) :
    ∀ n a c, a ≤ j → j < a + n → zc_c fi a n c ≠ zc_c fj a n c := by
  intro n
  induction n with
  | zero => intro a c h1 h2; omega
  | succ n ih =>
    intro a c h1 h2 he
    by_cases e : a = j
    · subst e
      have he2 : zc_c fi (a + 1) n (zc_b 8 (c ^^^ (fi a &&& 255))) = zc_c fi (a + 1) n (zc_b 8 (c ^^^ (fj a &&& 255))) := by
        rw [zc_cF (fi := fi) (fj := fj) n (a + 1) (zc_b 8 (c ^^^ (fj a &&& 255))) (fun k q1 q2 => hj k (by omega))]
        exact he
      exact hne (zc_xr (zc_binj 8 (zc_cinj fi n (a + 1) he2)))
    · refine ih (a + 1) (zc_b 8 (c ^^^ (fi a &&& 255))) (by omega) (by omega) ?_
      have he2 : zc_c fi (a + 1) n (zc_b 8 (c ^^^ (fi a &&& 255))) = zc_c fj (a + 1) n (zc_b 8 (c ^^^ (fj a &&& 255))) := he
      rw [he2, hj a e]
theorem zc_bits8 {x y : Int32} (h : x.toInt8.toInt32 = y.toInt8.toInt32) {i : Nat} (hi : i < 8) : bt x i = bt y i := by
  have h2 : x &&& 255 = y &&& 255 := by rw [← bp_b x, ← bp_b y, h]
  have h3 : bt (x &&& 255) i = bt (y &&& 255) i := by rw [h2]
  rw [b_and, b_and, b_255, decide_eq_true hi] at h3
  simpa using h3
theorem zc_Minj {fi : Nat → Int32} {k : Nat} {c d : Int32} (hc : zc_M fi k 4 c) (hd : zc_M fi k 4 d) : c = d := by
  obtain ⟨c0, c1, c2, c3, _⟩ := hc
  obtain ⟨d0, d1, d2, d3, _⟩ := hd
  have e0 := c0.symm.trans d0
  have e1 := c1.symm.trans d1
  have e2 := c2.symm.trans d2
  have e3 := c3.symm.trans d3
  have s1 : ∀ (x : Int32) (i : Nat), i < 24 → bt (x >>> ((8 : Int32) &&& 31)) i = bt x (8 + i) := by
    intro x i hi
    rw [b_sshr8 x (by omega), if_pos (by omega)]
  apply b_ext
  intro i hi
  by_cases h1 : i < 8
  · exact zc_bits8 e0 h1
  by_cases h2 : i < 16
  · have := zc_bits8 e1 (i := i - 8) (by omega)
    rw [s1 _ _ (by omega), s1 _ _ (by omega), show 8 + (i - 8) = i by omega] at this
    exact this
  by_cases h3 : i < 24
  · have := zc_bits8 e2 (i := i - 16) (by omega)
    rw [s1 _ _ (by omega), s1 _ _ (by omega), s1 _ _ (by omega), s1 _ _ (by omega), show 8 + (8 + (i - 16)) = i by omega] at this
    exact this
  · have := zc_bits8 e3 (i := i - 24) (by omega)
    rw [s1 _ _ (by omega), s1 _ _ (by omega), s1 _ _ (by omega), s1 _ _ (by omega), s1 _ _ (by omega), s1 _ _ (by omega), show 8 + (8 + (8 + (i - 24))) = i by omega] at this
    exact this
theorem zc_Beq {x y : Int32} (hx : zn_B x) (hy : zn_B y) (h : x &&& 255 = y &&& 255) : x = y := by
  have h2 := congrArg Int32.toInt8 h
  rw [zn_m255, zn_m255] at h2
  have h3 : x.toInt8.toInt32 = x := hx
  have h4 : y.toInt8.toInt32 = y := hy
  rw [← h3, ← h4, h2]
theorem zc_dmg {fi : Nat → Int32} {a ln j : Nat} {x : Int32} (hI : zc_I fi a ln) (h1 : a ≤ j) (h2 : j < a + ln) (hb : zn_B (fi j)) (hx : zn_B x) (hne : x ≠ fi j) :
    ¬ zc_I (upd fi j x) a ln := by
  intro hI2
  obtain ⟨p1, p2, p3⟩ := hI
  obtain ⟨q1, q2, q3⟩ := hI2
  have hoth : ∀ k, k ≠ j → fi k = upd fi j x k := fun k hk => (pk_un hk).symm
  have hd : fi j &&& 255 ≠ upd fi j x j &&& 255 := by
    rw [pk_us]
    exact fun z => hne (zc_Beq hb hx z).symm
  by_cases c1 : j = a + 2
  · subst c1
    rw [pk_us] at q2
    exact hne (zc_Beq hx hb (q2.trans p2.symm))
  · by_cases c2 : j < a + ln - 4
    · have q4 : zc_M fi (a + ln - 4) 4 (zc_crc (upd fi j x) a (ln - 4)) :=
        zc_MF 4 _ _ (fun k k1 k2 => (hoth k (by omega)).symm) q3
      have e := zc_Minj p3 q4
      unfold zc_crc at e
      exact zc_one hoth hd (ln - 4) a (-1) h1 (by omega) (zc_xl e)
    · have ec : zc_crc (upd fi j x) a (ln - 4) = zc_crc fi a (ln - 4) := by
        unfold zc_crc
        rw [zc_cF (ln - 4) a (-1) (fun k k1 k2 => (hoth k (by omega)).symm)]
      rw [ec] at q3
      have hM : ∀ n k c, zc_M fi k n c → zc_M (upd fi j x) k n c → k ≤ j → j < k + n → upd fi j x j = fi j := by
        intro n
        induction n with
        | zero => intro k c _ _ g1 g2; omega
        | succ n ih =>
          intro k c m1 m2 g1 g2
          by_cases e : k = j
          · rw [e] at m1 m2
            rw [m1.1, m2.1]
          · exact ih (k + 1) _ m1.2 m2.2 (by omega) (by omega)
      have := hM 4 (a + ln - 4) _ p3 q3 (by omega) (by omega)
      rw [pk_us] at this
      exact hne this
section
variable {f_bodyLength f_bits f_bitCount f_readAt f_readEnd f_w f_h : Int32} {a_pixels a_users a_buffer a_wide a_high a_start a_right a_down a_factor a_offset a_files a_fileLength a_plain a_body a_residue a_tokens a_distances a_heads a_chain a_weight a_parent a_symbol a_codeLength a_codeOf a_lengthOf a_perLength a_before a_last : Nat → Int32}
theorem zc_checkByte {post : Int32 → Prop} {c : Int32} (K : post (zc_b 8 c)) : wpX_checkByte post c := by
  have H : ∀ d k v, k + d = 8 → zc_b d v = zc_b 8 c → ∀ m, d < m → wX_checkByte_4 post m v (nI k) := by
    intro d
    induction d with
    | zero =>
      intro k v hk hv m hm
      obtain ⟨m, rfl⟩ : ∃ q, m = q + 1 := ⟨m - 1, by omega⟩
      refine br_t (nI_le (a := 8) (by omega) (by omega)) ?_
      have : v = zc_b 8 c := hv
      rw [this]
      exact K
    | succ d ih =>
      intro k v hk hv m hm
      obtain ⟨m, rfl⟩ : ∃ q, m = q + 1 := ⟨m - 1, by omega⟩
      refine br_f (nI_ge (b := 8) (by omega) (by omega)) ?_
      have hv2 : zc_b d (zc_s v) = zc_b 8 c := hv
      unfold zc_s at hv2
      by_cases h : (v &&& 1) = 0
      · rw [if_pos h] at hv2
        exact br_t h (nm_e (nm_r (nI_1 k) (ih (k + 1) _ (by omega) hv2 m (by omega))))
      · rw [if_neg h] at hv2
        exact br_f h (nm_e (nm_r (nI_1 k) (ih (k + 1) _ (by omega) hv2 m (by omega))))
  exact ⟨9, H 8 0 c (by omega) rfl 9 (by omega)⟩
theorem zc_check {post : Int32 → Prop} {f n : Nat} (hf : f < 4) (hn : n ≤ 240) (K : post (zc_crc a_files (f * 240) n)) : wpX_check post (f_bodyLength, f_bits, f_bitCount, f_readAt, f_readEnd, f_w, f_h, a_pixels, a_users, a_buffer, a_wide, a_high, a_start, a_right, a_down, a_factor, a_offset, a_files, a_fileLength, a_plain, a_body, a_residue, a_tokens, a_distances, a_heads, a_chain, a_weight, a_parent, a_symbol, a_codeLength, a_codeOf, a_lengthOf, a_perLength, a_before, a_last) (nI f) (nI n) := by
  have hm240 : nI f * 240 = nI (f * 240) := pk_mul f 240
  have H : ∀ d k v, k + d = f * 240 + n → zc_c a_files k d v = zc_c a_files (f * 240) n (-1) → ∀ m, d < m → wX_check_9 post (nI f) (nI n) f_bodyLength f_bits f_bitCount f_readAt f_readEnd f_w f_h a_pixels a_users a_buffer a_wide a_high a_start a_right a_down a_factor a_offset a_files a_fileLength a_plain a_body a_residue a_tokens a_distances a_heads a_chain a_weight a_parent a_symbol a_codeLength a_codeOf a_lengthOf a_perLength a_before a_last m v (nI k) := by
    intro d
    induction d with
    | zero =>
      intro k v hk hv m hm
      obtain ⟨m, rfl⟩ : ∃ q, m = q + 1 := ⟨m - 1, by omega⟩
      refine br_t (by rw [hm240, nI_add]; exact nI_le (by omega) (by omega)) ?_
      have : v = zc_c a_files (f * 240) n (-1) := hv
      rw [this]
      exact K
    | succ d ih =>
      intro k v hk hv m hm
      obtain ⟨m, rfl⟩ : ∃ q, m = q + 1 := ⟨m - 1, by omega⟩
      refine br_f (by rw [hm240, nI_add]; exact nI_ge (by omega) (by omega)) ⟨vp_in_nI (by omega) (by decide), zc_checkByte ?_⟩
      rw [nI_clamp (by omega)]
      exact nm_r (nI_1 k) (ih (k + 1) _ (by omega) hv m (by omega))
  exact nm_r hm240 ⟨n + 1, H n (f * 240) (-1) rfl rfl (n + 1) (by omega)⟩
theorem zc_intact {post : Int32 → Prop} {f ln : Nat} (hf : f < 4) (hln : ln ≤ 240) (he : a_fileLength f = nI ln)
    (K1 : zc_I a_files (f * 240) ln → post 1) (K0 : ¬ zc_I a_files (f * 240) ln → post 0) : wpX_intact post (f_bodyLength, f_bits, f_bitCount, f_readAt, f_readEnd, f_w, f_h, a_pixels, a_users, a_buffer, a_wide, a_high, a_start, a_right, a_down, a_factor, a_offset, a_files, a_fileLength, a_plain, a_body, a_residue, a_tokens, a_distances, a_heads, a_chain, a_weight, a_parent, a_symbol, a_codeLength, a_codeOf, a_lengthOf, a_perLength, a_before, a_last) (nI f) := by
  have hm240 : nI f * 240 = nI (f * 240) := pk_mul f 240
  refine ⟨vp_in_nI (by omega) (by decide), nm_r (e' := nI ln) (by rw [nI_clamp (by omega)]; exact he) ?_⟩
  by_cases h7 : ln < 7
  · exact br_t (nI_lt (b := 7) h7 (by decide)) (K0 (fun z => by have := z.1; omega))
  · refine br_f (nI_nlt (b := 7) (by omega) (by omega)) ?_
    have e2 : nI f * 240 + 2 = nI (f * 240 + 2) := by rw [hm240]; exact nI_add _ 2
    have e7 : nI ln - 7 = nI (ln - 7) := pk_sub (b := 7) (by omega)
    have e4 : nI ln - 4 = nI (ln - 4) := pk_sub (b := 4) (by omega)
    rw [e2, e7, e4]
    refine ⟨vp_in_nI (by omega) (by decide), ?_⟩
    rw [nI_clamp (by omega)]
    by_cases h2 : a_files (f * 240 + 2) &&& 255 = nI (ln - 7)
    · refine br_t h2 (zc_check hf (by omega) ?_)
      have H : ∀ d k c, k + d = f * 240 + ln → (zc_M a_files k d c → zc_I a_files (f * 240) ln) → (zc_I a_files (f * 240) ln → zc_M a_files k d c) → ∀ m, d < m → wX_intact_58 post (nI f) (nI ln) f_bodyLength f_bits f_bitCount f_readAt f_readEnd f_w f_h a_pixels a_users a_buffer a_wide a_high a_start a_right a_down a_factor a_offset a_files a_fileLength a_plain a_body a_residue a_tokens a_distances a_heads a_chain a_weight a_parent a_symbol a_codeLength a_codeOf a_lengthOf a_perLength a_before a_last m c (nI k) := by
        intro d
        induction d with
        | zero =>
          intro k c hk g1 g2 m hm
          obtain ⟨m, rfl⟩ : ∃ q, m = q + 1 := ⟨m - 1, by omega⟩
          exact br_t (by rw [hm240, nI_add]; exact nI_le (by omega) (by omega)) (K1 (g1 trivial))
        | succ d ih =>
          intro k c hk g1 g2 m hm
          obtain ⟨m, rfl⟩ : ∃ q, m = q + 1 := ⟨m - 1, by omega⟩
          refine br_f (by rw [hm240, nI_add]; exact nI_ge (by omega) (by omega)) ⟨vp_in_nI (by omega) (by decide), ?_⟩
          rw [nI_clamp (by omega)]
          by_cases hc : a_files k = c.toInt8.toInt32
          · exact br_t hc (nm_e (nm_r (nI_1 k) (ih (k + 1) _ (by omega) (fun z => g1 ⟨hc, z⟩) (fun z => (g2 z).2) m (by omega))))
          · exact br_f hc (K0 (fun z => hc (g2 z).1))
      refine nm_r (e' := nI (f * 240 + ln - 4)) ?_ ⟨5, H 4 (f * 240 + ln - 4) _ (by omega) (fun z => ⟨by omega, h2, z⟩) (fun z => z.2.2) 5 (by omega)⟩
      rw [hm240, nI_add]
      exact pk_sub (b := 4) (by omega)
    · exact br_f h2 (K0 (fun z => h2 z.2.1))
end
end
section
/-! format 2: the filters -/
def z2_a (pl : Nat → Int32) (w x y : Nat) : Int32 := if x = 0 then 0 else pl (y * w + (x - 1))
def z2_b (pl : Nat → Int32) (w x y : Nat) : Int32 := if y = 0 then 0 else pl ((y - 1) * w + x)
def z2_c (pl : Nat → Int32) (w x y : Nat) : Int32 := if x = 0 then 0 else if y = 0 then 0 else pl ((y - 1) * w + (x - 1))
def z2_ds (p q : Int32) : Int32 := if q ≤ p then p - q else q - p
def z2_cl (a b c : Int32) : Int32 :=
  if z2_ds (a + b - c) b < z2_ds (a + b - c) a then (if z2_ds (a + b - c) c < z2_ds (a + b - c) b then c else b)
  else if z2_ds (a + b - c) c < z2_ds (a + b - c) a then (if z2_ds (a + b - c) c < z2_ds (a + b - c) b then c else b) else a
def z2_p (pl : Nat → Int32) (w f x y : Nat) : Int32 :=
  if f = 0 then 0 else if f = 1 then z2_a pl w x y else if f = 2 then z2_b pl w x y else if f = 3 then (z2_a pl w x y + z2_b pl w x y) >>> ((1 : Int32) &&& 31)
  else z2_cl (z2_a pl w x y) (z2_b pl w x y) (z2_c pl w x y)
theorem z2_row {y w : Nat} (h : y ≠ 0) : (y - 1) * w + w = y * w := by
  obtain ⟨z, rfl⟩ : ∃ z, y = z + 1 := ⟨y - 1, by omega⟩
  rw [Nat.add_sub_cancel, Nat.succ_mul]
theorem z2_pF {pl pm : Nat → Int32} {w f x y : Nat} (hx : x < w) (h : ∀ k, k < y * w + x → pl k = pm k) : z2_p pl w f x y = z2_p pm w f x y := by
  have ea : z2_a pl w x y = z2_a pm w x y := by
    unfold z2_a
    by_cases e : x = 0
    · rw [if_pos e, if_pos e]
    · rw [if_neg e, if_neg e]
      exact h _ (by omega)
  have eb : z2_b pl w x y = z2_b pm w x y := by
    unfold z2_b
    by_cases e : y = 0
    · rw [if_pos e, if_pos e]
    · rw [if_neg e, if_neg e]
      have := z2_row (w := w) e
      exact h _ (by omega)
  have ec : z2_c pl w x y = z2_c pm w x y := by
    unfold z2_c
    by_cases e : x = 0
    · rw [if_pos e, if_pos e]
    · rw [if_neg e, if_neg e]
      by_cases e2 : y = 0
      · rw [if_pos e2, if_pos e2]
      · rw [if_neg e2, if_neg e2]
        have := z2_row (w := w) e2
        exact h _ (by omega)
  unfold z2_p
  rw [ea, eb, ec]
section
variable {f_bodyLength f_bits f_bitCount f_readAt f_readEnd f_w f_h : Int32} {a_pixels a_users a_buffer a_wide a_high a_start a_right a_down a_factor a_offset a_files a_fileLength a_plain a_body a_residue a_tokens a_distances a_heads a_chain a_weight a_parent a_symbol a_codeLength a_codeOf a_lengthOf a_perLength a_before a_last : Nat → Int32}
theorem z2_nearA {post : Int32 → Prop} {w x y : Nat} (hw : f_w = nI w) (hi : y * w + x < 72) (hy : y < 64) (K : post (z2_a a_plain w x y)) : wpX_near post (f_bodyLength, f_bits, f_bitCount, f_readAt, f_readEnd, f_w, f_h, a_pixels, a_users, a_buffer, a_wide, a_high, a_start, a_right, a_down, a_factor, a_offset, a_files, a_fileLength, a_plain, a_body, a_residue, a_tokens, a_distances, a_heads, a_chain, a_weight, a_parent, a_symbol, a_codeLength, a_codeOf, a_lengthOf, a_perLength, a_before, a_last) (nI x - 1) (nI y) := by
  subst hw
  by_cases e : x = 0
  · subst e
    exact br_t (by decide) (by unfold z2_a at K; rw [if_pos rfl] at K; exact K)
  · have e1 : nI x - 1 = nI (x - 1) := pk_sub (b := 1) (by omega)
    rw [e1]
    refine br_f (nI_pos (by omega)) (br_t (nI_pos' (by omega)) ?_)
    rw [pk_mul, nI_add]
    refine ⟨vp_in_nI (by omega) (by decide), ?_⟩
    rw [nI_clamp (by omega)]
    unfold z2_a at K
    rw [if_neg e] at K
    exact K
theorem z2_nearB {post : Int32 → Prop} {w x y : Nat} (hw : f_w = nI w) (hi : y * w + x < 72) (hy : y < 64) (K : post (z2_b a_plain w x y)) : wpX_near post (f_bodyLength, f_bits, f_bitCount, f_readAt, f_readEnd, f_w, f_h, a_pixels, a_users, a_buffer, a_wide, a_high, a_start, a_right, a_down, a_factor, a_offset, a_files, a_fileLength, a_plain, a_body, a_residue, a_tokens, a_distances, a_heads, a_chain, a_weight, a_parent, a_symbol, a_codeLength, a_codeOf, a_lengthOf, a_perLength, a_before, a_last) (nI x) (nI y - 1) := by
  subst hw
  by_cases e : y = 0
  · subst e
    exact br_f (nI_pos (by omega)) (br_f (by decide) (by unfold z2_b at K; rw [if_pos rfl] at K; exact K))
  · have e1 : nI y - 1 = nI (y - 1) := pk_sub (b := 1) (by omega)
    rw [e1]
    have := z2_row (w := w) e
    refine br_f (nI_pos (by omega)) (br_t (nI_pos' (by omega)) ?_)
    rw [pk_mul, nI_add]
    refine ⟨vp_in_nI (by omega) (by decide), ?_⟩
    rw [nI_clamp (by omega)]
    unfold z2_b at K
    rw [if_neg e] at K
    exact K
theorem z2_nearC {post : Int32 → Prop} {w x y : Nat} (hw : f_w = nI w) (hi : y * w + x < 72) (hy : y < 64) (K : post (z2_c a_plain w x y)) : wpX_near post (f_bodyLength, f_bits, f_bitCount, f_readAt, f_readEnd, f_w, f_h, a_pixels, a_users, a_buffer, a_wide, a_high, a_start, a_right, a_down, a_factor, a_offset, a_files, a_fileLength, a_plain, a_body, a_residue, a_tokens, a_distances, a_heads, a_chain, a_weight, a_parent, a_symbol, a_codeLength, a_codeOf, a_lengthOf, a_perLength, a_before, a_last) (nI x - 1) (nI y - 1) := by
  subst hw
  unfold z2_c at K
  by_cases e0 : x = 0
  · subst e0
    rw [if_pos rfl] at K
    exact br_t (by decide) K
  · rw [if_neg e0] at K
    have e2 : nI x - 1 = nI (x - 1) := pk_sub (b := 1) (by omega)
    rw [e2]
    by_cases e : y = 0
    · subst e
      rw [if_pos rfl] at K
      exact br_f (nI_pos (by omega)) (br_f (by decide) K)
    · have e1 : nI y - 1 = nI (y - 1) := pk_sub (b := 1) (by omega)
      rw [e1]
      have := z2_row (w := w) e
      refine br_f (nI_pos (by omega)) (br_t (nI_pos' (by omega)) ?_)
      rw [pk_mul, nI_add]
      refine ⟨vp_in_nI (by omega) (by decide), ?_⟩
      rw [nI_clamp (by omega)]
      rw [if_neg e] at K
      exact K
theorem z2_dist {post : Int32 → Prop} {p q : Int32} (K : post (z2_ds p q)) : wpX_distance post p q := by
  unfold z2_ds at K
  by_cases e : q ≤ p
  · rw [if_pos e] at K; exact br_t e K
  · rw [if_neg e] at K; exact br_f e K
theorem z2_closest {post : Int32 → Prop} {a b c : Int32} (K : post (z2_cl a b c)) : wpX_closest post a b c := by
  refine nm_e (z2_dist (z2_dist (z2_dist ?_)))
  unfold z2_cl at K
  have h45 : post (if z2_ds (a + b - c) c < z2_ds (a + b - c) b then c else b) → wX_closest_45 post b c (z2_ds (a + b - c) b) (z2_ds (a + b - c) c) := by
    intro h
    by_cases e : z2_ds (a + b - c) c < z2_ds (a + b - c) b
    · rw [if_pos e] at h; exact br_t e h
    · rw [if_neg e] at h; exact br_f e h
  by_cases e1 : z2_ds (a + b - c) b < z2_ds (a + b - c) a
  · rw [if_pos e1] at K
    exact br_t e1 (h45 K)
  · rw [if_neg e1] at K
    refine br_f e1 ?_
    by_cases e2 : z2_ds (a + b - c) c < z2_ds (a + b - c) a
    · rw [if_pos e2] at K
      exact br_t e2 (h45 K)
    · rw [if_neg e2] at K
      exact br_f e2 K
theorem z2_predict {post : Int32 → Prop} {w f x y : Nat} (hw : f_w = nI w) (hi : y * w + x < 72) (hx : x < 64) (hy : y < 64) (hf : f ≤ 4) (K : post (z2_p a_plain w f x y)) : wpX_predict post (f_bodyLength, f_bits, f_bitCount, f_readAt, f_readEnd, f_w, f_h, a_pixels, a_users, a_buffer, a_wide, a_high, a_start, a_right, a_down, a_factor, a_offset, a_files, a_fileLength, a_plain, a_body, a_residue, a_tokens, a_distances, a_heads, a_chain, a_weight, a_parent, a_symbol, a_codeLength, a_codeOf, a_lengthOf, a_perLength, a_before, a_last) (nI f) (nI x) (nI y) := by
  unfold wpX_predict
  refine z2_nearA hw hi hy ?_
  refine z2_nearB hw hi hy ?_
  refine br_f (nI_pos (by omega)) ?_
  unfold z2_p at K
  by_cases e4 : f = 4
  · subst e4
    rw [if_neg (by decide), if_neg (by decide), if_neg (by decide), if_neg (by decide)] at K
    exact br_t (by decide) (z2_nearC hw hi hy (z2_closest K))
  · refine br_f (nI_nlt (a := 3) (b := f) (by omega) (by decide)) ?_
    by_cases e0 : f = 0
    · subst e0
      rw [if_pos rfl] at K
      exact br_t rfl K
    · rw [if_neg e0] at K
      refine br_f (nI_ne0 (by omega) (by omega)) ?_
      by_cases e1 : f = 1
      · subst e1
        rw [if_pos rfl] at K
        exact br_t rfl K
      · rw [if_neg e1] at K
        refine br_f (fun z => e1 ((nI_eq (b := 1) (by omega) (by decide)).mp z)) ?_
        by_cases e2 : f = 2
        · subst e2
          rw [if_pos rfl] at K
          exact br_t rfl K
        · rw [if_neg e2] at K
          refine br_f (fun z => e2 ((nI_eq (b := 2) (by omega) (by decide)).mp z)) ?_
          have e3 : f = 3 := by omega
          subst e3
          rw [if_pos rfl] at K
          exact br_t rfl K
theorem z2_rowCost {post : Int32 → Prop} {w h f y : Nat} (hw : f_w = nI w) (hw8 : w ≤ 8) (hh8 : h ≤ 8) (hy : y < h) (hf : f ≤ 4) (K : ∀ r, post r) : wpX_rowCost post (f_bodyLength, f_bits, f_bitCount, f_readAt, f_readEnd, f_w, f_h, a_pixels, a_users, a_buffer, a_wide, a_high, a_start, a_right, a_down, a_factor, a_offset, a_files, a_fileLength, a_plain, a_body, a_residue, a_tokens, a_distances, a_heads, a_chain, a_weight, a_parent, a_symbol, a_codeLength, a_codeOf, a_lengthOf, a_perLength, a_before, a_last) (nI f) (nI y) := by
  have hyw : y * w + w ≤ 64 := by
    have h1 : (y + 1) * w ≤ 8 * 8 := Nat.mul_le_mul (by omega) hw8
    rw [Nat.succ_mul] at h1
    exact h1
  have H : ∀ d x s, x + d = w → ∀ m, d < m → wX_rowCost_5 post (nI f) (nI y) f_bodyLength f_bits f_bitCount f_readAt f_readEnd f_w f_h a_pixels a_users a_buffer a_wide a_high a_start a_right a_down a_factor a_offset a_files a_fileLength a_plain a_body a_residue a_tokens a_distances a_heads a_chain a_weight a_parent a_symbol a_codeLength a_codeOf a_lengthOf a_perLength a_before a_last m s (nI x) := by
    intro d
    induction d with
    | zero =>
      intro x s hx m hm
      obtain ⟨m, rfl⟩ : ∃ q, m = q + 1 := ⟨m - 1, by omega⟩
      exact br_t (by rw [hw]; exact nI_le (by omega) (by omega)) (K s)
    | succ d ih =>
      intro x s hx m hm
      obtain ⟨m, rfl⟩ : ∃ q, m = q + 1 := ⟨m - 1, by omega⟩
      refine br_f (by rw [hw]; exact nI_ge (by omega) (by omega)) ⟨by rw [hw, pk_mul, nI_add]; exact vp_in_nI (by omega) (by decide), ?_⟩
      refine z2_predict hw (by omega) (by omega) (by omega) hf ?_
      refine nm_e (br_c (fun _ => ?_) (fun _ => ?_))
      · exact nm_e (nm_r (nI_1 x) (ih (x + 1) _ (by omega) m (by omega)))
      · exact nm_e (nm_r (nI_1 x) (ih (x + 1) _ (by omega) m (by omega)))
  exact ⟨w + 1, H w 0 0 (by omega) (w + 1) (by omega)⟩
theorem z2_bestFilter {post : Int32 → Prop} {w h y : Nat} (hw : f_w = nI w) (hw8 : w ≤ 8) (hh8 : h ≤ 8) (hy : y < h) (K : ∀ f, f ≤ 4 → post (nI f)) : wpX_bestFilter post (f_bodyLength, f_bits, f_bitCount, f_readAt, f_readEnd, f_w, f_h, a_pixels, a_users, a_buffer, a_wide, a_high, a_start, a_right, a_down, a_factor, a_offset, a_files, a_fileLength, a_plain, a_body, a_residue, a_tokens, a_distances, a_heads, a_chain, a_weight, a_parent, a_symbol, a_codeLength, a_codeOf, a_lengthOf, a_perLength, a_before, a_last) (nI y) := by
  refine z2_rowCost (f := 0) hw hw8 hh8 hy (by omega) ?_
  intro r
  have H : ∀ d f b s, f + d = 5 → b ≤ 4 → ∀ m, d < m → wX_bestFilter_12 post (nI y) f_bodyLength f_bits f_bitCount f_readAt f_readEnd f_w f_h a_pixels a_users a_buffer a_wide a_high a_start a_right a_down a_factor a_offset a_files a_fileLength a_plain a_body a_residue a_tokens a_distances a_heads a_chain a_weight a_parent a_symbol a_codeLength a_codeOf a_lengthOf a_perLength a_before a_last m (nI b) s (nI f) := by
    intro d
    induction d with
    | zero =>
      intro f b s hf hb m hm
      obtain ⟨m, rfl⟩ : ∃ q, m = q + 1 := ⟨m - 1, by omega⟩
      exact br_t (nI_le (a := 5) (by omega) (by omega)) (K b hb)
    | succ d ih =>
      intro f b s hf hb m hm
      obtain ⟨m, rfl⟩ : ∃ q, m = q + 1 := ⟨m - 1, by omega⟩
      refine br_f (nI_ge (b := 5) (by omega) (by decide)) (z2_rowCost hw hw8 hh8 hy (by omega) ?_)
      intro c
      refine br_c (fun _ => ?_) (fun _ => ?_)
      · exact nm_r (nI_1 f) (ih (f + 1) b s (by omega) hb m (by omega))
      · exact nm_r (nI_1 f) (ih (f + 1) f c (by omega) (by omega) m (by omega))
  exact ⟨5, H 4 1 0 r (by omega) (by omega) 5 (by omega)⟩
end
/-- what the filters leave -/
def z2_Gr (pl : Nat → Int32) (w : Nat) (re : Nat → Int32) (y : Nat) : Prop :=
  ∃ f, f ≤ 4 ∧ re (y * (w + 1)) = nI f ∧ ∀ x, x < w → re (y * (w + 1) + 1 + x) = (pl (y * w + x) - z2_p pl w f x y) &&& 255
def z2_G (pl : Nat → Int32) (w h : Nat) (re : Nat → Int32) : Prop := ∀ y, y < h → z2_Gr pl w re y
theorem z2_GrF {pl : Nat → Int32} {w y : Nat} {re rf : Nat → Int32} (h : ∀ k, k < (y + 1) * (w + 1) → re k = rf k) (hG : z2_Gr pl w re y) : z2_Gr pl w rf y := by
  obtain ⟨f, h1, h2, h3⟩ := hG
  have hs : (y + 1) * (w + 1) = y * (w + 1) + (w + 1) := Nat.succ_mul y (w + 1)
  refine ⟨f, h1, ?_, fun x hx => ?_⟩
  · rw [← h _ (by omega)]; exact h2
  · rw [← h _ (by omega)]; exact h3 x hx
theorem z2_Gn {pl : Nat → Int32} {w h : Nat} {re : Nat → Int32} (hG : z2_G pl w h re) : zp_P re (fun k => (re k).toNatClampNeg) ((w + 1) * h) := by
  intro k hk
  have h1 : k / (w + 1) < h := Nat.div_lt_of_lt_mul hk
  have h2 : k % (w + 1) < w + 1 := Nat.mod_lt _ (by omega)
  have h3 : k / (w + 1) * (w + 1) + k % (w + 1) = k := Nat.div_add_mod' k (w + 1)
  obtain ⟨f, g1, g2, g3⟩ := hG (k / (w + 1)) h1
  have : ∃ j, j < 256 ∧ re k = nI j := by
    by_cases e : k % (w + 1) = 0
    · refine ⟨f, by omega, ?_⟩
      rw [← g2]
      congr 1
      omega
    · have g4 := g3 (k % (w + 1) - 1) (by omega)
      rw [show k / (w + 1) * (w + 1) + 1 + (k % (w + 1) - 1) = k by omega] at g4
      rw [g4]
      exact zn_r255 _
  obtain ⟨j, hj, ej⟩ := this
  have e : (re k).toNatClampNeg = j := by rw [ej, nI_clamp (by omega)]
  show (re k).toNatClampNeg < 256 ∧ re k = nI (re k).toNatClampNeg
  rw [e]
  exact ⟨hj, ej⟩
section
variable {f_bodyLength f_bits f_bitCount f_readAt f_readEnd f_w f_h : Int32} {a_pixels a_users a_buffer a_wide a_high a_start a_right a_down a_factor a_offset a_files a_fileLength a_plain a_body a_residue a_tokens a_distances a_heads a_chain a_weight a_parent a_symbol a_codeLength a_codeOf a_lengthOf a_perLength a_before a_last : Nat → Int32}
theorem z2_fr32 {post : Int32 → SX → Prop} {J : Int32 → Int32 → (Nat → Int32) → (Nat → Int32) → (Nat → Int32) → (Nat → Int32) → (Nat → Int32) → (Nat → Int32) → (Nat → Int32) → (Nat → Int32) → (Nat → Int32) → (Nat → Int32) → (Nat → Int32) → (Nat → Int32) → (Nat → Int32) → (Nat → Int32) → (Nat → Int32) → (Nat → Int32) → (Nat → Int32) → (Nat → Int32) → (Nat → Int32) → (Nat → Int32) → (Nat → Int32) → (Nat → Int32) → (Nat → Int32) → (Nat → Int32) → (Nat → Int32) → (Nat → Int32) → (Nat → Int32) → (Nat → Int32) → Prop} {w h f y : Nat} (hw : f_w = nI w) (hw8 : w ≤ 8) (hh8 : h ≤ 8) (hy : y < h) (hf : f ≤ 4)
    (K : ∀ re, (∀ k, k < y * (w + 1) + 1 → re k = a_residue k) → (∀ x, x < w → re (y * (w + 1) + 1 + x) = (a_plain (y * w + x) - z2_p a_plain w f x y) &&& 255) → J (nI ((y + 1) * (w + 1))) (nI (y + 1)) a_pixels a_users a_buffer a_wide a_high a_start a_right a_down a_factor a_offset a_files a_fileLength a_plain a_body re a_tokens a_distances a_heads a_chain a_weight a_parent a_symbol a_codeLength a_codeOf a_lengthOf a_perLength a_before a_last) :
    ∀ d x re, x + d = w → (∀ k, k < y * (w + 1) + 1 → re k = a_residue k) → (∀ x', x' < x → re (y * (w + 1) + 1 + x') = (a_plain (y * w + x') - z2_p a_plain w f x' y) &&& 255) →
      ∀ m, d < m → wX_filterRows_32 post J (nI y) (nI f) f_bodyLength f_bits f_bitCount f_readAt f_readEnd f_w f_h m (nI (y * (w + 1) + 1 + x)) (nI x) a_pixels a_users a_buffer a_wide a_high a_start a_right a_down a_factor a_offset a_files a_fileLength a_plain a_body re a_tokens a_distances a_heads a_chain a_weight a_parent a_symbol a_codeLength a_codeOf a_lengthOf a_perLength a_before a_last := by
  have hyw : y * w + w ≤ 64 := by
    have h1 : (y + 1) * w ≤ 8 * 8 := Nat.mul_le_mul (by omega) hw8
    rw [Nat.succ_mul] at h1
    exact h1
  have hyw1 : y * (w + 1) = y * w + y := Nat.mul_succ y w
  have hyw2 : (y + 1) * (w + 1) = y * (w + 1) + (w + 1) := Nat.succ_mul y (w + 1)
  intro d
  induction d with
  | zero =>
    intro x re hx h1 h2 m hm
    obtain ⟨m, rfl⟩ : ∃ q, m = q + 1 := ⟨m - 1, by omega⟩
    refine br_t (by rw [hw]; exact nI_le (by omega) (by omega)) (nm_r (nI_1 y) ?_)
    rw [show y * (w + 1) + 1 + x = (y + 1) * (w + 1) by omega]
    exact K re h1 (fun x' hx' => h2 x' (by omega))
  | succ d ih =>
    intro x re hx h1 h2 m hm
    obtain ⟨m, rfl⟩ : ∃ q, m = q + 1 := ⟨m - 1, by omega⟩
    refine br_f (by rw [hw]; exact nI_ge (by omega) (by omega)) (nm_r (nI_1 _) ⟨by rw [hw, pk_mul, nI_add]; exact vp_in_nI (by omega) (by decide), ?_⟩)
    refine z2_predict hw (by omega) (by omega) (by omega) hf ?_
    refine ⟨vp_in_nI (by omega) (by decide), nm_e (nm_r (nI_1 x) ?_)⟩
    have ev : a_plain ((nI y * f_w) + nI x).toNatClampNeg = a_plain (y * w + x) := by rw [hw, pk_mul, nI_add, nI_clamp (by omega)]
    obtain ⟨j, hj, ej⟩ := zn_r255 (a_plain (y * w + x) - z2_p a_plain w f x y)
    rw [ev, ej, nI_clamp (by omega), zn_vs2 (by omega), Nat.add_assoc (y * (w + 1) + 1) x 1]
    refine ih (x + 1) _ (by omega) ?_ ?_ m (by omega)
    · intro k hk
      rw [pk_un (by omega)]
      exact h1 k hk
    · intro x' hx'
      by_cases e : x' = x
      · subst e
        rw [pk_us, ej]
      · rw [pk_un (by omega)]
        exact h2 x' (by omega)
theorem z2_filterRows {post : Int32 → SX → Prop} {w h : Nat} (hw : f_w = nI w) (hh : f_h = nI h) (hw8 : w ≤ 8) (hh8 : h ≤ 8)
    (K : ∀ re, z2_G a_plain w h re → post (nI ((w + 1) * h)) (f_bodyLength, f_bits, f_bitCount, f_readAt, f_readEnd, f_w, f_h, a_pixels, a_users, a_buffer, a_wide, a_high, a_start, a_right, a_down, a_factor, a_offset, a_files, a_fileLength, a_plain, a_body, re, a_tokens, a_distances, a_heads, a_chain, a_weight, a_parent, a_symbol, a_codeLength, a_codeOf, a_lengthOf, a_perLength, a_before, a_last)) : wpX_filterRows post (f_bodyLength, f_bits, f_bitCount, f_readAt, f_readEnd, f_w, f_h, a_pixels, a_users, a_buffer, a_wide, a_high, a_start, a_right, a_down, a_factor, a_offset, a_files, a_fileLength, a_plain, a_body, a_residue, a_tokens, a_distances, a_heads, a_chain, a_weight, a_parent, a_symbol, a_codeLength, a_codeOf, a_lengthOf, a_perLength, a_before, a_last) := by
  have H : ∀ d y re, y + d = h → z2_G a_plain w y re → ∀ m, d < m → wX_filterRows_4 post f_bodyLength f_bits f_bitCount f_readAt f_readEnd f_w f_h m (nI (y * (w + 1))) (nI y) a_pixels a_users a_buffer a_wide a_high a_start a_right a_down a_factor a_offset a_files a_fileLength a_plain a_body re a_tokens a_distances a_heads a_chain a_weight a_parent a_symbol a_codeLength a_codeOf a_lengthOf a_perLength a_before a_last := by
    intro d
    induction d with
    | zero =>
      intro y re hy hG m hm
      obtain ⟨m, rfl⟩ : ∃ q, m = q + 1 := ⟨m - 1, by omega⟩
      have e : y = h := by omega
      subst e
      refine br_t (by rw [hh]; exact nI_le (by omega) (by omega)) ?_
      rw [Nat.mul_comm y (w + 1)]
      exact K re hG
    | succ d ih =>
      intro y re hy hG m hm
      obtain ⟨m, rfl⟩ : ∃ q, m = q + 1 := ⟨m - 1, by omega⟩
      have hyw : y * (w + 1) + (w + 1) ≤ 72 := by
        have h1 : (y + 1) * (w + 1) ≤ 8 * 9 := Nat.mul_le_mul (by omega) (by omega)
        rw [Nat.succ_mul] at h1
        exact h1
      refine br_f (by rw [hh]; exact nI_ge (by omega) (by omega)) (z2_bestFilter hw hw8 hh8 (y := y) (h := h) (by omega) ?_)
      intro f hf
      refine nm_r (nI_1 _) ⟨vp_in_nI (by omega) (by decide), nm_e ?_⟩
      rw [nI_clamp (by omega), zn_vs2 (by omega)]
      refine ⟨w + 1, z2_fr32 (a_residue := upd re (y * (w + 1)) (nI f)) (h := h) hw hw8 hh8 (by omega) hf ?_ w 0 _ (by omega) (fun _ _ => rfl) (fun x' hx' => absurd hx' (Nat.not_lt_zero _)) (w + 1) (by omega)⟩
      intro re2 g1 g2
      refine ih (y + 1) re2 (by omega) ?_ m (by omega)
      intro y' hy'
      by_cases e : y' = y
      · subst e
        refine ⟨f, hf, ?_, g2⟩
        rw [g1 _ (by omega), pk_us]
      · refine z2_GrF (re := re) ?_ (hG y' (by omega))
        intro k hk
        have hle : (y' + 1) * (w + 1) ≤ y * (w + 1) := Nat.mul_le_mul_right _ (by omega)
        rw [g1 k (by omega), pk_un (by omega)]
  refine ⟨h + 1, ?_⟩
  have h0 := H h 0 a_residue (by omega) (fun y hy => absurd hy (Nat.not_lt_zero y)) (h + 1) (by omega)
  rw [Nat.zero_mul] at h0
  exact h0
end
section
variable {f_bodyLength f_bits f_bitCount f_readAt f_readEnd f_w f_h : Int32} {a_pixels a_users a_buffer a_wide a_high a_start a_right a_down a_factor a_offset a_files a_fileLength a_plain a_body a_residue a_tokens a_distances a_heads a_chain a_weight a_parent a_symbol a_codeLength a_codeOf a_lengthOf a_perLength a_before a_last : Nat → Int32}
theorem z2_uf25 {post : SX → Prop} {J : Int32 → Int32 → (Nat → Int32) → (Nat → Int32) → (Nat → Int32) → (Nat → Int32) → (Nat → Int32) → (Nat → Int32) → (Nat → Int32) → (Nat → Int32) → (Nat → Int32) → (Nat → Int32) → (Nat → Int32) → (Nat → Int32) → (Nat → Int32) → (Nat → Int32) → (Nat → Int32) → (Nat → Int32) → (Nat → Int32) → (Nat → Int32) → (Nat → Int32) → (Nat → Int32) → (Nat → Int32) → (Nat → Int32) → (Nat → Int32) → (Nat → Int32) → (Nat → Int32) → (Nat → Int32) → (Nat → Int32) → (Nat → Int32) → Prop} {w h f y : Nat} {p : Nat → Nat} {re : Nat → Int32} (hw : f_w = nI w) (hw8 : w ≤ 8) (hh8 : h ≤ 8) (hy : y < h) (hf : f ≤ 4) (hp : ∀ k, k < w * h → p k < 256)
    (hre : ∀ x, x < w → a_residue (y * (w + 1) + 1 + x) = (nI (p (y * w + x)) - z2_p (fun k => nI (p k)) w f x y) &&& 255)
    (K : ∀ pl, zp_P pl p (y * w + w) → J (nI ((y + 1) * (w + 1))) (nI (y + 1)) a_pixels a_users a_buffer a_wide a_high a_start a_right a_down a_factor a_offset a_files a_fileLength pl a_body a_residue a_tokens a_distances a_heads a_chain a_weight a_parent a_symbol a_codeLength a_codeOf a_lengthOf a_perLength a_before a_last) :
    ∀ d x pl, x + d = w → zp_P pl p (y * w + x) →
      ∀ m, d < m → wX_unfilterRows_25 post J (nI y) (nI f) f_bodyLength f_bits f_bitCount f_readAt f_readEnd f_w f_h m (nI (y * (w + 1) + 1 + x)) (nI x) a_pixels a_users a_buffer a_wide a_high a_start a_right a_down a_factor a_offset a_files a_fileLength pl a_body a_residue a_tokens a_distances a_heads a_chain a_weight a_parent a_symbol a_codeLength a_codeOf a_lengthOf a_perLength a_before a_last := by
  have hyw : y * w + w ≤ 64 := by
    have h1 : (y + 1) * w ≤ 8 * 8 := Nat.mul_le_mul (by omega) hw8
    rw [Nat.succ_mul] at h1
    exact h1
  have hywh : y * w + w ≤ w * h := by
    have h1 : (y + 1) * w ≤ h * w := Nat.mul_le_mul_right _ (by omega)
    rw [Nat.succ_mul, Nat.mul_comm h w] at h1
    exact h1
  have hyw1 : y * (w + 1) = y * w + y := Nat.mul_succ y w
  have hyw2 : (y + 1) * (w + 1) = y * (w + 1) + (w + 1) := Nat.succ_mul y (w + 1)
  intro d
  induction d with
  | zero =>
    intro x pl hx hP m hm
    obtain ⟨m, rfl⟩ : ∃ q, m = q + 1 := ⟨m - 1, by omega⟩
    refine br_t (by rw [hw]; exact nI_le (by omega) (by omega)) (nm_r (nI_1 y) ?_)
    rw [show y * (w + 1) + 1 + x = (y + 1) * (w + 1) by omega]
    rw [show x = w by omega] at hP
    exact K pl hP
  | succ d ih =>
    intro x pl hx hP m hm
    obtain ⟨m, rfl⟩ : ∃ q, m = q + 1 := ⟨m - 1, by omega⟩
    refine br_f (by rw [hw]; exact nI_ge (by omega) (by omega)) (nm_r (nI_1 _) ⟨vp_in_nI (by omega) (by decide), ?_⟩)
    refine z2_predict hw (by omega) (by omega) (by omega) hf ?_
    have hp2 := hp (y * w + x) (by omega)
    have ei : (nI y * f_w) + nI x = nI (y * w + x) := by rw [hw, pk_mul, nI_add]
    rw [ei]
    refine ⟨vp_in_nI (by omega) (by decide), nm_e (nm_r (nI_1 x) ?_)⟩
    have e1 : z2_p pl w f x y = z2_p (fun k => nI (p k)) w f x y := z2_pF (by omega) (fun k hk => (hP k hk).2)
    have e2 : (a_residue (nI (y * (w + 1) + 1 + x)).toNatClampNeg + z2_p pl w f x y) &&& 255 = nI (p (y * w + x)) := by
      rw [nI_clamp (by omega), hre x (by omega), e1]
      have : ((nI (p (y * w + x)) - z2_p (fun k => nI (p k)) w f x y &&& 255) + z2_p (fun k => nI (p k)) w f x y) &&& 255 = nI (p (y * w + x)) &&& 255 := by
        apply zn_e255
        rw [Int32.toInt8_add, zn_m255, Int32.toInt8_sub, Int8.sub_add_cancel]
      rw [this, zn_and255, Nat.mod_eq_of_lt hp2]
    rw [e2, nI_clamp (by omega), zn_vs2 (by omega), Nat.add_assoc (y * (w + 1) + 1) x 1]
    exact ih (x + 1) _ (by omega) (zp_up hP hp2 rfl) m (by omega)
theorem z2_unfilter {post : SX → Prop} {w h : Nat} {p : Nat → Nat} (hw : f_w = nI w) (hh : f_h = nI h) (hw8 : w ≤ 8) (hh8 : h ≤ 8) (hp : ∀ k, k < w * h → p k < 256)
    (hG : z2_G (fun k => nI (p k)) w h a_residue)
    (K : ∀ pl, zp_P pl p (w * h) → post (f_bodyLength, f_bits, f_bitCount, f_readAt, f_readEnd, f_w, f_h, a_pixels, a_users, a_buffer, a_wide, a_high, a_start, a_right, a_down, a_factor, a_offset, a_files, a_fileLength, pl, a_body, a_residue, a_tokens, a_distances, a_heads, a_chain, a_weight, a_parent, a_symbol, a_codeLength, a_codeOf, a_lengthOf, a_perLength, a_before, a_last)) : wpX_unfilterRows post (f_bodyLength, f_bits, f_bitCount, f_readAt, f_readEnd, f_w, f_h, a_pixels, a_users, a_buffer, a_wide, a_high, a_start, a_right, a_down, a_factor, a_offset, a_files, a_fileLength, a_plain, a_body, a_residue, a_tokens, a_distances, a_heads, a_chain, a_weight, a_parent, a_symbol, a_codeLength, a_codeOf, a_lengthOf, a_perLength, a_before, a_last) := by
  have H : ∀ d y pl, y + d = h → zp_P pl p (y * w) → ∀ m, d < m → wX_unfilterRows_4 post f_bodyLength f_bits f_bitCount f_readAt f_readEnd f_w f_h m (nI (y * (w + 1))) (nI y) a_pixels a_users a_buffer a_wide a_high a_start a_right a_down a_factor a_offset a_files a_fileLength pl a_body a_residue a_tokens a_distances a_heads a_chain a_weight a_parent a_symbol a_codeLength a_codeOf a_lengthOf a_perLength a_before a_last := by
    intro d
    induction d with
    | zero =>
      intro y pl hy hP m hm
      obtain ⟨m, rfl⟩ : ∃ q, m = q + 1 := ⟨m - 1, by omega⟩
      have e : y = h := by omega
      subst e
      refine br_t (by rw [hh]; exact nI_le (by omega) (by omega)) ?_
      rw [Nat.mul_comm y w] at hP
      exact K pl hP
    | succ d ih =>
      intro y pl hy hP m hm
      obtain ⟨m, rfl⟩ : ∃ q, m = q + 1 := ⟨m - 1, by omega⟩
      have hyw : y * (w + 1) + (w + 1) ≤ 72 := by
        have h1 : (y + 1) * (w + 1) ≤ 8 * 9 := Nat.mul_le_mul (by omega) (by omega)
        rw [Nat.succ_mul] at h1
        exact h1
      obtain ⟨f, hf, g1, g2⟩ := hG y (by omega)
      refine br_f (by rw [hh]; exact nI_ge (by omega) (by omega)) (nm_r (nI_1 _) ⟨vp_in_nI (by omega) (by decide), nm_r (e' := nI f) (by rw [nI_clamp (by omega)]; exact g1) ?_⟩)
      refine ⟨w + 1, z2_uf25 (h := h) (re := a_residue) hw hw8 hh8 (by omega) hf hp g2 ?_ w 0 pl (by omega) hP (w + 1) (by omega)⟩
      intro pl2 hP2
      exact ih (y + 1) pl2 (by omega) (by rw [Nat.succ_mul]; exact hP2) m (by omega)
  refine ⟨h + 1, ?_⟩
  have h0 := H h 0 a_plain (by omega) (by rw [Nat.zero_mul]; exact zp_0 _ _) (h + 1) (by omega)
  rw [Nat.zero_mul] at h0
  exact h0
end
end
section
/-! format 2: earlier stretches -/
def z2_L (r : Nat → Nat) (n : Nat) : Nat → List (Nat × Nat) → Prop
  | k, [] => k = n
  | k, t :: ts => (t.1 < 256 ∧ t.1 = r k ∧ k < n ∧ z2_L r n (k + 1) ts) ∨
      (∃ len, 3 ≤ len ∧ len ≤ 18 ∧ t.1 = 254 + len ∧ 1 ≤ t.2 ∧ t.2 ≤ k ∧ k + len ≤ n ∧ (∀ j, j < len → r (k + j) = r (k - t.2 + j)) ∧ z2_L r n (k + len) ts)
def zt_H (tk ds : Nat → Int32) : Nat → List (Nat × Nat) → Prop
  | _, [] => True
  | t, x :: ts => tk t = nI x.1 ∧ ds t = nI x.2 ∧ zt_H tk ds (t + 1) ts
theorem zt_F {tk ds tk' ds' : Nat → Int32} : ∀ (a : List (Nat × Nat)) t, (∀ i, t ≤ i → i < t + a.length → tk i = tk' i ∧ ds i = ds' i) → zt_H tk ds t a → zt_H tk' ds' t a := by
  intro a
  induction a with
  | nil => intro t _ _; trivial
  | cons x a ih =>
    intro t h ⟨h1, h2, h3⟩
    have hl : (x :: a).length = a.length + 1 := rfl
    obtain ⟨e1, e2⟩ := h t (Nat.le_refl _) (by omega)
    exact ⟨e1 ▸ h1, e2 ▸ h2, ih (t + 1) (fun i q1 q2 => h i (by omega) (by omega)) h3⟩
theorem zt_snoc {tk ds : Nat → Int32} {x : Nat × Nat} : ∀ (a : List (Nat × Nat)) t, zt_H tk ds t a → tk (t + a.length) = nI x.1 → ds (t + a.length) = nI x.2 → zt_H tk ds t (a ++ [x]) := by
  intro a
  induction a with
  | nil => intro t _ h1 h2; exact ⟨h1, h2, trivial⟩
  | cons y a ih =>
    intro t ⟨g1, g2, g3⟩ h1 h2
    have hl : (y :: a).length = a.length + 1 := rfl
    rw [hl, show t + (a.length + 1) = t + 1 + a.length by omega] at h1 h2
    exact ⟨g1, g2, ih (t + 1) g3 h1 h2⟩
/-- the chains of earlier places -/
def zh_C (n k : Nat) (hd ch : Nat → Int32) : Prop :=
  (∀ h, h < 16 → hd h = -1 ∨ ∃ q, q < k ∧ q + 2 < n ∧ hd h = nI q) ∧ (∀ q, q < k → q + 2 < n → ch q = -1 ∨ ∃ q', q' < q ∧ ch q = nI q')
section
variable {f_bodyLength f_bits f_bitCount f_readAt f_readEnd f_w f_h : Int32} {a_pixels a_users a_buffer a_wide a_high a_start a_right a_down a_factor a_offset a_files a_fileLength a_plain a_body a_residue a_tokens a_distances a_heads a_chain a_weight a_parent a_symbol a_codeLength a_codeOf a_lengthOf a_perLength a_before a_last : Nat → Int32}
theorem z2_hash {post : Int32 → Prop} {k : Nat} (hk : k + 2 < 80) (K : ∀ j, j < 16 → post (nI j)) : wpX_hashAt post (f_bodyLength, f_bits, f_bitCount, f_readAt, f_readEnd, f_w, f_h, a_pixels, a_users, a_buffer, a_wide, a_high, a_start, a_right, a_down, a_factor, a_offset, a_files, a_fileLength, a_plain, a_body, a_residue, a_tokens, a_distances, a_heads, a_chain, a_weight, a_parent, a_symbol, a_codeLength, a_codeOf, a_lengthOf, a_perLength, a_before, a_last) (nI k) := by
  have e1 : nI k + 1 = nI (k + 1) := nI_1 k
  have e2 : nI k + 2 = nI (k + 2) := nI_add k 2
  unfold wpX_hashAt
  dsimp only
  rw [e1, e2]
  refine ⟨vp_in_nI (by omega) (by decide), vp_in_nI (by omega) (by decide), vp_in_nI (by omega) (by decide), ?_⟩
  obtain ⟨j, hj, ej⟩ := pk_andE (((a_residue (nI k).toNatClampNeg * 5) ^^^ (a_residue (nI (k + 1)).toNatClampNeg * 3)) ^^^ (a_residue (nI (k + 2)).toNatClampNeg)) (m := 15) 4 (by decide)
  rw [ej]
  exact K j hj
theorem z2_match {post : Int32 → Prop} {n j k : Nat} {r : Nat → Nat} (hn : n ≤ 72) (hj : j < k) (hk : k < n) (P : zp_P a_residue r n)
    (K : ∀ e, e ≤ 18 → k + e ≤ n → (∀ i, i < e → r (k + i) = r (j + i)) → post (nI e)) : wpX_matchLength post (f_bodyLength, f_bits, f_bitCount, f_readAt, f_readEnd, f_w, f_h, a_pixels, a_users, a_buffer, a_wide, a_high, a_start, a_right, a_down, a_factor, a_offset, a_files, a_fileLength, a_plain, a_body, a_residue, a_tokens, a_distances, a_heads, a_chain, a_weight, a_parent, a_symbol, a_codeLength, a_codeOf, a_lengthOf, a_perLength, a_before, a_last) (nI j) (nI k) (nI n) := by
  have H : ∀ d e, e + d = 18 → k + e ≤ n → (∀ i, i < e → r (k + i) = r (j + i)) → ∀ m, d < m → wX_matchLength_3 post (nI j) (nI k) (nI n) f_bodyLength f_bits f_bitCount f_readAt f_readEnd f_w f_h a_pixels a_users a_buffer a_wide a_high a_start a_right a_down a_factor a_offset a_files a_fileLength a_plain a_body a_residue a_tokens a_distances a_heads a_chain a_weight a_parent a_symbol a_codeLength a_codeOf a_lengthOf a_perLength a_before a_last m (nI e) := by
    intro d
    induction d with
    | zero =>
      intro e he h1 h2 m hm
      obtain ⟨m, rfl⟩ : ∃ q, m = q + 1 := ⟨m - 1, by omega⟩
      exact br_t (nI_le (a := 18) (by omega) (by omega)) (K e (by omega) h1 h2)
    | succ d ih =>
      intro e he h1 h2 m hm
      obtain ⟨m, rfl⟩ : ∃ q, m = q + 1 := ⟨m - 1, by omega⟩
      refine br_f (nI_ge (b := 18) (by omega) (by decide)) ?_
      rw [nI_add, nI_add]
      by_cases h : n ≤ k + e
      · exact br_t (nI_le h (by omega)) (K e (by omega) h1 h2)
      · refine br_f (nI_ge (by omega) (by omega)) ⟨vp_in_nI (by omega) (by decide), vp_in_nI (by omega) (by decide), ?_⟩
        rw [nI_clamp (by omega), nI_clamp (by omega), (P (j + e) (by omega)).2, (P (k + e) (by omega)).2]
        have b1 := (P (j + e) (by omega)).1
        have b2 := (P (k + e) (by omega)).1
        by_cases hc : r (j + e) = r (k + e)
        · refine br_t (by rw [hc]) (nm_r (nI_1 e) (ih (e + 1) (by omega) (by omega) ?_ m (by omega)))
          intro i hi
          by_cases ei : i = e
          · rw [ei]; exact hc.symm
          · exact h2 i (by omega)
        · exact br_f (fun z => hc ((nI_eq (by omega) (by omega)).mp z)) (K e (by omega) h1 h2)
  exact ⟨19, H 18 0 (by omega) (by omega) (fun i hi => absurd hi (Nat.not_lt_zero i)) 19 (by omega)⟩
theorem z2_rem {post : Int32 → SX → Prop} {n k e : Nat} (hn : n ≤ 72) (hke : k ≤ e) (hen : e ≤ n) (C : zh_C n k a_heads a_chain)
    (K : ∀ hd ch, zh_C n e hd ch → post (nI e) (f_bodyLength, f_bits, f_bitCount, f_readAt, f_readEnd, f_w, f_h, a_pixels, a_users, a_buffer, a_wide, a_high, a_start, a_right, a_down, a_factor, a_offset, a_files, a_fileLength, a_plain, a_body, a_residue, a_tokens, a_distances, hd, ch, a_weight, a_parent, a_symbol, a_codeLength, a_codeOf, a_lengthOf, a_perLength, a_before, a_last)) : wpX_remember post (f_bodyLength, f_bits, f_bitCount, f_readAt, f_readEnd, f_w, f_h, a_pixels, a_users, a_buffer, a_wide, a_high, a_start, a_right, a_down, a_factor, a_offset, a_files, a_fileLength, a_plain, a_body, a_residue, a_tokens, a_distances, a_heads, a_chain, a_weight, a_parent, a_symbol, a_codeLength, a_codeOf, a_lengthOf, a_perLength, a_before, a_last) (nI k) (nI e) (nI n) := by
  have H : ∀ d p hd ch, p + d = e → zh_C n p hd ch → ∀ m, d < m → wX_remember_3 post (nI e) (nI n) f_bodyLength f_bits f_bitCount f_readAt f_readEnd f_w f_h m (nI p) a_pixels a_users a_buffer a_wide a_high a_start a_right a_down a_factor a_offset a_files a_fileLength a_plain a_body a_residue a_tokens a_distances hd ch a_weight a_parent a_symbol a_codeLength a_codeOf a_lengthOf a_perLength a_before a_last := by
    intro d
    induction d with
    | zero =>
      intro p hd ch hp hC m hm
      obtain ⟨m, rfl⟩ : ∃ q, m = q + 1 := ⟨m - 1, by omega⟩
      have ep : p = e := by omega
      subst ep
      exact br_t (nI_le (by omega) (by omega)) (K hd ch hC)
    | succ d ih =>
      intro p hd ch hp hC m hm
      obtain ⟨m, rfl⟩ : ∃ q, m = q + 1 := ⟨m - 1, by omega⟩
      refine br_f (nI_ge (by omega) (by omega)) ?_
      have e2 : nI p + 2 = nI (p + 2) := nI_add p 2
      rw [e2]
      by_cases h : n ≤ p + 2
      · refine br_t (nI_le h (by omega)) (nm_r (nI_1 p) (ih (p + 1) hd ch (by omega) ⟨?_, ?_⟩ m (by omega)))
        · intro x hx
          rcases hC.1 x hx with g | ⟨q, g1, g2, g3⟩
          · exact Or.inl g
          · exact Or.inr ⟨q, by omega, g2, g3⟩
        · intro q q1 q2
          exact hC.2 q (by omega) q2
      · refine br_f (nI_ge (by omega) (by omega)) (z2_hash (by omega) ?_)
        intro j hj
        refine ⟨vp_in_nI (by omega) (by decide), vp_in_nI (by omega) (by decide), nm_e ⟨vp_in_nI (by omega) (by decide), nm_e (nm_r (nI_1 p) ?_)⟩⟩
        have ev : vp_nar .byte (hd (nI j).toNatClampNeg) = hd j ∧ (hd j = -1 ∨ ∃ q, q < p ∧ q + 2 < n ∧ hd j = nI q) := by
          rw [nI_clamp (by omega)]
          rcases hC.1 j hj with g | ⟨q, g1, g2, g3⟩
          · exact ⟨by rw [g]; exact zn_vbm, Or.inl g⟩
          · exact ⟨by rw [g3]; exact zn_vb (by omega), Or.inr ⟨q, g1, g2, g3⟩⟩
        rw [ev.1, nI_clamp (by omega), nI_clamp (by omega), zn_vb2 (by omega)]
        refine ih (p + 1) _ _ (by omega) ⟨?_, ?_⟩ m (by omega)
        · intro x hx
          by_cases ex : x = j
          · subst ex
            rw [pk_us]
            exact Or.inr ⟨p, by omega, by omega, rfl⟩
          · rw [pk_un ex]
            rcases hC.1 x hx with g | ⟨q, g1, g2, g3⟩
            · exact Or.inl g
            · exact Or.inr ⟨q, by omega, g2, g3⟩
        · intro q q1 q2
          by_cases eq : q = p
          · subst eq
            rw [pk_us]
            rcases ev.2 with g | ⟨q', g1, g2, g3⟩
            · exact Or.inl g
            · exact Or.inr ⟨q', g1, g3⟩
          · rw [pk_un eq]
            exact hC.2 q (by omega) q2
  exact ⟨e + 1, H (e - k) k a_heads a_chain (by omega) C (e + 1) (by omega)⟩
end
/-- the best stretch so far -/
def z2_Z (r : Nat → Nat) (n k b fr : Nat) : Prop := (b = 2 ∧ fr = 0) ∨ (3 ≤ b ∧ b ≤ 18 ∧ fr < k ∧ k + b ≤ n ∧ ∀ i, i < b → r (k + i) = r (fr + i))
section
variable {f_bodyLength f_bits f_bitCount f_readAt f_readEnd f_w f_h : Int32} {a_pixels a_users a_buffer a_wide a_high a_start a_right a_down a_factor a_offset a_files a_fileLength a_plain a_body a_residue a_tokens a_distances a_heads a_chain a_weight a_parent a_symbol a_codeLength a_codeOf a_lengthOf a_perLength a_before a_last : Nat → Int32}
theorem z2_127 {post : Int32 → SX → Prop} {J : Int32 → Int32 → Int32 → Int32 → Int32 → Int32 → Int32 → Int32 → Int32 → (Nat → Int32) → (Nat → Int32) → (Nat → Int32) → (Nat → Int32) → (Nat → Int32) → (Nat → Int32) → (Nat → Int32) → (Nat → Int32) → (Nat → Int32) → (Nat → Int32) → (Nat → Int32) → (Nat → Int32) → (Nat → Int32) → (Nat → Int32) → (Nat → Int32) → (Nat → Int32) → (Nat → Int32) → (Nat → Int32) → (Nat → Int32) → (Nat → Int32) → (Nat → Int32) → (Nat → Int32) → (Nat → Int32) → (Nat → Int32) → (Nat → Int32) → (Nat → Int32) → (Nat → Int32) → (Nat → Int32) → Prop} {r : Nat → Nat} {n cnt k b fr s : Nat} (hn : n ≤ 72) (hc : cnt ≤ k) (hk : k < n) (hs : s < 32768) (Z : z2_Z r n k b fr) (C : zh_C n k a_heads a_chain)
    (K : ∀ e hd ch, (b = 2 → e = k + 1) → (b ≠ 2 → e = k + b) → zh_C n e hd ch → J (nI (cnt + 1)) (nI e) f_bodyLength f_bits f_bitCount f_readAt f_readEnd f_w f_h a_pixels a_users a_buffer a_wide a_high a_start a_right a_down a_factor a_offset a_files a_fileLength a_plain a_body a_residue (upd a_tokens cnt (nI s)) (upd a_distances cnt (nI (k - fr))) hd ch a_weight a_parent a_symbol a_codeLength a_codeOf a_lengthOf a_perLength a_before a_last) :
    wX_findStretches_127 post J (nI n) (nI cnt) (nI k) (nI b) (nI fr) (nI s) (nI cnt) f_bodyLength f_bits f_bitCount f_readAt f_readEnd f_w f_h a_pixels a_users a_buffer a_wide a_high a_start a_right a_down a_factor a_offset a_files a_fileLength a_plain a_body a_residue a_tokens a_distances a_heads a_chain a_weight a_parent a_symbol a_codeLength a_codeOf a_lengthOf a_perLength a_before a_last := by
  have hfr : fr ≤ k := by rcases Z with z | z <;> omega
  have hb : b = 2 ∨ (3 ≤ b ∧ k + b ≤ n) := by
    rcases Z with z | z
    · exact Or.inl z.1
    · exact Or.inr ⟨z.1, z.2.2.2.1⟩
  unfold wX_findStretches_127
  refine ⟨vp_in_nI (by omega) (by decide), nm_e (nm_r (nI_1 cnt) ⟨vp_in_nI (by omega) (by decide), nm_e ?_⟩)⟩
  rw [nI_clamp (by omega), zn_vs2 hs, pk_sub hfr, zn_vs2 (by omega)]
  rcases hb with e2 | e2
  · refine br_t (by rw [e2]; decide) ?_
    rw [nI_1]
    unfold wX_findStretches_161
    refine z2_rem hn (by omega) (by omega) C ?_
    intro hd ch hC
    exact K (k + 1) hd ch (fun _ => rfl) (fun z => absurd e2 z) hC
  · refine br_f (nI_ge (a := 2) (by omega) (by omega)) ?_
    rw [nI_add]
    unfold wX_findStretches_161
    refine z2_rem hn (by omega) (by omega) C ?_
    intro hd ch hC
    exact K (k + b) hd ch (fun z => by omega) (fun _ => rfl) hC
theorem z2_59 {post : Int32 → SX → Prop} {J : Int32 → Int32 → Int32 → Int32 → Int32 → Int32 → Int32 → Int32 → Int32 → (Nat → Int32) → (Nat → Int32) → (Nat → Int32) → (Nat → Int32) → (Nat → Int32) → (Nat → Int32) → (Nat → Int32) → (Nat → Int32) → (Nat → Int32) → (Nat → Int32) → (Nat → Int32) → (Nat → Int32) → (Nat → Int32) → (Nat → Int32) → (Nat → Int32) → (Nat → Int32) → (Nat → Int32) → (Nat → Int32) → (Nat → Int32) → (Nat → Int32) → (Nat → Int32) → (Nat → Int32) → (Nat → Int32) → (Nat → Int32) → (Nat → Int32) → (Nat → Int32) → (Nat → Int32) → (Nat → Int32) → Prop} {r : Nat → Nat} {n cnt k : Nat} (hn : n ≤ 72) (hc : cnt ≤ k) (hk : k < n) (P : zp_P a_residue r n) (C : zh_C n k a_heads a_chain)
    (K : ∀ e s d hd ch, ((s < 256 ∧ s = r k ∧ e = k + 1) ∨ ∃ len, 3 ≤ len ∧ len ≤ 18 ∧ s = 254 + len ∧ 1 ≤ d ∧ d ≤ k ∧ k + len ≤ n ∧ (∀ j, j < len → r (k + j) = r (k - d + j)) ∧ e = k + len) → zh_C n e hd ch →
      J (nI (cnt + 1)) (nI e) f_bodyLength f_bits f_bitCount f_readAt f_readEnd f_w f_h a_pixels a_users a_buffer a_wide a_high a_start a_right a_down a_factor a_offset a_files a_fileLength a_plain a_body a_residue (upd a_tokens cnt (nI s)) (upd a_distances cnt (nI d)) hd ch a_weight a_parent a_symbol a_codeLength a_codeOf a_lengthOf a_perLength a_before a_last) :
    ∀ m b fr x q, z2_Z r n k b fr → (x = -1 ∨ (q + 2 < n ∧ q < k ∧ x = nI q)) → q + 1 < m → wX_findStretches_59 post J (nI n) (nI cnt) (nI k) f_bodyLength f_bits f_bitCount f_readAt f_readEnd f_w f_h a_pixels a_users a_buffer a_wide a_high a_start a_right a_down a_factor a_offset a_files a_fileLength a_plain a_body a_residue a_tokens a_distances a_heads a_chain a_weight a_parent a_symbol a_codeLength a_codeOf a_lengthOf a_perLength a_before a_last m (nI b) (nI fr) x := by
  have hend : ∀ m b fr, z2_Z r n k b fr → wX_findStretches_59 post J (nI n) (nI cnt) (nI k) f_bodyLength f_bits f_bitCount f_readAt f_readEnd f_w f_h a_pixels a_users a_buffer a_wide a_high a_start a_right a_down a_factor a_offset a_files a_fileLength a_plain a_body a_residue a_tokens a_distances a_heads a_chain a_weight a_parent a_symbol a_codeLength a_codeOf a_lengthOf a_perLength a_before a_last (m + 1) (nI b) (nI fr) (-1) := by
    intro m b fr Z
    have Pk := P k hk
    refine br_t (by decide) ?_
    rcases Z with ⟨z1, z2⟩ | z
    · subst z1 z2
      refine br_t (by decide) ⟨vp_in_nI (by omega) (by decide), ?_⟩
      rw [nI_clamp (by omega), Pk.2]
      refine z2_127 (r := r) hn hc hk (by omega) (Or.inl ⟨rfl, rfl⟩) C ?_
      intro e hd ch h1 h2 hC
      exact K e (r k) (k - 0) hd ch (Or.inl ⟨Pk.1, rfl, h1 rfl⟩) hC
    · refine br_f (nI_ge (a := 2) (by omega) (by omega)) ?_
      have e1 : 254 + nI b = nI (254 + b) := nI_add 254 b
      rw [e1]
      refine z2_127 (r := r) hn hc hk (by omega) (Or.inr z) C ?_
      intro e hd ch h1 h2 hC
      refine K e (254 + b) (k - fr) hd ch (Or.inr ⟨b, z.1, z.2.1, rfl, by omega, by omega, z.2.2.2.1, ?_, h2 (by omega)⟩) hC
      intro j hj
      rw [show k - (k - fr) = fr by omega]
      exact z.2.2.2.2 j hj
  intro m
  induction m with
  | zero => intro b fr x q _ _ h; omega
  | succ m ih =>
    intro b fr x q Z hx hm
    rcases hx with hx | ⟨hq1, hq2, hx⟩
    · subst hx
      exact hend m b fr Z
    · subst hx
      refine br_f (nI_pos (by omega)) (z2_match hn hq2 hk P ?_)
      intro e he1 he2 he3
      have hnext : ∀ b' fr', z2_Z r n k b' fr' → wX_findStretches_59 post J (nI n) (nI cnt) (nI k) f_bodyLength f_bits f_bitCount f_readAt f_readEnd f_w f_h a_pixels a_users a_buffer a_wide a_high a_start a_right a_down a_factor a_offset a_files a_fileLength a_plain a_body a_residue a_tokens a_distances a_heads a_chain a_weight a_parent a_symbol a_codeLength a_codeOf a_lengthOf a_perLength a_before a_last m (nI b') (nI fr') (a_chain q) := by
        intro b' fr' Z'
        rcases C.2 q hq2 hq1 with g | ⟨q', g1, g2⟩
        · rw [g]
          obtain ⟨m', rfl⟩ : ∃ z, m = z + 1 := ⟨m - 1, by omega⟩
          exact hend m' b' fr' Z'
        · rw [g2]
          exact ih b' fr' (nI q') q' Z' (Or.inr ⟨by omega, by omega, rfl⟩) (by omega)
      have hb2 : 2 ≤ b ∧ b ≤ 18 := by rcases Z with z | z <;> omega
      by_cases hc2 : e ≤ b
      · refine br_t (nI_le hc2 (by omega)) ⟨vp_in_nI (by omega) (by decide), nm_r (by rw [nI_clamp (by omega)]) (hnext b fr Z)⟩
      · refine br_f (nI_ge (by omega) (by omega)) ⟨vp_in_nI (by omega) (by decide), nm_r (by rw [nI_clamp (by omega)]) (hnext e q (Or.inr ⟨by omega, he1, hq2, he2, he3⟩))⟩
theorem z2_25 {post : Int32 → SX → Prop} {r : Nat → Nat} {n : Nat} (hn : n ≤ 72) (P : zp_P a_residue r n) :
    ∀ m k pre tk ds hd ch, n - k < m → k ≤ n → pre.length ≤ k → zt_H tk ds 0 pre → zh_C n k hd ch →
      (∀ ts tk ds hd ch, z2_L r n k ts → zt_H tk ds 0 (pre ++ ts) → (pre ++ ts).length ≤ n → post (nI (pre ++ ts).length) (f_bodyLength, f_bits, f_bitCount, f_readAt, f_readEnd, f_w, f_h, a_pixels, a_users, a_buffer, a_wide, a_high, a_start, a_right, a_down, a_factor, a_offset, a_files, a_fileLength, a_plain, a_body, a_residue, tk, ds, hd, ch, a_weight, a_parent, a_symbol, a_codeLength, a_codeOf, a_lengthOf, a_perLength, a_before, a_last)) →
      wX_findStretches_25 post (nI n) m (nI pre.length) (nI k) f_bodyLength f_bits f_bitCount f_readAt f_readEnd f_w f_h a_pixels a_users a_buffer a_wide a_high a_start a_right a_down a_factor a_offset a_files a_fileLength a_plain a_body a_residue tk ds hd ch a_weight a_parent a_symbol a_codeLength a_codeOf a_lengthOf a_perLength a_before a_last := by
  intro m
  induction m with
  | zero => intro k pre tk ds hd ch h; omega
  | succ m ih =>
    intro k pre tk ds hd ch hm hkn hpl hH hC K
    by_cases h : n ≤ k
    · refine br_t (nI_le h (by omega)) ?_
      have := K [] tk ds hd ch (show k = n by omega) (by rw [List.append_nil]; exact hH) (by rw [List.append_nil]; omega)
      rw [List.append_nil] at this
      exact this
    · refine br_f (nI_ge (by omega) (by omega)) ?_
      have e2 : nI k + 2 = nI (k + 2) := nI_add k 2
      rw [e2]
      have hK : ∀ e s d hd ch, ((s < 256 ∧ s = r k ∧ e = k + 1) ∨ ∃ len, 3 ≤ len ∧ len ≤ 18 ∧ s = 254 + len ∧ 1 ≤ d ∧ d ≤ k ∧ k + len ≤ n ∧ (∀ j, j < len → r (k + j) = r (k - d + j)) ∧ e = k + len) → zh_C n e hd ch →
          wX_findStretches_25 post (nI n) m (nI (pre.length + 1)) (nI e) f_bodyLength f_bits f_bitCount f_readAt f_readEnd f_w f_h a_pixels a_users a_buffer a_wide a_high a_start a_right a_down a_factor a_offset a_files a_fileLength a_plain a_body a_residue (upd tk pre.length (nI s)) (upd ds pre.length (nI d)) hd ch a_weight a_parent a_symbol a_codeLength a_codeOf a_lengthOf a_perLength a_before a_last := by
        intro e s d hd2 ch2 hcase hC2
        have hl : (pre ++ [(s, d)]).length = pre.length + 1 := by rw [List.length_append]; rfl
        have hee : k + 1 ≤ e ∧ e ≤ n := by
          rcases hcase with z | ⟨len, z1, z2, z3, z4, z5, z6, z7, z8⟩ <;> omega
        rw [← hl]
        refine ih e (pre ++ [(s, d)]) _ _ hd2 ch2 (by omega) hee.2 (by omega) ?_ hC2 ?_
        · refine zt_snoc pre 0 (zt_F pre 0 (fun i i1 i2 => ?_) hH) ?_ ?_
          · exact ⟨(pk_un (by omega)).symm, (pk_un (by omega)).symm⟩
          · exact zn_us (by omega)
          · exact zn_us (by omega)
        · intro ts tk3 ds3 hd3 ch3 hL hH3 hlen
          rw [List.append_assoc] at hH3 hlen ⊢
          refine K ((s, d) :: ts) tk3 ds3 hd3 ch3 ?_ hH3 hlen
          rcases hcase with ⟨z1, z2, z3⟩ | ⟨len, z1, z2, z3, z4, z5, z6, z7, z8⟩
          · subst z3
            exact Or.inl ⟨z1, z2, by omega, hL⟩
          · subst z8
            exact Or.inr ⟨len, z1, z2, z3, z4, z5, z6, z7, hL⟩
      by_cases h2 : n ≤ k + 2
      · refine br_t (nI_le h2 (by omega)) ⟨2, ?_⟩
        exact z2_59 (r := r) (a_tokens := tk) (a_distances := ds) (a_heads := hd) (a_chain := ch) hn hpl (by omega) P hC hK 2 2 0 (-1) 0 (Or.inl ⟨rfl, rfl⟩) (Or.inl rfl) (by omega)
      · refine br_f (nI_ge (by omega) (by omega)) (z2_hash (by omega) ?_)
        intro j hj
        refine ⟨vp_in_nI (by omega) (by decide), nm_r (e' := hd j) (by rw [nI_clamp (by omega)]) ?_⟩
        rcases hC.1 j hj with g | ⟨q, g1, g2, g3⟩
        · rw [g]
          exact ⟨2, z2_59 (r := r) (a_tokens := tk) (a_distances := ds) (a_heads := hd) (a_chain := ch) hn hpl (by omega) P hC hK 2 2 0 (-1) 0 (Or.inl ⟨rfl, rfl⟩) (Or.inl rfl) (by omega)⟩
        · rw [g3]
          exact ⟨q + 2, z2_59 (r := r) (a_tokens := tk) (a_distances := ds) (a_heads := hd) (a_chain := ch) hn hpl (by omega) P hC hK (q + 2) 2 0 (nI q) q (Or.inl ⟨rfl, rfl⟩) (Or.inr ⟨g2, g1, rfl⟩) (by omega)⟩
theorem z2_findStretches {post : Int32 → SX → Prop} {r : Nat → Nat} {n : Nat} (hn : n ≤ 72) (P : zp_P a_residue r n)
    (K : ∀ TL tk ds hd ch, z2_L r n 0 TL → zt_H tk ds 0 TL → TL.length ≤ n → post (nI TL.length) (f_bodyLength, f_bits, f_bitCount, f_readAt, f_readEnd, f_w, f_h, a_pixels, a_users, a_buffer, a_wide, a_high, a_start, a_right, a_down, a_factor, a_offset, a_files, a_fileLength, a_plain, a_body, a_residue, tk, ds, hd, ch, a_weight, a_parent, a_symbol, a_codeLength, a_codeOf, a_lengthOf, a_perLength, a_before, a_last)) :
    wpX_findStretches post (f_bodyLength, f_bits, f_bitCount, f_readAt, f_readEnd, f_w, f_h, a_pixels, a_users, a_buffer, a_wide, a_high, a_start, a_right, a_down, a_factor, a_offset, a_files, a_fileLength, a_plain, a_body, a_residue, a_tokens, a_distances, a_heads, a_chain, a_weight, a_parent, a_symbol, a_codeLength, a_codeOf, a_lengthOf, a_perLength, a_before, a_last) (nI n) := by
  have H : ∀ d k hd, k + d = 16 → (∀ j, j < k → hd j = -1) → ∀ m, d < m → wX_findStretches_2 post (nI n) f_bodyLength f_bits f_bitCount f_readAt f_readEnd f_w f_h m (nI k) a_pixels a_users a_buffer a_wide a_high a_start a_right a_down a_factor a_offset a_files a_fileLength a_plain a_body a_residue a_tokens a_distances hd a_chain a_weight a_parent a_symbol a_codeLength a_codeOf a_lengthOf a_perLength a_before a_last := by
    intro d
    induction d with
    | zero =>
      intro k hd hk h m hm
      obtain ⟨m, rfl⟩ : ∃ q, m = q + 1 := ⟨m - 1, by omega⟩
      refine br_t (nI_le (a := 16) (by omega) (by omega)) ⟨n + 1, ?_⟩
      refine z2_25 hn P (n + 1) 0 [] a_tokens a_distances hd a_chain (by omega) (by omega) (Nat.le_refl 0) trivial ⟨fun j hj => Or.inl (h j (by omega)), fun q hq => absurd hq (Nat.not_lt_zero q)⟩ ?_
      intro ts tk ds hd2 ch hL hH hlen
      exact K ts tk ds hd2 ch hL hH hlen
    | succ d ih =>
      intro k hd hk h m hm
      obtain ⟨m, rfl⟩ : ∃ q, m = q + 1 := ⟨m - 1, by omega⟩
      refine br_f (nI_ge (b := 16) (by omega) (by decide)) ⟨vp_in_nI (by omega) (by decide), nm_e (nm_r (nI_1 k) ?_)⟩
      rw [nI_clamp (by omega), zn_vbm]
      refine ih (k + 1) _ (by omega) ?_ m (by omega)
      intro j hj
      by_cases e : j = k
      · subst e; rw [pk_us]
      · rw [pk_un e]; exact h j (by omega)
  exact ⟨17, H 16 0 a_heads (by omega) (fun j hj => absurd hj (Nat.not_lt_zero j)) 17 (by omega)⟩
end
end
section
/-! format 2: sums, and the leaves by rising weight -/
def zq_S (g : Nat → Nat) : Nat → Nat
  | 0 => 0
  | m + 1 => zq_S g m + g m
theorem zq_F {g h : Nat → Nat} : ∀ m, (∀ i, i < m → g i = h i) → zq_S g m = zq_S h m := by
  intro m
  induction m with
  | zero => intro _; rfl
  | succ m ih =>
    intro e
    show zq_S g m + g m = zq_S h m + h m
    rw [ih (fun i hi => e i (by omega)), e m (by omega)]
theorem zq_0 {g : Nat → Nat} : ∀ m, (∀ i, i < m → g i = 0) → zq_S g m = 0 := by
  intro m
  induction m with
  | zero => intro _; rfl
  | succ m ih =>
    intro e
    show zq_S g m + g m = 0
    rw [ih (fun i hi => e i (by omega)), e m (by omega)]
theorem zq_zu {L : Nat → Nat} {G : Nat → Nat} {s x : Nat} : ∀ m, s < m → zq_S (fun i => G (zu L s x i)) m + G (L s) = zq_S (fun i => G (L i)) m + G x := by
  intro m
  induction m with
  | zero => intro h; omega
  | succ m ih =>
    intro h
    show zq_S (fun i => G (zu L s x i)) m + G (zu L s x m) + G (L s) = zq_S (fun i => G (L i)) m + G (L m) + G x
    by_cases e : s = m
    · subst e
      rw [zu_s, zq_F (g := fun i => G (zu L s x i)) (h := fun i => G (L i)) s (fun i hi => by show G (zu L s x i) = _; rw [zu_n (by omega)])]
      omega
    · have := ih (by omega)
      rw [zu_n (k := s) (j := m) (by omega)]
      omega
theorem zq_le {g h : Nat → Nat} : ∀ m, (∀ i, i < m → g i ≤ h i) → zq_S g m ≤ zq_S h m := by
  intro m
  induction m with
  | zero => intro _; exact Nat.le_refl 0
  | succ m ih =>
    intro e
    show zq_S g m + g m ≤ zq_S h m + h m
    have h1 := ih (fun i hi => e i (by omega))
    have h2 := e m (by omega)
    omega
theorem zq_ge {g : Nat → Nat} : ∀ m, (∀ i, i < m → 1 ≤ g i) → m ≤ zq_S g m := by
  intro m
  induction m with
  | zero => intro _; exact Nat.le_refl 0
  | succ m ih =>
    intro e
    show m + 1 ≤ zq_S g m + g m
    have h1 := ih (fun i hi => e i (by omega))
    have h2 := e m (by omega)
    omega
theorem zq_at {g : Nat → Nat} {i : Nat} : ∀ m, i < m → g i ≤ zq_S g m := by
  intro m
  induction m with
  | zero => intro h; omega
  | succ m ih =>
    intro h
    show g i ≤ zq_S g m + g m
    by_cases e : i = m
    · rw [e]; omega
    · have := ih (by omega)
      omega
theorem zq_add (g h : Nat → Nat) : ∀ m, zq_S (fun i => g i + h i) m = zq_S g m + zq_S h m := by
  intro m
  induction m with
  | zero => rfl
  | succ m ih =>
    show zq_S (fun i => g i + h i) m + (g m + h m) = zq_S g m + g m + (zq_S h m + h m)
    omega
def zk_n (s : Nat) : List (Nat × Nat) → Nat
  | [] => 0
  | t :: ts => (if t.1 = s then 1 else 0) + zk_n s ts
theorem zk_le (s : Nat) : ∀ ts, zk_n s ts ≤ ts.length := by
  intro ts
  induction ts with
  | nil => exact Nat.le_refl 0
  | cons t ts ih =>
    show (if t.1 = s then 1 else 0) + zk_n s ts ≤ ts.length + 1
    split <;> omega
theorem zk_one (a : Nat) : ∀ m, zq_S (fun s => if a = s then 1 else 0) m = if a < m then 1 else 0 := by
  intro m
  induction m with
  | zero => rfl
  | succ m ih =>
    show zq_S (fun s => if a = s then 1 else 0) m + (if a = m then 1 else 0) = _
    rw [ih]
    by_cases e : a = m
    · subst e; simp
    · by_cases e2 : a < m
      · simp [e, e2, Nat.lt_succ_of_lt e2]
      · simp [e, e2, show ¬ a < m + 1 by omega]
theorem zk_sum : ∀ ts : List (Nat × Nat), (∀ t, t ∈ ts → t.1 < 275) → zq_S (fun s => zk_n s ts) 275 = ts.length := by
  intro ts
  induction ts with
  | nil => intro _; exact zq_0 275 (fun _ _ => rfl)
  | cons t ts ih =>
    intro h
    have e1 : zq_S (fun s => zk_n s (t :: ts)) 275 = zq_S (fun s => (if t.1 = s then 1 else 0) + zk_n s ts) 275 := rfl
    rw [e1, zq_add, zk_one, if_pos (h t List.mem_cons_self), ih (fun x hx => h x (List.mem_cons_of_mem _ hx))]
    show 1 + ts.length = ts.length + 1
    omega
theorem zk_in {t : Nat × Nat} : ∀ {ts : List (Nat × Nat)}, t ∈ ts → 0 < zk_n t.1 ts := by
  intro ts
  induction ts with
  | nil => intro h; cases h
  | cons x ts ih =>
    intro h
    show 0 < (if x.1 = t.1 then 1 else 0) + zk_n t.1 ts
    cases h with
    | head => rw [if_pos rfl]; omega
    | tail _ h => have := ih h; omega
/-- f with x put in at k -/
def zi (f : Nat → Nat) (k x : Nat) : Nat → Nat := fun j => if j < k then f j else if j = k then x else f (j - 1)
theorem zi_lo {f : Nat → Nat} {k x j : Nat} (h : j < k) : zi f k x j = f j := if_pos h
theorem zi_at {f : Nat → Nat} {k x : Nat} : zi f k x k = x := by
  show (if k < k then f k else if k = k then x else f (k - 1)) = x
  rw [if_neg (by omega), if_pos rfl]
theorem zi_hi {f : Nat → Nat} {k x j : Nat} (h : k < j) : zi f k x j = f (j - 1) := by
  show (if j < k then f j else if j = k then x else f (j - 1)) = _
  rw [if_neg (by omega), if_neg (by omega)]
theorem zi_sum {f : Nat → Nat} {k x : Nat} : ∀ n, k ≤ n → zq_S (zi f k x) (n + 1) = zq_S f n + x := by
  intro n
  induction n with
  | zero =>
    intro h
    have e : k = 0 := by omega
    subst e
    show 0 + zi f 0 x 0 = 0 + x
    rw [zi_at]
  | succ n ih =>
    intro h
    show zq_S (zi f k x) (n + 1) + zi f k x (n + 1) = zq_S f n + f n + x
    by_cases e : k = n + 1
    · subst e
      rw [zi_at, zq_F (h := f) (n + 1) (fun i hi => zi_lo hi)]
      rfl
    · rw [ih (by omega), zi_hi (by omega), Nat.add_sub_cancel]
      omega
/-- the leaves of the symbols below s: weights wt, symbols sy -/
def zl_V (c : Nat → Nat) (s n : Nat) (wt sy : Nat → Nat) : Prop :=
  (∀ i j, i ≤ j → j < n → wt i ≤ wt j) ∧ (∀ k, k < n → sy k < s ∧ 1 ≤ wt k ∧ wt k = c (sy k)) ∧ (∀ i j, i < j → j < n → sy i ≠ sy j) ∧
    (∀ s', s' < s → 0 < c s' → ∃ k, k < n ∧ sy k = s') ∧ zq_S wt n = zq_S c s
theorem zl_skip {c : Nat → Nat} {s n : Nat} {wt sy : Nat → Nat} (h : zl_V c s n wt sy) (hc : c s = 0) : zl_V c (s + 1) n wt sy := by
  obtain ⟨h1, h2, h3, h4, h5⟩ := h
  refine ⟨h1, fun k hk => ?_, h3, fun s' hs' hc' => ?_, ?_⟩
  · have := h2 k hk
    exact ⟨by omega, this.2⟩
  · by_cases e : s' = s
    · subst e; omega
    · exact h4 s' (by omega) hc'
  · rw [h5]
    show _ = zq_S c s + c s
    omega
theorem zl_ins {c : Nat → Nat} {s n k : Nat} {wt sy : Nat → Nat} (h : zl_V c s n wt sy) (hc : 0 < c s) (hk : k ≤ n) (hhi : ∀ j, k ≤ j → j < n → c s < wt j) (hlo : k = 0 ∨ wt (k - 1) ≤ c s) :
    zl_V c (s + 1) (n + 1) (zi wt k (c s)) (zi sy k s) := by
  obtain ⟨h1, h2, h3, h4, h5⟩ := h
  have hlo2 : ∀ i, i < k → wt i ≤ c s := by
    intro i hi
    rcases hlo with e | e
    · omega
    · exact Nat.le_trans (h1 i (k - 1) (by omega) (by omega)) e
  refine ⟨?_, ?_, ?_, ?_, ?_⟩
  · intro i j hij hj
    by_cases a1 : j < k
    · rw [zi_lo a1, zi_lo (by omega)]
      exact h1 i j hij (by omega)
    · by_cases a2 : j = k
      · subst a2
        rw [zi_at]
        by_cases a3 : i = j
        · subst a3; rw [zi_at]; exact Nat.le_refl _
        · rw [zi_lo (by omega)]
          exact hlo2 i (by omega)
      · rw [zi_hi (show k < j by omega)]
        by_cases a3 : i < k
        · rw [zi_lo a3]
          exact h1 i (j - 1) (by omega) (by omega)
        · by_cases a4 : i = k
          · subst a4
            rw [zi_at]
            exact Nat.le_of_lt (hhi (j - 1) (by omega) (by omega))
          · rw [zi_hi (by omega)]
            exact h1 (i - 1) (j - 1) (by omega) (by omega)
  · intro j hj
    by_cases a1 : j < k
    · rw [zi_lo a1, zi_lo a1]
      have := h2 j (by omega)
      exact ⟨by omega, this.2⟩
    · by_cases a2 : j = k
      · subst a2
        rw [zi_at, zi_at]
        exact ⟨by omega, hc, rfl⟩
      · rw [zi_hi (by omega), zi_hi (by omega)]
        have := h2 (j - 1) (by omega)
        exact ⟨by omega, this.2⟩
  · intro i j hij hj
    by_cases a1 : j < k
    · rw [zi_lo a1, zi_lo (by omega)]
      exact h3 i j hij (by omega)
    · by_cases a2 : j = k
      · subst a2
        rw [zi_at, zi_lo hij]
        have := (h2 i (by omega)).1
        omega
      · rw [zi_hi (show k < j by omega)]
        by_cases a3 : i < k
        · rw [zi_lo a3]
          exact h3 i (j - 1) (by omega) (by omega)
        · by_cases a4 : i = k
          · subst a4
            rw [zi_at]
            have := (h2 (j - 1) (by omega)).1
            omega
          · rw [zi_hi (by omega)]
            exact h3 (i - 1) (j - 1) (by omega) (by omega)
  · intro s' hs' hc'
    by_cases e : s' = s
    · subst e
      exact ⟨k, by omega, zi_at⟩
    · obtain ⟨i, i1, i2⟩ := h4 s' (by omega) hc'
      by_cases a1 : i < k
      · exact ⟨i, by omega, by rw [zi_lo a1]; exact i2⟩
      · exact ⟨i + 1, by omega, by rw [zi_hi (by omega), Nat.add_sub_cancel]; exact i2⟩
  · rw [zi_sum n hk, h5]
    rfl
section
variable {f_bodyLength f_bits f_bitCount f_readAt f_readEnd f_w f_h : Int32} {a_pixels a_users a_buffer a_wide a_high a_start a_right a_down a_factor a_offset a_files a_fileLength a_plain a_body a_residue a_tokens a_distances a_heads a_chain a_weight a_parent a_symbol a_codeLength a_codeOf a_lengthOf a_perLength a_before a_last : Nat → Int32}
theorem zl_138 {post : Int32 → SX → Prop} {J : Int32 → Int32 → (Nat → Int32) → (Nat → Int32) → (Nat → Int32) → (Nat → Int32) → (Nat → Int32) → (Nat → Int32) → (Nat → Int32) → (Nat → Int32) → (Nat → Int32) → (Nat → Int32) → (Nat → Int32) → (Nat → Int32) → (Nat → Int32) → (Nat → Int32) → (Nat → Int32) → (Nat → Int32) → (Nat → Int32) → (Nat → Int32) → (Nat → Int32) → (Nat → Int32) → (Nat → Int32) → (Nat → Int32) → (Nat → Int32) → (Nat → Int32) → (Nat → Int32) → (Nat → Int32) → (Nat → Int32) → (Nat → Int32) → Prop} {c : Nat → Nat} {s n k : Nat} {wt sy : Nat → Nat} (hs : s < 275) (hn : n < 80) (hc72 : c s ≤ 72) (hcd : a_codeOf s = nI (c s)) (hk : k ≤ n)
    (h1 : ∀ j, j < k → a_weight j = nI (wt j) ∧ a_symbol j = nI (sy j)) (h2 : ∀ j, k < j → j ≤ n → a_weight j = nI (wt (j - 1)) ∧ a_symbol j = nI (sy (j - 1)))
    (K : ∀ A B, (∀ j, j ≤ n → A j = nI (zi wt k (c s) j) ∧ B j = nI (zi sy k s j)) → J (nI (n + 1)) (nI (s + 1)) a_pixels a_users a_buffer a_wide a_high a_start a_right a_down a_factor a_offset a_files a_fileLength a_plain a_body a_residue a_tokens a_distances a_heads a_chain A a_parent B a_codeLength a_codeOf a_lengthOf a_perLength a_before a_last) :
    wX_gatherLeaves_138 post J (nI (n + 1)) (nI s) (nI k) f_bodyLength f_bits f_bitCount f_readAt f_readEnd f_w f_h a_pixels a_users a_buffer a_wide a_high a_start a_right a_down a_factor a_offset a_files a_fileLength a_plain a_body a_residue a_tokens a_distances a_heads a_chain a_weight a_parent a_symbol a_codeLength a_codeOf a_lengthOf a_perLength a_before a_last := by
  unfold wX_gatherLeaves_138
  refine ⟨vp_in_nI (by omega) (by decide), vp_in_nI (by omega) (by decide), nm_e ⟨vp_in_nI (by omega) (by decide), nm_e (nm_r (nI_1 s) ?_)⟩⟩
  rw [nI_clamp (by omega), nI_clamp (by omega), hcd, zn_vs (by omega), zn_vs2 (by omega)]
  refine K _ _ ?_
  intro j hj
  by_cases a1 : j < k
  · rw [pk_un (by omega), pk_un (by omega), zi_lo a1, zi_lo a1]
    exact h1 j a1
  · by_cases a2 : j = k
    · subst a2
      rw [pk_us, pk_us, zi_at, zi_at]
      exact ⟨rfl, rfl⟩
    · rw [pk_un (by omega), pk_un (by omega), zi_hi (by omega), zi_hi (by omega)]
      exact h2 j (by omega) hj
theorem zl_77 {post : Int32 → SX → Prop} {J : Int32 → Int32 → (Nat → Int32) → (Nat → Int32) → (Nat → Int32) → (Nat → Int32) → (Nat → Int32) → (Nat → Int32) → (Nat → Int32) → (Nat → Int32) → (Nat → Int32) → (Nat → Int32) → (Nat → Int32) → (Nat → Int32) → (Nat → Int32) → (Nat → Int32) → (Nat → Int32) → (Nat → Int32) → (Nat → Int32) → (Nat → Int32) → (Nat → Int32) → (Nat → Int32) → (Nat → Int32) → (Nat → Int32) → (Nat → Int32) → (Nat → Int32) → (Nat → Int32) → (Nat → Int32) → (Nat → Int32) → (Nat → Int32) → Prop} {c : Nat → Nat} {s n : Nat} {wt sy : Nat → Nat} (hs : s < 275) (hn : n < 80) (hc72 : c s ≤ 72) (hcd : a_codeOf s = nI (c s)) (hwt : ∀ j, j < n → wt j ≤ 72 ∧ sy j < 275)
    (K : ∀ k A B, k ≤ n → (∀ j, k ≤ j → j < n → c s < wt j) → (k = 0 ∨ wt (k - 1) ≤ c s) → (∀ j, j ≤ n → A j = nI (zi wt k (c s) j) ∧ B j = nI (zi sy k s j)) → J (nI (n + 1)) (nI (s + 1)) a_pixels a_users a_buffer a_wide a_high a_start a_right a_down a_factor a_offset a_files a_fileLength a_plain a_body a_residue a_tokens a_distances a_heads a_chain A a_parent B a_codeLength a_codeOf a_lengthOf a_perLength a_before a_last) :
    ∀ k A B, k ≤ n → (∀ j, k ≤ j → j < n → c s < wt j) → (∀ j, j < k → A j = nI (wt j) ∧ B j = nI (sy j)) → (∀ j, k < j → j ≤ n → A j = nI (wt (j - 1)) ∧ B j = nI (sy (j - 1))) →
      ∀ m, k < m → wX_gatherLeaves_77 post J (nI (n + 1)) (nI s) f_bodyLength f_bits f_bitCount f_readAt f_readEnd f_w f_h m (nI k) a_pixels a_users a_buffer a_wide a_high a_start a_right a_down a_factor a_offset a_files a_fileLength a_plain a_body a_residue a_tokens a_distances a_heads a_chain A a_parent B a_codeLength a_codeOf a_lengthOf a_perLength a_before a_last := by
  intro k
  induction k with
  | zero =>
    intro A B hk h1 h2 h3 m hm
    obtain ⟨m, rfl⟩ : ∃ q, m = q + 1 := ⟨m - 1, by omega⟩
    refine br_t (by decide) ?_
    refine zl_138 (c := c) (wt := wt) (sy := sy) (k := 0) (a_weight := A) (a_symbol := B) hs hn hc72 hcd hk h2 h3 ?_
    intro A' B' hAB
    exact K 0 A' B' hk h1 (Or.inl rfl) hAB
  | succ k ih =>
    intro A B hk h1 h2 h3 m hm
    obtain ⟨m, rfl⟩ : ∃ q, m = q + 1 := ⟨m - 1, by omega⟩
    have ek : nI (k + 1) - 1 = nI k := nI_pred k
    obtain ⟨w1, w2⟩ := h2 k (by omega)
    obtain ⟨w3, w4⟩ := hwt k (by omega)
    refine br_f (nI_nle (by omega) (by omega)) ?_
    rw [ek]
    refine ⟨vp_in_nI (by omega) (by decide), vp_in_nI (by omega) (by decide), ?_⟩
    rw [nI_clamp (n := k) (by omega), nI_clamp (n := s) (by omega), nI_clamp (n := k + 1) (by omega), w1, w2, hcd]
    by_cases hc : wt k ≤ c s
    · refine br_t (nI_le hc (by omega)) ?_
      refine zl_138 (c := c) (wt := wt) (sy := sy) (k := k + 1) (a_weight := A) (a_symbol := B) hs hn hc72 hcd hk h2 h3 ?_
      intro A' B' hAB
      exact K (k + 1) A' B' hk h1 (Or.inr (by rw [Nat.add_sub_cancel]; exact hc)) hAB
    · refine br_f (nI_ge (by omega) (by omega)) ⟨vp_in_nI (by omega) (by decide), vp_in_nI (by omega) (by decide), nm_e ⟨vp_in_nI (by omega) (by decide), vp_in_nI (by omega) (by decide), nm_e (nm_r (pk_m1 k) ?_)⟩⟩
      rw [zn_vs (by omega), zn_vs (by omega)]
      refine ih _ _ (by omega) ?_ ?_ ?_ m (by omega)
      · intro j hj1 hj2
        by_cases e : j = k
        · subst e; omega
        · exact h1 j (by omega) hj2
      · intro j hj
        rw [pk_un (by omega), pk_un (by omega)]
        exact h2 j (by omega)
      · intro j hj1 hj2
        by_cases e : j = k + 1
        · subst e
          rw [pk_us, pk_us, Nat.add_sub_cancel]
          exact ⟨rfl, rfl⟩
        · rw [pk_un e, pk_un e]
          exact h3 j (by omega) hj2
theorem zl_55 {post : Int32 → SX → Prop} {c : Nat → Nat} (hc : ∀ s, s < 275 → c s ≤ 72 ∧ a_codeOf s = nI (c s)) (hsum : ∀ s, s ≤ 275 → zq_S c s ≤ 72)
    (K : ∀ n wt sy A B, zl_V c 275 n wt sy → n ≤ 72 → (∀ k, k < n → A k = nI (wt k) ∧ B k = nI (sy k)) → post (nI n) (f_bodyLength, f_bits, f_bitCount, f_readAt, f_readEnd, f_w, f_h, a_pixels, a_users, a_buffer, a_wide, a_high, a_start, a_right, a_down, a_factor, a_offset, a_files, a_fileLength, a_plain, a_body, a_residue, a_tokens, a_distances, a_heads, a_chain, A, a_parent, B, a_codeLength, a_codeOf, a_lengthOf, a_perLength, a_before, a_last)) :
    ∀ d s n wt sy A B, s + d = 275 → zl_V c s n wt sy → (∀ k, k < n → A k = nI (wt k) ∧ B k = nI (sy k)) →
      ∀ m, d < m → wX_gatherLeaves_55 post f_bodyLength f_bits f_bitCount f_readAt f_readEnd f_w f_h m (nI n) (nI s) a_pixels a_users a_buffer a_wide a_high a_start a_right a_down a_factor a_offset a_files a_fileLength a_plain a_body a_residue a_tokens a_distances a_heads a_chain A a_parent B a_codeLength a_codeOf a_lengthOf a_perLength a_before a_last := by
  intro d
  induction d with
  | zero =>
    intro s n wt sy A B hs hV hAB m hm
    obtain ⟨m, rfl⟩ : ∃ q, m = q + 1 := ⟨m - 1, by omega⟩
    have e : s = 275 := by omega
    subst e
    have hn : n ≤ 72 := by
      have h1 := zq_ge n (fun i hi => (hV.2.1 i hi).2.1)
      have h2 := hsum 275 (Nat.le_refl _)
      rw [← hV.2.2.2.2] at h2
      omega
    exact br_t (nI_le (a := 275) (by omega) (by decide)) (K n wt sy A B hV hn hAB)
  | succ d ih =>
    intro s n wt sy A B hs hV hAB m hm
    obtain ⟨m, rfl⟩ : ∃ q, m = q + 1 := ⟨m - 1, by omega⟩
    obtain ⟨c1, c2⟩ := hc s (by omega)
    have hn : n ≤ 72 := by
      have h1 := zq_ge n (fun i hi => (hV.2.1 i hi).2.1)
      have h2 := hsum s (by omega)
      rw [← hV.2.2.2.2] at h2
      omega
    refine br_f (nI_ge (b := 275) (by omega) (by decide)) ⟨vp_in_nI (by omega) (by decide), ?_⟩
    rw [nI_clamp (by omega), c2]
    by_cases h0 : c s = 0
    · rw [h0]
      exact br_t (by decide) (nm_r (nI_1 s) (ih (s + 1) n wt sy A B (by omega) (zl_skip hV h0) hAB m (by omega)))
    · refine br_f (nI_nle (by omega) (by omega)) (nm_r (nI_1 n) ⟨n + 1, ?_⟩)
      refine zl_77 (c := c) (wt := wt) (sy := sy) (by omega) (by omega) c1 c2 ?_ ?_ n A B (Nat.le_refl _) (fun j h1 h2 => absurd h2 (by omega)) hAB (fun j h1 h2 => absurd h2 (by omega)) (n + 1) (by omega)
      · intro j hj
        have := hV.2.1 j hj
        refine ⟨?_, by omega⟩
        rw [this.2.2]
        exact (hc (sy j) (by omega)).1
      · intro k A' B' hk g1 g2 g3
        exact ih (s + 1) (n + 1) _ _ A' B' (by omega) (zl_ins hV (by omega) hk g1 g2) (fun j hj => g3 j (by omega)) m (by omega)
theorem zl_gather {post : Int32 → SX → Prop} {TL : List (Nat × Nat)} (hH : zt_H a_tokens a_distances 0 TL) (hlen : TL.length ≤ 72) (hsy : ∀ t, t ∈ TL → t.1 < 275)
    (K : ∀ n wt sy A B cd, zl_V (fun s => zk_n s TL) 275 n wt sy → n ≤ 72 → (∀ k, k < n → A k = nI (wt k) ∧ B k = nI (sy k)) → post (nI n) (f_bodyLength, f_bits, f_bitCount, f_readAt, f_readEnd, f_w, f_h, a_pixels, a_users, a_buffer, a_wide, a_high, a_start, a_right, a_down, a_factor, a_offset, a_files, a_fileLength, a_plain, a_body, a_residue, a_tokens, a_distances, a_heads, a_chain, A, a_parent, B, a_codeLength, cd, a_lengthOf, a_perLength, a_before, a_last)) :
    wpX_gatherLeaves post (f_bodyLength, f_bits, f_bitCount, f_readAt, f_readEnd, f_w, f_h, a_pixels, a_users, a_buffer, a_wide, a_high, a_start, a_right, a_down, a_factor, a_offset, a_files, a_fileLength, a_plain, a_body, a_residue, a_tokens, a_distances, a_heads, a_chain, a_weight, a_parent, a_symbol, a_codeLength, a_codeOf, a_lengthOf, a_perLength, a_before, a_last) (nI TL.length) := by
  have hS := zk_sum TL hsy
  have hmono : ∀ s, s ≤ 275 → zq_S (fun s => zk_n s TL) s ≤ 72 := by
    have : ∀ d s, s + d = 275 → zq_S (fun s => zk_n s TL) s ≤ zq_S (fun s => zk_n s TL) 275 := by
      intro d
      induction d with
      | zero => intro s hs; rw [show s = 275 by omega]; exact Nat.le_refl _
      | succ d ih =>
        intro s hs
        have h1 := ih (s + 1) (by omega)
        have h2 : zq_S (fun s => zk_n s TL) (s + 1) = zq_S (fun s => zk_n s TL) s + zk_n s TL := rfl
        omega
    intro s hs
    have := this (275 - s) s (by omega)
    omega
  have H24 : ∀ ts t cd, t + ts.length = TL.length → (∀ x, x ∈ ts → x.1 < 275) → zt_H a_tokens a_distances t ts →
      (∀ s, s < 275 → ∃ q, cd s = nI q ∧ q + zk_n s ts = zk_n s TL) → ∀ m, ts.length < m → wX_gatherLeaves_24 post (nI TL.length) f_bodyLength f_bits f_bitCount f_readAt f_readEnd f_w f_h m (nI t) a_pixels a_users a_buffer a_wide a_high a_start a_right a_down a_factor a_offset a_files a_fileLength a_plain a_body a_residue a_tokens a_distances a_heads a_chain a_weight a_parent a_symbol a_codeLength cd a_lengthOf a_perLength a_before a_last := by
    intro ts
    induction ts with
    | nil =>
      intro t cd ht hx hh hcd m hm
      obtain ⟨m, rfl⟩ : ∃ q, m = q + 1 := ⟨m - 1, by omega⟩
      have ht' : t + 0 = TL.length := ht
      refine br_t (nI_le (by omega) (by omega)) ⟨276, ?_⟩
      refine zl_55 (c := fun s => zk_n s TL) (a_codeOf := cd) ?_ hmono ?_ 275 0 0 (fun _ => 0) (fun _ => 0) a_weight a_symbol (by omega) ⟨fun i j _ h => absurd h (Nat.not_lt_zero _), fun k h => absurd h (Nat.not_lt_zero _), fun i j _ h => absurd h (Nat.not_lt_zero _), fun s h => absurd h (Nat.not_lt_zero _), rfl⟩ (fun k h => absurd h (Nat.not_lt_zero _)) 276 (by omega)
      · intro s hs
        obtain ⟨q, q1, q2⟩ := hcd s hs
        have q3 : q + 0 = zk_n s TL := q2
        have q4 := zk_le s TL
        refine ⟨by show zk_n s TL ≤ 72; omega, ?_⟩
        show cd s = nI (zk_n s TL)
        rw [q1, ← q3]
        rfl
      · intro n wt sy A B hV hn hAB
        exact K n wt sy A B cd hV hn hAB
    | cons x ts ih =>
      intro t cd ht hx hh hcd m hm
      obtain ⟨m, rfl⟩ : ∃ q, m = q + 1 := ⟨m - 1, by omega⟩
      have hl : (x :: ts).length = ts.length + 1 := rfl
      have hx1 := hx x List.mem_cons_self
      obtain ⟨q, q1, q2⟩ := hcd x.1 hx1
      have q4 := zk_le x.1 TL
      have q5 : zk_n x.1 (x :: ts) = 1 + zk_n x.1 ts := by
        show (if x.1 = x.1 then 1 else 0) + zk_n x.1 ts = _
        rw [if_pos rfl]
      refine br_f (nI_ge (by omega) (by omega)) ⟨vp_in_nI (by omega) (by decide), ?_⟩
      rw [nI_clamp (n := t) (by omega), hh.1]
      refine ⟨vp_in_nI hx1 (by decide), vp_in_nI hx1 (by decide), nm_e (nm_r (nI_1 t) ?_)⟩
      rw [nI_clamp (by omega), q1, nI_1, zn_vs2 (by omega)]
      refine ih (t + 1) _ (by omega) (fun y hy => hx y (List.mem_cons_of_mem _ hy)) hh.2.2 ?_ m (by omega)
      intro s hs
      by_cases e : s = x.1
      · subst e
        exact ⟨q + 1, by rw [pk_us], by omega⟩
      · obtain ⟨p, p1, p2⟩ := hcd s hs
        refine ⟨p, by rw [pk_un e]; exact p1, ?_⟩
        have : zk_n s (x :: ts) = 0 + zk_n s ts := by
          show (if x.1 = s then 1 else 0) + zk_n s ts = _
          rw [if_neg (fun z => e z.symm)]
        omega
  have H2 : ∀ d s cd, s + d = 275 → (∀ j, j < s → cd j = 0) → ∀ m, d < m → wX_gatherLeaves_2 post (nI TL.length) f_bodyLength f_bits f_bitCount f_readAt f_readEnd f_w f_h m (nI s) a_pixels a_users a_buffer a_wide a_high a_start a_right a_down a_factor a_offset a_files a_fileLength a_plain a_body a_residue a_tokens a_distances a_heads a_chain a_weight a_parent a_symbol a_codeLength cd a_lengthOf a_perLength a_before a_last := by
    intro d
    induction d with
    | zero =>
      intro s cd hs h m hm
      obtain ⟨m, rfl⟩ : ∃ q, m = q + 1 := ⟨m - 1, by omega⟩
      refine br_t (nI_le (a := 275) (by omega) (by omega)) ⟨TL.length + 1, H24 TL 0 cd (by omega) hsy hH ?_ _ (Nat.lt_succ_self _)⟩
      intro j hj
      exact ⟨0, h j (by omega), by omega⟩
    | succ d ih =>
      intro s cd hs h m hm
      obtain ⟨m, rfl⟩ : ∃ q, m = q + 1 := ⟨m - 1, by omega⟩
      refine br_f (nI_ge (b := 275) (by omega) (by decide)) ⟨vp_in_nI (by omega) (by decide), nm_e (nm_r (nI_1 s) ?_)⟩
      rw [nI_clamp (by omega), zn_vs0]
      refine ih (s + 1) _ (by omega) ?_ m (by omega)
      intro j hj
      by_cases e : j = s
      · subst e; rw [pk_us]
      · rw [pk_un e]; exact h j (by omega)
  exact ⟨276, H2 275 0 a_codeOf (by omega) (fun j h => absurd h (Nat.not_lt_zero _)) 276 (by omega)⟩
end
end
section
/-! format 2: the tree of the two lightest, pure -/
def zj_tk (n lf inn t : Nat) : Prop := t < lf ∨ (n ≤ t ∧ t < inn)
def zj_rm (n lf inn mk t : Nat) : Prop := (lf ≤ t ∧ t < n) ∨ (inn ≤ t ∧ t < mk)
def zj_I (n : Nat) (W Pa : Nat → Nat) (lf inn mk : Nat) : Prop :=
  (lf ≤ n ∧ n ≤ inn ∧ inn ≤ mk ∧ lf + inn + n = 2 * mk ∧ (n < mk → inn < mk)) ∧
  (∀ t, t < mk → 1 ≤ W t) ∧
  (∀ i j, i ≤ j → j < n → W i ≤ W j) ∧
  (∀ i j, n ≤ i → i ≤ j → j < mk → W i ≤ W j) ∧
  (∀ t u, zj_tk n lf inn t → zj_rm n lf inn mk u → W t ≤ W u) ∧
  (∀ p, n ≤ p → p < mk → ∃ a b, zj_tk n lf inn a ∧ zj_tk n lf inn b ∧ W p = W a + W b) ∧
  (∀ t, zj_tk n lf inn t → n ≤ Pa t ∧ Pa t < mk ∧ t < Pa t ∧ W t + 1 ≤ W (Pa t)) ∧
  (∀ t, zj_tk n lf inn t → zj_tk n lf inn (Pa t) → W (Pa t) + W t ≤ W (Pa (Pa t))) ∧
  (∀ f : Nat → Nat, zq_S (fun t => f (Pa t)) lf + zq_S (fun i => f (Pa (n + i))) (inn - n) = 2 * zq_S (fun i => f (n + i)) (mk - n)) ∧
  (zq_S W lf + zq_S (fun i => W (n + i)) (inn - n) = zq_S (fun i => W (n + i)) (mk - n))
def zj_c (n : Nat) (W : Nat → Nat) (lf inn mk t lf' inn' : Nat) : Prop :=
  (t = lf ∧ lf < n ∧ lf' = lf + 1 ∧ inn' = inn ∧ ∀ u, inn ≤ u → u < mk → W lf ≤ W u) ∨
  (t = inn ∧ inn < mk ∧ lf' = lf ∧ inn' = inn + 1 ∧ ∀ u, lf ≤ u → u < n → W inn ≤ W u)
theorem zj_init {n : Nat} {W Pa : Nat → Nat} (h1 : ∀ t, t < n → 1 ≤ W t) (h2 : ∀ i j, i ≤ j → j < n → W i ≤ W j) : zj_I n W Pa 0 n n := by
  have hno : ∀ t, ¬ zj_tk n 0 n t := by
    intro t h
    rcases h with h | h <;> omega
  refine ⟨by omega, h1, h2, fun i j _ _ _ => by omega, fun t u h => absurd h (hno t), fun p _ _ => by omega, fun t h => absurd h (hno t), fun t h => absurd h (hno t), ?_, ?_⟩
  · intro f
    rw [Nat.sub_self]
    rfl
  · rw [Nat.sub_self]
    rfl
theorem zj_one {n : Nat} {W : Nat → Nat} {lf inn mk t lf' inn' : Nat} (hn : n ≤ inn) (hlf : lf ≤ n) (him : inn ≤ mk)
    (s1 : ∀ i j, i ≤ j → j < n → W i ≤ W j) (s2 : ∀ i j, n ≤ i → i ≤ j → j < mk → W i ≤ W j) (hc : zj_c n W lf inn mk t lf' inn') :
    zj_rm n lf inn mk t ∧ (∀ u, zj_rm n lf inn mk u → W t ≤ W u) ∧ (∀ u, zj_tk n lf' inn' u ↔ zj_tk n lf inn u ∨ u = t) ∧
      (∀ u, zj_rm n lf' inn' mk u ↔ zj_rm n lf inn mk u ∧ u ≠ t) ∧ (lf' + inn' = lf + inn + 1 ∧ lf' ≤ n ∧ n ≤ inn' ∧ inn' ≤ mk) ∧
      (∀ g : Nat → Nat, zq_S g lf' + zq_S (fun i => g (n + i)) (inn' - n) = zq_S g lf + zq_S (fun i => g (n + i)) (inn - n) + g t) := by
  unfold zj_tk zj_rm
  rcases hc with ⟨rfl, c2, rfl, rfl, c5⟩ | ⟨rfl, c2, rfl, rfl, c5⟩
  · refine ⟨by omega, ?_, fun u => by omega, fun u => by omega, by omega, ?_⟩
    · intro u hu
      rcases hu with ⟨h1, h2⟩ | ⟨h1, h2⟩
      · exact s1 _ _ h1 h2
      · exact c5 u h1 h2
    · intro g
      show zq_S g t + g t + _ = _
      omega
  · refine ⟨by omega, ?_, fun u => by omega, fun u => by omega, by omega, ?_⟩
    · intro u hu
      rcases hu with ⟨h1, h2⟩ | ⟨h1, h2⟩
      · exact c5 u h1 h2
      · exact s2 _ _ hn h1 h2
    · intro g
      rw [show t + 1 - n = (t - n) + 1 by omega]
      show _ + (zq_S (fun i => g (n + i)) (t - n) + g (n + (t - n))) = _
      rw [show n + (t - n) = t by omega]
      omega
theorem zj_step {n : Nat} {W Pa : Nat → Nat} {lf inn mk t1 lf1 inn1 t2 lf2 inn2 : Nat} (I : zj_I n W Pa lf inn mk)
    (hc1 : zj_c n W lf inn mk t1 lf1 inn1) (hc2 : zj_c n W lf1 inn1 mk t2 lf2 inn2) :
    zj_I n (zu W mk (W t1 + W t2)) (zu (zu Pa t1 mk) t2 mk) lf2 inn2 (mk + 1) := by
  obtain ⟨⟨i1, i2, i3, i4, i5⟩, pos, s1, s2, tr, kid, par, fib, sm, sw⟩ := I
  obtain ⟨a1, a2, a3, a4, ⟨a5, a5', a5'', a5'''⟩, a6⟩ := zj_one i2 i1 i3 s1 s2 hc1
  obtain ⟨b1, b2, b3, b4, ⟨b5, b5', b5'', b5'''⟩, b6⟩ := zj_one a5'' a5' a5''' s1 s2 hc2
  have r2 : zj_rm n lf inn mk t2 := ((a4 t2).mp b1).1
  have ne : t2 ≠ t1 := ((a4 t2).mp b1).2
  have l1 : t1 < mk := by rcases a1 with h | h <;> omega
  have l2 : t2 < mk := by rcases r2 with h | h <;> omega
  have n1 : ¬ zj_tk n lf inn t1 := by
    rcases a1 with h | h <;> (intro q; rcases q with q | q <;> omega)
  have n2 : ¬ zj_tk n lf inn t2 := by
    rcases r2 with h | h <;> (intro q; rcases q with q | q <;> omega)
  have tk' : ∀ u, zj_tk n lf2 inn2 u ↔ zj_tk n lf inn u ∨ u = t1 ∨ u = t2 := by
    intro u
    rw [b3, a3, or_assoc]
  have rm' : ∀ u, zj_rm n lf2 inn2 (mk + 1) u → u = mk ∨ (zj_rm n lf inn mk u ∧ u ≠ t1 ∧ u ≠ t2) := by
    intro u hu
    by_cases e : u = mk
    · exact Or.inl e
    · have : zj_rm n lf2 inn2 mk u := by
        rcases hu with h | h
        · exact Or.inl h
        · exact Or.inr ⟨h.1, by omega⟩
      have h1 := (b4 u).mp this
      have h2 := (a4 u).mp h1.1
      exact Or.inr ⟨h2.1, h2.2, h1.2⟩
  have tlt : ∀ u, zj_tk n lf inn u → u < mk := by
    intro u hu
    rcases hu with h | h <;> omega
  have W' : ∀ u, u < mk → zu W mk (W t1 + W t2) u = W u := fun u hu => zu_n (by omega)
  have Wm : zu W mk (W t1 + W t2) mk = W t1 + W t2 := zu_s
  have P1 : zu (zu Pa t1 mk) t2 mk t1 = mk := by rw [zu_n (fun h => ne h.symm), zu_s]
  have P2 : zu (zu Pa t1 mk) t2 mk t2 = mk := zu_s
  have Po : ∀ u, u ≠ t1 → u ≠ t2 → zu (zu Pa t1 mk) t2 mk u = Pa u := fun u h1 h2 => by rw [zu_n h2, zu_n h1]
  have p1 := pos t1 l1
  have p2 := pos t2 l2
  have w12 : W t1 ≤ W t2 := a2 t2 r2
  have big : ∀ p, n ≤ p → p < mk → W p ≤ W t1 + W t2 := by
    intro p h1 h2
    obtain ⟨a, b, q1, q2, q3⟩ := kid p h1 h2
    have := tr a t1 q1 a1
    have := tr b t2 q2 r2
    omega
  refine ⟨⟨b5', b5'', by omega, by omega, fun _ => by omega⟩, ?_, ?_, ?_, ?_, ?_, ?_, ?_, ?_, ?_⟩
  · intro t ht
    by_cases e : t = mk
    · rw [e, Wm]; omega
    · rw [W' t (by omega)]
      exact pos t (by omega)
  · intro i j hij hj
    rw [W' i (by omega), W' j (by omega)]
    exact s1 i j hij hj
  · intro i j hi hij hj
    by_cases e : j = mk
    · subst e
      rw [Wm]
      by_cases e2 : i = j
      · rw [e2, Wm]; exact Nat.le_refl _
      · rw [W' i (by omega)]
        exact big i hi (by omega)
    · rw [W' i (by omega), W' j (by omega)]
      exact s2 i j hi hij (by omega)
  · intro t u ht hu
    have htl : t < mk := by
      rcases (tk' t).mp ht with h | h | h
      · exact tlt t h
      · omega
      · omega
    rw [W' t htl]
    rcases rm' u hu with e | ⟨h1, h2, h3⟩
    · subst e
      rw [Wm]
      rcases (tk' t).mp ht with h | h | h
      · have := tr t t1 h a1
        omega
      · rw [h]; omega
      · rw [h]; omega
    · have hul : u < mk := by rcases h1 with h | h <;> omega
      rw [W' u hul]
      rcases (tk' t).mp ht with h | h | h
      · exact tr t u h h1
      · rw [h]; exact a2 u h1
      · rw [h]; exact b2 u ((a4 u).mpr ⟨h1, h2⟩)
  · intro p hp hp2
    by_cases e : p = mk
    · subst e
      refine ⟨t1, t2, (tk' t1).mpr (Or.inr (Or.inl rfl)), (tk' t2).mpr (Or.inr (Or.inr rfl)), ?_⟩
      rw [Wm, W' t1 l1, W' t2 l2]
    · obtain ⟨a, b, q1, q2, q3⟩ := kid p hp (by omega)
      refine ⟨a, b, (tk' a).mpr (Or.inl q1), (tk' b).mpr (Or.inl q2), ?_⟩
      rw [W' p (by omega), W' a (tlt a q1), W' b (tlt b q2)]
      exact q3
  · intro t ht
    rcases (tk' t).mp ht with h | h | h
    · have ht1 : t ≠ t1 := fun e => n1 (e ▸ h)
      have ht2 : t ≠ t2 := fun e => n2 (e ▸ h)
      obtain ⟨q1, q2, q3, q4⟩ := par t h
      rw [Po t ht1 ht2, W' t (tlt t h), W' (Pa t) q2]
      exact ⟨q1, by omega, q3, q4⟩
    · subst h
      rw [P1, Wm, W' t l1]
      omega
    · subst h
      rw [P2, Wm, W' t l2]
      omega
  · intro t ht hp
    rcases (tk' t).mp ht with h | h | h
    · have ht1 : t ≠ t1 := fun e => n1 (e ▸ h)
      have ht2 : t ≠ t2 := fun e => n2 (e ▸ h)
      obtain ⟨q1, q2, q3, q4⟩ := par t h
      rw [Po t ht1 ht2] at hp ⊢
      rw [W' t (tlt t h), W' (Pa t) q2]
      rcases (tk' (Pa t)).mp hp with g | g | g
      · have hp1 : Pa t ≠ t1 := fun e => n1 (e ▸ g)
        have hp2 : Pa t ≠ t2 := fun e => n2 (e ▸ g)
        rw [Po (Pa t) hp1 hp2, W' (Pa (Pa t)) (par (Pa t) g).2.1]
        exact fib t h g
      · rw [g, P1, Wm]
        have := tr t t2 h r2
        omega
      · rw [g, P2, Wm]
        have := tr t t1 h a1
        omega
    · exfalso
      subst h
      rw [P1] at hp
      rcases hp with q | q <;> omega
    · exfalso
      subst h
      rw [P2] at hp
      rcases hp with q | q <;> omega
  · intro f
    have h1 := b6 (fun t => f (zu (zu Pa t1 mk) t2 mk t))
    have h2 := a6 (fun t => f (zu (zu Pa t1 mk) t2 mk t))
    have e1 : zq_S (fun t => f (zu (zu Pa t1 mk) t2 mk t)) lf = zq_S (fun t => f (Pa t)) lf := by
      refine zq_F lf (fun i hi => ?_)
      have hi2 : zj_tk n lf inn i := Or.inl hi
      show f (zu (zu Pa t1 mk) t2 mk i) = f (Pa i)
      rw [Po i (fun e => n1 (e ▸ hi2)) (fun e => n2 (e ▸ hi2))]
    have e2 : zq_S (fun i => f (zu (zu Pa t1 mk) t2 mk (n + i))) (inn - n) = zq_S (fun i => f (Pa (n + i))) (inn - n) := by
      refine zq_F (inn - n) (fun i hi => ?_)
      have hi2 : zj_tk n lf inn (n + i) := Or.inr ⟨by omega, by omega⟩
      show f (zu (zu Pa t1 mk) t2 mk (n + i)) = f (Pa (n + i))
      rw [Po (n + i) (fun e => n1 (e ▸ hi2)) (fun e => n2 (e ▸ hi2))]
    have e3 := sm f
    have e4 : zq_S (fun i => f (n + i)) (mk + 1 - n) = zq_S (fun i => f (n + i)) (mk - n) + f mk := by
      rw [show mk + 1 - n = (mk - n) + 1 by omega]
      show _ + f (n + (mk - n)) = _
      rw [show n + (mk - n) = mk by omega]
    rw [e4]
    have h1' : zq_S (fun t => f (zu (zu Pa t1 mk) t2 mk t)) lf2 + zq_S (fun i => f (zu (zu Pa t1 mk) t2 mk (n + i))) (inn2 - n) = zq_S (fun t => f (zu (zu Pa t1 mk) t2 mk t)) lf1 + zq_S (fun i => f (zu (zu Pa t1 mk) t2 mk (n + i))) (inn1 - n) + f mk := by
      have := h1
      rw [P2] at this
      exact this
    have h2' : zq_S (fun t => f (zu (zu Pa t1 mk) t2 mk t)) lf1 + zq_S (fun i => f (zu (zu Pa t1 mk) t2 mk (n + i))) (inn1 - n) = zq_S (fun t => f (zu (zu Pa t1 mk) t2 mk t)) lf + zq_S (fun i => f (zu (zu Pa t1 mk) t2 mk (n + i))) (inn - n) + f mk := by
      have := h2
      rw [P1] at this
      exact this
    omega
  · have h1 := b6 W
    have h2 := a6 W
    have e1 : zq_S (zu W mk (W t1 + W t2)) lf2 = zq_S W lf2 := zq_F lf2 (fun i hi => W' i (by omega))
    have e2 : zq_S (fun i => zu W mk (W t1 + W t2) (n + i)) (inn2 - n) = zq_S (fun i => W (n + i)) (inn2 - n) := zq_F _ (fun i hi => W' (n + i) (by omega))
    have e3 : zq_S (fun i => zu W mk (W t1 + W t2) (n + i)) (mk + 1 - n) = zq_S (fun i => W (n + i)) (mk - n) + (W t1 + W t2) := by
      rw [show mk + 1 - n = (mk - n) + 1 by omega]
      show zq_S (fun i => zu W mk (W t1 + W t2) (n + i)) (mk - n) + zu W mk (W t1 + W t2) (n + (mk - n)) = _
      rw [show n + (mk - n) = mk by omega, Wm, zq_F (h := fun i => W (n + i)) (mk - n) (fun i hi => W' (n + i) (by omega))]
    rw [e1, e2, e3]
    omega
theorem zj_end {n : Nat} {W Pa : Nat → Nat} {lf inn : Nat} (hn : 2 ≤ n) (I : zj_I n W Pa lf inn (2 * n - 1)) : lf = n ∧ inn = 2 * n - 2 := by
  obtain ⟨⟨i1, i2, i3, i4, i5⟩, _⟩ := I
  have := i5 (by omega)
  omega
theorem zj_root {n : Nat} {W Pa : Nat → Nat} (hn : 2 ≤ n) (I : zj_I n W Pa n (2 * n - 2) (2 * n - 1)) : W (2 * n - 2) = zq_S W n := by
  obtain ⟨_, _, _, _, _, _, _, _, _, sw⟩ := I
  rw [show 2 * n - 2 - n = n - 2 by omega, show 2 * n - 1 - n = (n - 2) + 1 by omega] at sw
  have e : zq_S (fun i => W (n + i)) (n - 2 + 1) = zq_S (fun i => W (n + i)) (n - 2) + W (n + (n - 2)) := rfl
  rw [e, show n + (n - 2) = 2 * n - 2 by omega] at sw
  omega
def zj_fb : Nat → Nat
  | 0 => 0
  | 1 => 1
  | n + 2 => zj_fb (n + 1) + zj_fb n
/-- the lengths from k upward -/
def zj_L (n : Nat) (W Pa ln : Nat → Nat) (k : Nat) : Prop :=
  ln (2 * n - 2) = 0 ∧ ∀ t, k ≤ t → t < 2 * n - 2 → ln t = ln (Pa t) + 1 ∧ ln t ≤ 8 ∧ ∃ l, ln t = l + 1 ∧ zj_fb (l + 1) * W (Pa t) + zj_fb l * W t ≤ zq_S W n
theorem zj_down {n : Nat} {W Pa ln : Nat → Nat} {k : Nat} (hn : 2 ≤ n) (hC : zq_S W n ≤ 72) (I : zj_I n W Pa n (2 * n - 2) (2 * n - 1)) (hk : k < 2 * n - 2) (h : zj_L n W Pa ln (k + 1)) :
    ln (Pa k) ≤ 7 ∧ zj_L n W Pa (zu ln k (ln (Pa k) + 1)) k := by
  have hroot := zj_root hn I
  obtain ⟨_, pos, _, _, _, _, par, fib, _, _⟩ := I
  have tk : ∀ t, t < 2 * n - 2 → zj_tk n n (2 * n - 2) t := by
    intro t ht
    by_cases e : t < n
    · exact Or.inl e
    · exact Or.inr ⟨by omega, ht⟩
  obtain ⟨q1, q2, q3, q4⟩ := par k (tk k hk)
  have pk := pos k (by omega)
  have key : ln (Pa k) ≤ 7 ∧ ∃ l, ln (Pa k) + 1 = l + 1 ∧ zj_fb (l + 1) * W (Pa k) + zj_fb l * W k ≤ zq_S W n := by
    by_cases e : Pa k = 2 * n - 2
    · rw [e, h.1]
      refine ⟨by omega, 0, rfl, ?_⟩
      rw [hroot]
      show 1 * zq_S W n + 0 * W k ≤ _
      omega
    · obtain ⟨g1, g2, l, g3, g4⟩ := h.2 (Pa k) (by omega) (by omega)
      have hf := fib k (tk k hk) (tk (Pa k) (by omega))
      have h5 : zj_fb (l + 1 + 1) * W (Pa k) + zj_fb (l + 1) * W k ≤ zq_S W n := by
        have e1 : zj_fb (l + 1 + 1) = zj_fb (l + 1) + zj_fb l := rfl
        rw [e1, Nat.add_mul]
        have h6 := Nat.mul_le_mul_left (zj_fb (l + 1)) hf
        rw [Nat.mul_add] at h6
        omega
      refine ⟨?_, l + 1, by omega, h5⟩
      by_cases h8 : ln (Pa k) ≤ 7
      · exact h8
      · exfalso
        have el : l = 7 := by omega
        subst el
        have f9 : zj_fb (7 + 1 + 1) = 34 := by decide
        have f8 : zj_fb (7 + 1) = 21 := by decide
        rw [f9, f8] at h5
        omega
  refine ⟨key.1, ?_, ?_⟩
  · rw [zu_n (by omega)]
    exact h.1
  · intro t ht1 ht2
    obtain ⟨r1, r2, r3, r4⟩ := par t (tk t ht2)
    by_cases e : t = k
    · subst e
      rw [zu_s, zu_n (by omega)]
      exact ⟨rfl, by omega, key.2⟩
    · rw [zu_n e, zu_n (show Pa t ≠ k by omega)]
      exact h.2 t (by omega) ht2
theorem zj_kraft {n : Nat} {W Pa ln : Nat → Nat} (hn : 2 ≤ n) (I : zj_I n W Pa n (2 * n - 2) (2 * n - 1)) (h : zj_L n W Pa ln 0) : zq_S (fun t => 2 ^ (16 - ln t)) n = 2 ^ 16 := by
  obtain ⟨_, _, _, _, _, _, par, _, sm, _⟩ := I
  have hb : ∀ t, t ≤ 2 * n - 2 → ln t ≤ 8 := by
    intro t ht
    by_cases e : t = 2 * n - 2
    · rw [e, h.1]; omega
    · exact (h.2 t (by omega) (by omega)).2.1
  have hpa : ∀ t, t < 2 * n - 2 → 2 ^ (15 - ln (Pa t)) = 2 ^ (16 - ln t) := by
    intro t ht
    obtain ⟨g1, g2, _⟩ := h.2 t (by omega) ht
    congr 1
    omega
  have s := sm (fun p => 2 ^ (15 - ln p))
  have e1 : zq_S (fun t => 2 ^ (15 - ln (Pa t))) n = zq_S (fun t => 2 ^ (16 - ln t)) n := zq_F n (fun i hi => hpa i (by omega))
  have e2 : zq_S (fun i => 2 ^ (15 - ln (Pa (n + i)))) (2 * n - 2 - n) = zq_S (fun i => 2 ^ (16 - ln (n + i))) (2 * n - 2 - n) := zq_F _ (fun i hi => hpa (n + i) (by omega))
  have e3 : 2 * zq_S (fun i => 2 ^ (15 - ln (n + i))) (2 * n - 1 - n) = zq_S (fun i => 2 ^ (16 - ln (n + i))) (2 * n - 1 - n) := by
    have : ∀ m, m ≤ 2 * n - 1 - n → 2 * zq_S (fun i => 2 ^ (15 - ln (n + i))) m = zq_S (fun i => 2 ^ (16 - ln (n + i))) m := by
      intro m
      induction m with
      | zero => intro _; rfl
      | succ m ih =>
        intro hm
        show 2 * (zq_S (fun i => 2 ^ (15 - ln (n + i))) m + 2 ^ (15 - ln (n + m))) = zq_S (fun i => 2 ^ (16 - ln (n + i))) m + 2 ^ (16 - ln (n + m))
        have h1 := ih (by omega)
        have h2 := hb (n + m) (by omega)
        have h3 : 2 ^ (16 - ln (n + m)) = 2 * 2 ^ (15 - ln (n + m)) := by
          rw [show 16 - ln (n + m) = (15 - ln (n + m)) + 1 by omega, Nat.pow_succ, Nat.mul_comm]
        omega
    exact this _ (Nat.le_refl _)
  have e4 : zq_S (fun i => 2 ^ (16 - ln (n + i))) (2 * n - 1 - n) = zq_S (fun i => 2 ^ (16 - ln (n + i))) (2 * n - 2 - n) + 2 ^ 16 := by
    rw [show 2 * n - 1 - n = (2 * n - 2 - n) + 1 by omega]
    show _ + 2 ^ (16 - ln (n + (2 * n - 2 - n))) = _
    rw [show n + (2 * n - 2 - n) = 2 * n - 2 by omega, h.1]
  rw [e1, e2, e3, e4] at s
  omega
end
section
/-! format 2: the tree, walked -/
theorem zj_bd {n : Nat} {W Pa : Nat → Nat} {lf inn mk : Nat} (I : zj_I n W Pa lf inn mk) : ∀ u, zj_rm n lf inn mk u → W u ≤ zq_S W n := by
  obtain ⟨⟨i1, i2, i3, i4, i5⟩, _, _, _, _, _, _, _, _, sw⟩ := I
  have mono : ∀ (g : Nat → Nat) (a b : Nat), a ≤ b → zq_S g a ≤ zq_S g b := by
    intro g a b h
    induction b with
    | zero => rw [show a = 0 by omega]; exact Nat.le_refl _
    | succ b ih =>
      by_cases e : a = b + 1
      · rw [e]; exact Nat.le_refl _
      · have := ih (by omega)
        show _ ≤ zq_S g b + g b
        omega
  intro u hu
  rcases hu with ⟨h1, h2⟩ | ⟨h1, h2⟩
  · exact zq_at n h2
  · have h3 : zq_S (fun i => W (n + i)) (inn - n) + W u ≤ zq_S (fun i => W (n + i)) (mk - n) := by
      have h4 : zq_S (fun i => W (n + i)) (u - n + 1) ≤ zq_S (fun i => W (n + i)) (mk - n) := mono _ _ _ (by omega)
      have h5 : zq_S (fun i => W (n + i)) (u - n + 1) = zq_S (fun i => W (n + i)) (u - n) + W (n + (u - n)) := rfl
      rw [show n + (u - n) = u by omega] at h5
      have h6 : zq_S (fun i => W (n + i)) (inn - n) ≤ zq_S (fun i => W (n + i)) (u - n) := mono _ _ _ (by omega)
      omega
    have h7 := mono W lf n i1
    omega
section
variable {f_bodyLength f_bits f_bitCount f_readAt f_readEnd f_w f_h : Int32} {a_pixels a_users a_buffer a_wide a_high a_start a_right a_down a_factor a_offset a_files a_fileLength a_plain a_body a_residue a_tokens a_distances a_heads a_chain a_weight a_parent a_symbol a_codeLength a_codeOf a_lengthOf a_perLength a_before a_last : Nat → Int32}
theorem zj_83 {post : SX → Prop} {J7 J28 : Int32 → Int32 → Int32 → (Nat → Int32) → (Nat → Int32) → (Nat → Int32) → (Nat → Int32) → (Nat → Int32) → (Nat → Int32) → (Nat → Int32) → (Nat → Int32) → (Nat → Int32) → (Nat → Int32) → (Nat → Int32) → (Nat → Int32) → (Nat → Int32) → (Nat → Int32) → (Nat → Int32) → (Nat → Int32) → (Nat → Int32) → (Nat → Int32) → (Nat → Int32) → (Nat → Int32) → (Nat → Int32) → (Nat → Int32) → (Nat → Int32) → (Nat → Int32) → (Nat → Int32) → (Nat → Int32) → (Nat → Int32) → (Nat → Int32) → Prop} {mk t acc x5 : Nat} {x1 x2 x3 : Int32} {wt : Nat} (hmk : mk < 160) (ht : t < mk) (hw : a_weight t = nI wt) (ha : a_weight mk = nI acc) (hwt : acc + wt < 32768)
    (K : J28 x2 x3 (nI (x5 + 1)) a_pixels a_users a_buffer a_wide a_high a_start a_right a_down a_factor a_offset a_files a_fileLength a_plain a_body a_residue a_tokens a_distances a_heads a_chain (upd a_weight mk (nI (acc + wt))) (upd a_parent t (nI mk)) a_symbol a_codeLength a_codeOf a_lengthOf a_perLength a_before a_last) :
    wX_joinTrees_83 post J7 J28 x1 x2 x3 (nI mk) (nI x5) (nI t) f_bodyLength f_bits f_bitCount f_readAt f_readEnd f_w f_h a_pixels a_users a_buffer a_wide a_high a_start a_right a_down a_factor a_offset a_files a_fileLength a_plain a_body a_residue a_tokens a_distances a_heads a_chain a_weight a_parent a_symbol a_codeLength a_codeOf a_lengthOf a_perLength a_before a_last := by
  unfold wX_joinTrees_83
  refine ⟨vp_in_nI (by omega) (by decide), vp_in_nI (by omega) (by decide), vp_in_nI (by omega) (by decide), nm_e ⟨vp_in_nI (by omega) (by decide), nm_e (nm_r (nI_1 x5) ?_)⟩⟩
  rw [nI_clamp (by omega), nI_clamp (by omega), hw, ha, nI_add, zn_vs2 hwt, zn_vs2 (by omega)]
  exact K
theorem zj_take {post : SX → Prop} {J7 J28 : Int32 → Int32 → Int32 → (Nat → Int32) → (Nat → Int32) → (Nat → Int32) → (Nat → Int32) → (Nat → Int32) → (Nat → Int32) → (Nat → Int32) → (Nat → Int32) → (Nat → Int32) → (Nat → Int32) → (Nat → Int32) → (Nat → Int32) → (Nat → Int32) → (Nat → Int32) → (Nat → Int32) → (Nat → Int32) → (Nat → Int32) → (Nat → Int32) → (Nat → Int32) → (Nat → Int32) → (Nat → Int32) → (Nat → Int32) → (Nat → Int32) → (Nat → Int32) → (Nat → Int32) → (Nat → Int32) → (Nat → Int32) → (Nat → Int32) → Prop} {n lf inn mk acc x5 : Nat} {W : Nat → Nat} (hn : n ≤ 72) (hlf : lf ≤ n) (hin : n ≤ inn) (him : inn ≤ mk) (hmk : mk < 2 * n) (hne : lf < n ∨ inn < mk)
    (hW : ∀ t, t < mk → a_weight t = nI (W t)) (ha : a_weight mk = nI acc) (hacc : acc ≤ 72) (hb : ∀ u, zj_rm n lf inn mk u → W u ≤ 72)
    (s1 : ∀ i j, i ≤ j → j < n → W i ≤ W j) (s2 : ∀ i j, n ≤ i → i ≤ j → j < mk → W i ≤ W j)
    (K : ∀ t lf' inn', zj_c n W lf inn mk t lf' inn' → J28 (nI lf') (nI inn') (nI (x5 + 1)) a_pixels a_users a_buffer a_wide a_high a_start a_right a_down a_factor a_offset a_files a_fileLength a_plain a_body a_residue a_tokens a_distances a_heads a_chain (upd a_weight mk (nI (acc + W t))) (upd a_parent t (nI mk)) a_symbol a_codeLength a_codeOf a_lengthOf a_perLength a_before a_last) :
    (nI n ≤ nI lf → (wX_joinTrees_64 post J7 J28 (nI n) (nI lf) (nI inn) (nI mk) (nI x5) f_bodyLength f_bits f_bitCount f_readAt f_readEnd f_w f_h a_pixels a_users a_buffer a_wide a_high a_start a_right a_down a_factor a_offset a_files a_fileLength a_plain a_body a_residue a_tokens a_distances a_heads a_chain a_weight a_parent a_symbol a_codeLength a_codeOf a_lengthOf a_perLength a_before a_last)) ∧
      (¬ nI n ≤ nI lf → (((nI mk ≤ nI inn → (wX_joinTrees_60 post J7 J28 (nI n) (nI lf) (nI inn) (nI mk) (nI x5) f_bodyLength f_bits f_bitCount f_readAt f_readEnd f_w f_h a_pixels a_users a_buffer a_wide a_high a_start a_right a_down a_factor a_offset a_files a_fileLength a_plain a_body a_residue a_tokens a_distances a_heads a_chain a_weight a_parent a_symbol a_codeLength a_codeOf a_lengthOf a_perLength a_before a_last)) ∧
        (¬ nI mk ≤ nI inn → (vp_in (nI lf) 160 ∧ (vp_in (nI inn) 160 ∧
          ((((a_weight (nI inn).toNatClampNeg) < (a_weight (nI lf).toNatClampNeg) → (wX_joinTrees_64 post J7 J28 (nI n) (nI lf) (nI inn) (nI mk) (nI x5) f_bodyLength f_bits f_bitCount f_readAt f_readEnd f_w f_h a_pixels a_users a_buffer a_wide a_high a_start a_right a_down a_factor a_offset a_files a_fileLength a_plain a_body a_residue a_tokens a_distances a_heads a_chain a_weight a_parent a_symbol a_codeLength a_codeOf a_lengthOf a_perLength a_before a_last)) ∧
            (¬ (a_weight (nI inn).toNatClampNeg) < (a_weight (nI lf).toNatClampNeg) → (wX_joinTrees_60 post J7 J28 (nI n) (nI lf) (nI inn) (nI mk) (nI x5) f_bodyLength f_bits f_bitCount f_readAt f_readEnd f_w f_h a_pixels a_users a_buffer a_wide a_high a_start a_right a_down a_factor a_offset a_files a_fileLength a_plain a_body a_residue a_tokens a_distances a_heads a_chain a_weight a_parent a_symbol a_codeLength a_codeOf a_lengthOf a_perLength a_before a_last)))))))))) := by
  have hI : inn < mk → (∀ u, lf ≤ u → u < n → W inn ≤ W u) → wX_joinTrees_64 post J7 J28 (nI n) (nI lf) (nI inn) (nI mk) (nI x5) f_bodyLength f_bits f_bitCount f_readAt f_readEnd f_w f_h a_pixels a_users a_buffer a_wide a_high a_start a_right a_down a_factor a_offset a_files a_fileLength a_plain a_body a_residue a_tokens a_distances a_heads a_chain a_weight a_parent a_symbol a_codeLength a_codeOf a_lengthOf a_perLength a_before a_last := by
    intro h1 h2
    unfold wX_joinTrees_64 wX_joinTrees_65
    refine br_t rfl (nm_r (nI_1 inn) ?_)
    have hb1 := hb inn (Or.inr ⟨Nat.le_refl _, h1⟩)
    exact zj_83 (wt := W inn) (acc := acc) (by omega) h1 (hW inn h1) ha (by omega) (K inn lf (inn + 1) (Or.inr ⟨rfl, h1, rfl, rfl, h2⟩))
  have hL : lf < n → (∀ u, inn ≤ u → u < mk → W lf ≤ W u) → wX_joinTrees_60 post J7 J28 (nI n) (nI lf) (nI inn) (nI mk) (nI x5) f_bodyLength f_bits f_bitCount f_readAt f_readEnd f_w f_h a_pixels a_users a_buffer a_wide a_high a_start a_right a_down a_factor a_offset a_files a_fileLength a_plain a_body a_residue a_tokens a_distances a_heads a_chain a_weight a_parent a_symbol a_codeLength a_codeOf a_lengthOf a_perLength a_before a_last := by
    intro h1 h2
    unfold wX_joinTrees_60 wX_joinTrees_65
    refine br_f (by decide) (nm_r (nI_1 lf) ?_)
    have hb1 := hb lf (Or.inl ⟨Nat.le_refl _, h1⟩)
    exact zj_83 (wt := W lf) (acc := acc) (by omega) (by omega) (hW lf (by omega)) ha (by omega) (K lf (lf + 1) inn (Or.inl ⟨rfl, h1, rfl, rfl, h2⟩))
  by_cases c1 : n ≤ lf
  · exact br_t (nI_le c1 (by omega)) (hI (by omega) (fun u h1 h2 => by omega))
  · refine br_f (nI_ge (by omega) (by omega)) ?_
    by_cases c2 : mk ≤ inn
    · exact br_t (nI_le c2 (by omega)) (hL (by omega) (fun u h1 h2 => by omega))
    · refine br_f (nI_ge (by omega) (by omega)) ⟨vp_in_nI (by omega) (by decide), vp_in_nI (by omega) (by decide), ?_⟩
      rw [nI_clamp (by omega), nI_clamp (by omega), hW lf (by omega), hW inn (by omega)]
      have hb1 := hb lf (Or.inl ⟨Nat.le_refl _, by omega⟩)
      have hb2 := hb inn (Or.inr ⟨Nat.le_refl _, by omega⟩)
      by_cases c3 : W inn < W lf
      · refine br_t (nI_lt c3 (by omega)) (hI (by omega) (fun u h1 h2 => ?_))
        have := s1 lf u h1 h2
        omega
      · refine br_f (nI_nlt (by omega) (by omega)) (hL (by omega) (fun u h1 h2 => ?_))
        have := s2 inn u hin h1 h2
        omega
end
section
variable {f_bodyLength f_bits f_bitCount f_readAt f_readEnd f_w f_h : Int32} {a_pixels a_users a_buffer a_wide a_high a_start a_right a_down a_factor a_offset a_files a_fileLength a_plain a_body a_residue a_tokens a_distances a_heads a_chain a_weight a_parent a_symbol a_codeLength a_codeOf a_lengthOf a_perLength a_before a_last : Nat → Int32}
theorem zj_28 {post : SX → Prop} {J7 : Int32 → Int32 → Int32 → (Nat → Int32) → (Nat → Int32) → (Nat → Int32) → (Nat → Int32) → (Nat → Int32) → (Nat → Int32) → (Nat → Int32) → (Nat → Int32) → (Nat → Int32) → (Nat → Int32) → (Nat → Int32) → (Nat → Int32) → (Nat → Int32) → (Nat → Int32) → (Nat → Int32) → (Nat → Int32) → (Nat → Int32) → (Nat → Int32) → (Nat → Int32) → (Nat → Int32) → (Nat → Int32) → (Nat → Int32) → (Nat → Int32) → (Nat → Int32) → (Nat → Int32) → (Nat → Int32) → (Nat → Int32) → (Nat → Int32) → Prop} {n lf inn mk : Nat} {W Pa : Nat → Nat} (hn : n ≤ 72) (hmk : mk + 1 < 2 * n) (I : zj_I n W Pa lf inn mk) (hC : zq_S W n ≤ 72)
    (hW : ∀ t, t < mk → a_weight t = nI (W t)) (ha : a_weight mk = 0) (hP : ∀ t, zj_tk n lf inn t → a_parent t = nI (Pa t))
    (K : ∀ W' Pa' lf' inn' A B, zj_I n W' Pa' lf' inn' (mk + 1) → (∀ t, t < n → W' t = W t) → (∀ t, t < mk + 1 → A t = nI (W' t)) → (∀ t, zj_tk n lf' inn' t → B t = nI (Pa' t)) →
      J7 (nI lf') (nI inn') (nI (mk + 1)) a_pixels a_users a_buffer a_wide a_high a_start a_right a_down a_factor a_offset a_files a_fileLength a_plain a_body a_residue a_tokens a_distances a_heads a_chain A B a_symbol a_codeLength a_codeOf a_lengthOf a_perLength a_before a_last) :
    wX_joinTrees_28 post J7 (nI n) (nI mk) f_bodyLength f_bits f_bitCount f_readAt f_readEnd f_w f_h 3 (nI lf) (nI inn) 0 a_pixels a_users a_buffer a_wide a_high a_start a_right a_down a_factor a_offset a_files a_fileLength a_plain a_body a_residue a_tokens a_distances a_heads a_chain a_weight a_parent a_symbol a_codeLength a_codeOf a_lengthOf a_perLength a_before a_last := by
  have I0 := I
  have hbd := zj_bd I
  obtain ⟨⟨i1, i2, i3, i4, i5⟩, pos, s1, s2, _⟩ := I
  refine br_f (by decide) ?_
  refine zj_take (x5 := 0) (acc := 0) hn i1 i2 i3 (by omega) (by omega) hW ha (by omega) (fun u hu => by have := hbd u hu; omega) s1 s2 ?_
  intro t1 lf1 inn1 hc1
  obtain ⟨a1, a2, a3, a4, ⟨a5, a5', a5'', a5'''⟩, a6⟩ := zj_one i2 i1 i3 s1 s2 hc1
  have l1 : t1 < mk := by rcases a1 with h | h <;> omega
  have b1 := hbd t1 a1
  refine br_f (by decide) ?_
  refine zj_take (x5 := 1) (acc := 0 + W t1) (W := W) (a_weight := upd a_weight mk (nI (0 + W t1))) (a_parent := upd a_parent t1 (nI mk)) hn a5' a5'' a5''' (by omega) (by omega) ?_ pk_us (by omega) (fun u hu => by have := hbd u ((a4 u).mp hu).1; omega) s1 s2 ?_
  · intro t ht
    rw [pk_un (by omega)]
    exact hW t ht
  intro t2 lf2 inn2 hc2
  obtain ⟨c1, c2, c3, c4, ⟨c5, c5', c5'', c5'''⟩, c6⟩ := zj_one a5'' a5' a5''' s1 s2 hc2
  have r2 := (a4 t2).mp c1
  have l2 : t2 < mk := by rcases r2.1 with h | h <;> omega
  refine br_t (by decide) (nm_r (nI_1 mk) ?_)
  refine K _ _ lf2 inn2 _ _ (zj_step I0 hc1 hc2) (fun t ht => zu_n (by omega)) ?_ ?_
  · intro t ht
    by_cases e : t = mk
    · subst e
      rw [pk_us, zu_s, Nat.zero_add]
    · rw [pk_un e, pk_un e, zu_n e]
      exact hW t (by omega)
  · intro t ht
    rcases (c3 t).mp ht with h | h
    · rcases (a3 t).mp h with g | g
      · have g1 : t ≠ t1 := by
          intro e; subst e
          rcases a1 with q | q <;> rcases g with g | g <;> omega
        have g2 : t ≠ t2 := by
          intro e; subst e
          rcases r2.1 with q | q <;> rcases g with g | g <;> omega
        rw [pk_un g2, pk_un g1, zu_n g2, zu_n g1]
        exact hP t g
      · subst g
        rw [pk_un (fun e => r2.2 e.symm), pk_us, zu_n (fun e => r2.2 e.symm), zu_s]
    · subst h
      rw [pk_us, zu_s]
theorem zj_153 {post : SX → Prop} {n : Nat} {W Pa : Nat → Nat} (hn : 2 ≤ n) (hn72 : n ≤ 72) (I : zj_I n W Pa n (2 * n - 2) (2 * n - 1)) (hC : zq_S W n ≤ 72)
    (hP : ∀ t, t < 2 * n - 2 → a_parent t = nI (Pa t))
    (K : ∀ ln cl, (∀ t, t ≤ 2 * n - 2 → cl t = nI (ln t)) → zj_L n W Pa ln 0 → post (f_bodyLength, f_bits, f_bitCount, f_readAt, f_readEnd, f_w, f_h, a_pixels, a_users, a_buffer, a_wide, a_high, a_start, a_right, a_down, a_factor, a_offset, a_files, a_fileLength, a_plain, a_body, a_residue, a_tokens, a_distances, a_heads, a_chain, a_weight, a_parent, a_symbol, cl, a_codeOf, a_lengthOf, a_perLength, a_before, a_last)) :
    ∀ c ln cl x, c ≤ 2 * n - 2 → zj_L n W Pa ln c → (∀ t, c ≤ t → t ≤ 2 * n - 2 → cl t = nI (ln t)) → (c = 0 → x = -1) → (∀ k, c = k + 1 → x = nI k) →
      ∀ m, c < m → wX_joinTrees_153 post f_bodyLength f_bits f_bitCount f_readAt f_readEnd f_w f_h m x a_pixels a_users a_buffer a_wide a_high a_start a_right a_down a_factor a_offset a_files a_fileLength a_plain a_body a_residue a_tokens a_distances a_heads a_chain a_weight a_parent a_symbol cl a_codeOf a_lengthOf a_perLength a_before a_last := by
  have par : ∀ t, t < 2 * n - 2 → t < Pa t ∧ Pa t < 2 * n - 1 := by
    intro t ht
    obtain ⟨_, _, _, _, _, _, par, _⟩ := I
    have : zj_tk n n (2 * n - 2) t := by
      by_cases e : t < n
      · exact Or.inl e
      · exact Or.inr ⟨by omega, ht⟩
    have := par t this
    omega
  intro c
  induction c with
  | zero =>
    intro ln cl x hc hL hcl hx0 hx1 m hm
    obtain ⟨m, rfl⟩ : ∃ q, m = q + 1 := ⟨m - 1, by omega⟩
    rw [hx0 rfl]
    exact br_t (by decide) (K ln cl (fun t ht => hcl t (by omega) ht) hL)
  | succ k ih =>
    intro ln cl x hc hL hcl hx0 hx1 m hm
    obtain ⟨m, rfl⟩ : ∃ q, m = q + 1 := ⟨m - 1, by omega⟩
    rw [hx1 k rfl]
    obtain ⟨p1, p2⟩ := par k (by omega)
    have hd := zj_down hn hC I (by omega) hL
    refine br_f (nI_pos (by omega)) ⟨vp_in_nI (by omega) (by decide), ?_⟩
    rw [nI_clamp (n := k) (by omega), hP k (by omega)]
    refine ⟨vp_in_nI (by omega) (by decide), vp_in_nI (by omega) (by decide), nm_e (nm_e ?_)⟩
    rw [nI_clamp (by omega), hcl (Pa k) (by omega) (by omega), nI_1, zn_vb2 (by omega)]
    refine ih _ _ _ (by omega) hd.2 ?_ (fun e => by rw [e]; decide) (fun q hq => by rw [hq]; exact pk_m1 q) m (by omega)
    intro t ht1 ht2
    by_cases e : t = k
    · subst e
      rw [pk_us, zu_s]
    · rw [pk_un e, zu_n e]
      exact hcl t (by omega) ht2
theorem zj_join {post : SX → Prop} {n : Nat} {wt : Nat → Nat} (hn1 : 1 ≤ n) (hn : n ≤ 72) (hpos : ∀ t, t < n → 1 ≤ wt t) (hsort : ∀ i j, i ≤ j → j < n → wt i ≤ wt j) (hC : zq_S wt n ≤ 72)
    (hW : ∀ t, t < n → a_weight t = nI (wt t))
    (K : ∀ (ln : Nat → Nat) (A B cl : Nat → Int32), (∀ k, k < n → cl k = nI (ln k) ∧ 1 ≤ ln k ∧ ln k ≤ 8) → zq_S (fun t => 2 ^ (16 - ln t)) n ≤ 2 ^ 16 → post (f_bodyLength, f_bits, f_bitCount, f_readAt, f_readEnd, f_w, f_h, a_pixels, a_users, a_buffer, a_wide, a_high, a_start, a_right, a_down, a_factor, a_offset, a_files, a_fileLength, a_plain, a_body, a_residue, a_tokens, a_distances, a_heads, a_chain, A, B, a_symbol, cl, a_codeOf, a_lengthOf, a_perLength, a_before, a_last)) :
    wpX_joinTrees post (f_bodyLength, f_bits, f_bitCount, f_readAt, f_readEnd, f_w, f_h, a_pixels, a_users, a_buffer, a_wide, a_high, a_start, a_right, a_down, a_factor, a_offset, a_files, a_fileLength, a_plain, a_body, a_residue, a_tokens, a_distances, a_heads, a_chain, a_weight, a_parent, a_symbol, a_codeLength, a_codeOf, a_lengthOf, a_perLength, a_before, a_last) (nI n) := by
  have e2n : 2 * nI n = nI (2 * n) := pk_mul 2 n
  have em1 : 2 * nI n - 1 = nI (2 * n - 1) := by rw [e2n]; exact pk_sub (b := 1) (by omega)
  have em2 : 2 * nI n - 2 = nI (2 * n - 2) := by rw [e2n]; exact pk_sub (b := 2) (by omega)
  have H : ∀ d mk lf inn W Pa A B, mk + d = 2 * n - 1 → n ≤ mk → zj_I n W Pa lf inn mk → (∀ t, t < n → W t = wt t) → (∀ t, t < mk → A t = nI (W t)) → (∀ t, zj_tk n lf inn t → B t = nI (Pa t)) →
      ∀ m, d < m → wX_joinTrees_7 post (nI n) f_bodyLength f_bits f_bitCount f_readAt f_readEnd f_w f_h m (nI lf) (nI inn) (nI mk) a_pixels a_users a_buffer a_wide a_high a_start a_right a_down a_factor a_offset a_files a_fileLength a_plain a_body a_residue a_tokens a_distances a_heads a_chain A B a_symbol a_codeLength a_codeOf a_lengthOf a_perLength a_before a_last := by
    intro d
    induction d with
    | zero =>
      intro mk lf inn W Pa A B hmk hnm I hWt hA hB m hm
      obtain ⟨m, rfl⟩ : ∃ q, m = q + 1 := ⟨m - 1, by omega⟩
      have emk : mk = 2 * n - 1 := by omega
      subst emk
      have hCW : zq_S W n ≤ 72 := by rw [zq_F (h := wt) n hWt]; exact hC
      refine br_t (by rw [em1]; exact nI_le (by omega) (by omega)) ?_
      rw [em2]
      by_cases e1 : n = 1
      · subst e1
        refine br_t rfl ?_
        unfold wX_joinTrees_144
        refine ⟨vp_in_nI (by omega) (by decide), nm_e (nm_r (e' := -1) (by decide) ⟨1, ?_⟩)⟩
        refine br_t (by decide) ?_
        refine K (fun _ => 1) A B _ ?_ (by decide)
        intro k hk
        have e0 : k = 0 := by omega
        subst e0
        refine ⟨?_, by decide, by decide⟩
        rw [nI_clamp (by omega), zn_us (by omega)]
        rw [vp_nar_byte]
        decide
      · refine br_f (fun z => e1 ((nI_eq (b := 1) (by omega) (by decide)).mp z)) ?_
        obtain ⟨el, ei⟩ := zj_end (by omega) I
        have el := el.symm
        have ei := ei.symm
        subst el ei
        unfold wX_joinTrees_144
        have e3 : 2 * nI n - 3 = nI (2 * n - 3) := by rw [e2n]; exact pk_sub (b := 3) (by omega)
        refine ⟨vp_in_nI (by omega) (by decide), nm_e (nm_r e3 ⟨2 * n - 1, ?_⟩)⟩
        rw [nI_clamp (by omega)]
        refine zj_153 (a_weight := A) (a_parent := B) (by omega) hn I hCW (fun t ht => hB t (by
          by_cases e : t < n
          · exact Or.inl e
          · exact Or.inr ⟨by omega, ht⟩)) ?_ (2 * n - 2) (fun _ => 0) _ _ (Nat.le_refl _) ⟨rfl, fun t h1 h2 => absurd h2 (by omega)⟩ ?_ (fun e => absurd e (by omega)) (fun k hk => by rw [show 2 * n - 3 = k by omega]) (2 * n - 1) (by omega)
        · intro ln cl hcl hL
          refine K ln A B cl ?_ (Nat.le_of_eq (zj_kraft (by omega) I hL))
          intro k hk
          obtain ⟨g1, g2, _⟩ := hL.2 k (by omega) (by omega)
          exact ⟨hcl k (by omega), by omega, g2⟩
        · intro t h1 h2
          rw [zn_us (by omega)]
          rw [vp_nar_byte]
          decide
    | succ d ih =>
      intro mk lf inn W Pa A B hmk hnm I hWt hA hB m hm
      obtain ⟨m, rfl⟩ : ∃ q, m = q + 1 := ⟨m - 1, by omega⟩
      have hCW : zq_S W n ≤ 72 := by rw [zq_F (h := wt) n hWt]; exact hC
      refine br_f (by rw [em1]; exact nI_ge (by omega) (by omega)) ⟨vp_in_nI (by omega) (by decide), nm_e ⟨3, ?_⟩⟩
      rw [nI_clamp (by omega), zn_vs0]
      refine zj_28 (W := W) (Pa := Pa) (a_weight := upd A mk 0) (a_parent := B) hn (by omega) I hCW ?_ pk_us hB ?_
      · intro t ht
        rw [pk_un (by omega)]
        exact hA t ht
      · intro W' Pa' lf' inn' A' B' I' hW' hA' hB'
        exact ih (mk + 1) lf' inn' W' Pa' A' B' (by omega) (by omega) I' (fun t ht => by rw [hW' t ht]; exact hWt t ht) hA' hB' m (by omega)
  exact ⟨n + 1, H (n - 1) n 0 n wt (fun _ => 0) a_weight a_parent (by omega) (Nat.le_refl _) (zj_init hpos hsort) (fun _ _ => rfl) hW (fun t h => by rcases h with h | h <;> omega) (n + 1) (by omega)⟩
end
end
section
/-! format 2: codes in the order of length and symbol -/
def zd_pr (L : Nat → Nat) (l m : Nat) : Nat := zq_S (fun s => if L s = l then 1 else 0) m
def zd_pe (L : Nat → Nat) (l : Nat) : Nat := if l = 0 then 0 else zd_pr L l 275
def zd_fi (L : Nat → Nat) : Nat → Nat
  | 0 => 0
  | l + 1 => 2 * (zd_fi L l + zd_pe L l)
def zd_rk (L : Nat → Nat) (l : Nat) : Nat := zq_S (zd_pe L) l
def zd_cd (L : Nat → Nat) (s : Nat) : Nat := zd_fi L (L s) + zd_pr L (L s) s
def zd_ix (L : Nat → Nat) (s : Nat) : Nat := zd_rk L (L s) + zd_pr L (L s) s
def zd_K (L : Nat → Nat) : Prop :=
  (∀ s, s < 275 → L s ≤ 15) ∧ zq_S (fun s => if L s = 0 then 0 else 2 ^ (16 - L s)) 275 ≤ 2 ^ 16 ∧ zq_S (fun s => if L s = 0 then 0 else 1) 275 ≤ 72
theorem zq_mono {g : Nat → Nat} {a b : Nat} (h : a ≤ b) : zq_S g a ≤ zq_S g b := by
  induction b with
  | zero => rw [show a = 0 by omega]; exact Nat.le_refl _
  | succ b ih =>
    by_cases e : a = b + 1
    · rw [e]; exact Nat.le_refl _
    · have := ih (by omega)
      show _ ≤ zq_S g b + g b
      omega
theorem zd_pr1 (L : Nat → Nat) (s : Nat) : zd_pr L (L s) (s + 1) = zd_pr L (L s) s + 1 := by
  show zq_S _ s + (if L s = L s then 1 else 0) = _
  rw [if_pos rfl]
  rfl
theorem zd_pr0 {L : Nat → Nat} {l s : Nat} (h : L s ≠ l) : zd_pr L l (s + 1) = zd_pr L l s := by
  show zq_S _ s + (if L s = l then 1 else 0) = _
  rw [if_neg h]
  rfl
theorem zd_prlt {L : Nat → Nat} {l s m : Nat} (h : L s = l) (hs : s < m) : zd_pr L l s < zd_pr L l m := by
  subst h
  have h1 := zd_pr1 L s
  have h2 : zd_pr L (L s) (s + 1) ≤ zd_pr L (L s) m := zq_mono hs
  omega
theorem zd_one (a : Nat) (g : Nat → Nat) : ∀ M, zq_S (fun l => (if l = 0 then 0 else if a = l then 1 else 0) * g l) M = if a = 0 ∨ M ≤ a then 0 else g a := by
  intro M
  induction M with
  | zero => show 0 = _; rw [if_pos (Or.inr (Nat.zero_le _))]
  | succ M ih =>
    show zq_S _ M + (if M = 0 then 0 else if a = M then 1 else 0) * g M = _
    rw [ih]
    by_cases e0 : a = 0
    · rw [if_pos (Or.inl e0), if_pos (Or.inl e0)]
      by_cases e1 : M = 0
      · rw [if_pos e1]; omega
      · rw [if_neg e1, if_neg (by omega)]; omega
    · by_cases e1 : a = M
      · subst e1
        rw [if_pos (Or.inr (Nat.le_refl _)), if_neg e0, if_pos rfl, if_neg (by omega)]
        omega
      · have e2 : (if M = 0 then 0 else if a = M then 1 else 0) = 0 := by
          rw [if_neg e1]
          split <;> rfl
        rw [e2]
        by_cases e3 : M ≤ a
        · rw [if_pos (Or.inr e3), if_pos (Or.inr (by omega))]; omega
        · rw [if_neg (by omega), if_neg (by omega)]; omega
theorem zd_dbl (L g : Nat → Nat) : ∀ m, (∀ s, s < m → L s ≤ 16) → zq_S (fun l => (if l = 0 then 0 else zd_pr L l m) * g l) 17 = zq_S (fun s => if L s = 0 then 0 else g (L s)) m := by
  intro m
  induction m with
  | zero =>
    intro _
    refine zq_0 17 (fun i hi => ?_)
    have : zd_pr L i 0 = 0 := rfl
    show (if i = 0 then 0 else zd_pr L i 0) * g i = 0
    rw [this]
    split <;> omega
  | succ m ih =>
    intro h
    show _ = zq_S (fun s => if L s = 0 then 0 else g (L s)) m + (if L m = 0 then 0 else g (L m))
    rw [← ih (fun s hs => h s (by omega))]
    have e1 : zq_S (fun l => (if l = 0 then 0 else zd_pr L l (m + 1)) * g l) 17 = zq_S (fun l => (if l = 0 then 0 else zd_pr L l m) * g l + (if l = 0 then 0 else if L m = l then 1 else 0) * g l) 17 := by
      refine zq_F 17 (fun l hl => ?_)
      show (if l = 0 then 0 else zd_pr L l (m + 1)) * g l = (if l = 0 then 0 else zd_pr L l m) * g l + (if l = 0 then 0 else if L m = l then 1 else 0) * g l
      by_cases e0 : l = 0
      · rw [if_pos e0, if_pos e0, if_pos e0]; omega
      · rw [if_neg e0, if_neg e0, if_neg e0]
        have : zd_pr L l (m + 1) = zd_pr L l m + (if L m = l then 1 else 0) := rfl
        rw [this, Nat.add_mul]
    rw [e1, zq_add, zd_one]
    have := h m (by omega)
    by_cases e0 : L m = 0
    · rw [if_pos (Or.inl e0), if_pos e0]
    · rw [if_neg (by omega), if_neg e0]
theorem zd_pw (L : Nat → Nat) : ∀ l, l ≤ 16 → (zd_fi L l + zd_pe L l) * 2 ^ (16 - l) = zq_S (fun l => zd_pe L l * 2 ^ (16 - l)) (l + 1) := by
  intro l
  induction l with
  | zero => intro _; show (0 + 0) * _ = 0 + 0 * _; omega
  | succ l ih =>
    intro h
    show (2 * (zd_fi L l + zd_pe L l) + zd_pe L (l + 1)) * 2 ^ (16 - (l + 1)) = zq_S (fun l => zd_pe L l * 2 ^ (16 - l)) (l + 1) + zd_pe L (l + 1) * 2 ^ (16 - (l + 1))
    rw [← ih (by omega), Nat.add_mul]
    congr 1
    rw [show 16 - l = (16 - (l + 1)) + 1 by omega, Nat.pow_succ, Nat.mul_comm 2, Nat.mul_assoc, Nat.mul_comm 2]
theorem zd_top {L : Nat → Nat} (hK : zd_K L) {l : Nat} (hl : l ≤ 16) : zd_fi L l + zd_pe L l ≤ 2 ^ l := by
  have h1 := zd_pw L l hl
  have h2 : zq_S (fun l => zd_pe L l * 2 ^ (16 - l)) (l + 1) ≤ zq_S (fun l => zd_pe L l * 2 ^ (16 - l)) 17 := zq_mono (by omega)
  have h3 : zq_S (fun l => zd_pe L l * 2 ^ (16 - l)) 17 = zq_S (fun s => if L s = 0 then 0 else 2 ^ (16 - L s)) 275 := zd_dbl L (fun l => 2 ^ (16 - l)) 275 (fun s hs => by have := hK.1 s hs; omega)
  have h4 := hK.2.1
  have h5 : (zd_fi L l + zd_pe L l) * 2 ^ (16 - l) ≤ 2 ^ l * 2 ^ (16 - l) := by
    rw [← Nat.pow_add, show l + (16 - l) = 16 by omega]
    omega
  exact Nat.le_of_mul_le_mul_right h5 (zn_pos _)
theorem zd_rk17 {L : Nat → Nat} (hK : zd_K L) : zd_rk L 17 ≤ 72 := by
  have h3 : zq_S (fun l => zd_pe L l * 1) 17 = zq_S (fun s => if L s = 0 then 0 else 1) 275 := zd_dbl L (fun _ => 1) 275 (fun s hs => by have := hK.1 s hs; omega)
  have h4 : zd_rk L 17 = zq_S (fun l => zd_pe L l * 1) 17 := zq_F 17 (fun i _ => (Nat.mul_one _).symm)
  have := hK.2.2
  omega
theorem zd_rkm {L : Nat → Nat} {a b : Nat} (h : a ≤ b) : zd_rk L a ≤ zd_rk L b := zq_mono h
theorem zd_rks (L : Nat → Nat) (l : Nat) : zd_rk L (l + 1) = zd_rk L l + zd_pe L l := rfl
theorem zd_pee {L : Nat → Nat} {l : Nat} (h : 1 ≤ l) : zd_pe L l = zd_pr L l 275 := if_neg (by omega)
theorem zd_cdlt {L : Nat → Nat} (hK : zd_K L) {s : Nat} (hs : s < 275) (h1 : 1 ≤ L s) : zd_cd L s < 2 ^ L s ∧ zd_pr L (L s) s < zd_pe L (L s) ∧ zd_ix L s < 72 := by
  have h2 : zd_pr L (L s) s < zd_pr L (L s) 275 := zd_prlt rfl hs
  have h3 := zd_pee (L := L) h1
  have h4 := zd_top hK (l := L s) (by have := hK.1 s hs; omega)
  have h5 := zd_rks L (L s)
  have h6 : zd_rk L (L s + 1) ≤ zd_rk L 17 := zd_rkm (by have := hK.1 s hs; omega)
  have h7 := zd_rk17 hK
  unfold zd_cd zd_ix
  omega
theorem zd_grow (L : Nat → Nat) (l : Nat) : ∀ d, (zd_fi L l + zd_pe L l) * 2 ^ (d + 1) ≤ zd_fi L (l + d + 1) := by
  intro d
  induction d with
  | zero =>
    show _ ≤ 2 * (zd_fi L l + zd_pe L l)
    omega
  | succ d ih =>
    show _ ≤ 2 * (zd_fi L (l + d + 1) + zd_pe L (l + d + 1))
    rw [Nat.pow_succ, ← Nat.mul_assoc]
    omega
/-- what assignCodes has done at length l, symbol s -/
def zd_A (L : Nat → Nat) (l s : Nat) (cd sy : Nat → Int32) : Prop :=
  ∀ s', s' < 275 → 1 ≤ L s' → (L s' < l ∨ (L s' = l ∧ s' < s)) → cd s' = nI (zd_cd L s') ∧ sy (zd_ix L s') = nI s'
theorem zd_Aup {L : Nat → Nat} {l s : Nat} {cd sy : Nat → Int32} (hA : zd_A L l s cd sy) (hs : s < 275) (hl : L s = l) (h1 : 1 ≤ l) :
    zd_A L l (s + 1) (upd cd s (nI (zd_cd L s))) (upd sy (zd_ix L s) (nI s)) := by
  intro s' hs' h1' hcase
  by_cases e : s' = s
  · subst e
    rw [pk_us, pk_us]
    exact ⟨rfl, rfl⟩
  · have hcase2 : L s' < l ∨ (L s' = l ∧ s' < s) := by omega
    have hne : zd_ix L s' ≠ zd_ix L s := by
      unfold zd_ix
      rw [hl]
      have h3 := zd_pee (L := L) h1'
      have h2 : zd_pr L (L s') s' < zd_pr L (L s') 275 := zd_prlt rfl hs'
      rcases hcase2 with h | ⟨h, h'⟩
      · have h4 := zd_rks L (L s')
        have h5 : zd_rk L (L s' + 1) ≤ zd_rk L l := zd_rkm h
        omega
      · have h6 : zd_pr L l s' < zd_pr L l s := zd_prlt h h'
        rw [h]
        omega
    rw [pk_un e, pk_un hne]
    exact hA s' hs' h1' hcase2
section
variable {f_bodyLength f_bits f_bitCount f_readAt f_readEnd f_w f_h : Int32} {a_pixels a_users a_buffer a_wide a_high a_start a_right a_down a_factor a_offset a_files a_fileLength a_plain a_body a_residue a_tokens a_distances a_heads a_chain a_weight a_parent a_symbol a_codeLength a_codeOf a_lengthOf a_perLength a_before a_last : Nat → Int32}
theorem zd_76 {post : SX → Prop} {J : Int32 → Int32 → Int32 → (Nat → Int32) → (Nat → Int32) → (Nat → Int32) → (Nat → Int32) → (Nat → Int32) → (Nat → Int32) → (Nat → Int32) → (Nat → Int32) → (Nat → Int32) → (Nat → Int32) → (Nat → Int32) → (Nat → Int32) → (Nat → Int32) → (Nat → Int32) → (Nat → Int32) → (Nat → Int32) → (Nat → Int32) → (Nat → Int32) → (Nat → Int32) → (Nat → Int32) → (Nat → Int32) → (Nat → Int32) → (Nat → Int32) → (Nat → Int32) → (Nat → Int32) → (Nat → Int32) → (Nat → Int32) → (Nat → Int32) → Prop} {L : Nat → Nat} {l : Nat} (hK : zd_K L) (h1 : 1 ≤ l) (hl : l ≤ 16) (hL : ∀ s, s < 275 → a_lengthOf s = nI (L s)) (hp : a_perLength l = nI (zd_pe L l))
    (K : ∀ cd sy, zd_A L (l + 1) 0 cd sy → J (nI (zd_fi L (l + 1))) (nI (zd_rk L (l + 1))) (nI (l + 1)) a_pixels a_users a_buffer a_wide a_high a_start a_right a_down a_factor a_offset a_files a_fileLength a_plain a_body a_residue a_tokens a_distances a_heads a_chain a_weight a_parent sy a_codeLength cd a_lengthOf a_perLength a_before a_last) :
    ∀ d s cd sy, s + d = 275 → zd_A L l s cd sy → ∀ m, d < m → wX_assignCodes_76 post J (nI l) f_bodyLength f_bits f_bitCount f_readAt f_readEnd f_w f_h m (nI (zd_fi L l + zd_pr L l s)) (nI (zd_rk L l + zd_pr L l s)) (nI s) a_pixels a_users a_buffer a_wide a_high a_start a_right a_down a_factor a_offset a_files a_fileLength a_plain a_body a_residue a_tokens a_distances a_heads a_chain a_weight a_parent sy a_codeLength cd a_lengthOf a_perLength a_before a_last := by
  have htop := zd_top hK hl
  have hpw : 2 ^ l ≤ 2 ^ 16 := zn_pow hl
  have hpe := zd_pee (L := L) h1
  have hpe72 : zd_rk L l + zd_pe L l ≤ 72 := by
    have h5 := zd_rks L l
    have h6 : zd_rk L (l + 1) ≤ zd_rk L 17 := zd_rkm (by omega)
    have h7 := zd_rk17 hK
    omega
  have hfin : ∀ cd sy, zd_A L l 275 cd sy → ∀ q, q = zd_pe L l → ∀ x1 x2, x1 = (nI (zd_fi L l + q) <<< ((1 : Int32) &&& 31)) → x2 = nI (zd_rk L l + q) → J x1 x2 (nI (l + 1)) a_pixels a_users a_buffer a_wide a_high a_start a_right a_down a_factor a_offset a_files a_fileLength a_plain a_body a_residue a_tokens a_distances a_heads a_chain a_weight a_parent sy a_codeLength cd a_lengthOf a_perLength a_before a_last := by
    intro cd sy hA q hq x1 x2 hx1 hx2
    subst hq
    have e1 : nI (zd_fi L l + zd_pe L l) <<< ((1 : Int32) &&& 31) = nI (zd_fi L (l + 1)) := by
      have := zn_shl (a := zd_fi L l + zd_pe L l) (k := 1) (by decide) (by omega)
      have e2 : zd_fi L (l + 1) = (zd_fi L l + zd_pe L l) * 2 ^ 1 := by
        show 2 * _ = _
        omega
      rw [e2]
      exact this
    rw [hx1, e1, hx2]
    refine K cd sy ?_
    intro s' hs' h1' hc
    exact hA s' hs' h1' (by omega)
  intro d
  induction d with
  | zero =>
    intro s cd sy hs hA m hm
    obtain ⟨m, rfl⟩ : ∃ q, m = q + 1 := ⟨m - 1, by omega⟩
    have e : s = 275 := by omega
    subst e
    exact br_t (nI_le (a := 275) (by omega) (by decide)) (nm_e (nm_r (nI_1 l) (hfin cd sy hA _ hpe.symm _ _ rfl rfl)))
  | succ d ih =>
    intro s cd sy hs hA m hm
    obtain ⟨m, rfl⟩ : ∃ q, m = q + 1 := ⟨m - 1, by omega⟩
    have hprs : zd_pr L l s ≤ zd_pr L l 275 := zq_mono (by omega)
    refine br_f (nI_ge (b := 275) (by omega) (by decide)) ⟨vp_in_nI (by omega) (by decide), ?_⟩
    rw [nI_clamp (n := l) (by omega), nI_clamp (n := s) (by omega), hp, hL s (by omega)]
    by_cases c0 : zd_pe L l = 0
    · rw [c0]
      refine br_t (by decide) (nm_e (nm_r (nI_1 l) (hfin cd sy ?_ (zd_pr L l s) (by omega) _ _ rfl rfl)))
      intro s' hs' h1' hc
      refine hA s' hs' h1' ?_
      rcases hc with hc | ⟨hc, _⟩
      · exact Or.inl hc
      · have : zd_pr L l s' < zd_pr L l 275 := zd_prlt hc hs'
        omega
    · refine br_f (nI_nle (by omega) (by omega)) ⟨vp_in_nI (by omega) (by decide), ?_⟩
      have hLs := hK.1 s (by omega)
      by_cases c1 : L s = l
      · have hcd := zd_cdlt hK (s := s) (by omega) (by omega)
        have hpw2 : 2 ^ L s ≤ 2 ^ 15 := zn_pow hLs
        have ecd : zd_fi L l + zd_pr L l s = zd_cd L s := by unfold zd_cd; rw [c1]
        have eix : zd_rk L l + zd_pr L l s = zd_ix L s := by unfold zd_ix; rw [c1]
        have epr : zd_pr L l (s + 1) = zd_pr L l s + 1 := by rw [← c1]; exact zd_pr1 L s
        refine br_t (by rw [c1]) (nm_r (nI_1 _) ⟨vp_in_nI (by omega) (by decide), nm_e (nm_r (nI_1 _) ⟨vp_in_nI (by omega) (by decide), nm_e (nm_r (nI_1 s) ?_)⟩)⟩)
        have := ih (s + 1) _ _ (by omega) (zd_Aup hA (by omega) c1 h1) m (by omega)
        rw [epr, ← Nat.add_assoc, ← Nat.add_assoc] at this
        rw [nI_clamp (by omega), zn_vs2 (by omega), zn_vs2 (by omega), ecd, eix]
        rw [ecd, eix] at this
        exact this
      · have epr : zd_pr L l (s + 1) = zd_pr L l s := zd_pr0 c1
        refine br_f (fun z => c1 ((nI_eq (by omega) (by omega)).mp z)) (nm_r (nI_1 s) ?_)
        have := ih (s + 1) cd sy (by omega) ?_ m (by omega)
        · rw [epr] at this
          exact this
        · intro s' hs' h1' hc
          refine hA s' hs' h1' ?_
          by_cases e : s' = s
          · subst e; omega
          · omega
theorem zd_assign {post : SX → Prop} {L : Nat → Nat} (hK : zd_K L) (hL : ∀ s, s < 275 → a_lengthOf s = nI (L s))
    (K : ∀ pl cd sy, (∀ l, l < 17 → pl l = nI (zd_pe L l)) → (∀ s, s < 275 → 1 ≤ L s → cd s = nI (zd_cd L s) ∧ sy (zd_ix L s) = nI s) → post (f_bodyLength, f_bits, f_bitCount, f_readAt, f_readEnd, f_w, f_h, a_pixels, a_users, a_buffer, a_wide, a_high, a_start, a_right, a_down, a_factor, a_offset, a_files, a_fileLength, a_plain, a_body, a_residue, a_tokens, a_distances, a_heads, a_chain, a_weight, a_parent, sy, a_codeLength, cd, a_lengthOf, pl, a_before, a_last)) :
    wpX_assignCodes post (f_bodyLength, f_bits, f_bitCount, f_readAt, f_readEnd, f_w, f_h, a_pixels, a_users, a_buffer, a_wide, a_high, a_start, a_right, a_down, a_factor, a_offset, a_files, a_fileLength, a_plain, a_body, a_residue, a_tokens, a_distances, a_heads, a_chain, a_weight, a_parent, a_symbol, a_codeLength, a_codeOf, a_lengthOf, a_perLength, a_before, a_last) := by
  have H67 : ∀ pl, (∀ l, l < 17 → pl l = nI (zd_pe L l)) → ∀ d l cd sy, l + d = 17 → 1 ≤ l → zd_A L l 0 cd sy → ∀ m, d < m → wX_assignCodes_67 post f_bodyLength f_bits f_bitCount f_readAt f_readEnd f_w f_h m (nI (zd_fi L l)) (nI (zd_rk L l)) (nI l) a_pixels a_users a_buffer a_wide a_high a_start a_right a_down a_factor a_offset a_files a_fileLength a_plain a_body a_residue a_tokens a_distances a_heads a_chain a_weight a_parent sy a_codeLength cd a_lengthOf pl a_before a_last := by
    intro pl hpl d
    induction d with
    | zero =>
      intro l cd sy hl h1 hA m hm
      obtain ⟨m, rfl⟩ : ∃ q, m = q + 1 := ⟨m - 1, by omega⟩
      refine br_t (nI_le (a := 17) (by omega) (by omega)) (K pl cd sy hpl ?_)
      intro s hs h1s
      exact hA s hs h1s (Or.inl (by have := hK.1 s hs; omega))
    | succ d ih =>
      intro l cd sy hl h1 hA m hm
      obtain ⟨m, rfl⟩ : ∃ q, m = q + 1 := ⟨m - 1, by omega⟩
      refine br_f (nI_ge (b := 17) (by omega) (by decide)) ⟨276, ?_⟩
      refine zd_76 (a_perLength := pl) hK h1 (by omega) hL (hpl l (by omega)) ?_ 275 0 cd sy (by omega) hA 276 (by omega)
      intro cd2 sy2 hA2
      exact ih (l + 1) cd2 sy2 (by omega) (by omega) hA2 m (by omega)
  have H23 : ∀ d s pl, s + d = 275 → (∀ l, l < 17 → pl l = nI (if l = 0 then 0 else zd_pr L l s)) → ∀ m, d < m → wX_assignCodes_23 post f_bodyLength f_bits f_bitCount f_readAt f_readEnd f_w f_h m (nI s) a_pixels a_users a_buffer a_wide a_high a_start a_right a_down a_factor a_offset a_files a_fileLength a_plain a_body a_residue a_tokens a_distances a_heads a_chain a_weight a_parent a_symbol a_codeLength a_codeOf a_lengthOf pl a_before a_last := by
    intro d
    induction d with
    | zero =>
      intro s pl hs hpl m hm
      obtain ⟨m, rfl⟩ : ∃ q, m = q + 1 := ⟨m - 1, by omega⟩
      have e : s = 275 := by omega
      subst e
      refine br_t (nI_le (a := 275) (by omega) (by decide)) ⟨17, ?_⟩
      exact H67 pl hpl 16 1 a_codeOf a_symbol (by omega) (by omega) (fun s' hs' h1' hc => by omega) 17 (by omega)
    | succ d ih =>
      intro s pl hs hpl m hm
      obtain ⟨m, rfl⟩ : ∃ q, m = q + 1 := ⟨m - 1, by omega⟩
      have hLs := hK.1 s (by omega)
      refine br_f (nI_ge (b := 275) (by omega) (by decide)) ⟨vp_in_nI (by omega) (by decide), ?_⟩
      rw [nI_clamp (n := s) (by omega), hL s (by omega)]
      by_cases c0 : L s = 0
      · rw [c0]
        refine br_t (by decide) (nm_r (nI_1 s) (ih (s + 1) pl (by omega) ?_ m (by omega)))
        intro l hl
        rw [hpl l hl]
        by_cases e : l = 0
        · rw [if_pos e, if_pos e]
        · rw [if_neg e, if_neg e, zd_pr0 (by omega)]
      · refine br_f (nI_nle (by omega) (by omega)) ⟨vp_in_nI (by omega) (by decide), vp_in_nI (by omega) (by decide), vp_in_nI (by omega) (by decide), nm_e (nm_r (nI_1 s) ?_)⟩
        have hpr : zd_pr L (L s) s < 275 := by
          have h1 : zd_pr L (L s) s ≤ zq_S (fun _ => 1) s := zq_le s (fun i _ => by show (if L i = L s then 1 else 0) ≤ 1; split <;> omega)
          have h2 : ∀ m, zq_S (fun _ => 1) m = m := by
            intro m
            induction m with
            | zero => rfl
            | succ m ih => show zq_S (fun _ => 1) m + 1 = _; rw [ih]
          rw [h2] at h1
          omega
        have e0 := hpl (L s) (by omega)
        rw [if_neg c0] at e0
        rw [nI_clamp (by omega), e0, nI_1, zn_vs2 (by omega)]
        refine ih (s + 1) _ (by omega) ?_ m (by omega)
        intro l hl
        by_cases e : l = L s
        · subst e
          rw [pk_us, if_neg c0, zd_pr1]
        · rw [pk_un e, hpl l hl]
          by_cases e3 : l = 0
          · rw [if_pos e3, if_pos e3]
          · rw [if_neg e3, if_neg e3, zd_pr0 (fun z => e z.symm)]
  have H2 : ∀ d l pl, l + d = 17 → (∀ j, j < l → pl j = 0) → ∀ m, d < m → wX_assignCodes_2 post f_bodyLength f_bits f_bitCount f_readAt f_readEnd f_w f_h m (nI l) a_pixels a_users a_buffer a_wide a_high a_start a_right a_down a_factor a_offset a_files a_fileLength a_plain a_body a_residue a_tokens a_distances a_heads a_chain a_weight a_parent a_symbol a_codeLength a_codeOf a_lengthOf pl a_before a_last := by
    intro d
    induction d with
    | zero =>
      intro l pl hl h m hm
      obtain ⟨m, rfl⟩ : ∃ q, m = q + 1 := ⟨m - 1, by omega⟩
      refine br_t (nI_le (a := 17) (by omega) (by omega)) ⟨276, H23 275 0 pl (by omega) ?_ 276 (by omega)⟩
      intro j hj
      rw [h j (by omega)]
      by_cases e : j = 0
      · rw [if_pos e]; rfl
      · rw [if_neg e]; rfl
    | succ d ih =>
      intro l pl hl h m hm
      obtain ⟨m, rfl⟩ : ∃ q, m = q + 1 := ⟨m - 1, by omega⟩
      refine br_f (nI_ge (b := 17) (by omega) (by decide)) ⟨vp_in_nI (by omega) (by decide), nm_e (nm_r (nI_1 l) ?_)⟩
      rw [nI_clamp (by omega), zn_vs0]
      refine ih (l + 1) _ (by omega) ?_ m (by omega)
      intro j hj
      by_cases e : j = l
      · subst e; rw [pk_us]
      · rw [pk_un e]; exact h j (by omega)
  exact ⟨18, H2 17 0 a_perLength (by omega) (fun j h => absurd h (Nat.not_lt_zero _)) 18 (by omega)⟩
end
end
section
/-! format 2: the writer -/
def z2_bits (c : Nat) : Nat → List (Nat × Nat)
  | 0 => []
  | k + 1 => (c / 2 ^ k % 2, 1) :: z2_bits c k
theorem z2_bitsl (c : Nat) : ∀ k, zs_l (z2_bits c k) = k := by
  intro k
  induction k with
  | zero => rfl
  | succ k ih => show 1 + zs_l (z2_bits c k) = k + 1; omega
def z2_hd (L : Nat → Nat) : Nat → Nat → List (Nat × Nat)
  | _, 0 => []
  | s, m + 1 => if L s = 0 then z2_hd L (s + 1) m else (s, 9) :: (L s, 4) :: z2_hd L (s + 1) m
def z2_ct (L : Nat → Nat) : Nat → Nat → Nat
  | _, 0 => 0
  | s, m + 1 => (if L s = 0 then 0 else 1) + z2_ct L (s + 1) m
theorem z2_ctq (L : Nat → Nat) : ∀ m s, zq_S (fun i => if L i = 0 then 0 else 1) s + z2_ct L s m = zq_S (fun i => if L i = 0 then 0 else 1) (s + m) := by
  intro m
  induction m with
  | zero => intro s; rfl
  | succ m ih =>
    intro s
    have h := ih (s + 1)
    have h2 : zq_S (fun i => if L i = 0 then 0 else 1) (s + 1) = zq_S (fun i => if L i = 0 then 0 else 1) s + (if L s = 0 then 0 else 1) := rfl
    show _ + ((if L s = 0 then 0 else 1) + z2_ct L (s + 1) m) = _
    rw [show s + (m + 1) = s + 1 + m by omega]
    omega
theorem z2_ct0 (L : Nat → Nat) : z2_ct L 0 275 = zq_S (fun i => if L i = 0 then 0 else 1) 275 := by
  have h := z2_ctq L 275 0
  rw [Nat.zero_add] at h
  rw [← h]
  show _ = 0 + _
  omega
theorem z2_hdl (L : Nat → Nat) : ∀ m s, zs_l (z2_hd L s m) = 13 * z2_ct L s m := by
  intro m
  induction m with
  | zero => intro s; rfl
  | succ m ih =>
    intro s
    show zs_l (if L s = 0 then z2_hd L (s + 1) m else (s, 9) :: (L s, 4) :: z2_hd L (s + 1) m) = 13 * ((if L s = 0 then 0 else 1) + z2_ct L (s + 1) m)
    by_cases e : L s = 0
    · rw [if_pos e, if_pos e, ih]; omega
    · rw [if_neg e, if_neg e]
      show 9 + (4 + zs_l (z2_hd L (s + 1) m)) = _
      rw [ih]; omega
def z2_ts (L : Nat → Nat) : List (Nat × Nat) → List (Nat × Nat)
  | [] => []
  | t :: ts => z2_bits (zd_cd L t.1) (L t.1) ++ ((if t.1 ≤ 256 then [] else [(t.2, 7)]) ++ z2_ts L ts)
theorem z2_Lsy {r : Nat → Nat} {n : Nat} : ∀ ts k, z2_L r n k ts → ∀ t, t ∈ ts → t.1 < 275 ∧ (256 < t.1 → t.2 ≤ n) := by
  intro ts
  induction ts with
  | nil => intro k _ t ht; cases ht
  | cons x ts ih =>
    intro k h t ht
    rcases h with ⟨h1, h2, h3, h4⟩ | ⟨len, h1, h2, h3, h4, h5, h6, h7, h8⟩
    · cases ht with
      | head => exact ⟨by omega, fun z => by omega⟩
      | tail _ ht => exact ih (k + 1) h4 t ht
    · cases ht with
      | head => exact ⟨by omega, fun z => by omega⟩
      | tail _ ht => exact ih (k + len) h8 t ht
theorem z2_Lk {r : Nat → Nat} {n : Nat} : ∀ ts k, z2_L r n k ts → k ≤ n := by
  intro ts
  cases ts with
  | nil => intro k h; exact Nat.le_of_eq h
  | cons x ts =>
    intro k h
    rcases h with ⟨h1, h2, h3, h4⟩ | ⟨len, h1, h2, h3, h4, h5, h6, h7, h8⟩ <;> omega
theorem z2_tsl {L r : Nat → Nat} {n : Nat} (hL : ∀ s, s < 275 → L s ≤ 8) : ∀ ts k, z2_L r n k ts → zs_l (z2_ts L ts) + 8 * k ≤ 8 * n := by
  intro ts
  induction ts with
  | nil => intro k h; have h' : k = n := h; show 0 + _ ≤ _; omega
  | cons x ts ih =>
    intro k h
    show zs_l (z2_bits (zd_cd L x.1) (L x.1) ++ ((if x.1 ≤ 256 then [] else [(x.2, 7)]) ++ z2_ts L ts)) + _ ≤ _
    rw [zs_l_app, zs_l_app, z2_bitsl]
    rcases h with ⟨h1, h2, h3, h4⟩ | ⟨len, h1, h2, h3, h4, h5, h6, h7, h8⟩
    · rw [if_pos (by omega)]
      have h9 := ih (k + 1) h4
      have h10 := hL x.1 (by omega)
      show L x.1 + (0 + _) + _ ≤ _
      omega
    · rw [if_neg (by omega)]
      have h9 := ih (k + len) h8
      have h10 := hL x.1 (by omega)
      show L x.1 + (7 + 0 + _) + _ ≤ _
      omega
/-- a stream of format 2 -/
def z2_D (w h : Nat) (p : Nat → Nat) (fs : List (Nat × Nat)) : Prop :=
  ∃ L TL r, zd_K L ∧ z2_L r ((w + 1) * h) 0 TL ∧ (∀ t, t ∈ TL → 1 ≤ L t.1) ∧ z2_G (fun k => nI (p k)) w h (fun k => nI (r k)) ∧ (∀ k, k < (w + 1) * h → r k < 256) ∧
    fs = (z2_ct L 0 275, 8) :: (z2_hd L 0 275 ++ z2_ts L TL)
theorem z2_Gp {pl pm : Nat → Int32} {w h : Nat} {re : Nat → Int32} (he : ∀ k, k < w * h → pl k = pm k) (hG : z2_G pl w h re) : z2_G pm w h re := by
  intro y hy
  obtain ⟨f, h1, h2, h3⟩ := hG y hy
  refine ⟨f, h1, h2, fun x hx => ?_⟩
  have hywh : y * w + w ≤ w * h := by
    have h1 : (y + 1) * w ≤ h * w := Nat.mul_le_mul_right _ (by omega)
    rw [Nat.succ_mul, Nat.mul_comm h w] at h1
    exact h1
  rw [h3 x hx, he _ (by omega), z2_pF hx (fun k hk => he k (by omega))]
theorem z2_Gr' {pl : Nat → Int32} {w h : Nat} {re rf : Nat → Int32} (he : ∀ k, k < (w + 1) * h → re k = rf k) (hG : z2_G pl w h re) : z2_G pl w h rf := by
  intro y hy
  refine z2_GrF (re := re) (fun k hk => he k ?_) (hG y hy)
  have h1 : (y + 1) * (w + 1) ≤ h * (w + 1) := Nat.mul_le_mul_right _ (by omega)
  rw [Nat.mul_comm h] at h1
  omega
/-- the lengths by symbol, k leaves done -/
def z2_Y (sy ln L : Nat → Nat) (k : Nat) : Prop :=
  (∀ s, L s ≠ 0 → ∃ i, i < k ∧ sy i = s) ∧ (∀ i, i < k → L (sy i) = ln i) ∧ (∀ s, L s ≤ 8) ∧
    zq_S (fun s => if L s = 0 then 0 else 2 ^ (16 - L s)) 275 = zq_S (fun t => 2 ^ (16 - ln t)) k ∧ zq_S (fun s => if L s = 0 then 0 else 1) 275 = k
theorem z2_Yup {sy ln L : Nat → Nat} {k : Nat} (h : z2_Y sy ln L k) (hs : sy k < 275) (hne : ∀ i, i < k → sy i ≠ sy k) (h1 : 1 ≤ ln k) (h8 : ln k ≤ 8) : z2_Y sy ln (zu L (sy k) (ln k)) (k + 1) := by
  obtain ⟨a1, a2, a3, a4, a5⟩ := h
  have h0 : L (sy k) = 0 := by
    by_cases e : L (sy k) = 0
    · exact e
    · obtain ⟨i, i1, i2⟩ := a1 _ e
      exact absurd i2 (hne i i1)
  refine ⟨?_, ?_, ?_, ?_, ?_⟩
  · intro s hL
    by_cases e : s = sy k
    · exact ⟨k, by omega, e.symm⟩
    · rw [zu_n e] at hL
      obtain ⟨i, i1, i2⟩ := a1 s hL
      exact ⟨i, by omega, i2⟩
  · intro i hi
    by_cases e : i = k
    · subst e; rw [zu_s]
    · rw [zu_n (hne i (by omega))]
      exact a2 i (by omega)
  · intro s
    by_cases e : s = sy k
    · subst e; rw [zu_s]; exact h8
    · rw [zu_n e]; exact a3 s
  · have := zq_zu (L := L) (G := fun l => if l = 0 then 0 else 2 ^ (16 - l)) (s := sy k) (x := ln k) 275 hs
    rw [h0, if_pos rfl, if_neg (show ¬ ln k = 0 by omega), a4] at this
    exact this
  · have := zq_zu (L := L) (G := fun l => if l = 0 then 0 else 1) (s := sy k) (x := ln k) 275 hs
    rw [h0, if_pos rfl, if_neg (show ¬ ln k = 0 by omega), a5] at this
    exact this
section
variable {f_bodyLength f_bits f_bitCount f_readAt f_readEnd f_w f_h : Int32} {a_pixels a_users a_buffer a_wide a_high a_start a_right a_down a_factor a_offset a_files a_fileLength a_plain a_body a_residue a_tokens a_distances a_heads a_chain a_weight a_parent a_symbol a_codeLength a_codeOf a_lengthOf a_perLength a_before a_last : Nat → Int32}
theorem z2_168 {post : SX → Prop} {J : Int32 → Int32 → Int32 → Int32 → Int32 → Int32 → Int32 → Int32 → (Nat → Int32) → (Nat → Int32) → (Nat → Int32) → (Nat → Int32) → (Nat → Int32) → (Nat → Int32) → (Nat → Int32) → (Nat → Int32) → (Nat → Int32) → (Nat → Int32) → (Nat → Int32) → (Nat → Int32) → (Nat → Int32) → (Nat → Int32) → (Nat → Int32) → (Nat → Int32) → (Nat → Int32) → (Nat → Int32) → (Nat → Int32) → (Nat → Int32) → (Nat → Int32) → (Nat → Int32) → (Nat → Int32) → (Nat → Int32) → (Nat → Int32) → (Nat → Int32) → (Nat → Int32) → (Nat → Int32) → Prop} {s t c0 dd : Nat} {x2 : Int32} (hs : s < 275) (ht : t < 80) (hcd : a_codeOf s = nI c0) (hc0 : c0 < 2 ^ 15) (hdd : 256 < s → a_distances t = nI dd ∧ dd < 128) :
    ∀ c fs bl b bc bo x, zs_l fs + c + 7 ≤ 1864 → c ≤ 15 → zs_W fs bl b bc bo → (c = 0 → x = -1) → (∀ k, c = k + 1 → x = nI k) →
      (∀ bl b bc bo, zs_W (fs ++ (z2_bits c0 c ++ (if s ≤ 256 then [] else [(dd, 7)]))) bl b bc bo → J (nI (t + 1)) bl b bc f_readAt f_readEnd f_w f_h a_pixels a_users a_buffer a_wide a_high a_start a_right a_down a_factor a_offset a_files a_fileLength a_plain bo a_residue a_tokens a_distances a_heads a_chain a_weight a_parent a_symbol a_codeLength a_codeOf a_lengthOf a_perLength a_before a_last) →
      ∀ m, c < m → wX_packPredicted_168 post J x2 (nI t) (nI s) m x bl b bc f_readAt f_readEnd f_w f_h a_pixels a_users a_buffer a_wide a_high a_start a_right a_down a_factor a_offset a_files a_fileLength a_plain bo a_residue a_tokens a_distances a_heads a_chain a_weight a_parent a_symbol a_codeLength a_codeOf a_lengthOf a_perLength a_before a_last := by
  intro c
  induction c with
  | zero =>
    intro fs bl b bc bo x hL hc hW hx0 hx1 K m hm
    obtain ⟨m, rfl⟩ : ∃ q, m = q + 1 := ⟨m - 1, by omega⟩
    rw [hx0 rfl]
    refine br_t (by decide) ?_
    by_cases e : s ≤ 256
    · refine br_t (nI_le (b := 256) e (by decide)) (nm_r (nI_1 t) (K _ _ _ _ ?_))
      rw [if_pos e]
      show zs_W (fs ++ []) _ _ _ _
      rw [List.append_nil]
      exact hW
    · obtain ⟨d1, d2⟩ := hdd (by omega)
      refine br_f (nI_ge (a := 256) (by omega) (by omega)) ⟨vp_in_nI (by omega) (by decide), ?_⟩
      rw [nI_clamp (by omega), d1]
      refine zs_put (fs := fs) dd 7 rfl rfl d2 (by decide) (by omega) hW ?_
      intro bl2 b2 bc2 bo2 hW2
      refine nm_r (nI_1 t) (K _ _ _ _ ?_)
      rw [if_neg e]
      exact hW2
  | succ c ih =>
    intro fs bl b bc bo x hL hc hW hx0 hx1 K m hm
    obtain ⟨m, rfl⟩ : ∃ q, m = q + 1 := ⟨m - 1, by omega⟩
    rw [hx1 c rfl]
    refine br_f (nI_pos (by omega)) ⟨vp_in_nI (by omega) (by decide), ?_⟩
    rw [nI_clamp (by omega), hcd]
    have hlt : c0 / 2 ^ c ≤ c0 := Nat.div_le_self _ _
    refine zs_put (fs := fs) (c0 / 2 ^ c % 2) 1 ?_ rfl (Nat.mod_lt _ (by decide)) (by decide) (by omega) hW ?_
    · rw [zn_shr (by omega) (by omega)]
      exact pk_andN (by omega) (m := 1) 1 (by decide)
    · intro bl2 b2 bc2 bo2 hW2
      refine nm_e (ih (fs ++ [(c0 / 2 ^ c % 2, 1)]) bl2 b2 bc2 bo2 _ (by rw [zs_l1]; omega) (by omega) hW2 (fun e => by rw [e]; decide) (fun k hk => by rw [hk]; exact pk_m1 k) ?_ m (by omega))
      intro bl3 b3 bc3 bo3 hW3
      rw [List.append_assoc] at hW3
      exact K _ _ _ _ hW3
theorem z2_142 {post : SX → Prop} {L r : Nat → Nat} {n : Nat} {TL : List (Nat × Nat)} (hn : n ≤ 72) (hK : zd_K L) (hL8 : ∀ s, s < 275 → L s ≤ 8) (hlen : TL.length ≤ 72) (hL : ∀ s, s < 275 → a_lengthOf s = nI (L s))
    (hcd : ∀ s, s < 275 → 1 ≤ L s → a_codeOf s = nI (zd_cd L s)) :
    ∀ ts t k fs bl b bc bo, t + ts.length = TL.length → zt_H a_tokens a_distances t ts → z2_L r n k ts → (∀ x, x ∈ ts → 1 ≤ L x.1) → zs_l fs + 8 * (n - k) ≤ 1842 → zs_W fs bl b bc bo →
      (∀ bl b bc bo, zs_W (fs ++ z2_ts L ts) bl b bc bo → post (bl, b, bc, f_readAt, f_readEnd, f_w, f_h, a_pixels, a_users, a_buffer, a_wide, a_high, a_start, a_right, a_down, a_factor, a_offset, a_files, a_fileLength, a_plain, bo, a_residue, a_tokens, a_distances, a_heads, a_chain, a_weight, a_parent, a_symbol, a_codeLength, a_codeOf, a_lengthOf, a_perLength, a_before, a_last)) →
      ∀ m, ts.length < m → wX_packPredicted_142 post (nI TL.length) m (nI t) bl b bc f_readAt f_readEnd f_w f_h a_pixels a_users a_buffer a_wide a_high a_start a_right a_down a_factor a_offset a_files a_fileLength a_plain bo a_residue a_tokens a_distances a_heads a_chain a_weight a_parent a_symbol a_codeLength a_codeOf a_lengthOf a_perLength a_before a_last := by
  intro ts
  induction ts with
  | nil =>
    intro t k fs bl b bc bo ht hH hZ h1 hl hW K m hm
    obtain ⟨m, rfl⟩ : ∃ q, m = q + 1 := ⟨m - 1, by omega⟩
    have ht' : t + 0 = TL.length := ht
    refine br_t (nI_le (by omega) (by omega)) (K _ _ _ _ ?_)
    show zs_W (fs ++ []) _ _ _ _
    rw [List.append_nil]
    exact hW
  | cons x ts ih =>
    intro t k fs bl b bc bo ht hH hZ h1 hl hW K m hm
    obtain ⟨m, rfl⟩ : ∃ q, m = q + 1 := ⟨m - 1, by omega⟩
    have hlx : (x :: ts).length = ts.length + 1 := rfl
    obtain ⟨y1, y2⟩ := z2_Lsy (x :: ts) k hZ x List.mem_cons_self
    have hkn := z2_Lk (x :: ts) k hZ
    have hx1 := h1 x List.mem_cons_self
    have hx8 := hL8 x.1 y1
    have hcl := zd_cdlt hK y1 hx1
    have hpw : 2 ^ L x.1 ≤ 2 ^ 15 := zn_pow (by omega)
    have hx0 : nI (L x.1) - 1 = nI (L x.1 - 1) := pk_sub (b := 1) (by omega)
    refine br_f (nI_ge (by omega) (by omega)) ⟨vp_in_nI (by omega) (by decide), nm_r (e' := nI x.1) (by rw [nI_clamp (by omega)]; exact hH.1) ⟨vp_in_nI y1 (by decide), nm_r (e' := nI (L x.1 - 1)) (by rw [nI_clamp (by omega), hL x.1 y1]; exact hx0) ⟨L x.1 + 1, ?_⟩⟩⟩
    have hnext : ∃ k', z2_L r n k' ts ∧ k' ≤ n ∧ L x.1 + (if x.1 ≤ 256 then 0 else 7) + 8 * (n - k') ≤ 8 * (n - k) ∧ k < k' := by
      rcases hZ with ⟨g1, g2, g3, g4⟩ | ⟨len, g1, g2, g3, g4, g5, g6, g7, g8⟩
      · exact ⟨k + 1, g4, by omega, by rw [if_pos (by omega)]; omega, by omega⟩
      · exact ⟨k + len, g8, g6, by rw [if_neg (by omega)]; omega, by omega⟩
    obtain ⟨k', z1, z2, z3, z4⟩ := hnext
    refine z2_168 (c0 := zd_cd L x.1) (dd := x.2) y1 (by omega) (hcd x.1 y1 hx1) (by omega) (fun z => ⟨hH.2.1, by have := y2 z; omega⟩) (L x.1) fs bl b bc bo _ (by omega) (by omega) hW (fun e => by omega) (fun q hq => by rw [hq, Nat.add_sub_cancel]) ?_ _ (Nat.lt_succ_self _)
    intro bl2 b2 bc2 bo2 hW2
    have hl2 : zs_l (fs ++ (z2_bits (zd_cd L x.1) (L x.1) ++ (if x.1 ≤ 256 then [] else [(x.2, 7)]))) = zs_l fs + (L x.1 + (if x.1 ≤ 256 then 0 else 7)) := by
      rw [zs_l_app, zs_l_app, z2_bitsl]
      by_cases e : x.1 ≤ 256
      · rw [if_pos e, if_pos e]; rfl
      · rw [if_neg e, if_neg e]; rfl
    refine ih (t + 1) k' _ bl2 b2 bc2 bo2 (by omega) hH.2.2 z1 (fun y hy => h1 y (List.mem_cons_of_mem _ hy)) (by rw [hl2]; omega) hW2 ?_ m (by omega)
    intro bl3 b3 bc3 bo3 hW3
    refine K _ _ _ _ ?_
    rw [List.append_assoc, List.append_assoc] at hW3
    exact hW3
theorem z2_95 {post : SX → Prop} {L : Nat → Nat} {x2 : Int32} (hL15 : ∀ s, s < 275 → L s ≤ 15) (hL : ∀ s, s < 275 → a_lengthOf s = nI (L s)) :
    ∀ d s fs bl b bc bo, s + d = 275 → zs_l fs + 13 * z2_ct L s d ≤ 1864 → zs_W fs bl b bc bo →
      (∀ bl b bc bo, zs_W (fs ++ z2_hd L s d) bl b bc bo → ∃ m, wX_packPredicted_142 post x2 m 0 bl b bc f_readAt f_readEnd f_w f_h a_pixels a_users a_buffer a_wide a_high a_start a_right a_down a_factor a_offset a_files a_fileLength a_plain bo a_residue a_tokens a_distances a_heads a_chain a_weight a_parent a_symbol a_codeLength a_codeOf a_lengthOf a_perLength a_before a_last) →
      ∀ m, d < m → wX_packPredicted_95 post x2 m (nI s) bl b bc f_readAt f_readEnd f_w f_h a_pixels a_users a_buffer a_wide a_high a_start a_right a_down a_factor a_offset a_files a_fileLength a_plain bo a_residue a_tokens a_distances a_heads a_chain a_weight a_parent a_symbol a_codeLength a_codeOf a_lengthOf a_perLength a_before a_last := by
  intro d
  induction d with
  | zero =>
    intro s fs bl b bc bo hs hl hW K m hm
    obtain ⟨m, rfl⟩ : ∃ q, m = q + 1 := ⟨m - 1, by omega⟩
    refine br_t (nI_le (a := 275) (by omega) (by omega)) (K _ _ _ _ ?_)
    show zs_W (fs ++ []) _ _ _ _
    rw [List.append_nil]
    exact hW
  | succ d ih =>
    intro s fs bl b bc bo hs hl hW K m hm
    obtain ⟨m, rfl⟩ : ∃ q, m = q + 1 := ⟨m - 1, by omega⟩
    have hct : z2_ct L s (d + 1) = (if L s = 0 then 0 else 1) + z2_ct L (s + 1) d := rfl
    have hhd : z2_hd L s (d + 1) = if L s = 0 then z2_hd L (s + 1) d else (s, 9) :: (L s, 4) :: z2_hd L (s + 1) d := rfl
    have h15 := hL15 s (by omega)
    rw [hct] at hl
    rw [hhd] at K
    refine br_f (nI_ge (b := 275) (by omega) (by decide)) ⟨vp_in_nI (by omega) (by decide), ?_⟩
    have eL : a_lengthOf (nI s).toNatClampNeg = nI (L s) := by rw [nI_clamp (by omega)]; exact hL s (by omega)
    rw [eL]
    by_cases c0 : L s = 0
    · rw [if_pos c0] at hl
      simp only [c0, if_true] at K
      rw [c0]
      exact br_t (by decide) (nm_r (nI_1 s) (ih (s + 1) fs bl b bc bo (by omega) (by omega) hW K m (by omega)))
    · rw [if_neg c0] at hl
      simp only [c0, if_false] at K
      refine br_f (nI_nle (by omega) (by omega)) (zs_put (fs := fs) s 9 rfl rfl (by omega) (by decide) (by omega) hW ?_)
      intro bl2 b2 bc2 bo2 hW2
      refine ⟨vp_in_nI (by omega) (by decide), ?_⟩
      refine zs_put (fs := fs ++ [(s, 9)]) (L s) 4 eL rfl (by omega) (by decide) (by rw [zs_l1]; omega) hW2 ?_
      intro bl3 b3 bc3 bo3 hW3
      refine nm_r (nI_1 s) (ih (s + 1) (fs ++ [(s, 9)] ++ [(L s, 4)]) bl3 b3 bc3 bo3 (by omega) (by rw [zs_l1, zs_l1]; omega) hW3 ?_ m (by omega))
      intro bl4 b4 bc4 bo4 hW4
      rw [List.append_assoc, List.append_assoc] at hW4
      exact K _ _ _ _ hW4
theorem z2_50 {post : SX → Prop} {sy ln : Nat → Nat} {n : Nat} {x2 : Int32} (hn : n ≤ 72) (hsy : ∀ k, k < n → sy k < 275 ∧ a_symbol k = nI (sy k)) (hdist : ∀ i j, i < j → j < n → sy i ≠ sy j)
    (hln : ∀ k, k < n → a_codeLength k = nI (ln k) ∧ 1 ≤ ln k ∧ ln k ≤ 8)
    (K : ∀ L lo, z2_Y sy ln L n → (∀ s, s < 275 → lo s = nI (L s)) → wpX_assignCodes (fun u => match u with | (f_bodyLength, f_bits, f_bitCount, f_readAt, f_readEnd, f_w, f_h, a_pixels, a_users, a_buffer, a_wide, a_high, a_start, a_right, a_down, a_factor, a_offset, a_files, a_fileLength, a_plain, a_body, a_residue, a_tokens, a_distances, a_heads, a_chain, a_weight, a_parent, a_symbol, a_codeLength, a_codeOf, a_lengthOf, a_perLength, a_before, a_last) => (wpX_putBits (fun u => match u with | (f_bodyLength, f_bits, f_bitCount, f_readAt, f_readEnd, f_w, f_h, a_pixels, a_users, a_buffer, a_wide, a_high, a_start, a_right, a_down, a_factor, a_offset, a_files, a_fileLength, a_plain, a_body, a_residue, a_tokens, a_distances, a_heads, a_chain, a_weight, a_parent, a_symbol, a_codeLength, a_codeOf, a_lengthOf, a_perLength, a_before, a_last) => (∃ n95 : Nat, wX_packPredicted_95 post x2 n95 0 f_bodyLength f_bits f_bitCount f_readAt f_readEnd f_w f_h a_pixels a_users a_buffer a_wide a_high a_start a_right a_down a_factor a_offset a_files a_fileLength a_plain a_body a_residue a_tokens a_distances a_heads a_chain a_weight a_parent a_symbol a_codeLength a_codeOf a_lengthOf a_perLength a_before a_last)) (f_bodyLength, f_bits, f_bitCount, f_readAt, f_readEnd, f_w, f_h, a_pixels, a_users, a_buffer, a_wide, a_high, a_start, a_right, a_down, a_factor, a_offset, a_files, a_fileLength, a_plain, a_body, a_residue, a_tokens, a_distances, a_heads, a_chain, a_weight, a_parent, a_symbol, a_codeLength, a_codeOf, a_lengthOf, a_perLength, a_before, a_last) (nI n) 8)) (f_bodyLength, f_bits, f_bitCount, f_readAt, f_readEnd, f_w, f_h, a_pixels, a_users, a_buffer, a_wide, a_high, a_start, a_right, a_down, a_factor, a_offset, a_files, a_fileLength, a_plain, a_body, a_residue, a_tokens, a_distances, a_heads, a_chain, a_weight, a_parent, a_symbol, a_codeLength, a_codeOf, lo, a_perLength, a_before, a_last)) :
    ∀ d k L lo, k + d = n → z2_Y sy ln L k → (∀ s, s < 275 → lo s = nI (L s)) → ∀ m, d < m → wX_packPredicted_50 post x2 (nI n) f_bodyLength f_bits f_bitCount f_readAt f_readEnd f_w f_h m (nI k) a_pixels a_users a_buffer a_wide a_high a_start a_right a_down a_factor a_offset a_files a_fileLength a_plain a_body a_residue a_tokens a_distances a_heads a_chain a_weight a_parent a_symbol a_codeLength a_codeOf lo a_perLength a_before a_last := by
  intro d
  induction d with
  | zero =>
    intro k L lo hk hY hlo m hm
    obtain ⟨m, rfl⟩ : ∃ q, m = q + 1 := ⟨m - 1, by omega⟩
    have e : k = n := by omega
    subst e
    exact br_t (nI_le (by omega) (by omega)) (K L lo hY hlo)
  | succ d ih =>
    intro k L lo hk hY hlo m hm
    obtain ⟨m, rfl⟩ : ∃ q, m = q + 1 := ⟨m - 1, by omega⟩
    obtain ⟨s1, s2⟩ := hsy k (by omega)
    obtain ⟨l1, l2, l3⟩ := hln k (by omega)
    refine br_f (nI_ge (by omega) (by omega)) ⟨vp_in_nI (by omega) (by decide), vp_in_nI (by omega) (by decide), ?_⟩
    rw [nI_clamp (n := k) (by omega), s2, l1]
    refine ⟨vp_in_nI (by omega) (by decide), nm_e (nm_r (nI_1 k) ?_)⟩
    rw [nI_clamp (by omega), zn_vb (by omega)]
    refine ih (k + 1) _ _ (by omega) (z2_Yup hY s1 (fun i hi => hdist i k hi (by omega)) l2 l3) ?_ m (by omega)
    intro s hs
    by_cases e : s = sy k
    · subst e; rw [pk_us, zu_s]
    · rw [pk_un e, zu_n e]; exact hlo s hs
end
section
variable {f_bodyLength f_bits f_bitCount f_readAt f_readEnd f_w f_h : Int32} {a_pixels a_users a_buffer a_wide a_high a_start a_right a_down a_factor a_offset a_files a_fileLength a_plain a_body a_residue a_tokens a_distances a_heads a_chain a_weight a_parent a_symbol a_codeLength a_codeOf a_lengthOf a_perLength a_before a_last : Nat → Int32}
theorem z2_pack {post : SX → Prop} {w h : Nat} {p : Nat → Nat} (hw : f_w = nI w) (hh : f_h = nI h) (hw1 : 1 ≤ w) (hw8 : w ≤ 8) (hh1 : 1 ≤ h) (hh8 : h ≤ 8) (P : zp_P a_plain p (w * h))
    (W : zs_W [] f_bodyLength f_bits f_bitCount a_body)
    (K : ∀ fs bl b bc bo re tk ds hd ch we pa sy cl co lo pe, z2_D w h p fs → zs_l fs ≤ 1600 → zs_W fs bl b bc bo →
      post (bl, b, bc, f_readAt, f_readEnd, f_w, f_h, a_pixels, a_users, a_buffer, a_wide, a_high, a_start, a_right, a_down, a_factor, a_offset, a_files, a_fileLength, a_plain, bo, re, tk, ds, hd, ch, we, pa, sy, cl, co, lo, pe, a_before, a_last)) :
    wpX_packPredicted post (f_bodyLength, f_bits, f_bitCount, f_readAt, f_readEnd, f_w, f_h, a_pixels, a_users, a_buffer, a_wide, a_high, a_start, a_right, a_down, a_factor, a_offset, a_files, a_fileLength, a_plain, a_body, a_residue, a_tokens, a_distances, a_heads, a_chain, a_weight, a_parent, a_symbol, a_codeLength, a_codeOf, a_lengthOf, a_perLength, a_before, a_last) := by
  have hn1 : 1 ≤ (w + 1) * h := Nat.mul_pos (by omega) (by omega)
  have hn : (w + 1) * h ≤ 72 := by
    have : (w + 1) * h ≤ 9 * 8 := Nat.mul_le_mul (by omega) hh8
    omega
  unfold wpX_packPredicted
  refine z2_filterRows hw hh hw8 hh8 ?_
  intro re hG
  have hGn := z2_Gn hG
  refine z2_findStretches (a_residue := re) hn hGn ?_
  intro TL tk ds hd ch hZ hH hlen
  have hsy := z2_Lsy TL 0 hZ
  have hTL : TL ≠ [] := by
    intro e
    subst e
    have : 0 = (w + 1) * h := hZ
    omega
  refine zl_gather (a_tokens := tk) (a_distances := ds) hH (by omega) (fun t ht => (hsy t ht).1) ?_
  intro n wt sy A B cd hV hn72 hAB
  have hsum : zq_S wt n ≤ 72 := by
    rw [hV.2.2.2.2, zk_sum TL (fun t ht => (hsy t ht).1)]
    omega
  have hn0 : 1 ≤ n := by
    obtain ⟨t, ts, rfl⟩ : ∃ t ts, TL = t :: ts := by
      cases TL with
      | nil => exact absurd rfl hTL
      | cons t ts => exact ⟨t, ts, rfl⟩
    obtain ⟨k, k1, _⟩ := hV.2.2.2.1 t.1 (hsy t List.mem_cons_self).1 (zk_in List.mem_cons_self)
    omega
  refine zj_join (a_weight := A) hn0 hn72 (fun t ht => (hV.2.1 t ht).2.1) hV.1 hsum (fun t ht => (hAB t ht).1) ?_
  intro ln we pa cl hln hkr
  have H25 : ∀ d s lo, s + d = 275 → (∀ j, j < s → lo j = 0) → ∀ m, d < m →
      wX_packPredicted_25 post (nI TL.length) (nI n) f_bodyLength f_bits f_bitCount f_readAt f_readEnd f_w f_h m (nI s) a_pixels a_users a_buffer a_wide a_high a_start a_right a_down a_factor a_offset a_files a_fileLength a_plain a_body re tk ds hd ch we pa B cl cd lo a_perLength a_before a_last := by
    intro d
    induction d with
    | zero =>
      intro s lo hs hlo m hm
      obtain ⟨m, rfl⟩ : ∃ q, m = q + 1 := ⟨m - 1, by omega⟩
      refine br_t (nI_le (a := 275) (by omega) (by omega)) ⟨n + 1, ?_⟩
      refine z2_50 (sy := sy) (ln := ln) (a_symbol := B) (a_codeLength := cl) hn72 (fun k hk => ⟨(hV.2.1 k hk).1, (hAB k hk).2⟩) hV.2.2.1 hln ?_ n 0 (fun _ => 0) lo (by omega) ⟨fun s h => absurd rfl h, fun i h => absurd h (Nat.not_lt_zero _), fun _ => Nat.zero_le _, zq_0 275 (fun _ _ => rfl), zq_0 275 (fun _ _ => rfl)⟩ (fun j hj => hlo j (by omega)) (n + 1) (by omega)
      intro L lo2 hY hlo2
      have hK : zd_K L := ⟨fun s _ => by have := hY.2.2.1 s; omega, by rw [hY.2.2.2.1]; exact hkr, by rw [hY.2.2.2.2]; exact hn72⟩
      have hct : z2_ct L 0 275 = n := by rw [z2_ct0]; exact hY.2.2.2.2
      have hL1 : ∀ t, t ∈ TL → 1 ≤ L t.1 := by
        intro t ht
        obtain ⟨k, k1, k2⟩ := hV.2.2.2.1 t.1 (hsy t ht).1 (zk_in ht)
        rw [← k2, hY.2.1 k k1]
        exact (hln k k1).2.1
      refine zd_assign (a_lengthOf := lo2) hK hlo2 ?_
      intro pe co sy2 hpe hco
      refine zs_put (fs := []) n 8 rfl rfl (by omega) (by decide) (by show 0 + 8 ≤ _; decide) W ?_
      intro bl b bc bo hW
      refine ⟨276, ?_⟩
      refine z2_95 (L := L) (a_lengthOf := lo2) hK.1 hlo2 275 0 [(n, 8)] bl b bc bo (by omega) (by show 8 + 0 + _ ≤ _; rw [hct]; omega) hW ?_ 276 (by omega)
      intro bl2 b2 bc2 bo2 hW2
      have hl2 : zs_l ([(n, 8)] ++ z2_hd L 0 275) = 8 + 13 * n := by
        rw [zs_l_app, z2_hdl, hct]
        rfl
      refine ⟨TL.length + 1, ?_⟩
      refine z2_142 (TL := TL) (L := L) (n := (w + 1) * h) (a_tokens := tk) (a_distances := ds) (a_codeOf := co) (a_lengthOf := lo2) hn hK (fun s _ => hY.2.2.1 s) (by omega) hlo2 (fun s h1 h2 => (hco s h1 h2).1) TL 0 0 _ bl2 b2 bc2 bo2 (by omega) hH hZ hL1 (by rw [hl2]; omega) hW2 ?_ _ (Nat.lt_succ_self _)
      intro bl3 b3 bc3 bo3 hW3
      have hfs : [(n, 8)] ++ z2_hd L 0 275 ++ z2_ts L TL = (z2_ct L 0 275, 8) :: (z2_hd L 0 275 ++ z2_ts L TL) := by
        rw [List.append_assoc, hct]
        rfl
      rw [hfs] at hW3
      refine K _ bl3 b3 bc3 bo3 re tk ds hd ch we pa sy2 cl co lo2 pe ⟨L, TL, _, hK, hZ, hL1, ?_, fun k hk => (hGn k hk).1, rfl⟩ ?_ hW3
      · refine z2_Gp (pl := a_plain) (fun k hk => (P k hk).2) (z2_Gr' (re := re) (fun k hk => (hGn k hk).2) hG)
      · rw [← hfs, zs_l_app, hl2]
        have := z2_tsl (fun s _ => hY.2.2.1 s) TL 0 hZ
        omega
    | succ d ih =>
      intro s lo hs hlo m hm
      obtain ⟨m, rfl⟩ : ∃ q, m = q + 1 := ⟨m - 1, by omega⟩
      refine br_f (nI_ge (b := 275) (by omega) (by decide)) ⟨vp_in_nI (by omega) (by decide), nm_e (nm_r (nI_1 s) ?_)⟩
      rw [nI_clamp (by omega), zn_vb0]
      refine ih (s + 1) _ (by omega) ?_ m (by omega)
      intro j hj
      by_cases e : j = s
      · subst e; rw [pk_us]
      · rw [pk_un e]; exact hlo j (by omega)
  exact ⟨276, H25 275 0 a_lengthOf (by omega) (fun j h => absurd h (Nat.not_lt_zero _)) 276 (by omega)⟩
end
end
section
/-! format 2: the reader -/
section
variable {f_bodyLength f_bits f_bitCount f_readAt f_readEnd f_w f_h : Int32} {a_pixels a_users a_buffer a_wide a_high a_start a_right a_down a_factor a_offset a_files a_fileLength a_plain a_body a_residue a_tokens a_distances a_heads a_chain a_weight a_parent a_symbol a_codeLength a_codeOf a_lengthOf a_perLength a_before a_last : Nat → Int32}
theorem z2_rs {post : Int32 → SX → Prop} {L : Nat → Nat} {s : Nat} {fs : List (Nat × Nat)} (hK : zd_K L) (hs : s < 275) (h1 : 1 ≤ L s)
    (hpl : ∀ l, l < 17 → a_perLength l = nI (zd_pe L l)) (hsy : a_symbol (zd_ix L s) = nI s)
    (K : ∀ b c ra, zs_R fs b c ra f_readEnd a_files → post (nI s) (f_bodyLength, b, c, ra, f_readEnd, f_w, f_h, a_pixels, a_users, a_buffer, a_wide, a_high, a_start, a_right, a_down, a_factor, a_offset, a_files, a_fileLength, a_plain, a_body, a_residue, a_tokens, a_distances, a_heads, a_chain, a_weight, a_parent, a_symbol, a_codeLength, a_codeOf, a_lengthOf, a_perLength, a_before, a_last)) :
    ∀ d l b c ra, l + d = L s → 1 ≤ l → zs_R (z2_bits (zd_cd L s) (d + 1) ++ fs) b c ra f_readEnd a_files → ∀ m, d < m →
      wX_readSymbol_9 post m (nI (2 * (zd_cd L s / 2 ^ (d + 1)))) (nI (zd_fi L l)) (nI (zd_rk L l)) (nI l) f_bodyLength b c ra f_readEnd f_w f_h a_pixels a_users a_buffer a_wide a_high a_start a_right a_down a_factor a_offset a_files a_fileLength a_plain a_body a_residue a_tokens a_distances a_heads a_chain a_weight a_parent a_symbol a_codeLength a_codeOf a_lengthOf a_perLength a_before a_last := by
  have h15 := hK.1 s hs
  obtain ⟨c1, c2, c3⟩ := zd_cdlt hK hs h1
  have hpw : 2 ^ L s ≤ 2 ^ 15 := zn_pow h15
  intro d
  induction d with
  | zero =>
    intro l b c ra hl hl1 hR m hm
    obtain ⟨m, rfl⟩ : ∃ q, m = q + 1 := ⟨m - 1, by omega⟩
    have e : l = L s := by omega
    subst e
    refine br_f (nI_ge (b := 17) (by omega) (by decide)) ?_
    refine zs_get (v := zd_cd L s / 2 ^ 0 % 2) (n := 1) (fs := fs) rfl (by decide) hR ?_
    intro b2 c2' ra2 hR2
    have ecd : nI (2 * (zd_cd L s / 2 ^ (0 + 1))) ||| nI (zd_cd L s / 2 ^ 0 % 2) = nI (zd_cd L s) := by
      rw [Int32.or_comm, Nat.mul_comm 2]
      have := zn_orp (a := zd_cd L s / 2 ^ 0 % 2) (b := zd_cd L s / 2 ^ (0 + 1)) (k := 1) (Nat.mod_lt _ (by decide))
      refine Eq.trans this (congrArg nI ?_)
      omega
    refine nm_r ecd ⟨vp_in_nI (by omega) (by decide), ?_⟩
    have efi : nI (zd_cd L s) - nI (zd_fi L (L s)) = nI (zd_pr L (L s) s) := by
      rw [pk_sub (by unfold zd_cd; omega)]
      exact congrArg nI (by unfold zd_cd; omega)
    have htop := zd_top hK (l := L s) (by omega)
    rw [nI_clamp (by omega), hpl (L s) (by omega), efi]
    refine br_f (nI_ge c2 (by omega)) ?_
    have eix : (nI (zd_rk L (L s)) + nI (zd_cd L s)) - nI (zd_fi L (L s)) = nI (zd_ix L s) := by
      rw [nI_add, pk_sub (by unfold zd_cd; omega)]
      exact congrArg nI (by unfold zd_cd zd_ix; omega)
    rw [eix]
    refine ⟨vp_in_nI (by omega) (by decide), ?_⟩
    rw [nI_clamp (by omega), hsy]
    exact K _ _ _ hR2
  | succ d ih =>
    intro l b c ra hl hl1 hR m hm
    obtain ⟨m, rfl⟩ : ∃ q, m = q + 1 := ⟨m - 1, by omega⟩
    refine br_f (nI_ge (b := 17) (by omega) (by decide)) ?_
    refine zs_get (v := zd_cd L s / 2 ^ (d + 1) % 2) (n := 1) (fs := z2_bits (zd_cd L s) (d + 1) ++ fs) rfl (by decide) hR ?_
    intro b2 c2' ra2 hR2
    have hd2 : zd_cd L s / 2 ^ (d + 1 + 1) = zd_cd L s / 2 ^ (d + 1) / 2 := by
      rw [Nat.pow_succ, Nat.div_div_eq_div_mul]
    have ecd : nI (2 * (zd_cd L s / 2 ^ (d + 1 + 1))) ||| nI (zd_cd L s / 2 ^ (d + 1) % 2) = nI (zd_cd L s / 2 ^ (d + 1)) := by
      rw [Int32.or_comm, Nat.mul_comm 2, hd2]
      have := zn_orp (a := zd_cd L s / 2 ^ (d + 1) % 2) (b := zd_cd L s / 2 ^ (d + 1) / 2) (k := 1) (Nat.mod_lt _ (by decide))
      refine Eq.trans this (congrArg nI ?_)
      omega
    refine nm_r ecd ⟨vp_in_nI (by omega) (by decide), ?_⟩
    have hg := zd_grow L l d
    rw [show l + d + 1 = L s by omega] at hg
    have hge : zd_fi L l + zd_pe L l ≤ zd_cd L s / 2 ^ (d + 1) := by
      rw [Nat.le_div_iff_mul_le (zn_pos _)]
      refine Nat.le_trans hg ?_
      unfold zd_cd
      omega
    have hle := Nat.div_le_self (zd_cd L s) (2 ^ (d + 1))
    have efi : nI (zd_cd L s / 2 ^ (d + 1)) - nI (zd_fi L l) = nI (zd_cd L s / 2 ^ (d + 1) - zd_fi L l) := pk_sub (by omega)
    rw [nI_clamp (by omega), hpl l (by omega), efi]
    refine br_t (nI_le (by omega) (by omega)) ⟨vp_in_nI (by omega) (by decide), nm_r (e' := nI (zd_rk L (l + 1))) (nI_add _ _) ⟨vp_in_nI (by omega) (by decide), nm_r (e' := nI (zd_fi L (l + 1))) ?_ (nm_r (e' := nI (2 * (zd_cd L s / 2 ^ (d + 1)))) ?_ (nm_r (nI_1 l) ?_))⟩⟩
    · rw [nI_add]
      have := zn_shl (a := zd_fi L l + zd_pe L l) (k := 1) (by decide) (by omega)
      refine Eq.trans this (congrArg nI ?_)
      show _ = 2 * _
      omega
    · have := zn_shl (a := zd_cd L s / 2 ^ (d + 1)) (k := 1) (by decide) (by omega)
      refine Eq.trans this (congrArg nI ?_)
      omega
    · exact ih (l + 1) b2 c2' ra2 (by omega) (by omega) hR2 m (by omega)
theorem z2_readSymbol {post : Int32 → SX → Prop} {L : Nat → Nat} {s : Nat} {fs : List (Nat × Nat)} (hK : zd_K L) (hs : s < 275) (h1 : 1 ≤ L s)
    (hpl : ∀ l, l < 17 → a_perLength l = nI (zd_pe L l)) (hsy : a_symbol (zd_ix L s) = nI s)
    (hR : zs_R (z2_bits (zd_cd L s) (L s) ++ fs) f_bits f_bitCount f_readAt f_readEnd a_files)
    (K : ∀ b c ra, zs_R fs b c ra f_readEnd a_files → post (nI s) (f_bodyLength, b, c, ra, f_readEnd, f_w, f_h, a_pixels, a_users, a_buffer, a_wide, a_high, a_start, a_right, a_down, a_factor, a_offset, a_files, a_fileLength, a_plain, a_body, a_residue, a_tokens, a_distances, a_heads, a_chain, a_weight, a_parent, a_symbol, a_codeLength, a_codeOf, a_lengthOf, a_perLength, a_before, a_last)) :
    wpX_readSymbol post (f_bodyLength, f_bits, f_bitCount, f_readAt, f_readEnd, f_w, f_h, a_pixels, a_users, a_buffer, a_wide, a_high, a_start, a_right, a_down, a_factor, a_offset, a_files, a_fileLength, a_plain, a_body, a_residue, a_tokens, a_distances, a_heads, a_chain, a_weight, a_parent, a_symbol, a_codeLength, a_codeOf, a_lengthOf, a_perLength, a_before, a_last) := by
  obtain ⟨d, hd⟩ : ∃ d, L s = d + 1 := ⟨L s - 1, by omega⟩
  obtain ⟨c1, c2, c3⟩ := zd_cdlt hK hs h1
  rw [hd] at hR c1
  have h := z2_rs hK hs h1 hpl hsy K d 1 f_bits f_bitCount f_readAt (by omega) (by omega) hR (d + 1) (Nat.lt_succ_self d)
  rw [Nat.div_eq_of_lt c1] at h
  exact ⟨d + 1, h⟩
theorem z2_repeat {post : Int32 → SX → Prop} {r : Nat → Nat} {n k len d : Nat} {fs : List (Nat × Nat)} (hn : n ≤ 72) (hd1 : 1 ≤ d) (hdk : d ≤ k) (hkn : k + len ≤ n) (hr : ∀ j, j < len → r (k + j) = r (k - d + j))
    (hr256 : ∀ j, j < n → r j < 256) (P : zp_P a_residue r k)
    (hR : zs_R ((d, 7) :: fs) f_bits f_bitCount f_readAt f_readEnd a_files)
    (K : ∀ b c ra re, zs_R fs b c ra f_readEnd a_files → zp_P re r (k + len) → post (nI (k + len)) (f_bodyLength, b, c, ra, f_readEnd, f_w, f_h, a_pixels, a_users, a_buffer, a_wide, a_high, a_start, a_right, a_down, a_factor, a_offset, a_files, a_fileLength, a_plain, a_body, re, a_tokens, a_distances, a_heads, a_chain, a_weight, a_parent, a_symbol, a_codeLength, a_codeOf, a_lengthOf, a_perLength, a_before, a_last)) :
    wpX_repeat post (f_bodyLength, f_bits, f_bitCount, f_readAt, f_readEnd, f_w, f_h, a_pixels, a_users, a_buffer, a_wide, a_high, a_start, a_right, a_down, a_factor, a_offset, a_files, a_fileLength, a_plain, a_body, a_residue, a_tokens, a_distances, a_heads, a_chain, a_weight, a_parent, a_symbol, a_codeLength, a_codeOf, a_lengthOf, a_perLength, a_before, a_last) (nI k) (nI len) (nI n) := by
  unfold wpX_repeat
  refine zs_get (v := d) (n := 7) (fs := fs) rfl (by decide) hR ?_
  intro b c ra hR2
  refine nm_r (pk_sub hdk) (nm_r (nI_add k len) ⟨len + 1, ?_⟩)
  have H : ∀ e j re, j + e = len → zp_P re r (k + j) → ∀ m, e < m → wX_repeat_18 post (nI n) (nI (k + len)) f_bodyLength b c ra f_readEnd f_w f_h m (nI (k - d + j)) (nI (k + j)) a_pixels a_users a_buffer a_wide a_high a_start a_right a_down a_factor a_offset a_files a_fileLength a_plain a_body re a_tokens a_distances a_heads a_chain a_weight a_parent a_symbol a_codeLength a_codeOf a_lengthOf a_perLength a_before a_last := by
    intro e
    induction e with
    | zero =>
      intro j re hj hP m hm
      obtain ⟨m, rfl⟩ : ∃ q, m = q + 1 := ⟨m - 1, by omega⟩
      have ej : j = len := by omega
      subst ej
      exact br_t (nI_le (by omega) (by omega)) (K b c ra re hR2 hP)
    | succ e ih =>
      intro j re hj hP m hm
      obtain ⟨m, rfl⟩ : ∃ q, m = q + 1 := ⟨m - 1, by omega⟩
      refine br_f (nI_ge (by omega) (by omega)) (br_f (nI_ge (by omega) (by omega)) (br_f (nI_pos (by omega)) (nm_r (nI_1 _) ⟨vp_in_nI (by omega) (by decide), vp_in_nI (by omega) (by decide), nm_e (nm_r (nI_1 _) ?_)⟩)))
      have h1 := hP (k - d + j) (by omega)
      rw [nI_clamp (by omega), nI_clamp (by omega), h1.2, zn_vs (by omega)]
      have hP2 : zp_P (upd re (k + j) (nI (r (k - d + j)))) r (k + j + 1) := zp_up hP (hr256 (k + j) (by omega)) (by rw [hr j (by omega)])
      exact ih (j + 1) _ (by omega) hP2 m (by omega)
  exact H len 0 a_residue (by omega) P (len + 1) (by omega)
theorem z2_90 {post : SX → Prop} {L r p : Nat → Nat} {w h n : Nat} (hw : f_w = nI w) (hh : f_h = nI h) (hw8 : w ≤ 8) (hh8 : h ≤ 8) (hnd : n = (w + 1) * h) (hn : n ≤ 72) (hK : zd_K L)
    (hpl : ∀ l, l < 17 → a_perLength l = nI (zd_pe L l)) (hsy : ∀ s, s < 275 → 1 ≤ L s → a_symbol (zd_ix L s) = nI s)
    (hp : ∀ k, k < w * h → p k < 256) (hr : ∀ k, k < n → r k < 256) (hG : z2_G (fun k => nI (p k)) w h (fun k => nI (r k)))
    (K : ∀ b c ra pl re, zp_P pl p (w * h) → post (f_bodyLength, b, c, ra, f_readEnd, f_w, f_h, a_pixels, a_users, a_buffer, a_wide, a_high, a_start, a_right, a_down, a_factor, a_offset, a_files, a_fileLength, pl, a_body, re, a_tokens, a_distances, a_heads, a_chain, a_weight, a_parent, a_symbol, a_codeLength, a_codeOf, a_lengthOf, a_perLength, a_before, a_last)) :
    ∀ ts k b c ra re, z2_L r n k ts → (∀ t, t ∈ ts → 1 ≤ L t.1) → zp_P re r k → zs_R (z2_ts L ts) b c ra f_readEnd a_files → ∀ m, ts.length < m →
      wX_unpackPredicted_90 post (nI n) m (nI k) f_bodyLength b c ra f_readEnd f_w f_h a_pixels a_users a_buffer a_wide a_high a_start a_right a_down a_factor a_offset a_files a_fileLength a_plain a_body re a_tokens a_distances a_heads a_chain a_weight a_parent a_symbol a_codeLength a_codeOf a_lengthOf a_perLength a_before a_last := by
  intro ts
  induction ts with
  | nil =>
    intro k b c ra re hZ h1 hP hR m hm
    obtain ⟨m, rfl⟩ : ∃ q, m = q + 1 := ⟨m - 1, by omega⟩
    have e : k = n := hZ
    subst e
    refine br_t (nI_le (by omega) (by omega)) ?_
    refine z2_unfilter (p := p) (a_residue := re) hw hh hw8 hh8 hp ?_ ?_
    · refine z2_Gr' (re := fun k => nI (r k)) (fun j hj => ?_) hG
      rw [← hnd] at hj
      exact (hP j hj).2.symm
    · intro pl hPl
      exact K b c ra pl re hPl
  | cons t ts ih =>
    intro k b c ra re hZ h1 hP hR m hm
    obtain ⟨m, rfl⟩ : ∃ q, m = q + 1 := ⟨m - 1, by omega⟩
    have hl : (t :: ts).length = ts.length + 1 := rfl
    obtain ⟨y1, y2⟩ := z2_Lsy (t :: ts) k hZ t List.mem_cons_self
    have ht1 := h1 t List.mem_cons_self
    have hkn : k < n := by
      rcases hZ with ⟨g1, g2, g3, g4⟩ | ⟨len, g1, g2, g3, g4, g5, g6, g7, g8⟩ <;> omega
    have hR' : zs_R (z2_bits (zd_cd L t.1) (L t.1) ++ ((if t.1 ≤ 256 then [] else [(t.2, 7)]) ++ z2_ts L ts)) b c ra f_readEnd a_files := hR
    refine br_f (nI_ge (by omega) (by omega)) ?_
    refine z2_readSymbol (L := L) (s := t.1) (f_bits := b) (f_bitCount := c) (f_readAt := ra) (a_residue := re) hK y1 ht1 hpl (hsy t.1 y1 ht1) hR' ?_
    intro b2 c2 ra2 hR2
    rcases hZ with ⟨g1, g2, g3, g4⟩ | ⟨len, g1, g2, g3, g4, g5, g6, g7, g8⟩
    · rw [if_pos (by omega), List.nil_append] at hR2
      refine br_f (nI_ge (b := 256) g1 (by decide)) (nm_r (nI_1 k) ⟨vp_in_nI (by omega) (by decide), nm_e ?_⟩)
      rw [nI_clamp (by omega), zn_vs2 (by omega)]
      exact ih (k + 1) b2 c2 ra2 _ g4 (fun x hx => h1 x (List.mem_cons_of_mem _ hx)) (zp_up hP (hr k hkn) (by rw [g2])) hR2 m (by omega)
    · rw [if_neg (by omega)] at hR2
      have el : nI t.1 - 254 = nI len := by
        have := pk_sub (a := t.1) (b := 254) (by omega)
        refine Eq.trans this (congrArg nI ?_)
        omega
      refine br_t (nI_le (a := 256) (by omega) (by omega)) ?_
      rw [el]
      refine z2_repeat (r := r) (d := t.2) (fs := z2_ts L ts) (f_bits := b2) (f_bitCount := c2) (f_readAt := ra2) (a_residue := re) hn g4 g5 g6 g7 hr hP hR2 ?_
      intro b3 c3 ra3 re3 hR3 hP3
      exact ih (k + len) b3 c3 ra3 re3 g8 (fun x hx => h1 x (List.mem_cons_of_mem _ hx)) hP3 hR3 m (by omega)
end
section
variable {f_bodyLength f_bits f_bitCount f_readAt f_readEnd f_w f_h : Int32} {a_pixels a_users a_buffer a_wide a_high a_start a_right a_down a_factor a_offset a_files a_fileLength a_plain a_body a_residue a_tokens a_distances a_heads a_chain a_weight a_parent a_symbol a_codeLength a_codeOf a_lengthOf a_perLength a_before a_last : Nat → Int32}
theorem z2_31 {post : SX → Prop} {L : Nat → Nat} {C : Nat} {fs : List (Nat × Nat)} (hL15 : ∀ s, s < 275 → L s ≤ 15) (hC : C ≤ 72)
    (K : ∀ b c ra lo, zs_R fs b c ra f_readEnd a_files → (∀ s, s < 275 → lo s = nI (L s)) →
      wpX_assignCodes (fun u => match u with | (f_bodyLength, f_bits, f_bitCount, f_readAt, f_readEnd, f_w, f_h, a_pixels, a_users, a_buffer, a_wide, a_high, a_start, a_right, a_down, a_factor, a_offset, a_files, a_fileLength, a_plain, a_body, a_residue, a_tokens, a_distances, a_heads, a_chain, a_weight, a_parent, a_symbol, a_codeLength, a_codeOf, a_lengthOf, a_perLength, a_before, a_last) => (∀ x2_75 : Int32, x2_75 = (f_w + 1) * f_h → (∃ n90 : Nat, wX_unpackPredicted_90 post x2_75 n90 0 f_bodyLength f_bits f_bitCount f_readAt f_readEnd f_w f_h a_pixels a_users a_buffer a_wide a_high a_start a_right a_down a_factor a_offset a_files a_fileLength a_plain a_body a_residue a_tokens a_distances a_heads a_chain a_weight a_parent a_symbol a_codeLength a_codeOf a_lengthOf a_perLength a_before a_last))) (f_bodyLength, b, c, ra, f_readEnd, f_w, f_h, a_pixels, a_users, a_buffer, a_wide, a_high, a_start, a_right, a_down, a_factor, a_offset, a_files, a_fileLength, a_plain, a_body, a_residue, a_tokens, a_distances, a_heads, a_chain, a_weight, a_parent, a_symbol, a_codeLength, a_codeOf, lo, a_perLength, a_before, a_last)) :
    ∀ d s k b c ra lo, s + d = 275 → k + z2_ct L s d = C → (∀ j, j < 275 → lo j = nI (if j < s then L j else 0)) → zs_R (z2_hd L s d ++ fs) b c ra f_readEnd a_files → ∀ m, C - k < m →
      wX_unpackPredicted_31 post (nI C) m (nI k) f_bodyLength b c ra f_readEnd f_w f_h a_pixels a_users a_buffer a_wide a_high a_start a_right a_down a_factor a_offset a_files a_fileLength a_plain a_body a_residue a_tokens a_distances a_heads a_chain a_weight a_parent a_symbol a_codeLength a_codeOf lo a_perLength a_before a_last := by
  intro d
  induction d with
  | zero =>
    intro s k b c ra lo hs hk hlo hR m hm
    obtain ⟨m, rfl⟩ : ∃ q, m = q + 1 := ⟨m - 1, by omega⟩
    have hk' : k + 0 = C := hk
    refine br_t (nI_le (by omega) (by omega)) (K b c ra lo hR ?_)
    intro j hj
    rw [hlo j hj, if_pos (by omega)]
  | succ d ih =>
    intro s k b c ra lo hs hk hlo hR m hm
    have hct : z2_ct L s (d + 1) = (if L s = 0 then 0 else 1) + z2_ct L (s + 1) d := rfl
    have hhd : z2_hd L s (d + 1) = if L s = 0 then z2_hd L (s + 1) d else (s, 9) :: (L s, 4) :: z2_hd L (s + 1) d := rfl
    rw [hct] at hk
    rw [hhd] at hR
    by_cases c0 : L s = 0
    · rw [if_pos c0] at hk hR
      refine ih (s + 1) k b c ra lo (by omega) (by omega) ?_ hR m hm
      intro j hj
      rw [hlo j hj]
      by_cases e : j = s
      · subst e
        rw [if_neg (by omega), if_pos (by omega), c0]
      · by_cases e2 : j < s
        · rw [if_pos e2, if_pos (by omega)]
        · rw [if_neg e2, if_neg (by omega)]
    · rw [if_neg c0] at hk hR
      obtain ⟨m, rfl⟩ : ∃ q, m = q + 1 := ⟨m - 1, by omega⟩
      have h15 := hL15 s (by omega)
      refine br_f (nI_ge (by omega) (by omega)) ?_
      refine zs_get (v := s) (n := 9) (fs := (L s, 4) :: (z2_hd L (s + 1) d ++ fs)) rfl (by decide) hR ?_
      intro b2 c2 ra2 hR2
      refine zs_get (v := L s) (n := 4) (fs := z2_hd L (s + 1) d ++ fs) rfl (by decide) hR2 ?_
      intro b3 c3 ra3 hR3
      refine br_f (nI_ge (b := 275) (by omega) (by decide)) ⟨vp_in_nI (by omega) (by decide), nm_e (nm_r (nI_1 k) ?_)⟩
      rw [nI_clamp (by omega), zn_vb2 (by omega)]
      refine ih (s + 1) (k + 1) b3 c3 ra3 _ (by omega) (by omega) ?_ hR3 m (by omega)
      intro j hj
      by_cases e : j = s
      · subst e
        rw [pk_us, if_pos (by omega)]
      · rw [pk_un e, hlo j hj]
        by_cases e2 : j < s
        · rw [if_pos e2, if_pos (by omega)]
        · rw [if_neg e2, if_neg (by omega)]
theorem z2_unpack {post : SX → Prop} {w h : Nat} {p : Nat → Nat} {fs : List (Nat × Nat)} (hw : f_w = nI w) (hh : f_h = nI h) (hw8 : w ≤ 8) (hh8 : h ≤ 8)
    (hp : ∀ k, k < w * h → p k < 256) (hD : z2_D w h p fs)
    (hR : zs_R fs f_bits f_bitCount f_readAt f_readEnd a_files)
    (K : ∀ b c ra pl re sy co lo pe, zp_P pl p (w * h) → post (f_bodyLength, b, c, ra, f_readEnd, f_w, f_h, a_pixels, a_users, a_buffer, a_wide, a_high, a_start, a_right, a_down, a_factor, a_offset, a_files, a_fileLength, pl, a_body, re, a_tokens, a_distances, a_heads, a_chain, a_weight, a_parent, sy, a_codeLength, co, lo, pe, a_before, a_last)) :
    wpX_unpackPredicted post (f_bodyLength, f_bits, f_bitCount, f_readAt, f_readEnd, f_w, f_h, a_pixels, a_users, a_buffer, a_wide, a_high, a_start, a_right, a_down, a_factor, a_offset, a_files, a_fileLength, a_plain, a_body, a_residue, a_tokens, a_distances, a_heads, a_chain, a_weight, a_parent, a_symbol, a_codeLength, a_codeOf, a_lengthOf, a_perLength, a_before, a_last) := by
  obtain ⟨L, TL, r, hK, hZ, h1, hG, hr, rfl⟩ := hD
  have hn : (w + 1) * h ≤ 72 := by
    have : (w + 1) * h ≤ 9 * 8 := Nat.mul_le_mul (by omega) hh8
    omega
  have hC : z2_ct L 0 275 ≤ 72 := by rw [z2_ct0]; exact hK.2.2
  unfold wpX_unpackPredicted
  refine zs_get (v := z2_ct L 0 275) (n := 8) (fs := z2_hd L 0 275 ++ z2_ts L TL) rfl (by decide) hR ?_
  intro b c ra hR2
  have H9 : ∀ d s lo, s + d = 275 → (∀ j, j < s → lo j = 0) → ∀ m, d < m → wX_unpackPredicted_9 post (nI (z2_ct L 0 275)) f_bodyLength b c ra f_readEnd f_w f_h m (nI s) a_pixels a_users a_buffer a_wide a_high a_start a_right a_down a_factor a_offset a_files a_fileLength a_plain a_body a_residue a_tokens a_distances a_heads a_chain a_weight a_parent a_symbol a_codeLength a_codeOf lo a_perLength a_before a_last := by
    intro d
    induction d with
    | zero =>
      intro s lo hs hlo m hm
      obtain ⟨m, rfl⟩ : ∃ q, m = q + 1 := ⟨m - 1, by omega⟩
      refine br_t (nI_le (a := 275) (by omega) (by omega)) ⟨z2_ct L 0 275 + 1, ?_⟩
      refine z2_31 (L := L) (fs := z2_ts L TL) hK.1 hC ?_ 275 0 0 b c ra lo (by omega) (by omega) ?_ hR2 _ (by omega)
      · intro b2 c2 ra2 lo2 hR3 hlo2
        refine zd_assign (a_lengthOf := lo2) hK hlo2 ?_
        intro pe co sy hpe hco
        refine nm_r (e' := nI ((w + 1) * h)) ?_ ⟨TL.length + 1, ?_⟩
        · rw [hw, hh, nI_1, pk_mul]
        · refine z2_90 (L := L) (r := r) (p := p) (n := (w + 1) * h) (a_symbol := sy) (a_codeOf := co) (a_lengthOf := lo2) (a_perLength := pe) hw hh hw8 hh8 rfl hn hK hpe (fun s g1 g2 => (hco s g1 g2).2) hp hr hG ?_ TL 0 b2 c2 ra2 a_residue hZ h1 (zp_0 _ _) hR3 _ (Nat.lt_succ_self _)
          intro b3 c3 ra3 pl re hP
          exact K b3 c3 ra3 pl re sy co lo2 pe hP
      · intro j hj
        rw [if_neg (Nat.not_lt_zero j), hlo j (by omega)]
        rfl
    | succ d ih =>
      intro s lo hs hlo m hm
      obtain ⟨m, rfl⟩ : ∃ q, m = q + 1 := ⟨m - 1, by omega⟩
      refine br_f (nI_ge (b := 275) (by omega) (by decide)) ⟨vp_in_nI (by omega) (by decide), nm_e (nm_r (nI_1 s) ?_)⟩
      rw [nI_clamp (by omega), zn_vb0]
      refine ih (s + 1) _ (by omega) ?_ m (by omega)
      intro j hj
      by_cases e : j = s
      · subst e; rw [pk_us]
      · rw [pk_un e]; exact hlo j (by omega)
  exact ⟨276, H9 275 0 a_lengthOf (by omega) (fun j h => absurd h (Nat.not_lt_zero _)) 276 (by omega)⟩
end
end
section
/-! files: encode and decode -/
def zf_D (fmt w h : Nat) (p : Nat → Nat) (fs : List (Nat × Nat)) : Prop :=
  (fmt = 0 ∧ ∃ c, z0_D (w * h) p c 0 fs) ∨
  (fmt = 1 ∧ ∃ root m fs', 1 ≤ root ∧ root ≤ 8 ∧ z1_D (w * h) (2 ^ root) p m (fun _ => 0) (fun _ => 0) 0 0 fs' ∧ fs = (root, 4) :: fs') ∨
  (fmt = 2 ∧ z2_D w h p fs) ∨
  (fmt = 3 ∧ ∃ low, low < 8 ∧ fs = (low, 3) :: z3_E low p w (w * h) 0)
def zf_sz (w h : Nat) (p : Nat → Nat) : Prop := 1 ≤ w ∧ w ≤ 8 ∧ 1 ≤ h ∧ h ≤ 8 ∧ ∀ k, k < w * h → p k < 256
/-- a sound file at a, of ln bytes -/
def zf_F (fi : Nat → Int32) (a ln fmt w h : Nat) (p : Nat → Nat) : Prop :=
  zf_sz w h p ∧ fmt < 4 ∧ 8 ≤ ln ∧ ln ≤ 240 ∧ zc_I fi a ln ∧ fi a = nI fmt ∧ fi (a + 1) = nI ((w - 1) + (h - 1) * 2 ^ 3) ∧
  ∃ fs, zf_D fmt w h p fs ∧ zs_k fs ∧ ln = (zs_l fs + 7) / 8 + 7 ∧ ∀ i, i < (zs_l fs + 7) / 8 → fi (a + 3 + i) = sb_b (zs_v fs / 2 ^ (8 * i) % 256)
/-- what an encoding into file f makes of the files -/
def zf_G (fi fj : Nat → Int32) (f ln fmt w h : Nat) (p : Nat → Nat) : Prop :=
  (∀ k, zn_B (fj k)) ∧ (∀ k, k < f * 240 ∨ f * 240 + 240 ≤ k → fj k = fi k) ∧ zf_F fj (f * 240) ln fmt w h p
theorem zf_wh {w h : Nat} {p : Nat → Nat} (H : zf_sz w h p) : 1 ≤ w * h ∧ w * h ≤ 64 := by
  obtain ⟨h1, h2, h3, h4, _⟩ := H
  have a : 1 * 1 ≤ w * h := Nat.mul_le_mul h1 h3
  have b : w * h ≤ 8 * 8 := Nat.mul_le_mul h2 h4
  omega
section
variable {f_bodyLength f_bits f_bitCount f_readAt f_readEnd f_w f_h : Int32} {a_pixels a_users a_buffer a_wide a_high a_start a_right a_down a_factor a_offset a_files a_fileLength a_plain a_body a_residue a_tokens a_distances a_heads a_chain a_weight a_parent a_symbol a_codeLength a_codeOf a_lengthOf a_perLength a_before a_last : Nat → Int32}
theorem zf_171 {post : SX → Prop} {f n : Nat} (hf : f < 4) (hn : n ≤ 232) (hbl : f_bodyLength = nI n)
    (K : ∀ fj, (∀ k, zn_B (fj k)) → (∀ j, j < f * 240 + n + 3 ∨ f * 240 + n + 7 ≤ j → fj j = a_files j) → (∃ c, zc_M fj (f * 240 + n + 3) 4 c ∧ c = zc_crc a_files (f * 240) (n + 3)) → post (f_bodyLength, f_bits, f_bitCount, f_readAt, f_readEnd, f_w, f_h, a_pixels, a_users, a_buffer, a_wide, a_high, a_start, a_right, a_down, a_factor, a_offset, fj, upd a_fileLength f (nI (n + 7)), a_plain, a_body, a_residue, a_tokens, a_distances, a_heads, a_chain, a_weight, a_parent, a_symbol, a_codeLength, a_codeOf, a_lengthOf, a_perLength, a_before, a_last)) :
    ∀ d k c fi, k + d = f * 240 + n + 7 → d ≤ 4 → (∀ k, zn_B (fi k)) → (∀ j, j < f * 240 + n + 3 ∨ f * 240 + n + 7 ≤ j → fi j = a_files j) →
      (∀ fj, zc_M fj k d c → (∀ j, j < k → fj j = fi j) → ∃ c, zc_M fj (f * 240 + n + 3) 4 c ∧ c = zc_crc a_files (f * 240) (n + 3)) →
      ∀ m, d < m → wX_encode_171 post (nI f) (nI (f * 240)) f_bodyLength f_bits f_bitCount f_readAt f_readEnd f_w f_h m c (nI k) a_pixels a_users a_buffer a_wide a_high a_start a_right a_down a_factor a_offset fi a_fileLength a_plain a_body a_residue a_tokens a_distances a_heads a_chain a_weight a_parent a_symbol a_codeLength a_codeOf a_lengthOf a_perLength a_before a_last := by
  have e7 : (nI (f * 240) + f_bodyLength) + 7 = nI (f * 240 + n + 7) := by
    rw [hbl, nI_add]
    exact nI_add _ 7
  intro d
  induction d with
  | zero =>
    intro k c fi hk hd hB hF hM m hm
    obtain ⟨m, rfl⟩ : ∃ q, m = q + 1 := ⟨m - 1, by omega⟩
    have e8 : f_bodyLength + 7 = nI (n + 7) := by rw [hbl]; exact nI_add n 7
    refine br_t (by rw [e7]; exact nI_le (by omega) (by omega)) ⟨vp_in_nI (by omega) (by decide), nm_e ?_⟩
    rw [e8, nI_clamp (by omega), zn_vs2 (by omega)]
    exact K fi hB hF (hM fi trivial (fun _ _ => rfl))
  | succ d ih =>
    intro k c fi hk hd hB hF hM m hm
    obtain ⟨m, rfl⟩ : ∃ q, m = q + 1 := ⟨m - 1, by omega⟩
    refine br_f (by rw [e7]; exact nI_ge (by omega) (by omega)) ⟨vp_in_nI (by omega) (by decide), nm_e (nm_e (nm_r (nI_1 k) ?_))⟩
    rw [nI_clamp (by omega), pk_vb]
    refine ih (k + 1) _ _ (by omega) (by omega) ?_ ?_ ?_ m (by omega)
    · intro j
      by_cases e : j = k
      · subst e; rw [pk_us]; exact zn_B8 c
      · rw [pk_un e]; exact hB j
    · intro j hj
      rw [pk_un (by omega)]
      exact hF j hj
    · intro fj hM2 hlow
      refine hM fj ⟨?_, hM2⟩ (fun j hj => ?_)
      · rw [hlow k (by omega), pk_us]
      · rw [hlow j (by omega), pk_un (by omega)]
theorem zf_115 {post : SX → Prop} {f n : Nat} {by_ : Nat → Nat} (hf : f < 4) (hn : n ≤ 232) (hbl : f_bodyLength = nI n) (hbo : ∀ i, i < n → a_body i = sb_b (by_ i))
    (K : ∀ fj, (∀ k, zn_B (fj k)) → (∀ j, j < f * 240 + 3 ∨ f * 240 + n + 7 ≤ j → fj j = a_files j) → (∀ i, i < n → fj (f * 240 + 3 + i) = sb_b (by_ i)) →
      zc_M fj (f * 240 + n + 3) 4 (zc_crc fj (f * 240) (n + 3)) → post (f_bodyLength, f_bits, f_bitCount, f_readAt, f_readEnd, f_w, f_h, a_pixels, a_users, a_buffer, a_wide, a_high, a_start, a_right, a_down, a_factor, a_offset, fj, upd a_fileLength f (nI (n + 7)), a_plain, a_body, a_residue, a_tokens, a_distances, a_heads, a_chain, a_weight, a_parent, a_symbol, a_codeLength, a_codeOf, a_lengthOf, a_perLength, a_before, a_last)) :
    ∀ d k fi, k + d = n → (∀ k, zn_B (fi k)) → (∀ j, j < f * 240 + 3 ∨ f * 240 + n + 7 ≤ j → fi j = a_files j) → (∀ i, i < k → fi (f * 240 + 3 + i) = sb_b (by_ i)) →
      ∀ m, d < m → wX_encode_115 post (nI f) (nI (f * 240)) f_bodyLength f_bits f_bitCount f_readAt f_readEnd f_w f_h m (nI k) a_pixels a_users a_buffer a_wide a_high a_start a_right a_down a_factor a_offset fi a_fileLength a_plain a_body a_residue a_tokens a_distances a_heads a_chain a_weight a_parent a_symbol a_codeLength a_codeOf a_lengthOf a_perLength a_before a_last := by
  intro d
  induction d with
  | zero =>
    intro k fi hk hB hF hby m hm
    obtain ⟨m, rfl⟩ : ∃ q, m = q + 1 := ⟨m - 1, by omega⟩
    have ek : k = n := by omega
    subst ek
    have e3 : f_bodyLength + 3 = nI (k + 3) := by rw [hbl]; exact nI_add k 3
    have e33 : (nI (f * 240) + f_bodyLength) + 3 = nI (f * 240 + k + 3) := by rw [hbl, nI_add]; exact nI_add _ 3
    refine br_t (by rw [hbl]; exact nI_le (by omega) (by omega)) ?_
    rw [e3]
    refine zc_check (a_files := fi) hf (by omega) ?_
    refine nm_r e33 ⟨5, ?_⟩
    refine zf_171 (n := k) (a_files := fi) hf hn hbl ?_ 4 (f * 240 + k + 3) _ fi (by omega) (by omega) hB (fun _ _ => rfl) (fun fj hM _ => ⟨_, hM, rfl⟩) 5 (by omega)
    intro fj hBj hFj hMj
    refine K fj hBj (fun j hj => ?_) (fun i hi => ?_) ?_
    · rw [hFj j (by omega)]
      exact hF j hj
    · rw [hFj _ (by omega)]
      exact hby i hi
    · obtain ⟨c, hM, hc⟩ := hMj
      have e : zc_crc fj (f * 240) (k + 3) = zc_crc fi (f * 240) (k + 3) := by
        unfold zc_crc
        rw [zc_cF (k + 3) (f * 240) (-1) (fun j j1 j2 => hFj j (by omega))]
      rw [e, ← hc]
      exact hM
  | succ d ih =>
    intro k fi hk hB hF hby m hm
    obtain ⟨m, rfl⟩ : ∃ q, m = q + 1 := ⟨m - 1, by omega⟩
    have ei : (nI (f * 240) + 3) + nI k = nI (f * 240 + 3 + k) := by
      have : nI (f * 240) + 3 = nI (f * 240 + 3) := nI_add _ 3
      rw [this, nI_add]
    refine br_f (by rw [hbl]; exact nI_ge (by omega) (by omega)) ?_
    rw [ei]
    refine ⟨vp_in_nI (by omega) (by decide), vp_in_nI (by omega) (by decide), nm_e (nm_r (nI_1 k) ?_)⟩
    rw [nI_clamp (by omega), nI_clamp (by omega), hbo k (by omega), zn_Bv (zn_Bb _)]
    refine ih (k + 1) _ (by omega) ?_ ?_ ?_ m (by omega)
    · intro j
      by_cases e : j = f * 240 + 3 + k
      · subst e; rw [pk_us]; exact zn_Bb _
      · rw [pk_un e]; exact hB j
    · intro j hj
      rw [pk_un (by omega)]
      exact hF j hj
    · intro i hi
      by_cases e : i = k
      · subst e; rw [pk_us]
      · rw [pk_un (by omega)]; exact hby i (by omega)
theorem zf_57 {post : SX → Prop} {f fmt w h : Nat} {p : Nat → Nat} {fs : List (Nat × Nat)} (hf : f < 4) (hfmt : fmt < 4) (hw : f_w = nI w) (hh : f_h = nI h) (hsz : zf_sz w h p)
    (hD : zf_D fmt w h p fs) (hl : zs_l fs ≤ 1856) (hl1 : 1 ≤ zs_l fs) (W : zs_W fs f_bodyLength f_bits f_bitCount a_body) (hB : ∀ k, zn_B (a_files k))
    (K : ∀ bl b bc bo fj ln, zf_G a_files fj f ln fmt w h p → post (bl, b, bc, f_readAt, f_readEnd, f_w, f_h, a_pixels, a_users, a_buffer, a_wide, a_high, a_start, a_right, a_down, a_factor, a_offset, fj, upd a_fileLength f (nI ln), a_plain, bo, a_residue, a_tokens, a_distances, a_heads, a_chain, a_weight, a_parent, a_symbol, a_codeLength, a_codeOf, a_lengthOf, a_perLength, a_before, a_last)) :
    wX_encode_57 post (nI f) (nI fmt) f_bodyLength f_bits f_bitCount f_readAt f_readEnd f_w f_h a_pixels a_users a_buffer a_wide a_high a_start a_right a_down a_factor a_offset a_files a_fileLength a_plain a_body a_residue a_tokens a_distances a_heads a_chain a_weight a_parent a_symbol a_codeLength a_codeOf a_lengthOf a_perLength a_before a_last := by
  have hk := W.1
  obtain ⟨w1, w8, h1, h8, hp⟩ := hsz
  unfold wX_encode_57
  refine zs_end hl W ?_
  intro bl b bc bo hE
  obtain ⟨hE1, hE2⟩ := hE
  have em : nI f * 240 = nI (f * 240) := pk_mul f 240
  have e1 : nI (f * 240) + 1 = nI (f * 240 + 1) := nI_1 _
  have e2 : nI (f * 240) + 2 = nI (f * 240 + 2) := nI_add _ 2
  have eh : ((f_w - 1) ||| ((f_h - 1) <<< ((3 : Int32) &&& 31))) = nI ((w - 1) + (h - 1) * 2 ^ 3) := by
    rw [hw, hh]
    have a1 : nI w - 1 = nI (w - 1) := pk_sub (b := 1) (by omega)
    have a2 : nI h - 1 = nI (h - 1) := pk_sub (b := 1) (by omega)
    have a3 : nI (h - 1) <<< ((3 : Int32) &&& 31) = nI ((h - 1) * 2 ^ 3) := zn_shl (k := 3) (by decide) (by omega)
    rw [a1, a2, a3, zn_orp (by omega)]
  refine nm_r em ⟨vp_in_nI (by omega) (by decide), nm_e ?_⟩
  rw [e1, e2]
  refine ⟨vp_in_nI (by omega) (by decide), nm_e ⟨vp_in_nI (by omega) (by decide), nm_e ⟨(zs_l fs + 7) / 8 + 1, ?_⟩⟩⟩
  rw [eh, hE1, nI_clamp (by omega), nI_clamp (by omega), nI_clamp (by omega), zn_vb2 (by omega), zn_vb2 (by omega), pk_vb, zn_b8, Nat.mod_eq_of_lt (show (zs_l fs + 7) / 8 < 256 by omega)]
  refine zf_115 (n := (zs_l fs + 7) / 8) (by_ := fun i => zs_v fs / 2 ^ (8 * i) % 256) (a_body := bo) (a_files := upd (upd (upd a_files (f * 240) (nI fmt)) (f * 240 + 1) (nI ((w - 1) + (h - 1) * 2 ^ 3))) (f * 240 + 2) (sb_b ((zs_l fs + 7) / 8))) hf (by omega) rfl hE2 ?_ ((zs_l fs + 7) / 8) 0 _ (by omega) ?_ (fun _ _ => rfl) (fun i hi => absurd hi (Nat.not_lt_zero i)) _ (Nat.lt_succ_self _)
  · intro fj hBj hFj hbyj hMj
    refine K (nI ((zs_l fs + 7) / 8)) b bc bo fj ((zs_l fs + 7) / 8 + 7) ⟨hBj, ?_, ?_⟩
    · intro k hk2
      rw [hFj k (by omega), pk_un (by omega), pk_un (by omega), pk_un (by omega)]
    · refine ⟨⟨w1, w8, h1, h8, hp⟩, hfmt, by omega, by omega, ⟨by omega, ?_, ?_⟩, ?_, ?_, fs, hD, hk, rfl, hbyj⟩
      · rw [hFj _ (by omega), pk_us, zn_sb255 (by omega), Nat.add_sub_cancel]
      · rw [show f * 240 + ((zs_l fs + 7) / 8 + 7) - 4 = f * 240 + (zs_l fs + 7) / 8 + 3 by omega, show (zs_l fs + 7) / 8 + 7 - 4 = (zs_l fs + 7) / 8 + 3 by omega]
        exact hMj
      · rw [hFj _ (by omega), pk_un (by omega), pk_un (by omega), pk_us]
      · rw [hFj _ (by omega), pk_un (by omega), pk_us]
  · intro k
    by_cases c1 : k = f * 240 + 2
    · rw [zn_us c1]; exact zn_Bb _
    · rw [pk_un c1]
      by_cases c2 : k = f * 240 + 1
      · rw [zn_us c2]; exact zn_Bn (by omega)
      · rw [pk_un c2]
        by_cases c3 : k = f * 240
        · rw [zn_us c3]; exact zn_Bn (by omega)
        · rw [pk_un c3]; exact hB k
theorem zf_start {post : SX → Prop} (h : post (0, 0, 0, f_readAt, f_readEnd, f_w, f_h, a_pixels, a_users, a_buffer, a_wide, a_high, a_start, a_right, a_down, a_factor, a_offset, a_files, a_fileLength, a_plain, a_body, a_residue, a_tokens, a_distances, a_heads, a_chain, a_weight, a_parent, a_symbol, a_codeLength, a_codeOf, a_lengthOf, a_perLength, a_before, a_last)) : wpX_startWriting post (f_bodyLength, f_bits, f_bitCount, f_readAt, f_readEnd, f_w, f_h, a_pixels, a_users, a_buffer, a_wide, a_high, a_start, a_right, a_down, a_factor, a_offset, a_files, a_fileLength, a_plain, a_body, a_residue, a_tokens, a_distances, a_heads, a_chain, a_weight, a_parent, a_symbol, a_codeLength, a_codeOf, a_lengthOf, a_perLength, a_before, a_last) := h
end
theorem zf_l0 {n : Nat} {p : Nat → Nat} {c : Nat} {fs : List (Nat × Nat)} (hn : 1 ≤ n) (h : z0_D n p c 0 fs) : 1 ≤ zs_l fs := by
  cases c with
  | zero => have := h.1; omega
  | succ c =>
    obtain ⟨r, fs', h1, h2, h3, h4⟩ := h
    rcases h4 with ⟨rfl, _⟩ | rfl
    · show 1 ≤ 8 + _; omega
    · show 1 ≤ 8 + _; omega
section
variable {f_bodyLength f_bits f_bitCount f_readAt f_readEnd f_w f_h : Int32} {a_pixels a_users a_buffer a_wide a_high a_start a_right a_down a_factor a_offset a_files a_fileLength a_plain a_body a_residue a_tokens a_distances a_heads a_chain a_weight a_parent a_symbol a_codeLength a_codeOf a_lengthOf a_perLength a_before a_last : Nat → Int32}
theorem zf_encode {post : SX → Prop} {f fmt w h : Nat} {p : Nat → Nat} (hf : f < 4) (hfmt : fmt < 4) (hw : f_w = nI w) (hh : f_h = nI h) (hsz : zf_sz w h p) (P : zp_P a_plain p (w * h)) (hB : ∀ k, zn_B (a_files k))
    (K : ∀ bl b bc bo fj ln re tk ds hd ch we pa sy cl co lo pe be la, zf_G a_files fj f ln fmt w h p →
      post (bl, b, bc, f_readAt, f_readEnd, f_w, f_h, a_pixels, a_users, a_buffer, a_wide, a_high, a_start, a_right, a_down, a_factor, a_offset, fj, upd a_fileLength f (nI ln), a_plain, bo, re, tk, ds, hd, ch, we, pa, sy, cl, co, lo, pe, be, la)) :
    wpX_encode post (f_bodyLength, f_bits, f_bitCount, f_readAt, f_readEnd, f_w, f_h, a_pixels, a_users, a_buffer, a_wide, a_high, a_start, a_right, a_down, a_factor, a_offset, a_files, a_fileLength, a_plain, a_body, a_residue, a_tokens, a_distances, a_heads, a_chain, a_weight, a_parent, a_symbol, a_codeLength, a_codeOf, a_lengthOf, a_perLength, a_before, a_last) (nI f) (nI fmt) := by
  obtain ⟨n1, n64⟩ := zf_wh hsz
  have hsz0 := hsz
  obtain ⟨w1, w8, h1, h8, hp⟩ := hsz
  unfold wpX_encode
  refine zf_start ?_
  refine br_f (nI_pos (by omega)) ?_
  by_cases f3 : fmt = 3
  · refine br_t (by rw [f3]; decide) ?_
    refine z3_pack (f_bodyLength := 0) (f_bits := 0) (f_bitCount := 0) (p := p) hw hh w1 w8 n64 P (zs_W0 _) ?_
    intro low bl b bc bo hlow hl hW
    refine zf_57 (f_bodyLength := bl) (f_bits := b) (f_bitCount := bc) (a_body := bo) (p := p) hf hfmt hw hh hsz0 (Or.inr (Or.inr (Or.inr ⟨f3, low, hlow, rfl⟩))) (by omega) (by show 1 ≤ 3 + _; omega) hW hB ?_
    intro bl2 b2 bc2 bo2 fj ln hG
    exact K _ _ _ _ _ _ _ _ _ _ _ _ _ _ _ _ _ _ _ _ hG
  · refine br_f (nI_nlt (a := 2) (b := fmt) (by omega) (by decide)) ?_
    by_cases f0 : fmt = 0
    · refine br_t (by rw [f0]; rfl) ?_
      refine z0_pack (f_bodyLength := 0) (f_bits := 0) (f_bitCount := 0) (p := p) hw hh n64 P (zs_W0 _) ?_
      intro c fs bl b bc bo hD hl hW
      refine zf_57 (f_bodyLength := bl) (f_bits := b) (f_bitCount := bc) (a_body := bo) (p := p) hf hfmt hw hh hsz0 (Or.inl ⟨f0, c, hD⟩) (by omega) (zf_l0 n1 hD) hW hB ?_
      intro bl2 b2 bc2 bo2 fj ln hG
      exact K _ _ _ _ _ _ _ _ _ _ _ _ _ _ _ _ _ _ _ _ hG
    · refine br_f (nI_ne0 (by omega) (by omega)) ?_
      by_cases f1 : fmt = 1
      · refine br_t (by rw [f1]; rfl) ?_
        refine z1_pack (f_bodyLength := 0) (f_bits := 0) (f_bitCount := 0) (p := p) hw hh n1 n64 P (zs_W0 _) ?_
        intro root m fs bl b bc bo tb tl hr1 hr8 hD hl hW
        refine zf_57 (f_bodyLength := bl) (f_bits := b) (f_bitCount := bc) (a_body := bo) (a_before := tb) (a_last := tl) (p := p) hf hfmt hw hh hsz0 (Or.inr (Or.inl ⟨f1, root, m, fs, hr1, hr8, hD, rfl⟩)) (by omega) (by show 1 ≤ 4 + _; omega) hW hB ?_
        intro bl2 b2 bc2 bo2 fj ln hG
        exact K _ _ _ _ _ _ _ _ _ _ _ _ _ _ _ _ _ _ _ _ hG
      · refine br_f (fun z => f1 ((nI_eq (b := 1) (by omega) (by decide)).mp z)) ?_
        have f2 : fmt = 2 := by omega
        refine br_t (by rw [f2]; rfl) ?_
        refine z2_pack (f_bodyLength := 0) (f_bits := 0) (f_bitCount := 0) (p := p) hw hh w1 w8 h1 h8 P (zs_W0 _) ?_
        intro fs bl b bc bo re tk ds hd ch we pa sy cl co lo pe hD hl hW
        refine zf_57 (f_bodyLength := bl) (f_bits := b) (f_bitCount := bc) (a_body := bo) (p := p) hf hfmt hw hh hsz0 (Or.inr (Or.inr (Or.inl ⟨f2, hD⟩))) (by omega) ?_ hW hB ?_
        · obtain ⟨L, TL, r, _, _, _, _, _, rfl⟩ := hD
          show 1 ≤ 8 + _
          omega
        · intro bl2 b2 bc2 bo2 fj ln hG
          exact K _ _ _ _ _ _ _ _ _ _ _ _ _ _ _ _ _ _ _ _ hG
theorem zf_decode {post : SX → Prop} {f ln fmt w h : Nat} {p : Nat → Nat} (hf : f < 4) (hF : zf_F a_files (f * 240) ln fmt w h p)
    (K : ∀ bl b bc ra re_ pl re sy co lo pe be la, zp_P pl p (w * h) →
      post (bl, b, bc, ra, re_, nI w, nI h, a_pixels, a_users, a_buffer, a_wide, a_high, a_start, a_right, a_down, a_factor, a_offset, a_files, a_fileLength, pl, a_body, re, a_tokens, a_distances, a_heads, a_chain, a_weight, a_parent, sy, a_codeLength, co, lo, pe, be, la)) :
    wpX_decode post (f_bodyLength, f_bits, f_bitCount, f_readAt, f_readEnd, f_w, f_h, a_pixels, a_users, a_buffer, a_wide, a_high, a_start, a_right, a_down, a_factor, a_offset, a_files, a_fileLength, a_plain, a_body, a_residue, a_tokens, a_distances, a_heads, a_chain, a_weight, a_parent, a_symbol, a_codeLength, a_codeOf, a_lengthOf, a_perLength, a_before, a_last) (nI f) := by
  obtain ⟨hsz, hfmt, h8ln, hln, hI, hf0, hf1, fs, hD, hk, hlen, hby⟩ := hF
  obtain ⟨n1, n64⟩ := zf_wh hsz
  obtain ⟨w1, w8, h1, h8, hp⟩ := hsz
  have em : nI f * 240 = nI (f * 240) := pk_mul f 240
  have e1 : nI (f * 240) + 1 = nI (f * 240 + 1) := nI_1 _
  have e2 : nI (f * 240) + 2 = nI (f * 240 + 2) := nI_add _ 2
  have e3 : nI (f * 240) + 3 = nI (f * 240 + 3) := nI_add _ 3
  have hh2 := hI.2.1
  unfold wpX_decode
  refine nm_r em ?_
  rw [e1, e2, e3]
  refine ⟨vp_in_nI (by omega) (by decide), nm_r (e' := nI w) ?_ ⟨vp_in_nI (by omega) (by decide), nm_r (e' := nI h) ?_ ?_⟩⟩
  · rw [nI_clamp (by omega), hf1]
    have := pk_andN (n := (w - 1) + (h - 1) * 2 ^ 3) (by omega) (m := 7) 3 (by decide)
    rw [this, nI_1]
    exact congrArg nI (by omega)
  · rw [nI_clamp (by omega), hf1]
    have a1 : nI ((w - 1) + (h - 1) * 2 ^ 3) >>> ((3 : Int32) &&& 31) = nI (((w - 1) + (h - 1) * 2 ^ 3) / 2 ^ 3) := zn_shr (k := 3) (by decide) (by omega)
    have := pk_andN (n := ((w - 1) + (h - 1) * 2 ^ 3) / 2 ^ 3) (by omega) (m := 7) 3 (by decide)
    rw [a1, this, nI_1]
    exact congrArg nI (by omega)
  · refine zf_start ?_
    refine nm_e ⟨vp_in_nI (by omega) (by decide), nm_r (e' := nI (f * 240 + 3 + (ln - 7))) ?_ ⟨vp_in_nI (by omega) (by decide), nm_r (e' := nI fmt) ?_ ?_⟩⟩
    · rw [nI_clamp (by omega), hh2, nI_add]
    · rw [nI_clamp (by omega), hf0]
    · have hR : zs_R fs 0 0 (nI (f * 240 + 3)) (nI (f * 240 + 3 + (ln - 7))) a_files := by
        refine ⟨hk, 0, f * 240 + 3, f * 240 + 3 + (ln - 7), by omega, rfl, rfl, rfl, by omega, by omega, ?_, ?_⟩
        · rw [Nat.pow_zero, Nat.mod_one]; rfl
        · intro i hi
          rw [hby i (by omega), zn_sb255 (Nat.mod_lt _ (by decide)), Nat.pow_zero, Nat.div_one]
      refine br_f (nI_pos (by omega)) ?_
      rcases hD with ⟨f0, c, hD⟩ | ⟨f1, root, m, fs', hr1, hr8, hD, hfs⟩ | ⟨f2, hD⟩ | ⟨f3, low, hlow, hfs⟩
      · refine br_f (by rw [f0]; decide) (br_t (by rw [f0]; rfl) ?_)
        refine z0_unpack (f_bits := 0) (f_bitCount := 0) (f_w := nI w) (f_h := nI h) (p := p) rfl rfl n64 hD hR ?_
        intro b c ra pl hP
        exact K _ _ _ _ _ _ _ _ _ _ _ _ _ hP
      · refine br_f (by rw [f1]; decide) (br_f (by rw [f1]; decide) (br_t (by rw [f1]; rfl) ?_))
        rw [hfs] at hR
        refine z1_unpack (f_bits := 0) (f_bitCount := 0) (f_w := nI w) (f_h := nI h) (p := p) rfl rfl n64 hr1 hr8 hp hD hR ?_
        intro b c ra pl tb tl hP
        exact K _ _ _ _ _ _ _ _ _ _ _ _ _ hP
      · refine br_f (by rw [f2]; decide) (br_f (by rw [f2]; decide) (br_f (by rw [f2]; decide) (br_t (by rw [f2]; rfl) ?_)))
        refine z2_unpack (f_bits := 0) (f_bitCount := 0) (f_w := nI w) (f_h := nI h) (p := p) rfl rfl w8 h8 hp hD hR ?_
        intro b c ra pl re sy co lo pe hP
        exact K _ _ _ _ _ _ _ _ _ _ _ _ _ hP
      · refine br_t (by rw [f3]; decide) ?_
        rw [hfs] at hR
        refine z3_unpack (f_bits := 0) (f_bitCount := 0) (f_w := nI w) (f_h := nI h) (p := p) rfl rfl w1 w8 n64 hlow hp hR ?_
        intro b c ra pl hP
        exact K _ _ _ _ _ _ _ _ _ _ _ _ _ hP
end
end
section
/-! the relation -/
def zr_c (B : Nat → Nat) (b : Nat) : Nat := (if B 0 = b then 1 else 0) + (if B 1 = b then 1 else 0) + (if B 2 = b then 1 else 0) + (if B 3 = b then 1 else 0)
/-- an image: its own fields, the reference's size, its buffer's cells, the reference's cells -/
def zi_V (wd hg st rt dn fc of yw yh : Int32) (px vl : Nat → Int32) : Prop :=
  ∃ (w h : Nat) (s R D : Int), (1 ≤ w ∧ w ≤ 8 ∧ 1 ≤ h ∧ h ≤ 8) ∧ (wd = nI w ∧ hg = nI h ∧ yw = nI w ∧ yh = nI h) ∧ (st = Int32.ofInt s ∧ rt = Int32.ofInt R ∧ dn = Int32.ofInt D) ∧
    (-8 ≤ R ∧ R ≤ 8 ∧ -8 ≤ D ∧ D ≤ 8) ∧ (zn_B fc ∧ zn_B of) ∧
    ∀ x y : Nat, x < w → y < h → ∃ c : Nat, c < 64 ∧ s + (x : Int) * R + (y : Int) * D = (c : Int) ∧ vl (8 * y + x) = ((px c * fc) + of) &&& 255
theorem zi_VF {wd hg st rt dn fc of yw yh : Int32} {px vl px' vl' : Nat → Int32} (hp : ∀ c, c < 64 → px' c = px c) (hv : ∀ k, k < 64 → vl' k = vl k) (h : zi_V wd hg st rt dn fc of yw yh px vl) : zi_V wd hg st rt dn fc of yw yh px' vl' := by
  obtain ⟨w, h, s, R, D, h1, h2, h3, h4, h5, h6⟩ := h
  refine ⟨w, h, s, R, D, h1, h2, h3, h4, h5, fun x y hx hy => ?_⟩
  obtain ⟨c, c1, c2, c3⟩ := h6 x y hx hy
  refine ⟨c, c1, c2, ?_⟩
  rw [hp c c1, hv _ (by omega)]
  exact c3
def zr_J (i b : Nat) (pixels wide high start right down factor offset value width height : Nat → Int32) : Prop :=
  zi_V (wide i) (high i) (start i) (right i) (down i) (factor i) (offset i) (width i) (height i) (fun c => pixels (64 * b + c)) (fun k => value (64 * i + k))
/-- the images -/
def zr_IB (B : Nat → Nat) (pixels users buffer wide high start right down factor offset value width height there : Nat → Int32) : Prop :=
  (∀ i, i < 4 → (B i = 4 ∧ buffer i = -1 ∧ there i = 0) ∨ (B i < 4 ∧ buffer i = nI (B i) ∧ ¬ there i = 0 ∧ zr_J i (B i) pixels wide high start right down factor offset value width height)) ∧
    ∀ b, b < 4 → users b = nI (zr_c B b)
/-- one file -/
def zr_f (f : Nat) (files fileLength value width height there damaged form : Nat → Int32) : Prop :=
  ∃ ln, ln ≤ 240 ∧ fileLength f = nI ln ∧
    ((ln = 0 ∧ there (4 + f) = 0) ∨
      (1 ≤ ln ∧ ¬ there (4 + f) = 0 ∧ damaged (4 + f) = 0 ∧ ∃ fmt w h p, zf_F files (f * 240) ln fmt w h p ∧ form (4 + f) = nI fmt ∧ width (4 + f) = nI w ∧ height (4 + f) = nI h ∧
        ∀ x y, x < w → y < h → value (64 * (4 + f) + (8 * y + x)) = nI (p (y * w + x))) ∨
      (1 ≤ ln ∧ ¬ there (4 + f) = 0 ∧ damaged (4 + f) = 1 ∧ ¬ zc_I files (f * 240) ln))
def zr_F (files fileLength value width height there damaged form : Nat → Int32) : Prop :=
  (∀ k, zn_B (files k)) ∧ ∀ f, f < 4 → zr_f f files fileLength value width height there damaged form
/-- the relation at the head of a turn: images and files as the reference has them; everything else of the component is free -/
def i_Rel (k : Nat) (u : SX) (v : SY) : Prop := match u with
  | (f_bodyLength, f_bits, f_bitCount, f_readAt, f_readEnd, f_w, f_h, a_pixels, a_users, a_buffer, a_wide, a_high, a_start, a_right, a_down, a_factor, a_offset, a_files, a_fileLength, a_plain, a_body, a_residue, a_tokens, a_distances, a_heads, a_chain, a_weight, a_parent, a_symbol, a_codeLength, a_codeOf, a_lengthOf, a_perLength, a_before, a_last) => match v with
    | (a_value, a_width, a_height, a_there, a_damaged, a_form) => (∃ B, zr_IB B a_pixels a_users a_buffer a_wide a_high a_start a_right a_down a_factor a_offset a_value a_width a_height a_there) ∧ zr_F a_files a_fileLength a_value a_width a_height a_there a_damaged a_form
theorem i_up {k : Nat} {u : SX} {v : SY} (h : i_Rel k u v) : i_Rel (k + 5) u v := h
section
variable {f_bodyLength f_bits f_bitCount f_readAt f_readEnd f_w f_h : Int32} {a_pixels a_users a_buffer a_wide a_high a_start a_right a_down a_factor a_offset a_files a_fileLength a_plain a_body a_residue a_tokens a_distances a_heads a_chain a_weight a_parent a_symbol a_codeLength a_codeOf a_lengthOf a_perLength a_before a_last : Nat → Int32} {a_value a_width a_height a_there a_damaged a_form : Nat → Int32}
theorem zr_mk {k : Nat} {B : Nat → Nat} (h1 : zr_IB B a_pixels a_users a_buffer a_wide a_high a_start a_right a_down a_factor a_offset a_value a_width a_height a_there)
    (h2 : zr_F a_files a_fileLength a_value a_width a_height a_there a_damaged a_form) : i_Rel k (f_bodyLength, f_bits, f_bitCount, f_readAt, f_readEnd, f_w, f_h, a_pixels, a_users, a_buffer, a_wide, a_high, a_start, a_right, a_down, a_factor, a_offset, a_files, a_fileLength, a_plain, a_body, a_residue, a_tokens, a_distances, a_heads, a_chain, a_weight, a_parent, a_symbol, a_codeLength, a_codeOf, a_lengthOf, a_perLength, a_before, a_last) (a_value, a_width, a_height, a_there, a_damaged, a_form) := And.intro ⟨B, h1⟩ h2
end
theorem zr_el {k : Nat} {P : SX → SY → Prop} (h : ∀ (f_bodyLength f_bits f_bitCount f_readAt f_readEnd f_w f_h : Int32) (a_pixels a_users a_buffer a_wide a_high a_start a_right a_down a_factor a_offset a_files a_fileLength a_plain a_body a_residue a_tokens a_distances a_heads a_chain a_weight a_parent a_symbol a_codeLength a_codeOf a_lengthOf a_perLength a_before a_last a_value a_width a_height a_there a_damaged a_form : Nat → Int32) (B : Nat → Nat),
    zr_IB B a_pixels a_users a_buffer a_wide a_high a_start a_right a_down a_factor a_offset a_value a_width a_height a_there → zr_F a_files a_fileLength a_value a_width a_height a_there a_damaged a_form → P (f_bodyLength, f_bits, f_bitCount, f_readAt, f_readEnd, f_w, f_h, a_pixels, a_users, a_buffer, a_wide, a_high, a_start, a_right, a_down, a_factor, a_offset, a_files, a_fileLength, a_plain, a_body, a_residue, a_tokens, a_distances, a_heads, a_chain, a_weight, a_parent, a_symbol, a_codeLength, a_codeOf, a_lengthOf, a_perLength, a_before, a_last) (a_value, a_width, a_height, a_there, a_damaged, a_form)) : ∀ (u : SX) (v : SY), i_Rel k u v → P u v
  | (f_bodyLength, f_bits, f_bitCount, f_readAt, f_readEnd, f_w, f_h, a_pixels, a_users, a_buffer, a_wide, a_high, a_start, a_right, a_down, a_factor, a_offset, a_files, a_fileLength, a_plain, a_body, a_residue, a_tokens, a_distances, a_heads, a_chain, a_weight, a_parent, a_symbol, a_codeLength, a_codeOf, a_lengthOf, a_perLength, a_before, a_last), (a_value, a_width, a_height, a_there, a_damaged, a_form), I => Exists.elim I.1 (fun B hB => h _ _ _ _ _ _ _ _ _ _ _ _ _ _ _ _ _ _ _ _ _ _ _ _ _ _ _ _ _ _ _ _ _ _ _ _ _ _ _ _ _ B hB I.2)
/-- another image, untouched -/
theorem zr_put {B B' : Nat → Nat} {i : Nat} {pixels users buffer wide high start right down factor offset value width height there pixels' users' buffer' wide' high' start' right' down' factor' offset' value' width' height' there' : Nat → Int32}
    (H : zr_IB B pixels users buffer wide high start right down factor offset value width height there)
    (hu : ∀ b, b < 4 → users' b = nI (zr_c B' b))
    (hfr : ∀ j, j < 4 → j ≠ i → (B' j = B j ∧ buffer' j = buffer j ∧ there' j = there j ∧ wide' j = wide j ∧ high' j = high j ∧ start' j = start j ∧ right' j = right j ∧ down' j = down j ∧ factor' j = factor j ∧ offset' j = offset j ∧ width' j = width j ∧ height' j = height j ∧
      (∀ k, k < 64 → value' (64 * j + k) = value (64 * j + k)) ∧ (B j < 4 → ∀ c, c < 64 → pixels' (64 * B j + c) = pixels (64 * B j + c))))
    (hi : B' i < 4) (hb : buffer' i = nI (B' i)) (ht : ¬ there' i = 0) (hJ : zr_J i (B' i) pixels' wide' high' start' right' down' factor' offset' value' width' height') :
    zr_IB B' pixels' users' buffer' wide' high' start' right' down' factor' offset' value' width' height' there' := by
  refine ⟨fun j hj => ?_, hu⟩
  by_cases e : j = i
  · subst e
    exact Or.inr ⟨hi, hb, ht, hJ⟩
  · obtain ⟨e1, e2, e3, e4, e5, e6, e7, e8, e9, e10, e11, e12, e13, e14⟩ := hfr j hj e
    rcases H.1 j hj with ⟨g1, g2, g3⟩ | ⟨g1, g2, g3, g4⟩
    · exact Or.inl ⟨by rw [e1]; exact g1, by rw [e2]; exact g2, by rw [e3]; exact g3⟩
    · refine Or.inr ⟨by rw [e1]; exact g1, by rw [e1, e2]; exact g2, by rw [e3]; exact g3, ?_⟩
      unfold zr_J at g4 ⊢
      rw [e1, e4, e5, e6, e7, e8, e9, e10, e11, e12]
      exact zi_VF (fun c hc => e14 g1 c hc) (fun k hk => e13 k hk) g4
theorem zf_FF {fi fj : Nat → Int32} {a b ln fmt w h : Nat} {p : Nat → Nat} (he : ∀ k, k < ln → fi (a + k) = fj (b + k)) (H : zf_F fi a ln fmt w h p) : zf_F fj b ln fmt w h p := by
  obtain ⟨h1, h2, h3, h4, h5, h6, h7, fs, h8, h9, h10, h11⟩ := H
  refine ⟨h1, h2, h3, h4, zc_IF he h5, ?_, ?_, fs, h8, h9, h10, fun i hi => ?_⟩
  · have := he 0 (by omega)
    rw [Nat.add_zero, Nat.add_zero] at this
    rw [← this]; exact h6
  · rw [← he 1 (by omega)]; exact h7
  · have := he (3 + i) (by omega)
    rw [← Nat.add_assoc, ← Nat.add_assoc] at this
    rw [← this]; exact h11 i hi
/-- another file, untouched -/
theorem zr_fput {f : Nat} {files fileLength value width height there damaged form files' fileLength' value' width' height' there' damaged' form' : Nat → Int32}
    (H : zr_f f files fileLength value width height there damaged form)
    (e1 : ∀ k, k < 240 → files' (f * 240 + k) = files (f * 240 + k)) (e2 : fileLength' f = fileLength f) (e3 : ∀ k, k < 64 → value' (64 * (4 + f) + k) = value (64 * (4 + f) + k))
    (e4 : width' (4 + f) = width (4 + f)) (e5 : height' (4 + f) = height (4 + f)) (e6 : there' (4 + f) = there (4 + f)) (e7 : damaged' (4 + f) = damaged (4 + f)) (e8 : form' (4 + f) = form (4 + f)) :
    zr_f f files' fileLength' value' width' height' there' damaged' form' := by
  obtain ⟨ln, h1, h2, h3⟩ := H
  refine ⟨ln, h1, by rw [e2]; exact h2, ?_⟩
  rw [e6, e7]
  rcases h3 with h | ⟨g1, g2, g3, fmt, w, h, p, g4, g5, g6, g7, g8⟩ | ⟨g1, g2, g3, g4⟩
  · exact Or.inl h
  · refine Or.inr (Or.inl ⟨g1, g2, g3, fmt, w, h, p, zf_FF (fun k hk => (e1 k (by omega)).symm) g4, by rw [e8]; exact g5, by rw [e4]; exact g6, by rw [e5]; exact g7, fun x y hx hy => ?_⟩)
    obtain ⟨⟨_, w8, _, h8, _⟩, _⟩ := g4
    rw [e3 _ (by omega)]
    exact g8 x y hx hy
  · exact Or.inr (Or.inr ⟨g1, g2, g3, fun z => g4 (zc_IF (fun k hk => e1 k (by omega)) z)⟩)
/-- no index of an image, a file, a format -/
def zm_bad (x : Int32) : Prop := ∀ i, i < 4 → x ≠ nI i
theorem zm_ix (x : Int32) : (∃ i, i < 4 ∧ x = nI i) ∨ zm_bad x := by
  by_cases h : ∃ i, i < 4 ∧ x = nI i
  · exact Or.inl h
  · exact Or.inr (fun i hi e => h ⟨i, hi, e⟩)
theorem zm_m4 : ∀ i, i < 32 → bt (-4) i = decide (2 ≤ i) := by decide +kernel
theorem zm_sm1 {post : Int32 → Prop} {i : Nat} (hi : i < 4) (K : post 1) : wpX_small post (nI i) := by
  have : ∀ i, i < 4 → (nI i &&& (-4)) = 0 := by decide +kernel
  exact br_t (this i hi) K
theorem zm_sm0 {post : Int32 → Prop} {x : Int32} (h : zm_bad x) (K : post 0) : wpX_small post x := by
  refine br_f (fun z => ?_) K
  obtain ⟨j, hj, ej⟩ := pk_andE x (m := 3) 2 (by decide)
  refine h j hj ?_
  rw [← ej]
  apply b_ext
  intro i hi
  rw [b_and]
  by_cases e : 2 ≤ i
  · have : bt (x &&& (-4)) i = bt 0 i := by rw [z]
    rw [b_and, zm_m4 i hi, b_0, decide_eq_true e] at this
    rw [Bool.and_true] at this
    rw [this]
    rfl
  · have : ∀ i, i < 2 → bt 3 i = true := by decide +kernel
    rw [this i (by omega), Bool.and_true]
theorem zm_ou0 {post : Int32 → Prop} {i : Nat} (hi : i < 4) (K : post 0) : wpY_out post (nI i) :=
  br_f (nI_pos (by omega)) (br_t (nI_le (b := 3) (by omega) (by decide)) K)
theorem zm_ou1 {post : Int32 → Prop} {x : Int32} (h : zm_bad x) (K : post 1) : wpY_out post x := by
  by_cases h0 : x < 0
  · exact br_t h0 K
  · refine br_f h0 (br_f (fun z => ?_) K)
    obtain ⟨j, hj, ej⟩ := nI_of2 (M := 3) (n := 3) (by decide) h0 z
    exact h j (by omega) ej
end
section
/-! the component's images: helpers walked -/
theorem zm_oi (n : Nat) : nI n = Int32.ofInt (n : Int) := Int32.ofInt_eq_ofNat.symm
theorem zm_idx {b x y c : Nat} {s R D : Int} (h : s + (x : Int) * R + (y : Int) * D = (c : Int)) :
    (((nI b * 64) + Int32.ofInt s) + (nI x * Int32.ofInt R)) + (nI y * Int32.ofInt D) = nI (64 * b + c) := by
  have e64 : (64 : Int32) = Int32.ofInt 64 := by decide
  rw [zm_oi b, zm_oi x, zm_oi y, zm_oi (64 * b + c), e64, ← Int32.ofInt_mul, ← Int32.ofInt_mul, ← Int32.ofInt_mul, ← Int32.ofInt_add, ← Int32.ofInt_add, ← Int32.ofInt_add]
  congr 1
  rw [Int.natCast_add, Int.natCast_mul, ← h]
  generalize (x : Int) * R = A
  generalize (y : Int) * D = C
  omega
theorem zr_cq (B : Nat → Nat) (b : Nat) : zr_c B b = zq_S (fun j => if B j = b then 1 else 0) 4 := by
  show _ = (((0 + (if B 0 = b then 1 else 0)) + (if B 1 = b then 1 else 0)) + (if B 2 = b then 1 else 0)) + (if B 3 = b then 1 else 0)
  rw [Nat.zero_add]
  rfl
theorem zr_czu {B : Nat → Nat} {i x b : Nat} (hi : i < 4) : zr_c (zu B i x) b + (if B i = b then 1 else 0) = zr_c B b + (if x = b then 1 else 0) := by
  rw [zr_cq, zr_cq]
  exact zq_zu (L := B) (G := fun v => if v = b then 1 else 0) 4 hi
theorem zr_c0 {B : Nat → Nat} {b : Nat} (h : ∀ j, j < 4 → B j ≠ b) : zr_c B b = 0 := by
  rw [zr_cq]
  exact zq_0 4 (fun j hj => if_neg (h j hj))
theorem zr_c0' {B : Nat → Nat} {b : Nat} (h : zr_c B b = 0) : ∀ j, j < 4 → B j ≠ b := by
  intro j hj e
  rw [zr_cq] at h
  have := zq_at (g := fun j => if B j = b then 1 else 0) 4 hj
  rw [if_pos e] at this
  omega
theorem zr_c4 (B : Nat → Nat) (b : Nat) : zr_c B b ≤ 4 := by
  rw [zr_cq]
  exact zq_le (h := fun _ => 1) 4 (fun j _ => by show (if B j = b then 1 else 0) ≤ 1; split <;> omega)
theorem zr_c1 {B : Nat → Nat} {i : Nat} (hi : i < 4) (hb : B i < 4) (h : zr_c B (B i) = 1) : ∀ j, j < 4 → j ≠ i → B j ≠ B i := by
  have h1 := zr_czu (B := B) (x := 4) (b := B i) hi
  rw [if_pos rfl, if_neg (by omega), h] at h1
  intro j hj hne
  have := zr_c0' (B := zu B i 4) (b := B i) (by omega) j hj
  rw [zu_n hne] at this
  exact this
theorem zr_fr3 (a b c : Nat) : ∃ k, k < 4 ∧ k ≠ a ∧ k ≠ b ∧ k ≠ c := by
  by_cases h0 : 0 ≠ a ∧ 0 ≠ b ∧ 0 ≠ c
  · exact ⟨0, by omega, h0⟩
  by_cases h1 : 1 ≠ a ∧ 1 ≠ b ∧ 1 ≠ c
  · exact ⟨1, by omega, h1⟩
  by_cases h2 : 2 ≠ a ∧ 2 ≠ b ∧ 2 ≠ c
  · exact ⟨2, by omega, h2⟩
  exact ⟨3, by omega, by omega⟩
theorem zr_free {B : Nat → Nat} {i : Nat} (hi : i < 4) (h : B i = 4) : ∃ b, b < 4 ∧ zr_c B b = 0 := by
  have key : ∀ b, b < 4 → (∀ j, j < 4 → j ≠ i → b ≠ B j) → zr_c B b = 0 := by
    intro b hb hj
    refine zr_c0 (fun j hj4 => ?_)
    by_cases e : j = i
    · rw [e, h]; omega
    · exact fun z => hj j hj4 e z.symm
  have h4 : i = 0 ∨ i = 1 ∨ i = 2 ∨ i = 3 := by omega
  rcases h4 with e | e | e | e
  · obtain ⟨k, k0, k1, k2, k3⟩ := zr_fr3 (B 1) (B 2) (B 3)
    refine ⟨k, k0, key k k0 (fun j hj hne => ?_)⟩
    have : j = 1 ∨ j = 2 ∨ j = 3 := by omega
    rcases this with q | q | q <;> (subst q; assumption)
  · obtain ⟨k, k0, k1, k2, k3⟩ := zr_fr3 (B 0) (B 2) (B 3)
    refine ⟨k, k0, key k k0 (fun j hj hne => ?_)⟩
    have : j = 0 ∨ j = 2 ∨ j = 3 := by omega
    rcases this with q | q | q <;> (subst q; assumption)
  · obtain ⟨k, k0, k1, k2, k3⟩ := zr_fr3 (B 0) (B 1) (B 3)
    refine ⟨k, k0, key k k0 (fun j hj hne => ?_)⟩
    have : j = 0 ∨ j = 1 ∨ j = 3 := by omega
    rcases this with q | q | q <;> (subst q; assumption)
  · obtain ⟨k, k0, k1, k2, k3⟩ := zr_fr3 (B 0) (B 1) (B 2)
    refine ⟨k, k0, key k k0 (fun j hj hne => ?_)⟩
    have : j = 0 ∨ j = 1 ∨ j = 2 := by omega
    rcases this with q | q | q <;> (subst q; assumption)
section
variable {f_bodyLength f_bits f_bitCount f_readAt f_readEnd f_w f_h : Int32} {a_pixels a_users a_buffer a_wide a_high a_start a_right a_down a_factor a_offset a_files a_fileLength a_plain a_body a_residue a_tokens a_distances a_heads a_chain a_weight a_parent a_symbol a_codeLength a_codeOf a_lengthOf a_perLength a_before a_last : Nat → Int32}
theorem zm_nibad {post : Int32 → Prop} {x : Int32} (h : zm_bad x) (K : post (-1)) : wpX_needImage post (f_bodyLength, f_bits, f_bitCount, f_readAt, f_readEnd, f_w, f_h, a_pixels, a_users, a_buffer, a_wide, a_high, a_start, a_right, a_down, a_factor, a_offset, a_files, a_fileLength, a_plain, a_body, a_residue, a_tokens, a_distances, a_heads, a_chain, a_weight, a_parent, a_symbol, a_codeLength, a_codeOf, a_lengthOf, a_perLength, a_before, a_last) x := by
  unfold wpX_needImage
  exact zm_sm0 h (br_t rfl K)
theorem zm_ninone {post : Int32 → Prop} {i : Nat} (hi : i < 4) (h : a_buffer i = -1) (K : post (-2)) : wpX_needImage post (f_bodyLength, f_bits, f_bitCount, f_readAt, f_readEnd, f_w, f_h, a_pixels, a_users, a_buffer, a_wide, a_high, a_start, a_right, a_down, a_factor, a_offset, a_files, a_fileLength, a_plain, a_body, a_residue, a_tokens, a_distances, a_heads, a_chain, a_weight, a_parent, a_symbol, a_codeLength, a_codeOf, a_lengthOf, a_perLength, a_before, a_last) (nI i) := by
  unfold wpX_needImage
  refine zm_sm1 hi (br_f (by decide) ⟨vp_in_nI hi (by decide), ?_⟩)
  rw [nI_clamp (by omega), h]
  exact br_f (by decide) K
theorem zm_niok {post : Int32 → Prop} {i b : Nat} (hi : i < 4) (hb : b < 4) (h : a_buffer i = nI b) (K : post 0) : wpX_needImage post (f_bodyLength, f_bits, f_bitCount, f_readAt, f_readEnd, f_w, f_h, a_pixels, a_users, a_buffer, a_wide, a_high, a_start, a_right, a_down, a_factor, a_offset, a_files, a_fileLength, a_plain, a_body, a_residue, a_tokens, a_distances, a_heads, a_chain, a_weight, a_parent, a_symbol, a_codeLength, a_codeOf, a_lengthOf, a_perLength, a_before, a_last) (nI i) := by
  unfold wpX_needImage
  refine zm_sm1 hi (br_f (by decide) ⟨vp_in_nI hi (by decide), ?_⟩)
  rw [nI_clamp (by omega), h]
  exact br_t (nI_pos' (by omega)) K
theorem zm_letGo {post : SX → Prop} {B : Nat → Nat} {i : Nat} (hi : i < 4) (hb : (B i = 4 ∧ a_buffer i = -1) ∨ (B i < 4 ∧ a_buffer i = nI (B i))) (hu : ∀ b, b < 4 → a_users b = nI (zr_c B b))
    (K : ∀ us, (∀ b, b < 4 → us b = nI (zr_c (zu B i 4) b)) → post (f_bodyLength, f_bits, f_bitCount, f_readAt, f_readEnd, f_w, f_h, a_pixels, us, upd a_buffer i (-1), a_wide, a_high, a_start, a_right, a_down, a_factor, a_offset, a_files, a_fileLength, a_plain, a_body, a_residue, a_tokens, a_distances, a_heads, a_chain, a_weight, a_parent, a_symbol, a_codeLength, a_codeOf, a_lengthOf, a_perLength, a_before, a_last)) : wpX_letGo post (f_bodyLength, f_bits, f_bitCount, f_readAt, f_readEnd, f_w, f_h, a_pixels, a_users, a_buffer, a_wide, a_high, a_start, a_right, a_down, a_factor, a_offset, a_files, a_fileLength, a_plain, a_body, a_residue, a_tokens, a_distances, a_heads, a_chain, a_weight, a_parent, a_symbol, a_codeLength, a_codeOf, a_lengthOf, a_perLength, a_before, a_last) (nI i) := by
  refine ⟨vp_in_nI hi (by decide), ?_⟩
  rw [nI_clamp (by omega)]
  rcases hb with ⟨h1, h2⟩ | ⟨h1, h2⟩
  · rw [h2]
    refine br_t (by decide) ⟨vp_in_nI hi (by decide), nm_e ?_⟩
    rw [zn_vbm]
    refine K _ (fun b hb => ?_)
    rw [hu b hb]
    have := zr_czu (B := B) (x := 4) (b := b) hi
    rw [h1] at this
    exact congrArg nI (by omega)
  · rw [h2]
    have hc := zr_czu (B := B) (x := 4) (b := B i) hi
    rw [if_pos rfl, if_neg (by omega)] at hc
    have hc4 := zr_c4 B (B i)
    have e1 : nI (zr_c B (B i)) - 1 = nI (zr_c (zu B i 4) (B i)) := by
      have := pk_sub (a := zr_c B (B i)) (b := 1) (by omega)
      refine Eq.trans this (congrArg nI ?_)
      omega
    refine br_f (nI_pos (by omega)) ⟨vp_in_nI hi (by decide), vp_in_nI (by omega) (by decide), vp_in_nI (by omega) (by decide), nm_e ⟨vp_in_nI hi (by decide), nm_e ?_⟩⟩
    rw [nI_clamp (by omega), hu (B i) h1, e1, zn_vb2 (by omega), zn_vbm]
    refine K _ (fun b hb => ?_)
    by_cases e : b = B i
    · rw [e, pk_us]
    · rw [pk_un e, hu b hb]
      have := zr_czu (B := B) (x := 4) (b := b) hi
      rw [if_neg (fun z => e z.symm), if_neg (by omega)] at this
      exact congrArg nI (by omega)
theorem zm_free {post : Int32 → Prop} {B : Nat → Nat} (hu : ∀ b, b < 4 → a_users b = nI (zr_c B b)) (hex : ∃ b, b < 4 ∧ zr_c B b = 0)
    (K : ∀ b, b < 4 → zr_c B b = 0 → post (nI b)) : wpX_freeBuffer post (f_bodyLength, f_bits, f_bitCount, f_readAt, f_readEnd, f_w, f_h, a_pixels, a_users, a_buffer, a_wide, a_high, a_start, a_right, a_down, a_factor, a_offset, a_files, a_fileLength, a_plain, a_body, a_residue, a_tokens, a_distances, a_heads, a_chain, a_weight, a_parent, a_symbol, a_codeLength, a_codeOf, a_lengthOf, a_perLength, a_before, a_last) := by
  have H : ∀ d k, k + d = 4 → (∃ b, k ≤ b ∧ b < 4 ∧ zr_c B b = 0) → ∀ m, d < m → wX_freeBuffer_2 post f_bodyLength f_bits f_bitCount f_readAt f_readEnd f_w f_h a_pixels a_users a_buffer a_wide a_high a_start a_right a_down a_factor a_offset a_files a_fileLength a_plain a_body a_residue a_tokens a_distances a_heads a_chain a_weight a_parent a_symbol a_codeLength a_codeOf a_lengthOf a_perLength a_before a_last m (nI k) := by
    intro d
    induction d with
    | zero => intro k hk ⟨b, h1, h2, _⟩; omega
    | succ d ih =>
      intro k hk ⟨b, h1, h2, h3⟩ m hm
      obtain ⟨m, rfl⟩ : ∃ q, m = q + 1 := ⟨m - 1, by omega⟩
      refine br_f (nI_ge (b := 4) (by omega) (by decide)) ⟨vp_in_nI (by omega) (by decide), ?_⟩
      rw [nI_clamp (by omega), hu k (by omega)]
      have hc4 := zr_c4 B k
      by_cases e : zr_c B k = 0
      · refine br_t ?_ (K k (by omega) e)
        rw [e]; decide
      · refine br_f (nI_nle (by omega) (by omega)) (nm_r (nI_1 k) (ih (k + 1) (by omega) ⟨b, ?_, h2, h3⟩ m (by omega)))
        have : b ≠ k := fun z => e (z ▸ h3)
        omega
  obtain ⟨b, b1, b2⟩ := hex
  exact ⟨5, H 4 0 (by omega) ⟨b, by omega, b1, b2⟩ 5 (by omega)⟩
theorem zm_place {post : SX → Prop} {B : Nat → Nat} {i w h : Nat} {pw ph : Int32} (hpw : pw = nI w) (hph : ph = nI h) (hi : i < 4) (hw : w < 128) (hh : h < 128)
    (hb : (B i = 4 ∧ a_buffer i = -1) ∨ (B i < 4 ∧ a_buffer i = nI (B i))) (hu : ∀ b, b < 4 → a_users b = nI (zr_c B b))
    (K : ∀ b us bu, b < 4 → (∀ j, j < 4 → j ≠ i → B j ≠ b) → (∀ b', b' < 4 → us b' = nI (zr_c (zu B i b) b')) → bu i = nI b → (∀ j, j ≠ i → bu j = a_buffer j) →
      post (f_bodyLength, f_bits, f_bitCount, f_readAt, f_readEnd, f_w, f_h, a_pixels, us, bu, upd a_wide i (nI w), upd a_high i (nI h), upd a_start i 0, upd a_right i 1, upd a_down i (nI w), upd a_factor i 1, upd a_offset i 0, a_files, a_fileLength, a_plain, a_body, a_residue, a_tokens, a_distances, a_heads, a_chain, a_weight, a_parent, a_symbol, a_codeLength, a_codeOf, a_lengthOf, a_perLength, a_before, a_last)) :
    wpX_place post (f_bodyLength, f_bits, f_bitCount, f_readAt, f_readEnd, f_w, f_h, a_pixels, a_users, a_buffer, a_wide, a_high, a_start, a_right, a_down, a_factor, a_offset, a_files, a_fileLength, a_plain, a_body, a_residue, a_tokens, a_distances, a_heads, a_chain, a_weight, a_parent, a_symbol, a_codeLength, a_codeOf, a_lengthOf, a_perLength, a_before, a_last) (nI i) pw ph := by
  subst hpw hph
  unfold wpX_place
  refine zm_letGo (B := B) hi hb hu ?_
  intro us hus
  refine zm_free (B := zu B i 4) hus (zr_free hi zu_s) ?_
  intro b hb4 hb0
  have hin : vp_in (nI i) 4 := vp_in_nI hi (by decide)
  refine ⟨hin, nm_e ?_⟩
  rw [nI_clamp (by omega), zn_vb2 (show b < 128 by omega), pk_us]
  refine ⟨hin, vp_in_nI (by omega) (by decide), vp_in_nI (by omega) (by decide), nm_e ⟨hin, nm_e ⟨hin, nm_e ⟨hin, nm_e ⟨hin, nm_e ⟨hin, nm_e ⟨hin, nm_e ⟨hin, nm_e ?_⟩⟩⟩⟩⟩⟩⟩⟩
  have e0 : nI (zr_c (zu B i 4) b) + 1 = nI 1 := by rw [hb0]; rfl
  rw [nI_clamp (by omega), hus b hb4, e0, zn_vb2 (by omega), zn_vb2 hw, zn_vb2 hh, zn_vs0, zn_vb1, zn_vb0]
  refine K b _ _ hb4 ?_ ?_ pk_us (fun j hj => by rw [pk_un hj, pk_un hj])
  · intro j hj hne
    have := zr_c0' hb0 j hj
    rw [zu_n hne] at this
    exact this
  · intro b' hb'
    have h1 := zr_czu (B := B) (x := 4) (b := b') hi
    have h2 := zr_czu (B := B) (x := b) (b := b') hi
    by_cases e : b' = b
    · subst e
      rw [pk_us]
      rw [if_neg (show ¬ 4 = b' by omega)] at h1
      rw [if_pos rfl] at h2
      exact congrArg nI (by omega)
    · rw [pk_un e, hus b' hb']
      rw [if_neg (show ¬ 4 = b' by omega)] at h1
      rw [if_neg (show ¬ b = b' from fun z => e z.symm)] at h2
      exact congrArg nI (by omega)
theorem zm_value {post : Int32 → Prop} {i b x y c : Nat} {s R D : Int} (hi : i < 4) (hb : b < 4) (hbu : a_buffer i = nI b) (h1 : a_start i = Int32.ofInt s) (h2 : a_right i = Int32.ofInt R) (h3 : a_down i = Int32.ofInt D)
    (hc : c < 64) (hx : s + (x : Int) * R + (y : Int) * D = (c : Int)) (K : post (((a_pixels (64 * b + c) * a_factor i) + a_offset i) &&& 255)) : wpX_valueAt post (f_bodyLength, f_bits, f_bitCount, f_readAt, f_readEnd, f_w, f_h, a_pixels, a_users, a_buffer, a_wide, a_high, a_start, a_right, a_down, a_factor, a_offset, a_files, a_fileLength, a_plain, a_body, a_residue, a_tokens, a_distances, a_heads, a_chain, a_weight, a_parent, a_symbol, a_codeLength, a_codeOf, a_lengthOf, a_perLength, a_before, a_last) (nI i) (nI x) (nI y) := by
  have hin : vp_in (nI i) 4 := vp_in_nI hi (by decide)
  unfold wpX_valueAt
  dsimp only
  rw [nI_clamp (by omega), hbu, h1, h2, h3, zm_idx hx]
  refine ⟨hin, hin, hin, hin, vp_in_nI (by omega) (by decide), nm_e ⟨hin, hin, ?_⟩⟩
  rw [nI_clamp (by omega)]
  exact K
theorem zm_gather {post : SX → Prop} {i b w h : Nat} {s R D : Int} {vl : Nat → Int32} (hi : i < 4) (hb : b < 4) (hbu : a_buffer i = nI b) (hs : a_start i = Int32.ofInt s) (hr : a_right i = Int32.ofInt R) (hd : a_down i = Int32.ofInt D)
    (hw : a_wide i = nI w) (hh : a_high i = nI h) (hw1 : 1 ≤ w) (hw8 : w ≤ 8) (hh8 : h ≤ 8)
    (hc : ∀ x y : Nat, x < w → y < h → ∃ c : Nat, c < 64 ∧ s + (x : Int) * R + (y : Int) * D = (c : Int) ∧ vl (8 * y + x) = ((a_pixels (64 * b + c) * a_factor i) + a_offset i) &&& 255)
    (K : ∀ pl, (∀ k, k < w * h → pl k = vl (8 * (k / w) + k % w)) → post (f_bodyLength, f_bits, f_bitCount, f_readAt, f_readEnd, nI w, nI h, a_pixels, a_users, a_buffer, a_wide, a_high, a_start, a_right, a_down, a_factor, a_offset, a_files, a_fileLength, pl, a_body, a_residue, a_tokens, a_distances, a_heads, a_chain, a_weight, a_parent, a_symbol, a_codeLength, a_codeOf, a_lengthOf, a_perLength, a_before, a_last)) : wpX_gather post (f_bodyLength, f_bits, f_bitCount, f_readAt, f_readEnd, f_w, f_h, a_pixels, a_users, a_buffer, a_wide, a_high, a_start, a_right, a_down, a_factor, a_offset, a_files, a_fileLength, a_plain, a_body, a_residue, a_tokens, a_distances, a_heads, a_chain, a_weight, a_parent, a_symbol, a_codeLength, a_codeOf, a_lengthOf, a_perLength, a_before, a_last) (nI i) := by
  have hin : vp_in (nI i) 4 := vp_in_nI hi (by decide)
  have H32 : ∀ (J : Int32 → (Nat → Int32) → (Nat → Int32) → (Nat → Int32) → (Nat → Int32) → (Nat → Int32) → (Nat → Int32) → (Nat → Int32) → (Nat → Int32) → (Nat → Int32) → (Nat → Int32) → (Nat → Int32) → (Nat → Int32) → (Nat → Int32) → (Nat → Int32) → (Nat → Int32) → (Nat → Int32) → (Nat → Int32) → (Nat → Int32) → (Nat → Int32) → (Nat → Int32) → (Nat → Int32) → (Nat → Int32) → (Nat → Int32) → (Nat → Int32) → (Nat → Int32) → (Nat → Int32) → (Nat → Int32) → (Nat → Int32) → Prop) y, y < h → (∀ pl, (∀ k, k < y * w + w → pl k = vl (8 * (k / w) + k % w)) → J (nI (y + 1)) a_pixels a_users a_buffer a_wide a_high a_start a_right a_down a_factor a_offset a_files a_fileLength pl a_body a_residue a_tokens a_distances a_heads a_chain a_weight a_parent a_symbol a_codeLength a_codeOf a_lengthOf a_perLength a_before a_last) →
      ∀ d x pl, x + d = w → (∀ k, k < y * w + x → pl k = vl (8 * (k / w) + k % w)) → ∀ m, d < m → wX_gather_32 post J (nI i) (nI y) f_bodyLength f_bits f_bitCount f_readAt f_readEnd (nI w) (nI h) m (nI x) a_pixels a_users a_buffer a_wide a_high a_start a_right a_down a_factor a_offset a_files a_fileLength pl a_body a_residue a_tokens a_distances a_heads a_chain a_weight a_parent a_symbol a_codeLength a_codeOf a_lengthOf a_perLength a_before a_last := by
    intro J y hy KJ
    have hyw : y * w + w ≤ 64 := by
      have h1 : (y + 1) * w ≤ 8 * 8 := Nat.mul_le_mul (by omega) hw8
      rw [Nat.succ_mul] at h1
      exact h1
    intro d
    induction d with
    | zero =>
      intro x pl hx hP m hm
      obtain ⟨m, rfl⟩ : ∃ q, m = q + 1 := ⟨m - 1, by omega⟩
      rw [show x = w by omega] at hP ⊢
      exact br_t (nI_le (by omega) (by omega)) (nm_r (nI_1 y) (KJ pl hP))
    | succ d ih =>
      intro x pl hx hP m hm
      obtain ⟨m, rfl⟩ : ∃ q, m = q + 1 := ⟨m - 1, by omega⟩
      obtain ⟨c, c1, c2, c3⟩ := hc x y (by omega) hy
      refine br_f (nI_ge (by omega) (by omega)) (zm_value (c := c) hi hb hbu hs hr hd c1 c2 ?_)
      rw [← c3, pk_mul, nI_add]
      refine ⟨vp_in_nI (by omega) (by decide), nm_e (nm_r (nI_1 x) ?_)⟩
      obtain ⟨j, hj, ej⟩ := zn_r255 ((a_pixels (64 * b + c) * a_factor i) + a_offset i)
      have e1 : vp_nar .short (vl (8 * y + x)).toInt16.toInt32 = vl (8 * y + x) := by
        rw [c3, ej]
        exact zn_vs2 (by omega)
      rw [nI_clamp (by omega), e1]
      refine ih (x + 1) _ (by omega) ?_ m (by omega)
      intro k hk
      by_cases e : k = y * w + x
      · subst e
        rw [pk_us]
        have q1 : (y * w + x) / w = y := by
          rw [Nat.add_comm, Nat.mul_comm, Nat.add_mul_div_left _ _ (by omega), Nat.div_eq_of_lt (by omega), Nat.zero_add]
        have q2 : (y * w + x) % w = x := by
          rw [Nat.add_comm, Nat.mul_comm, Nat.add_mul_mod_self_left, Nat.mod_eq_of_lt (by omega)]
        rw [q1, q2]
      · rw [pk_un e]
        exact hP k (by omega)
  have H22 : ∀ d y pl, y + d = h → (∀ k, k < y * w → pl k = vl (8 * (k / w) + k % w)) → ∀ m, d < m → wX_gather_22 post (nI i) f_bodyLength f_bits f_bitCount f_readAt f_readEnd (nI w) (nI h) m (nI y) a_pixels a_users a_buffer a_wide a_high a_start a_right a_down a_factor a_offset a_files a_fileLength pl a_body a_residue a_tokens a_distances a_heads a_chain a_weight a_parent a_symbol a_codeLength a_codeOf a_lengthOf a_perLength a_before a_last := by
    intro d
    induction d with
    | zero =>
      intro y pl hy hP m hm
      obtain ⟨m, rfl⟩ : ∃ q, m = q + 1 := ⟨m - 1, by omega⟩
      have e : y = h := by omega
      subst e
      refine br_t (nI_le (by omega) (by omega)) (K pl ?_)
      rw [Nat.mul_comm w y]
      exact hP
    | succ d ih =>
      intro y pl hy hP m hm
      obtain ⟨m, rfl⟩ : ∃ q, m = q + 1 := ⟨m - 1, by omega⟩
      refine br_f (nI_ge (by omega) (by omega)) ⟨w + 1, H32 _ y (by omega) ?_ w 0 pl (by omega) hP (w + 1) (by omega)⟩
      intro pl2 hP2
      exact ih (y + 1) pl2 (by omega) (by rw [Nat.succ_mul]; exact hP2) m (by omega)
  refine ⟨hin, nm_r (e' := nI w) (by rw [nI_clamp (by omega)]; exact hw) ⟨hin, nm_r (e' := nI h) (by rw [nI_clamp (by omega)]; exact hh) ⟨h + 1, ?_⟩⟩⟩
  exact H22 h 0 a_plain (by omega) (fun k hk => absurd hk (by rw [Nat.zero_mul]; exact Nat.not_lt_zero k)) (h + 1) (by omega)
theorem zm_spread {post : SX → Prop} {B : Nat → Nat} {i w h : Nat} {p : Nat → Nat} (hw : f_w = nI w) (hh : f_h = nI h) (hi : i < 4) (hw8 : w ≤ 8) (hh8 : h ≤ 8) (hwh : w * h ≤ 64) (P : zp_P a_plain p (w * h))
    (hb : (B i = 4 ∧ a_buffer i = -1) ∨ (B i < 4 ∧ a_buffer i = nI (B i))) (hu : ∀ b, b < 4 → a_users b = nI (zr_c B b))
    (K : ∀ b us bu px, b < 4 → (∀ j, j < 4 → j ≠ i → B j ≠ b) → (∀ b', b' < 4 → us b' = nI (zr_c (zu B i b) b')) → bu i = nI b → (∀ j, j ≠ i → bu j = a_buffer j) →
      (∀ k, k < w * h → px (64 * b + k) = sb_b (p k)) → (∀ j, j < 64 * b ∨ 64 * b + 64 ≤ j → px j = a_pixels j) →
      post (f_bodyLength, f_bits, f_bitCount, f_readAt, f_readEnd, f_w, f_h, px, us, bu, upd a_wide i (nI w), upd a_high i (nI h), upd a_start i 0, upd a_right i 1, upd a_down i (nI w), upd a_factor i 1, upd a_offset i 0, a_files, a_fileLength, a_plain, a_body, a_residue, a_tokens, a_distances, a_heads, a_chain, a_weight, a_parent, a_symbol, a_codeLength, a_codeOf, a_lengthOf, a_perLength, a_before, a_last)) :
    wpX_spread post (f_bodyLength, f_bits, f_bitCount, f_readAt, f_readEnd, f_w, f_h, a_pixels, a_users, a_buffer, a_wide, a_high, a_start, a_right, a_down, a_factor, a_offset, a_files, a_fileLength, a_plain, a_body, a_residue, a_tokens, a_distances, a_heads, a_chain, a_weight, a_parent, a_symbol, a_codeLength, a_codeOf, a_lengthOf, a_perLength, a_before, a_last) (nI i) := by
  unfold wpX_spread
  refine zm_place (B := B) hw hh hi (by omega) (by omega) hb hu ?_
  intro b us bu hb4 hfr hus hbi hbj
  have H : ∀ d k px, k + d = w * h → (∀ j, j < k → px (64 * b + j) = sb_b (p j)) → (∀ j, j < 64 * b ∨ 64 * b + 64 ≤ j → px j = a_pixels j) → ∀ m, d < m →
      wX_spread_15 post (nI i) f_bodyLength f_bits f_bitCount f_readAt f_readEnd f_w f_h m (nI k) px us bu (upd a_wide i (nI w)) (upd a_high i (nI h)) (upd a_start i 0) (upd a_right i 1) (upd a_down i (nI w)) (upd a_factor i 1) (upd a_offset i 0) a_files a_fileLength a_plain a_body a_residue a_tokens a_distances a_heads a_chain a_weight a_parent a_symbol a_codeLength a_codeOf a_lengthOf a_perLength a_before a_last := by
    intro d
    induction d with
    | zero =>
      intro k px hk h1 h2 m hm
      obtain ⟨m, rfl⟩ : ∃ q, m = q + 1 := ⟨m - 1, by omega⟩
      refine br_t (by rw [hw, hh, pk_mul]; exact nI_le (by omega) (by omega)) (K b us bu px hb4 hfr hus hbi hbj (fun j hj => h1 j (by omega)) h2)
    | succ d ih =>
      intro k px hk h1 h2 m hm
      obtain ⟨m, rfl⟩ : ∃ q, m = q + 1 := ⟨m - 1, by omega⟩
      have Pk := P k (by omega)
      have ei : (bu (nI i).toNatClampNeg * 64) + nI k = nI (64 * b + k) := by
        rw [nI_clamp (by omega), hbi]
        have : nI b * 64 = nI (b * 64) := pk_mul b 64
        rw [this, nI_add, Nat.mul_comm b 64]
      refine br_f (by rw [hw, hh, pk_mul]; exact nI_ge (by omega) (by omega)) ⟨vp_in_nI hi (by decide), vp_in_nI (by omega) (by decide), ?_⟩
      rw [ei]
      refine ⟨vp_in_nI (by omega) (by decide), nm_e (nm_r (nI_1 k) ?_)⟩
      rw [nI_clamp (by omega), nI_clamp (by omega), Pk.2, pk_vb, zn_b8, Nat.mod_eq_of_lt Pk.1]
      refine ih (k + 1) _ (by omega) ?_ ?_ m (by omega)
      · intro j hj
        by_cases e : j = k
        · subst e; rw [pk_us]
        · rw [pk_un (by omega)]; exact h1 j (by omega)
      · intro j hj
        rw [pk_un (by omega)]
        exact h2 j hj
  exact ⟨w * h + 1, H (w * h) 0 a_pixels (by omega) (fun j hj => absurd hj (Nat.not_lt_zero j)) (fun _ _ => rfl) _ (Nat.lt_succ_self _)⟩
end
end
section
/-! the reference's copy of a picture; inside; an image made plain -/
section
variable {a_value a_width a_height a_there a_damaged a_form : Nat → Int32}
theorem zm_become {post : SY → Prop} {t f : Nat} {pt pf : Int32} (hpt : pt = nI t) (hpf : pf = nI f) (ht : t < 9) (hf : f < 9)
    (K : ∀ vl, (∀ k, k < 64 → vl (64 * t + k) = a_value (64 * f + k)) → (∀ j, j < 64 * t ∨ 64 * t + 64 ≤ j → vl j = a_value j) →
      post (vl, upd a_width t (a_width f), upd a_height t (a_height f), upd a_there t 1, upd a_damaged t (vp_nar .boolean (a_damaged f)), upd a_form t (a_form f))) :
    wpY_become post (a_value, a_width, a_height, a_there, a_damaged, a_form) pt pf := by
  subst hpt hpf
  have H : ∀ d k vl, k + d = 64 → (∀ j, j < k → vl (64 * t + j) = a_value (64 * f + j)) → (∀ j, j < 64 * t ∨ 64 * t + k ≤ j → vl j = a_value j) → ∀ m, d < m → wY_become_2 post (nI t) (nI f) m (nI k) vl a_width a_height a_there a_damaged a_form := by
    intro d
    induction d with
    | zero =>
      intro k vl hk h1 h2 m hm
      obtain ⟨m, rfl⟩ : ∃ q, m = q + 1 := ⟨m - 1, by omega⟩
      have i1 : vp_in (nI t) 9 := vp_in_nI ht (by decide)
      have i2 : vp_in (nI f) 9 := vp_in_nI hf (by decide)
      have ek : k = 64 := by omega
      subst ek
      refine br_t (nI_le (a := 64) (by omega) (by decide)) ⟨i2, i1, nm_e ⟨i2, i1, nm_e ⟨i1, nm_e ⟨i2, i1, nm_e ⟨i2, i1, nm_e ?_⟩⟩⟩⟩⟩
      rw [nI_clamp (by omega), nI_clamp (by omega), zn_bo1]
      exact K vl h1 h2
    | succ d ih =>
      intro k vl hk h1 h2 m hm
      obtain ⟨m, rfl⟩ : ∃ q, m = q + 1 := ⟨m - 1, by omega⟩
      have e1 : (64 * nI f) + nI k = nI (64 * f + k) := by
        have : 64 * nI f = nI (64 * f) := pk_mul 64 f
        rw [this, nI_add]
      have e2 : (64 * nI t) + nI k = nI (64 * t + k) := by
        have : 64 * nI t = nI (64 * t) := pk_mul 64 t
        rw [this, nI_add]
      refine br_f (nI_ge (b := 64) (by omega) (by decide)) ?_
      rw [e1, e2]
      refine ⟨vp_in_nI (by omega) (by decide), vp_in_nI (by omega) (by decide), nm_e (nm_r (nI_1 k) ?_)⟩
      rw [nI_clamp (by omega), nI_clamp (by omega)]
      have e3 : vl (64 * f + k) = a_value (64 * f + k) := h2 _ (by omega)
      rw [e3]
      refine ih (k + 1) _ (by omega) ?_ ?_ m (by omega)
      · intro j hj
        by_cases e : j = k
        · subst e; rw [pk_us]
        · rw [pk_un (by omega)]; exact h1 j (by omega)
      · intro j hj
        rw [pk_un (by omega)]
        exact h2 j (by omega)
  exact ⟨65, H 64 0 a_value (by omega) (fun j hj => absurd hj (Nat.not_lt_zero j)) (fun _ _ => rfl) 65 (by omega)⟩
theorem zm_places {post : Int32 → Prop} {t : Nat} {pt : Int32} (hpt : pt = nI t) (ht : t < 9) (K : post (a_width t * a_height t)) : wpY_places post (a_value, a_width, a_height, a_there, a_damaged, a_form) pt := by
  subst hpt
  refine ⟨vp_in_nI ht (by decide), vp_in_nI ht (by decide), ?_⟩
  rw [nI_clamp (by omega)]
  exact K
end
/-- a place that lies outside -/
def zm_out (p q : Int32) (w h : Nat) : Prop := p < 0 ∨ nI w ≤ p ∨ q < 0 ∨ nI h ≤ q
theorem zm_ins (p q : Int32) {w h : Nat} (hw : w ≤ 8) (hh : h ≤ 8) : (∃ x y : Nat, x < w ∧ y < h ∧ p = nI x ∧ q = nI y) ∨ zm_out p q w h := by
  rcases pk_ix p (n := w) (by omega) with h1 | h1 | ⟨x, hx, ex⟩
  · exact Or.inr (Or.inl h1)
  · exact Or.inr (Or.inr (Or.inl h1))
  · rcases pk_ix q (n := h) (by omega) with h2 | h2 | ⟨y, hy, ey⟩
    · exact Or.inr (Or.inr (Or.inr (Or.inl h2)))
    · exact Or.inr (Or.inr (Or.inr (Or.inr h2)))
    · exact Or.inl ⟨x, y, hx, hy, ex, ey⟩
section
variable {f_bodyLength f_bits f_bitCount f_readAt f_readEnd f_w f_h : Int32} {a_pixels a_users a_buffer a_wide a_high a_start a_right a_down a_factor a_offset a_files a_fileLength a_plain a_body a_residue a_tokens a_distances a_heads a_chain a_weight a_parent a_symbol a_codeLength a_codeOf a_lengthOf a_perLength a_before a_last : Nat → Int32}
theorem zm_xin1 {post : Int32 → Prop} {i w h x y : Nat} (hi : i < 4) (hw8 : w ≤ 8) (hh8 : h ≤ 8) (hw : a_wide i = nI w) (hh : a_high i = nI h) (hx : x < w) (hy : y < h) (K : post 1) : wpX_inside post (f_bodyLength, f_bits, f_bitCount, f_readAt, f_readEnd, f_w, f_h, a_pixels, a_users, a_buffer, a_wide, a_high, a_start, a_right, a_down, a_factor, a_offset, a_files, a_fileLength, a_plain, a_body, a_residue, a_tokens, a_distances, a_heads, a_chain, a_weight, a_parent, a_symbol, a_codeLength, a_codeOf, a_lengthOf, a_perLength, a_before, a_last) (nI i) (nI x) (nI y) := by
  have e : (nI i).toNatClampNeg = i := nI_clamp (by omega)
  refine br_f (nI_pos (by omega)) ⟨vp_in_nI hi (by decide), ?_⟩
  rw [e, hw, hh]
  exact br_f (nI_ge hx (by omega)) (br_f (nI_pos (by omega)) ⟨vp_in_nI hi (by decide), br_f (nI_ge hy (by omega)) K⟩)
theorem zm_xin0 {post : Int32 → Prop} {i w h : Nat} {p q : Int32} (hi : i < 4) (hw : a_wide i = nI w) (hh : a_high i = nI h) (ho : zm_out p q w h) (K : post 0) : wpX_inside post (f_bodyLength, f_bits, f_bitCount, f_readAt, f_readEnd, f_w, f_h, a_pixels, a_users, a_buffer, a_wide, a_high, a_start, a_right, a_down, a_factor, a_offset, a_files, a_fileLength, a_plain, a_body, a_residue, a_tokens, a_distances, a_heads, a_chain, a_weight, a_parent, a_symbol, a_codeLength, a_codeOf, a_lengthOf, a_perLength, a_before, a_last) (nI i) p q := by
  have e : (nI i).toNatClampNeg = i := nI_clamp (by omega)
  by_cases h1 : p < 0
  · exact br_t h1 K
  · refine br_f h1 ⟨vp_in_nI hi (by decide), ?_⟩
    rw [e, hw, hh]
    by_cases h2 : nI w ≤ p
    · exact br_t h2 K
    · refine br_f h2 ?_
      by_cases h3 : q < 0
      · exact br_t h3 K
      · refine br_f h3 ⟨vp_in_nI hi (by decide), ?_⟩
        by_cases h4 : nI h ≤ q
        · exact br_t h4 K
        · rcases ho with z | z | z | z
          · exact absurd z h1
          · exact absurd z h2
          · exact absurd z h3
          · exact absurd z h4
end
section
variable {a_value a_width a_height a_there a_damaged a_form : Nat → Int32}
theorem zm_yin1 {post : Int32 → Prop} {i w h x y : Nat} (hi : i < 4) (hw8 : w ≤ 8) (hh8 : h ≤ 8) (hw : a_width i = nI w) (hh : a_height i = nI h) (hx : x < w) (hy : y < h) (K : post 1) : wpY_inside post (a_value, a_width, a_height, a_there, a_damaged, a_form) (nI i) (nI x) (nI y) := by
  have e : (nI i).toNatClampNeg = i := nI_clamp (by omega)
  refine br_f (nI_pos (by omega)) ⟨vp_in_nI (by omega) (by decide), ?_⟩
  rw [e, hw, hh]
  exact br_f (nI_ge hx (by omega)) (br_f (nI_pos (by omega)) ⟨vp_in_nI (by omega) (by decide), br_f (nI_ge hy (by omega)) K⟩)
theorem zm_yin0 {post : Int32 → Prop} {i w h : Nat} {p q : Int32} (hi : i < 4) (hw : a_width i = nI w) (hh : a_height i = nI h) (ho : zm_out p q w h) (K : post 0) : wpY_inside post (a_value, a_width, a_height, a_there, a_damaged, a_form) (nI i) p q := by
  have e : (nI i).toNatClampNeg = i := nI_clamp (by omega)
  by_cases h1 : p < 0
  · exact br_t h1 K
  · refine br_f h1 ⟨vp_in_nI (by omega) (by decide), ?_⟩
    rw [e, hw, hh]
    by_cases h2 : nI w ≤ p
    · exact br_t h2 K
    · refine br_f h2 ?_
      by_cases h3 : q < 0
      · exact br_t h3 K
      · refine br_f h3 ⟨vp_in_nI (by omega) (by decide), ?_⟩
        by_cases h4 : nI h ≤ q
        · exact br_t h4 K
        · rcases ho with z | z | z | z
          · exact absurd z h1
          · exact absurd z h2
          · exact absurd z h3
          · exact absurd z h4
end
theorem zm_cell {w h x y : Nat} (hx : x < w) (hy : y < h) : y * w + x < w * h := by
  have h1 : (y + 1) * w ≤ h * w := Nat.mul_le_mul_right _ hy
  rw [Nat.succ_mul, Nat.mul_comm h w] at h1
  omega
theorem zm_dm {w x y : Nat} (hx : x < w) : (y * w + x) / w = y ∧ (y * w + x) % w = x := by
  constructor
  · rw [Nat.add_comm, Nat.mul_comm, Nat.add_mul_div_left _ _ (by omega), Nat.div_eq_of_lt hx, Nat.zero_add]
  · rw [Nat.add_comm, Nat.mul_comm, Nat.add_mul_mod_self_left, Nat.mod_eq_of_lt hx]
theorem zm_10 (x : Int32) : (x * 1 + 0) = x := by rw [Int32.mul_one, Int32.add_zero]
/-- an image that lies plainly, row by row -/
theorem zm_plainV {w h : Nat} {px vl : Nat → Int32} (h1 : 1 ≤ w) (h2 : w ≤ 8) (h3 : 1 ≤ h) (h4 : h ≤ 8)
    (hv : ∀ x y, x < w → y < h → vl (8 * y + x) = px (y * w + x) &&& 255) : zi_V (nI w) (nI h) 0 1 (nI w) 1 0 (nI w) (nI h) px vl := by
  refine ⟨w, h, 0, 1, (w : Int), ⟨h1, h2, h3, h4⟩, ⟨rfl, rfl, rfl, rfl⟩, ⟨by decide, by decide, zm_oi w⟩, by omega, ⟨by show (1 : Int32).toInt8.toInt32 = 1; decide, zn_B0⟩, ?_⟩
  intro x y hx hy
  have hc := zm_cell hx hy
  have h64 : w * h ≤ 8 * 8 := Nat.mul_le_mul h2 h4
  refine ⟨y * w + x, by omega, ?_, ?_⟩
  · rw [Int.natCast_add, Int.natCast_mul]
    generalize (y : Int) * (w : Int) = A
    omega
  · rw [zm_10]
    exact hv x y hx hy
section
variable {f_bodyLength f_bits f_bitCount f_readAt f_readEnd f_w f_h : Int32} {a_pixels a_users a_buffer a_wide a_high a_start a_right a_down a_factor a_offset a_files a_fileLength a_plain a_body a_residue a_tokens a_distances a_heads a_chain a_weight a_parent a_symbol a_codeLength a_codeOf a_lengthOf a_perLength a_before a_last : Nat → Int32} {a_value a_width a_height a_there a_damaged a_form : Nat → Int32}
theorem zm_settle {post : SX → Prop} {B : Nat → Nat} {i : Nat} (hi : i < 4) (hBi : B i < 4)
    (H : zr_IB B a_pixels a_users a_buffer a_wide a_high a_start a_right a_down a_factor a_offset a_value a_width a_height a_there)
    (K : ∀ fw fh pl B' px us bu wd hg st rt dn fc of, zr_IB B' px us bu wd hg st rt dn fc of a_value a_width a_height a_there → B' i < 4 → (∀ j, j < 4 → j ≠ i → B' j ≠ B' i) → st i = 0 → rt i = 1 → dn i = wd i → fc i = 1 → of i = 0 →
      post (f_bodyLength, f_bits, f_bitCount, f_readAt, f_readEnd, fw, fh, px, us, bu, wd, hg, st, rt, dn, fc, of, a_files, a_fileLength, pl, a_body, a_residue, a_tokens, a_distances, a_heads, a_chain, a_weight, a_parent, a_symbol, a_codeLength, a_codeOf, a_lengthOf, a_perLength, a_before, a_last)) :
    wpX_settle post (f_bodyLength, f_bits, f_bitCount, f_readAt, f_readEnd, f_w, f_h, a_pixels, a_users, a_buffer, a_wide, a_high, a_start, a_right, a_down, a_factor, a_offset, a_files, a_fileLength, a_plain, a_body, a_residue, a_tokens, a_distances, a_heads, a_chain, a_weight, a_parent, a_symbol, a_codeLength, a_codeOf, a_lengthOf, a_perLength, a_before, a_last) (nI i) := by
  have hin : vp_in (nI i) 4 := vp_in_nI hi (by decide)
  have ei : (nI i).toNatClampNeg = i := nI_clamp (by omega)
  rcases H.1 i hi with ⟨g1, _⟩ | ⟨g1, g2, g3, g4⟩
  · omega
  have g40 := g4
  obtain ⟨w, h, s, R, D, ⟨w1, w8, h1, h8⟩, ⟨e1, e2, e3, e4⟩, ⟨e5, e6, e7⟩, hRD, hfo, hc⟩ := g4
  have hwh : w * h ≤ 8 * 8 := Nat.mul_le_mul w8 h8
  have hG : ∀ z0 z1 : Int32, z1 &&& z0 = 0 → wX_settle_80 post (nI i) z0 z1 f_bodyLength f_bits f_bitCount f_readAt f_readEnd f_w f_h a_pixels a_users a_buffer a_wide a_high a_start a_right a_down a_factor a_offset a_files a_fileLength a_plain a_body a_residue a_tokens a_distances a_heads a_chain a_weight a_parent a_symbol a_codeLength a_codeOf a_lengthOf a_perLength a_before a_last := by
    intro z0 z1 hz
    unfold wX_settle_80
    refine br_t hz ?_
    refine zm_gather (w := w) (h := h) (vl := fun k => a_value (64 * i + k)) hi hBi g2 e5 e6 e7 e1 e2 w1 w8 h8 hc ?_
    intro pl hpl
    have hP : zp_P pl (fun k => (pl k).toNatClampNeg) (w * h) := by
      intro k hk
      have q1 : k % w < w := Nat.mod_lt _ (by omega)
      have q2 : k / w < h := Nat.div_lt_of_lt_mul hk
      obtain ⟨c, _, _, c3⟩ := hc (k % w) (k / w) q1 q2
      obtain ⟨j, hj, ej⟩ := zn_r255 ((a_pixels (64 * B i + c) * a_factor i) + a_offset i)
      have e : pl k = nI j := by
        rw [hpl k hk]
        exact c3.trans ej
      show (pl k).toNatClampNeg < 256 ∧ pl k = nI (pl k).toNatClampNeg
      rw [e, nI_clamp (by omega)]
      exact ⟨hj, rfl⟩
    refine zm_spread (B := B) (f_w := nI w) (f_h := nI h) (a_plain := pl) (p := fun k => (pl k).toNatClampNeg) rfl rfl hi w8 h8 hwh hP (Or.inr ⟨hBi, g2⟩) H.2 ?_
    intro b us bu px b4 hfr hus hbi hbj hpx1 hpx2
    refine K _ _ _ (zu B i b) _ _ _ _ _ _ _ _ _ _ (zr_put H hus ?_ (by rw [zu_s]; exact b4) (by rw [zu_s]; exact hbi) g3 ?_) (by rw [zu_s]; exact b4) ?_ pk_us pk_us (by rw [pk_us, pk_us]) pk_us pk_us
    · intro j hj hne
      refine ⟨zu_n hne, hbj j hne, rfl, pk_un hne, pk_un hne, pk_un hne, pk_un hne, pk_un hne, pk_un hne, pk_un hne, rfl, rfl, fun k hk => rfl, fun hBj c hc => hpx2 _ ?_⟩
      have := hfr j hj hne
      omega
    · unfold zr_J
      rw [pk_us, pk_us, pk_us, pk_us, pk_us, pk_us, pk_us, e3, e4, zu_s]
      refine zm_plainV w1 w8 h1 h8 ?_
      intro x y hx hy
      have hcl := zm_cell hx hy
      obtain ⟨d1, d2⟩ := zm_dm (y := y) hx
      have q := hP (y * w + x) hcl
      show a_value (64 * i + (8 * y + x)) = px (64 * b + (y * w + x)) &&& 255
      rw [hpx1 _ hcl, zn_sb255 q.1, ← q.2, hpl _ hcl, d1, d2]
    · intro j hj hne
      rw [zu_s, zu_n hne]
      exact hfr j hj hne
  have h57 : wX_settle_57 post (nI i) f_bodyLength f_bits f_bitCount f_readAt f_readEnd f_w f_h a_pixels a_users a_buffer a_wide a_high a_start a_right a_down a_factor a_offset a_files a_fileLength a_plain a_body a_residue a_tokens a_distances a_heads a_chain a_weight a_parent a_symbol a_codeLength a_codeOf a_lengthOf a_perLength a_before a_last := by
    unfold wX_settle_57 wX_settle_58
    refine ⟨hin, ?_⟩
    rw [ei, g2]
    exact ⟨vp_in_nI (by omega) (by decide), br_c (fun _ => hG 1 0 (by decide)) (fun _ => hG 0 0 (by decide))⟩
  refine ⟨hin, ?_⟩
  rw [ei]
  refine br_c (fun c1 => ⟨hin, br_c (fun c2 => ⟨hin, hin, br_c (fun c3 => ⟨hin, br_c (fun c4 => ⟨hin, br_c (fun c5 => ?_) (fun _ => h57)⟩) (fun _ => h57)⟩) (fun _ => h57)⟩) (fun _ => h57)⟩) (fun _ => h57)
  unfold wX_settle_58
  refine ⟨hin, ?_⟩
  rw [ei, g2]
  refine ⟨vp_in_nI (by omega) (by decide), ?_⟩
  rw [nI_clamp (by omega), H.2 _ hBi]
  refine br_c (fun c6 => ?_) (fun _ => hG 0 1 (by decide))
  have hc4 := zr_c4 B (B i)
  have hone : zr_c B (B i) = 1 := (nI_eq (b := 1) (by omega) (by decide)).mp c6
  unfold wX_settle_80
  exact br_f (by decide) (K _ _ _ B _ _ _ _ _ _ _ _ _ _ H hBi (zr_c1 hi hBi hone) c1 c2 c3 c4 c5)
end
end
section
/-! create, get, set, paint -/
theorem zm_rng {x : Int32} (h1 : ¬ x < 1) (h2 : x ≤ 8) : ∃ w : Nat, 1 ≤ w ∧ w ≤ 8 ∧ x = nI w := by
  have e1 : (1 : Int32).toInt = 1 := by decide
  have e0 : (0 : Int32).toInt = 0 := by decide
  rw [Int32.lt_iff_toInt_lt, e1] at h1
  have h0 : ¬ x < 0 := by
    rw [Int32.lt_iff_toInt_lt, e0]
    omega
  obtain ⟨j, hj, ej⟩ := nI_of2 (M := 8) (n := 8) (by decide) h0 h2
  refine ⟨j, ?_, hj, ej⟩
  rw [ej, nI_toInt (by omega)] at h1
  omega
theorem zm_oinj {s t : Int} (hs : -1000 ≤ s) (hs2 : s ≤ 1000) (ht : -1000 ≤ t) (ht2 : t ≤ 1000) (h : Int32.ofInt s = Int32.ofInt t) : s = t := by
  have h2 := congrArg Int32.toInt h
  rw [Int32.toInt_ofInt_of_le (by omega) (by omega), Int32.toInt_ofInt_of_le (by omega) (by omega)] at h2
  exact h2
/-- an image that lies plainly, read back -/
theorem zm_lies {i b : Nat} {pixels wide high start right down factor offset value width height : Nat → Int32} (hJ : zr_J i b pixels wide high start right down factor offset value width height)
    (hs : start i = 0) (hr : right i = 1) (hd : down i = wide i) (hf : factor i = 1) (ho : offset i = 0) :
    ∃ w h : Nat, (1 ≤ w ∧ w ≤ 8 ∧ 1 ≤ h ∧ h ≤ 8) ∧ wide i = nI w ∧ high i = nI h ∧ width i = nI w ∧ height i = nI h ∧ ∀ x y, x < w → y < h → value (64 * i + (8 * y + x)) = pixels (64 * b + (y * w + x)) &&& 255 := by
  obtain ⟨w, h, s, R, D, hsz, ⟨e1, e2, e3, e4⟩, ⟨e5, e6, e7⟩, hRD, hfo, hc⟩ := hJ
  refine ⟨w, h, hsz, e1, e2, e3, e4, ?_⟩
  obtain ⟨c0, d1, d2, _⟩ := hc 0 0 (by omega) (by omega)
  have hs0 : s = 0 := by
    have q : Int32.ofInt s = Int32.ofInt 0 := by rw [← e5, hs]; decide
    refine zm_oinj ?_ ?_ (by omega) (by omega) q
    · have : s + ((0 : Nat) : Int) * R + ((0 : Nat) : Int) * D = s := by simp
      omega
    · have : s + ((0 : Nat) : Int) * R + ((0 : Nat) : Int) * D = s := by simp
      omega
  have hR1 : R = 1 := by
    have q : Int32.ofInt R = Int32.ofInt 1 := by rw [← e6, hr]; decide
    exact zm_oinj (by omega) (by omega) (by omega) (by omega) q
  have hDw : D = (w : Int) := by
    have q : Int32.ofInt D = Int32.ofInt (w : Int) := by rw [← e7, hd, e1]; exact zm_oi w
    exact zm_oinj (by omega) (by omega) (by omega) (by omega) q
  intro x y hx hy
  obtain ⟨c, c1, c2, c3⟩ := hc x y hx hy
  have ec : c = y * w + x := by
    rw [hs0, hR1, hDw] at c2
    have : ((y * w + x : Nat) : Int) = (y : Int) * (w : Int) + (x : Int) := by rw [Int.natCast_add, Int.natCast_mul]
    omega
  rw [hf, ho, zm_10, ec] at c3
  exact c3
/-- the files stay as they are while the reference writes in images or in its spare picture -/
theorem zm_Fimg {files fileLength value width height there damaged form value' width' height' there' damaged' form' : Nat → Int32} (F : zr_F files fileLength value width height there damaged form)
    (hv : ∀ k, 256 ≤ k → k < 512 → value' k = value k) (h : ∀ j, 4 ≤ j → j < 8 → (width' j = width j ∧ height' j = height j ∧ there' j = there j ∧ damaged' j = damaged j ∧ form' j = form j)) :
    zr_F files fileLength value' width' height' there' damaged' form' := by
  refine ⟨F.1, fun f hf => ?_⟩
  obtain ⟨h1, h2, h3, h4, h5⟩ := h (4 + f) (by omega) (by omega)
  exact zr_fput (F.2 f hf) (fun _ _ => rfl) rfl (fun k hk => hv _ (by omega) (by omega)) h1 h2 h3 h4 h5
section
variable {f_bodyLength f_bits f_bitCount f_readAt f_readEnd f_w f_h : Int32} {a_pixels a_users a_buffer a_wide a_high a_start a_right a_down a_factor a_offset a_files a_fileLength a_plain a_body a_residue a_tokens a_distances a_heads a_chain a_weight a_parent a_symbol a_codeLength a_codeOf a_lengthOf a_perLength a_before a_last : Nat → Int32} {a_value a_width a_height a_there a_damaged a_form : Nat → Int32}
theorem zm_ycr {post : Int32 → SY → Prop} {i : Nat} {v : Int32} (hi : i < 4) (K : ∀ vl, (∀ k, k < 64 → vl (64 * i + k) = v &&& 255) → (∀ j, j < 64 * i ∨ 64 * i + 64 ≤ j → vl j = a_value j) → post (a_width i * a_height i) (vl, a_width, a_height, a_there, a_damaged, a_form)) :
    ∃ m, wY_create_55 post (nI i) v m 0 a_value a_width a_height a_there a_damaged a_form := by
  have H : ∀ d k vl, k + d = 64 → (∀ j, j < k → vl (64 * i + j) = v &&& 255) → (∀ j, j < 64 * i ∨ 64 * i + 64 ≤ j → vl j = a_value j) → ∀ m, d < m → wY_create_55 post (nI i) v m (nI k) vl a_width a_height a_there a_damaged a_form := by
    intro d
    induction d with
    | zero =>
      intro k vl hk h1 h2 m hm
      obtain ⟨m, rfl⟩ : ∃ q, m = q + 1 := ⟨m - 1, by omega⟩
      refine br_t (nI_le (a := 64) (by omega) (by omega)) (zm_places rfl (by omega) (K vl (fun j hj => h1 j (by omega)) h2))
    | succ d ih =>
      intro k vl hk h1 h2 m hm
      obtain ⟨m, rfl⟩ : ∃ q, m = q + 1 := ⟨m - 1, by omega⟩
      have e1 : (64 * nI i) + nI k = nI (64 * i + k) := by
        have : 64 * nI i = nI (64 * i) := pk_mul 64 i
        rw [this, nI_add]
      refine br_f (nI_ge (b := 64) (by omega) (by decide)) ?_
      rw [e1]
      refine ⟨vp_in_nI (by omega) (by decide), nm_e (nm_r (nI_1 k) ?_)⟩
      rw [nI_clamp (by omega)]
      refine ih (k + 1) _ (by omega) ?_ ?_ m (by omega)
      · intro j hj
        by_cases e : j = k
        · subst e; rw [pk_us]
        · rw [pk_un (by omega)]; exact h1 j (by omega)
      · intro j hj
        rw [pk_un (by omega)]
        exact h2 j hj
  exact ⟨65, H 64 0 a_value (by omega) (fun j hj => absurd hj (Nat.not_lt_zero j)) (fun _ _ => rfl) 65 (by omega)⟩
theorem zm_create {k : Nat} {B : Nat → Nat} (H : zr_IB B a_pixels a_users a_buffer a_wide a_high a_start a_right a_down a_factor a_offset a_value a_width a_height a_there) (F : zr_F a_files a_fileLength a_value a_width a_height a_there a_damaged a_form) (v1 v2 v3 v4 : Int32) : wpX_create (fun r u' => wpY_create (fun r' v' => r' = r ∧ i_Rel k u' v') (a_value, a_width, a_height, a_there, a_damaged, a_form) v1 v2 v3 v4) (f_bodyLength, f_bits, f_bitCount, f_readAt, f_readEnd, f_w, f_h, a_pixels, a_users, a_buffer, a_wide, a_high, a_start, a_right, a_down, a_factor, a_offset, a_files, a_fileLength, a_plain, a_body, a_residue, a_tokens, a_distances, a_heads, a_chain, a_weight, a_parent, a_symbol, a_codeLength, a_codeOf, a_lengthOf, a_perLength, a_before, a_last) v1 v2 v3 v4 := by
  unfold wpX_create wpY_create
  dsimp only
  rcases zm_ix v1 with ⟨i, hi, rfl⟩ | hbad
  · refine zm_sm1 hi (br_f (by decide) ?_)
    by_cases c1 : v2 < 1
    · exact br_t c1 (zm_ou0 hi (br_t rfl (br_t c1 ⟨rfl, zr_mk H F⟩)))
    refine br_f c1 ?_
    by_cases c2 : 8 < v2
    · exact br_t c2 (zm_ou0 hi (br_t rfl (br_f c1 (br_t c2 ⟨rfl, zr_mk H F⟩))))
    refine br_f c2 ?_
    by_cases c3 : v3 < 1
    · exact br_t c3 (zm_ou0 hi (br_t rfl (br_f c1 (br_f c2 (br_t c3 ⟨rfl, zr_mk H F⟩)))))
    refine br_f c3 ?_
    by_cases c4 : v3 ≤ 8
    · refine br_t c4 ?_
      obtain ⟨w, w1, w8, rfl⟩ := zm_rng c1 (Int32.not_lt.mp c2)
      obtain ⟨h, h1, h8, rfl⟩ := zm_rng c3 c4
      have hwh : w * h ≤ 8 * 8 := Nat.mul_le_mul w8 h8
      have hb : (B i = 4 ∧ a_buffer i = -1) ∨ (B i < 4 ∧ a_buffer i = nI (B i)) := by
        rcases H.1 i hi with g | g
        · exact Or.inl ⟨g.1, g.2.1⟩
        · exact Or.inr ⟨g.1, g.2.1⟩
      refine zm_place (B := B) rfl rfl hi (by omega) (by omega) hb H.2 ?_
      intro b us bu b4 hfr hus hbi hbj
      have hX : ∀ post : Int32 → SX → Prop, (∀ px, (∀ j, j < w * h → px (64 * b + j) = v4.toInt8.toInt32) → (∀ j, j < 64 * b ∨ 64 * b + 64 ≤ j → px j = a_pixels j) →
            post (nI w * nI h) (f_bodyLength, f_bits, f_bitCount, f_readAt, f_readEnd, f_w, f_h, px, us, bu, upd a_wide i (nI w), upd a_high i (nI h), upd a_start i 0, upd a_right i 1, upd a_down i (nI w), upd a_factor i 1, upd a_offset i 0, a_files, a_fileLength, a_plain, a_body, a_residue, a_tokens, a_distances, a_heads, a_chain, a_weight, a_parent, a_symbol, a_codeLength, a_codeOf, a_lengthOf, a_perLength, a_before, a_last)) →
          ∃ m, wX_create_41 post (nI i) (nI w) (nI h) v4 f_bodyLength f_bits f_bitCount f_readAt f_readEnd f_w f_h m 0 a_pixels us bu (upd a_wide i (nI w)) (upd a_high i (nI h)) (upd a_start i 0) (upd a_right i 1) (upd a_down i (nI w)) (upd a_factor i 1) (upd a_offset i 0) a_files a_fileLength a_plain a_body a_residue a_tokens a_distances a_heads a_chain a_weight a_parent a_symbol a_codeLength a_codeOf a_lengthOf a_perLength a_before a_last := by
        intro post K
        have HL : ∀ d q px, q + d = w * h → (∀ j, j < q → px (64 * b + j) = v4.toInt8.toInt32) → (∀ j, j < 64 * b ∨ 64 * b + 64 ≤ j → px j = a_pixels j) → ∀ m, d < m →
            wX_create_41 post (nI i) (nI w) (nI h) v4 f_bodyLength f_bits f_bitCount f_readAt f_readEnd f_w f_h m (nI q) px us bu (upd a_wide i (nI w)) (upd a_high i (nI h)) (upd a_start i 0) (upd a_right i 1) (upd a_down i (nI w)) (upd a_factor i 1) (upd a_offset i 0) a_files a_fileLength a_plain a_body a_residue a_tokens a_distances a_heads a_chain a_weight a_parent a_symbol a_codeLength a_codeOf a_lengthOf a_perLength a_before a_last := by
          intro d
          induction d with
          | zero =>
            intro q px hq p1 p2 m hm
            obtain ⟨m, rfl⟩ : ∃ z, m = z + 1 := ⟨m - 1, by omega⟩
            exact br_t (by rw [pk_mul]; exact nI_le (by omega) (by omega)) (K px (fun j hj => p1 j (by omega)) p2)
          | succ d ih =>
            intro q px hq p1 p2 m hm
            obtain ⟨m, rfl⟩ : ∃ z, m = z + 1 := ⟨m - 1, by omega⟩
            have ei : (bu (nI i).toNatClampNeg * 64) + nI q = nI (64 * b + q) := by
              rw [nI_clamp (by omega), hbi]
              have : nI b * 64 = nI (b * 64) := pk_mul b 64
              rw [this, nI_add, Nat.mul_comm b 64]
            refine br_f (by rw [pk_mul]; exact nI_ge (by omega) (by omega)) ⟨vp_in_nI hi (by decide), ?_⟩
            rw [ei]
            refine ⟨vp_in_nI (by omega) (by decide), nm_e (nm_r (nI_1 q) ?_)⟩
            rw [nI_clamp (by omega), pk_vb]
            refine ih (q + 1) _ (by omega) ?_ ?_ m (by omega)
            · intro j hj
              by_cases e : j = q
              · subst e; rw [pk_us]
              · rw [pk_un (by omega)]; exact p1 j (by omega)
            · intro j hj
              rw [pk_un (by omega)]
              exact p2 j hj
        exact ⟨w * h + 1, HL (w * h) 0 a_pixels (by omega) (fun j hj => absurd hj (Nat.not_lt_zero j)) (fun _ _ => rfl) _ (Nat.lt_succ_self _)⟩
      refine hX _ ?_
      intro px p1 p2
      have hin : vp_in (nI i) 9 := vp_in_nI (by omega) (by decide)
      refine zm_ou0 hi (br_t rfl (br_f c1 (br_f c2 (br_f c3 (br_t c4 ⟨hin, nm_e ⟨hin, nm_e ⟨hin, nm_e ?_⟩⟩⟩)))))
      rw [nI_clamp (by omega), zn_bo1]
      refine zm_ycr hi ?_
      intro vl q1 q2
      refine ⟨by rw [pk_us, pk_us], zr_mk (B := zu B i b) (zr_put H hus ?_ (by rw [zu_s]; exact b4) (by rw [zu_s]; exact hbi) (by rw [pk_us]; decide) ?_) (zm_Fimg F (fun j h1 h2 => q2 j (by omega)) (fun j h1 h2 => ⟨pk_un (by omega), pk_un (by omega), pk_un (by omega), rfl, rfl⟩))⟩
      · intro j hj hne
        refine ⟨zu_n hne, hbj j hne, pk_un hne, pk_un hne, pk_un hne, pk_un hne, pk_un hne, pk_un hne, pk_un hne, pk_un hne, pk_un hne, pk_un hne, fun q hq => q2 _ (by omega), fun hBj c hc => p2 _ ?_⟩
        have := hfr j hj hne
        omega
      · unfold zr_J
        rw [pk_us, pk_us, pk_us, pk_us, pk_us, pk_us, pk_us, pk_us, pk_us, zu_s]
        refine zm_plainV w1 w8 h1 h8 ?_
        intro x y hx hy
        show vl (64 * i + (8 * y + x)) = px (64 * b + (y * w + x)) &&& 255
        rw [q1 _ (by omega), p1 _ (zm_cell hx hy), bp_b]
    · exact br_f c4 (zm_ou0 hi (br_t rfl (br_f c1 (br_f c2 (br_f c3 (br_f c4 ⟨rfl, zr_mk H F⟩))))))
  · exact zm_sm0 hbad (br_t rfl (zm_ou1 hbad (br_f (by decide) ⟨rfl, zr_mk H F⟩)))
theorem zm_get {k : Nat} {B : Nat → Nat} (H : zr_IB B a_pixels a_users a_buffer a_wide a_high a_start a_right a_down a_factor a_offset a_value a_width a_height a_there) (F : zr_F a_files a_fileLength a_value a_width a_height a_there a_damaged a_form) (v1 v2 v3 : Int32) : wpX_get (fun r => wpY_get (fun r' => r' = r ∧ i_Rel k (f_bodyLength, f_bits, f_bitCount, f_readAt, f_readEnd, f_w, f_h, a_pixels, a_users, a_buffer, a_wide, a_high, a_start, a_right, a_down, a_factor, a_offset, a_files, a_fileLength, a_plain, a_body, a_residue, a_tokens, a_distances, a_heads, a_chain, a_weight, a_parent, a_symbol, a_codeLength, a_codeOf, a_lengthOf, a_perLength, a_before, a_last) (a_value, a_width, a_height, a_there, a_damaged, a_form)) (a_value, a_width, a_height, a_there, a_damaged, a_form) v1 v2 v3) (f_bodyLength, f_bits, f_bitCount, f_readAt, f_readEnd, f_w, f_h, a_pixels, a_users, a_buffer, a_wide, a_high, a_start, a_right, a_down, a_factor, a_offset, a_files, a_fileLength, a_plain, a_body, a_residue, a_tokens, a_distances, a_heads, a_chain, a_weight, a_parent, a_symbol, a_codeLength, a_codeOf, a_lengthOf, a_perLength, a_before, a_last) v1 v2 v3 := by
  unfold wpX_get wpY_get
  dsimp only
  rcases zm_ix v1 with ⟨i, hi, rfl⟩ | hbad
  · have hin : vp_in (nI i) 9 := vp_in_nI (by omega) (by decide)
    have ei : (nI i).toNatClampNeg = i := nI_clamp (by omega)
    rcases H.1 i hi with ⟨g1, g2, g3⟩ | ⟨g1, g2, g3, g4⟩
    · refine zm_ninone hi g2 (br_f (by decide) (zm_ou0 hi (br_t rfl ⟨hin, ?_⟩)))
      rw [ei]
      exact br_t g3 ⟨rfl, zr_mk H F⟩
    · obtain ⟨w, h, s, R, D, ⟨w1, w8, h1, h8⟩, ⟨e1, e2, e3, e4⟩, ⟨e5, e6, e7⟩, hRD, hfo, hc⟩ := g4
      refine zm_niok hi g1 g2 (br_t rfl ?_)
      rcases zm_ins v2 v3 w8 h8 with ⟨x, y, hx, hy, rfl, rfl⟩ | ho
      · obtain ⟨c, c1, c2, c3⟩ := hc x y hx hy
        refine zm_xin1 hi w8 h8 e1 e2 hx hy (br_f (by decide) (zm_value hi g1 g2 e5 e6 e7 c1 c2 ?_))
        refine zm_ou0 hi (br_t rfl ⟨hin, ?_⟩)
        rw [ei]
        refine br_f g3 (zm_yin1 hi w8 h8 e3 e4 hx hy (br_f (by decide) ?_))
        have ea : ((64 * nI i) + (8 * nI y)) + nI x = nI (64 * i + (8 * y + x)) := by
          have q1 : 64 * nI i = nI (64 * i) := pk_mul 64 i
          have q2 : 8 * nI y = nI (8 * y) := pk_mul 8 y
          rw [q1, q2, nI_add, nI_add, Nat.add_assoc]
        rw [ea]
        refine ⟨vp_in_nI (by omega) (by decide), ?_, zr_mk H F⟩
        rw [nI_clamp (by omega)]
        exact c3
      · refine zm_xin0 hi e1 e2 ho (br_t rfl (zm_ou0 hi (br_t rfl ⟨hin, ?_⟩)))
        rw [ei]
        exact br_f g3 (zm_yin0 hi e3 e4 ho (br_t rfl ⟨rfl, zr_mk H F⟩))
  · exact zm_nibad hbad (br_f (by decide) (zm_ou1 hbad (br_f (by decide) ⟨rfl, zr_mk H F⟩)))
theorem zm_set {k : Nat} {B : Nat → Nat} (H : zr_IB B a_pixels a_users a_buffer a_wide a_high a_start a_right a_down a_factor a_offset a_value a_width a_height a_there) (F : zr_F a_files a_fileLength a_value a_width a_height a_there a_damaged a_form) (v1 v2 v3 v4 : Int32) : wpX_set (fun r u' => wpY_set (fun r' v' => r' = r ∧ i_Rel k u' v') (a_value, a_width, a_height, a_there, a_damaged, a_form) v1 v2 v3 v4) (f_bodyLength, f_bits, f_bitCount, f_readAt, f_readEnd, f_w, f_h, a_pixels, a_users, a_buffer, a_wide, a_high, a_start, a_right, a_down, a_factor, a_offset, a_files, a_fileLength, a_plain, a_body, a_residue, a_tokens, a_distances, a_heads, a_chain, a_weight, a_parent, a_symbol, a_codeLength, a_codeOf, a_lengthOf, a_perLength, a_before, a_last) v1 v2 v3 v4 := by
  unfold wpX_set wpY_set
  dsimp only
  rcases zm_ix v1 with ⟨i, hi, rfl⟩ | hbad
  · have hin : vp_in (nI i) 9 := vp_in_nI (by omega) (by decide)
    have hin4 : vp_in (nI i) 4 := vp_in_nI (by omega) (by decide)
    have ei : (nI i).toNatClampNeg = i := nI_clamp (by omega)
    rcases H.1 i hi with ⟨g1, g2, g3⟩ | ⟨g1, g2, g3, g4⟩
    · refine zm_ninone hi g2 (br_f (by decide) (zm_ou0 hi (br_t rfl ⟨hin, ?_⟩)))
      rw [ei]
      exact br_t g3 ⟨rfl, zr_mk H F⟩
    · obtain ⟨w, h, s, R, D, ⟨w1, w8, h1, h8⟩, ⟨e1, e2, e3, e4⟩, _⟩ := g4
      refine zm_niok hi g1 g2 (br_t rfl ?_)
      rcases zm_ins v2 v3 w8 h8 with ⟨x, y, hx, hy, rfl, rfl⟩ | ho
      · refine zm_xin1 hi w8 h8 e1 e2 hx hy (br_f (by decide) ?_)
        refine zm_settle (a_value := a_value) (a_width := a_width) (a_height := a_height) (a_there := a_there) hi g1 H ?_
        intro fw fh pl B' px us bu wd hg st rt dn fc of H' b4 hown f1 f2 f3 f4 f5
        dsimp only
        rcases H'.1 i hi with ⟨q1, _⟩ | ⟨q1, q2, q3, q4⟩
        · omega
        obtain ⟨w', h', hsz, r1, r2, r3, r4, r5⟩ := zm_lies q4 f1 f2 f3 f4 f5
        have ew : w' = w := (nI_eq (by omega) (by omega)).mp (r3.symm.trans e3)
        have eh : h' = h := (nI_eq (by omega) (by omega)).mp (r4.symm.trans e4)
        subst ew eh
        have hcl := zm_cell hx hy
        have hwh : w' * h' ≤ 8 * 8 := Nat.mul_le_mul w8 h8
        refine ⟨hin4, hin4, nm_r (e' := nI (64 * B' i + (y * w' + x))) ?_ ⟨vp_in_nI (by omega) (by decide), nm_e ⟨vp_in_nI (by omega) (by decide), nm_e ?_⟩⟩⟩
        · rw [ei, q2, r1]
          have t1 : nI (B' i) * 64 = nI (B' i * 64) := pk_mul _ 64
          rw [t1, pk_mul, nI_add, nI_add, Nat.mul_comm (B' i) 64, Nat.add_assoc]
        · refine zm_ou0 hi (br_t rfl ⟨hin, ?_⟩)
          rw [ei]
          refine br_f g3 (zm_yin1 hi w8 h8 e3 e4 hx hy (br_f (by decide) ?_))
          have ea : ((64 * nI i) + (8 * nI y)) + nI x = nI (64 * i + (8 * y + x)) := by
            have t1 : 64 * nI i = nI (64 * i) := pk_mul 64 i
            have t2 : 8 * nI y = nI (8 * y) := pk_mul 8 y
            rw [t1, t2, nI_add, nI_add, Nat.add_assoc]
          rw [ea]
          refine ⟨vp_in_nI (by omega) (by decide), nm_e ⟨vp_in_nI (by omega) (by decide), nm_e ⟨?_, ?_⟩⟩⟩
          · rw [nI_clamp (by omega), nI_clamp (by omega)]
            exact r5 x y hx hy
          · rw [nI_clamp (by omega), nI_clamp (by omega), pk_vb]
            refine zr_mk (B := B') (zr_put (i := i) H' H'.2 ?_ q1 q2 g3 ?_) (zm_Fimg F (fun j z1 z2 => pk_un (by omega)) (fun j z1 z2 => ⟨rfl, rfl, rfl, rfl, rfl⟩))
            · intro j hj hne
              refine ⟨rfl, rfl, rfl, rfl, rfl, rfl, rfl, rfl, rfl, rfl, rfl, rfl, fun q hq => pk_un (by omega), fun hBj c hc => pk_un ?_⟩
              have := hown j hj hne
              omega
            · unfold zr_J
              rw [f3, f1, f2, f4, f5, r1, r2, r3, r4]
              refine zm_plainV w1 w8 h1 h8 ?_
              intro x' y' hx' hy'
              show upd a_value (64 * i + (8 * y + x)) (v4 &&& 255) (64 * i + (8 * y' + x')) = upd px (64 * B' i + (y * w' + x)) v4.toInt8.toInt32 (64 * B' i + (y' * w' + x')) &&& 255
              by_cases e : y' = y ∧ x' = x
              · obtain ⟨rfl, rfl⟩ := e
                rw [pk_us, pk_us, bp_b]
              · rw [pk_un (by omega), pk_un ?_]
                · exact r5 x' y' hx' hy'
                · intro z
                  have z2 : y' * w' + x' = y * w' + x := by omega
                  have d1 := zm_dm (y := y) hx
                  have d2 := zm_dm (y := y') hx'
                  rw [z2] at d2
                  exact e ⟨d2.1.symm.trans d1.1, d2.2.symm.trans d1.2⟩
      · refine zm_xin0 hi e1 e2 ho (br_t rfl (zm_ou0 hi (br_t rfl ⟨hin, ?_⟩)))
        rw [ei]
        exact br_f g3 (zm_yin0 hi e3 e4 ho (br_t rfl ⟨rfl, zr_mk H F⟩))
  · exact zm_nibad hbad (br_f (by decide) (zm_ou1 hbad (br_f (by decide) ⟨rfl, zr_mk H F⟩)))
end
end
section
/-! paint, shrink, level, image, same, copy -/
theorem zm_enc {w k k' : Nat} (hw : w ≤ 8) (hw1 : 1 ≤ w) (h : 8 * (k / w) + k % w = 8 * (k' / w) + k' % w) : k = k' := by
  have h1 : k % w < w := Nat.mod_lt _ (by omega)
  have h2 : k' % w < w := Nat.mod_lt _ (by omega)
  have h3 : k / w = k' / w := by omega
  have h4 : k % w = k' % w := by omega
  have h5 := Nat.div_add_mod' k w
  have h6 := Nat.div_add_mod' k' w
  rw [h3, h4] at h5
  exact h5.symm.trans h6
section
variable {f_bodyLength f_bits f_bitCount f_readAt f_readEnd f_w f_h : Int32} {a_pixels a_users a_buffer a_wide a_high a_start a_right a_down a_factor a_offset a_files a_fileLength a_plain a_body a_residue a_tokens a_distances a_heads a_chain a_weight a_parent a_symbol a_codeLength a_codeOf a_lengthOf a_perLength a_before a_last : Nat → Int32} {a_value a_width a_height a_there a_damaged a_form : Nat → Int32}
theorem zm_xpaint {post : Int32 → SX → Prop} {ct at0 : Nat} {v : Int32} (hct : ct ≤ 64) (hat : at0 + ct ≤ 320)
    (K : ∀ px, (∀ j, j < ct → px (at0 + j) = (v + nI j * (v >>> ((8 : Int32) &&& 31))).toInt8.toInt32) → (∀ q, q < at0 ∨ at0 + ct ≤ q → px q = a_pixels q) → post (nI ct) (f_bodyLength, f_bits, f_bitCount, f_readAt, f_readEnd, f_w, f_h, px, a_users, a_buffer, a_wide, a_high, a_start, a_right, a_down, a_factor, a_offset, a_files, a_fileLength, a_plain, a_body, a_residue, a_tokens, a_distances, a_heads, a_chain, a_weight, a_parent, a_symbol, a_codeLength, a_codeOf, a_lengthOf, a_perLength, a_before, a_last)) :
    ∃ m, wX_paint_80 post (nI ct) v f_bodyLength f_bits f_bitCount f_readAt f_readEnd f_w f_h m (nI at0) v 0 a_pixels a_users a_buffer a_wide a_high a_start a_right a_down a_factor a_offset a_files a_fileLength a_plain a_body a_residue a_tokens a_distances a_heads a_chain a_weight a_parent a_symbol a_codeLength a_codeOf a_lengthOf a_perLength a_before a_last := by
  have HL : ∀ d j px x8, j + d = ct → x8 = v + nI j * (v >>> ((8 : Int32) &&& 31)) → (∀ q, q < j → px (at0 + q) = (v + nI q * (v >>> ((8 : Int32) &&& 31))).toInt8.toInt32) → (∀ q, q < at0 ∨ at0 + ct ≤ q → px q = a_pixels q) → ∀ m, d < m →
      wX_paint_80 post (nI ct) v f_bodyLength f_bits f_bitCount f_readAt f_readEnd f_w f_h m (nI (at0 + j)) x8 (nI j) px a_users a_buffer a_wide a_high a_start a_right a_down a_factor a_offset a_files a_fileLength a_plain a_body a_residue a_tokens a_distances a_heads a_chain a_weight a_parent a_symbol a_codeLength a_codeOf a_lengthOf a_perLength a_before a_last := by
    intro d
    induction d with
    | zero =>
      intro j px x8 hj hx p1 p2 m hm
      obtain ⟨m, rfl⟩ : ∃ z, m = z + 1 := ⟨m - 1, by omega⟩
      exact br_t (nI_le (by omega) (by omega)) (K px (fun q hq => p1 q (by omega)) p2)
    | succ d ih =>
      intro j px x8 hj hx p1 p2 m hm
      obtain ⟨m, rfl⟩ : ∃ z, m = z + 1 := ⟨m - 1, by omega⟩
      refine br_f (nI_ge (by omega) (by omega)) (nm_r (nI_1 _) ⟨vp_in_nI (by omega) (by decide), nm_e (nm_e (nm_r (nI_1 j) ?_))⟩)
      rw [nI_clamp (by omega), pk_vb]
      refine ih (j + 1) _ _ (by omega) ?_ ?_ ?_ m (by omega)
      · rw [hx, ← nI_1 j, Int32.add_mul, Int32.one_mul, Int32.add_assoc]
      · intro q hq
        by_cases e : q = j
        · subst e; rw [pk_us, hx]
        · rw [pk_un (by omega)]; exact p1 q (by omega)
      · intro q hq
        rw [pk_un (by omega)]
        exact p2 q hq
  refine ⟨ct + 1, HL ct 0 a_pixels v (by omega) ?_ (fun q hq => absurd hq (Nat.not_lt_zero q)) (fun _ _ => rfl) (ct + 1) (by omega)⟩
  rw [nI_0, Int32.zero_mul, Int32.add_zero]
theorem zm_ypaint {post : Int32 → SY → Prop} {i fr ct w h : Nat} {v : Int32} (hi : i < 4) (hw1 : 1 ≤ w) (hw : w ≤ 8) (hh : h ≤ 8) (hct : fr + ct ≤ w * h)
    (K : ∀ vl, (∀ k, fr ≤ k → k < fr + ct → vl (64 * i + (8 * (k / w) + k % w)) = (v + nI (k - fr) * (v >>> ((8 : Int32) &&& 31))) &&& 255) →
      (∀ q, (∀ k, fr ≤ k → k < fr + ct → q ≠ 64 * i + (8 * (k / w) + k % w)) → vl q = a_value q) → post (nI ct) (vl, a_width, a_height, a_there, a_damaged, a_form)) :
    ∃ m, wY_paint_63 post (nI i) (nI fr) (nI ct) v (nI w) m 0 a_value a_width a_height a_there a_damaged a_form := by
  have hwh : w * h ≤ 8 * 8 := Nat.mul_le_mul hw hh
  have HL : ∀ d j vl, j + d = ct → (∀ k, fr ≤ k → k < fr + j → vl (64 * i + (8 * (k / w) + k % w)) = (v + nI (k - fr) * (v >>> ((8 : Int32) &&& 31))) &&& 255) →
      (∀ q, (∀ k, fr ≤ k → k < fr + ct → q ≠ 64 * i + (8 * (k / w) + k % w)) → vl q = a_value q) → ∀ m, d < m → wY_paint_63 post (nI i) (nI fr) (nI ct) v (nI w) m (nI j) vl a_width a_height a_there a_damaged a_form := by
    intro d
    induction d with
    | zero =>
      intro j vl hj p1 p2 m hm
      obtain ⟨m, rfl⟩ : ∃ z, m = z + 1 := ⟨m - 1, by omega⟩
      refine br_t (nI_le (by omega) (by omega)) (K vl (fun k h1 h2 => p1 k h1 (by omega)) p2)
    | succ d ih =>
      intro j vl hj p1 p2 m hm
      obtain ⟨m, rfl⟩ : ∃ z, m = z + 1 := ⟨m - 1, by omega⟩
      have hk1 : (fr + j) / w < h := Nat.div_lt_of_lt_mul (by omega)
      have hk2 : (fr + j) % w < w := Nat.mod_lt _ (by omega)
      have ea : ((64 * nI i) + (8 * (nI (fr + j) / nI w))) + (nI (fr + j) - nI (fr + j) / nI w * nI w) = nI (64 * i + (8 * ((fr + j) / w) + (fr + j) % w)) := by
        rw [pk_rem (by omega) (by omega) (by omega), pk_div (by omega) (by omega) (by omega)]
        have t1 : 64 * nI i = nI (64 * i) := pk_mul 64 i
        have t2 : 8 * nI ((fr + j) / w) = nI (8 * ((fr + j) / w)) := pk_mul 8 _
        rw [t1, t2, nI_add, nI_add, Nat.add_assoc]
      refine br_f (nI_ge (by omega) (by omega)) (nm_r (nI_add fr j) (br_f (nI_nle (by omega) (by omega)) ⟨nI_ne0 (by omega) (by omega), nI_ne0 (by omega) (by omega), ?_⟩))
      rw [ea]
      refine ⟨vp_in_nI (by omega) (by decide), nm_e (nm_r (nI_1 j) ?_)⟩
      rw [nI_clamp (by omega)]
      refine ih (j + 1) _ (by omega) ?_ ?_ m (by omega)
      · intro k h1 h2
        by_cases e : k = fr + j
        · subst e
          rw [pk_us, Nat.add_sub_cancel_left]
        · rw [pk_un ?_]
          · exact p1 k h1 (by omega)
          · intro z
            exact e (zm_enc hw hw1 (by omega))
      · intro q hq
        rw [pk_un (hq (fr + j) (by omega) (by omega))]
        exact p2 q hq
  exact ⟨ct + 1, HL ct 0 a_value (by omega) (fun k h1 h2 => absurd h2 (by omega)) (fun _ _ => rfl) (ct + 1) (by omega)⟩
theorem zm_paint {k : Nat} {B : Nat → Nat} (H : zr_IB B a_pixels a_users a_buffer a_wide a_high a_start a_right a_down a_factor a_offset a_value a_width a_height a_there) (F : zr_F a_files a_fileLength a_value a_width a_height a_there a_damaged a_form) (v1 v2 v3 v4 : Int32) : wpX_paint (fun r u' => wpY_paint (fun r' v' => r' = r ∧ i_Rel k u' v') (a_value, a_width, a_height, a_there, a_damaged, a_form) v1 v2 v3 v4) (f_bodyLength, f_bits, f_bitCount, f_readAt, f_readEnd, f_w, f_h, a_pixels, a_users, a_buffer, a_wide, a_high, a_start, a_right, a_down, a_factor, a_offset, a_files, a_fileLength, a_plain, a_body, a_residue, a_tokens, a_distances, a_heads, a_chain, a_weight, a_parent, a_symbol, a_codeLength, a_codeOf, a_lengthOf, a_perLength, a_before, a_last) v1 v2 v3 v4 := by
  unfold wpX_paint
  dsimp only
  rcases zm_ix v1 with ⟨i, hi, rfl⟩ | hbad
  · have hin : vp_in (nI i) 9 := vp_in_nI (by omega) (by decide)
    have hin4 : vp_in (nI i) 4 := vp_in_nI (by omega) (by decide)
    have ei : (nI i).toNatClampNeg = i := nI_clamp (by omega)
    rw [ei]
    rcases H.1 i hi with ⟨g1, g2, g3⟩ | ⟨g1, g2, g3, g4⟩
    · refine zm_ninone hi g2 (br_f (by decide) ?_)
      unfold wpY_paint
      dsimp only
      rw [ei]
      exact zm_ou0 hi (br_t rfl ⟨hin, br_t g3 ⟨rfl, zr_mk H F⟩⟩)
    · obtain ⟨w, h, s, R, D, ⟨w1, w8, h1, h8⟩, ⟨e1, e2, e3, e4⟩, _⟩ := g4
      have hwh : w * h ≤ 8 * 8 := Nat.mul_le_mul w8 h8
      refine zm_niok hi g1 g2 (br_t rfl ⟨hin4, hin4, nm_r (e' := nI (w * h)) (by rw [e1, e2, pk_mul]) ?_⟩)
      have hpl : a_width i * a_height i = nI (w * h) := by rw [e3, e4, pk_mul]
      have Y0 : ∀ post : Int32 → SY → Prop, ((v3 < 1 → post (-1) (a_value, a_width, a_height, a_there, a_damaged, a_form)) ∧ (¬ v3 < 1 → ((v2 < 0 → post (-1) (a_value, a_width, a_height, a_there, a_damaged, a_form)) ∧ (¬ v2 < 0 → ((nI (w * h) ≤ v2 → post (-1) (a_value, a_width, a_height, a_there, a_damaged, a_form)) ∧ (¬ nI (w * h) ≤ v2 → ((v3 ≤ nI (w * h) - v2 → (∃ n63, wY_paint_63 post (nI i) v2 v3 v4 (nI w) n63 0 a_value a_width a_height a_there a_damaged a_form)) ∧ (¬ v3 ≤ nI (w * h) - v2 → post (-1) (a_value, a_width, a_height, a_there, a_damaged, a_form))))))))) →
          wpY_paint post (a_value, a_width, a_height, a_there, a_damaged, a_form) (nI i) v2 v3 v4 := by
        intro post hh
        unfold wpY_paint
        dsimp only
        rw [ei]
        refine zm_ou0 hi (br_t rfl ⟨hin, br_f g3 ⟨hh.1, fun z1 => ⟨(hh.2 z1).1, fun z2 => zm_places rfl (by omega) ?_⟩⟩⟩)
        rw [hpl]
        refine ⟨((hh.2 z1).2 z2).1, fun z3 => zm_places rfl (by omega) ?_⟩
        rw [hpl]
        exact ⟨fun z4 => ⟨hin, nm_r e3 ((((hh.2 z1).2 z2).2 z3).1 z4)⟩, (((hh.2 z1).2 z2).2 z3).2⟩
      by_cases c1 : v3 < 1
      · exact br_t c1 (Y0 _ (br_t c1 ⟨rfl, zr_mk H F⟩))
      refine br_f c1 ?_
      by_cases c2 : v2 < 0
      · exact br_t c2 (Y0 _ (br_f c1 (br_t c2 ⟨rfl, zr_mk H F⟩)))
      refine br_f c2 ?_
      by_cases c3 : nI (w * h) ≤ v2
      · exact br_t c3 (Y0 _ (br_f c1 (br_f c2 (br_t c3 ⟨rfl, zr_mk H F⟩))))
      refine br_f c3 ?_
      by_cases c4 : v3 ≤ nI (w * h) - v2
      · refine br_t c4 ?_
        obtain ⟨fr, hfr, rfl, _⟩ := pk_mu c2 c3 (by omega)
        have hc1 : ∃ ct : Nat, 1 ≤ ct ∧ fr + ct ≤ w * h ∧ v3 = nI ct := by
          have q0 : (0 : Int32).toInt = 0 := by decide
          have q1 : (1 : Int32).toInt = 1 := by decide
          have n1 : ¬ v3.toInt < 1 := by rw [← q1, ← Int32.lt_iff_toInt_lt]; exact c1
          have n0 : ¬ v3 < 0 := by rw [Int32.lt_iff_toInt_lt, q0]; omega
          obtain ⟨j, hj, rfl⟩ := nI_of n0
          rw [pk_sub (by omega), nI_leI hj (by omega)] at c4
          rw [nI_toInt hj] at n1
          exact ⟨j, by omega, by omega, rfl⟩
        obtain ⟨ct, ct1, ct2, rfl⟩ := hc1
        refine zm_settle (a_value := a_value) (a_width := a_width) (a_height := a_height) (a_there := a_there) hi g1 H ?_
        intro fw fh pl B' px us bu wd hg st rt dn fc of H' b4 hown f1 f2 f3 f4 f5
        dsimp only
        rcases H'.1 i hi with ⟨q1, _⟩ | ⟨q1, q2, q3, q4⟩
        · omega
        obtain ⟨w', h', hsz, r1, r2, r3, r4, r5⟩ := zm_lies q4 f1 f2 f3 f4 f5
        have ew : w' = w := (nI_eq (by omega) (by omega)).mp (r3.symm.trans e3)
        have eh : h' = h := (nI_eq (by omega) (by omega)).mp (r4.symm.trans e4)
        subst ew eh
        refine ⟨hin4, nm_r (e' := nI (64 * B' i + fr)) ?_ ?_⟩
        · rw [q2]
          have t1 : nI (B' i) * 64 = nI (B' i * 64) := pk_mul _ 64
          rw [t1, nI_add, Nat.mul_comm (B' i) 64]
        · refine zm_xpaint (at0 := 64 * B' i + fr) (by omega) (by omega) ?_
          intro px2 p1 p2
          refine Y0 _ (br_f c1 (br_f c2 (br_f c3 (br_t c4 ?_))))
          refine zm_ypaint (h := h') hi w1 w8 h8 ct2 ?_
          intro vl y1 y2
          have henc : ∀ kk, kk < w' * h' → 8 * (kk / w') + kk % w' < 64 := by
            intro kk hkk
            have a1 : kk / w' < h' := Nat.div_lt_of_lt_mul hkk
            have a2 : kk % w' < w' := Nat.mod_lt _ (by omega)
            omega
          refine ⟨rfl, zr_mk (B := B') (zr_put (i := i) H' H'.2 ?_ q1 q2 g3 ?_) (zm_Fimg F (fun j z1 z2 => y2 j (fun kk k1 k2 => ?_)) (fun j z1 z2 => ⟨rfl, rfl, rfl, rfl, rfl⟩))⟩
          · intro j hj hne
            refine ⟨rfl, rfl, rfl, rfl, rfl, rfl, rfl, rfl, rfl, rfl, rfl, rfl, fun q hq => y2 _ (fun kk k1 k2 => ?_), fun hBj c hc => p2 _ ?_⟩
            · have := henc kk (by omega)
              omega
            · have := hown j hj hne
              omega
          · unfold zr_J
            rw [f3, f1, f2, f4, f5, r1, r2, r3, r4]
            refine zm_plainV w1 w8 h1 h8 ?_
            intro x' y' hx' hy'
            show vl (64 * i + (8 * y' + x')) = px2 (64 * B' i + (y' * w' + x')) &&& 255
            obtain ⟨d1, d2⟩ := zm_dm (y := y') hx'
            have hcl := zm_cell hx' hy'
            by_cases e : fr ≤ y' * w' + x' ∧ y' * w' + x' < fr + ct
            · have a1 := y1 _ e.1 e.2
              rw [d1, d2] at a1
              have a2 := p1 (y' * w' + x' - fr) (by omega)
              rw [show 64 * B' i + fr + (y' * w' + x' - fr) = 64 * B' i + (y' * w' + x') by omega] at a2
              rw [a1, a2, bp_b]
            · rw [p2 _ (by omega), y2 _ ?_]
              · exact r5 x' y' hx' hy'
              · intro kk k1 k2 z
                have a1 : y' * w' + x' = kk := zm_enc w8 w1 (by rw [d1, d2]; omega)
                omega
          · have := henc kk (by omega)
            omega
      · exact br_f c4 (Y0 _ (br_f c1 (br_f c2 (br_f c3 (br_f c4 ⟨rfl, zr_mk H F⟩)))))
  · refine zm_nibad hbad (br_f (by decide) ?_)
    unfold wpY_paint
    exact zm_ou1 hbad (br_f (by decide) ⟨rfl, zr_mk H F⟩)
end
end
section
/-! shrink, level, image, same, copy -/
section
variable {f_bodyLength f_bits f_bitCount f_readAt f_readEnd f_w f_h : Int32} {a_pixels a_users a_buffer a_wide a_high a_start a_right a_down a_factor a_offset a_files a_fileLength a_plain a_body a_residue a_tokens a_distances a_heads a_chain a_weight a_parent a_symbol a_codeLength a_codeOf a_lengthOf a_perLength a_before a_last : Nat → Int32} {a_value a_width a_height a_there a_damaged a_form : Nat → Int32}
theorem zm_shrink {k : Nat} {B : Nat → Nat} (H : zr_IB B a_pixels a_users a_buffer a_wide a_high a_start a_right a_down a_factor a_offset a_value a_width a_height a_there) (F : zr_F a_files a_fileLength a_value a_width a_height a_there a_damaged a_form) (v1 v2 v3 : Int32) : wpX_shrink (fun r u' => wpY_shrink (fun r' v' => r' = r ∧ i_Rel k u' v') (a_value, a_width, a_height, a_there, a_damaged, a_form) v1 v2 v3) (f_bodyLength, f_bits, f_bitCount, f_readAt, f_readEnd, f_w, f_h, a_pixels, a_users, a_buffer, a_wide, a_high, a_start, a_right, a_down, a_factor, a_offset, a_files, a_fileLength, a_plain, a_body, a_residue, a_tokens, a_distances, a_heads, a_chain, a_weight, a_parent, a_symbol, a_codeLength, a_codeOf, a_lengthOf, a_perLength, a_before, a_last) v1 v2 v3 := by
  unfold wpX_shrink wpY_shrink
  dsimp only
  rcases zm_ix v1 with ⟨i, hi, rfl⟩ | hbad
  · have hin : vp_in (nI i) 9 := vp_in_nI (by omega) (by decide)
    have hin4 : vp_in (nI i) 4 := vp_in_nI (by omega) (by decide)
    have ei : (nI i).toNatClampNeg = i := nI_clamp (by omega)
    rw [ei]
    rcases H.1 i hi with ⟨g1, g2, g3⟩ | ⟨g1, g2, g3, g4⟩
    · exact zm_ninone hi g2 (br_f (by decide) (zm_ou0 hi (br_t rfl ⟨hin, br_t g3 ⟨rfl, zr_mk H F⟩⟩)))
    · obtain ⟨w, h, s, R, D, ⟨w1, w8, h1, h8⟩, ⟨e1, e2, e3, e4⟩, ⟨e5, e6, e7⟩, hRD, hfo, hc⟩ := g4
      refine zm_niok hi g1 g2 (br_t rfl ?_)
      rw [e3, e4]
      rcases zm_ins (v2 - 1) (v3 - 1) w8 h8 with ⟨x, y, hx, hy, ex, ey⟩ | ho
      · have a2 : v2 = nI (x + 1) := by rw [← nI_1, ← ex, Int32.sub_add_cancel]
        have a3 : v3 = nI (y + 1) := by rw [← nI_1, ← ey, Int32.sub_add_cancel]
        subst a2 a3
        rw [ex, ey]
        refine zm_xin1 hi w8 h8 e1 e2 hx hy (br_f (by decide) ⟨hin4, nm_e ⟨hin4, nm_e ?_⟩⟩)
        rw [zn_vb2 (by omega), zn_vb2 (by omega)]
        refine zm_ou0 hi (br_t rfl ⟨hin, br_f g3 (br_f (nI_nlt (b := 1) (by omega) (by omega)) ⟨hin, br_f (nI_nlt (by omega) (by omega)) (br_f (nI_nlt (b := 1) (by omega) (by omega)) ⟨hin, br_t (nI_le (by omega) (by omega)) ⟨hin, nm_e ⟨hin, nm_e (zm_places rfl (by omega) ?_)⟩⟩⟩)⟩)⟩)
        refine ⟨by rw [pk_us, pk_us], zr_mk (B := B) (zr_put (i := i) H H.2 ?_ g1 g2 g3 ?_) (zm_Fimg F (fun j z1 z2 => rfl) (fun j z1 z2 => ⟨pk_un (by omega), pk_un (by omega), rfl, rfl, rfl⟩))⟩
        · intro j hj hne
          exact ⟨rfl, rfl, rfl, pk_un hne, pk_un hne, rfl, rfl, rfl, rfl, rfl, pk_un hne, pk_un hne, fun q hq => rfl, fun hBj c hc => rfl⟩
        · unfold zr_J
          rw [pk_us, pk_us, pk_us, pk_us]
          exact ⟨x + 1, y + 1, s, R, D, by omega, ⟨rfl, rfl, rfl, rfl⟩, ⟨e5, e6, e7⟩, hRD, hfo, fun x' y' hx' hy' => hc x' y' (by omega) (by omega)⟩
      · refine zm_xin0 hi e1 e2 ho (br_t rfl (zm_ou0 hi (br_t rfl ⟨hin, br_f g3 ?_⟩)))
        by_cases c1 : v2 < 1
        · exact br_t c1 ⟨rfl, zr_mk H F⟩
        refine br_f c1 ⟨hin, ?_⟩
        by_cases c2 : nI w < v2
        · exact br_t c2 ⟨rfl, zr_mk H F⟩
        refine br_f c2 ?_
        by_cases c3 : v3 < 1
        · exact br_t c3 ⟨rfl, zr_mk H F⟩
        refine br_f c3 ⟨hin, ?_⟩
        by_cases c4 : v3 ≤ nI h
        · exfalso
          have le8 : ∀ n : Nat, n ≤ 8 → nI n ≤ 8 := fun n hn => nI_le (b := 8) hn (by decide)
          obtain ⟨a, a1, a8, rfl⟩ := zm_rng c1 (Int32.le_trans (Int32.not_lt.mp c2) (le8 w w8))
          obtain ⟨b, b1, b8, rfl⟩ := zm_rng c3 (Int32.le_trans c4 (le8 h h8))
          rw [nI_ltI (by omega) (by omega)] at c2
          rw [nI_leI (by omega) (by omega)] at c4
          have t1 : nI a - 1 = nI (a - 1) := pk_sub (b := 1) (by omega)
          have t2 : nI b - 1 = nI (b - 1) := pk_sub (b := 1) (by omega)
          unfold zm_out at ho
          rw [t1, t2] at ho
          rcases ho with z | z | z | z
          · exact nI_pos (by omega) z
          · exact nI_ge (by omega) (by omega) z
          · exact nI_pos (by omega) z
          · exact nI_ge (by omega) (by omega) z
        · exact br_f c4 ⟨rfl, zr_mk H F⟩
  · exact zm_nibad hbad (br_f (by decide) (zm_ou1 hbad (br_f (by decide) ⟨rfl, zr_mk H F⟩)))
theorem zm_ylevel {post : Int32 → SY → Prop} {i : Nat} {f o : Int32} (hi : i < 4) (K : ∀ vl, (∀ k, k < 64 → vl (64 * i + k) = ((a_value (64 * i + k) * f) + o) &&& 255) → (∀ j, j < 64 * i ∨ 64 * i + 64 ≤ j → vl j = a_value j) → post (a_width i * a_height i) (vl, a_width, a_height, a_there, a_damaged, a_form)) :
    ∃ m, wY_level_27 post (nI i) f o m (nI (64 * i)) a_value a_width a_height a_there a_damaged a_form := by
  have e64 : (64 * nI i) + 64 = nI (64 * i + 64) := by
    have : 64 * nI i = nI (64 * i) := pk_mul 64 i
    rw [this]
    exact nI_add _ 64
  have HL : ∀ d k vl, k + d = 64 → (∀ j, j < k → vl (64 * i + j) = ((a_value (64 * i + j) * f) + o) &&& 255) → (∀ j, j < 64 * i ∨ 64 * i + k ≤ j → vl j = a_value j) → ∀ m, d < m → wY_level_27 post (nI i) f o m (nI (64 * i + k)) vl a_width a_height a_there a_damaged a_form := by
    intro d
    induction d with
    | zero =>
      intro k vl hk h1 h2 m hm
      obtain ⟨m, rfl⟩ : ∃ z, m = z + 1 := ⟨m - 1, by omega⟩
      have ek : k = 64 := by omega
      subst ek
      exact br_t (by rw [e64]; exact nI_le (by omega) (by omega)) (zm_places rfl (by omega) (K vl h1 h2))
    | succ d ih =>
      intro k vl hk h1 h2 m hm
      obtain ⟨m, rfl⟩ : ∃ z, m = z + 1 := ⟨m - 1, by omega⟩
      refine br_f (by rw [e64]; exact nI_ge (by omega) (by omega)) ⟨vp_in_nI (by omega) (by decide), vp_in_nI (by omega) (by decide), nm_e (nm_r (nI_1 _) ?_)⟩
      rw [nI_clamp (by omega)]
      refine ih (k + 1) _ (by omega) ?_ ?_ m (by omega)
      · intro j hj
        by_cases e : j = k
        · subst e
          rw [pk_us, h2 _ (by omega)]
        · rw [pk_un (by omega)]; exact h1 j (by omega)
      · intro j hj
        rw [pk_un (by omega)]
        exact h2 j (by omega)
  exact ⟨65, HL 64 0 a_value (by omega) (fun j hj => absurd hj (Nat.not_lt_zero j)) (fun _ _ => rfl) 65 (by omega)⟩
theorem zm_lev (p f o a b : Int32) : (((((p * f) + o) &&& 255) * a) + b) &&& 255 = ((p * (f * a).toInt8.toInt32) + ((o * a) + b).toInt8.toInt32) &&& 255 := by
  apply zn_e255
  rw [Int32.toInt8_add, Int32.toInt8_mul, zn_m255, Int32.toInt8_add, Int32.toInt8_mul, Int32.toInt8_add, Int32.toInt8_mul, Int8.toInt8_toInt32, Int8.toInt8_toInt32, Int32.toInt8_mul, Int32.toInt8_add, Int32.toInt8_mul, Int8.add_mul, Int8.mul_assoc, Int8.add_assoc]
theorem zm_level {k : Nat} {B : Nat → Nat} (H : zr_IB B a_pixels a_users a_buffer a_wide a_high a_start a_right a_down a_factor a_offset a_value a_width a_height a_there) (F : zr_F a_files a_fileLength a_value a_width a_height a_there a_damaged a_form) (v1 v2 v3 : Int32) : wpX_level (fun r u' => wpY_level (fun r' v' => r' = r ∧ i_Rel k u' v') (a_value, a_width, a_height, a_there, a_damaged, a_form) v1 v2 v3) (f_bodyLength, f_bits, f_bitCount, f_readAt, f_readEnd, f_w, f_h, a_pixels, a_users, a_buffer, a_wide, a_high, a_start, a_right, a_down, a_factor, a_offset, a_files, a_fileLength, a_plain, a_body, a_residue, a_tokens, a_distances, a_heads, a_chain, a_weight, a_parent, a_symbol, a_codeLength, a_codeOf, a_lengthOf, a_perLength, a_before, a_last) v1 v2 v3 := by
  unfold wpX_level wpY_level
  dsimp only
  rcases zm_ix v1 with ⟨i, hi, rfl⟩ | hbad
  · have hin : vp_in (nI i) 9 := vp_in_nI (by omega) (by decide)
    have hin4 : vp_in (nI i) 4 := vp_in_nI (by omega) (by decide)
    have ei : (nI i).toNatClampNeg = i := nI_clamp (by omega)
    rw [ei]
    rcases H.1 i hi with ⟨g1, g2, g3⟩ | ⟨g1, g2, g3, g4⟩
    · exact zm_ninone hi g2 (br_f (by decide) (zm_ou0 hi (br_t rfl ⟨hin, br_t g3 ⟨rfl, zr_mk H F⟩⟩)))
    · obtain ⟨w, h, s, R, D, ⟨w1, w8, h1, h8⟩, ⟨e1, e2, e3, e4⟩, ⟨e5, e6, e7⟩, hRD, hfo, hc⟩ := g4
      refine zm_niok hi g1 g2 (br_t rfl ⟨hin4, hin4, nm_e ⟨hin4, hin4, nm_e ⟨hin4, hin4, ?_⟩⟩⟩)
      rw [pk_vb, pk_vb]
      have e64 : 64 * nI i = nI (64 * i) := pk_mul 64 i
      refine zm_ou0 hi (br_t rfl ⟨hin, br_f g3 (nm_r e64 (zm_ylevel hi ?_))⟩)
      intro vl y1 y2
      refine ⟨by rw [e1, e2, e3, e4], zr_mk (B := B) (zr_put (i := i) H H.2 ?_ g1 g2 g3 ?_) (zm_Fimg F (fun j z1 z2 => y2 j (by omega)) (fun j z1 z2 => ⟨rfl, rfl, rfl, rfl, rfl⟩))⟩
      · intro j hj hne
        exact ⟨rfl, rfl, rfl, rfl, rfl, rfl, rfl, rfl, pk_un hne, pk_un hne, rfl, rfl, fun q hq => y2 _ (by omega), fun hBj c hc => rfl⟩
      · unfold zr_J
        rw [pk_us, pk_us]
        refine ⟨w, h, s, R, D, ⟨w1, w8, h1, h8⟩, ⟨e1, e2, e3, e4⟩, ⟨e5, e6, e7⟩, hRD, ⟨zn_B8 _, zn_B8 _⟩, fun x y hx hy => ?_⟩
        obtain ⟨c, c1, c2, c3⟩ := hc x y hx hy
        refine ⟨c, c1, c2, ?_⟩
        show vl (64 * i + (8 * y + x)) = _
        rw [y1 _ (by omega)]
        refine Eq.trans ?_ (zm_lev (a_pixels (64 * B i + c)) (a_factor i) (a_offset i) v2 v3)
        rw [← c3]
  · exact zm_nibad hbad (br_f (by decide) (zm_ou1 hbad (br_f (by decide) ⟨rfl, zr_mk H F⟩)))
theorem zm_image {k : Nat} {B : Nat → Nat} (H : zr_IB B a_pixels a_users a_buffer a_wide a_high a_start a_right a_down a_factor a_offset a_value a_width a_height a_there) (F : zr_F a_files a_fileLength a_value a_width a_height a_there a_damaged a_form) (v1 v2 : Int32) : wpX_image (fun r => wpY_image (fun r' => r' = r ∧ i_Rel k (f_bodyLength, f_bits, f_bitCount, f_readAt, f_readEnd, f_w, f_h, a_pixels, a_users, a_buffer, a_wide, a_high, a_start, a_right, a_down, a_factor, a_offset, a_files, a_fileLength, a_plain, a_body, a_residue, a_tokens, a_distances, a_heads, a_chain, a_weight, a_parent, a_symbol, a_codeLength, a_codeOf, a_lengthOf, a_perLength, a_before, a_last) (a_value, a_width, a_height, a_there, a_damaged, a_form)) (a_value, a_width, a_height, a_there, a_damaged, a_form) v1 v2) (f_bodyLength, f_bits, f_bitCount, f_readAt, f_readEnd, f_w, f_h, a_pixels, a_users, a_buffer, a_wide, a_high, a_start, a_right, a_down, a_factor, a_offset, a_files, a_fileLength, a_plain, a_body, a_residue, a_tokens, a_distances, a_heads, a_chain, a_weight, a_parent, a_symbol, a_codeLength, a_codeOf, a_lengthOf, a_perLength, a_before, a_last) v1 v2 := by
  unfold wpX_image wpY_image
  dsimp only
  rcases zm_ix v1 with ⟨i, hi, rfl⟩ | hbad
  · have hin : vp_in (nI i) 9 := vp_in_nI (by omega) (by decide)
    have hin4 : vp_in (nI i) 4 := vp_in_nI (by omega) (by decide)
    have ei : (nI i).toNatClampNeg = i := nI_clamp (by omega)
    rw [ei]
    refine zm_sm1 hi (br_f (by decide) ?_)
    by_cases c1 : v2 < 0
    · exact br_t c1 (zm_ou0 hi (br_t rfl (br_t c1 ⟨rfl, zr_mk H F⟩)))
    refine br_f c1 ?_
    by_cases c2 : v2 ≤ 2
    · refine br_t c2 ⟨hin4, ?_⟩
      rcases H.1 i hi with ⟨g1, g2, g3⟩ | ⟨g1, g2, g3, g4⟩
      · rw [g2]
        exact br_f (by decide) (zm_ou0 hi (br_t rfl (br_f c1 (br_t c2 ⟨hin, br_t g3 ⟨rfl, zr_mk H F⟩⟩))))
      · obtain ⟨w, h, s, R, D, ⟨w1, w8, h1, h8⟩, ⟨e1, e2, e3, e4⟩, _⟩ := g4
        rw [g2, e1, e2, e3, e4]
        refine br_t (nI_pos' (by omega)) ?_
        by_cases c3 : v2 = 0
        · exact br_t c3 (zm_ou0 hi (br_t rfl (br_f c1 (br_t c2 ⟨hin, br_f g3 (br_t c3 ⟨rfl, zr_mk H F⟩)⟩))))
        refine br_f c3 ?_
        by_cases c4 : v2 = 1
        · exact br_t c4 ⟨hin4, zm_ou0 hi (br_t rfl (br_f c1 (br_t c2 ⟨hin, br_f g3 (br_f c3 (br_t c4 ⟨hin, rfl, zr_mk H F⟩))⟩)))⟩
        · exact br_f c4 ⟨hin4, zm_ou0 hi (br_t rfl (br_f c1 (br_t c2 ⟨hin, br_f g3 (br_f c3 (br_f c4 ⟨hin, rfl, zr_mk H F⟩))⟩)))⟩
    · exact br_f c2 (zm_ou0 hi (br_t rfl (br_f c1 (br_f c2 ⟨rfl, zr_mk H F⟩))))
  · exact zm_sm0 hbad (br_t rfl (zm_ou1 hbad (br_f (by decide) ⟨rfl, zr_mk H F⟩)))
/-- the comparison, both sides at once -/
theorem zm_cmp {B : Nat → Nat} {a b w h : Nat} (ha : a < 4) (hb : b < 4) (ga : B a < 4) (gb : B b < 4) (ba : a_buffer a = nI (B a)) (bb : a_buffer b = nI (B b))
    (Ja : zr_J a (B a) a_pixels a_wide a_high a_start a_right a_down a_factor a_offset a_value a_width a_height) (Jb : zr_J b (B b) a_pixels a_wide a_high a_start a_right a_down a_factor a_offset a_value a_width a_height)
    (w8 : w ≤ 8) (h8 : h ≤ 8) (wa : a_wide a = nI w) (wb : a_wide b = nI w) (va : a_high a = nI h) (vb : a_high b = nI h) (ya : a_width a = nI w) (yb : a_height a = nI h) :
    ∃ r, (∀ post : Int32 → Prop, post r → ∃ m, wX_same_68 post (nI a) (nI b) f_bodyLength f_bits f_bitCount f_readAt f_readEnd f_w f_h a_pixels a_users a_buffer a_wide a_high a_start a_right a_down a_factor a_offset a_files a_fileLength a_plain a_body a_residue a_tokens a_distances a_heads a_chain a_weight a_parent a_symbol a_codeLength a_codeOf a_lengthOf a_perLength a_before a_last m 0) ∧ (∀ post : Int32 → Prop, post r → ∃ m, wY_same_71 post (nI a) (nI b) a_value a_width a_height a_there a_damaged a_form m 0) := by
  have ia4 : vp_in (nI a) 4 := vp_in_nI (by omega) (by decide)
  have ia9 : vp_in (nI a) 9 := vp_in_nI (by omega) (by decide)
  have ea : (nI a).toNatClampNeg = a := nI_clamp (by omega)
  obtain ⟨w', h', s, R, D, z1, ⟨t1, t2, _⟩, ⟨s1, s2, s3⟩, _, _, hca⟩ := Ja
  obtain ⟨w'', h'', s', R', D', z1', ⟨t1', t2', _⟩, ⟨s1', s2', s3'⟩, _, _, hcb⟩ := Jb
  have q1 : w' = w := (nI_eq (by omega) (by omega)).mp (t1.symm.trans wa)
  have q2 : h' = h := (nI_eq (by omega) (by omega)).mp (t2.symm.trans va)
  have q3 : w'' = w := (nI_eq (by omega) (by omega)).mp (t1'.symm.trans wb)
  have q4 : h'' = h := (nI_eq (by omega) (by omega)).mp (t2'.symm.trans vb)
  subst q1 q2 q3 q4
  have adr : ∀ i x y : Nat, ((64 * nI i) + (8 * nI y)) + nI x = nI (64 * i + (8 * y + x)) := by
    intro i x y
    have t1 : 64 * nI i = nI (64 * i) := pk_mul 64 i
    have t2 : 8 * nI y = nI (8 * y) := pk_mul 8 y
    rw [t1, t2, nI_add, nI_add, Nat.add_assoc]
  have row : ∀ y, y < h'' → ∀ d x, x + d = w'' →
      ((∀ (post : Int32 → Prop) (J : Int32 → Prop), J (nI (y + 1)) → ∀ m, d < m → wX_same_82 post J (nI a) (nI b) (nI y) f_bodyLength f_bits f_bitCount f_readAt f_readEnd f_w f_h a_pixels a_users a_buffer a_wide a_high a_start a_right a_down a_factor a_offset a_files a_fileLength a_plain a_body a_residue a_tokens a_distances a_heads a_chain a_weight a_parent a_symbol a_codeLength a_codeOf a_lengthOf a_perLength a_before a_last m (nI x)) ∧ (∀ (post : Int32 → Prop) (J : Int32 → Prop), J (nI (y + 1)) → ∀ m, d < m → wY_same_84 post J (nI a) (nI b) (nI y) a_value a_width a_height a_there a_damaged a_form m (nI x))) ∨
      ((∀ (post : Int32 → Prop) (J : Int32 → Prop), post 0 → ∀ m, d < m → wX_same_82 post J (nI a) (nI b) (nI y) f_bodyLength f_bits f_bitCount f_readAt f_readEnd f_w f_h a_pixels a_users a_buffer a_wide a_high a_start a_right a_down a_factor a_offset a_files a_fileLength a_plain a_body a_residue a_tokens a_distances a_heads a_chain a_weight a_parent a_symbol a_codeLength a_codeOf a_lengthOf a_perLength a_before a_last m (nI x)) ∧ (∀ (post : Int32 → Prop) (J : Int32 → Prop), post 0 → ∀ m, d < m → wY_same_84 post J (nI a) (nI b) (nI y) a_value a_width a_height a_there a_damaged a_form m (nI x))) := by
    intro y hy d
    induction d with
    | zero =>
      intro x hx
      refine Or.inl ⟨fun post J hJ m hm => ?_, fun post J hJ m hm => ?_⟩
      · obtain ⟨m, rfl⟩ : ∃ z, m = z + 1 := ⟨m - 1, by omega⟩
        refine ⟨ia4, ?_⟩
        rw [ea, wa]
        exact br_t (nI_le (by omega) (by omega)) (nm_r (nI_1 y) hJ)
      · obtain ⟨m, rfl⟩ : ∃ z, m = z + 1 := ⟨m - 1, by omega⟩
        refine ⟨ia9, ?_⟩
        rw [ea, ya]
        exact br_t (nI_le (by omega) (by omega)) (nm_r (nI_1 y) hJ)
    | succ d ih =>
      intro x hx
      obtain ⟨c, c1, c2, c3⟩ := hca x y (by omega) hy
      obtain ⟨c', c1', c2', c3'⟩ := hcb x y (by omega) hy
      have c3 : a_value (64 * a + (8 * y + x)) = ((a_pixels (64 * B a + c) * a_factor a) + a_offset a) &&& 255 := c3
      have c3' : a_value (64 * b + (8 * y + x)) = ((a_pixels (64 * B b + c') * a_factor b) + a_offset b) &&& 255 := c3'
      have stepX : ∀ (post : Int32 → Prop) (J : Int32 → Prop) m, ((a_value (64 * a + (8 * y + x)) = a_value (64 * b + (8 * y + x)) → wX_same_82 post J (nI a) (nI b) (nI y) f_bodyLength f_bits f_bitCount f_readAt f_readEnd f_w f_h a_pixels a_users a_buffer a_wide a_high a_start a_right a_down a_factor a_offset a_files a_fileLength a_plain a_body a_residue a_tokens a_distances a_heads a_chain a_weight a_parent a_symbol a_codeLength a_codeOf a_lengthOf a_perLength a_before a_last m (nI (x + 1))) ∧ (¬ a_value (64 * a + (8 * y + x)) = a_value (64 * b + (8 * y + x)) → post 0)) → wX_same_82 post J (nI a) (nI b) (nI y) f_bodyLength f_bits f_bitCount f_readAt f_readEnd f_w f_h a_pixels a_users a_buffer a_wide a_high a_start a_right a_down a_factor a_offset a_files a_fileLength a_plain a_body a_residue a_tokens a_distances a_heads a_chain a_weight a_parent a_symbol a_codeLength a_codeOf a_lengthOf a_perLength a_before a_last (m + 1) (nI x) := by
        intro post J m hh
        refine ⟨ia4, ?_⟩
        rw [ea, wa]
        refine br_f (nI_ge (by omega) (by omega)) (zm_value ha ga ba s1 s2 s3 c1 c2 (zm_value hb gb bb s1' s2' s3' c1' c2' ?_))
        rw [← c3, ← c3']
        exact ⟨fun z => nm_r (nI_1 x) (hh.1 z), hh.2⟩
      have stepY : ∀ (post : Int32 → Prop) (J : Int32 → Prop) m, ((a_value (64 * a + (8 * y + x)) = a_value (64 * b + (8 * y + x)) → wY_same_84 post J (nI a) (nI b) (nI y) a_value a_width a_height a_there a_damaged a_form m (nI (x + 1))) ∧ (¬ a_value (64 * a + (8 * y + x)) = a_value (64 * b + (8 * y + x)) → post 0)) → wY_same_84 post J (nI a) (nI b) (nI y) a_value a_width a_height a_there a_damaged a_form (m + 1) (nI x) := by
        intro post J m hh
        refine ⟨ia9, ?_⟩
        rw [ea, ya, adr, adr, nI_clamp (show 64 * a + (8 * y + x) < 2 ^ 31 by omega), nI_clamp (show 64 * b + (8 * y + x) < 2 ^ 31 by omega)]
        refine br_f (nI_ge (by omega) (by omega)) ⟨vp_in_nI (by omega) (by decide), vp_in_nI (by omega) (by decide), ?_⟩
        exact ⟨fun z => nm_r (nI_1 x) (hh.1 z), hh.2⟩
      by_cases e : a_value (64 * a + (8 * y + x)) = a_value (64 * b + (8 * y + x))
      · rcases ih (x + 1) (by omega) with ⟨i1, i2⟩ | ⟨i1, i2⟩
        · refine Or.inl ⟨fun post J hJ m hm => ?_, fun post J hJ m hm => ?_⟩
          · obtain ⟨m, rfl⟩ : ∃ z, m = z + 1 := ⟨m - 1, by omega⟩
            exact stepX post J m (br_t e (i1 post J hJ m (by omega)))
          · obtain ⟨m, rfl⟩ : ∃ z, m = z + 1 := ⟨m - 1, by omega⟩
            exact stepY post J m (br_t e (i2 post J hJ m (by omega)))
        · refine Or.inr ⟨fun post J hJ m hm => ?_, fun post J hJ m hm => ?_⟩
          · obtain ⟨m, rfl⟩ : ∃ z, m = z + 1 := ⟨m - 1, by omega⟩
            exact stepX post J m (br_t e (i1 post J hJ m (by omega)))
          · obtain ⟨m, rfl⟩ : ∃ z, m = z + 1 := ⟨m - 1, by omega⟩
            exact stepY post J m (br_t e (i2 post J hJ m (by omega)))
      · refine Or.inr ⟨fun post J hJ m hm => ?_, fun post J hJ m hm => ?_⟩
        · obtain ⟨m, rfl⟩ : ∃ z, m = z + 1 := ⟨m - 1, by omega⟩
          exact stepX post J m (br_f e hJ)
        · obtain ⟨m, rfl⟩ : ∃ z, m = z + 1 := ⟨m - 1, by omega⟩
          exact stepY post J m (br_f e hJ)
  have all : ∀ d y, y + d = h'' → ∃ r, (∀ (post : Int32 → Prop), post r → ∀ m, d < m → wX_same_68 post (nI a) (nI b) f_bodyLength f_bits f_bitCount f_readAt f_readEnd f_w f_h a_pixels a_users a_buffer a_wide a_high a_start a_right a_down a_factor a_offset a_files a_fileLength a_plain a_body a_residue a_tokens a_distances a_heads a_chain a_weight a_parent a_symbol a_codeLength a_codeOf a_lengthOf a_perLength a_before a_last m (nI y)) ∧ (∀ (post : Int32 → Prop), post r → ∀ m, d < m → wY_same_71 post (nI a) (nI b) a_value a_width a_height a_there a_damaged a_form m (nI y)) := by
    intro d
    induction d with
    | zero =>
      intro y hy
      refine ⟨1, fun post hp m hm => ?_, fun post hp m hm => ?_⟩
      · obtain ⟨m, rfl⟩ : ∃ z, m = z + 1 := ⟨m - 1, by omega⟩
        refine ⟨ia4, ?_⟩
        rw [ea, va]
        exact br_t (nI_le (by omega) (by omega)) hp
      · obtain ⟨m, rfl⟩ : ∃ z, m = z + 1 := ⟨m - 1, by omega⟩
        refine ⟨ia9, ?_⟩
        rw [ea, yb]
        exact br_t (nI_le (by omega) (by omega)) hp
    | succ d ih =>
      intro y hy
      rcases row y (by omega) w'' 0 (by omega) with ⟨i1, i2⟩ | ⟨i1, i2⟩
      · obtain ⟨r, r1, r2⟩ := ih (y + 1) (by omega)
        refine ⟨r, fun post hp m hm => ?_, fun post hp m hm => ?_⟩
        · obtain ⟨m, rfl⟩ : ∃ z, m = z + 1 := ⟨m - 1, by omega⟩
          refine ⟨ia4, ?_⟩
          rw [ea, va]
          exact br_f (nI_ge (by omega) (by omega)) ⟨w'' + 1, i1 post _ (r1 post hp m (by omega)) (w'' + 1) (by omega)⟩
        · obtain ⟨m, rfl⟩ : ∃ z, m = z + 1 := ⟨m - 1, by omega⟩
          refine ⟨ia9, ?_⟩
          rw [ea, yb]
          exact br_f (nI_ge (by omega) (by omega)) ⟨w'' + 1, i2 post _ (r2 post hp m (by omega)) (w'' + 1) (by omega)⟩
      · refine ⟨0, fun post hp m hm => ?_, fun post hp m hm => ?_⟩
        · obtain ⟨m, rfl⟩ : ∃ z, m = z + 1 := ⟨m - 1, by omega⟩
          refine ⟨ia4, ?_⟩
          rw [ea, va]
          exact br_f (nI_ge (by omega) (by omega)) ⟨w'' + 1, i1 post _ hp (w'' + 1) (by omega)⟩
        · obtain ⟨m, rfl⟩ : ∃ z, m = z + 1 := ⟨m - 1, by omega⟩
          refine ⟨ia9, ?_⟩
          rw [ea, yb]
          exact br_f (nI_ge (by omega) (by omega)) ⟨w'' + 1, i2 post _ hp (w'' + 1) (by omega)⟩
  obtain ⟨r, r1, r2⟩ := all h'' 0 (by omega)
  exact ⟨r, fun post hp => ⟨h'' + 1, r1 post hp _ (Nat.lt_succ_self _)⟩, fun post hp => ⟨h'' + 1, r2 post hp _ (Nat.lt_succ_self _)⟩⟩
theorem zm_same {k : Nat} {B : Nat → Nat} (H : zr_IB B a_pixels a_users a_buffer a_wide a_high a_start a_right a_down a_factor a_offset a_value a_width a_height a_there) (F : zr_F a_files a_fileLength a_value a_width a_height a_there a_damaged a_form) (v1 v2 : Int32) : wpX_same (fun r => wpY_same (fun r' => r' = r ∧ i_Rel k (f_bodyLength, f_bits, f_bitCount, f_readAt, f_readEnd, f_w, f_h, a_pixels, a_users, a_buffer, a_wide, a_high, a_start, a_right, a_down, a_factor, a_offset, a_files, a_fileLength, a_plain, a_body, a_residue, a_tokens, a_distances, a_heads, a_chain, a_weight, a_parent, a_symbol, a_codeLength, a_codeOf, a_lengthOf, a_perLength, a_before, a_last) (a_value, a_width, a_height, a_there, a_damaged, a_form)) (a_value, a_width, a_height, a_there, a_damaged, a_form) v1 v2) (f_bodyLength, f_bits, f_bitCount, f_readAt, f_readEnd, f_w, f_h, a_pixels, a_users, a_buffer, a_wide, a_high, a_start, a_right, a_down, a_factor, a_offset, a_files, a_fileLength, a_plain, a_body, a_residue, a_tokens, a_distances, a_heads, a_chain, a_weight, a_parent, a_symbol, a_codeLength, a_codeOf, a_lengthOf, a_perLength, a_before, a_last) v1 v2 := by
  unfold wpX_same wpY_same
  dsimp only
  have hm1 : ∀ (post : Int32 → Prop) (z : Int32), ¬ z = 0 → post z → wX_same_16 post v1 v2 z f_bodyLength f_bits f_bitCount f_readAt f_readEnd f_w f_h a_pixels a_users a_buffer a_wide a_high a_start a_right a_down a_factor a_offset a_files a_fileLength a_plain a_body a_residue a_tokens a_distances a_heads a_chain a_weight a_parent a_symbol a_codeLength a_codeOf a_lengthOf a_perLength a_before a_last := by
    intro post z hz hp
    unfold wX_same_16 wX_same_27
    exact br_f hz (br_f hz hp)
  rcases zm_ix v2 with ⟨b, hb, rfl⟩ | hbad2
  · refine zm_sm1 hb (br_f (by decide) ?_)
    rcases zm_ix v1 with ⟨a, ha, rfl⟩ | hbad
    · have i9 : vp_in (nI a) 9 := vp_in_nI (by omega) (by decide)
      have j9 : vp_in (nI b) 9 := vp_in_nI (by omega) (by decide)
      have i4 : vp_in (nI a) 4 := vp_in_nI (by omega) (by decide)
      have j4 : vp_in (nI b) 4 := vp_in_nI (by omega) (by decide)
      have ea : (nI a).toNatClampNeg = a := nI_clamp (by omega)
      have eb : (nI b).toNatClampNeg = b := nI_clamp (by omega)
      rw [ea, eb]
      rcases H.1 a ha with ⟨g1, g2, g3⟩ | ⟨g1, g2, g3, g4⟩
      · exact zm_ninone ha g2 (hm1 _ _ (by decide) (zm_ou0 ha (br_t rfl (zm_ou0 hb (br_t rfl ⟨i9, br_t g3 ⟨rfl, zr_mk H F⟩⟩)))))
      · refine zm_niok ha g1 g2 ?_
        unfold wX_same_16
        refine br_t rfl ?_
        rcases H.1 b hb with ⟨f1, f2, f3⟩ | ⟨f1, f2, f3, f4⟩
        · refine zm_ninone hb f2 ?_
          unfold wX_same_27
          exact br_f (by decide) (zm_ou0 ha (br_t rfl (zm_ou0 hb (br_t rfl ⟨i9, br_f g3 ⟨j9, br_t f3 ⟨rfl, zr_mk H F⟩⟩⟩))))
        · refine zm_niok hb f1 f2 ?_
          unfold wX_same_27
          refine br_t rfl ⟨i4, j4, ?_⟩
          rw [ea, eb]
          have g40 := g4
          have f40 := f4
          obtain ⟨wa, ha', _, _, _, sza, ⟨a1, a2, a3, a4⟩, _⟩ := g4
          obtain ⟨wb, hb', _, _, _, szb, ⟨b1, b2, b3, b4⟩, _⟩ := f4
          rw [a1, a2, a3, a4, b1, b2, b3, b4]
          by_cases c1 : nI wa = nI wb
          · refine br_t c1 ⟨i4, j4, ?_⟩
            by_cases c2 : nI ha' = nI hb'
            · refine br_t c2 ?_
              obtain ⟨r, r1, r2⟩ := zm_cmp (w := wa) (h := ha') ha hb g1 f1 g2 f2 g40 f40 (by omega) (by omega) a1 (by rw [b1, c1]) a2 (by rw [b2, c2]) a3 a4
              exact r1 _ (zm_ou0 ha (br_t rfl (zm_ou0 hb (br_t rfl ⟨i9, br_f g3 ⟨j9, br_f f3 ⟨i9, j9, br_t c1 ⟨i9, j9, br_t c2 (r2 _ ⟨rfl, zr_mk H F⟩)⟩⟩⟩⟩))))
            · exact br_f c2 (zm_ou0 ha (br_t rfl (zm_ou0 hb (br_t rfl ⟨i9, br_f g3 ⟨j9, br_f f3 ⟨i9, j9, br_t c1 ⟨i9, j9, br_f c2 ⟨rfl, zr_mk H F⟩⟩⟩⟩⟩))))
          · exact br_f c1 (zm_ou0 ha (br_t rfl (zm_ou0 hb (br_t rfl ⟨i9, br_f g3 ⟨j9, br_f f3 ⟨i9, j9, br_f c1 ⟨rfl, zr_mk H F⟩⟩⟩⟩))))
    · exact zm_nibad hbad (hm1 _ _ (by decide) (zm_ou1 hbad (br_f (by decide) ⟨rfl, zr_mk H F⟩)))
  · refine zm_sm0 hbad2 (br_t rfl (hm1 _ _ (by decide) ?_))
    rcases zm_ix v1 with ⟨a, ha, rfl⟩ | hbad
    · exact zm_ou0 ha (br_t rfl (zm_ou1 hbad2 (br_f (by decide) ⟨rfl, zr_mk H F⟩)))
    · exact zm_ou1 hbad (br_f (by decide) ⟨rfl, zr_mk H F⟩)
end
end
section
/-! copy, mirror, crop, turn -/
theorem zm_Bo {t : Int} (h1 : -8 ≤ t) (h2 : t ≤ 8) : zn_B (Int32.ofInt t) := by
  have key : ∀ n : Nat, n ≤ 8 → (Int32.ofInt (n : Int)).toInt8.toInt32 = Int32.ofInt (n : Int) ∧ (Int32.ofInt (-(n : Int))).toInt8.toInt32 = Int32.ofInt (-(n : Int)) := by decide +kernel
  by_cases h : 0 ≤ t
  · obtain ⟨n, hn⟩ : ∃ n : Nat, t = (n : Int) := ⟨t.toNat, by omega⟩
    subst hn
    exact (key n (by omega)).1
  · obtain ⟨n, hn⟩ : ∃ n : Nat, t = -(n : Int) := ⟨(-t).toNat, by omega⟩
    subst hn
    exact (key n (by omega)).2
/-- what a double loop of the reference has written -/
def zy_D (vl v0 : Nat → Int32) (i w : Nat) (g : Nat → Nat → Nat) (y x : Nat) : Prop :=
  (∀ x' y', x' < w → (y' < y ∨ (y' = y ∧ x' < x)) → vl (64 * i + (8 * y' + x')) = v0 (512 + g x' y')) ∧ ∀ j, (j < 64 * i ∨ 64 * i + 64 ≤ j) → vl j = v0 j
theorem zy_up {vl v0 : Nat → Int32} {i w : Nat} {g : Nat → Nat → Nat} {y x : Nat} (h : zy_D vl v0 i w g y x) (hi : i < 4) (hx : x < w) (hw : w ≤ 8) (hy : y < 8) :
    zy_D (upd vl (64 * i + (8 * y + x)) (vl (512 + g x y))) v0 i w g y (x + 1) := by
  refine ⟨fun x' y' hx' hc => ?_, fun j hj => ?_⟩
  · by_cases e : x' = x ∧ y' = y
    · obtain ⟨rfl, rfl⟩ := e
      rw [pk_us]
      exact h.2 _ (by omega)
    · rw [pk_un (by omega)]
      exact h.1 x' y' hx' (by omega)
  · rw [pk_un (by omega)]
    exact h.2 j hj
theorem zy_row {vl v0 : Nat → Int32} {i w : Nat} {g : Nat → Nat → Nat} {y : Nat} (h : zy_D vl v0 i w g y w) : zy_D vl v0 i w g (y + 1) 0 :=
  ⟨fun x' y' hx' hc => h.1 x' y' hx' (by omega), h.2⟩
theorem zy_0 (v0 : Nat → Int32) (i w : Nat) (g : Nat → Nat → Nat) : zy_D v0 v0 i w g 0 0 := ⟨fun x' y' hx' hc => by omega, fun _ _ => rfl⟩
theorem zy_adr (i x y : Nat) : ((64 * nI i) + (8 * nI y)) + nI x = nI (64 * i + (8 * y + x)) := by
  have t1 : 64 * nI i = nI (64 * i) := pk_mul 64 i
  have t2 : 8 * nI y = nI (8 * y) := pk_mul 8 y
  rw [t1, t2, nI_add, nI_add, Nat.add_assoc]
section
variable {f_bodyLength f_bits f_bitCount f_readAt f_readEnd f_w f_h : Int32} {a_pixels a_users a_buffer a_wide a_high a_start a_right a_down a_factor a_offset a_files a_fileLength a_plain a_body a_residue a_tokens a_distances a_heads a_chain a_weight a_parent a_symbol a_codeLength a_codeOf a_lengthOf a_perLength a_before a_last : Nat → Int32} {a_value a_width a_height a_there a_damaged a_form : Nat → Int32}
theorem zm_letGo2 {post : SX → Prop} {cn : Nat → Nat} {i bi : Nat} (hi : i < 4) (hb : (bi = 4 ∧ a_buffer i = -1) ∨ (bi < 4 ∧ a_buffer i = nI bi ∧ 1 ≤ cn bi)) (hcn : ∀ b, b < 4 → cn b ≤ 100) (hu : ∀ b, b < 4 → a_users b = nI (cn b))
    (K : ∀ us, (∀ b, b < 4 → us b = nI (cn b - (if bi = b then 1 else 0))) → post (f_bodyLength, f_bits, f_bitCount, f_readAt, f_readEnd, f_w, f_h, a_pixels, us, upd a_buffer i (-1), a_wide, a_high, a_start, a_right, a_down, a_factor, a_offset, a_files, a_fileLength, a_plain, a_body, a_residue, a_tokens, a_distances, a_heads, a_chain, a_weight, a_parent, a_symbol, a_codeLength, a_codeOf, a_lengthOf, a_perLength, a_before, a_last)) : wpX_letGo post (f_bodyLength, f_bits, f_bitCount, f_readAt, f_readEnd, f_w, f_h, a_pixels, a_users, a_buffer, a_wide, a_high, a_start, a_right, a_down, a_factor, a_offset, a_files, a_fileLength, a_plain, a_body, a_residue, a_tokens, a_distances, a_heads, a_chain, a_weight, a_parent, a_symbol, a_codeLength, a_codeOf, a_lengthOf, a_perLength, a_before, a_last) (nI i) := by
  refine ⟨vp_in_nI hi (by decide), ?_⟩
  rw [nI_clamp (by omega)]
  rcases hb with ⟨h1, h2⟩ | ⟨h1, h2, h3⟩
  · rw [h2]
    refine br_t (by decide) ⟨vp_in_nI hi (by decide), nm_e ?_⟩
    rw [zn_vbm]
    refine K _ (fun b hb => ?_)
    rw [hu b hb, if_neg (by omega)]
    rfl
  · rw [h2]
    have hc := hcn bi h1
    have e1 : nI (cn bi) - 1 = nI (cn bi - 1) := pk_sub (b := 1) (by omega)
    refine br_f (nI_pos (by omega)) ⟨vp_in_nI hi (by decide), vp_in_nI (by omega) (by decide), vp_in_nI (by omega) (by decide), nm_e ⟨vp_in_nI hi (by decide), nm_e ?_⟩⟩
    rw [nI_clamp (by omega), hu bi h1, e1, zn_vb2 (by omega), zn_vbm]
    refine K _ (fun b hb => ?_)
    by_cases e : b = bi
    · subst e
      rw [pk_us, if_pos rfl]
    · rw [pk_un e, hu b hb, if_neg (fun z => e z.symm)]
      rfl
theorem zm_copy {k : Nat} {B : Nat → Nat} (H : zr_IB B a_pixels a_users a_buffer a_wide a_high a_start a_right a_down a_factor a_offset a_value a_width a_height a_there) (F : zr_F a_files a_fileLength a_value a_width a_height a_there a_damaged a_form) (v1 v2 : Int32) : wpX_copy (fun r u' => wpY_copy (fun r' v' => r' = r ∧ i_Rel k u' v') (a_value, a_width, a_height, a_there, a_damaged, a_form) v1 v2) (f_bodyLength, f_bits, f_bitCount, f_readAt, f_readEnd, f_w, f_h, a_pixels, a_users, a_buffer, a_wide, a_high, a_start, a_right, a_down, a_factor, a_offset, a_files, a_fileLength, a_plain, a_body, a_residue, a_tokens, a_distances, a_heads, a_chain, a_weight, a_parent, a_symbol, a_codeLength, a_codeOf, a_lengthOf, a_perLength, a_before, a_last) v1 v2 := by
  unfold wpX_copy wpY_copy
  dsimp only
  rcases zm_ix v2 with ⟨t, ht, rfl⟩ | hbad2
  · refine zm_sm1 ht (br_f (by decide) ?_)
    rcases zm_ix v1 with ⟨f, hf, rfl⟩ | hbad
    · have f9 : vp_in (nI f) 9 := vp_in_nI (by omega) (by decide)
      have f4 : vp_in (nI f) 4 := vp_in_nI (by omega) (by decide)
      have t4 : vp_in (nI t) 4 := vp_in_nI (by omega) (by decide)
      have ef : (nI f).toNatClampNeg = f := nI_clamp (by omega)
      have et : (nI t).toNatClampNeg = t := nI_clamp (by omega)
      rw [ef, et]
      rcases H.1 f hf with ⟨g1, g2, g3⟩ | ⟨g1, g2, g3, g4⟩
      · exact zm_ninone hf g2 (br_f (by decide) (zm_ou0 hf (br_t rfl (zm_ou0 ht (br_t rfl ⟨f9, br_t g3 ⟨rfl, zr_mk H F⟩⟩)))))
      · refine zm_niok hf g1 g2 (br_t rfl ?_)
        have g40 := g4
        obtain ⟨w, h, s, R, D, ⟨w1, w8, h1, h8⟩, ⟨e1, e2, e3, e4⟩, ⟨e5, e6, e7⟩, hRD, hfo, hc⟩ := g4
        by_cases c : f = t
        · subst c
          refine br_t rfl ⟨t4, t4, ?_⟩
          refine zm_ou0 hf (br_t rfl (zm_ou0 ht (br_t rfl ⟨f9, br_f g3 ?_⟩)))
          refine zm_become rfl rfl (by omega) (by omega) ?_
          intro vl y1 y2
          dsimp only
          refine zm_places rfl (by omega) ⟨by rw [pk_us, pk_us, e1, e2, e3, e4], zr_mk (B := B) (zr_put (i := f) H H.2 ?_ g1 g2 (by rw [pk_us]; decide) ?_) (zm_Fimg F (fun j z1 z2 => y2 j (by omega)) (fun j z1 z2 => ⟨pk_un (by omega), pk_un (by omega), pk_un (by omega), pk_un (by omega), pk_un (by omega)⟩))⟩
          · intro j hj hne
            exact ⟨rfl, rfl, pk_un hne, rfl, rfl, rfl, rfl, rfl, rfl, rfl, pk_un hne, pk_un hne, fun q hq => y2 _ (by omega), fun hBj c hc => rfl⟩
          · unfold zr_J at g40 ⊢
            rw [pk_us, pk_us]
            exact zi_VF (fun c hc => rfl) (fun q hq => y1 q hq) g40
        · have cne : ¬ nI f = nI t := fun z => c ((nI_eq (by omega) (by omega)).mp z)
          have hc4 := zr_c4 B (B f)
          refine br_f cne ⟨f4, ?_⟩
          rw [g2]
          refine ⟨vp_in_nI (by omega) (by decide), vp_in_nI (by omega) (by decide), nm_e ?_⟩
          rw [nI_clamp (show B f < 2 ^ 31 by omega), H.2 _ g1, nI_1, zn_vb2 (by omega)]
          have hct : zr_c B (B t) ≥ 1 ∨ B t = 4 := by
            rcases H.1 t ht with q | q
            · exact Or.inr q.1
            · refine Or.inl ?_
              have := zr_czu (B := B) (x := 4) (b := B t) ht
              rw [if_pos rfl, if_neg (by omega)] at this
              omega
          refine zm_letGo2 (a_users := upd a_users (B f) (nI (zr_c B (B f) + 1))) (cn := fun b => zr_c B b + (if B f = b then 1 else 0)) (bi := B t) ht ?_ ?_ ?_ ?_
          · rcases H.1 t ht with q | q
            · exact Or.inl ⟨q.1, q.2.1⟩
            · refine Or.inr ⟨q.1, q.2.1, ?_⟩
              show 1 ≤ zr_c B (B t) + _
              omega
          · intro b hb
            show zr_c B b + (if B f = b then 1 else 0) ≤ 100
            have := zr_c4 B b
            split <;> omega
          · intro b hb
            show upd a_users (B f) (nI (zr_c B (B f) + 1)) b = nI (zr_c B b + (if B f = b then 1 else 0))
            by_cases e : b = B f
            · subst e; rw [pk_us, if_pos rfl]
            · rw [pk_un e, if_neg (fun z => e z.symm)]; exact H.2 b hb
          · intro us hus
            dsimp only
            obtain ⟨c0, d1, d2, _⟩ := hc 0 0 (by omega) (by omega)
            have es : a_start f = nI c0 := by
              rw [e5, zm_oi]
              congr 1
              have : s + ((0 : Nat) : Int) * R + ((0 : Nat) : Int) * D = s := by simp
              omega
            have eb : upd a_buffer t (-1) f = nI (B f) := by rw [pk_un c]; exact g2
            refine ⟨f4, t4, nm_e ⟨f4, t4, nm_e ⟨f4, t4, nm_e ⟨f4, t4, nm_e ⟨f4, t4, nm_e ⟨f4, t4, nm_e ⟨f4, t4, nm_e ⟨f4, t4, nm_e ⟨t4, t4, ?_⟩⟩⟩⟩⟩⟩⟩⟩⟩
            have n1 : vp_nar .byte (a_wide f) = a_wide f := by rw [e1]; exact zn_vb (by omega)
            have n2 : vp_nar .byte (a_high f) = a_high f := by rw [e2]; exact zn_vb (by omega)
            have n3 : vp_nar .short (a_start f) = a_start f := by rw [es]; exact zn_vs (by omega)
            have n4 : vp_nar .byte (a_right f) = a_right f := by rw [e6]; exact zn_Bv (zm_Bo (by omega) (by omega))
            have n5 : vp_nar .byte (a_down f) = a_down f := by rw [e7]; exact zn_Bv (zm_Bo (by omega) (by omega))
            have n6 : vp_nar .byte (a_factor f) = a_factor f := zn_Bv hfo.1
            have n7 : vp_nar .byte (a_offset f) = a_offset f := zn_Bv hfo.2
            rw [eb, zn_vb (show B f < 128 by omega), n1, n2, n3, n4, n5, n6, n7]
            refine zm_ou0 hf (br_t rfl (zm_ou0 ht (br_t rfl ⟨f9, br_f g3 ?_⟩)))
            refine zm_become rfl rfl (by omega) (by omega) ?_
            intro vl y1 y2
            dsimp only
            refine zm_places rfl (by omega) ⟨by rw [pk_us, pk_us, pk_us, pk_us, e1, e2, e3, e4], zr_mk (B := zu B t (B f)) (zr_put (i := t) H ?_ ?_ (by rw [zu_s]; exact g1) (by rw [zu_s, pk_us]) (by rw [pk_us]; decide) ?_) (zm_Fimg F (fun j z1 z2 => y2 j (by omega)) (fun j z1 z2 => ⟨pk_un (by omega), pk_un (by omega), pk_un (by omega), pk_un (by omega), pk_un (by omega)⟩))⟩
            · intro b hb
              rw [hus b hb]
              have := zr_czu (B := B) (x := B f) (b := b) ht
              exact congrArg nI (by omega)
            · intro j hj hne
              exact ⟨zu_n hne, by rw [pk_un hne, pk_un hne], pk_un hne, pk_un hne, pk_un hne, pk_un hne, pk_un hne, pk_un hne, pk_un hne, pk_un hne, pk_un hne, pk_un hne, fun q hq => y2 _ (by omega), fun hBj c hc => rfl⟩
            · unfold zr_J at g40 ⊢
              rw [pk_us, pk_us, pk_us, pk_us, pk_us, pk_us, pk_us, pk_us, pk_us, zu_s]
              exact zi_VF (fun c hc => rfl) (fun q hq => y1 q hq) g40
    · exact zm_nibad hbad (br_f (by decide) (zm_ou1 hbad (br_f (by decide) ⟨rfl, zr_mk H F⟩)))
  · refine zm_sm0 hbad2 (br_t rfl ?_)
    rcases zm_ix v1 with ⟨f, hf, rfl⟩ | hbad
    · exact zm_ou0 hf (br_t rfl (zm_ou1 hbad2 (br_f (by decide) ⟨rfl, zr_mk H F⟩)))
    · exact zm_ou1 hbad (br_f (by decide) ⟨rfl, zr_mk H F⟩)
theorem zm_ymir {post : Int32 → SY → Prop} {i w h : Nat} (hi : i < 4) (w1 : 1 ≤ w) (w8 : w ≤ 8) (h8 : h ≤ 8) (hw : a_width i = nI w) (hh : a_height i = nI h)
    (K : ∀ vl, zy_D vl a_value i w (fun x y => 8 * y + (w - 1 - x)) h 0 → post (nI w) (vl, a_width, a_height, a_there, a_damaged, a_form)) : ∃ m, wY_mirror_30 post (nI i) m 0 a_value a_width a_height a_there a_damaged a_form := by
  have hin : vp_in (nI i) 9 := vp_in_nI (by omega) (by decide)
  have ei : (nI i).toNatClampNeg = i := nI_clamp (by omega)
  have H42 : ∀ (J : Int32 → (Nat → Int32) → (Nat → Int32) → (Nat → Int32) → (Nat → Int32) → (Nat → Int32) → (Nat → Int32) → Prop) y, y < h → (∀ vl, zy_D vl a_value i w (fun x y => 8 * y + (w - 1 - x)) (y + 1) 0 → J (nI (y + 1)) vl a_width a_height a_there a_damaged a_form) →
      ∀ d x vl, x + d = w → zy_D vl a_value i w (fun x y => 8 * y + (w - 1 - x)) y x → ∀ m, d < m → wY_mirror_42 post J (nI i) (nI y) m (nI x) vl a_width a_height a_there a_damaged a_form := by
    intro J y hy KJ d
    induction d with
    | zero =>
      intro x vl hx hD m hm
      obtain ⟨m, rfl⟩ : ∃ z, m = z + 1 := ⟨m - 1, by omega⟩
      refine ⟨hin, ?_⟩
      rw [ei, hw]
      rw [show x = w by omega] at hD ⊢
      exact br_t (nI_le (by omega) (by omega)) (nm_r (nI_1 y) (KJ vl (zy_row hD)))
    | succ d ih =>
      intro x vl hx hD m hm
      obtain ⟨m, rfl⟩ : ∃ z, m = z + 1 := ⟨m - 1, by omega⟩
      refine ⟨hin, ?_⟩
      have ea : (((512 + (8 * nI y)) + nI w) - 1) - nI x = nI (512 + (8 * y + (w - 1 - x))) := by
        have t2 : 8 * nI y = nI (8 * y) := pk_mul 8 y
        have t3 : 512 + nI (8 * y) = nI (512 + 8 * y) := nI_add 512 _
        have t4 : nI (512 + 8 * y + w) - 1 = nI (512 + 8 * y + w - 1) := pk_sub (b := 1) (by omega)
        rw [t2, t3, nI_add, t4, pk_sub (by omega)]
        exact congrArg nI (by omega)
      rw [ei, hw, ea, zy_adr]
      refine br_f (nI_ge (by omega) (by omega)) ⟨hin, vp_in_nI (by omega) (by decide), vp_in_nI (by omega) (by decide), nm_e (nm_r (nI_1 x) ?_)⟩
      rw [nI_clamp (by omega), nI_clamp (by omega)]
      exact ih (x + 1) _ (by omega) (zy_up hD hi (by omega) w8 (by omega)) m (by omega)
  have H30 : ∀ d y vl, y + d = h → zy_D vl a_value i w (fun x y => 8 * y + (w - 1 - x)) y 0 → ∀ m, d < m → wY_mirror_30 post (nI i) m (nI y) vl a_width a_height a_there a_damaged a_form := by
    intro d
    induction d with
    | zero =>
      intro y vl hy hD m hm
      obtain ⟨m, rfl⟩ : ∃ z, m = z + 1 := ⟨m - 1, by omega⟩
      refine ⟨hin, ?_⟩
      rw [ei, hh, hw]
      have e : y = h := by omega
      subst e
      exact br_t (nI_le (by omega) (by omega)) ⟨hin, K vl hD⟩
    | succ d ih =>
      intro y vl hy hD m hm
      obtain ⟨m, rfl⟩ : ∃ z, m = z + 1 := ⟨m - 1, by omega⟩
      refine ⟨hin, ?_⟩
      rw [ei, hh]
      exact br_f (nI_ge (by omega) (by omega)) ⟨w + 1, H42 _ y (by omega) (fun vl2 hD2 => ih (y + 1) vl2 (by omega) hD2 m (by omega)) w 0 vl (by omega) hD (w + 1) (by omega)⟩
  exact ⟨h + 1, H30 h 0 a_value (by omega) (zy_0 _ _ _ _) (h + 1) (by omega)⟩
theorem zm_mirror {k : Nat} {B : Nat → Nat} (H : zr_IB B a_pixels a_users a_buffer a_wide a_high a_start a_right a_down a_factor a_offset a_value a_width a_height a_there) (F : zr_F a_files a_fileLength a_value a_width a_height a_there a_damaged a_form) (v1 : Int32) : wpX_mirror (fun r u' => wpY_mirror (fun r' v' => r' = r ∧ i_Rel k u' v') (a_value, a_width, a_height, a_there, a_damaged, a_form) v1) (f_bodyLength, f_bits, f_bitCount, f_readAt, f_readEnd, f_w, f_h, a_pixels, a_users, a_buffer, a_wide, a_high, a_start, a_right, a_down, a_factor, a_offset, a_files, a_fileLength, a_plain, a_body, a_residue, a_tokens, a_distances, a_heads, a_chain, a_weight, a_parent, a_symbol, a_codeLength, a_codeOf, a_lengthOf, a_perLength, a_before, a_last) v1 := by
  unfold wpX_mirror wpY_mirror
  dsimp only
  rcases zm_ix v1 with ⟨i, hi, rfl⟩ | hbad
  · have hin : vp_in (nI i) 9 := vp_in_nI (by omega) (by decide)
    have hin4 : vp_in (nI i) 4 := vp_in_nI (by omega) (by decide)
    have ei : (nI i).toNatClampNeg = i := nI_clamp (by omega)
    rw [ei]
    rcases H.1 i hi with ⟨g1, g2, g3⟩ | ⟨g1, g2, g3, g4⟩
    · exact zm_ninone hi g2 (br_f (by decide) (zm_ou0 hi (br_t rfl ⟨hin, br_t g3 ⟨rfl, zr_mk H F⟩⟩)))
    · obtain ⟨w, h, s, R, D, ⟨w1, w8, h1, h8⟩, ⟨e1, e2, e3, e4⟩, ⟨e5, e6, e7⟩, hRD, hfo, hc⟩ := g4
      refine zm_niok hi g1 g2 (br_t rfl ⟨hin4, hin4, hin4, hin4, nm_e ⟨hin4, hin4, nm_e ⟨hin4, ?_⟩⟩⟩)
      obtain ⟨c0, d1, d2, _⟩ := hc (w - 1) 0 (by omega) (by omega)
      have d3 : s + ((w - 1 : Nat) : Int) * R = (c0 : Int) := by
        have : s + ((w - 1 : Nat) : Int) * R + ((0 : Nat) : Int) * D = s + ((w - 1 : Nat) : Int) * R := by simp
        omega
      have es : a_start i + ((a_wide i - 1) * a_right i) = nI c0 := by
        have t1 : nI w - 1 = nI (w - 1) := pk_sub (b := 1) (by omega)
        rw [e5, e1, e6, t1, zm_oi (w - 1), zm_oi c0, ← Int32.ofInt_mul, ← Int32.ofInt_add, d3]
      have er : vp_nar .byte ((-a_right i).toInt8.toInt32) = Int32.ofInt (-R) := by
        rw [e6, ← Int32.ofInt_neg, pk_vb]
        exact zm_Bo (by omega) (by omega)
      rw [es, zn_vs2 (by omega), er, e1]
      refine zm_ou0 hi (br_t rfl ⟨hin, br_f g3 ?_⟩)
      refine zm_become (t := 8) rfl rfl (by omega) (by omega) ?_
      intro v0 y1 y2
      dsimp only
      refine zm_ymir (a_value := v0) (h := h) hi w1 w8 h8 (by rw [pk_un (by omega)]; exact e3) (by rw [pk_un (by omega)]; exact e4) ?_
      intro vl hD
      refine ⟨rfl, zr_mk (B := B) (zr_put (i := i) H H.2 ?_ g1 g2 (by rw [pk_un (by omega)]; exact g3) ?_) (zm_Fimg F (fun j z1 z2 => by rw [hD.2 j (by omega)]; exact y2 j (by omega)) (fun j z1 z2 => ⟨pk_un (by omega), pk_un (by omega), pk_un (by omega), pk_un (by omega), pk_un (by omega)⟩))⟩
      · intro j hj hne
        exact ⟨rfl, rfl, pk_un (by omega), rfl, rfl, pk_un hne, pk_un hne, rfl, rfl, rfl, pk_un (by omega), pk_un (by omega), fun q hq => by rw [hD.2 _ (by omega)]; exact y2 _ (by omega), fun hBj c hc => rfl⟩
      · unfold zr_J
        rw [pk_us, pk_us, pk_un (show i ≠ 8 by omega), pk_un (show i ≠ 8 by omega)]
        refine ⟨w, h, (c0 : Int), -R, D, ⟨w1, w8, h1, h8⟩, ⟨e1, e2, e3, e4⟩, ⟨zm_oi c0, rfl, e7⟩, by omega, hfo, fun x y hx hy => ?_⟩
        obtain ⟨c, c1, c2, c3⟩ := hc (w - 1 - x) y (by omega) hy
        refine ⟨c, c1, ?_, ?_⟩
        · rw [← c2, ← d3]
          have t1 : ((w - 1 - x : Nat) : Int) = ((w - 1 : Nat) : Int) - (x : Int) := by omega
          rw [t1, Int.sub_mul, Int.mul_neg]
          omega
        · show vl (64 * i + (8 * y + x)) = _
          rw [hD.1 x y hx (Or.inl hy)]
          have t2 := y1 (8 * y + (w - 1 - x)) (by omega)
          exact t2.trans c3
  · exact zm_nibad hbad (br_f (by decide) (zm_ou1 hbad (br_f (by decide) ⟨rfl, zr_mk H F⟩)))
end
end
section
/-! crop, turn -/
section
variable {f_bodyLength f_bits f_bitCount f_readAt f_readEnd f_w f_h : Int32} {a_pixels a_users a_buffer a_wide a_high a_start a_right a_down a_factor a_offset a_files a_fileLength a_plain a_body a_residue a_tokens a_distances a_heads a_chain a_weight a_parent a_symbol a_codeLength a_codeOf a_lengthOf a_perLength a_before a_last : Nat → Int32} {a_value a_width a_height a_there a_damaged a_form : Nat → Int32}
theorem zm_ycrop {post : Int32 → SY → Prop} {i w h px py : Nat} (hi : i < 4) (w8 : w + px ≤ 8) (h8 : h + py ≤ 8) (hw : a_width i = nI w) (hh : a_height i = nI h)
    (K : ∀ vl, zy_D vl a_value i w (fun u v => 8 * (v + py) + (u + px)) h 0 → post (a_width i * a_height i) (vl, a_width, a_height, a_there, a_damaged, a_form)) : ∃ m, wY_crop_63 post (nI i) (nI px) (nI py) m 0 a_value a_width a_height a_there a_damaged a_form := by
  have hin : vp_in (nI i) 9 := vp_in_nI (by omega) (by decide)
  have ei : (nI i).toNatClampNeg = i := nI_clamp (by omega)
  have H77 : ∀ (J : Int32 → (Nat → Int32) → (Nat → Int32) → (Nat → Int32) → (Nat → Int32) → (Nat → Int32) → (Nat → Int32) → Prop) y, y < h → (∀ vl, zy_D vl a_value i w (fun u v => 8 * (v + py) + (u + px)) (y + 1) 0 → J (nI (y + 1)) vl a_width a_height a_there a_damaged a_form) →
      ∀ d x vl, x + d = w → zy_D vl a_value i w (fun u v => 8 * (v + py) + (u + px)) y x → ∀ m, d < m → wY_crop_77 post J (nI i) (nI px) (nI py) (nI y) m (nI x) vl a_width a_height a_there a_damaged a_form := by
    intro J y hy KJ d
    induction d with
    | zero =>
      intro x vl hx hD m hm
      obtain ⟨m, rfl⟩ : ∃ z, m = z + 1 := ⟨m - 1, by omega⟩
      refine ⟨hin, ?_⟩
      rw [ei, hw]
      rw [show x = w by omega] at hD ⊢
      exact br_t (nI_le (by omega) (by omega)) (nm_r (nI_1 y) (KJ vl (zy_row hD)))
    | succ d ih =>
      intro x vl hx hD m hm
      obtain ⟨m, rfl⟩ : ∃ z, m = z + 1 := ⟨m - 1, by omega⟩
      refine ⟨hin, ?_⟩
      have ea : ((512 + (8 * (nI y + nI py))) + nI x) + nI px = nI (512 + (8 * (y + py) + (x + px))) := by
        have t2 : 8 * nI (y + py) = nI (8 * (y + py)) := pk_mul 8 _
        have t3 : 512 + nI (8 * (y + py)) = nI (512 + 8 * (y + py)) := nI_add 512 _
        rw [nI_add y, t2, t3, nI_add, nI_add]
        exact congrArg nI (by omega)
      rw [ei, hw, ea, zy_adr]
      refine br_f (nI_ge (by omega) (by omega)) ⟨vp_in_nI (by omega) (by decide), vp_in_nI (by omega) (by decide), nm_e (nm_r (nI_1 x) ?_)⟩
      rw [nI_clamp (by omega), nI_clamp (by omega)]
      exact ih (x + 1) _ (by omega) (zy_up hD hi (by omega) (by omega) (by omega)) m (by omega)
  have H63 : ∀ d y vl, y + d = h → zy_D vl a_value i w (fun u v => 8 * (v + py) + (u + px)) y 0 → ∀ m, d < m → wY_crop_63 post (nI i) (nI px) (nI py) m (nI y) vl a_width a_height a_there a_damaged a_form := by
    intro d
    induction d with
    | zero =>
      intro y vl hy hD m hm
      obtain ⟨m, rfl⟩ : ∃ z, m = z + 1 := ⟨m - 1, by omega⟩
      refine ⟨hin, ?_⟩
      rw [ei, hh]
      have e : y = h := by omega
      subst e
      exact br_t (nI_le (by omega) (by omega)) (zm_places rfl (by omega) (K vl hD))
    | succ d ih =>
      intro y vl hy hD m hm
      obtain ⟨m, rfl⟩ : ∃ z, m = z + 1 := ⟨m - 1, by omega⟩
      refine ⟨hin, ?_⟩
      rw [ei, hh]
      exact br_f (nI_ge (by omega) (by omega)) ⟨w + 1, H77 _ y (by omega) (fun vl2 hD2 => ih (y + 1) vl2 (by omega) hD2 m (by omega)) w 0 vl (by omega) hD (w + 1) (by omega)⟩
  exact ⟨h + 1, H63 h 0 a_value (by omega) (zy_0 _ _ _ _) (h + 1) (by omega)⟩
theorem zm_crop {k : Nat} {B : Nat → Nat} (H : zr_IB B a_pixels a_users a_buffer a_wide a_high a_start a_right a_down a_factor a_offset a_value a_width a_height a_there) (F : zr_F a_files a_fileLength a_value a_width a_height a_there a_damaged a_form) (v1 v2 v3 : Int32) : wpX_crop (fun r u' => wpY_crop (fun r' v' => r' = r ∧ i_Rel k u' v') (a_value, a_width, a_height, a_there, a_damaged, a_form) v1 v2 v3) (f_bodyLength, f_bits, f_bitCount, f_readAt, f_readEnd, f_w, f_h, a_pixels, a_users, a_buffer, a_wide, a_high, a_start, a_right, a_down, a_factor, a_offset, a_files, a_fileLength, a_plain, a_body, a_residue, a_tokens, a_distances, a_heads, a_chain, a_weight, a_parent, a_symbol, a_codeLength, a_codeOf, a_lengthOf, a_perLength, a_before, a_last) v1 v2 v3 := by
  unfold wpX_crop wpY_crop
  dsimp only
  rcases zm_ix v1 with ⟨i, hi, rfl⟩ | hbad
  · have hin : vp_in (nI i) 9 := vp_in_nI (by omega) (by decide)
    have hin4 : vp_in (nI i) 4 := vp_in_nI (by omega) (by decide)
    have ei : (nI i).toNatClampNeg = i := nI_clamp (by omega)
    rw [ei]
    rcases H.1 i hi with ⟨g1, g2, g3⟩ | ⟨g1, g2, g3, g4⟩
    · exact zm_ninone hi g2 (br_f (by decide) (zm_ou0 hi (br_t rfl ⟨hin, br_t g3 ⟨rfl, zr_mk H F⟩⟩)))
    · obtain ⟨w, h, s, R, D, ⟨w1, w8, h1, h8⟩, ⟨e1, e2, e3, e4⟩, ⟨e5, e6, e7⟩, hRD, hfo, hc⟩ := g4
      refine zm_niok hi g1 g2 (br_t rfl ?_)
      rcases zm_ins v2 v3 w8 h8 with ⟨x, y, hx, hy, rfl, rfl⟩ | ho
      · refine zm_xin1 hi w8 h8 e1 e2 hx hy (br_f (by decide) ⟨hin4, hin4, hin4, hin4, nm_e ⟨hin4, hin4, nm_e ⟨hin4, hin4, nm_e ⟨hin4, hin4, ?_⟩⟩⟩⟩)
        obtain ⟨c0, d1, d2, _⟩ := hc x y hx hy
        have es : a_start i + ((nI x * a_right i) + (nI y * a_down i)) = nI c0 := by
          rw [e5, e6, e7, zm_oi x, zm_oi y, zm_oi c0, ← Int32.ofInt_mul, ← Int32.ofInt_mul, ← Int32.ofInt_add, ← Int32.ofInt_add, ← d2, Int.add_assoc]
        have ew : vp_nar .byte ((a_wide i - nI x).toInt8.toInt32) = nI (w - x) := by
          rw [e1, pk_sub (by omega), zn_vb2 (by omega)]
        have eh : vp_nar .byte ((a_high i - nI y).toInt8.toInt32) = nI (h - y) := by
          rw [e2, pk_sub (by omega), zn_vb2 (by omega)]
        rw [es, zn_vs2 (by omega), ew, eh, pk_us, pk_us]
        refine zm_ou0 hi (br_t rfl ⟨hin, br_f g3 (zm_yin1 hi w8 h8 e3 e4 hx hy (br_f (by decide) ?_))⟩)
        refine zm_become (t := 8) rfl rfl (by omega) (by omega) ?_
        intro v0 y1 y2
        dsimp only
        refine ⟨hin, hin, nm_e ⟨hin, hin, nm_e ?_⟩⟩
        have yw : upd a_width 8 (a_width i) i - nI x = nI (w - x) := by rw [pk_un (by omega), e3, pk_sub (by omega)]
        have yh : upd a_height 8 (a_height i) i - nI y = nI (h - y) := by rw [pk_un (by omega), e4, pk_sub (by omega)]
        rw [yw, yh]
        refine zm_ycrop (w := w - x) (h := h - y) hi (by omega) (by omega) pk_us pk_us ?_
        intro vl hD
        refine ⟨by rw [pk_us, pk_us], zr_mk (B := B) (zr_put (i := i) H H.2 ?_ g1 g2 (by rw [pk_un (by omega)]; exact g3) ?_) (zm_Fimg F (fun j z1 z2 => by rw [hD.2 j (by omega)]; exact y2 j (by omega)) (fun j z1 z2 => ⟨by rw [pk_un (by omega), pk_un (by omega)], by rw [pk_un (by omega), pk_un (by omega)], pk_un (by omega), pk_un (by omega), pk_un (by omega)⟩))⟩
        · intro j hj hne
          exact ⟨rfl, rfl, pk_un (by omega), pk_un hne, pk_un hne, pk_un hne, rfl, rfl, rfl, rfl, by rw [pk_un hne, pk_un (by omega)], by rw [pk_un hne, pk_un (by omega)], fun q hq => by rw [hD.2 _ (by omega)]; exact y2 _ (by omega), fun hBj c hc => rfl⟩
        · unfold zr_J
          rw [pk_us, pk_us, pk_us, pk_us, pk_us]
          refine ⟨w - x, h - y, (c0 : Int), R, D, by omega, ⟨rfl, rfl, rfl, rfl⟩, ⟨zm_oi c0, e6, e7⟩, hRD, hfo, fun x' y' hx' hy' => ?_⟩
          obtain ⟨c, c1, c2, c3⟩ := hc (x' + x) (y' + y) (by omega) (by omega)
          refine ⟨c, c1, ?_, ?_⟩
          · rw [← c2, ← d2, Int.natCast_add, Int.natCast_add, Int.add_mul, Int.add_mul]
            omega
          · show vl (64 * i + (8 * y' + x')) = _
            rw [hD.1 x' y' hx' (Or.inl hy')]
            have t2 := y1 (8 * (y' + y) + (x' + x)) (by omega)
            exact t2.trans c3
      · refine zm_xin0 hi e1 e2 ho (br_t rfl (zm_ou0 hi (br_t rfl ⟨hin, br_f g3 (zm_yin0 hi e3 e4 ho (br_t rfl ⟨rfl, zr_mk H F⟩))⟩)))
  · exact zm_nibad hbad (br_f (by decide) (zm_ou1 hbad (br_f (by decide) ⟨rfl, zr_mk H F⟩)))
theorem zm_yq {post : SY → Prop} {i w h : Nat} (hi : i < 4) (w8 : w ≤ 8) (h8 : h ≤ 8) (hw : a_width i = nI h) (hh : a_height i = nI w) (h9 : a_height 8 = nI h)
    (K : ∀ vl, zy_D vl a_value i h (fun x y => 8 * (h - 1 - x) + y) w 0 → post (vl, a_width, a_height, a_there, a_damaged, a_form)) : ∃ m, wY_quarter_35 post (nI i) m 0 a_value a_width a_height a_there a_damaged a_form := by
  have hin : vp_in (nI i) 9 := vp_in_nI (by omega) (by decide)
  have ei : (nI i).toNatClampNeg = i := nI_clamp (by omega)
  have H47 : ∀ (J : Int32 → (Nat → Int32) → (Nat → Int32) → (Nat → Int32) → (Nat → Int32) → (Nat → Int32) → (Nat → Int32) → Prop) y, y < w → (∀ vl, zy_D vl a_value i h (fun x y => 8 * (h - 1 - x) + y) (y + 1) 0 → J (nI (y + 1)) vl a_width a_height a_there a_damaged a_form) →
      ∀ d x vl, x + d = h → zy_D vl a_value i h (fun x y => 8 * (h - 1 - x) + y) y x → ∀ m, d < m → wY_quarter_47 post J (nI i) (nI y) m (nI x) vl a_width a_height a_there a_damaged a_form := by
    intro J y hy KJ d
    induction d with
    | zero =>
      intro x vl hx hD m hm
      obtain ⟨m, rfl⟩ : ∃ z, m = z + 1 := ⟨m - 1, by omega⟩
      refine ⟨hin, ?_⟩
      rw [ei, hw]
      rw [show x = h by omega] at hD ⊢
      exact br_t (nI_le (by omega) (by omega)) (nm_r (nI_1 y) (KJ vl (zy_row hD)))
    | succ d ih =>
      intro x vl hx hD m hm
      obtain ⟨m, rfl⟩ : ∃ z, m = z + 1 := ⟨m - 1, by omega⟩
      refine ⟨hin, ?_⟩
      have ea : (512 + (8 * ((a_height 8 - 1) - nI x))) + nI y = nI (512 + (8 * (h - 1 - x) + y)) := by
        have t1 : nI h - 1 = nI (h - 1) := pk_sub (b := 1) (by omega)
        have t2 : 8 * nI (h - 1 - x) = nI (8 * (h - 1 - x)) := pk_mul 8 _
        have t3 : 512 + nI (8 * (h - 1 - x)) = nI (512 + 8 * (h - 1 - x)) := nI_add 512 _
        rw [h9, t1, pk_sub (by omega), t2, t3, nI_add, Nat.add_assoc]
      rw [ei, hw, ea, zy_adr]
      refine br_f (nI_ge (by omega) (by omega)) ⟨vp_in_nI (by omega) (by decide), vp_in_nI (by omega) (by decide), nm_e (nm_r (nI_1 x) ?_)⟩
      rw [nI_clamp (by omega), nI_clamp (by omega)]
      exact ih (x + 1) _ (by omega) (zy_up hD hi (by omega) (by omega) (by omega)) m (by omega)
  have H35 : ∀ d y vl, y + d = w → zy_D vl a_value i h (fun x y => 8 * (h - 1 - x) + y) y 0 → ∀ m, d < m → wY_quarter_35 post (nI i) m (nI y) vl a_width a_height a_there a_damaged a_form := by
    intro d
    induction d with
    | zero =>
      intro y vl hy hD m hm
      obtain ⟨m, rfl⟩ : ∃ z, m = z + 1 := ⟨m - 1, by omega⟩
      refine ⟨hin, ?_⟩
      rw [ei, hh]
      have e : y = w := by omega
      subst e
      exact br_t (nI_le (by omega) (by omega)) (K vl hD)
    | succ d ih =>
      intro y vl hy hD m hm
      obtain ⟨m, rfl⟩ : ∃ z, m = z + 1 := ⟨m - 1, by omega⟩
      refine ⟨hin, ?_⟩
      rw [ei, hh]
      exact br_f (nI_ge (by omega) (by omega)) ⟨h + 1, H47 _ y (by omega) (fun vl2 hD2 => ih (y + 1) vl2 (by omega) hD2 m (by omega)) h 0 vl (by omega) hD (h + 1) (by omega)⟩
  exact ⟨w + 1, H35 w 0 a_value (by omega) (zy_0 _ _ _ _) (w + 1) (by omega)⟩
/-- one quarter of the reference -/
theorem zm_quarter {post : SY → Prop} {i w h : Nat} (hi : i < 4) (w8 : w ≤ 8) (h8 : h ≤ 8) (hw : a_width i = nI w) (hh : a_height i = nI h)
    (K : ∀ vl yw yh th dm fm, (∀ x y, x < h → y < w → vl (64 * i + (8 * y + x)) = a_value (64 * i + (8 * (h - 1 - x) + y))) → (∀ j, j < 512 → (j < 64 * i ∨ 64 * i + 64 ≤ j) → vl j = a_value j) →
      yw i = nI h → yh i = nI w → (∀ j, j < 8 → j ≠ i → yw j = a_width j ∧ yh j = a_height j) → (∀ j, j < 8 → th j = a_there j ∧ dm j = a_damaged j ∧ fm j = a_form j) →
      post (vl, yw, yh, th, dm, fm)) : wpY_quarter post (a_value, a_width, a_height, a_there, a_damaged, a_form) (nI i) := by
  have hin : vp_in (nI i) 9 := vp_in_nI (by omega) (by decide)
  have ei : (nI i).toNatClampNeg = i := nI_clamp (by omega)
  unfold wpY_quarter
  dsimp only
  rw [ei]
  refine zm_become (t := 8) rfl rfl (by omega) (by omega) ?_
  intro v0 y1 y2
  dsimp only
  refine ⟨hin, nm_e ⟨hin, nm_e ?_⟩⟩
  have q1 : upd a_height 8 (a_height i) 8 = nI h := by rw [pk_us]; exact hh
  have q2 : upd (upd a_width 8 (a_width i)) i (nI h) 8 = nI w := by rw [pk_un (by omega), pk_us]; exact hw
  rw [q1, q2]
  refine zm_yq (w := w) (h := h) hi w8 h8 pk_us pk_us (by rw [pk_un (by omega)]; exact q1) ?_
  intro vl hD
  refine K _ _ _ _ _ _ ?_ ?_ pk_us pk_us ?_ ?_
  · intro x y hx hy
    rw [hD.1 x y hx (Or.inl hy)]
    exact y1 (8 * (h - 1 - x) + y) (by omega)
  · intro j hj hj2
    rw [hD.2 j hj2]
    exact y2 j (by omega)
  · intro j hj hne
    exact ⟨by rw [pk_un hne, pk_un (by omega)], by rw [pk_un hne, pk_un (by omega)]⟩
  · intro j hj
    exact ⟨pk_un (by omega), pk_un (by omega), pk_un (by omega)⟩
end
/-- a quarter of the component: the five arrays wide, high, start, right, down -/
def zx_q (i : Nat) (p : (Nat → Int32) × (Nat → Int32) × (Nat → Int32) × (Nat → Int32) × (Nat → Int32)) : (Nat → Int32) × (Nat → Int32) × (Nat → Int32) × (Nat → Int32) × (Nat → Int32) :=
  (upd p.1 i (p.2.1 i), upd p.2.1 i (p.1 i), upd p.2.2.1 i (p.2.2.1 i + ((p.2.1 i - 1) * p.2.2.2.2 i)), upd p.2.2.2.1 i (-(p.2.2.2.2 i)), upd p.2.2.2.2 i (p.2.2.2.1 i))
def zx_it (i : Nat) : Nat → (Nat → Int32) × (Nat → Int32) × (Nat → Int32) × (Nat → Int32) × (Nat → Int32) → (Nat → Int32) × (Nat → Int32) × (Nat → Int32) × (Nat → Int32) × (Nat → Int32)
  | 0, p => p
  | m + 1, p => zx_it i m (zx_q i p)
def zx_I (wd hg st rt dn : Int32) : Prop :=
  ∃ (w h : Nat) (s R D : Int), (1 ≤ w ∧ w ≤ 8 ∧ 1 ≤ h ∧ h ≤ 8) ∧ (wd = nI w ∧ hg = nI h) ∧ (st = Int32.ofInt s ∧ rt = Int32.ofInt R ∧ dn = Int32.ofInt D) ∧ (-8 ≤ R ∧ R ≤ 8 ∧ -8 ≤ D ∧ D ≤ 8) ∧
    ∀ x y : Nat, x < w → y < h → ∃ c : Nat, c < 64 ∧ s + (x : Int) * R + (y : Int) * D = (c : Int)
theorem zx_al {h x y c : Nat} {s R D c0 : Int} (hx : x < h) (d3 : s + ((h - 1 : Nat) : Int) * D = c0) (c2 : s + (y : Int) * R + ((h - 1 - x : Nat) : Int) * D = (c : Int)) : c0 + (x : Int) * (-D) + (y : Int) * R = (c : Int) := by
  rw [← c2, ← d3]
  have t1 : ((h - 1 - x : Nat) : Int) = ((h - 1 : Nat) : Int) - (x : Int) := by omega
  rw [t1, Int.sub_mul, Int.mul_neg]
  omega
theorem zx_es {st hg dn : Int32} {h c0 : Nat} {s D : Int} (h1 : 1 ≤ h) (e5 : st = Int32.ofInt s) (e2 : hg = nI h) (e7 : dn = Int32.ofInt D) (d3 : s + ((h - 1 : Nat) : Int) * D = (c0 : Int)) : st + ((hg - 1) * dn) = nI c0 := by
  have t1 : nI h - 1 = nI (h - 1) := pk_sub (b := 1) (by omega)
  rw [e5, e2, e7, t1, zm_oi (h - 1), zm_oi c0, ← Int32.ofInt_mul, ← Int32.ofInt_add, d3]
theorem zx_step {wd hg st rt dn : Int32} (I : zx_I wd hg st rt dn) : zx_I hg wd (st + ((hg - 1) * dn)) (-dn) rt ∧ vp_nar .short ((st + ((hg - 1) * dn)).toInt16.toInt32) = st + ((hg - 1) * dn) ∧
    vp_nar .byte ((-dn).toInt8.toInt32) = -dn ∧ vp_nar .byte rt = rt ∧ vp_nar .byte hg = hg ∧ vp_nar .byte wd = wd := by
  obtain ⟨w, h, s, R, D, ⟨w1, w8, h1, h8⟩, ⟨e1, e2⟩, ⟨e5, e6, e7⟩, hRD, hc⟩ := I
  obtain ⟨c0, d1, d2⟩ := hc 0 (h - 1) (by omega) (by omega)
  have d3 : s + ((h - 1 : Nat) : Int) * D = (c0 : Int) := by
    have : s + ((0 : Nat) : Int) * R + ((h - 1 : Nat) : Int) * D = s + ((h - 1 : Nat) : Int) * D := by simp
    omega
  have es := zx_es h1 e5 e2 e7 d3
  refine ⟨⟨h, w, (c0 : Int), -D, R, ⟨h1, h8, w1, w8⟩, ⟨e2, e1⟩, ⟨?_, ?_, e6⟩, by omega, fun x y hx hy => ?_⟩, ?_, ?_, ?_, ?_, ?_⟩
  · rw [es]; exact zm_oi c0
  · rw [e7, ← Int32.ofInt_neg]
  · obtain ⟨c, c1, c2⟩ := hc y (h - 1 - x) hy (by omega)
    exact ⟨c, c1, zx_al hx d3 c2⟩
  · rw [es]; exact zn_vs2 (by omega)
  · rw [e7, ← Int32.ofInt_neg, pk_vb]
    exact zm_Bo (by omega) (by omega)
  · rw [e6]; exact zn_Bv (zm_Bo (by omega) (by omega))
  · rw [e2]; exact zn_vb (by omega)
  · rw [e1]; exact zn_vb (by omega)
section
variable {f_bodyLength f_bits f_bitCount f_readAt f_readEnd f_w f_h : Int32} {a_pixels a_users a_buffer a_wide a_high a_start a_right a_down a_factor a_offset a_files a_fileLength a_plain a_body a_residue a_tokens a_distances a_heads a_chain a_weight a_parent a_symbol a_codeLength a_codeOf a_lengthOf a_perLength a_before a_last : Nat → Int32} {a_value a_width a_height a_there a_damaged a_form : Nat → Int32}
theorem zm_turnX {post : Int32 → SX → Prop} {i : Nat} (hi : i < 4) : ∀ m wd hg st rt dn, zx_I (wd i) (hg i) (st i) (rt i) (dn i) →
    post ((zx_it i m (wd, hg, st, rt, dn)).1 i) (f_bodyLength, f_bits, f_bitCount, f_readAt, f_readEnd, f_w, f_h, a_pixels, a_users, a_buffer, (zx_it i m (wd, hg, st, rt, dn)).1, (zx_it i m (wd, hg, st, rt, dn)).2.1, (zx_it i m (wd, hg, st, rt, dn)).2.2.1, (zx_it i m (wd, hg, st, rt, dn)).2.2.2.1, (zx_it i m (wd, hg, st, rt, dn)).2.2.2.2, a_factor, a_offset, a_files, a_fileLength, a_plain, a_body, a_residue, a_tokens, a_distances, a_heads, a_chain, a_weight, a_parent, a_symbol, a_codeLength, a_codeOf, a_lengthOf, a_perLength, a_before, a_last) →
    m < 4 → ∀ fu, m < fu → wX_turn_17 post (nI i) f_bodyLength f_bits f_bitCount f_readAt f_readEnd f_w f_h fu (nI m) a_pixels a_users a_buffer wd hg st rt dn a_factor a_offset a_files a_fileLength a_plain a_body a_residue a_tokens a_distances a_heads a_chain a_weight a_parent a_symbol a_codeLength a_codeOf a_lengthOf a_perLength a_before a_last := by
  have hin4 : vp_in (nI i) 4 := vp_in_nI (by omega) (by decide)
  have ei : (nI i).toNatClampNeg = i := nI_clamp (by omega)
  intro m
  induction m with
  | zero =>
    intro wd hg st rt dn I K hm fu hfu
    obtain ⟨fu, rfl⟩ : ∃ z, fu = z + 1 := ⟨fu - 1, by omega⟩
    refine br_t (by decide) ⟨hin4, ?_⟩
    rw [ei]
    exact K
  | succ m ih =>
    intro wd hg st rt dn I K hm fu hfu
    obtain ⟨fu, rfl⟩ : ∃ z, fu = z + 1 := ⟨fu - 1, by omega⟩
    obtain ⟨I2, n1, n2, n3, n4, n5⟩ := zx_step I
    refine br_f (nI_nle (by omega) (by omega)) ?_
    rw [ei]
    refine ⟨hin4, nm_e ⟨hin4, nm_e ⟨hin4, hin4, hin4, hin4, nm_e ⟨hin4, hin4, nm_e ⟨hin4, nm_e ⟨hin4, hin4, nm_e ⟨hin4, nm_e (nm_r (pk_m1 m) ?_)⟩⟩⟩⟩⟩⟩⟩
    rw [n1, n2, n3, n4, n5]
    refine ih _ _ _ _ _ ?_ K (by omega) fu (by omega)
    rw [pk_us, pk_us, pk_us, pk_us, pk_us]
    exact I2
theorem zm_turnY {post : Int32 → SY → Prop} {B : Nat → Nat} {i M : Nat} {p1 : Int32} (hi : i < 4) (hM : p1 &&& 3 = nI M) (hM3 : M < 4) (hBi : B i < 4) :
    ∀ m q wd hg st rt dn vl yw yh th dm fm, q + m = M → zr_IB B a_pixels a_users a_buffer wd hg st rt dn a_factor a_offset vl yw yh th → zr_F a_files a_fileLength vl yw yh th dm fm →
      (∀ vl yw yh th dm fm, zr_IB B a_pixels a_users a_buffer (zx_it i m (wd, hg, st, rt, dn)).1 (zx_it i m (wd, hg, st, rt, dn)).2.1 (zx_it i m (wd, hg, st, rt, dn)).2.2.1 (zx_it i m (wd, hg, st, rt, dn)).2.2.2.1 (zx_it i m (wd, hg, st, rt, dn)).2.2.2.2 a_factor a_offset vl yw yh th →
        zr_F a_files a_fileLength vl yw yh th dm fm → post (yw i) (vl, yw, yh, th, dm, fm)) →
      ∀ fu, m < fu → wY_turn_23 post (nI i) p1 fu (nI q) vl yw yh th dm fm := by
  have hin : vp_in (nI i) 9 := vp_in_nI (by omega) (by decide)
  have ei : (nI i).toNatClampNeg = i := nI_clamp (by omega)
  intro m
  induction m with
  | zero =>
    intro q wd hg st rt dn vl yw yh th dm fm hq H F K fu hfu
    obtain ⟨fu, rfl⟩ : ∃ z, fu = z + 1 := ⟨fu - 1, by omega⟩
    refine br_t (by rw [hM]; exact nI_le (by omega) (by omega)) ⟨hin, ?_⟩
    rw [ei]
    exact K _ _ _ _ _ _ H F
  | succ m ih =>
    intro q wd hg st rt dn vl yw yh th dm fm hq H F K fu hfu
    obtain ⟨fu, rfl⟩ : ∃ z, fu = z + 1 := ⟨fu - 1, by omega⟩
    rcases H.1 i hi with ⟨g1, _⟩ | ⟨g1, g2, g3, g4⟩
    · omega
    obtain ⟨w, h, s, R, D, ⟨w1, w8, h1, h8⟩, ⟨e1, e2, e3, e4⟩, ⟨e5, e6, e7⟩, hRD, hfo, hc⟩ := g4
    obtain ⟨c0, d1, d2, _⟩ := hc 0 (h - 1) (by omega) (by omega)
    have d3 : s + ((h - 1 : Nat) : Int) * D = (c0 : Int) := by
      have : s + ((0 : Nat) : Int) * R + ((h - 1 : Nat) : Int) * D = s + ((h - 1 : Nat) : Int) * D := by simp
      omega
    have es := zx_es h1 e5 e2 e7 d3
    refine br_f (by rw [hM]; exact nI_ge (by omega) (by omega)) ?_
    refine zm_quarter hi w8 h8 e3 e4 ?_
    intro vl2 yw2 yh2 th2 dm2 fm2 a1 a2 a3 a4 a5 a6
    refine nm_r (nI_1 q) ?_
    refine ih (q + 1) (upd wd i (hg i)) (upd hg i (wd i)) (upd st i (st i + ((hg i - 1) * dn i))) (upd rt i (-(dn i))) (upd dn i (rt i)) vl2 yw2 yh2 th2 dm2 fm2 (by omega) ?_ ?_ K fu (by omega)
    · refine zr_put (i := i) H H.2 ?_ g1 g2 (by rw [(a6 i (by omega)).1]; exact g3) ?_
      · intro j hj hne
        exact ⟨rfl, rfl, (a6 j (by omega)).1, pk_un hne, pk_un hne, pk_un hne, pk_un hne, pk_un hne, rfl, rfl, (a5 j (by omega) hne).1, (a5 j (by omega) hne).2, fun q hq => a2 _ (by omega) (by omega), fun hBj c hc => rfl⟩
      · unfold zr_J
        rw [pk_us, pk_us, pk_us, pk_us, pk_us, a3, a4, es]
        refine ⟨h, w, (c0 : Int), -D, R, ⟨h1, h8, w1, w8⟩, ⟨e2, e1, rfl, rfl⟩, ⟨zm_oi c0, by rw [e7, ← Int32.ofInt_neg], e6⟩, by omega, hfo, fun x y hx hy => ?_⟩
        obtain ⟨c, c1, c2, c3⟩ := hc y (h - 1 - x) hy (by omega)
        refine ⟨c, c1, zx_al hx d3 c2, ?_⟩
        show vl2 (64 * i + (8 * y + x)) = _
        rw [a1 x y hx hy]
        exact c3
    · exact zm_Fimg F (fun j z1 z2 => a2 j z2 (by omega)) (fun j z1 z2 => ⟨(a5 j z2 (by omega)).1, (a5 j z2 (by omega)).2, (a6 j z2).1, (a6 j z2).2.1, (a6 j z2).2.2⟩)
theorem zm_turn {k : Nat} {B : Nat → Nat} (H : zr_IB B a_pixels a_users a_buffer a_wide a_high a_start a_right a_down a_factor a_offset a_value a_width a_height a_there) (F : zr_F a_files a_fileLength a_value a_width a_height a_there a_damaged a_form) (v1 v2 : Int32) : wpX_turn (fun r u' => wpY_turn (fun r' v' => r' = r ∧ i_Rel k u' v') (a_value, a_width, a_height, a_there, a_damaged, a_form) v1 v2) (f_bodyLength, f_bits, f_bitCount, f_readAt, f_readEnd, f_w, f_h, a_pixels, a_users, a_buffer, a_wide, a_high, a_start, a_right, a_down, a_factor, a_offset, a_files, a_fileLength, a_plain, a_body, a_residue, a_tokens, a_distances, a_heads, a_chain, a_weight, a_parent, a_symbol, a_codeLength, a_codeOf, a_lengthOf, a_perLength, a_before, a_last) v1 v2 := by
  unfold wpX_turn wpY_turn
  dsimp only
  rcases zm_ix v1 with ⟨i, hi, rfl⟩ | hbad
  · have hin : vp_in (nI i) 9 := vp_in_nI (by omega) (by decide)
    have ei : (nI i).toNatClampNeg = i := nI_clamp (by omega)
    rw [ei]
    rcases H.1 i hi with ⟨g1, g2, g3⟩ | ⟨g1, g2, g3, g4⟩
    · exact zm_ninone hi g2 (br_f (by decide) (zm_ou0 hi (br_t rfl ⟨hin, br_t g3 ⟨rfl, zr_mk H F⟩⟩)))
    · obtain ⟨M, hM3, hM⟩ := pk_andE v2 (m := 3) 2 (by decide)
      obtain ⟨w, h, s, R, D, hsz, ⟨e1, e2, e3, e4⟩, e5, hRD, hfo, hc⟩ := g4
      refine zm_niok hi g1 g2 (br_t rfl (nm_r hM ⟨M + 1, ?_⟩))
      refine zm_turnX hi M a_wide a_high a_start a_right a_down ⟨w, h, s, R, D, hsz, ⟨e1, e2⟩, e5, hRD, fun x y hx hy => ?_⟩ ?_ (by omega) (M + 1) (by omega)
      · obtain ⟨c, c1, c2, _⟩ := hc x y hx hy
        exact ⟨c, c1, c2⟩
      · refine zm_ou0 hi (br_t rfl ⟨hin, br_f g3 ⟨M + 1, ?_⟩⟩)
        refine zm_turnY (a_files := a_files) (a_fileLength := a_fileLength) (B := B) (M := M) hi hM (by omega) g1 M 0 a_wide a_high a_start a_right a_down a_value a_width a_height a_there a_damaged a_form (by omega) H F ?_ (M + 1) (by omega)
        intro vl yw yh th dm fm H2 F2
        refine ⟨?_, zr_mk H2 F2⟩
        rcases H2.1 i hi with ⟨q1, _⟩ | ⟨_, _, _, q4⟩
        · omega
        · obtain ⟨w', h', _, _, _, _, ⟨t1, t2, t3, t4⟩, _⟩ := q4
          rw [t1, t3]
  · exact zm_nibad hbad (br_f (by decide) (zm_ou1 hbad (br_f (by decide) ⟨rfl, zr_mk H F⟩)))
end
end
section
/-! the methods on files -/
theorem zr_Iy {B : Nat → Nat} {pixels users buffer wide high start right down factor offset value width height there value' width' height' there' : Nat → Int32}
    (H : zr_IB B pixels users buffer wide high start right down factor offset value width height there) (hv : ∀ k, k < 256 → value' k = value k) (h : ∀ j, j < 4 → (width' j = width j ∧ height' j = height j ∧ there' j = there j)) :
    zr_IB B pixels users buffer wide high start right down factor offset value' width' height' there' := by
  refine ⟨fun i hi => ?_, H.2⟩
  obtain ⟨h1, h2, h3⟩ := h i hi
  rw [h3]
  rcases H.1 i hi with g | ⟨g1, g2, g3, g4⟩
  · exact Or.inl g
  · refine Or.inr ⟨g1, g2, g3, ?_⟩
    unfold zr_J at g4 ⊢
    rw [h1, h2]
    exact zi_VF (fun _ _ => rfl) (fun k hk => hv _ (by omega)) g4
theorem zm_Fset {f ln fmt w h : Nat} {p : Nat → Nat} {files fileLength value width height there damaged form files' value' width' height' there' damaged' form' : Nat → Int32} (F : zr_F files fileLength value width height there damaged form) (hf : f < 4)
    (G : zf_G files files' f ln fmt w h p) (hv : ∀ j, j < 64 * (4 + f) ∨ 64 * (4 + f) + 64 ≤ j → value' j = value j)
    (hY : ∀ j, j ≠ 4 + f → (width' j = width j ∧ height' j = height j ∧ there' j = there j ∧ damaged' j = damaged j ∧ form' j = form j))
    (h1 : ¬ there' (4 + f) = 0) (h2 : damaged' (4 + f) = 0) (h3 : form' (4 + f) = nI fmt) (h4 : width' (4 + f) = nI w) (h5 : height' (4 + f) = nI h)
    (h6 : ∀ x y, x < w → y < h → value' (64 * (4 + f) + (8 * y + x)) = nI (p (y * w + x))) :
    zr_F files' (upd fileLength f (nI ln)) value' width' height' there' damaged' form' := by
  obtain ⟨G1, G2, G3⟩ := G
  refine ⟨G1, fun g hg => ?_⟩
  by_cases e : g = f
  · subst e
    have g8 := G3.2.2.1
    have g240 := G3.2.2.2.1
    exact ⟨ln, g240, pk_us, Or.inr (Or.inl ⟨by omega, h1, h2, fmt, w, h, p, G3, h3, h4, h5, h6⟩)⟩
  · obtain ⟨y1, y2, y3, y4, y5⟩ := hY (4 + g) (by omega)
    exact zr_fput (F.2 g hg) (fun k hk => G2 _ (by omega)) (pk_un e) (fun k hk => hv _ (by omega)) y1 y2 y3 y4 y5
section
variable {f_bodyLength f_bits f_bitCount f_readAt f_readEnd f_w f_h : Int32} {a_pixels a_users a_buffer a_wide a_high a_start a_right a_down a_factor a_offset a_files a_fileLength a_plain a_body a_residue a_tokens a_distances a_heads a_chain a_weight a_parent a_symbol a_codeLength a_codeOf a_lengthOf a_perLength a_before a_last : Nat → Int32} {a_value a_width a_height a_there a_damaged a_form : Nat → Int32}
theorem zm_nfbad {post : Int32 → Prop} {x : Int32} (h : zm_bad x) (K : post (-1)) : wpX_needFile post (f_bodyLength, f_bits, f_bitCount, f_readAt, f_readEnd, f_w, f_h, a_pixels, a_users, a_buffer, a_wide, a_high, a_start, a_right, a_down, a_factor, a_offset, a_files, a_fileLength, a_plain, a_body, a_residue, a_tokens, a_distances, a_heads, a_chain, a_weight, a_parent, a_symbol, a_codeLength, a_codeOf, a_lengthOf, a_perLength, a_before, a_last) x := by
  unfold wpX_needFile
  exact zm_sm0 h (br_t rfl K)
theorem zm_nf {post : Int32 → Prop} {f ln : Nat} (hf : f < 4) (hln : ln ≤ 240) (he : a_fileLength f = nI ln) (K2 : ln = 0 → post (-2)) (K0 : 1 ≤ ln → zc_I a_files (f * 240) ln → post 0) (K3 : 1 ≤ ln → ¬ zc_I a_files (f * 240) ln → post (-3)) :
    wpX_needFile post (f_bodyLength, f_bits, f_bitCount, f_readAt, f_readEnd, f_w, f_h, a_pixels, a_users, a_buffer, a_wide, a_high, a_start, a_right, a_down, a_factor, a_offset, a_files, a_fileLength, a_plain, a_body, a_residue, a_tokens, a_distances, a_heads, a_chain, a_weight, a_parent, a_symbol, a_codeLength, a_codeOf, a_lengthOf, a_perLength, a_before, a_last) (nI f) := by
  unfold wpX_needFile
  refine zm_sm1 hf (br_f (by decide) ⟨vp_in_nI hf (by decide), ?_⟩)
  rw [nI_clamp (by omega), he]
  by_cases e : ln = 0
  · exact br_t (by rw [e]; rfl) (K2 e)
  · refine br_f (nI_ne0 (by omega) (by omega)) (zc_intact hf hln he (fun z => ?_) (fun z => ?_))
    · exact br_f (by decide) (K0 (by omega) z)
    · exact br_t rfl (K3 (by omega) z)
theorem zm_4 (f : Nat) : (4 : Int32) + nI f = nI (4 + f) := nI_add 4 f
theorem zm_ck2 {post : Int32 → Prop} {f : Nat} (hf : f < 4) (h : a_there (4 + f) = 0) (K : post (-2)) : wpY_check post (a_value, a_width, a_height, a_there, a_damaged, a_form) (nI f) := by
  unfold wpY_check
  dsimp only
  rw [zm_4, nI_clamp (by omega)]
  exact ⟨vp_in_nI (by omega) (by decide), br_t h K⟩
theorem zm_ck0 {post : Int32 → Prop} {f : Nat} (hf : f < 4) (h : ¬ a_there (4 + f) = 0) (hd : a_damaged (4 + f) = 0) (K : post 0) : wpY_check post (a_value, a_width, a_height, a_there, a_damaged, a_form) (nI f) := by
  unfold wpY_check
  dsimp only
  rw [zm_4, nI_clamp (by omega)]
  exact ⟨vp_in_nI (by omega) (by decide), br_f h ⟨vp_in_nI (by omega) (by decide), br_t hd K⟩⟩
theorem zm_ck3 {post : Int32 → Prop} {f : Nat} (hf : f < 4) (h : ¬ a_there (4 + f) = 0) (hd : a_damaged (4 + f) = 1) (K : post (-3)) : wpY_check post (a_value, a_width, a_height, a_there, a_damaged, a_form) (nI f) := by
  unfold wpY_check
  dsimp only
  rw [zm_4, nI_clamp (by omega), hd]
  exact ⟨vp_in_nI (by omega) (by decide), br_f h ⟨vp_in_nI (by omega) (by decide), br_f (by decide) K⟩⟩
theorem zm_save {k : Nat} {B : Nat → Nat} (H : zr_IB B a_pixels a_users a_buffer a_wide a_high a_start a_right a_down a_factor a_offset a_value a_width a_height a_there) (F : zr_F a_files a_fileLength a_value a_width a_height a_there a_damaged a_form) (v1 v2 v3 : Int32) : wpX_save (fun r u' => wpY_save (fun r' v' => r' = r ∧ i_Rel k u' v') (a_value, a_width, a_height, a_there, a_damaged, a_form) v1 v2 v3) (f_bodyLength, f_bits, f_bitCount, f_readAt, f_readEnd, f_w, f_h, a_pixels, a_users, a_buffer, a_wide, a_high, a_start, a_right, a_down, a_factor, a_offset, a_files, a_fileLength, a_plain, a_body, a_residue, a_tokens, a_distances, a_heads, a_chain, a_weight, a_parent, a_symbol, a_codeLength, a_codeOf, a_lengthOf, a_perLength, a_before, a_last) v1 v2 v3 := by
  unfold wpX_save wpY_save
  dsimp only
  rcases zm_ix v2 with ⟨f, hf, rfl⟩ | hbad2
  · refine zm_sm1 hf (br_f (by decide) ?_)
    rcases zm_ix v3 with ⟨fmt, hfmt, rfl⟩ | hbad3
    · refine zm_sm1 hfmt (br_f (by decide) ?_)
      rcases zm_ix v1 with ⟨i, hi, rfl⟩ | hbad
      · have hin : vp_in (nI i) 9 := vp_in_nI (by omega) (by decide)
        have ei : (nI i).toNatClampNeg = i := nI_clamp (by omega)
        have e4f : (nI (4 + f)).toNatClampNeg = 4 + f := nI_clamp (by omega)
        have f9 : vp_in (nI (4 + f)) 9 := vp_in_nI (by omega) (by decide)
        rw [ei, zm_4, e4f]
        rcases H.1 i hi with ⟨g1, g2, g3⟩ | ⟨g1, g2, g3, g4⟩
        · exact zm_ninone hi g2 (br_f (by decide) (zm_ou0 hi (br_t rfl (zm_ou0 hf (br_t rfl (zm_ou0 hfmt (br_t rfl ⟨hin, br_t g3 ⟨rfl, zr_mk H F⟩⟩)))))))
        · obtain ⟨w, h, s, R, D, ⟨w1, w8, h1, h8⟩, ⟨e1, e2, e3, e4⟩, ⟨e5, e6, e7⟩, hRD, hfo, hc⟩ := g4
          refine zm_niok hi g1 g2 (br_t rfl ?_)
          refine zm_gather (w := w) (h := h) (vl := fun k => a_value (64 * i + k)) hi g1 g2 e5 e6 e7 e1 e2 w1 w8 h8 hc ?_
          intro pl hpl
          have hP : zp_P pl (fun k => (pl k).toNatClampNeg) (w * h) := by
            intro k hk
            have q1 : k % w < w := Nat.mod_lt _ (by omega)
            have q2 : k / w < h := Nat.div_lt_of_lt_mul hk
            obtain ⟨c, _, _, c3⟩ := hc (k % w) (k / w) q1 q2
            obtain ⟨j, hj, ej⟩ := zn_r255 ((a_pixels (64 * B i + c) * a_factor i) + a_offset i)
            have e : pl k = nI j := by
              rw [hpl k hk]
              exact c3.trans ej
            show (pl k).toNatClampNeg < 256 ∧ pl k = nI (pl k).toNatClampNeg
            rw [e, nI_clamp (by omega)]
            exact ⟨hj, rfl⟩
          refine zf_encode (p := fun k => (pl k).toNatClampNeg) (f_w := nI w) (f_h := nI h) (a_plain := pl) hf hfmt rfl rfl ⟨w1, w8, h1, h8, fun k hk => (hP k hk).1⟩ hP F.1 ?_
          intro bl b bc bo fj ln re tk ds hd ch we pa sy cl co lo pe be la G
          dsimp only
          refine zm_ou0 hi (br_t rfl (zm_ou0 hf (br_t rfl (zm_ou0 hfmt (br_t rfl ⟨hin, br_f g3 ?_⟩)))))
          refine zm_become (t := 4 + f) rfl rfl (by omega) (by omega) ?_
          intro vl y1 y2
          dsimp only
          refine ⟨f9, nm_e ⟨f9, nm_e (zm_places rfl (by omega) ?_)⟩⟩
          rw [zn_bo0]
          refine ⟨by rw [pk_un (by omega), pk_un (by omega), e3, e4], zr_mk (B := B) (zr_Iy H (fun q hq => y2 q (by omega)) (fun j hj => ⟨pk_un (by omega), pk_un (by omega), pk_un (by omega)⟩)) (zm_Fset F hf G y2 ?_ (by rw [pk_us]; decide) pk_us pk_us (by rw [pk_us]; exact e3) (by rw [pk_us]; exact e4) ?_)⟩
          · intro j hj
            exact ⟨pk_un hj, pk_un hj, pk_un hj, by rw [pk_un hj, pk_un hj], by rw [pk_un hj, pk_un hj]⟩
          · intro x y hx hy
            have hcl := zm_cell hx hy
            obtain ⟨d1, d2⟩ := zm_dm (y := y) hx
            rw [y1 _ (by omega)]
            have t1 := hpl _ hcl
            rw [d1, d2] at t1
            have t2 := (hP _ hcl).2
            exact t1.symm.trans t2
      · exact zm_nibad hbad (br_f (by decide) (zm_ou1 hbad (br_f (by decide) ⟨rfl, zr_mk H F⟩)))
    · refine zm_sm0 hbad3 (br_t rfl ?_)
      rcases zm_ix v1 with ⟨i, hi, rfl⟩ | hbad
      · exact zm_ou0 hi (br_t rfl (zm_ou0 hf (br_t rfl (zm_ou1 hbad3 (br_f (by decide) ⟨rfl, zr_mk H F⟩)))))
      · exact zm_ou1 hbad (br_f (by decide) ⟨rfl, zr_mk H F⟩)
  · refine zm_sm0 hbad2 (br_t rfl ?_)
    rcases zm_ix v1 with ⟨i, hi, rfl⟩ | hbad
    · exact zm_ou0 hi (br_t rfl (zm_ou1 hbad2 (br_f (by decide) ⟨rfl, zr_mk H F⟩)))
    · exact zm_ou1 hbad (br_f (by decide) ⟨rfl, zr_mk H F⟩)
theorem zm_load {k : Nat} {B : Nat → Nat} (H : zr_IB B a_pixels a_users a_buffer a_wide a_high a_start a_right a_down a_factor a_offset a_value a_width a_height a_there) (F : zr_F a_files a_fileLength a_value a_width a_height a_there a_damaged a_form) (v1 v2 : Int32) : wpX_load (fun r u' => wpY_load (fun r' v' => r' = r ∧ i_Rel k u' v') (a_value, a_width, a_height, a_there, a_damaged, a_form) v1 v2) (f_bodyLength, f_bits, f_bitCount, f_readAt, f_readEnd, f_w, f_h, a_pixels, a_users, a_buffer, a_wide, a_high, a_start, a_right, a_down, a_factor, a_offset, a_files, a_fileLength, a_plain, a_body, a_residue, a_tokens, a_distances, a_heads, a_chain, a_weight, a_parent, a_symbol, a_codeLength, a_codeOf, a_lengthOf, a_perLength, a_before, a_last) v1 v2 := by
  unfold wpX_load wpY_load
  dsimp only
  rcases zm_ix v2 with ⟨i, hi, rfl⟩ | hbad2
  · refine zm_sm1 hi (br_f (by decide) ?_)
    rcases zm_ix v1 with ⟨f, hf, rfl⟩ | hbad
    · have hF := F.2 f hf
      obtain ⟨ln, hln, he, hcase⟩ := hF
      rw [zm_4]
      rcases hcase with ⟨c1, c2⟩ | ⟨c1, c2, c3, fmt, w, h, p, c4, c5, c6, c7, c8⟩ | ⟨c1, c2, c3, c4⟩
      · refine zm_nf hf hln he (fun _ => ?_) (fun z => absurd z (by omega)) (fun z => absurd z (by omega))
        exact br_f (by decide) (zm_ou0 hf (br_t rfl (zm_ou0 hi (br_t rfl (zm_ck2 hf c2 (br_f (by decide) ⟨rfl, zr_mk H F⟩))))))
      · refine zm_nf hf hln he (fun z => absurd z (by omega)) (fun _ _ => ?_) (fun _ z => absurd c4.2.2.2.2.1 z)
        refine br_t rfl (zf_decode hf c4 ?_)
        intro bl b bc ra re_ pl re sy co lo pe be la hP
        obtain ⟨⟨w1, w8, h1, h8, hp⟩, _⟩ := c4
        have hwh : w * h ≤ 8 * 8 := Nat.mul_le_mul w8 h8
        have hb : (B i = 4 ∧ a_buffer i = -1) ∨ (B i < 4 ∧ a_buffer i = nI (B i)) := by
          rcases H.1 i hi with g | g
          · exact Or.inl ⟨g.1, g.2.1⟩
          · exact Or.inr ⟨g.1, g.2.1⟩
        refine zm_spread (B := B) (f_w := nI w) (f_h := nI h) (a_plain := pl) (p := p) rfl rfl hi w8 h8 hwh hP hb H.2 ?_
        intro b us bu px b4 hfr hus hbi hbj hpx1 hpx2
        dsimp only
        refine zm_ou0 hf (br_t rfl (zm_ou0 hi (br_t rfl (zm_ck0 hf c2 c3 (br_t rfl ?_)))))
        refine zm_become (t := i) (f := 4 + f) rfl rfl (by omega) (by omega) ?_
        intro vl y1 y2
        dsimp only
        refine zm_places rfl (by omega) ⟨by rw [pk_us, pk_us, c6, c7], zr_mk (B := zu B i b) (zr_put (i := i) H hus ?_ (by rw [zu_s]; exact b4) (by rw [zu_s]; exact hbi) (by rw [pk_us]; decide) ?_) (zm_Fimg F (fun j z1 z2 => y2 j (by omega)) (fun j z1 z2 => ⟨pk_un (by omega), pk_un (by omega), pk_un (by omega), pk_un (by omega), pk_un (by omega)⟩))⟩
        · intro j hj hne
          refine ⟨zu_n hne, hbj j hne, pk_un hne, pk_un hne, pk_un hne, pk_un hne, pk_un hne, pk_un hne, pk_un hne, pk_un hne, pk_un hne, pk_un hne, fun q hq => y2 _ (by omega), fun hBj c hc => hpx2 _ ?_⟩
          have := hfr j hj hne
          omega
        · unfold zr_J
          rw [pk_us, pk_us, pk_us, pk_us, pk_us, pk_us, pk_us, pk_us, pk_us, zu_s, c6, c7]
          refine zm_plainV w1 w8 h1 h8 ?_
          intro x y hx hy
          have hcl := zm_cell hx hy
          show vl (64 * i + (8 * y + x)) = px (64 * b + (y * w + x)) &&& 255
          rw [y1 _ (by omega), c8 x y hx hy, hpx1 _ hcl, zn_sb255 (hp _ hcl)]
      · refine zm_nf hf hln he (fun z => absurd z (by omega)) (fun _ z => absurd z c4) (fun _ _ => ?_)
        exact br_f (by decide) (zm_ou0 hf (br_t rfl (zm_ou0 hi (br_t rfl (zm_ck3 hf c2 c3 (br_f (by decide) ⟨rfl, zr_mk H F⟩))))))
    · exact zm_nfbad hbad (br_f (by decide) (zm_ou1 hbad (br_f (by decide) ⟨rfl, zr_mk H F⟩)))
  · refine zm_sm0 hbad2 (br_t rfl ?_)
    rcases zm_ix v1 with ⟨f, hf, rfl⟩ | hbad
    · exact zm_ou0 hf (br_t rfl (zm_ou1 hbad2 (br_f (by decide) ⟨rfl, zr_mk H F⟩)))
    · exact zm_ou1 hbad (br_f (by decide) ⟨rfl, zr_mk H F⟩)
theorem zm_convert {k : Nat} {B : Nat → Nat} (H : zr_IB B a_pixels a_users a_buffer a_wide a_high a_start a_right a_down a_factor a_offset a_value a_width a_height a_there) (F : zr_F a_files a_fileLength a_value a_width a_height a_there a_damaged a_form) (v1 v2 v3 : Int32) : wpX_convert (fun r u' => wpY_convert (fun r' v' => r' = r ∧ i_Rel k u' v') (a_value, a_width, a_height, a_there, a_damaged, a_form) v1 v2 v3) (f_bodyLength, f_bits, f_bitCount, f_readAt, f_readEnd, f_w, f_h, a_pixels, a_users, a_buffer, a_wide, a_high, a_start, a_right, a_down, a_factor, a_offset, a_files, a_fileLength, a_plain, a_body, a_residue, a_tokens, a_distances, a_heads, a_chain, a_weight, a_parent, a_symbol, a_codeLength, a_codeOf, a_lengthOf, a_perLength, a_before, a_last) v1 v2 v3 := by
  unfold wpX_convert wpY_convert
  dsimp only
  rcases zm_ix v2 with ⟨t, ht, rfl⟩ | hbad2
  · refine zm_sm1 ht (br_f (by decide) ?_)
    rcases zm_ix v3 with ⟨fmt2, hfmt2, rfl⟩ | hbad3
    · refine zm_sm1 hfmt2 (br_f (by decide) ?_)
      rcases zm_ix v1 with ⟨f, hf, rfl⟩ | hbad
      · have e4t : (nI (4 + t)).toNatClampNeg = 4 + t := nI_clamp (by omega)
        have t9 : vp_in (nI (4 + t)) 9 := vp_in_nI (by omega) (by decide)
        have hF := F.2 f hf
        obtain ⟨ln, hln, he, hcase⟩ := hF
        rw [zm_4, zm_4, e4t]
        rcases hcase with ⟨c1, c2⟩ | ⟨c1, c2, c3, fmt, w, h, p, c4, c5, c6, c7, c8⟩ | ⟨c1, c2, c3, c4⟩
        · refine zm_nf hf hln he (fun _ => ?_) (fun z => absurd z (by omega)) (fun z => absurd z (by omega))
          exact br_f (by decide) (zm_ou0 hf (br_t rfl (zm_ou0 ht (br_t rfl (zm_ou0 hfmt2 (br_t rfl (zm_ck2 hf c2 (br_f (by decide) ⟨rfl, zr_mk H F⟩))))))))
        · refine zm_nf hf hln he (fun z => absurd z (by omega)) (fun _ _ => ?_) (fun _ z => absurd c4.2.2.2.2.1 z)
          refine br_t rfl (zf_decode hf c4 ?_)
          intro bl b bc ra re_ pl re sy co lo pe be la hP
          obtain ⟨hsz, _⟩ := c4
          refine zf_encode (p := p) (f_w := nI w) (f_h := nI h) (a_plain := pl) ht hfmt2 rfl rfl hsz hP F.1 ?_
          intro bl2 b2 bc2 bo2 fj ln2 re2 tk2 ds2 hd2 ch2 we2 pa2 sy2 cl2 co2 lo2 pe2 be2 la2 G
          dsimp only
          obtain ⟨w1, w8, h1, h8, hp⟩ := hsz
          refine zm_ou0 hf (br_t rfl (zm_ou0 ht (br_t rfl (zm_ou0 hfmt2 (br_t rfl (zm_ck0 hf c2 c3 (br_t rfl ?_)))))))
          refine zm_become (t := 4 + t) (f := 4 + f) rfl rfl (by omega) (by omega) ?_
          intro vl y1 y2
          dsimp only
          refine ⟨t9, nm_e (zm_places rfl (by omega) ?_)⟩
          refine ⟨by rw [pk_us, pk_us, c6, c7], zr_mk (B := B) (zr_Iy H (fun q hq => y2 q (by omega)) (fun j hj => ⟨pk_un (by omega), pk_un (by omega), pk_un (by omega)⟩)) (zm_Fset F ht G y2 ?_ (by rw [pk_us]; decide) (by rw [pk_us, c3]; exact zn_bo0) pk_us (by rw [pk_us]; exact c6) (by rw [pk_us]; exact c7) ?_)⟩
          · intro j hj
            exact ⟨pk_un hj, pk_un hj, pk_un hj, pk_un hj, by rw [pk_un hj, pk_un hj]⟩
          · intro x y hx hy
            rw [y1 _ (by omega)]
            exact c8 x y hx hy
        · refine zm_nf hf hln he (fun z => absurd z (by omega)) (fun _ z => absurd z c4) (fun _ _ => ?_)
          exact br_f (by decide) (zm_ou0 hf (br_t rfl (zm_ou0 ht (br_t rfl (zm_ou0 hfmt2 (br_t rfl (zm_ck3 hf c2 c3 (br_f (by decide) ⟨rfl, zr_mk H F⟩))))))))
      · exact zm_nfbad hbad (br_f (by decide) (zm_ou1 hbad (br_f (by decide) ⟨rfl, zr_mk H F⟩)))
    · refine zm_sm0 hbad3 (br_t rfl ?_)
      rcases zm_ix v1 with ⟨i, hi, rfl⟩ | hbad
      · exact zm_ou0 hi (br_t rfl (zm_ou0 ht (br_t rfl (zm_ou1 hbad3 (br_f (by decide) ⟨rfl, zr_mk H F⟩)))))
      · exact zm_ou1 hbad (br_f (by decide) ⟨rfl, zr_mk H F⟩)
  · refine zm_sm0 hbad2 (br_t rfl ?_)
    rcases zm_ix v1 with ⟨i, hi, rfl⟩ | hbad
    · exact zm_ou0 hi (br_t rfl (zm_ou1 hbad2 (br_f (by decide) ⟨rfl, zr_mk H F⟩)))
    · exact zm_ou1 hbad (br_f (by decide) ⟨rfl, zr_mk H F⟩)
end
end
section
/-! damage, cut, duplicate, file, and the constructors -/
theorem zm_flip {b : Int32} {q : Nat} (hq : q < 8) (hb : zn_B b) : (b ^^^ ((1 : Int32) <<< (nI q &&& 31))).toInt8.toInt32 ≠ b := by
  intro z
  have h1 : (b ^^^ ((1 : Int32) <<< (nI q &&& 31))).toInt8.toInt32 = b.toInt8.toInt32 := by
    have h2 : b.toInt8.toInt32 = b := hb
    rw [z, h2]
  have h3 := zc_bits8 h1 hq
  rw [b_xor] at h3
  have h4 : ∀ q, q < 8 → bt ((1 : Int32) <<< (nI q &&& 31)) q = true := by decide +kernel
  rw [h4 q hq] at h3
  cases hh : bt b q
  · rw [hh] at h3; exact absurd h3 (by decide)
  · rw [hh] at h3; exact absurd h3 (by decide)
section
variable {f_bodyLength f_bits f_bitCount f_readAt f_readEnd f_w f_h : Int32} {a_pixels a_users a_buffer a_wide a_high a_start a_right a_down a_factor a_offset a_files a_fileLength a_plain a_body a_residue a_tokens a_distances a_heads a_chain a_weight a_parent a_symbol a_codeLength a_codeOf a_lengthOf a_perLength a_before a_last : Nat → Int32} {a_value a_width a_height a_there a_damaged a_form : Nat → Int32}
theorem zm_sp2 {post : Int32 → SY → Prop} {f : Nat} (hf : f < 4) (h : a_there (4 + f) = 0) (K : post (-2) (a_value, a_width, a_height, a_there, a_damaged, a_form)) : wpY_spoil post (a_value, a_width, a_height, a_there, a_damaged, a_form) (nI f) := by
  unfold wpY_spoil
  exact zm_ou0 hf (br_t rfl (zm_ck2 hf h (br_f (by decide) K)))
theorem zm_sp3 {post : Int32 → SY → Prop} {f : Nat} (hf : f < 4) (h : ¬ a_there (4 + f) = 0) (hd : a_damaged (4 + f) = 1) (K : post (-3) (a_value, a_width, a_height, a_there, a_damaged, a_form)) : wpY_spoil post (a_value, a_width, a_height, a_there, a_damaged, a_form) (nI f) := by
  unfold wpY_spoil
  exact zm_ou0 hf (br_t rfl (zm_ck3 hf h hd (br_f (by decide) K)))
theorem zm_sp0 {post : Int32 → SY → Prop} {f : Nat} (hf : f < 4) (h : ¬ a_there (4 + f) = 0) (hd : a_damaged (4 + f) = 0) (K : post 1 (a_value, a_width, a_height, a_there, upd a_damaged (4 + f) 1, a_form)) : wpY_spoil post (a_value, a_width, a_height, a_there, a_damaged, a_form) (nI f) := by
  unfold wpY_spoil
  dsimp only
  rw [zm_4, nI_clamp (by omega)]
  refine zm_ou0 hf (br_t rfl (zm_ck0 hf h hd (br_t rfl ⟨vp_in_nI (by omega) (by decide), nm_e ?_⟩)))
  rw [zn_bo1]
  exact K
theorem zm_spb {post : Int32 → SY → Prop} {x : Int32} (hb : zm_bad x) (K : post (-1) (a_value, a_width, a_height, a_there, a_damaged, a_form)) : wpY_spoil post (a_value, a_width, a_height, a_there, a_damaged, a_form) x := by
  unfold wpY_spoil
  exact zm_ou1 hb (br_f (by decide) K)
theorem zm_damage {k : Nat} {B : Nat → Nat} (H : zr_IB B a_pixels a_users a_buffer a_wide a_high a_start a_right a_down a_factor a_offset a_value a_width a_height a_there) (F : zr_F a_files a_fileLength a_value a_width a_height a_there a_damaged a_form) (v1 v2 : Int32) : wpX_damage (fun r u' => wpY_damage (fun r' v' => r' = r ∧ i_Rel k u' v') (a_value, a_width, a_height, a_there, a_damaged, a_form) v1 v2) (f_bodyLength, f_bits, f_bitCount, f_readAt, f_readEnd, f_w, f_h, a_pixels, a_users, a_buffer, a_wide, a_high, a_start, a_right, a_down, a_factor, a_offset, a_files, a_fileLength, a_plain, a_body, a_residue, a_tokens, a_distances, a_heads, a_chain, a_weight, a_parent, a_symbol, a_codeLength, a_codeOf, a_lengthOf, a_perLength, a_before, a_last) v1 v2 := by
  unfold wpX_damage wpY_damage
  dsimp only
  rcases zm_ix v1 with ⟨f, hf, rfl⟩ | hbad
  · have hF := F.2 f hf
    obtain ⟨ln, hln, he, hcase⟩ := hF
    have f4 : vp_in (nI f) 4 := vp_in_nI (by omega) (by decide)
    have ef : (nI f).toNatClampNeg = f := nI_clamp (by omega)
    rcases hcase with ⟨c1, c2⟩ | ⟨c1, c2, c3, fmt, w, h, p, c4, c5, c6, c7, c8⟩ | ⟨c1, c2, c3, c4⟩
    · refine zm_nf hf hln he (fun _ => ?_) (fun z => absurd z (by omega)) (fun z => absurd z (by omega))
      exact br_f (by decide) (zm_sp2 hf c2 ⟨rfl, zr_mk H F⟩)
    · have hI := c4.2.2.2.2.1
      refine zm_nf hf hln he (fun z => absurd z (by omega)) (fun _ _ => ?_) (fun _ z => absurd hI z)
      obtain ⟨m, hm, em⟩ := pk_andE v2 (m := 2147483647) 31 (by decide)
      have e8 : nI ln * 8 = nI (ln * 8) := pk_mul ln 8
      have hbit : m % (ln * 8) < ln * 8 := Nat.mod_lt _ (by omega)
      have hby : m % (ln * 8) / 8 < ln := by omega
      have es : nI (m % (ln * 8)) >>> ((3 : Int32) &&& 31) = nI (m % (ln * 8) / 2 ^ 3) := zn_shr (k := 3) (by decide) (by omega)
      have e240 : nI f * 240 = nI (f * 240) := pk_mul f 240
      have e7 : nI (m % (ln * 8)) &&& 7 = nI (m % (ln * 8) % 2 ^ 3) := pk_andN (by omega) (m := 7) 3 (by decide)
      refine br_t rfl ⟨f4, ?_⟩
      rw [ef, he, em, e8]
      refine ⟨nI_ne0 (by omega) (by omega), nm_r (pk_rem (by omega) (by omega) (by omega)) ?_⟩
      rw [es, e240, nI_add, e7]
      refine ⟨vp_in_nI (by omega) (by decide), vp_in_nI (by omega) (by decide), nm_e ?_⟩
      rw [nI_clamp (by omega), pk_vb]
      refine zm_sp0 hf c2 c3 ⟨rfl, zr_mk (B := B) H ⟨?_, ?_⟩⟩
      · intro j
        by_cases e : j = f * 240 + m % (ln * 8) / 2 ^ 3
        · subst e; rw [pk_us]; exact zn_B8 _
        · rw [pk_un e]; exact F.1 j
      · intro g hg
        by_cases e : g = f
        · subst e
          refine ⟨ln, hln, he, Or.inr (Or.inr ⟨c1, c2, pk_us, ?_⟩)⟩
          exact zc_dmg hI (by omega) (by omega) (F.1 _) (zn_B8 _) (zm_flip (Nat.mod_lt _ (by decide)) (F.1 _))
        · exact zr_fput (F.2 g hg) (fun q hq => pk_un (by omega)) rfl (fun _ _ => rfl) rfl rfl rfl (pk_un (by omega)) rfl
    · refine zm_nf hf hln he (fun z => absurd z (by omega)) (fun _ z => absurd z c4) (fun _ _ => ?_)
      exact br_f (by decide) (zm_sp3 hf c2 c3 ⟨rfl, zr_mk H F⟩)
  · exact zm_nfbad hbad (br_f (by decide) (zm_spb hbad ⟨rfl, zr_mk H F⟩))
theorem zm_cut {k : Nat} {B : Nat → Nat} (H : zr_IB B a_pixels a_users a_buffer a_wide a_high a_start a_right a_down a_factor a_offset a_value a_width a_height a_there) (F : zr_F a_files a_fileLength a_value a_width a_height a_there a_damaged a_form) (v1 v2 : Int32) : wpX_cut (fun r u' => wpY_cut (fun r' v' => r' = r ∧ i_Rel k u' v') (a_value, a_width, a_height, a_there, a_damaged, a_form) v1 v2) (f_bodyLength, f_bits, f_bitCount, f_readAt, f_readEnd, f_w, f_h, a_pixels, a_users, a_buffer, a_wide, a_high, a_start, a_right, a_down, a_factor, a_offset, a_files, a_fileLength, a_plain, a_body, a_residue, a_tokens, a_distances, a_heads, a_chain, a_weight, a_parent, a_symbol, a_codeLength, a_codeOf, a_lengthOf, a_perLength, a_before, a_last) v1 v2 := by
  unfold wpX_cut wpY_cut
  dsimp only
  rcases zm_ix v1 with ⟨f, hf, rfl⟩ | hbad
  · have hF := F.2 f hf
    obtain ⟨ln, hln, he, hcase⟩ := hF
    have f4 : vp_in (nI f) 4 := vp_in_nI (by omega) (by decide)
    have ef : (nI f).toNatClampNeg = f := nI_clamp (by omega)
    rcases hcase with ⟨c1, c2⟩ | ⟨c1, c2, c3, fmt, w, h, p, c4, c5, c6, c7, c8⟩ | ⟨c1, c2, c3, c4⟩
    · refine zm_nf hf hln he (fun _ => ?_) (fun z => absurd z (by omega)) (fun z => absurd z (by omega))
      exact br_f (by decide) (zm_sp2 hf c2 ⟨rfl, zr_mk H F⟩)
    · have hI := c4.2.2.2.2.1
      have h8 := c4.2.2.1
      refine zm_nf hf hln he (fun z => absurd z (by omega)) (fun _ _ => ?_) (fun _ z => absurd hI z)
      obtain ⟨m, hm, em⟩ := pk_andE v2 (m := 2147483647) 31 (by decide)
      have e1 : nI ln - 1 = nI (ln - 1) := pk_sub (b := 1) (by omega)
      have hr : m % (ln - 1) < ln - 1 := Nat.mod_lt _ (by omega)
      refine br_t rfl ⟨f4, f4, ?_⟩
      rw [ef, he, em, e1]
      refine ⟨nI_ne0 (by omega) (by omega), f4, nm_e ?_⟩
      have e2 : (1 : Int32) + nI (m % (ln - 1)) = nI (1 + m % (ln - 1)) := nI_add 1 _
      rw [pk_rem (by omega) (by omega) (by omega), e2, pk_sub (by omega), zn_vs2 (by omega)]
      refine zm_sp0 hf c2 c3 ⟨rfl, zr_mk (B := B) H ⟨F.1, ?_⟩⟩
      intro g hg
      by_cases e : g = f
      · subst e
        refine ⟨ln - (1 + m % (ln - 1)), by omega, pk_us, Or.inr (Or.inr ⟨by omega, c2, pk_us, ?_⟩)⟩
        intro z
        have q1 := z.2.1
        have q0 := z.1
        rw [hI.2.1] at q1
        have := (nI_eq (by omega) (by omega)).mp q1
        omega
      · exact zr_fput (F.2 g hg) (fun q hq => rfl) (pk_un e) (fun _ _ => rfl) rfl rfl rfl (pk_un (by omega)) rfl
    · refine zm_nf hf hln he (fun z => absurd z (by omega)) (fun _ z => absurd z c4) (fun _ _ => ?_)
      exact br_f (by decide) (zm_sp3 hf c2 c3 ⟨rfl, zr_mk H F⟩)
  · exact zm_nfbad hbad (br_f (by decide) (zm_spb hbad ⟨rfl, zr_mk H F⟩))
theorem zm_dupX {post : Int32 → SX → Prop} {f t ln : Nat} (hf : f < 4) (ht : t < 4) (hln : ln ≤ 240) (he : a_fileLength f = nI ln) (hB : ∀ k, zn_B (a_files k))
    (K : ∀ fj, (∀ k, zn_B (fj k)) → (∀ j, j < ln → fj (t * 240 + j) = a_files (f * 240 + j)) → (∀ j, j < t * 240 ∨ t * 240 + 240 ≤ j → fj j = a_files j) → post 1 (f_bodyLength, f_bits, f_bitCount, f_readAt, f_readEnd, f_w, f_h, a_pixels, a_users, a_buffer, a_wide, a_high, a_start, a_right, a_down, a_factor, a_offset, fj, upd a_fileLength t (nI ln), a_plain, a_body, a_residue, a_tokens, a_distances, a_heads, a_chain, a_weight, a_parent, a_symbol, a_codeLength, a_codeOf, a_lengthOf, a_perLength, a_before, a_last)) :
    ∃ m, wX_duplicate_30 post (nI f) (nI t) f_bodyLength f_bits f_bitCount f_readAt f_readEnd f_w f_h m 0 a_pixels a_users a_buffer a_wide a_high a_start a_right a_down a_factor a_offset a_files a_fileLength a_plain a_body a_residue a_tokens a_distances a_heads a_chain a_weight a_parent a_symbol a_codeLength a_codeOf a_lengthOf a_perLength a_before a_last := by
  have f4 : vp_in (nI f) 4 := vp_in_nI (by omega) (by decide)
  have t4 : vp_in (nI t) 4 := vp_in_nI (by omega) (by decide)
  have ef : (nI f).toNatClampNeg = f := nI_clamp (by omega)
  have et : (nI t).toNatClampNeg = t := nI_clamp (by omega)
  have ad : ∀ i j : Nat, (nI i * 240) + nI j = nI (i * 240 + j) := by
    intro i j
    have : nI i * 240 = nI (i * 240) := pk_mul i 240
    rw [this, nI_add]
  have HL : ∀ d q fj, q + d = ln → (∀ k, zn_B (fj k)) → (∀ j, j < q → fj (t * 240 + j) = a_files (f * 240 + j)) → (∀ j, j < t * 240 ∨ t * 240 + q ≤ j → fj j = a_files j) → ∀ m, d < m → wX_duplicate_30 post (nI f) (nI t) f_bodyLength f_bits f_bitCount f_readAt f_readEnd f_w f_h m (nI q) a_pixels a_users a_buffer a_wide a_high a_start a_right a_down a_factor a_offset fj a_fileLength a_plain a_body a_residue a_tokens a_distances a_heads a_chain a_weight a_parent a_symbol a_codeLength a_codeOf a_lengthOf a_perLength a_before a_last := by
    intro d
    induction d with
    | zero =>
      intro q fj hq b1 p1 p2 m hm
      obtain ⟨m, rfl⟩ : ∃ z, m = z + 1 := ⟨m - 1, by omega⟩
      refine ⟨f4, ?_⟩
      rw [ef, et, he]
      refine br_t (nI_le (by omega) (by omega)) ⟨f4, t4, nm_e ?_⟩
      rw [zn_vs (by omega)]
      exact K fj b1 (fun j hj => p1 j (by omega)) (fun j hj => p2 j (by omega))
    | succ d ih =>
      intro q fj hq b1 p1 p2 m hm
      obtain ⟨m, rfl⟩ : ∃ z, m = z + 1 := ⟨m - 1, by omega⟩
      refine ⟨f4, ?_⟩
      rw [ef, he, ad, ad]
      refine br_f (nI_ge (by omega) (by omega)) ⟨vp_in_nI (by omega) (by decide), vp_in_nI (by omega) (by decide), nm_e (nm_r (nI_1 q) ?_)⟩
      rw [nI_clamp (by omega), nI_clamp (by omega)]
      have e3 : fj (f * 240 + q) = a_files (f * 240 + q) := p2 _ (by omega)
      rw [e3, zn_Bv (hB _)]
      refine ih (q + 1) _ (by omega) ?_ ?_ ?_ m (by omega)
      · intro j
        by_cases e : j = t * 240 + q
        · subst e; rw [pk_us]; exact hB _
        · rw [pk_un e]; exact b1 j
      · intro j hj
        by_cases e : j = q
        · subst e; rw [pk_us]
        · rw [pk_un (by omega)]; exact p1 j (by omega)
      · intro j hj
        rw [pk_un (by omega)]
        exact p2 j (by omega)
  exact ⟨ln + 1, HL ln 0 a_files (by omega) hB (fun j hj => absurd hj (Nat.not_lt_zero j)) (fun _ _ => rfl) (ln + 1) (by omega)⟩
theorem zm_duplicate {k : Nat} {B : Nat → Nat} (H : zr_IB B a_pixels a_users a_buffer a_wide a_high a_start a_right a_down a_factor a_offset a_value a_width a_height a_there) (F : zr_F a_files a_fileLength a_value a_width a_height a_there a_damaged a_form) (v1 v2 : Int32) : wpX_duplicate (fun r u' => wpY_duplicate (fun r' v' => r' = r ∧ i_Rel k u' v') (a_value, a_width, a_height, a_there, a_damaged, a_form) v1 v2) (f_bodyLength, f_bits, f_bitCount, f_readAt, f_readEnd, f_w, f_h, a_pixels, a_users, a_buffer, a_wide, a_high, a_start, a_right, a_down, a_factor, a_offset, a_files, a_fileLength, a_plain, a_body, a_residue, a_tokens, a_distances, a_heads, a_chain, a_weight, a_parent, a_symbol, a_codeLength, a_codeOf, a_lengthOf, a_perLength, a_before, a_last) v1 v2 := by
  unfold wpX_duplicate wpY_duplicate
  dsimp only
  rcases zm_ix v1 with ⟨f, hf, rfl⟩ | hbad
  · refine zm_sm1 hf (br_f (by decide) ?_)
    rcases zm_ix v2 with ⟨t, ht, rfl⟩ | hbad2
    · refine zm_sm1 ht (br_f (by decide) ⟨vp_in_nI hf (by decide), ?_⟩)
      have hF := F.2 f hf
      obtain ⟨ln, hln, he, hcase⟩ := hF
      have ef : (nI f).toNatClampNeg = f := nI_clamp (by omega)
      have e4 : (nI (4 + f)).toNatClampNeg = 4 + f := nI_clamp (by omega)
      have f9 : vp_in (nI (4 + f)) 9 := vp_in_nI (by omega) (by decide)
      rw [zm_4, zm_4, ef, e4, he]
      have hgo : 1 ≤ ln → ¬ a_there (4 + f) = 0 → (a_damaged (4 + f) = 0 ∨ a_damaged (4 + f) = 1) →
          ((a_damaged (4 + f) = 0 ∧ ∃ fmt w h p, zf_F a_files (f * 240) ln fmt w h p ∧ a_form (4 + f) = nI fmt ∧ a_width (4 + f) = nI w ∧ a_height (4 + f) = nI h ∧ ∀ x y, x < w → y < h → a_value (64 * (4 + f) + (8 * y + x)) = nI (p (y * w + x))) ∨ (a_damaged (4 + f) = 1 ∧ ¬ zc_I a_files (f * 240) ln)) →
          ∃ m, wX_duplicate_30 (fun r u' => wpY_out (fun r_1 => (((r_1 = 0 → (wpY_out (fun r_3 => (((r_3 = 0 → (vp_in (nI (4 + f)) 9 ∧ ((((a_there (4 + f)) = 0 → ((-2 : Int32) = r ∧ i_Rel k u' (a_value, a_width, a_height, a_there, a_damaged, a_form))) ∧ (¬ (a_there (4 + f)) = 0 → (wpY_become (fun u => (1 : Int32) = r ∧ i_Rel k u' u) (a_value, a_width, a_height, a_there, a_damaged, a_form) (nI (4 + t)) (nI (4 + f)))))))) ∧ (¬ r_3 = 0 → ((-1 : Int32) = r ∧ i_Rel k u' (a_value, a_width, a_height, a_there, a_damaged, a_form)))))) (nI t))) ∧ (¬ r_1 = 0 → ((-1 : Int32) = r ∧ i_Rel k u' (a_value, a_width, a_height, a_there, a_damaged, a_form)))))) (nI f)) (nI f) (nI t) f_bodyLength f_bits f_bitCount f_readAt f_readEnd f_w f_h m 0 a_pixels a_users a_buffer a_wide a_high a_start a_right a_down a_factor a_offset a_files a_fileLength a_plain a_body a_residue a_tokens a_distances a_heads a_chain a_weight a_parent a_symbol a_codeLength a_codeOf a_lengthOf a_perLength a_before a_last := by
        intro l1 hth hdm hst
        refine zm_dupX hf ht hln he F.1 ?_
        intro fj b1 p1 p2
        refine zm_ou0 hf (br_t rfl (zm_ou0 ht (br_t rfl ⟨f9, br_f hth ?_⟩)))
        refine zm_become (t := 4 + t) (f := 4 + f) rfl rfl (by omega) (by omega) ?_
        intro vl y1 y2
        refine ⟨rfl, zr_mk (B := B) (zr_Iy H (fun q hq => y2 q (by omega)) (fun j hj => ⟨pk_un (by omega), pk_un (by omega), pk_un (by omega)⟩)) ⟨b1, fun g hg => ?_⟩⟩
        by_cases e : g = t
        · subst e
          refine ⟨ln, hln, pk_us, Or.inr ?_⟩
          rw [pk_us, pk_us, pk_us, pk_us, pk_us]
          rcases hst with ⟨s1, fmt, w, h, p, s2, s3, s4, s5, s6⟩ | ⟨s1, s2⟩
          · refine Or.inl ⟨l1, by decide, by rw [s1]; exact zn_bo0, fmt, w, h, p, zf_FF (fun q hq => (p1 q hq).symm) s2, s3, s4, s5, fun x y hx hy => ?_⟩
            obtain ⟨⟨_, w8, _, h8, _⟩, _⟩ := s2
            rw [y1 _ (by omega)]
            exact s6 x y hx hy
          · exact Or.inr ⟨l1, by decide, by rw [s1]; exact zn_bo1, fun z => s2 (zc_IF (fun q hq => p1 q hq) z)⟩
        · exact zr_fput (F.2 g hg) (fun q hq => p2 _ (by omega)) (pk_un e) (fun q hq => y2 _ (by omega)) (pk_un (by omega)) (pk_un (by omega)) (pk_un (by omega)) (pk_un (by omega)) (pk_un (by omega))
      rcases hcase with ⟨c1, c2⟩ | ⟨c1, c2, c3, c4⟩ | ⟨c1, c2, c3, c4⟩
      · exact br_t (by rw [c1]; rfl) (zm_ou0 hf (br_t rfl (zm_ou0 ht (br_t rfl ⟨f9, br_t c2 ⟨rfl, zr_mk H F⟩⟩))))
      · exact br_f (nI_ne0 (by omega) (by omega)) (hgo c1 c2 (Or.inl c3) (Or.inl ⟨c3, c4⟩))
      · exact br_f (nI_ne0 (by omega) (by omega)) (hgo c1 c2 (Or.inr c3) (Or.inr ⟨c3, c4⟩))
    · exact zm_sm0 hbad2 (br_t rfl (zm_ou0 hf (br_t rfl (zm_ou1 hbad2 (br_f (by decide) ⟨rfl, zr_mk H F⟩)))))
  · exact zm_sm0 hbad (br_t rfl (zm_ou1 hbad (br_f (by decide) ⟨rfl, zr_mk H F⟩)))
theorem zm_file {k : Nat} {B : Nat → Nat} (H : zr_IB B a_pixels a_users a_buffer a_wide a_high a_start a_right a_down a_factor a_offset a_value a_width a_height a_there) (F : zr_F a_files a_fileLength a_value a_width a_height a_there a_damaged a_form) (v1 v2 : Int32) : wpX_file (fun r => wpY_file (fun r' => r' = r ∧ i_Rel k (f_bodyLength, f_bits, f_bitCount, f_readAt, f_readEnd, f_w, f_h, a_pixels, a_users, a_buffer, a_wide, a_high, a_start, a_right, a_down, a_factor, a_offset, a_files, a_fileLength, a_plain, a_body, a_residue, a_tokens, a_distances, a_heads, a_chain, a_weight, a_parent, a_symbol, a_codeLength, a_codeOf, a_lengthOf, a_perLength, a_before, a_last) (a_value, a_width, a_height, a_there, a_damaged, a_form)) (a_value, a_width, a_height, a_there, a_damaged, a_form) v1 v2) (f_bodyLength, f_bits, f_bitCount, f_readAt, f_readEnd, f_w, f_h, a_pixels, a_users, a_buffer, a_wide, a_high, a_start, a_right, a_down, a_factor, a_offset, a_files, a_fileLength, a_plain, a_body, a_residue, a_tokens, a_distances, a_heads, a_chain, a_weight, a_parent, a_symbol, a_codeLength, a_codeOf, a_lengthOf, a_perLength, a_before, a_last) v1 v2 := by
  unfold wpX_file
  dsimp only
  rcases zm_ix v1 with ⟨f, hf, rfl⟩ | hbad
  · refine zm_sm1 hf (br_f (by decide) ?_)
    rcases zm_ix v2 with ⟨q, hq, rfl⟩ | hbad2
    · refine zm_sm1 hq (br_f (by decide) ⟨vp_in_nI hf (by decide), ?_⟩)
      have hF := F.2 f hf
      obtain ⟨ln, hln, he, hcase⟩ := hF
      have ef : (nI f).toNatClampNeg = f := nI_clamp (by omega)
      have e4 : (nI (4 + f)).toNatClampNeg = 4 + f := nI_clamp (by omega)
      have f9 : vp_in (nI (4 + f)) 9 := vp_in_nI (by omega) (by decide)
      have e240 : nI f * 240 = nI (f * 240) := pk_mul f 240
      have e241 : nI (f * 240) + 1 = nI (f * 240 + 1) := nI_1 _
      have Y : ∀ post : Int32 → Prop, ((q = 0 → ((a_there (4 + f) = 0 → post 0) ∧ (¬ a_there (4 + f) = 0 → ((a_damaged (4 + f) = 0 → post 1) ∧ (¬ a_damaged (4 + f) = 0 → post 2))))) ∧
          (q ≠ 0 → ((a_there (4 + f) = 0 → post 0) ∧ (¬ a_there (4 + f) = 0 → ((a_damaged (4 + f) = 0 → ((q = 1 → post (a_form (4 + f))) ∧ (q ≠ 1 → ((q = 2 → post (a_width (4 + f))) ∧ (q ≠ 2 → post (a_height (4 + f))))))) ∧ (¬ a_damaged (4 + f) = 0 → post 0)))))) →
          wpY_file post (a_value, a_width, a_height, a_there, a_damaged, a_form) (nI f) (nI q) := by
        intro post hh
        unfold wpY_file
        refine zm_ou0 hf (br_t rfl (zm_ou0 hq (br_t rfl (nm_r (zm_4 f) ?_))))
        rw [e4]
        refine pk_eq q 0 (fun z => ?_) (fun z => ?_)
        · have h1 := hh.1 z
          exact ⟨f9, h1.1, fun z1 => ⟨f9, h1.2 z1⟩⟩
        · have h1 := hh.2 z
          refine ⟨f9, h1.1, fun z1 => ⟨f9, fun z2 => ?_, (h1.2 z1).2⟩⟩
          have h2 := (h1.2 z1).1 z2
          refine pk_eq q 1 (fun z3 => ⟨f9, h2.1 z3⟩) (fun z3 => ?_)
          exact pk_eq q 2 (fun z4 => ⟨f9, (h2.2 z3).1 z4⟩) (fun z4 => ⟨f9, (h2.2 z3).2 z4⟩)
      rw [ef, he]
      rcases hcase with ⟨c1, c2⟩ | ⟨c1, c2, c3, fmt, w, h, p, c4, c5, c6, c7, c8⟩ | ⟨c1, c2, c3, c4⟩
      · refine br_t (by rw [c1]; rfl) (Y _ ⟨fun _ => br_t c2 ⟨rfl, zr_mk H F⟩, fun _ => br_t c2 ⟨rfl, zr_mk H F⟩⟩)
      · have hI := c4.2.2.2.2.1
        obtain ⟨⟨w1, w8, h1, h8, _⟩, hfmt, _, _, _, hf0, hf1, _⟩ := c4
        refine br_f (nI_ne0 (by omega) (by omega)) (zc_intact hf hln he (fun _ => ?_) (fun z => absurd hI z))
        refine nm_r e240 (br_f (nI_pos (by omega)) ?_)
        rw [e241, nI_clamp (show f * 240 + 1 < 2 ^ 31 by omega), nI_clamp (show f * 240 < 2 ^ 31 by omega), hf0, hf1]
        have hw : (nI ((w - 1) + (h - 1) * 2 ^ 3) &&& 7) + 1 = nI w := by
          have := pk_andN (n := (w - 1) + (h - 1) * 2 ^ 3) (by omega) (m := 7) 3 (by decide)
          rw [this, nI_1]
          exact congrArg nI (by omega)
        have hh : ((nI ((w - 1) + (h - 1) * 2 ^ 3) >>> ((3 : Int32) &&& 31)) &&& 7) + 1 = nI h := by
          have a1 : nI ((w - 1) + (h - 1) * 2 ^ 3) >>> ((3 : Int32) &&& 31) = nI (((w - 1) + (h - 1) * 2 ^ 3) / 2 ^ 3) := zn_shr (k := 3) (by decide) (by omega)
          have := pk_andN (n := ((w - 1) + (h - 1) * 2 ^ 3) / 2 ^ 3) (by omega) (m := 7) 3 (by decide)
          rw [a1, this, nI_1]
          exact congrArg nI (by omega)
        rw [hw, hh]
        have i0 : vp_in (nI (f * 240)) 960 := vp_in_nI (by omega) (by decide)
        have i1 : vp_in (nI (f * 240 + 1)) 960 := vp_in_nI (by omega) (by decide)
        have hq4 : q = 0 ∨ q = 1 ∨ q = 2 ∨ q = 3 := by omega
        rcases hq4 with rfl | rfl | rfl | rfl
        · exact br_f (by decide) (br_t rfl (br_f (by decide) (Y _ ⟨fun _ => br_f c2 (br_t c3 ⟨rfl, zr_mk H F⟩), fun z => absurd rfl z⟩)))
        · exact br_f (by decide) (br_f (by decide) (br_t rfl (br_f (by decide) ⟨i0, Y _ ⟨fun z => absurd z (by decide), fun _ => br_f c2 (br_t c3 ⟨fun _ => ⟨c5, zr_mk H F⟩, fun z => absurd rfl z⟩)⟩⟩)))
        · exact br_f (by decide) (br_f (by decide) (br_f (by decide) (br_t rfl (br_f (by decide) ⟨i1, Y _ ⟨fun z => absurd z (by decide), fun _ => br_f c2 (br_t c3 ⟨fun z => absurd z (by decide), fun _ => ⟨fun _ => ⟨c6, zr_mk H F⟩, fun z => absurd rfl z⟩⟩)⟩⟩))))
        · exact br_t (by decide) (br_f (by decide) ⟨i1, Y _ ⟨fun z => absurd z (by decide), fun _ => br_f c2 (br_t c3 ⟨fun z => absurd z (by decide), fun _ => ⟨fun z => absurd z (by decide), fun _ => ⟨c7, zr_mk H F⟩⟩⟩)⟩⟩)
      · have c30 : ¬ a_damaged (4 + f) = 0 := by rw [c3]; decide
        refine br_f (nI_ne0 (by omega) (by omega)) (zc_intact hf hln he (fun z => absurd z c4) (fun _ => ?_))
        refine nm_e (br_f (nI_pos (by omega)) ?_)
        have hq4 : q = 0 ∨ q = 1 ∨ q = 2 ∨ q = 3 := by omega
        rcases hq4 with rfl | rfl | rfl | rfl
        · exact br_f (by decide) (br_t rfl (br_t rfl (Y _ ⟨fun _ => br_f c2 (br_f c30 ⟨rfl, zr_mk H F⟩), fun z => absurd rfl z⟩)))
        · exact br_f (by decide) (br_f (by decide) (br_t rfl (br_t rfl (Y _ ⟨fun z => absurd z (by decide), fun _ => br_f c2 (br_f c30 ⟨rfl, zr_mk H F⟩)⟩))))
        · exact br_f (by decide) (br_f (by decide) (br_f (by decide) (br_t rfl (br_t rfl (Y _ ⟨fun z => absurd z (by decide), fun _ => br_f c2 (br_f c30 ⟨rfl, zr_mk H F⟩)⟩)))))
        · exact br_t (by decide) (br_t rfl (Y _ ⟨fun z => absurd z (by decide), fun _ => br_f c2 (br_f c30 ⟨rfl, zr_mk H F⟩)⟩))
    · refine zm_sm0 hbad2 (br_t rfl ?_)
      unfold wpY_file
      exact zm_ou0 hf (br_t rfl (zm_ou1 hbad2 (br_f (by decide) ⟨rfl, zr_mk H F⟩)))
  · refine zm_sm0 hbad (br_t rfl ?_)
    unfold wpY_file
    exact zm_ou1 hbad (br_f (by decide) ⟨rfl, zr_mk H F⟩)
end
theorem i_vc0 : wpX_init (fun u => wpY_init (fun v => i_Rel 0 u v)) := by
  have HL : ∀ d k bu, k + d = 4 → (∀ j, j < k → bu j = -1) → ∀ m, d < m → wX_init_230 (fun u => wpY_init (fun v => i_Rel 0 u v)) 0 0 0 0 0 0 0 m (nI k) (fun _ => 0) (fun _ => 0) bu (fun _ => 0) (fun _ => 0) (fun _ => 0) (fun _ => 0) (fun _ => 0) (fun _ => 0) (fun _ => 0) (fun _ => 0) (fun _ => 0) (fun _ => 0) (fun _ => 0) (fun _ => 0) (fun _ => 0) (fun _ => 0) (fun _ => 0) (fun _ => 0) (fun _ => 0) (fun _ => 0) (fun _ => 0) (fun _ => 0) (fun _ => 0) (fun _ => 0) (fun _ => 0) (fun _ => 0) (fun _ => 0) := by
    intro d
    induction d with
    | zero =>
      intro k bu hk h m hm
      obtain ⟨m, rfl⟩ : ∃ z, m = z + 1 := ⟨m - 1, by omega⟩
      refine br_t (nI_le (a := 4) (by omega) (by omega)) (nm_e ?_)
      refine zr_mk (B := fun _ => 4) ⟨fun i hi => Or.inl ⟨rfl, h i (by omega), rfl⟩, fun b hb => ?_⟩ ⟨fun _ => zn_B0, fun f hf => ⟨0, by omega, rfl, Or.inl ⟨rfl, rfl⟩⟩⟩
      have : zr_c (fun _ => 4) b = 0 := zr_c0 (fun j hj => by omega)
      rw [this]
      rfl
    | succ d ih =>
      intro k bu hk h m hm
      obtain ⟨m, rfl⟩ : ∃ z, m = z + 1 := ⟨m - 1, by omega⟩
      refine br_f (nI_ge (b := 4) (by omega) (by decide)) ⟨vp_in_nI (by omega) (by decide), nm_e (nm_r (nI_1 k) ?_)⟩
      rw [nI_clamp (by omega), zn_vbm]
      refine ih (k + 1) _ (by omega) ?_ m (by omega)
      intro j hj
      by_cases e : j = k
      · subst e; rw [pk_us]
      · rw [pk_un e]; exact h j (by omega)
  exact ⟨5, HL 4 0 (fun _ => 0) (by omega) (fun j hj => absurd hj (Nat.not_lt_zero j)) 5 (by omega)⟩
end
section
/-! what is owed (the statements are those of claim/defs.txt) -/
theorem i_vc_create {k : Nat} {u : SX} {v : SY} (I : i_Rel k u v) (hk : k + 5 ≤ 2560) (v1 : Int32) (v2 : Int32) (v3 : Int32) (v4 : Int32) : wpX_create (fun r u' => wpY_create (fun r' v' => r' = r ∧ i_Rel (k + 5) u' v') v v1 v2 v3 v4) u v1 v2 v3 v4 :=
  zr_el (k := k) (P := fun u v => wpX_create (fun r u' => wpY_create (fun r' v' => r' = r ∧ i_Rel (k + 5) u' v') v v1 v2 v3 v4) u v1 v2 v3 v4) (fun _ _ _ _ _ _ _ _ _ _ _ _ _ _ _ _ _ _ _ _ _ _ _ _ _ _ _ _ _ _ _ _ _ _ _ _ _ _ _ _ _ _ H F => zm_create H F v1 v2 v3 v4) u v I
theorem i_vc_set {k : Nat} {u : SX} {v : SY} (I : i_Rel k u v) (hk : k + 5 ≤ 2560) (v1 : Int32) (v2 : Int32) (v3 : Int32) (v4 : Int32) : wpX_set (fun r u' => wpY_set (fun r' v' => r' = r ∧ i_Rel (k + 5) u' v') v v1 v2 v3 v4) u v1 v2 v3 v4 :=
  zr_el (k := k) (P := fun u v => wpX_set (fun r u' => wpY_set (fun r' v' => r' = r ∧ i_Rel (k + 5) u' v') v v1 v2 v3 v4) u v1 v2 v3 v4) (fun _ _ _ _ _ _ _ _ _ _ _ _ _ _ _ _ _ _ _ _ _ _ _ _ _ _ _ _ _ _ _ _ _ _ _ _ _ _ _ _ _ _ H F => zm_set H F v1 v2 v3 v4) u v I
theorem i_vc_paint {k : Nat} {u : SX} {v : SY} (I : i_Rel k u v) (hk : k + 5 ≤ 2560) (v1 : Int32) (v2 : Int32) (v3 : Int32) (v4 : Int32) : wpX_paint (fun r u' => wpY_paint (fun r' v' => r' = r ∧ i_Rel (k + 5) u' v') v v1 v2 v3 v4) u v1 v2 v3 v4 :=
  zr_el (k := k) (P := fun u v => wpX_paint (fun r u' => wpY_paint (fun r' v' => r' = r ∧ i_Rel (k + 5) u' v') v v1 v2 v3 v4) u v1 v2 v3 v4) (fun _ _ _ _ _ _ _ _ _ _ _ _ _ _ _ _ _ _ _ _ _ _ _ _ _ _ _ _ _ _ _ _ _ _ _ _ _ _ _ _ _ _ H F => zm_paint H F v1 v2 v3 v4) u v I
theorem i_vc_get {k : Nat} {u : SX} {v : SY} (I : i_Rel k u v) (hk : k + 5 ≤ 2560) (v1 : Int32) (v2 : Int32) (v3 : Int32) : wpX_get (fun r => wpY_get (fun r' => r' = r ∧ i_Rel (k + 5) u v) v v1 v2 v3) u v1 v2 v3 :=
  zr_el (k := k) (P := fun u v => wpX_get (fun r => wpY_get (fun r' => r' = r ∧ i_Rel (k + 5) u v) v v1 v2 v3) u v1 v2 v3) (fun _ _ _ _ _ _ _ _ _ _ _ _ _ _ _ _ _ _ _ _ _ _ _ _ _ _ _ _ _ _ _ _ _ _ _ _ _ _ _ _ _ _ H F => zm_get H F v1 v2 v3) u v I
theorem i_vc_copy {k : Nat} {u : SX} {v : SY} (I : i_Rel k u v) (hk : k + 5 ≤ 2560) (v1 : Int32) (v2 : Int32) : wpX_copy (fun r u' => wpY_copy (fun r' v' => r' = r ∧ i_Rel (k + 5) u' v') v v1 v2) u v1 v2 :=
  zr_el (k := k) (P := fun u v => wpX_copy (fun r u' => wpY_copy (fun r' v' => r' = r ∧ i_Rel (k + 5) u' v') v v1 v2) u v1 v2) (fun _ _ _ _ _ _ _ _ _ _ _ _ _ _ _ _ _ _ _ _ _ _ _ _ _ _ _ _ _ _ _ _ _ _ _ _ _ _ _ _ _ _ H F => zm_copy H F v1 v2) u v I
theorem i_vc_turn {k : Nat} {u : SX} {v : SY} (I : i_Rel k u v) (hk : k + 5 ≤ 2560) (v1 : Int32) (v2 : Int32) : wpX_turn (fun r u' => wpY_turn (fun r' v' => r' = r ∧ i_Rel (k + 5) u' v') v v1 v2) u v1 v2 :=
  zr_el (k := k) (P := fun u v => wpX_turn (fun r u' => wpY_turn (fun r' v' => r' = r ∧ i_Rel (k + 5) u' v') v v1 v2) u v1 v2) (fun _ _ _ _ _ _ _ _ _ _ _ _ _ _ _ _ _ _ _ _ _ _ _ _ _ _ _ _ _ _ _ _ _ _ _ _ _ _ _ _ _ _ H F => zm_turn H F v1 v2) u v I
theorem i_vc_mirror {k : Nat} {u : SX} {v : SY} (I : i_Rel k u v) (hk : k + 5 ≤ 2560) (v1 : Int32) : wpX_mirror (fun r u' => wpY_mirror (fun r' v' => r' = r ∧ i_Rel (k + 5) u' v') v v1) u v1 :=
  zr_el (k := k) (P := fun u v => wpX_mirror (fun r u' => wpY_mirror (fun r' v' => r' = r ∧ i_Rel (k + 5) u' v') v v1) u v1) (fun _ _ _ _ _ _ _ _ _ _ _ _ _ _ _ _ _ _ _ _ _ _ _ _ _ _ _ _ _ _ _ _ _ _ _ _ _ _ _ _ _ _ H F => zm_mirror H F v1) u v I
theorem i_vc_crop {k : Nat} {u : SX} {v : SY} (I : i_Rel k u v) (hk : k + 5 ≤ 2560) (v1 : Int32) (v2 : Int32) (v3 : Int32) : wpX_crop (fun r u' => wpY_crop (fun r' v' => r' = r ∧ i_Rel (k + 5) u' v') v v1 v2 v3) u v1 v2 v3 :=
  zr_el (k := k) (P := fun u v => wpX_crop (fun r u' => wpY_crop (fun r' v' => r' = r ∧ i_Rel (k + 5) u' v') v v1 v2 v3) u v1 v2 v3) (fun _ _ _ _ _ _ _ _ _ _ _ _ _ _ _ _ _ _ _ _ _ _ _ _ _ _ _ _ _ _ _ _ _ _ _ _ _ _ _ _ _ _ H F => zm_crop H F v1 v2 v3) u v I
theorem i_vc_shrink {k : Nat} {u : SX} {v : SY} (I : i_Rel k u v) (hk : k + 5 ≤ 2560) (v1 : Int32) (v2 : Int32) (v3 : Int32) : wpX_shrink (fun r u' => wpY_shrink (fun r' v' => r' = r ∧ i_Rel (k + 5) u' v') v v1 v2 v3) u v1 v2 v3 :=
  zr_el (k := k) (P := fun u v => wpX_shrink (fun r u' => wpY_shrink (fun r' v' => r' = r ∧ i_Rel (k + 5) u' v') v v1 v2 v3) u v1 v2 v3) (fun _ _ _ _ _ _ _ _ _ _ _ _ _ _ _ _ _ _ _ _ _ _ _ _ _ _ _ _ _ _ _ _ _ _ _ _ _ _ _ _ _ _ H F => zm_shrink H F v1 v2 v3) u v I
theorem i_vc_level {k : Nat} {u : SX} {v : SY} (I : i_Rel k u v) (hk : k + 5 ≤ 2560) (v1 : Int32) (v2 : Int32) (v3 : Int32) : wpX_level (fun r u' => wpY_level (fun r' v' => r' = r ∧ i_Rel (k + 5) u' v') v v1 v2 v3) u v1 v2 v3 :=
  zr_el (k := k) (P := fun u v => wpX_level (fun r u' => wpY_level (fun r' v' => r' = r ∧ i_Rel (k + 5) u' v') v v1 v2 v3) u v1 v2 v3) (fun _ _ _ _ _ _ _ _ _ _ _ _ _ _ _ _ _ _ _ _ _ _ _ _ _ _ _ _ _ _ _ _ _ _ _ _ _ _ _ _ _ _ H F => zm_level H F v1 v2 v3) u v I
theorem i_vc_save {k : Nat} {u : SX} {v : SY} (I : i_Rel k u v) (hk : k + 5 ≤ 2560) (v1 : Int32) (v2 : Int32) (v3 : Int32) : wpX_save (fun r u' => wpY_save (fun r' v' => r' = r ∧ i_Rel (k + 5) u' v') v v1 v2 v3) u v1 v2 v3 :=
  zr_el (k := k) (P := fun u v => wpX_save (fun r u' => wpY_save (fun r' v' => r' = r ∧ i_Rel (k + 5) u' v') v v1 v2 v3) u v1 v2 v3) (fun _ _ _ _ _ _ _ _ _ _ _ _ _ _ _ _ _ _ _ _ _ _ _ _ _ _ _ _ _ _ _ _ _ _ _ _ _ _ _ _ _ _ H F => zm_save H F v1 v2 v3) u v I
theorem i_vc_load {k : Nat} {u : SX} {v : SY} (I : i_Rel k u v) (hk : k + 5 ≤ 2560) (v1 : Int32) (v2 : Int32) : wpX_load (fun r u' => wpY_load (fun r' v' => r' = r ∧ i_Rel (k + 5) u' v') v v1 v2) u v1 v2 :=
  zr_el (k := k) (P := fun u v => wpX_load (fun r u' => wpY_load (fun r' v' => r' = r ∧ i_Rel (k + 5) u' v') v v1 v2) u v1 v2) (fun _ _ _ _ _ _ _ _ _ _ _ _ _ _ _ _ _ _ _ _ _ _ _ _ _ _ _ _ _ _ _ _ _ _ _ _ _ _ _ _ _ _ H F => zm_load H F v1 v2) u v I
theorem i_vc_convert {k : Nat} {u : SX} {v : SY} (I : i_Rel k u v) (hk : k + 5 ≤ 2560) (v1 : Int32) (v2 : Int32) (v3 : Int32) : wpX_convert (fun r u' => wpY_convert (fun r' v' => r' = r ∧ i_Rel (k + 5) u' v') v v1 v2 v3) u v1 v2 v3 :=
  zr_el (k := k) (P := fun u v => wpX_convert (fun r u' => wpY_convert (fun r' v' => r' = r ∧ i_Rel (k + 5) u' v') v v1 v2 v3) u v1 v2 v3) (fun _ _ _ _ _ _ _ _ _ _ _ _ _ _ _ _ _ _ _ _ _ _ _ _ _ _ _ _ _ _ _ _ _ _ _ _ _ _ _ _ _ _ H F => zm_convert H F v1 v2 v3) u v I
theorem i_vc_damage {k : Nat} {u : SX} {v : SY} (I : i_Rel k u v) (hk : k + 5 ≤ 2560) (v1 : Int32) (v2 : Int32) : wpX_damage (fun r u' => wpY_damage (fun r' v' => r' = r ∧ i_Rel (k + 5) u' v') v v1 v2) u v1 v2 :=
  zr_el (k := k) (P := fun u v => wpX_damage (fun r u' => wpY_damage (fun r' v' => r' = r ∧ i_Rel (k + 5) u' v') v v1 v2) u v1 v2) (fun _ _ _ _ _ _ _ _ _ _ _ _ _ _ _ _ _ _ _ _ _ _ _ _ _ _ _ _ _ _ _ _ _ _ _ _ _ _ _ _ _ _ H F => zm_damage H F v1 v2) u v I
theorem i_vc_cut {k : Nat} {u : SX} {v : SY} (I : i_Rel k u v) (hk : k + 5 ≤ 2560) (v1 : Int32) (v2 : Int32) : wpX_cut (fun r u' => wpY_cut (fun r' v' => r' = r ∧ i_Rel (k + 5) u' v') v v1 v2) u v1 v2 :=
  zr_el (k := k) (P := fun u v => wpX_cut (fun r u' => wpY_cut (fun r' v' => r' = r ∧ i_Rel (k + 5) u' v') v v1 v2) u v1 v2) (fun _ _ _ _ _ _ _ _ _ _ _ _ _ _ _ _ _ _ _ _ _ _ _ _ _ _ _ _ _ _ _ _ _ _ _ _ _ _ _ _ _ _ H F => zm_cut H F v1 v2) u v I
theorem i_vc_duplicate {k : Nat} {u : SX} {v : SY} (I : i_Rel k u v) (hk : k + 5 ≤ 2560) (v1 : Int32) (v2 : Int32) : wpX_duplicate (fun r u' => wpY_duplicate (fun r' v' => r' = r ∧ i_Rel (k + 5) u' v') v v1 v2) u v1 v2 :=
  zr_el (k := k) (P := fun u v => wpX_duplicate (fun r u' => wpY_duplicate (fun r' v' => r' = r ∧ i_Rel (k + 5) u' v') v v1 v2) u v1 v2) (fun _ _ _ _ _ _ _ _ _ _ _ _ _ _ _ _ _ _ _ _ _ _ _ _ _ _ _ _ _ _ _ _ _ _ _ _ _ _ _ _ _ _ H F => zm_duplicate H F v1 v2) u v I
theorem i_vc_image {k : Nat} {u : SX} {v : SY} (I : i_Rel k u v) (hk : k + 5 ≤ 2560) (v1 : Int32) (v2 : Int32) : wpX_image (fun r => wpY_image (fun r' => r' = r ∧ i_Rel (k + 5) u v) v v1 v2) u v1 v2 :=
  zr_el (k := k) (P := fun u v => wpX_image (fun r => wpY_image (fun r' => r' = r ∧ i_Rel (k + 5) u v) v v1 v2) u v1 v2) (fun _ _ _ _ _ _ _ _ _ _ _ _ _ _ _ _ _ _ _ _ _ _ _ _ _ _ _ _ _ _ _ _ _ _ _ _ _ _ _ _ _ _ H F => zm_image H F v1 v2) u v I
theorem i_vc_file {k : Nat} {u : SX} {v : SY} (I : i_Rel k u v) (hk : k + 5 ≤ 2560) (v1 : Int32) (v2 : Int32) : wpX_file (fun r => wpY_file (fun r' => r' = r ∧ i_Rel (k + 5) u v) v v1 v2) u v1 v2 :=
  zr_el (k := k) (P := fun u v => wpX_file (fun r => wpY_file (fun r' => r' = r ∧ i_Rel (k + 5) u v) v v1 v2) u v1 v2) (fun _ _ _ _ _ _ _ _ _ _ _ _ _ _ _ _ _ _ _ _ _ _ _ _ _ _ _ _ _ _ _ _ _ _ _ _ _ _ _ _ _ _ H F => zm_file H F v1 v2) u v I
theorem i_vc_same {k : Nat} {u : SX} {v : SY} (I : i_Rel k u v) (hk : k + 5 ≤ 2560) (v1 : Int32) (v2 : Int32) : wpX_same (fun r => wpY_same (fun r' => r' = r ∧ i_Rel (k + 5) u v) v v1 v2) u v1 v2 :=
  zr_el (k := k) (P := fun u v => wpX_same (fun r => wpY_same (fun r' => r' = r ∧ i_Rel (k + 5) u v) v v1 v2) u v1 v2) (fun _ _ _ _ _ _ _ _ _ _ _ _ _ _ _ _ _ _ _ _ _ _ _ _ _ _ _ _ _ _ _ _ _ _ _ _ _ _ _ _ _ _ H F => zm_same H F v1 v2) u v I
end
