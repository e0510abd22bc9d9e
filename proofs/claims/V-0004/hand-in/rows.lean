section
/-! pure rows to paste: stores, nI and lN arithmetic, masks, shifts, narrowing, branches by naturals (pk_le, pk_lt, pk_eq), loops (lp1 .. lp16: the measure of the state; rp1 ..: recursion), negatives. Take what you need -/
theorem pk_us {f : Nat → Int32} {k : Nat} {x : Int32} : upd f k x k = x := if_pos rfl
theorem pk_un {f : Nat → Int32} {k j : Nat} {x : Int32} (h : j ≠ k) : upd f k x j = f j := if_neg h
theorem pk_uLs {f : Nat → Int64} {k : Nat} {x : Int64} : vp_updL f k x k = x := if_pos rfl
theorem pk_uLn {f : Nat → Int64} {k j : Nat} {x : Int64} (h : j ≠ k) : vp_updL f k x j = f j := if_neg h
theorem pk_sub {a b : Nat} (h : b ≤ a) : nI a - nI b = nI (a - b) := by
  obtain ⟨c, rfl⟩ : ∃ c, a = c + b := ⟨a - b, by omega⟩
  rw [← nI_add, Int32.add_sub_cancel, Nat.add_sub_cancel]
theorem pk_m1 (n : Nat) : nI (n + 1) + (-1) = nI n := by
  rw [← nI_1, Int32.add_assoc, show (1 : Int32) + (-1) = 0 from rfl, Int32.add_zero]
theorem pk_mul (a b : Nat) : nI a * nI b = nI (a * b) := (Int32.ofNat_mul a b).symm
theorem pk_div {a d : Nat} (ha : a < 2 ^ 31) (h0 : 0 < d) (hd : d < 2 ^ 31) : nI a / nI d = nI (a / d) := by
  apply Int32.toInt_inj.mp
  rw [lg_idiv_nonneg (by rw [nI_toInt ha]; omega) (by rw [nI_toInt hd]; omega), nI_toInt ha, nI_toInt hd, nI_toInt (Nat.lt_of_le_of_lt (Nat.div_le_self a d) ha)]
  first | rfl | exact (Int.natCast_ediv _ _).symm
theorem pk_rem {a d : Nat} (ha : a < 2 ^ 31) (h0 : 0 < d) (hd : d < 2 ^ 31) : nI a - nI a / nI d * nI d = nI (a % d) := by
  rw [pk_div ha h0 hd, pk_mul, pk_sub (Nat.div_mul_le_self a d)]
  exact congrArg nI (by have := Nat.div_add_mod' a d; omega)
theorem pk_sub_toInt {a b : Nat} (ha : a < 2 ^ 30) (hb : b < 2 ^ 30) : (nI a - nI b).toInt = (a : Int) - b := by
  rw [Int32.toInt_sub, nI_toInt (by omega), nI_toInt (by omega)]
  exact Int.bmod_eq_of_le (by omega) (by omega)
theorem pk_sneg {a b : Nat} (hb : b < 2 ^ 30) (h : a < b) : nI a - nI b < 0 := by
  rw [Int32.lt_iff_toInt_lt, pk_sub_toInt (by omega) hb, show (0 : Int32).toInt = 0 from by decide]
  omega
theorem pk_ix (x : Int32) {n : Nat} (hn : n < 2 ^ 31) : x < 0 ∨ nI n ≤ x ∨ ∃ j : Nat, j < n ∧ x = nI j := by
  by_cases h : x < 0
  · exact Or.inl h
  · obtain ⟨j, hj, rfl⟩ := nI_of h
    by_cases h2 : j < n
    · exact Or.inr (Or.inr ⟨j, h2, rfl⟩)
    · exact Or.inr (Or.inl (nI_le (by omega) hj))
theorem pk_le {x y : Int32} {A B : Prop} (a b : Nat) (f : a ≤ b → A) (g : b < a → B) (hx : x = nI a := by rfl) (hy : y = nI b := by rfl) (ha : a < 2 ^ 31 := by omega) (hb : b < 2 ^ 31 := by omega) : (x ≤ y → A) ∧ (¬ x ≤ y → B) := by
  subst hx hy
  rw [nI_leI ha hb]
  exact ⟨f, fun z => g (by omega)⟩
theorem pk_lt {x y : Int32} {A B : Prop} (a b : Nat) (f : a < b → A) (g : b ≤ a → B) (hx : x = nI a := by rfl) (hy : y = nI b := by rfl) (ha : a < 2 ^ 31 := by omega) (hb : b < 2 ^ 31 := by omega) : (x < y → A) ∧ (¬ x < y → B) := by
  subst hx hy
  rw [nI_ltI ha hb]
  exact ⟨f, fun z => g (by omega)⟩
theorem pk_eq {x y : Int32} {A B : Prop} (a b : Nat) (f : a = b → A) (g : a ≠ b → B) (hx : x = nI a := by rfl) (hy : y = nI b := by rfl) (ha : a < 2 ^ 31 := by omega) (hb : b < 2 ^ 31 := by omega) : (x = y → A) ∧ (¬ x = y → B) := by
  subst hx hy
  rw [nI_eq ha hb]
  exact ⟨f, g⟩
theorem pk_in {x : Int32} (n N : Nat) (h : n < N) (hx : x = nI n := by rfl) (hN : N < 2 ^ 31 := by omega) : vp_in x N := by
  subst hx
  exact vp_in_nI h hN
theorem pk_cl {x : Int32} (n : Nat) (hx : x = nI n := by rfl) (h : n < 2 ^ 31 := by omega) : x.toNatClampNeg = n := by
  subst hx
  exact nI_clamp h
theorem pk_tn {n : Nat} (h : n < 2 ^ 32) : (nI n).toBitVec.toNat = n := Nat.mod_eq_of_lt h
theorem pk_and (x : Int32) {m : Int32} (k : Nat) (hm : m.toBitVec.toNat = 2 ^ k - 1) : x &&& m = nI (x.toBitVec.toNat % 2 ^ k) := by
  apply Int32.toBitVec_inj.mp
  apply BitVec.eq_of_toNat_eq
  rw [Int32.toBitVec_and, BitVec.toNat_and, hm, Nat.and_two_pow_sub_one_eq_mod]
  show _ = (BitVec.ofNat 32 _).toNat
  rw [BitVec.toNat_ofNat]
  exact (Nat.mod_eq_of_lt (Nat.lt_of_le_of_lt (Nat.mod_le _ _) x.toBitVec.isLt)).symm
theorem pk_andN {n : Nat} (h : n < 2 ^ 32) {m : Int32} (k : Nat) (hm : m.toBitVec.toNat = 2 ^ k - 1) : nI n &&& m = nI (n % 2 ^ k) := by
  rw [pk_and _ k hm, pk_tn h]
theorem pk_andE (x : Int32) {m : Int32} (k : Nat) (hm : m.toBitVec.toNat = 2 ^ k - 1) : ∃ j : Nat, j < 2 ^ k ∧ x &&& m = nI j := ⟨_, Nat.mod_lt _ (Nat.two_pow_pos k), pk_and x k hm⟩
theorem pk_andIn (x : Int32) {m : Int32} (k : Nat) (hm : m.toBitVec.toNat = 2 ^ k - 1) (hk : k ≤ 30) : vp_in (x &&& m) (2 ^ k) := by
  obtain ⟨j, hj, e⟩ := pk_andE x k hm
  rw [e]
  exact vp_in_nI hj (Nat.lt_of_le_of_lt (Nat.pow_le_pow_right (by decide) hk) (by decide))
theorem pk_shl (a s : Int32) (k : Nat) (hs : (s.toBitVec.smod 32).toNat = k) : (a <<< s).toBitVec.toNat = a.toBitVec.toNat * 2 ^ k % 2 ^ 32 := by
  show (a.toBitVec <<< (s.toBitVec.smod 32).toNat).toNat = _
  rw [hs, BitVec.toNat_shiftLeft, Nat.shiftLeft_eq]
theorem pk_shlN {n : Nat} (s : Int32) (k : Nat) (hs : (s.toBitVec.smod 32).toNat = k) (h : n * 2 ^ k < 2 ^ 32) : nI n <<< s = nI (n * 2 ^ k) := by
  apply Int32.toBitVec_inj.mp
  apply BitVec.eq_of_toNat_eq
  have hn : n < 2 ^ 32 := Nat.lt_of_le_of_lt (Nat.le_mul_of_pos_right n (Nat.two_pow_pos k)) h
  rw [pk_shl _ _ k hs, pk_tn hn, pk_tn h, Nat.mod_eq_of_lt h]
theorem pk_shr (a s : Int32) (k : Nat) (hs : (s.toBitVec.smod 32).toNat = k) : (a >>> s).toInt = a.toInt >>> k := by
  show (a.toBitVec.sshiftRight (s.toBitVec.smod 32).toNat).toInt = _
  rw [hs, BitVec.toInt_sshiftRight]
  rfl
theorem pk_shrN {n : Nat} (h : n < 2 ^ 31) (s : Int32) (k : Nat) (hs : (s.toBitVec.smod 32).toNat = k) : nI n >>> s = nI (n / 2 ^ k) := by
  apply Int32.toInt_inj.mp
  have h2 : n / 2 ^ k ≤ n := Nat.div_le_self _ _
  rw [pk_shr _ _ k hs, nI_toInt h, nI_toInt (by omega), Int.shiftRight_eq_div_pow]
  rfl
theorem pk_ushr (x s : Int32) (k : Nat) (hs : ((s.toUInt32 &&& Int32.toUInt32 31).toBitVec % 32).toNat = k) : (x.toUInt32 >>> (s.toUInt32 &&& Int32.toUInt32 31)).toInt32.toBitVec.toNat = x.toBitVec.toNat / 2 ^ k := by
  have e : (x.toUInt32 >>> (s.toUInt32 &&& Int32.toUInt32 31)).toInt32.toBitVec = x.toBitVec >>> k := by
    rw [← hs]
    exact UInt32.toBitVec_shiftRight _ _
  rw [e, BitVec.toNat_ushiftRight, Nat.shiftRight_eq_div_pow]
theorem pk_ushrN {n : Nat} (hn : n < 2 ^ 32) (s : Int32) (k : Nat) (hs : ((s.toUInt32 &&& Int32.toUInt32 31).toBitVec % 32).toNat = k) : ((nI n).toUInt32 >>> (s.toUInt32 &&& Int32.toUInt32 31)).toInt32 = nI (n / 2 ^ k) := by
  apply Int32.toBitVec_inj.mp
  apply BitVec.eq_of_toNat_eq
  rw [pk_ushr _ s k hs, pk_tn hn, pk_tn (Nat.lt_of_le_of_lt (Nat.div_le_self _ _) hn)]
theorem pk_nb (z : Int32) : narrow .byte (.int z.toInt8.toInt32) = .int z.toInt8.toInt32 := congrArg Value.int (by simp)
theorem pk_ns (z : Int32) : narrow .short (.int z.toInt16.toInt32) = .int z.toInt16.toInt32 := congrArg Value.int (by simp)
theorem pk_fb (r : Int32) : fits .byte (.int r.toInt8.toInt32) = true := by
  have ⟨a, b⟩ := lg_i2b_range r
  have h1 : (-128 : Int32).toInt = -128 := by decide
  have h2 : (127 : Int32).toInt = 127 := by decide
  simp only [fits, Bool.and_eq_true, decide_eq_true_eq, Int32.le_iff_toInt_le, h1, h2]
  omega
theorem pk_fs (r : Int32) : fits .short (.int r.toInt16.toInt32) = true := by
  have ⟨a, b⟩ := lg_i2s_range r
  have h1 : (-32768 : Int32).toInt = -32768 := by decide
  have h2 : (32767 : Int32).toInt = 32767 := by decide
  simp only [fits, Bool.and_eq_true, decide_eq_true_eq, Int32.le_iff_toInt_le, h1, h2]
  omega
theorem pk_charN {q : Nat} (hq : q < 65536) : narrow .char (.int (nI q)) = .int (nI q) ∧ fits .char (.int (nI q)) = true := by
  constructor
  · have e : (nI q).toUInt32.toUInt16.toUInt32.toInt32 = nI q := by
      apply Int32.toBitVec_inj.mp
      apply BitVec.eq_of_toNat_eq
      show (nI q).toUInt32.toUInt16.toUInt32.toNat = q % 2 ^ 32
      rw [UInt16.toNat_toUInt32, UInt32.toNat_toUInt16, show (nI q).toUInt32.toNat = q % 2 ^ 32 from rfl]
      omega
    exact congrArg Value.int e
  · have a : (0 : Int32) ≤ nI q := nI_pos' (by omega)
    have b : nI q ≤ 65535 := nI_le (b := 65535) (by omega) (by decide)
    show (decide ((0 : Int32) ≤ nI q) && decide (nI q ≤ 65535)) = true
    rw [decide_eq_true a, decide_eq_true b]
    rfl
theorem pk_char (x : Int32) : (x.toUInt32 % 65536).toInt32 = nI (x.toBitVec.toNat % 65536) := by
  apply Int32.toBitVec_inj.mp
  apply BitVec.eq_of_toNat_eq
  rw [pk_tn (by omega)]
  show (x.toUInt32 % 65536).toNat = _
  rw [UInt32.toNat_mod]
  rfl
theorem pk_nc (x : Int32) : narrow .char (.int (x.toUInt32 % 65536).toInt32) = .int (x.toUInt32 % 65536).toInt32 := by
  rw [pk_char]
  exact (pk_charN (Nat.mod_lt _ (by decide))).1
theorem pk_fc (x : Int32) : fits .char (.int (x.toUInt32 % 65536).toInt32) = true := by
  rw [pk_char]
  exact (pk_charN (Nat.mod_lt _ (by decide))).2
theorem pk_vb (z : Int32) : vp_nar .byte z.toInt8.toInt32 = z.toInt8.toInt32 := by rw [vp_nar_byte]; simp
theorem pk_vs (z : Int32) : vp_nar .short z.toInt16.toInt32 = z.toInt16.toInt32 := by rw [vp_nar_short]; simp
theorem pk_vc (z : Int32) : vp_nar .char (z.toUInt32 % 65536).toInt32 = (z.toUInt32 % 65536).toInt32 := Value.int.inj (pk_nc z)
theorem pk_lT {n : Nat} (h : n < 2 ^ 63) : (lN n).toInt = (n : Int) := lg_ofNat_toInt h
theorem pk_lLT {a b : Nat} (ha : a < 2 ^ 63) (hb : b < 2 ^ 63) : lN a < lN b ↔ a < b := by
  rw [Int64.lt_iff_toInt_lt, pk_lT ha, pk_lT hb]; omega
theorem pk_lLE {a b : Nat} (ha : a < 2 ^ 63) (hb : b < 2 ^ 63) : lN a ≤ lN b ↔ a ≤ b := by
  rw [Int64.le_iff_toInt_le, pk_lT ha, pk_lT hb]; omega
theorem pk_lEQ {a b : Nat} (ha : a < 2 ^ 63) (hb : b < 2 ^ 63) : lN a = lN b ↔ a = b := by
  rw [← Int64.toInt_inj, pk_lT ha, pk_lT hb]; omega
theorem pk_lOf {x : Int64} (h : ¬ x < 0) : ∃ k : Nat, k < 2 ^ 63 ∧ x = lN k := by
  rw [Int64.lt_iff_toInt_lt] at h
  have h0 : (0 : Int64).toInt = 0 := by decide
  have hx := Int64.toInt_lt x
  refine ⟨x.toInt.toNat, by omega, Int64.toInt_inj.mp ?_⟩
  rw [pk_lT (by omega)]
  omega
theorem pk_lDiv {a b : Nat} (ha : a < 2 ^ 63) (h0 : 0 < b) (hb : b < 2 ^ 63) : lN a / lN b = lN (a / b) := by
  apply Int64.toInt_inj.mp
  rw [lg_ldiv_nonneg (by rw [pk_lT ha]; omega) (by rw [pk_lT hb]; omega), pk_lT ha, pk_lT hb, pk_lT (Nat.lt_of_le_of_lt (Nat.div_le_self a b) ha)]
  rfl
theorem pk_lRem {a b : Nat} (ha : a < 2 ^ 63) (h0 : 0 < b) (hb : b < 2 ^ 63) : lN a - lN a / lN b * lN b = lN (a % b) := by
  rw [pk_lDiv ha h0 hb, lN_mul, lN_sub (Nat.div_mul_le_self a b)]
  exact congrArg lN (by have := Nat.div_add_mod' a b; omega)
theorem pk_loop {σ : Type} (W : Nat → Nat → σ → Prop) (I : Nat → σ → Prop) (e i0 : Nat) (s : σ) (hi : i0 ≤ e) (h0 : I i0 s) (hx : ∀ n s, I e s → W (n + 1) e s)
    (hs : ∀ n i s, i < e → I i s → (∀ s', I (i + 1) s' → W n (i + 1) s') → W (n + 1) i s) : ∃ n, W n i0 s :=
  ⟨e + 1, loop_i W I e hx hs (e + 1) i0 s hi (by omega) h0⟩
theorem pk_loopD {σ : Type} (W : Nat → Nat → σ → Prop) (I : Nat → σ → Prop) (hx : ∀ n s, I 0 s → W (n + 1) 0 s)
    (hs : ∀ n i s, I (i + 1) s → (∀ s', I i s' → W n i s') → W (n + 1) (i + 1) s) : ∀ (e : Nat) (s : σ), I e s → W (e + 1) e s := by
  intro e
  induction e with
  | zero => exact fun s h => hx 0 s h
  | succ e ih => exact fun s h => hs (e + 1) e s h (fun s' h' => ih s' h')
theorem lp1 {A1 : Type} (W : Nat → A1 → Prop) (I : A1 → Prop) (μ : A1 → Nat) (hs : ∀ (n : Nat) (a1 : A1), I a1 → (∀ (b1 : A1), I b1 → μ b1 < μ a1 → W n b1) → W (n + 1) a1) (a1 : A1) (h : I a1) : ∃ n, W n a1 :=
  loop_m (σ := A1) (fun n s => W n s) (fun s => I s) (fun s => μ s) (fun n s hI hk => hs n s hI (fun b1 h9 hm => hk b1 h9 hm)) a1 h
theorem lp2 {A1 A2 : Type} (W : Nat → A1 → A2 → Prop) (I : A1 → A2 → Prop) (μ : A1 → A2 → Nat) (hs : ∀ (n : Nat) (a1 : A1) (a2 : A2), I a1 a2 → (∀ (b1 : A1) (b2 : A2), I b1 b2 → μ b1 b2 < μ a1 a2 → W n b1 b2) → W (n + 1) a1 a2) (a1 : A1) (a2 : A2) (h : I a1 a2) : ∃ n, W n a1 a2 :=
  loop_m (σ := A1 × A2) (fun n s => W n s.1 s.2) (fun s => I s.1 s.2) (fun s => μ s.1 s.2) (fun n s hI hk => hs n s.1 s.2 hI (fun b1 b2 h9 hm => hk (b1, b2) h9 hm)) (a1, a2) h
theorem lp3 {A1 A2 A3 : Type} (W : Nat → A1 → A2 → A3 → Prop) (I : A1 → A2 → A3 → Prop) (μ : A1 → A2 → A3 → Nat) (hs : ∀ (n : Nat) (a1 : A1) (a2 : A2) (a3 : A3), I a1 a2 a3 → (∀ (b1 : A1) (b2 : A2) (b3 : A3), I b1 b2 b3 → μ b1 b2 b3 < μ a1 a2 a3 → W n b1 b2 b3) → W (n + 1) a1 a2 a3) (a1 : A1) (a2 : A2) (a3 : A3) (h : I a1 a2 a3) : ∃ n, W n a1 a2 a3 :=
  loop_m (σ := A1 × A2 × A3) (fun n s => W n s.1 s.2.1 s.2.2) (fun s => I s.1 s.2.1 s.2.2) (fun s => μ s.1 s.2.1 s.2.2) (fun n s hI hk => hs n s.1 s.2.1 s.2.2 hI (fun b1 b2 b3 h9 hm => hk (b1, b2, b3) h9 hm)) (a1, a2, a3) h
theorem lp4 {A1 A2 A3 A4 : Type} (W : Nat → A1 → A2 → A3 → A4 → Prop) (I : A1 → A2 → A3 → A4 → Prop) (μ : A1 → A2 → A3 → A4 → Nat) (hs : ∀ (n : Nat) (a1 : A1) (a2 : A2) (a3 : A3) (a4 : A4), I a1 a2 a3 a4 → (∀ (b1 : A1) (b2 : A2) (b3 : A3) (b4 : A4), I b1 b2 b3 b4 → μ b1 b2 b3 b4 < μ a1 a2 a3 a4 → W n b1 b2 b3 b4) → W (n + 1) a1 a2 a3 a4) (a1 : A1) (a2 : A2) (a3 : A3) (a4 : A4) (h : I a1 a2 a3 a4) : ∃ n, W n a1 a2 a3 a4 :=
  loop_m (σ := A1 × A2 × A3 × A4) (fun n s => W n s.1 s.2.1 s.2.2.1 s.2.2.2) (fun s => I s.1 s.2.1 s.2.2.1 s.2.2.2) (fun s => μ s.1 s.2.1 s.2.2.1 s.2.2.2) (fun n s hI hk => hs n s.1 s.2.1 s.2.2.1 s.2.2.2 hI (fun b1 b2 b3 b4 h9 hm => hk (b1, b2, b3, b4) h9 hm)) (a1, a2, a3, a4) h
theorem lp5 {A1 A2 A3 A4 A5 : Type} (W : Nat → A1 → A2 → A3 → A4 → A5 → Prop) (I : A1 → A2 → A3 → A4 → A5 → Prop) (μ : A1 → A2 → A3 → A4 → A5 → Nat) (hs : ∀ (n : Nat) (a1 : A1) (a2 : A2) (a3 : A3) (a4 : A4) (a5 : A5), I a1 a2 a3 a4 a5 → (∀ (b1 : A1) (b2 : A2) (b3 : A3) (b4 : A4) (b5 : A5), I b1 b2 b3 b4 b5 → μ b1 b2 b3 b4 b5 < μ a1 a2 a3 a4 a5 → W n b1 b2 b3 b4 b5) → W (n + 1) a1 a2 a3 a4 a5) (a1 : A1) (a2 : A2) (a3 : A3) (a4 : A4) (a5 : A5) (h : I a1 a2 a3 a4 a5) : ∃ n, W n a1 a2 a3 a4 a5 :=
  loop_m (σ := A1 × A2 × A3 × A4 × A5) (fun n s => W n s.1 s.2.1 s.2.2.1 s.2.2.2.1 s.2.2.2.2) (fun s => I s.1 s.2.1 s.2.2.1 s.2.2.2.1 s.2.2.2.2) (fun s => μ s.1 s.2.1 s.2.2.1 s.2.2.2.1 s.2.2.2.2) (fun n s hI hk => hs n s.1 s.2.1 s.2.2.1 s.2.2.2.1 s.2.2.2.2 hI (fun b1 b2 b3 b4 b5 h9 hm => hk (b1, b2, b3, b4, b5) h9 hm)) (a1, a2, a3, a4, a5) h
theorem lp6 {A1 A2 A3 A4 A5 A6 : Type} (W : Nat → A1 → A2 → A3 → A4 → A5 → A6 → Prop) (I : A1 → A2 → A3 → A4 → A5 → A6 → Prop) (μ : A1 → A2 → A3 → A4 → A5 → A6 → Nat) (hs : ∀ (n : Nat) (a1 : A1) (a2 : A2) (a3 : A3) (a4 : A4) (a5 : A5) (a6 : A6), I a1 a2 a3 a4 a5 a6 → (∀ (b1 : A1) (b2 : A2) (b3 : A3) (b4 : A4) (b5 : A5) (b6 : A6), I b1 b2 b3 b4 b5 b6 → μ b1 b2 b3 b4 b5 b6 < μ a1 a2 a3 a4 a5 a6 → W n b1 b2 b3 b4 b5 b6) → W (n + 1) a1 a2 a3 a4 a5 a6) (a1 : A1) (a2 : A2) (a3 : A3) (a4 : A4) (a5 : A5) (a6 : A6) (h : I a1 a2 a3 a4 a5 a6) : ∃ n, W n a1 a2 a3 a4 a5 a6 :=
  loop_m (σ := A1 × A2 × A3 × A4 × A5 × A6) (fun n s => W n s.1 s.2.1 s.2.2.1 s.2.2.2.1 s.2.2.2.2.1 s.2.2.2.2.2) (fun s => I s.1 s.2.1 s.2.2.1 s.2.2.2.1 s.2.2.2.2.1 s.2.2.2.2.2) (fun s => μ s.1 s.2.1 s.2.2.1 s.2.2.2.1 s.2.2.2.2.1 s.2.2.2.2.2) (fun n s hI hk => hs n s.1 s.2.1 s.2.2.1 s.2.2.2.1 s.2.2.2.2.1 s.2.2.2.2.2 hI (fun b1 b2 b3 b4 b5 b6 h9 hm => hk (b1, b2, b3, b4, b5, b6) h9 hm)) (a1, a2, a3, a4, a5, a6) h
theorem lp7 {A1 A2 A3 A4 A5 A6 A7 : Type} (W : Nat → A1 → A2 → A3 → A4 → A5 → A6 → A7 → Prop) (I : A1 → A2 → A3 → A4 → A5 → A6 → A7 → Prop) (μ : A1 → A2 → A3 → A4 → A5 → A6 → A7 → Nat) (hs : ∀ (n : Nat) (a1 : A1) (a2 : A2) (a3 : A3) (a4 : A4) (a5 : A5) (a6 : A6) (a7 : A7), I a1 a2 a3 a4 a5 a6 a7 → (∀ (b1 : A1) (b2 : A2) (b3 : A3) (b4 : A4) (b5 : A5) (b6 : A6) (b7 : A7), I b1 b2 b3 b4 b5 b6 b7 → μ b1 b2 b3 b4 b5 b6 b7 < μ a1 a2 a3 a4 a5 a6 a7 → W n b1 b2 b3 b4 b5 b6 b7) → W (n + 1) a1 a2 a3 a4 a5 a6 a7) (a1 : A1) (a2 : A2) (a3 : A3) (a4 : A4) (a5 : A5) (a6 : A6) (a7 : A7) (h : I a1 a2 a3 a4 a5 a6 a7) : ∃ n, W n a1 a2 a3 a4 a5 a6 a7 :=
  loop_m (σ := A1 × A2 × A3 × A4 × A5 × A6 × A7) (fun n s => W n s.1 s.2.1 s.2.2.1 s.2.2.2.1 s.2.2.2.2.1 s.2.2.2.2.2.1 s.2.2.2.2.2.2) (fun s => I s.1 s.2.1 s.2.2.1 s.2.2.2.1 s.2.2.2.2.1 s.2.2.2.2.2.1 s.2.2.2.2.2.2) (fun s => μ s.1 s.2.1 s.2.2.1 s.2.2.2.1 s.2.2.2.2.1 s.2.2.2.2.2.1 s.2.2.2.2.2.2) (fun n s hI hk => hs n s.1 s.2.1 s.2.2.1 s.2.2.2.1 s.2.2.2.2.1 s.2.2.2.2.2.1 s.2.2.2.2.2.2 hI (fun b1 b2 b3 b4 b5 b6 b7 h9 hm => hk (b1, b2, b3, b4, b5, b6, b7) h9 hm)) (a1, a2, a3, a4, a5, a6, a7) h
theorem lp8 {A1 A2 A3 A4 A5 A6 A7 A8 : Type} (W : Nat → A1 → A2 → A3 → A4 → A5 → A6 → A7 → A8 → Prop) (I : A1 → A2 → A3 → A4 → A5 → A6 → A7 → A8 → Prop) (μ : A1 → A2 → A3 → A4 → A5 → A6 → A7 → A8 → Nat) (hs : ∀ (n : Nat) (a1 : A1) (a2 : A2) (a3 : A3) (a4 : A4) (a5 : A5) (a6 : A6) (a7 : A7) (a8 : A8), I a1 a2 a3 a4 a5 a6 a7 a8 → (∀ (b1 : A1) (b2 : A2) (b3 : A3) (b4 : A4) (b5 : A5) (b6 : A6) (b7 : A7) (b8 : A8), I b1 b2 b3 b4 b5 b6 b7 b8 → μ b1 b2 b3 b4 b5 b6 b7 b8 < μ a1 a2 a3 a4 a5 a6 a7 a8 → W n b1 b2 b3 b4 b5 b6 b7 b8) → W (n + 1) a1 a2 a3 a4 a5 a6 a7 a8) (a1 : A1) (a2 : A2) (a3 : A3) (a4 : A4) (a5 : A5) (a6 : A6) (a7 : A7) (a8 : A8) (h : I a1 a2 a3 a4 a5 a6 a7 a8) : ∃ n, W n a1 a2 a3 a4 a5 a6 a7 a8 :=
  loop_m (σ := A1 × A2 × A3 × A4 × A5 × A6 × A7 × A8) (fun n s => W n s.1 s.2.1 s.2.2.1 s.2.2.2.1 s.2.2.2.2.1 s.2.2.2.2.2.1 s.2.2.2.2.2.2.1 s.2.2.2.2.2.2.2) (fun s => I s.1 s.2.1 s.2.2.1 s.2.2.2.1 s.2.2.2.2.1 s.2.2.2.2.2.1 s.2.2.2.2.2.2.1 s.2.2.2.2.2.2.2) (fun s => μ s.1 s.2.1 s.2.2.1 s.2.2.2.1 s.2.2.2.2.1 s.2.2.2.2.2.1 s.2.2.2.2.2.2.1 s.2.2.2.2.2.2.2) (fun n s hI hk => hs n s.1 s.2.1 s.2.2.1 s.2.2.2.1 s.2.2.2.2.1 s.2.2.2.2.2.1 s.2.2.2.2.2.2.1 s.2.2.2.2.2.2.2 hI (fun b1 b2 b3 b4 b5 b6 b7 b8 h9 hm => hk (b1, b2, b3, b4, b5, b6, b7, b8) h9 hm)) (a1, a2, a3, a4, a5, a6, a7, a8) h
theorem lp9 {A1 A2 A3 A4 A5 A6 A7 A8 A9 : Type} (W : Nat → A1 → A2 → A3 → A4 → A5 → A6 → A7 → A8 → A9 → Prop) (I : A1 → A2 → A3 → A4 → A5 → A6 → A7 → A8 → A9 → Prop) (μ : A1 → A2 → A3 → A4 → A5 → A6 → A7 → A8 → A9 → Nat) (hs : ∀ (n : Nat) (a1 : A1) (a2 : A2) (a3 : A3) (a4 : A4) (a5 : A5) (a6 : A6) (a7 : A7) (a8 : A8) (a9 : A9), I a1 a2 a3 a4 a5 a6 a7 a8 a9 → (∀ (b1 : A1) (b2 : A2) (b3 : A3) (b4 : A4) (b5 : A5) (b6 : A6) (b7 : A7) (b8 : A8) (b9 : A9), I b1 b2 b3 b4 b5 b6 b7 b8 b9 → μ b1 b2 b3 b4 b5 b6 b7 b8 b9 < μ a1 a2 a3 a4 a5 a6 a7 a8 a9 → W n b1 b2 b3 b4 b5 b6 b7 b8 b9) → W (n + 1) a1 a2 a3 a4 a5 a6 a7 a8 a9) (a1 : A1) (a2 : A2) (a3 : A3) (a4 : A4) (a5 : A5) (a6 : A6) (a7 : A7) (a8 : A8) (a9 : A9) (h : I a1 a2 a3 a4 a5 a6 a7 a8 a9) : ∃ n, W n a1 a2 a3 a4 a5 a6 a7 a8 a9 :=
  loop_m (σ := A1 × A2 × A3 × A4 × A5 × A6 × A7 × A8 × A9) (fun n s => W n s.1 s.2.1 s.2.2.1 s.2.2.2.1 s.2.2.2.2.1 s.2.2.2.2.2.1 s.2.2.2.2.2.2.1 s.2.2.2.2.2.2.2.1 s.2.2.2.2.2.2.2.2) (fun s => I s.1 s.2.1 s.2.2.1 s.2.2.2.1 s.2.2.2.2.1 s.2.2.2.2.2.1 s.2.2.2.2.2.2.1 s.2.2.2.2.2.2.2.1 s.2.2.2.2.2.2.2.2) (fun s => μ s.1 s.2.1 s.2.2.1 s.2.2.2.1 s.2.2.2.2.1 s.2.2.2.2.2.1 s.2.2.2.2.2.2.1 s.2.2.2.2.2.2.2.1 s.2.2.2.2.2.2.2.2) (fun n s hI hk => hs n s.1 s.2.1 s.2.2.1 s.2.2.2.1 s.2.2.2.2.1 s.2.2.2.2.2.1 s.2.2.2.2.2.2.1 s.2.2.2.2.2.2.2.1 s.2.2.2.2.2.2.2.2 hI (fun b1 b2 b3 b4 b5 b6 b7 b8 b9 h9 hm => hk (b1, b2, b3, b4, b5, b6, b7, b8, b9) h9 hm)) (a1, a2, a3, a4, a5, a6, a7, a8, a9) h
theorem lp10 {A1 A2 A3 A4 A5 A6 A7 A8 A9 A10 : Type} (W : Nat → A1 → A2 → A3 → A4 → A5 → A6 → A7 → A8 → A9 → A10 → Prop) (I : A1 → A2 → A3 → A4 → A5 → A6 → A7 → A8 → A9 → A10 → Prop) (μ : A1 → A2 → A3 → A4 → A5 → A6 → A7 → A8 → A9 → A10 → Nat) (hs : ∀ (n : Nat) (a1 : A1) (a2 : A2) (a3 : A3) (a4 : A4) (a5 : A5) (a6 : A6) (a7 : A7) (a8 : A8) (a9 : A9) (a10 : A10), I a1 a2 a3 a4 a5 a6 a7 a8 a9 a10 → (∀ (b1 : A1) (b2 : A2) (b3 : A3) (b4 : A4) (b5 : A5) (b6 : A6) (b7 : A7) (b8 : A8) (b9 : A9) (b10 : A10), I b1 b2 b3 b4 b5 b6 b7 b8 b9 b10 → μ b1 b2 b3 b4 b5 b6 b7 b8 b9 b10 < μ a1 a2 a3 a4 a5 a6 a7 a8 a9 a10 → W n b1 b2 b3 b4 b5 b6 b7 b8 b9 b10) → W (n + 1) a1 a2 a3 a4 a5 a6 a7 a8 a9 a10) (a1 : A1) (a2 : A2) (a3 : A3) (a4 : A4) (a5 : A5) (a6 : A6) (a7 : A7) (a8 : A8) (a9 : A9) (a10 : A10) (h : I a1 a2 a3 a4 a5 a6 a7 a8 a9 a10) : ∃ n, W n a1 a2 a3 a4 a5 a6 a7 a8 a9 a10 :=
  loop_m (σ := A1 × A2 × A3 × A4 × A5 × A6 × A7 × A8 × A9 × A10) (fun n s => W n s.1 s.2.1 s.2.2.1 s.2.2.2.1 s.2.2.2.2.1 s.2.2.2.2.2.1 s.2.2.2.2.2.2.1 s.2.2.2.2.2.2.2.1 s.2.2.2.2.2.2.2.2.1 s.2.2.2.2.2.2.2.2.2) (fun s => I s.1 s.2.1 s.2.2.1 s.2.2.2.1 s.2.2.2.2.1 s.2.2.2.2.2.1 s.2.2.2.2.2.2.1 s.2.2.2.2.2.2.2.1 s.2.2.2.2.2.2.2.2.1 s.2.2.2.2.2.2.2.2.2) (fun s => μ s.1 s.2.1 s.2.2.1 s.2.2.2.1 s.2.2.2.2.1 s.2.2.2.2.2.1 s.2.2.2.2.2.2.1 s.2.2.2.2.2.2.2.1 s.2.2.2.2.2.2.2.2.1 s.2.2.2.2.2.2.2.2.2) (fun n s hI hk => hs n s.1 s.2.1 s.2.2.1 s.2.2.2.1 s.2.2.2.2.1 s.2.2.2.2.2.1 s.2.2.2.2.2.2.1 s.2.2.2.2.2.2.2.1 s.2.2.2.2.2.2.2.2.1 s.2.2.2.2.2.2.2.2.2 hI (fun b1 b2 b3 b4 b5 b6 b7 b8 b9 b10 h9 hm => hk (b1, b2, b3, b4, b5, b6, b7, b8, b9, b10) h9 hm)) (a1, a2, a3, a4, a5, a6, a7, a8, a9, a10) h
theorem lp11 {A1 A2 A3 A4 A5 A6 A7 A8 A9 A10 A11 : Type} (W : Nat → A1 → A2 → A3 → A4 → A5 → A6 → A7 → A8 → A9 → A10 → A11 → Prop) (I : A1 → A2 → A3 → A4 → A5 → A6 → A7 → A8 → A9 → A10 → A11 → Prop) (μ : A1 → A2 → A3 → A4 → A5 → A6 → A7 → A8 → A9 → A10 → A11 → Nat) (hs : ∀ (n : Nat) (a1 : A1) (a2 : A2) (a3 : A3) (a4 : A4) (a5 : A5) (a6 : A6) (a7 : A7) (a8 : A8) (a9 : A9) (a10 : A10) (a11 : A11), I a1 a2 a3 a4 a5 a6 a7 a8 a9 a10 a11 → (∀ (b1 : A1) (b2 : A2) (b3 : A3) (b4 : A4) (b5 : A5) (b6 : A6) (b7 : A7) (b8 : A8) (b9 : A9) (b10 : A10) (b11 : A11), I b1 b2 b3 b4 b5 b6 b7 b8 b9 b10 b11 → μ b1 b2 b3 b4 b5 b6 b7 b8 b9 b10 b11 < μ a1 a2 a3 a4 a5 a6 a7 a8 a9 a10 a11 → W n b1 b2 b3 b4 b5 b6 b7 b8 b9 b10 b11) → W (n + 1) a1 a2 a3 a4 a5 a6 a7 a8 a9 a10 a11) (a1 : A1) (a2 : A2) (a3 : A3) (a4 : A4) (a5 : A5) (a6 : A6) (a7 : A7) (a8 : A8) (a9 : A9) (a10 : A10) (a11 : A11) (h : I a1 a2 a3 a4 a5 a6 a7 a8 a9 a10 a11) : ∃ n, W n a1 a2 a3 a4 a5 a6 a7 a8 a9 a10 a11 :=
  loop_m (σ := A1 × A2 × A3 × A4 × A5 × A6 × A7 × A8 × A9 × A10 × A11) (fun n s => W n s.1 s.2.1 s.2.2.1 s.2.2.2.1 s.2.2.2.2.1 s.2.2.2.2.2.1 s.2.2.2.2.2.2.1 s.2.2.2.2.2.2.2.1 s.2.2.2.2.2.2.2.2.1 s.2.2.2.2.2.2.2.2.2.1 s.2.2.2.2.2.2.2.2.2.2) (fun s => I s.1 s.2.1 s.2.2.1 s.2.2.2.1 s.2.2.2.2.1 s.2.2.2.2.2.1 s.2.2.2.2.2.2.1 s.2.2.2.2.2.2.2.1 s.2.2.2.2.2.2.2.2.1 s.2.2.2.2.2.2.2.2.2.1 s.2.2.2.2.2.2.2.2.2.2) (fun s => μ s.1 s.2.1 s.2.2.1 s.2.2.2.1 s.2.2.2.2.1 s.2.2.2.2.2.1 s.2.2.2.2.2.2.1 s.2.2.2.2.2.2.2.1 s.2.2.2.2.2.2.2.2.1 s.2.2.2.2.2.2.2.2.2.1 s.2.2.2.2.2.2.2.2.2.2) (fun n s hI hk => hs n s.1 s.2.1 s.2.2.1 s.2.2.2.1 s.2.2.2.2.1 s.2.2.2.2.2.1 s.2.2.2.2.2.2.1 s.2.2.2.2.2.2.2.1 s.2.2.2.2.2.2.2.2.1 s.2.2.2.2.2.2.2.2.2.1 s.2.2.2.2.2.2.2.2.2.2 hI (fun b1 b2 b3 b4 b5 b6 b7 b8 b9 b10 b11 h9 hm => hk (b1, b2, b3, b4, b5, b6, b7, b8, b9, b10, b11) h9 hm)) (a1, a2, a3, a4, a5, a6, a7, a8, a9, a10, a11) h
theorem lp12 {A1 A2 A3 A4 A5 A6 A7 A8 A9 A10 A11 A12 : Type} (W : Nat → A1 → A2 → A3 → A4 → A5 → A6 → A7 → A8 → A9 → A10 → A11 → A12 → Prop) (I : A1 → A2 → A3 → A4 → A5 → A6 → A7 → A8 → A9 → A10 → A11 → A12 → Prop) (μ : A1 → A2 → A3 → A4 → A5 → A6 → A7 → A8 → A9 → A10 → A11 → A12 → Nat) (hs : ∀ (n : Nat) (a1 : A1) (a2 : A2) (a3 : A3) (a4 : A4) (a5 : A5) (a6 : A6) (a7 : A7) (a8 : A8) (a9 : A9) (a10 : A10) (a11 : A11) (a12 : A12), I a1 a2 a3 a4 a5 a6 a7 a8 a9 a10 a11 a12 → (∀ (b1 : A1) (b2 : A2) (b3 : A3) (b4 : A4) (b5 : A5) (b6 : A6) (b7 : A7) (b8 : A8) (b9 : A9) (b10 : A10) (b11 : A11) (b12 : A12), I b1 b2 b3 b4 b5 b6 b7 b8 b9 b10 b11 b12 → μ b1 b2 b3 b4 b5 b6 b7 b8 b9 b10 b11 b12 < μ a1 a2 a3 a4 a5 a6 a7 a8 a9 a10 a11 a12 → W n b1 b2 b3 b4 b5 b6 b7 b8 b9 b10 b11 b12) → W (n + 1) a1 a2 a3 a4 a5 a6 a7 a8 a9 a10 a11 a12) (a1 : A1) (a2 : A2) (a3 : A3) (a4 : A4) (a5 : A5) (a6 : A6) (a7 : A7) (a8 : A8) (a9 : A9) (a10 : A10) (a11 : A11) (a12 : A12) (h : I a1 a2 a3 a4 a5 a6 a7 a8 a9 a10 a11 a12) : ∃ n, W n a1 a2 a3 a4 a5 a6 a7 a8 a9 a10 a11 a12 :=
  loop_m (σ := A1 × A2 × A3 × A4 × A5 × A6 × A7 × A8 × A9 × A10 × A11 × A12) (fun n s => W n s.1 s.2.1 s.2.2.1 s.2.2.2.1 s.2.2.2.2.1 s.2.2.2.2.2.1 s.2.2.2.2.2.2.1 s.2.2.2.2.2.2.2.1 s.2.2.2.2.2.2.2.2.1 s.2.2.2.2.2.2.2.2.2.1 s.2.2.2.2.2.2.2.2.2.2.1 s.2.2.2.2.2.2.2.2.2.2.2) (fun s => I s.1 s.2.1 s.2.2.1 s.2.2.2.1 s.2.2.2.2.1 s.2.2.2.2.2.1 s.2.2.2.2.2.2.1 s.2.2.2.2.2.2.2.1 s.2.2.2.2.2.2.2.2.1 s.2.2.2.2.2.2.2.2.2.1 s.2.2.2.2.2.2.2.2.2.2.1 s.2.2.2.2.2.2.2.2.2.2.2) (fun s => μ s.1 s.2.1 s.2.2.1 s.2.2.2.1 s.2.2.2.2.1 s.2.2.2.2.2.1 s.2.2.2.2.2.2.1 s.2.2.2.2.2.2.2.1 s.2.2.2.2.2.2.2.2.1 s.2.2.2.2.2.2.2.2.2.1 s.2.2.2.2.2.2.2.2.2.2.1 s.2.2.2.2.2.2.2.2.2.2.2) (fun n s hI hk => hs n s.1 s.2.1 s.2.2.1 s.2.2.2.1 s.2.2.2.2.1 s.2.2.2.2.2.1 s.2.2.2.2.2.2.1 s.2.2.2.2.2.2.2.1 s.2.2.2.2.2.2.2.2.1 s.2.2.2.2.2.2.2.2.2.1 s.2.2.2.2.2.2.2.2.2.2.1 s.2.2.2.2.2.2.2.2.2.2.2 hI (fun b1 b2 b3 b4 b5 b6 b7 b8 b9 b10 b11 b12 h9 hm => hk (b1, b2, b3, b4, b5, b6, b7, b8, b9, b10, b11, b12) h9 hm)) (a1, a2, a3, a4, a5, a6, a7, a8, a9, a10, a11, a12) h
theorem lp13 {A1 A2 A3 A4 A5 A6 A7 A8 A9 A10 A11 A12 A13 : Type} (W : Nat → A1 → A2 → A3 → A4 → A5 → A6 → A7 → A8 → A9 → A10 → A11 → A12 → A13 → Prop) (I : A1 → A2 → A3 → A4 → A5 → A6 → A7 → A8 → A9 → A10 → A11 → A12 → A13 → Prop) (μ : A1 → A2 → A3 → A4 → A5 → A6 → A7 → A8 → A9 → A10 → A11 → A12 → A13 → Nat) (hs : ∀ (n : Nat) (a1 : A1) (a2 : A2) (a3 : A3) (a4 : A4) (a5 : A5) (a6 : A6) (a7 : A7) (a8 : A8) (a9 : A9) (a10 : A10) (a11 : A11) (a12 : A12) (a13 : A13), I a1 a2 a3 a4 a5 a6 a7 a8 a9 a10 a11 a12 a13 → (∀ (b1 : A1) (b2 : A2) (b3 : A3) (b4 : A4) (b5 : A5) (b6 : A6) (b7 : A7) (b8 : A8) (b9 : A9) (b10 : A10) (b11 : A11) (b12 : A12) (b13 : A13), I b1 b2 b3 b4 b5 b6 b7 b8 b9 b10 b11 b12 b13 → μ b1 b2 b3 b4 b5 b6 b7 b8 b9 b10 b11 b12 b13 < μ a1 a2 a3 a4 a5 a6 a7 a8 a9 a10 a11 a12 a13 → W n b1 b2 b3 b4 b5 b6 b7 b8 b9 b10 b11 b12 b13) → W (n + 1) a1 a2 a3 a4 a5 a6 a7 a8 a9 a10 a11 a12 a13) (a1 : A1) (a2 : A2) (a3 : A3) (a4 : A4) (a5 : A5) (a6 : A6) (a7 : A7) (a8 : A8) (a9 : A9) (a10 : A10) (a11 : A11) (a12 : A12) (a13 : A13) (h : I a1 a2 a3 a4 a5 a6 a7 a8 a9 a10 a11 a12 a13) : ∃ n, W n a1 a2 a3 a4 a5 a6 a7 a8 a9 a10 a11 a12 a13 :=
  loop_m (σ := A1 × A2 × A3 × A4 × A5 × A6 × A7 × A8 × A9 × A10 × A11 × A12 × A13) (fun n s => W n s.1 s.2.1 s.2.2.1 s.2.2.2.1 s.2.2.2.2.1 s.2.2.2.2.2.1 s.2.2.2.2.2.2.1 s.2.2.2.2.2.2.2.1 s.2.2.2.2.2.2.2.2.1 s.2.2.2.2.2.2.2.2.2.1 s.2.2.2.2.2.2.2.2.2.2.1 s.2.2.2.2.2.2.2.2.2.2.2.1 s.2.2.2.2.2.2.2.2.2.2.2.2) (fun s => I s.1 s.2.1 s.2.2.1 s.2.2.2.1 s.2.2.2.2.1 s.2.2.2.2.2.1 s.2.2.2.2.2.2.1 s.2.2.2.2.2.2.2.1 s.2.2.2.2.2.2.2.2.1 s.2.2.2.2.2.2.2.2.2.1 s.2.2.2.2.2.2.2.2.2.2.1 s.2.2.2.2.2.2.2.2.2.2.2.1 s.2.2.2.2.2.2.2.2.2.2.2.2) (fun s => μ s.1 s.2.1 s.2.2.1 s.2.2.2.1 s.2.2.2.2.1 s.2.2.2.2.2.1 s.2.2.2.2.2.2.1 s.2.2.2.2.2.2.2.1 s.2.2.2.2.2.2.2.2.1 s.2.2.2.2.2.2.2.2.2.1 s.2.2.2.2.2.2.2.2.2.2.1 s.2.2.2.2.2.2.2.2.2.2.2.1 s.2.2.2.2.2.2.2.2.2.2.2.2) (fun n s hI hk => hs n s.1 s.2.1 s.2.2.1 s.2.2.2.1 s.2.2.2.2.1 s.2.2.2.2.2.1 s.2.2.2.2.2.2.1 s.2.2.2.2.2.2.2.1 s.2.2.2.2.2.2.2.2.1 s.2.2.2.2.2.2.2.2.2.1 s.2.2.2.2.2.2.2.2.2.2.1 s.2.2.2.2.2.2.2.2.2.2.2.1 s.2.2.2.2.2.2.2.2.2.2.2.2 hI (fun b1 b2 b3 b4 b5 b6 b7 b8 b9 b10 b11 b12 b13 h9 hm => hk (b1, b2, b3, b4, b5, b6, b7, b8, b9, b10, b11, b12, b13) h9 hm)) (a1, a2, a3, a4, a5, a6, a7, a8, a9, a10, a11, a12, a13) h
theorem lp14 {A1 A2 A3 A4 A5 A6 A7 A8 A9 A10 A11 A12 A13 A14 : Type} (W : Nat → A1 → A2 → A3 → A4 → A5 → A6 → A7 → A8 → A9 → A10 → A11 → A12 → A13 → A14 → Prop) (I : A1 → A2 → A3 → A4 → A5 → A6 → A7 → A8 → A9 → A10 → A11 → A12 → A13 → A14 → Prop) (μ : A1 → A2 → A3 → A4 → A5 → A6 → A7 → A8 → A9 → A10 → A11 → A12 → A13 → A14 → Nat) (hs : ∀ (n : Nat) (a1 : A1) (a2 : A2) (a3 : A3) (a4 : A4) (a5 : A5) (a6 : A6) (a7 : A7) (a8 : A8) (a9 : A9) (a10 : A10) (a11 : A11) (a12 : A12) (a13 : A13) (a14 : A14), I a1 a2 a3 a4 a5 a6 a7 a8 a9 a10 a11 a12 a13 a14 → (∀ (b1 : A1) (b2 : A2) (b3 : A3) (b4 : A4) (b5 : A5) (b6 : A6) (b7 : A7) (b8 : A8) (b9 : A9) (b10 : A10) (b11 : A11) (b12 : A12) (b13 : A13) (b14 : A14), I b1 b2 b3 b4 b5 b6 b7 b8 b9 b10 b11 b12 b13 b14 → μ b1 b2 b3 b4 b5 b6 b7 b8 b9 b10 b11 b12 b13 b14 < μ a1 a2 a3 a4 a5 a6 a7 a8 a9 a10 a11 a12 a13 a14 → W n b1 b2 b3 b4 b5 b6 b7 b8 b9 b10 b11 b12 b13 b14) → W (n + 1) a1 a2 a3 a4 a5 a6 a7 a8 a9 a10 a11 a12 a13 a14) (a1 : A1) (a2 : A2) (a3 : A3) (a4 : A4) (a5 : A5) (a6 : A6) (a7 : A7) (a8 : A8) (a9 : A9) (a10 : A10) (a11 : A11) (a12 : A12) (a13 : A13) (a14 : A14) (h : I a1 a2 a3 a4 a5 a6 a7 a8 a9 a10 a11 a12 a13 a14) : ∃ n, W n a1 a2 a3 a4 a5 a6 a7 a8 a9 a10 a11 a12 a13 a14 :=
  loop_m (σ := A1 × A2 × A3 × A4 × A5 × A6 × A7 × A8 × A9 × A10 × A11 × A12 × A13 × A14) (fun n s => W n s.1 s.2.1 s.2.2.1 s.2.2.2.1 s.2.2.2.2.1 s.2.2.2.2.2.1 s.2.2.2.2.2.2.1 s.2.2.2.2.2.2.2.1 s.2.2.2.2.2.2.2.2.1 s.2.2.2.2.2.2.2.2.2.1 s.2.2.2.2.2.2.2.2.2.2.1 s.2.2.2.2.2.2.2.2.2.2.2.1 s.2.2.2.2.2.2.2.2.2.2.2.2.1 s.2.2.2.2.2.2.2.2.2.2.2.2.2) (fun s => I s.1 s.2.1 s.2.2.1 s.2.2.2.1 s.2.2.2.2.1 s.2.2.2.2.2.1 s.2.2.2.2.2.2.1 s.2.2.2.2.2.2.2.1 s.2.2.2.2.2.2.2.2.1 s.2.2.2.2.2.2.2.2.2.1 s.2.2.2.2.2.2.2.2.2.2.1 s.2.2.2.2.2.2.2.2.2.2.2.1 s.2.2.2.2.2.2.2.2.2.2.2.2.1 s.2.2.2.2.2.2.2.2.2.2.2.2.2) (fun s => μ s.1 s.2.1 s.2.2.1 s.2.2.2.1 s.2.2.2.2.1 s.2.2.2.2.2.1 s.2.2.2.2.2.2.1 s.2.2.2.2.2.2.2.1 s.2.2.2.2.2.2.2.2.1 s.2.2.2.2.2.2.2.2.2.1 s.2.2.2.2.2.2.2.2.2.2.1 s.2.2.2.2.2.2.2.2.2.2.2.1 s.2.2.2.2.2.2.2.2.2.2.2.2.1 s.2.2.2.2.2.2.2.2.2.2.2.2.2) (fun n s hI hk => hs n s.1 s.2.1 s.2.2.1 s.2.2.2.1 s.2.2.2.2.1 s.2.2.2.2.2.1 s.2.2.2.2.2.2.1 s.2.2.2.2.2.2.2.1 s.2.2.2.2.2.2.2.2.1 s.2.2.2.2.2.2.2.2.2.1 s.2.2.2.2.2.2.2.2.2.2.1 s.2.2.2.2.2.2.2.2.2.2.2.1 s.2.2.2.2.2.2.2.2.2.2.2.2.1 s.2.2.2.2.2.2.2.2.2.2.2.2.2 hI (fun b1 b2 b3 b4 b5 b6 b7 b8 b9 b10 b11 b12 b13 b14 h9 hm => hk (b1, b2, b3, b4, b5, b6, b7, b8, b9, b10, b11, b12, b13, b14) h9 hm)) (a1, a2, a3, a4, a5, a6, a7, a8, a9, a10, a11, a12, a13, a14) h
theorem lp15 {A1 A2 A3 A4 A5 A6 A7 A8 A9 A10 A11 A12 A13 A14 A15 : Type} (W : Nat → A1 → A2 → A3 → A4 → A5 → A6 → A7 → A8 → A9 → A10 → A11 → A12 → A13 → A14 → A15 → Prop) (I : A1 → A2 → A3 → A4 → A5 → A6 → A7 → A8 → A9 → A10 → A11 → A12 → A13 → A14 → A15 → Prop) (μ : A1 → A2 → A3 → A4 → A5 → A6 → A7 → A8 → A9 → A10 → A11 → A12 → A13 → A14 → A15 → Nat) (hs : ∀ (n : Nat) (a1 : A1) (a2 : A2) (a3 : A3) (a4 : A4) (a5 : A5) (a6 : A6) (a7 : A7) (a8 : A8) (a9 : A9) (a10 : A10) (a11 : A11) (a12 : A12) (a13 : A13) (a14 : A14) (a15 : A15), I a1 a2 a3 a4 a5 a6 a7 a8 a9 a10 a11 a12 a13 a14 a15 → (∀ (b1 : A1) (b2 : A2) (b3 : A3) (b4 : A4) (b5 : A5) (b6 : A6) (b7 : A7) (b8 : A8) (b9 : A9) (b10 : A10) (b11 : A11) (b12 : A12) (b13 : A13) (b14 : A14) (b15 : A15), I b1 b2 b3 b4 b5 b6 b7 b8 b9 b10 b11 b12 b13 b14 b15 → μ b1 b2 b3 b4 b5 b6 b7 b8 b9 b10 b11 b12 b13 b14 b15 < μ a1 a2 a3 a4 a5 a6 a7 a8 a9 a10 a11 a12 a13 a14 a15 → W n b1 b2 b3 b4 b5 b6 b7 b8 b9 b10 b11 b12 b13 b14 b15) → W (n + 1) a1 a2 a3 a4 a5 a6 a7 a8 a9 a10 a11 a12 a13 a14 a15) (a1 : A1) (a2 : A2) (a3 : A3) (a4 : A4) (a5 : A5) (a6 : A6) (a7 : A7) (a8 : A8) (a9 : A9) (a10 : A10) (a11 : A11) (a12 : A12) (a13 : A13) (a14 : A14) (a15 : A15) (h : I a1 a2 a3 a4 a5 a6 a7 a8 a9 a10 a11 a12 a13 a14 a15) : ∃ n, W n a1 a2 a3 a4 a5 a6 a7 a8 a9 a10 a11 a12 a13 a14 a15 :=
  loop_m (σ := A1 × A2 × A3 × A4 × A5 × A6 × A7 × A8 × A9 × A10 × A11 × A12 × A13 × A14 × A15) (fun n s => W n s.1 s.2.1 s.2.2.1 s.2.2.2.1 s.2.2.2.2.1 s.2.2.2.2.2.1 s.2.2.2.2.2.2.1 s.2.2.2.2.2.2.2.1 s.2.2.2.2.2.2.2.2.1 s.2.2.2.2.2.2.2.2.2.1 s.2.2.2.2.2.2.2.2.2.2.1 s.2.2.2.2.2.2.2.2.2.2.2.1 s.2.2.2.2.2.2.2.2.2.2.2.2.1 s.2.2.2.2.2.2.2.2.2.2.2.2.2.1 s.2.2.2.2.2.2.2.2.2.2.2.2.2.2) (fun s => I s.1 s.2.1 s.2.2.1 s.2.2.2.1 s.2.2.2.2.1 s.2.2.2.2.2.1 s.2.2.2.2.2.2.1 s.2.2.2.2.2.2.2.1 s.2.2.2.2.2.2.2.2.1 s.2.2.2.2.2.2.2.2.2.1 s.2.2.2.2.2.2.2.2.2.2.1 s.2.2.2.2.2.2.2.2.2.2.2.1 s.2.2.2.2.2.2.2.2.2.2.2.2.1 s.2.2.2.2.2.2.2.2.2.2.2.2.2.1 s.2.2.2.2.2.2.2.2.2.2.2.2.2.2) (fun s => μ s.1 s.2.1 s.2.2.1 s.2.2.2.1 s.2.2.2.2.1 s.2.2.2.2.2.1 s.2.2.2.2.2.2.1 s.2.2.2.2.2.2.2.1 s.2.2.2.2.2.2.2.2.1 s.2.2.2.2.2.2.2.2.2.1 s.2.2.2.2.2.2.2.2.2.2.1 s.2.2.2.2.2.2.2.2.2.2.2.1 s.2.2.2.2.2.2.2.2.2.2.2.2.1 s.2.2.2.2.2.2.2.2.2.2.2.2.2.1 s.2.2.2.2.2.2.2.2.2.2.2.2.2.2) (fun n s hI hk => hs n s.1 s.2.1 s.2.2.1 s.2.2.2.1 s.2.2.2.2.1 s.2.2.2.2.2.1 s.2.2.2.2.2.2.1 s.2.2.2.2.2.2.2.1 s.2.2.2.2.2.2.2.2.1 s.2.2.2.2.2.2.2.2.2.1 s.2.2.2.2.2.2.2.2.2.2.1 s.2.2.2.2.2.2.2.2.2.2.2.1 s.2.2.2.2.2.2.2.2.2.2.2.2.1 s.2.2.2.2.2.2.2.2.2.2.2.2.2.1 s.2.2.2.2.2.2.2.2.2.2.2.2.2.2 hI (fun b1 b2 b3 b4 b5 b6 b7 b8 b9 b10 b11 b12 b13 b14 b15 h9 hm => hk (b1, b2, b3, b4, b5, b6, b7, b8, b9, b10, b11, b12, b13, b14, b15) h9 hm)) (a1, a2, a3, a4, a5, a6, a7, a8, a9, a10, a11, a12, a13, a14, a15) h
theorem lp16 {A1 A2 A3 A4 A5 A6 A7 A8 A9 A10 A11 A12 A13 A14 A15 A16 : Type} (W : Nat → A1 → A2 → A3 → A4 → A5 → A6 → A7 → A8 → A9 → A10 → A11 → A12 → A13 → A14 → A15 → A16 → Prop) (I : A1 → A2 → A3 → A4 → A5 → A6 → A7 → A8 → A9 → A10 → A11 → A12 → A13 → A14 → A15 → A16 → Prop) (μ : A1 → A2 → A3 → A4 → A5 → A6 → A7 → A8 → A9 → A10 → A11 → A12 → A13 → A14 → A15 → A16 → Nat) (hs : ∀ (n : Nat) (a1 : A1) (a2 : A2) (a3 : A3) (a4 : A4) (a5 : A5) (a6 : A6) (a7 : A7) (a8 : A8) (a9 : A9) (a10 : A10) (a11 : A11) (a12 : A12) (a13 : A13) (a14 : A14) (a15 : A15) (a16 : A16), I a1 a2 a3 a4 a5 a6 a7 a8 a9 a10 a11 a12 a13 a14 a15 a16 → (∀ (b1 : A1) (b2 : A2) (b3 : A3) (b4 : A4) (b5 : A5) (b6 : A6) (b7 : A7) (b8 : A8) (b9 : A9) (b10 : A10) (b11 : A11) (b12 : A12) (b13 : A13) (b14 : A14) (b15 : A15) (b16 : A16), I b1 b2 b3 b4 b5 b6 b7 b8 b9 b10 b11 b12 b13 b14 b15 b16 → μ b1 b2 b3 b4 b5 b6 b7 b8 b9 b10 b11 b12 b13 b14 b15 b16 < μ a1 a2 a3 a4 a5 a6 a7 a8 a9 a10 a11 a12 a13 a14 a15 a16 → W n b1 b2 b3 b4 b5 b6 b7 b8 b9 b10 b11 b12 b13 b14 b15 b16) → W (n + 1) a1 a2 a3 a4 a5 a6 a7 a8 a9 a10 a11 a12 a13 a14 a15 a16) (a1 : A1) (a2 : A2) (a3 : A3) (a4 : A4) (a5 : A5) (a6 : A6) (a7 : A7) (a8 : A8) (a9 : A9) (a10 : A10) (a11 : A11) (a12 : A12) (a13 : A13) (a14 : A14) (a15 : A15) (a16 : A16) (h : I a1 a2 a3 a4 a5 a6 a7 a8 a9 a10 a11 a12 a13 a14 a15 a16) : ∃ n, W n a1 a2 a3 a4 a5 a6 a7 a8 a9 a10 a11 a12 a13 a14 a15 a16 :=
  loop_m (σ := A1 × A2 × A3 × A4 × A5 × A6 × A7 × A8 × A9 × A10 × A11 × A12 × A13 × A14 × A15 × A16) (fun n s => W n s.1 s.2.1 s.2.2.1 s.2.2.2.1 s.2.2.2.2.1 s.2.2.2.2.2.1 s.2.2.2.2.2.2.1 s.2.2.2.2.2.2.2.1 s.2.2.2.2.2.2.2.2.1 s.2.2.2.2.2.2.2.2.2.1 s.2.2.2.2.2.2.2.2.2.2.1 s.2.2.2.2.2.2.2.2.2.2.2.1 s.2.2.2.2.2.2.2.2.2.2.2.2.1 s.2.2.2.2.2.2.2.2.2.2.2.2.2.1 s.2.2.2.2.2.2.2.2.2.2.2.2.2.2.1 s.2.2.2.2.2.2.2.2.2.2.2.2.2.2.2) (fun s => I s.1 s.2.1 s.2.2.1 s.2.2.2.1 s.2.2.2.2.1 s.2.2.2.2.2.1 s.2.2.2.2.2.2.1 s.2.2.2.2.2.2.2.1 s.2.2.2.2.2.2.2.2.1 s.2.2.2.2.2.2.2.2.2.1 s.2.2.2.2.2.2.2.2.2.2.1 s.2.2.2.2.2.2.2.2.2.2.2.1 s.2.2.2.2.2.2.2.2.2.2.2.2.1 s.2.2.2.2.2.2.2.2.2.2.2.2.2.1 s.2.2.2.2.2.2.2.2.2.2.2.2.2.2.1 s.2.2.2.2.2.2.2.2.2.2.2.2.2.2.2) (fun s => μ s.1 s.2.1 s.2.2.1 s.2.2.2.1 s.2.2.2.2.1 s.2.2.2.2.2.1 s.2.2.2.2.2.2.1 s.2.2.2.2.2.2.2.1 s.2.2.2.2.2.2.2.2.1 s.2.2.2.2.2.2.2.2.2.1 s.2.2.2.2.2.2.2.2.2.2.1 s.2.2.2.2.2.2.2.2.2.2.2.1 s.2.2.2.2.2.2.2.2.2.2.2.2.1 s.2.2.2.2.2.2.2.2.2.2.2.2.2.1 s.2.2.2.2.2.2.2.2.2.2.2.2.2.2.1 s.2.2.2.2.2.2.2.2.2.2.2.2.2.2.2) (fun n s hI hk => hs n s.1 s.2.1 s.2.2.1 s.2.2.2.1 s.2.2.2.2.1 s.2.2.2.2.2.1 s.2.2.2.2.2.2.1 s.2.2.2.2.2.2.2.1 s.2.2.2.2.2.2.2.2.1 s.2.2.2.2.2.2.2.2.2.1 s.2.2.2.2.2.2.2.2.2.2.1 s.2.2.2.2.2.2.2.2.2.2.2.1 s.2.2.2.2.2.2.2.2.2.2.2.2.1 s.2.2.2.2.2.2.2.2.2.2.2.2.2.1 s.2.2.2.2.2.2.2.2.2.2.2.2.2.2.1 s.2.2.2.2.2.2.2.2.2.2.2.2.2.2.2 hI (fun b1 b2 b3 b4 b5 b6 b7 b8 b9 b10 b11 b12 b13 b14 b15 b16 h9 hm => hk (b1, b2, b3, b4, b5, b6, b7, b8, b9, b10, b11, b12, b13, b14, b15, b16) h9 hm)) (a1, a2, a3, a4, a5, a6, a7, a8, a9, a10, a11, a12, a13, a14, a15, a16) h
theorem pk_least (P : Nat → Prop) (h : ∃ k, P k) : ∃ k, P k ∧ ∀ j, j < k → ¬ P j := by
  obtain ⟨k, hk⟩ := h
  induction k using Nat.strongRecOn with
  | ind k ih =>
    by_cases e : ∃ j, j < k ∧ P j
    · obtain ⟨j, hj, pj⟩ := e
      exact ih j hj pj
    · exact ⟨k, hk, fun j hj pj => e ⟨j, hj, pj⟩⟩
theorem rp1 {ρ A1 : Type} (W : Nat → (ρ → Prop) → A1 → Prop) (ok : A1 → Prop) (μ : A1 → Nat) (val : A1 → ρ)
    (hs : ∀ (d : Nat) (post : ρ → Prop) (a1 : A1), ok a1 → post (val a1) → (∀ (post' : ρ → Prop) (b1 : A1), ok b1 → μ b1 < μ a1 → post' (val b1) → W d post' b1) → W (d + 1) post a1) :
    ∀ (d : Nat) (post : ρ → Prop) (a1 : A1), ok a1 → μ a1 < d → post (val a1) → W d post a1 := by
  intro d
  induction d with
  | zero => intro post a1 _ h; omega
  | succ d ih =>
    intro post a1 ho hm hp
    exact hs d post a1 ho hp (fun post' b1 ho' hm' hp' => ih post' b1 ho' (by omega) hp')
theorem rp2 {ρ A1 A2 : Type} (W : Nat → (ρ → Prop) → A1 → A2 → Prop) (ok : A1 → A2 → Prop) (μ : A1 → A2 → Nat) (val : A1 → A2 → ρ)
    (hs : ∀ (d : Nat) (post : ρ → Prop) (a1 : A1) (a2 : A2), ok a1 a2 → post (val a1 a2) → (∀ (post' : ρ → Prop) (b1 : A1) (b2 : A2), ok b1 b2 → μ b1 b2 < μ a1 a2 → post' (val b1 b2) → W d post' b1 b2) → W (d + 1) post a1 a2) :
    ∀ (d : Nat) (post : ρ → Prop) (a1 : A1) (a2 : A2), ok a1 a2 → μ a1 a2 < d → post (val a1 a2) → W d post a1 a2 := by
  intro d
  induction d with
  | zero => intro post a1 a2 _ h; omega
  | succ d ih =>
    intro post a1 a2 ho hm hp
    exact hs d post a1 a2 ho hp (fun post' b1 b2 ho' hm' hp' => ih post' b1 b2 ho' (by omega) hp')
theorem rp3 {ρ A1 A2 A3 : Type} (W : Nat → (ρ → Prop) → A1 → A2 → A3 → Prop) (ok : A1 → A2 → A3 → Prop) (μ : A1 → A2 → A3 → Nat) (val : A1 → A2 → A3 → ρ)
    (hs : ∀ (d : Nat) (post : ρ → Prop) (a1 : A1) (a2 : A2) (a3 : A3), ok a1 a2 a3 → post (val a1 a2 a3) → (∀ (post' : ρ → Prop) (b1 : A1) (b2 : A2) (b3 : A3), ok b1 b2 b3 → μ b1 b2 b3 < μ a1 a2 a3 → post' (val b1 b2 b3) → W d post' b1 b2 b3) → W (d + 1) post a1 a2 a3) :
    ∀ (d : Nat) (post : ρ → Prop) (a1 : A1) (a2 : A2) (a3 : A3), ok a1 a2 a3 → μ a1 a2 a3 < d → post (val a1 a2 a3) → W d post a1 a2 a3 := by
  intro d
  induction d with
  | zero => intro post a1 a2 a3 _ h; omega
  | succ d ih =>
    intro post a1 a2 a3 ho hm hp
    exact hs d post a1 a2 a3 ho hp (fun post' b1 b2 b3 ho' hm' hp' => ih post' b1 b2 b3 ho' (by omega) hp')
theorem rp4 {ρ A1 A2 A3 A4 : Type} (W : Nat → (ρ → Prop) → A1 → A2 → A3 → A4 → Prop) (ok : A1 → A2 → A3 → A4 → Prop) (μ : A1 → A2 → A3 → A4 → Nat) (val : A1 → A2 → A3 → A4 → ρ)
    (hs : ∀ (d : Nat) (post : ρ → Prop) (a1 : A1) (a2 : A2) (a3 : A3) (a4 : A4), ok a1 a2 a3 a4 → post (val a1 a2 a3 a4) → (∀ (post' : ρ → Prop) (b1 : A1) (b2 : A2) (b3 : A3) (b4 : A4), ok b1 b2 b3 b4 → μ b1 b2 b3 b4 < μ a1 a2 a3 a4 → post' (val b1 b2 b3 b4) → W d post' b1 b2 b3 b4) → W (d + 1) post a1 a2 a3 a4) :
    ∀ (d : Nat) (post : ρ → Prop) (a1 : A1) (a2 : A2) (a3 : A3) (a4 : A4), ok a1 a2 a3 a4 → μ a1 a2 a3 a4 < d → post (val a1 a2 a3 a4) → W d post a1 a2 a3 a4 := by
  intro d
  induction d with
  | zero => intro post a1 a2 a3 a4 _ h; omega
  | succ d ih =>
    intro post a1 a2 a3 a4 ho hm hp
    exact hs d post a1 a2 a3 a4 ho hp (fun post' b1 b2 b3 b4 ho' hm' hp' => ih post' b1 b2 b3 b4 ho' (by omega) hp')
theorem rp5 {ρ A1 A2 A3 A4 A5 : Type} (W : Nat → (ρ → Prop) → A1 → A2 → A3 → A4 → A5 → Prop) (ok : A1 → A2 → A3 → A4 → A5 → Prop) (μ : A1 → A2 → A3 → A4 → A5 → Nat) (val : A1 → A2 → A3 → A4 → A5 → ρ)
    (hs : ∀ (d : Nat) (post : ρ → Prop) (a1 : A1) (a2 : A2) (a3 : A3) (a4 : A4) (a5 : A5), ok a1 a2 a3 a4 a5 → post (val a1 a2 a3 a4 a5) → (∀ (post' : ρ → Prop) (b1 : A1) (b2 : A2) (b3 : A3) (b4 : A4) (b5 : A5), ok b1 b2 b3 b4 b5 → μ b1 b2 b3 b4 b5 < μ a1 a2 a3 a4 a5 → post' (val b1 b2 b3 b4 b5) → W d post' b1 b2 b3 b4 b5) → W (d + 1) post a1 a2 a3 a4 a5) :
    ∀ (d : Nat) (post : ρ → Prop) (a1 : A1) (a2 : A2) (a3 : A3) (a4 : A4) (a5 : A5), ok a1 a2 a3 a4 a5 → μ a1 a2 a3 a4 a5 < d → post (val a1 a2 a3 a4 a5) → W d post a1 a2 a3 a4 a5 := by
  intro d
  induction d with
  | zero => intro post a1 a2 a3 a4 a5 _ h; omega
  | succ d ih =>
    intro post a1 a2 a3 a4 a5 ho hm hp
    exact hs d post a1 a2 a3 a4 a5 ho hp (fun post' b1 b2 b3 b4 b5 ho' hm' hp' => ih post' b1 b2 b3 b4 b5 ho' (by omega) hp')
theorem rp6 {ρ A1 A2 A3 A4 A5 A6 : Type} (W : Nat → (ρ → Prop) → A1 → A2 → A3 → A4 → A5 → A6 → Prop) (ok : A1 → A2 → A3 → A4 → A5 → A6 → Prop) (μ : A1 → A2 → A3 → A4 → A5 → A6 → Nat) (val : A1 → A2 → A3 → A4 → A5 → A6 → ρ)
    (hs : ∀ (d : Nat) (post : ρ → Prop) (a1 : A1) (a2 : A2) (a3 : A3) (a4 : A4) (a5 : A5) (a6 : A6), ok a1 a2 a3 a4 a5 a6 → post (val a1 a2 a3 a4 a5 a6) → (∀ (post' : ρ → Prop) (b1 : A1) (b2 : A2) (b3 : A3) (b4 : A4) (b5 : A5) (b6 : A6), ok b1 b2 b3 b4 b5 b6 → μ b1 b2 b3 b4 b5 b6 < μ a1 a2 a3 a4 a5 a6 → post' (val b1 b2 b3 b4 b5 b6) → W d post' b1 b2 b3 b4 b5 b6) → W (d + 1) post a1 a2 a3 a4 a5 a6) :
    ∀ (d : Nat) (post : ρ → Prop) (a1 : A1) (a2 : A2) (a3 : A3) (a4 : A4) (a5 : A5) (a6 : A6), ok a1 a2 a3 a4 a5 a6 → μ a1 a2 a3 a4 a5 a6 < d → post (val a1 a2 a3 a4 a5 a6) → W d post a1 a2 a3 a4 a5 a6 := by
  intro d
  induction d with
  | zero => intro post a1 a2 a3 a4 a5 a6 _ h; omega
  | succ d ih =>
    intro post a1 a2 a3 a4 a5 a6 ho hm hp
    exact hs d post a1 a2 a3 a4 a5 a6 ho hp (fun post' b1 b2 b3 b4 b5 b6 ho' hm' hp' => ih post' b1 b2 b3 b4 b5 b6 ho' (by omega) hp')
theorem rec_p {σ ρ : Type} (W : Nat → (ρ → Prop) → σ → Prop) (ok : σ → Prop) (μ : σ → Nat) (val : σ → ρ)
    (hs : ∀ d s post, ok s → post (val s) → (∀ s' post', ok s' → μ s' < μ s → post' (val s') → W d post' s') → W (d + 1) post s) :
    ∀ d s post, ok s → μ s < d → post (val s) → W d post s := by
  intro d
  induction d with
  | zero => intro s post _ h; omega
  | succ d ih =>
    intro s post ho hm hp
    exact hs d s post ho hp (fun s' post' ho' hm' hp' => ih s' post' ho' (by omega) hp')
theorem rec_q {σ ρ : Type} (W : Nat → (ρ → Prop) → σ → Prop) (ok : σ → Prop) (μ : σ → Nat) (Q : σ → ρ → Prop)
    (hs : ∀ d s post, ok s → (∀ r, Q s r → post r) → (∀ s' post', ok s' → μ s' < μ s → (∀ r, Q s' r → post' r) → W d post' s') → W (d + 1) post s) :
    ∀ d s post, ok s → μ s < d → (∀ r, Q s r → post r) → W d post s := by
  intro d
  induction d with
  | zero => intro s post _ h; omega
  | succ d ih =>
    intro s post ho hm hp
    exact hs d s post ho hp (fun s' post' ho' hm' hp' => ih s' post' ho' (by omega) hp')
def bx_sum (f : Nat → Int32) : Nat → Int32
  | 0 => 0
  | n + 1 => bx_sum f n + f n
theorem ek_u {A : Prop} {B : Nat → Prop} {k N : Nat} (hk : k < N) (h : B k) : (some k = none → A) ∧ (∀ y : Nat, some k = some y → (y < N ∧ B y)) :=
  ⟨fun z => absurd z (Option.some_ne_none k), fun _ e => (by cases e; exact ⟨hk, h⟩)⟩
theorem ek_nu {A : Prop} {B : Nat → Prop} (h : A) : ((none : Option Nat) = none → A) ∧ (∀ y : Nat, (none : Option Nat) = some y → B y) :=
  ⟨fun _ => h, fun _ e => (by cases e)⟩
theorem ek_if {c d A B : Prop} (e : c ↔ d) (f : d → A) (g : ¬ d → B) : (c → A) ∧ (¬ c → B) :=
  ⟨fun z => f (e.mp z), fun z => g (fun y => z (e.mpr y))⟩
theorem ek_v {α : Sort _} {P : α → Prop} {a b : α} (e : a = b) (h : P b) : P a := e ▸ h
theorem co_some {x : Option Nat} {A : Prop} {B : Nat → Prop} (i : Nat) (h : B i) (hx : x = some i := by rfl) : (x = none → A) ∧ (∀ y : Nat, x = some y → B y) := by
  subst hx
  exact ⟨fun e => (nomatch e), fun y e => Option.some.inj e ▸ h⟩
theorem co_none {x : Option Nat} {A : Prop} {B : Nat → Prop} (h : A) (hx : x = none := by rfl) : (x = none → A) ∧ (∀ y : Nat, x = some y → B y) := by
  subst hx
  exact ⟨fun _ => h, fun y e => (nomatch e)⟩
theorem co_any {x : Option Nat} {A : Prop} {B : Nat → Prop} (hn : x = none → A) (hs : ∀ i : Nat, x = some i → B i) : (x = none → A) ∧ (∀ y : Nat, x = some y → B y) := ⟨hn, hs⟩
theorem co_2 {P : Nat → Prop} (h0 : P 0) (h1 : P 1) {i : Nat} (hi : i < 2) : P i :=
  match i, hi with
  | 0, _ => h0
  | 1, _ => h1
theorem co_3 {P : Nat → Prop} (h0 : P 0) (h1 : P 1) (h2 : P 2) {i : Nat} (hi : i < 3) : P i :=
  match i, hi with
  | 0, _ => h0
  | 1, _ => h1
  | 2, _ => h2
theorem co_4 {P : Nat → Prop} (h0 : P 0) (h1 : P 1) (h2 : P 2) (h3 : P 3) {i : Nat} (hi : i < 4) : P i :=
  match i, hi with
  | 0, _ => h0
  | 1, _ => h1
  | 2, _ => h2
  | 3, _ => h3
theorem co_dec {N : Nat} {P : Nat → Prop} [DecidablePred P] (h : (List.range N).all (fun i => decide (P i)) = true) {i : Nat} (hi : i < N) : P i := by
  have := List.all_eq_true.mp h i (List.mem_range.mpr hi)
  exact of_decide_eq_true this
theorem co_tab {α : Type} {l : List α} {d : α} {P : α → Prop} (h : ∀ a, a ∈ l → P a) {i : Nat} (hi : i < l.length) : P (l.getD i d) := by
  rw [List.getD_eq_getElem?_getD, List.getElem?_eq_getElem hi]
  exact h _ (List.getElem_mem hi)
theorem pk_mu {x : Int32} {L : Nat} (h0 : ¬ x < 0) (h : ¬ nI L ≤ x) (hL : L < 2 ^ 31) : ∃ j : Nat, j < L ∧ x = nI j ∧ x + 1 = nI (j + 1) ∧ x.toNatClampNeg = j ∧ L - (x + 1).toNatClampNeg < L - x.toNatClampNeg := by
  obtain ⟨j, hj, rfl⟩ := nI_of h0
  have hl : j < L := Nat.not_le.mp fun q => h (nI_le q hj)
  refine ⟨j, hl, rfl, nI_1 j, nI_clamp hj, ?_⟩
  rw [nI_1, nI_clamp (by omega), nI_clamp hj]
  omega
theorem op_s {α : Type} {r : Option α} {A : Prop} {B : α → Prop} {y : α} (h : r = some y) (b : B y) : (r = none → A) ∧ ∀ z, r = some z → B z :=
  ⟨fun e => (by rw [h] at e; cases e), fun z e => (by rw [h] at e; cases e; exact b)⟩
def l_holds {α : Type} (a : Nat → Option Nat) (LP : List Nat) (p : Nat → α) (c : Nat) (b : Nat → α) : Prop :=
  ∀ j, j < c → ∃ y, a j = some y ∧ y ∈ LP ∧ p y = b j
theorem l_holds_0 {α : Type} {a : Nat → Option Nat} {LP : List Nat} {p b : Nat → α} : l_holds a LP p 0 b := fun j h => absurd h (Nat.not_lt_zero j)
theorem l_in_new (LP : List Nat) (q : Nat) : q ∈ LP ++ [q] := List.mem_append.mpr (Or.inr (List.mem_singleton.mpr rfl))
def l_sum (b : Nat → Int32) : Nat → Int32
  | 0 => 0
  | k + 1 => l_sum b k + b k
theorem sb_shr0 (x : Int32) : x >>> ((0 : Int32) &&& 31) = x := by
  rw [show ((0 : Int32) &&& 31) = 0 by decide]
  simp
theorem sb_shl0 (x : Int32) : x <<< ((0 : Int32) &&& 31) = x := by
  rw [show ((0 : Int32) &&& 31) = 0 by decide]
  simp
theorem sb_cl0 : (0 : Int32).toNatClampNeg = 0 := by decide
theorem sb_m1 {p : Nat} (h : 0 < p) : nI p + (-1) = nI (p - 1) := by
  obtain ⟨q, rfl⟩ : ∃ q, p = q + 1 := ⟨p - 1, by omega⟩
  exact pk_m1 q
def sb_b (c : Nat) : Int32 := (nI c).toInt8.toInt32
theorem sb_byte : ∀ c, c < 256 → sb_b c &&& 255 = nI c ∧ ((nI c).toUInt32 % 65536).toInt32 = nI c ∧ nI c ≤ 255 := by decide +kernel
def sb_Fit (a : Nat → Int32) : Prop := ∀ j, fits .byte (.int (a j)) = true
def sb_Lat (t : Nat → Nat) (n : Nat) (a : Nat → Int32) : Prop := ∀ j, j < n → t j < 256 ∧ a j = sb_b (t j)
theorem sb_fitB (c : Nat) : fits .byte (.int (sb_b c)) = true := pk_fb _
theorem sb_fit0 : sb_Fit (fun _ => 0) := fun _ => by
  show fits .byte (.int 0) = true
  decide
theorem sb_fitU {a : Nat → Int32} {k : Nat} {x : Int32} (h : sb_Fit a) (hx : fits .byte (.int x) = true) : sb_Fit (upd a k x) := by
  intro j
  by_cases e : j = k
  · subst e
    rw [pk_us]
    exact hx
  · rw [pk_un e]
    exact h j
def sb_cat (t : Nat → Nat) (n : Nat) (s : Nat → Nat) : Nat → Nat := fun j => if j < n then t j else s (j - n)
theorem sb_cat_lo {t s : Nat → Nat} {n j : Nat} (h : j < n) : sb_cat t n s j = t j := if_pos h
theorem sb_cat_hi {t s : Nat → Nat} {n j : Nat} : sb_cat t n s (n + j) = s j := by
  show (if n + j < n then t (n + j) else s (n + j - n)) = s j
  rw [if_neg (by omega), Nat.add_sub_cancel_left]
theorem sb_latPut {t s : Nat → Nat} {n w : Nat} {a a' : Nat → Int32} (h : sb_Lat t n a) (hk : ∀ j, j < n → a' j = a j) (hs : ∀ i, i < w → s i < 256 ∧ a' (n + i) = sb_b (s i)) : sb_Lat (sb_cat t n s) (n + w) a' := by
  intro j hj
  by_cases e : j < n
  · rw [sb_cat_lo e, hk j e]
    exact h j e
  · obtain ⟨i, rfl⟩ : ∃ i, j = n + i := ⟨j - n, by omega⟩
    rw [sb_cat_hi]
    exact hs i (by omega)
theorem sb_latKeep {t : Nat → Nat} {n : Nat} {a a' : Nat → Int32} (h : sb_Lat t n a) (hk : ∀ j, j < n → a' j = a j) : sb_Lat t n a' := fun j hj => by
  rw [hk j hj]
  exact h j hj
def sb_cap (q m : Nat) : Nat := if q ≤ m then m else if 2 * m + 2 < q then q else 2 * m + 2
def sb_Room (q m mc ms : Nat) : Prop := q ≤ m ∨ (1 ≤ mc ∧ sb_cap q m ≤ ms ∧ sb_cap q m ≤ 65536)
theorem sb_cap_ge (q m : Nat) : q ≤ sb_cap q m := by
  unfold sb_cap
  split
  · omega
  · split <;> omega
theorem sb_cap_gem (q m : Nat) : m ≤ sb_cap q m := by
  unfold sb_cap
  split
  · omega
  · split <;> omega
theorem sb_cap_le {q m mc ms : Nat} (hm : m ≤ 65536) (hr : sb_Room q m mc ms) : sb_cap q m ≤ 65536 := by
  rcases hr with h | h
  · rw [sb_cap, if_pos h]
    exact hm
  · exact h.2.2
theorem sb_at {P : Int32 → Prop} {x y : Int32} (e : x = y) (h : P y) : P x := e ▸ h
def sb_dg (w : Nat) : Nat := if w < 10 then 1 else if w < 100 then 2 else if w < 1000 then 3 else if w < 10000 then 4 else if w < 100000 then 5 else if w < 1000000 then 6 else if w < 10000000 then 7 else if w < 100000000 then 8 else if w < 1000000000 then 9 else 10
def sb_dec (v : Nat) : Nat → Nat := fun i => 48 + v / 10 ^ (sb_dg v - 1 - i) % 10
theorem sb_dg_in (w : Nat) : 1 ≤ sb_dg w ∧ sb_dg w ≤ 10 := by
  unfold sb_dg
  constructor <;> (repeat' split) <;> omega
theorem sb_dg100 {w : Nat} (h : 100 ≤ w) (hw : w < 2 ^ 31) : sb_dg w = sb_dg (w / 100) + 2 := by
  rw [sb_dg, sb_dg, if_neg (show ¬ w < 10 by omega), if_neg (show ¬ w < 100 by omega)]
  by_cases h3 : w < 1000
  · rw [if_pos h3, if_pos (show w / 100 < 10 by omega)]
  rw [if_neg h3, if_neg (show ¬ w / 100 < 10 by omega)]
  by_cases h4 : w < 10000
  · rw [if_pos h4, if_pos (show w / 100 < 100 by omega)]
  rw [if_neg h4, if_neg (show ¬ w / 100 < 100 by omega)]
  by_cases h5 : w < 100000
  · rw [if_pos h5, if_pos (show w / 100 < 1000 by omega)]
  rw [if_neg h5, if_neg (show ¬ w / 100 < 1000 by omega)]
  by_cases h6 : w < 1000000
  · rw [if_pos h6, if_pos (show w / 100 < 10000 by omega)]
  rw [if_neg h6, if_neg (show ¬ w / 100 < 10000 by omega)]
  by_cases h7 : w < 10000000
  · rw [if_pos h7, if_pos (show w / 100 < 100000 by omega)]
  rw [if_neg h7, if_neg (show ¬ w / 100 < 100000 by omega)]
  by_cases h8 : w < 100000000
  · rw [if_pos h8, if_pos (show w / 100 < 1000000 by omega)]
  rw [if_neg h8, if_neg (show ¬ w / 100 < 1000000 by omega)]
  by_cases h9 : w < 1000000000
  · rw [if_pos h9, if_pos (show w / 100 < 10000000 by omega)]
  rw [if_neg h9, if_neg (show ¬ w / 100 < 10000000 by omega)]
  rw [if_pos (show w / 100 < 100000000 by omega)]
theorem sb_negT {w : Nat} (h : w < 2 ^ 31) : (-nI w).toInt = -(w : Int) := by
  rw [Int32.toInt_neg, nI_toInt h]
  exact Int.bmod_eq_of_le (by omega) (by omega)
theorem sb_nle {a b : Nat} (ha : a < 2 ^ 31) (hb : b < 2 ^ 31) : -nI a ≤ -nI b ↔ b ≤ a := by
  rw [Int32.le_iff_toInt_le, sb_negT ha, sb_negT hb]
  omega
theorem sb_nlt {a b : Nat} (ha : a < 2 ^ 31) (hb : b < 2 ^ 31) : -nI a < -nI b ↔ b < a := by
  rw [Int32.lt_iff_toInt_lt, sb_negT ha, sb_negT hb]
  omega
theorem sb_cmp {A B : Prop} {x : Int32} (v c : Nat) (f : c ≤ v → A) (g : v < c → B) (hv : v < 2 ^ 31) (hx : x = -nI c := by rfl) (hc : c < 2 ^ 31 := by omega) : (-nI v ≤ x → A) ∧ (¬ -nI v ≤ x → B) := by
  subst hx
  rw [sb_nle hv hc]
  exact ⟨f, fun z => g (by omega)⟩
theorem sb_ndiv {w : Nat} (hw : w < 2 ^ 31) : (-nI w) / 100 = -nI (w / 100) := by
  apply Int32.toInt_inj.mp
  have h100 : (100 : Int32).toInt = 100 := by decide
  rw [Int32.toInt_div, sb_negT hw, h100, sb_negT (by omega), Int.neg_tdiv, Int.tdiv_eq_ediv_of_nonneg (by omega), Int.bmod_eq_of_le (by omega) (by omega)]
  omega
theorem sb_nrem {w : Nat} (hw : w < 2 ^ 31) : (-nI (w / 100)) * 100 - (-nI w) = nI (w % 100) := by
  have h := pk_rem (a := w) (d := 100) hw (by decide) (by decide)
  rw [pk_div hw (by decide) (by decide)] at h
  rw [← h]
  show (-nI (w / 100)) * nI 100 - (-nI w) = nI w - nI (w / 100) * nI 100
  rw [Int32.neg_mul, Int32.sub_neg, Int32.add_comm, ← Int32.sub_eq_add_neg]
end
section
/-! rows on bits, shifts and unsigned numbers, to paste: each family out of a closed proof of our own, whole with what it rests on; each by itself clean at Lean in its own claim (generation 39, form 5). Take a family whole -/
/-! ===== Int32 by its bits: bt x i ===== -/
def bt (x : Int32) (i : Nat) : Bool := x.toBitVec.getLsbD i
theorem b_ext {x y : Int32} (h : ∀ i, i < 32 → bt x i = bt y i) : x = y := Int32.toBitVec_inj.mp (BitVec.eq_of_getLsbD_eq (fun i hi => h i hi))
theorem b_or (x y : Int32) (i : Nat) : bt (x ||| y) i = (bt x i || bt y i) := by unfold bt; rw [Int32.toBitVec_or, BitVec.getLsbD_or]
theorem b_and (x y : Int32) (i : Nat) : bt (x &&& y) i = (bt x i && bt y i) := by unfold bt; rw [Int32.toBitVec_and, BitVec.getLsbD_and]
theorem b_xor (x y : Int32) (i : Nat) : bt (x ^^^ y) i = (bt x i ^^ bt y i) := by unfold bt; rw [Int32.toBitVec_xor, BitVec.getLsbD_xor]
theorem b_big {x : Int32} {i : Nat} (h : 32 ≤ i) : bt x i = false := BitVec.getLsbD_of_ge _ _ h
theorem b_255 (i : Nat) : bt 255 i = decide (i < 8) := by
  rcases Nat.lt_or_ge i 32 with h | h
  · exact (by decide +kernel : ∀ i, i < 32 → bt 255 i = decide (i < 8)) i h
  · rw [b_big h, decide_eq_false (by omega)]
theorem b_65535 (i : Nat) : bt 65535 i = decide (i < 16) := by
  rcases Nat.lt_or_ge i 32 with h | h
  · exact (by decide +kernel : ∀ i, i < 32 → bt 65535 i = decide (i < 16)) i h
  · rw [b_big h, decide_eq_false (by omega)]
theorem b_m1 : ∀ i, i < 32 → bt (-1) i = true := by decide +kernel
theorem b_0 (i : Nat) : bt 0 i = false := BitVec.getLsbD_zero
theorem s_l : ∀ n, n < 32 → ((nI n &&& 31).toBitVec.smod 32).toNat = n := by decide +kernel
theorem s_u : ∀ n, n < 32 → (((nI n).toUInt32 &&& Int32.toUInt32 31).toBitVec % 32).toNat = n := by decide +kernel
theorem b_shl (n : Nat) (hn : n < 32) (x : Int32) {i : Nat} (hi : i < 32) : bt (x <<< (nI n &&& 31)) i = (decide (n ≤ i) && bt x (i - n)) := by
  unfold bt
  rw [Int32.toBitVec_shiftLeft]
  show (x.toBitVec <<< ((nI n &&& 31).toBitVec.smod 32).toNat).getLsbD i = _
  rw [s_l n hn, BitVec.getLsbD_shiftLeft]
  rcases Nat.lt_or_ge i n with h | h
  · simp [h, Nat.not_le.mpr h]
  · simp [hi, h, Nat.not_lt.mpr h]
theorem b_ushr (n : Nat) (hn : n < 32) (x : Int32) (i : Nat) : bt ((x.toUInt32 >>> ((nI n).toUInt32 &&& Int32.toUInt32 31)).toInt32) i = bt x (n + i) := by
  show (x.toUInt32 >>> ((nI n).toUInt32 &&& Int32.toUInt32 31)).toBitVec.getLsbD i = x.toUInt32.toBitVec.getLsbD (n + i)
  rw [UInt32.toBitVec_shiftRight]
  show (x.toUInt32.toBitVec >>> (((nI n).toUInt32 &&& Int32.toUInt32 31).toBitVec % 32).toNat).getLsbD i = _
  rw [s_u n hn, BitVec.getLsbD_ushiftRight]
theorem b_sshr (n : Nat) (hn : n < 32) (x : Int32) {i : Nat} (hi : i < 32) : bt (x >>> (nI n &&& 31)) i = if n + i < 32 then bt x (n + i) else bt x 31 := by
  unfold bt
  rw [Int32.toBitVec_shiftRight]
  show (x.toBitVec.sshiftRight ((nI n &&& 31).toBitVec.smod 32).toNat).getLsbD i = _
  rw [s_l n hn, BitVec.getLsbD_sshiftRight, BitVec.msb_eq_getLsbD_last]
  simp [hi]
theorem b_shl8 (x : Int32) {i : Nat} (hi : i < 32) : bt (x <<< ((8 : Int32) &&& 31)) i = (decide (8 ≤ i) && bt x (i - 8)) := b_shl 8 (by omega) x hi
theorem b_shl16 (x : Int32) {i : Nat} (hi : i < 32) : bt (x <<< ((16 : Int32) &&& 31)) i = (decide (16 ≤ i) && bt x (i - 16)) := b_shl 16 (by omega) x hi
theorem b_shl24 (x : Int32) {i : Nat} (hi : i < 32) : bt (x <<< ((24 : Int32) &&& 31)) i = (decide (24 ≤ i) && bt x (i - 24)) := b_shl 24 (by omega) x hi
theorem b_sshr8 (x : Int32) {i : Nat} (hi : i < 32) : bt (x >>> ((8 : Int32) &&& 31)) i = if 8 + i < 32 then bt x (8 + i) else bt x 31 := b_sshr 8 (by omega) x hi
/-! ===== nI under and, xor, >>>, one bit, 65535 ===== -/
theorem nx_and (a b : Nat) : nI a &&& nI b = nI (a &&& b) := by
  apply Int32.toBitVec_inj.1
  show BitVec.ofNat 32 a &&& BitVec.ofNat 32 b = BitVec.ofNat 32 (a &&& b)
  apply BitVec.eq_of_getLsbD_eq
  intro i hi
  simp [hi]
theorem nx_xor (a b : Nat) : nI a ^^^ nI b = nI (a ^^^ b) := by
  apply Int32.toBitVec_inj.1
  show BitVec.ofNat 32 a ^^^ BitVec.ofNat 32 b = BitVec.ofNat 32 (a ^^^ b)
  apply BitVec.eq_of_getLsbD_eq
  intro i hi
  simp [hi]
theorem nx_cnt : ∀ j : Fin 32, (UInt32.ofNat j.val &&& Int32.toUInt32 31).toNat % 32 = j.val := by decide +kernel
theorem nx_ush {k j : Nat} (hk : k < 65536) (hj : j < 32) : ((nI k).toUInt32 >>> ((nI j).toUInt32 &&& Int32.toUInt32 31)).toInt32 = nI (k >>> j) := by
  have hs : k >>> j ≤ k := by
    rw [Nat.shiftRight_eq_div_pow]
    exact Nat.div_le_self _ _
  have e2 : UInt32.ofNat k >>> (UInt32.ofNat j &&& Int32.toUInt32 31) = UInt32.ofNat (k >>> j) := by
    apply UInt32.toNat_inj.1
    have h1 : (UInt32.ofNat k).toNat = k := Nat.mod_eq_of_lt (by omega)
    have h2 : (UInt32.ofNat (k >>> j)).toNat = k >>> j := Nat.mod_eq_of_lt (by omega)
    rw [UInt32.toNat_shiftRight, nx_cnt ⟨j, hj⟩, h1, h2]
  show (UInt32.ofNat k >>> (UInt32.ofNat j &&& Int32.toUInt32 31)).toInt32 = _
  rw [e2]
  rfl
theorem nx_bit {k j : Nat} (hk : k < 65536) (hj : j < 16) : (((nI k).toUInt32 >>> ((nI j).toUInt32 &&& Int32.toUInt32 31)).toInt32 &&& 1) = 0 ↔ k.testBit j = false := by
  rw [nx_ush hk (by omega)]
  show nI (k >>> j) &&& nI 1 = 0 ↔ _
  rw [nx_and, Nat.and_one_is_mod, ← nI_0, nI_eq (by omega) (by omega), Nat.testBit_eq_decide_div_mod_eq, Nat.shiftRight_eq_div_pow, decide_eq_false_iff_not]
  generalize k / 2 ^ j = z
  omega
theorem nx_mod (k : Nat) : nI k &&& 65535 = nI (k % 65536) := by
  show nI k &&& nI 65535 = _
  rw [nx_and, show (65535 : Nat) = 2 ^ 16 - 1 from rfl, Nat.and_two_pow_sub_one_eq_mod]
theorem nx_m16 {k : Nat} (h : k < 65536) : nI k &&& 65535 = nI k := by rw [nx_mod, Nat.mod_eq_of_lt h]
theorem nx_mask (x : Int32) : ∃ k, k < 65536 ∧ x &&& 65535 = nI k := by
  have e : x = nI x.toBitVec.toNat := by
    apply Int32.toBitVec_inj.1
    show x.toBitVec = BitVec.ofNat 32 x.toBitVec.toNat
    simp
  refine ⟨x.toBitVec.toNat % 65536, Nat.mod_lt _ (by omega), ?_⟩
  rw [← nx_mod, ← e]
/-! ===== Int32 as a set of bits: test, set ===== -/
def nf_M (m : Int32) : Nat := 4294967296 - m.toBitVec.toNat
theorem nf_sh : ∀ l, l < 32 → ((1 : Int32) <<< (nI l &&& 31)).toBitVec = BitVec.twoPow 32 l := by decide +kernel
theorem nf_sl : ∀ l, l < 32 → (((nI l).toUInt32 &&& Int32.toUInt32 31).toBitVec % 32).toNat = l := by decide +kernel
theorem nf_tp : ∀ l, l < 32 → BitVec.twoPow 32 l ≠ 0#32 := by decide +kernel
theorem nf_bit (m : Int32) (l : Nat) (hl : l < 32) : ((m.toUInt32 >>> ((nI l).toUInt32 &&& Int32.toUInt32 31)).toInt32 &&& 1) = 0 ↔ (m &&& ((1 : Int32) <<< (nI l &&& 31))) = 0 := by
  have e : ((m.toUInt32 >>> ((nI l).toUInt32 &&& Int32.toUInt32 31)).toInt32).toBitVec = m.toBitVec >>> l := by
    show m.toBitVec >>> (((nI l).toUInt32 &&& Int32.toUInt32 31).toBitVec % 32) = m.toBitVec >>> l
    rw [BitVec.ushiftRight_eq', nf_sl l hl]
  rw [← Int32.toBitVec_inj, ← Int32.toBitVec_inj, Int32.toBitVec_and, Int32.toBitVec_and, nf_sh l hl, e, BitVec.and_twoPow]
  show (m.toBitVec >>> l &&& 1#32) = 0#32 ↔ _ = 0#32
  rw [BitVec.and_one_eq_setWidth_ofBool_getLsbD, BitVec.getLsbD_ushiftRight, Nat.add_zero]
  cases hb : m.toBitVec.getLsbD l
  · exact ⟨fun _ => by simp, fun _ => by decide⟩
  · exact ⟨fun z => absurd z (by decide), fun z => absurd ((if_pos rfl).symm.trans z) (nf_tp l hl)⟩
theorem nf_gr (m k : Int32) (h : m &&& k = 0) (hk : k ≠ 0) : nf_M (m ||| k) < nf_M m := by
  have hm := m.toBitVec.isLt
  have hm' := (m ||| k).toBitVec.isLt
  have h1 : m.toBitVec.toNat ≤ (m ||| k).toBitVec.toNat := by
    rw [Int32.toBitVec_or, BitVec.toNat_or]
    exact Nat.left_le_or
  have h2 : m.toBitVec.toNat ≠ (m ||| k).toBitVec.toNat := by
    intro e
    have e2 : m = m ||| k := Int32.toBitVec_inj.mp (BitVec.eq_of_toNat_eq e)
    apply hk
    apply Int32.toBitVec_inj.mp
    show k.toBitVec = 0#32
    apply BitVec.eq_of_getLsbD_eq
    intro i hi
    have a : m.toBitVec.getLsbD i = (m.toBitVec.getLsbD i || k.toBitVec.getLsbD i) := by rw [← BitVec.getLsbD_or, ← Int32.toBitVec_or, ← e2]
    have b : (m.toBitVec.getLsbD i && k.toBitVec.getLsbD i) = false := by
      rw [← BitVec.getLsbD_and, ← Int32.toBitVec_and, h]
      exact BitVec.getLsbD_zero
    rw [BitVec.getLsbD_zero]
    revert a b
    cases m.toBitVec.getLsbD i <;> cases k.toBitVec.getLsbD i <;> simp
  unfold nf_M
  omega
/-! ===== a byte read unsigned ===== -/
theorem bp_b (x : Int32) : x.toInt8.toInt32 &&& 255 = x &&& 255 := by
  apply Int32.toBitVec_inj.mp
  rw [Int32.toBitVec_and, Int32.toBitVec_and, Int8.toBitVec_toInt32, Int32.toBitVec_toInt8]
  apply BitVec.eq_of_getLsbD_eq
  intro i hi
  rw [BitVec.getLsbD_and, BitVec.getLsbD_and]
  have hm : ∀ i < 32, 8 ≤ i → (255 : Int32).toBitVec.getLsbD i = false := by decide
  rcases Nat.lt_or_ge i 8 with z | z
  · rw [BitVec.getLsbD_signExtend, BitVec.getLsbD_signExtend, if_pos z, if_pos hi]
    simp only [z, hi, decide_true, Bool.true_and]
  · rw [hm i hi z]; simp
/-! ===== the char cast and 65535 ===== -/
theorem em_w (v : Int32) : ∃ w : Nat, w < 65536 ∧ (v.toUInt32 % 65536).toInt32 = nI w ∧ v &&& 65535 = nI w := by
  have hr := lw_u16_r v
  have h0 : (0 : Int32).toInt = 0 := by decide
  obtain ⟨w, h1, h2⟩ := nI_of (x := lw_u16 v) (by rw [Int32.lt_iff_toInt_lt]; omega)
  have h3 : (v.toUInt32 % 65536).toInt32 = nI w := h2
  rw [h2, nI_toInt h1] at hr
  exact ⟨w, by omega, h3, by rw [← lg_i2c_mask, ← lg_i2c_nf, h3]⟩
/-! ===== Int64 as a set of bits: test, set, clear ===== -/
theorem ts_nf {x : Bool} (h : ¬ x = false) : x = true := by cases x <;> first | rfl | exact absurd rfl h
theorem ts_nt {x : Bool} (h : ¬ x = true) : x = false := by cases x <;> first | rfl | exact absurd rfl h
theorem ts_bit {w : Int64} {s : UInt64} {j : Nat} (hj : j < 64) (hs : s.toNat = j) : ((w.toUInt64 >>> s).toInt64 &&& 1) = 0 ↔ w.toBitVec.getLsbD j = false := by
  have e : (w.toUInt64 >>> s).toInt64.toBitVec = w.toBitVec >>> j := by
    apply BitVec.eq_of_toNat_eq
    show (w.toUInt64 >>> s).toNat = _
    rw [UInt64.toNat_shiftRight, hs, Nat.mod_eq_of_lt hj, BitVec.toNat_ushiftRight]
    rfl
  rw [← Int64.toBitVec_inj, Int64.toBitVec_and, e]
  show w.toBitVec >>> j &&& 1#64 = 0#64 ↔ _
  constructor
  · intro h
    have t := congrArg (fun x => x.getLsbD 0) h
    simpa using t
  · intro h
    apply BitVec.eq_of_getLsbD_eq
    intro i hi
    cases i with
    | zero => simp [h]
    | succ i => simp
theorem ts_or {w m : Int64} {j : Nat} (hj : j < 64) (hm : m.toBitVec = BitVec.twoPow 64 j) : (w ||| m) = w ↔ w.toBitVec.getLsbD j = true := by
  rw [← Int64.toBitVec_inj, Int64.toBitVec_or, hm]
  constructor
  · intro h
    have t := congrArg (fun x => x.getLsbD j) h
    simp only [BitVec.getLsbD_or, BitVec.getLsbD_twoPow] at t
    simpa [hj] using t.symm
  · intro h
    apply BitVec.eq_of_getLsbD_eq
    intro i hi
    rw [BitVec.getLsbD_or, BitVec.getLsbD_twoPow]
    by_cases e : j = i
    · subst e; rw [h, Bool.true_or]
    · simp [e]
theorem ts_and {w m : Int64} {j : Nat} (hj : j < 64) (hm : m.toBitVec = BitVec.twoPow 64 j) : (w &&& (m ^^^ (-1))) = w ↔ w.toBitVec.getLsbD j = false := by
  have ha : (-1 : Int64).toBitVec = BitVec.allOnes 64 := by decide
  rw [← Int64.toBitVec_inj, Int64.toBitVec_and, Int64.toBitVec_xor, hm, ha]
  constructor
  · intro h
    have t := congrArg (fun x => x.getLsbD j) h
    simp only [BitVec.getLsbD_and, BitVec.getLsbD_xor, BitVec.getLsbD_twoPow, BitVec.getLsbD_allOnes] at t
    simpa [hj] using t.symm
  · intro h
    apply BitVec.eq_of_getLsbD_eq
    intro i hi
    rw [BitVec.getLsbD_and, BitVec.getLsbD_xor, BitVec.getLsbD_twoPow, BitVec.getLsbD_allOnes]
    by_cases e : j = i
    · subst e; rw [h, Bool.false_and]
    · simp [e, hi]
/-! ===== lN n to 2^64: shifts, and, or, masks, one bit ===== -/
theorem wb_tb (n : Nat) : (lN n).toBitVec = BitVec.ofNat 64 n := rfl
theorem wb_inj {a b : Int64} (h : a.toBitVec = b.toBitVec) : a = b := Int64.toBitVec_inj.mp h
theorem wb_tn {n : Nat} (h : n < 2 ^ 64) : (lN n).toBitVec.toNat = n := by rw [wb_tb, BitVec.toNat_ofNat, Nat.mod_eq_of_lt h]
theorem wb_of (x : Int64) : ∃ n, n < 2 ^ 64 ∧ x = lN n := ⟨x.toBitVec.toNat, x.toBitVec.isLt, wb_inj (by rw [wb_tb]; simp)⟩
theorem wb_of32 (x : Int32) : ∃ n, n < 2 ^ 32 ∧ x = nI n := ⟨x.toBitVec.toNat, x.toBitVec.isLt, Int32.toBitVec_inj.mp (by show _ = BitVec.ofNat 32 _; simp)⟩
theorem wb_c : ∀ k, k < 64 → ((nI k).toInt64 &&& 63) = lN k := by decide +kernel
theorem wb_cu : ∀ k, k < 64 → ((nI k).toInt64.toUInt64 &&& Int64.toUInt64 63) = UInt64.ofNat k := by decide +kernel
theorem wb_sm : ∀ k, k < 64 → (BitVec.ofNat 64 k).smod 64 = BitVec.ofNat 64 k := by decide +kernel
theorem wb_pw {a b : Nat} (h : a ≤ b) : 2 ^ b = 2 ^ a * 2 ^ (b - a) := by rw [← Nat.pow_add]; congr 1; omega
theorem wb_lt2 {a b : Nat} (h : a < b) : 2 ^ a < 2 ^ b := Nat.pow_lt_pow_right (by decide) h
theorem wb_mod (n : Nat) : lN n = lN (n % 2 ^ 64) := wb_inj (by rw [wb_tb, wb_tb]; apply BitVec.eq_of_toNat_eq; rw [BitVec.toNat_ofNat, BitVec.toNat_ofNat, Nat.mod_mod])
theorem wb_shr {n k : Nat} (hn : n < 2 ^ 64) (hk : k < 64) : ((lN n).toUInt64 >>> ((nI k).toInt64.toUInt64 &&& Int64.toUInt64 63)).toInt64 = lN (n / 2 ^ k) := by
  rw [wb_cu k hk]
  apply wb_inj
  apply BitVec.eq_of_toNat_eq
  show ((lN n).toUInt64 >>> UInt64.ofNat k).toNat = (BitVec.ofNat 64 _).toNat
  have h1 : (UInt64.ofNat k).toNat = k := by
    show (BitVec.ofNat 64 k).toNat = k
    rw [BitVec.toNat_ofNat, Nat.mod_eq_of_lt (by omega)]
  have h2 : (lN n).toUInt64.toNat = n := wb_tn hn
  rw [UInt64.toNat_shiftRight, h1, h2, Nat.mod_eq_of_lt hk, Nat.shiftRight_eq_div_pow, BitVec.toNat_ofNat, Nat.mod_eq_of_lt (Nat.lt_of_le_of_lt (Nat.div_le_self _ _) hn)]
theorem wb_shl (n : Nat) {k : Nat} (hk : k < 64) : lN n <<< ((nI k).toInt64 &&& 63) = lN (n * 2 ^ k) := by
  rw [wb_c k hk]
  apply wb_inj
  rw [Int64.toBitVec_shiftLeft, wb_tb, wb_tb, wb_tb, wb_sm k hk]
  apply BitVec.eq_of_toNat_eq
  rw [BitVec.shiftLeft_eq', BitVec.toNat_shiftLeft, BitVec.toNat_ofNat, BitVec.toNat_ofNat, BitVec.toNat_ofNat, Nat.mod_eq_of_lt (show k < 2 ^ 64 by omega), Nat.shiftLeft_eq, Nat.mul_mod, Nat.mod_mod, ← Nat.mul_mod]
theorem wb_and {a b : Nat} (ha : a < 2 ^ 64) (hb : b < 2 ^ 64) : lN a &&& lN b = lN (a &&& b) := by
  apply wb_inj
  rw [Int64.toBitVec_and, wb_tb, wb_tb, wb_tb]
  apply BitVec.eq_of_toNat_eq
  rw [BitVec.toNat_and, BitVec.toNat_ofNat, BitVec.toNat_ofNat, BitVec.toNat_ofNat, Nat.mod_eq_of_lt ha, Nat.mod_eq_of_lt hb, Nat.mod_eq_of_lt (Nat.and_lt_two_pow _ hb)]
theorem wb_or {a b : Nat} (ha : a < 2 ^ 64) (hb : b < 2 ^ 64) : lN a ||| lN b = lN (a ||| b) := by
  apply wb_inj
  rw [Int64.toBitVec_or, wb_tb, wb_tb, wb_tb]
  apply BitVec.eq_of_toNat_eq
  rw [BitVec.toNat_or, BitVec.toNat_ofNat, BitVec.toNat_ofNat, BitVec.toNat_ofNat, Nat.mod_eq_of_lt ha, Nat.mod_eq_of_lt hb, Nat.mod_eq_of_lt (Nat.or_lt_two_pow ha hb)]
theorem wb_mask {n k : Nat} (hn : n < 2 ^ 64) (hk : k < 64) : lN n &&& lN (2 ^ k - 1) = lN (n % 2 ^ k) := by
  rw [wb_and hn (by have := wb_lt2 hk; omega), Nat.and_two_pow_sub_one_eq_mod]
theorem wb_a1 {n : Nat} (hn : n < 2 ^ 64) : lN n &&& 1 = lN (n % 2) := wb_mask (k := 1) hn (by decide)
theorem wb_bit {n k : Nat} (hn : n < 2 ^ 64) (hk : k < 64) : ((lN n).toUInt64 >>> ((nI k).toInt64.toUInt64 &&& Int64.toUInt64 63)).toInt64 &&& 1 = lN (n / 2 ^ k % 2) := by
  rw [wb_shr hn hk, wb_a1 (Nat.lt_of_le_of_lt (Nat.div_le_self _ _) hn)]
theorem wb_xor {q k : Nat} (hk : k < 63) (h : 2 ^ k ≤ q) (h2 : q < 2 ^ (k + 1)) : lN q ^^^ lN (2 ^ k) = lN (q - 2 ^ k) := by
  obtain ⟨r, rfl⟩ : ∃ r, q = 2 ^ k + r := ⟨q - 2 ^ k, by omega⟩
  have hr : r < 2 ^ k := by rw [Nat.pow_succ] at h2; omega
  have hx : (2 ^ k + r) ^^^ 2 ^ k = r := by
    apply Nat.eq_of_testBit_eq
    intro i
    rw [Nat.testBit_xor, Nat.testBit_two_pow]
    rcases Nat.lt_trichotomy i k with h | h | h
    · rw [Nat.testBit_two_pow_add_gt h]
      simp [show ¬ k = i by omega]
    · subst h
      rw [Nat.testBit_two_pow_add_eq]
      simp
    · have a1 : 2 ^ (k + 1) ≤ 2 ^ i := Nat.pow_le_pow_right (by decide) h
      rw [Nat.testBit_lt_two_pow (show 2 ^ k + r < 2 ^ i by omega), Nat.testBit_lt_two_pow (show r < 2 ^ i by omega)]
      simp [show ¬ k = i by omega]
  have b1 := wb_lt2 (show k + 1 < 64 by omega)
  have b2 := wb_lt2 (show k < 64 by omega)
  apply wb_inj
  rw [Int64.toBitVec_xor, wb_tb, wb_tb, wb_tb]
  apply BitVec.eq_of_toNat_eq
  rw [BitVec.toNat_xor, BitVec.toNat_ofNat, BitVec.toNat_ofNat, BitVec.toNat_ofNat, Nat.mod_eq_of_lt (by omega : 2 ^ k + r < 2 ^ 64), Nat.mod_eq_of_lt b2, hx, Nat.add_sub_cancel_left, Nat.mod_eq_of_lt (by omega)]
/-! ===== lN: masks, 'or' of parts that don't overlap is a sum ===== -/
theorem u_tn {n : Nat} (h : n < 2 ^ 64) : (UInt64.ofNat n).toNat = n := Nat.mod_eq_of_lt h
theorem g_and {a b c : Nat} (ha : a < 2 ^ 64) (hb : b < 2 ^ 64) (hc : a &&& b = c) : lN a &&& lN b = lN c := by
  subst hc
  have h : UInt64.ofNat a &&& UInt64.ofNat b = UInt64.ofNat (a &&& b) := UInt64.toNat_inj.mp (by rw [UInt64.toNat_and, u_tn ha, u_tn hb, u_tn (Nat.and_lt_two_pow a hb)])
  have h2 := congrArg UInt64.toInt64 h
  exact h2
theorem g_and1 {a : Nat} (ha : a < 2 ^ 64) : lN a &&& 1 = lN (a % 2) := g_and (b := 1) ha (by decide) (Nat.and_two_pow_sub_one_eq_mod a 1)
theorem g_mask {a s p : Nat} (hp : 2 ^ s = p) (hs : s < 64) (ha : a < 2 ^ 64) : lN a &&& lN (p - 1) = lN (a % p) := by
  subst hp
  have := Nat.pow_lt_pow_right (show 1 < 2 by decide) hs
  exact g_and ha (by omega) (Nat.and_two_pow_sub_one_eq_mod a s)
theorem g_or {k p a b : Nat} (hp : 2 ^ k = p) (ha : a < p) (h : b * p + a < 2 ^ 64) : lN (b * p) ||| lN a = lN (b * p + a) := by
  subst hp
  have h1 : b * 2 ^ k ||| a = b * 2 ^ k + a := by rw [← Nat.shiftLeft_eq, Nat.shiftLeft_add_eq_or_of_lt ha]
  have h3 : UInt64.ofNat (b * 2 ^ k) ||| UInt64.ofNat a = UInt64.ofNat (b * 2 ^ k + a) := UInt64.toNat_inj.mp (by rw [UInt64.toNat_or, u_tn (by omega), u_tn (by omega), u_tn h, h1])
  have h2 := congrArg UInt64.toInt64 h3
  exact h2
theorem g_or' {k p a b : Nat} (hp : 2 ^ k = p) (ha : a < p) (h : a + b * p < 2 ^ 64) : lN a ||| lN (b * p) = lN (a + b * p) := by
  rw [Int64.or_comm, g_or hp ha (by omega), Nat.add_comm]
theorem g_ushr {a k p : Nat} {y : UInt64} (hy : y = UInt64.ofNat k) (hk : k < 64) (hp : 2 ^ k = p) (ha : a < 2 ^ 64) : ((lN a).toUInt64 >>> y).toInt64 = lN (a / p) := by
  subst hy hp
  have h : UInt64.ofNat a >>> UInt64.ofNat k = UInt64.ofNat (a / 2 ^ k) := UInt64.toNat_inj.mp (by rw [UInt64.toNat_shiftRight, u_tn ha, u_tn (by omega), u_tn (Nat.lt_of_le_of_lt (Nat.div_le_self _ _) ha), Nat.mod_eq_of_lt hk, Nat.shiftRight_eq_div_pow])
  have h2 := congrArg UInt64.toInt64 h
  exact h2
theorem g_shl {a k p : Nat} {y : Int64} (hy : y.toBitVec.smod 64 = BitVec.ofNat 64 k) (hk : k < 64) (hp : 2 ^ k = p) (ha : a < 2 ^ 64) : lN a <<< y = lN (a * p) := by
  subst hp
  apply Int64.toBitVec_inj.mp
  rw [Int64.toBitVec_shiftLeft, hy]
  apply BitVec.eq_of_toNat_eq
  have hb : (lN a).toBitVec.toNat = a := Nat.mod_eq_of_lt ha
  have hk' : (BitVec.ofNat 64 k).toNat = k := Nat.mod_eq_of_lt (by omega)
  have h : ((lN a).toBitVec <<< BitVec.ofNat 64 k).toNat = (a * 2 ^ k) % 2 ^ 64 := by simp only [BitVec.shiftLeft_eq', BitVec.toNat_shiftLeft, hb, hk', Nat.shiftLeft_eq]
  exact h
/-! ===== lN to 2^62 under >> and >>> ===== -/
theorem pf_lI {a : Nat} (h : a < 2 ^ 63) : (lN a).toInt = (a : Int) := lg_ofNat_toInt h
theorem pf_shr {a d : Nat} {D : Int64} (hD : (D.toBitVec.smod 64).toNat = d) (h : a < 2 ^ 62) : lN a >>> D = lN (a / 2 ^ d) := by
  have hd : a / 2 ^ d ≤ a := Nat.div_le_self _ _
  apply Int64.toInt_inj.mp
  have e : (lN a >>> D).toInt = (lN a).toInt >>> d := by
    rw [← hD]
    exact BitVec.toInt_sshiftRight ..
  rw [e, Int.shiftRight_eq_div_pow, pf_lI (by omega), pf_lI (by omega)]
  rfl
theorem pf_ushr {a d : Nat} {D : UInt64} (hD : D.toNat % 64 = d) (h : a < 2 ^ 62) : ((lN a).toUInt64 >>> D).toInt64 = lN (a / 2 ^ d) := by
  have hd : a / 2 ^ d ≤ a := Nat.div_le_self _ _
  have e : (lN a).toUInt64 >>> D = UInt64.ofNat (a / 2 ^ d) := UInt64.toNat_inj.mp (by
    rw [UInt64.toNat_shiftRight, hD, Nat.shiftRight_eq_div_pow, UInt64.toNat_ofNat']
    show (UInt64.ofNat a).toNat / 2 ^ d = _
    rw [UInt64.toNat_ofNat', Nat.mod_eq_of_lt (by omega), Nat.mod_eq_of_lt (by omega)])
  rw [e]
  rfl
theorem pf_andw (x : Int64) : ∃ m, m < 2 ^ 32 ∧ x &&& 4294967295 = lN m := ⟨x.toBitVec.toNat % 2 ^ 32, Nat.mod_lt _ (by decide), Int64.toBitVec_inj.mp (BitVec.eq_of_toNat_eq (by
  show (x.toBitVec &&& 4294967295#64).toNat = (BitVec.ofNat 64 (x.toBitVec.toNat % 2 ^ 32)).toNat
  rw [BitVec.toNat_and, show (4294967295#64).toNat = 2 ^ 32 - 1 from by decide, Nat.and_two_pow_sub_one_eq_mod, BitVec.toNat_ofNat]
  omega))⟩
/-! ===== Int64 as an unsigned number: uN x ===== -/
def uN (x : Int64) : Nat := x.toUInt64.toNat
theorem uN_lt (x : Int64) : uN x < 18446744073709551616 := x.toUInt64.toNat_lt
theorem uN_inj {x y : Int64} (h : uN x = uN y) : x = y := congrArg UInt64.toInt64 (UInt64.toNat_inj.mp h)
theorem uN_add (x y : Int64) : uN (x + y) = (uN x + uN y) % 18446744073709551616 := by
  show (x.toUInt64 + y.toUInt64).toNat = _
  exact UInt64.toNat_add _ _
theorem uN_mul (x y : Int64) : uN (x * y) = (uN x * uN y) % 18446744073709551616 := by
  show (x.toUInt64 * y.toUInt64).toNat = _
  exact UInt64.toNat_mul _ _
theorem uN_shl (x : Int64) : uN (x <<< ((1 : Int32).toInt64 &&& 63)) = (2 * uN x) % 18446744073709551616 := by
  have h : (((1 : Int32).toInt64 &&& 63).toBitVec.smod 64).toNat = 1 := by decide
  show (x.toBitVec <<< (((1 : Int32).toInt64 &&& 63).toBitVec.smod 64).toNat).toNat = _
  rw [h, BitVec.toNat_shiftLeft, Nat.shiftLeft_eq, Nat.mul_comm]
  rfl
theorem uN_shr (x : Int64) (s : UInt64) : uN (x.toUInt64 >>> s).toInt64 = uN x / 2 ^ (s.toNat % 64) := by
  show (x.toUInt64 >>> s).toNat = _
  rw [UInt64.toNat_shiftRight, Nat.shiftRight_eq_div_pow]
  rfl
theorem uN_s32 (x : Int64) : uN (x.toUInt64 >>> ((32 : Int32).toInt64.toUInt64 &&& Int64.toUInt64 63)).toInt64 = uN x / 4294967296 := by
  have h : ((32 : Int32).toInt64.toUInt64 &&& Int64.toUInt64 63).toNat % 64 = 32 := by decide
  rw [uN_shr, h]
theorem uN_s63 (x : Int64) : uN (x.toUInt64 >>> ((63 : Int32).toInt64.toUInt64 &&& Int64.toUInt64 63)).toInt64 = uN x / 9223372036854775808 := by
  have h : ((63 : Int32).toInt64.toUInt64 &&& Int64.toUInt64 63).toNat % 64 = 63 := by decide
  rw [uN_shr, h]
theorem uN_lo (x : Int64) : uN (x &&& 4294967295) = uN x % 4294967296 := by
  show (x.toUInt64 &&& Int64.toUInt64 4294967295).toNat = _
  rw [UInt64.toNat_and]
  exact Nat.and_two_pow_sub_one_eq_mod _ 32
theorem uN_bit (x : Int64) : (x &&& 1) = 0 ↔ uN x % 2 = 0 := by
  have h : uN (x &&& 1) = uN x % 2 := by
    show (x.toUInt64 &&& Int64.toUInt64 1).toNat = _
    rw [UInt64.toNat_and]
    exact Nat.and_two_pow_sub_one_eq_mod _ 1
  rw [← h]
  exact ⟨fun z => by rw [z]; rfl, fun z => uN_inj (z.trans rfl)⟩
theorem uN_or {x y : Int64} (hy : uN y < 2) : uN ((x <<< ((1 : Int32).toInt64 &&& 63)) ||| y) = (2 * uN x) % 18446744073709551616 + uN y := by
  have h1 : uN ((x <<< ((1 : Int32).toInt64 &&& 63)) ||| y) = uN (x <<< ((1 : Int32).toInt64 &&& 63)) ||| uN y := UInt64.toNat_or _ _
  have h2 : (2 * uN x) % 18446744073709551616 = 2 ^ 1 * (uN x % 9223372036854775808) := by omega
  rw [h1, uN_shl, h2]
  exact (Nat.two_pow_add_eq_or_of_lt (i := 1) hy _).symm
theorem nat_xor {a : Nat} (h : a < 18446744073709551616) : a ^^^ 2 ^ 63 = (a + 9223372036854775808) % 18446744073709551616 := by
  have h1 : (a ^^^ 2 ^ 63) % 2 ^ 63 = a % 2 ^ 63 := by rw [Nat.xor_mod_two_pow, Nat.mod_self, Nat.xor_zero]
  have h2 : (a ^^^ 2 ^ 63) / 2 ^ 63 = (a / 2 ^ 63) ^^^ 1 := by rw [Nat.xor_div_two_pow, Nat.div_self (Nat.two_pow_pos 63)]
  have h3 : a / 2 ^ 63 = 0 ∨ a / 2 ^ 63 = 1 := by omega
  generalize a ^^^ 2 ^ 63 = t at h1 h2
  rcases h3 with h3 | h3
  · rw [h3] at h2
    have h2 : t / 2 ^ 63 = 1 := h2
    omega
  · rw [h3] at h2
    have h2 : t / 2 ^ 63 = 0 := h2
    omega
theorem uN_xor (x : Int64) : uN (x ^^^ (-9223372036854775808)) = (uN x + 9223372036854775808) % 18446744073709551616 := by
  rw [← nat_xor (uN_lt x)]
  exact UInt64.toNat_xor _ _
theorem uN_int (x : Int64) : x.toInt = if 2 * uN x < 18446744073709551616 then (uN x : Int) else (uN x : Int) - 18446744073709551616 := BitVec.toInt_eq_toNat_cond _
theorem uN_le (x y : Int64) : (x ^^^ (-9223372036854775808)) ≤ (y ^^^ (-9223372036854775808)) ↔ uN x ≤ uN y := by
  have hx := uN_lt x
  have hy := uN_lt y
  rw [Int64.le_iff_toInt_le, uN_int, uN_int, uN_xor, uN_xor]
  omega
theorem uN_sk (x : Int64) {k : Nat} (hk : k < 64) : uN (x.toUInt64 >>> ((nI k).toInt64.toUInt64 &&& Int64.toUInt64 63)).toInt64 = uN x / 2 ^ k := by
  have h : ((nI k).toInt64.toUInt64 &&& Int64.toUInt64 63).toNat % 64 = k := by
    rw [nI_l (by omega), UInt64.toNat_and]
    have e : (lN k).toUInt64.toNat = k % 2 ^ 64 := rfl
    have e2 : (Int64.toUInt64 63).toNat = 2 ^ 6 - 1 := by decide
    rw [e, e2, Nat.and_two_pow_sub_one_eq_mod]
    omega
  rw [uN_shr, h]
/-! ===== unsigned comparison by xor with the least ===== -/
theorem lN_bv (n : Nat) : (lN n).toBitVec = BitVec.ofNat 64 n := rfl
theorem lN_nat {n : Nat} (h : n < 2 ^ 64) : (lN n).toBitVec.toNat = n := by rw [lN_bv, BitVec.toNat_ofNat]; exact Nat.mod_eq_of_lt h
theorem lN_xor (a b : Nat) : lN a ^^^ lN b = lN (a ^^^ b) := by
  apply Int64.toBitVec_inj.mp; rw [Int64.toBitVec_xor, lN_bv, lN_bv, lN_bv]; apply BitVec.eq_of_getLsbD_eq; intro i hi; simp [BitVec.getLsbD_ofNat, Nat.testBit_xor, hi]
theorem lN_ti {m : Nat} (h : m < 2 ^ 64) : (lN m).toInt = if m < 2 ^ 63 then (m : Int) else (m : Int) - 2 ^ 64 := by
  have c := BitVec.toInt_eq_toNat_cond (lN m).toBitVec
  rw [lN_nat h] at c
  show (lN m).toBitVec.toInt = _
  rw [c]
  split <;> split <;> omega
theorem xor63 {x : Nat} (h : x < 2 ^ 63) : x ^^^ 2 ^ 63 = 2 ^ 63 + x := by
  apply Nat.eq_of_testBit_eq
  intro i
  rw [Nat.testBit_xor, Nat.testBit_two_pow]
  rcases Nat.lt_trichotomy i 63 with z | z | z
  · rw [Nat.testBit_two_pow_add_gt z, decide_eq_false (by omega)]; simp
  · subst z; rw [Nat.testBit_two_pow_add_eq]; simp
  · have hp : 2 ^ 64 ≤ 2 ^ i := Nat.pow_le_pow_right (by decide) z
    rw [Nat.testBit_lt_two_pow (show x < 2 ^ i by omega), Nat.testBit_lt_two_pow (show 2 ^ 63 + x < 2 ^ i by omega), decide_eq_false (by omega)]; rfl
theorem xorS {a : Nat} (h : a < 2 ^ 64) : (lN a ^^^ (-9223372036854775808)).toInt = (a : Int) - 2 ^ 63 := by
  rw [show (-9223372036854775808 : Int64) = lN (2 ^ 63) from by decide +kernel, lN_xor]
  rcases Nat.lt_or_ge a (2 ^ 63) with z | z
  · rw [xor63 z, lN_ti (by omega), if_neg (by omega)]; omega
  · obtain ⟨x, rfl⟩ : ∃ x, a = 2 ^ 63 + x := ⟨a - 2 ^ 63, by omega⟩
    rw [← xor63 (by omega), Nat.xor_assoc, Nat.xor_self, Nat.xor_zero, lN_ti (by omega), if_pos (by omega), xor63 (by omega)]; omega
theorem ultL {a b : Nat} (ha : a < 2 ^ 64) (hb : b < 2 ^ 64) : ((lN b ^^^ (-9223372036854775808)) ≤ (lN a ^^^ (-9223372036854775808))) ↔ b ≤ a := by
  rw [Int64.le_iff_toInt_le, xorS ha, xorS hb]; omega
/-! ===== Int64 masks of n low bits ===== -/
theorem cr_bits (W U M : BitVec 64) : ((W &&& U) &&& (U &&& (M ^^^ BitVec.allOnes 64))) = 0#64 ↔ (W &&& U) &&& M = W &&& U := by
  constructor
  · intro h
    apply BitVec.eq_of_getLsbD_eq
    intro i hi
    have e := congrArg (fun x => BitVec.getLsbD x i) h
    simp only [BitVec.getLsbD_and, BitVec.getLsbD_xor, BitVec.getLsbD_allOnes, BitVec.getLsbD_zero, hi, decide_true] at e ⊢
    revert e
    cases W.getLsbD i <;> cases U.getLsbD i <;> cases M.getLsbD i <;> decide
  · intro h
    apply BitVec.eq_of_getLsbD_eq
    intro i hi
    have e := congrArg (fun x => BitVec.getLsbD x i) h
    simp only [BitVec.getLsbD_and, BitVec.getLsbD_xor, BitVec.getLsbD_allOnes, BitVec.getLsbD_zero, hi, decide_true] at e ⊢
    revert e
    cases W.getLsbD i <;> cases U.getLsbD i <;> cases M.getLsbD i <;> decide
theorem cr_mask (w U m : Int64) (n : Nat) (hm : m.toBitVec.toNat = 2 ^ n - 1) : ((w &&& U) &&& (U &&& (m ^^^ (-1)))) = 0 ↔ (w &&& U).toBitVec.toNat < 2 ^ n := by
  have e0 : (-1 : Int64).toBitVec = BitVec.allOnes 64 := by decide
  have z0 : (0 : Int64).toBitVec = 0#64 := by decide
  rw [← Int64.toBitVec_inj, z0, Int64.toBitVec_and, Int64.toBitVec_and, Int64.toBitVec_and, Int64.toBitVec_xor, e0, cr_bits]
  generalize w.toBitVec &&& U.toBitVec = T
  rw [← BitVec.toNat_inj, BitVec.toNat_and, hm, Nat.and_two_pow_sub_one_eq_mod]
  constructor
  · intro h
    have t := Nat.mod_lt T.toNat (Nat.two_pow_pos n)
    rw [h] at t
    exact t
  · exact Nat.mod_eq_of_lt
theorem cr_shr (t : Int64) (x : UInt64) (n : Nat) (hx : x.toNat % 64 = n) : (t.toUInt64 >>> x).toInt64 = 0 ↔ t.toBitVec.toNat < 2 ^ n := by
  rw [← Int64.toBitVec_inj, ← BitVec.toNat_inj]
  show (t.toUInt64 >>> x).toNat = 0 ↔ t.toUInt64.toNat < 2 ^ n
  rw [UInt64.toNat_shiftRight, hx, Nat.shiftRight_eq_div_pow]
  constructor
  · intro h
    have d : t.toUInt64.toNat / 2 ^ n < 1 := by
      rw [h]
      decide
    have e := (Nat.div_lt_iff_lt_mul (Nat.two_pow_pos n)).mp d
    rw [Nat.one_mul] at e
    exact e
  · exact Nat.div_eq_of_lt
theorem cr_amt (s : Int64) : ∃ n, n < 64 ∧ s &&& 63 = lN n ∧ (s.toUInt64 &&& Int64.toUInt64 63).toNat % 64 = n := by
  have e : (s.toUInt64 &&& Int64.toUInt64 63).toNat = s.toUInt64.toNat % 2 ^ 6 := by
    rw [UInt64.toNat_and, show (Int64.toUInt64 63).toNat = 2 ^ 6 - 1 from by decide, Nat.and_two_pow_sub_one_eq_mod]
  refine ⟨s.toUInt64.toNat % 2 ^ 6, by omega, ?_, by omega⟩
  rw [← Int64.toBitVec_inj, ← BitVec.toNat_inj]
  show (s.toUInt64 &&& Int64.toUInt64 63).toNat = (BitVec.ofNat 64 (s.toUInt64.toNat % 2 ^ 6)).toNat
  rw [e, BitVec.toNat_ofNat]
  omega
end
section
/-! own rows: ints by integers (ch_zI), squares, the pure board, attacks, moves, positions -/
def ch_zI (z : Int) : Int32 := Int32.ofInt z
theorem ch_zI_n (n : Nat) : ch_zI (n : Int) = nI n := Int32.ofInt_eq_ofNat
theorem ch_zI_n' (n : Nat) : nI n = ch_zI (n : Int) := Int32.ofInt_eq_ofNat.symm
theorem ch_zI_t {z : Int} (h1 : -2147483648 ≤ z) (h2 : z < 2147483648) : (ch_zI z).toInt = z := Int32.toInt_ofInt_of_le (by omega) (by omega)
theorem ch_zI_add (a b : Int) : ch_zI a + ch_zI b = ch_zI (a + b) := (Int32.ofInt_add a b).symm
theorem ch_zI_sub (a b : Int) : ch_zI a - ch_zI b = ch_zI (a - b) := (Int32.ofInt_sub a b).symm
theorem ch_zI_mul (a b : Int) : ch_zI a * ch_zI b = ch_zI (a * b) := (Int32.ofInt_mul a b).symm
theorem ch_zI_neg (a : Int) : - ch_zI a = ch_zI (- a) := (Int32.ofInt_neg a).symm
theorem ch_zI_le {a b : Int} (ha : -1000000 < a ∧ a < 1000000) (hb : -1000000 < b ∧ b < 1000000) : ch_zI a ≤ ch_zI b ↔ a ≤ b := by
  rw [Int32.le_iff_toInt_le, ch_zI_t (by omega) (by omega), ch_zI_t (by omega) (by omega)]
theorem ch_zI_lt {a b : Int} (ha : -1000000 < a ∧ a < 1000000) (hb : -1000000 < b ∧ b < 1000000) : ch_zI a < ch_zI b ↔ a < b := by
  rw [Int32.lt_iff_toInt_lt, ch_zI_t (by omega) (by omega), ch_zI_t (by omega) (by omega)]
theorem ch_zI_eq {a b : Int} (ha : -1000000 < a ∧ a < 1000000) (hb : -1000000 < b ∧ b < 1000000) : ch_zI a = ch_zI b ↔ a = b := by
  rw [← Int32.toInt_inj, ch_zI_t (by omega) (by omega), ch_zI_t (by omega) (by omega)]
theorem ch_zI_0 : (0 : Int32) = ch_zI 0 := by decide
theorem ch_zI_1 : (1 : Int32) = ch_zI 1 := by decide
theorem ch_zI_2 : (2 : Int32) = ch_zI 2 := by decide
theorem ch_zI_8 : (8 : Int32) = ch_zI 8 := by decide
theorem ch_zI_m1 : (-1 : Int32) = ch_zI (-1) := by decide
theorem ch_zI_m2 : (-2 : Int32) = ch_zI (-2) := by decide
theorem ch_zI_s (z : Int) : ch_zI z + 1 = ch_zI (z + 1) := by rw [ch_zI_1, ch_zI_add]
theorem ch_zk_le {x y : Int32} {A B : Prop} (a b : Int) (f : a ≤ b → A) (g : b < a → B) (hx : x = ch_zI a := by rfl) (hy : y = ch_zI b := by rfl) (ha : -1000000 < a ∧ a < 1000000 := by omega) (hb : -1000000 < b ∧ b < 1000000 := by omega) : (x ≤ y → A) ∧ (¬ x ≤ y → B) := by
  subst hx hy
  rw [ch_zI_le ha hb]
  exact ⟨f, fun z => g (by omega)⟩
theorem ch_zk_lt {x y : Int32} {A B : Prop} (a b : Int) (f : a < b → A) (g : b ≤ a → B) (hx : x = ch_zI a := by rfl) (hy : y = ch_zI b := by rfl) (ha : -1000000 < a ∧ a < 1000000 := by omega) (hb : -1000000 < b ∧ b < 1000000 := by omega) : (x < y → A) ∧ (¬ x < y → B) := by
  subst hx hy
  rw [ch_zI_lt ha hb]
  exact ⟨f, fun z => g (by omega)⟩
theorem ch_zk_eq {x y : Int32} {A B : Prop} (a b : Int) (f : a = b → A) (g : a ≠ b → B) (hx : x = ch_zI a := by rfl) (hy : y = ch_zI b := by rfl) (ha : -1000000 < a ∧ a < 1000000 := by omega) (hb : -1000000 < b ∧ b < 1000000 := by omega) : (x = y → A) ∧ (¬ x = y → B) := by
  subst hx hy
  rw [ch_zI_eq ha hb]
  exact ⟨f, g⟩
/-- a counted loop upward, over integers, with a carried state -/
theorem ch_fz {σ : Type} (W : Nat → σ → Int32 → Prop) (I : Int → σ → Prop) (hi : Int) (hx : ∀ n s, I (hi + 1) s → W (n + 1) s (ch_zI (hi + 1))) (hs : ∀ n z s, z ≤ hi → I z s → (∀ s', I (z + 1) s' → W n s' (ch_zI (z + 1))) → W (n + 1) s (ch_zI z)) : ∀ (k : Nat) (z : Int) (s : σ), z + k = hi + 1 → I z s → W (k + 1) s (ch_zI z) := by
  intro k
  induction k with
  | zero =>
    intro z s hz h
    obtain rfl : z = hi + 1 := by omega
    exact hx 0 s h
  | succ k ih =>
    intro z s hz h
    exact hs (k + 1) z s (by omega) h (fun s' h' => ih (z + 1) s' (by omega) h')
/-- the same over naturals -/
theorem ch_fn {σ : Type} (W : Nat → σ → Int32 → Prop) (I : Nat → σ → Prop) (e : Nat) (hx : ∀ n s, I e s → W (n + 1) s (nI e)) (hs : ∀ n i s, i < e → I i s → (∀ s', I (i + 1) s' → W n s' (nI (i + 1))) → W (n + 1) s (nI i)) : ∀ (k i : Nat) (s : σ), i + k = e → I i s → W (k + 1) s (nI i) := by
  intro k
  induction k with
  | zero =>
    intro i s hz h
    obtain rfl : i = e := by omega
    exact hx 0 s h
  | succ k ih =>
    intro i s hz h
    exact hs (k + 1) i s (by omega) h (fun s' h' => ih (i + 1) s' (by omega) h')
theorem ch_nI_a7 {s : Nat} (h : s < 2 ^ 31) : nI s &&& 7 = nI (s % 8) := pk_andN (by omega) 3 (by decide)
theorem ch_nI_a63 {s : Nat} (h : s < 2 ^ 31) : nI s &&& 63 = nI (s % 64) := pk_andN (by omega) 6 (by decide)
theorem ch_nI_a1 {s : Nat} (h : s < 2 ^ 31) : nI s &&& 1 = nI (s % 2) := pk_andN (by omega) 1 (by decide)
theorem ch_nI_r3 {s : Nat} (h : s < 2 ^ 31) : nI s >>> ((3 : Int32) &&& 31) = nI (s / 8) := pk_shrN h _ 3 (by decide)
theorem ch_nI_r9 {s : Nat} (h : s < 2 ^ 31) : nI s >>> ((9 : Int32) &&& 31) = nI (s / 512) := pk_shrN h _ 9 (by decide)
theorem ch_nI_m8 (s : Nat) : 8 * nI s = nI (8 * s) := pk_mul 8 s
theorem ch_nI_8c (c k : Nat) : 8 * nI c + nI k = nI (8 * c + k) := by rw [ch_nI_m8, nI_add]
/-- the square t lies a files and b ranks off s -/
def ch_SQ (s : Nat) (a b : Int) (t : Nat) : Prop := ((t % 8 : Nat) : Int) = ((s % 8 : Nat) : Int) + a ∧ ((t / 8 : Nat) : Int) = ((s / 8 : Nat) : Int) + b
def ch_kn (a b : Int) : Prop := ((a = 1 ∨ a = -1) ∧ (b = 2 ∨ b = -2)) ∨ ((a = 2 ∨ a = -2) ∧ (b = 1 ∨ b = -1))
def ch_dr (a b : Int) : Prop := -1 ≤ a ∧ a ≤ 1 ∧ -1 ≤ b ∧ b ≤ 1 ∧ ¬ (a = 0 ∧ b = 0)
def ch_LN (B : Nat → Nat) (s t : Nat) (a b : Int) (k : Nat) : Prop := 1 ≤ k ∧ k ≤ 7 ∧ ch_SQ s (k * a) (k * b) t ∧ ∀ j : Nat, 1 ≤ j → j < k → ∀ q, q < 64 → ch_SQ s (j * a) (j * b) q → B q = 0
def ch_fw (c : Nat) : Int := if c = 0 then 1 else -1
def ch_MA (B : Nat → Nat) (s t : Nat) : Prop :=
  (B s % 8 = 1 ∧ (ch_SQ s (-1) (ch_fw (B s / 8)) t ∨ ch_SQ s 1 (ch_fw (B s / 8)) t)) ∨
  (B s % 8 = 2 ∧ ∃ a b, ch_kn a b ∧ ch_SQ s a b t) ∨
  (B s % 8 = 6 ∧ ∃ a b, ch_dr a b ∧ ch_SQ s a b t) ∨
  (∃ a b k, ch_dr a b ∧ ch_LN B s t a b k ∧ (B s % 8 = 5 ∨ (B s % 8 = 3 ∧ a ≠ 0 ∧ b ≠ 0) ∨ (B s % 8 = 4 ∧ (a = 0 ∨ b = 0))))
def ch_AT (B : Nat → Nat) (t c : Nat) : Prop := ∃ s, s < 64 ∧ B s ≠ 0 ∧ B s / 8 = c ∧ ch_MA B s t
theorem ch_SQ_u {s t t' : Nat} {a b : Int} (h : ch_SQ s a b t) (h' : ch_SQ s a b t') : t = t' := by
  unfold ch_SQ at h h'; omega
theorem ch_SQ_r {s t : Nat} {a b : Int} (h : ch_SQ s a b t) : ch_SQ t (-a) (-b) s := by
  unfold ch_SQ at h ⊢; omega
theorem ch_dr_n {a b : Int} (h : ch_dr a b) : ch_dr (-a) (-b) := by
  unfold ch_dr at h ⊢; omega
theorem ch_kn_n {a b : Int} (h : ch_kn a b) : ch_kn (-a) (-b) := by
  unfold ch_kn at h ⊢; omega
theorem ch_dr_c {a b : Int} (h : ch_dr a b) : (a = -1 ∨ a = 0 ∨ a = 1) ∧ (b = -1 ∨ b = 0 ∨ b = 1) := by
  unfold ch_dr at h; omega
/-- the squares between are on the board -/
theorem ch_SQ_mid {s t : Nat} {a b : Int} {k j : Nat} (hd : ch_dr a b) (hs : s < 64) (ht : t < 64) (h : ch_SQ s (k * a) (k * b) t) (hj : j ≤ k) : ∃ q, q < 64 ∧ ch_SQ s (j * a) (j * b) q := by
  have hd' := ch_dr_c hd
  refine ⟨(8 * (((s / 8 : Nat) : Int) + j * b) + (((s % 8 : Nat) : Int) + j * a)).toNat, ?_⟩
  unfold ch_SQ at h ⊢
  rcases hd' with ⟨rfl | rfl | rfl, rfl | rfl | rfl⟩ <;> omega
theorem ch_LN_r {B : Nat → Nat} {s t : Nat} {a b : Int} {k : Nat} (hd : ch_dr a b) (h : ch_LN B s t a b k) : ch_LN B t s (-a) (-b) k := by
  obtain ⟨h1, h2, h3, h4⟩ := h
  have hd' := ch_dr_c hd
  refine ⟨h1, h2, ?_, fun j j1 j2 q hq hs => h4 (k - j) (by omega) (by omega) q hq ?_⟩
  · unfold ch_SQ at h3 ⊢
    rcases hd' with ⟨rfl | rfl | rfl, rfl | rfl | rfl⟩ <;> omega
  · unfold ch_SQ at h3 hs ⊢
    rcases hd' with ⟨rfl | rfl | rfl, rfl | rfl | rfl⟩ <;> omega
end
section
/-! the component's attack test, walked -/
def ch_BX (a : Nat → Int32) (B : Nat → Nat) : Prop := ∀ i, i < 64 → a i = nI (B i)
theorem ch_bx {a : Nat → Int32} {B : Nat → Nat} (h : ch_BX a B) {i : Nat} (hi : i < 64) : a (nI i).toNatClampNeg = nI (B i) := by
  rw [nI_clamp (by omega)]; exact h i hi
def ch_VM (m : Nat) : Prop := m = 0 ∨ (1 ≤ m ∧ m ≤ 6) ∨ (9 ≤ m ∧ m ≤ 14)
def ch_VB (B : Nat → Nat) : Prop := ∀ i, i < 64 → ch_VM (B i)
theorem ch_VB_lt {B : Nat → Nat} (h : ch_VB B) {i : Nat} (hi : i < 64) : B i < 15 := by
  have := h i hi; unfold ch_VM at this; omega
section
variable {f_clockTop f_numberTop f_strict f_side f_rights f_passant f_clock f_number f_lineLen f_outLen f_moveTotal f_movesKnown f_savedSide f_savedRights f_savedPassant f_savedClock f_savedNumber f_spellLen f_at f_end f_writtenMark f_writtenCastling f_writtenPromotion f_writtenTarget f_writtenCapture f_writtenRank f_writtenFile f_writtenKind : Int32} {a_board a_line a_out a_moves a_savedBoard a_spell : Nat → Int32}
theorem ch_x_sqz {post : Int32 → Prop} (f r : Int) (hf : -1000 < f ∧ f < 1000) (hr : -1000 < r ∧ r < 1000) (h0 : ¬ (0 ≤ f ∧ f ≤ 7 ∧ 0 ≤ r ∧ r ≤ 7) → post (-1)) (h1 : 0 ≤ f → f ≤ 7 → 0 ≤ r → r ≤ 7 → post (ch_zI (8 * r + f))) : wpX_squareAt post (f_clockTop, f_numberTop, f_strict, f_side, f_rights, f_passant, f_clock, f_number, f_lineLen, f_outLen, f_moveTotal, f_movesKnown, f_savedSide, f_savedRights, f_savedPassant, f_savedClock, f_savedNumber, f_spellLen, f_at, f_end, f_writtenMark, f_writtenCastling, f_writtenPromotion, f_writtenTarget, f_writtenCapture, f_writtenRank, f_writtenFile, f_writtenKind, a_board, a_line, a_out, a_moves, a_savedBoard, a_spell) (ch_zI f) (ch_zI r) := by
  refine ch_zk_lt f 0 (fun c => h0 (by omega)) (fun c => ch_zk_lt 7 f (fun c2 => h0 (by omega)) (fun c2 => ch_zk_lt r 0 (fun c3 => h0 (by omega)) (fun c3 => ch_zk_le r 7 (fun c4 => ?_) (fun c4 => h0 (by omega)))))
  have h := h1 c (by omega) c3 c4
  rw [ch_zI_8, ch_zI_mul, ch_zI_add]
  exact h
theorem ch_x_sq {post : Int32 → Prop} (s : Nat) (a b : Int) (hs : s < 64) (ha : -100 < a ∧ a < 100) (hb : -100 < b ∧ b < 100) (h0 : (∀ q, q < 64 → ¬ ch_SQ s a b q) → post (-1)) (h1 : ∀ q, q < 64 → ch_SQ s a b q → post (nI q)) : wpX_squareAt post (f_clockTop, f_numberTop, f_strict, f_side, f_rights, f_passant, f_clock, f_number, f_lineLen, f_outLen, f_moveTotal, f_movesKnown, f_savedSide, f_savedRights, f_savedPassant, f_savedClock, f_savedNumber, f_spellLen, f_at, f_end, f_writtenMark, f_writtenCastling, f_writtenPromotion, f_writtenTarget, f_writtenCapture, f_writtenRank, f_writtenFile, f_writtenKind, a_board, a_line, a_out, a_moves, a_savedBoard, a_spell) ((nI s &&& 7) + ch_zI a) ((nI s >>> ((3 : Int32) &&& 31)) + ch_zI b) := by
  rw [ch_nI_a7 (by omega), ch_nI_r3 (by omega), ch_zI_n', ch_zI_n', ch_zI_add, ch_zI_add]
  refine ch_x_sqz _ _ (by omega) (by omega) (fun c => h0 ?_) (fun c1 c2 c3 c4 => ?_)
  · intro q hq
    unfold ch_SQ
    omega
  · have e : (8 * (((s / 8 : Nat) : Int) + b) + (((s % 8 : Nat) : Int) + a)) = (((8 * (((s / 8 : Nat) : Int) + b) + (((s % 8 : Nat) : Int) + a)).toNat : Nat) : Int) := by omega
    rw [e, ch_zI_n]
    refine h1 _ (by omega) ?_
    unfold ch_SQ
    omega
def ch_PA (B : Nat → Nat) (t c : Nat) : Prop := ∃ q, q < 64 ∧ (ch_SQ t (-1) (- ch_fw c) q ∨ ch_SQ t 1 (- ch_fw c) q) ∧ B q = 8 * c + 1
theorem ch_x_pawnL2 {post : Int32 → Prop} {B : Nat → Nat} {t m : Nat} {b : Int} (hB : ch_BX a_board B) (hV : ch_VB B) (ht : t < 64) (ch_hm : m < 16) (hb : b = -1 ∨ b = 1) (h1 : (∃ q, q < 64 ∧ ch_SQ t 1 b q ∧ B q = m) → post 1) (h0 : ¬ (∃ q, q < 64 ∧ ch_SQ t 1 b q ∧ B q = m) → post 0) : wX_pawnAttacks_25 post (nI t) (nI m) ((nI t >>> ((3 : Int32) &&& 31)) + ch_zI b) f_clockTop f_numberTop f_strict f_side f_rights f_passant f_clock f_number f_lineLen f_outLen f_moveTotal f_movesKnown f_savedSide f_savedRights f_savedPassant f_savedClock f_savedNumber f_spellLen f_at f_end f_writtenMark f_writtenCastling f_writtenPromotion f_writtenTarget f_writtenCapture f_writtenRank f_writtenFile f_writtenKind a_board a_line a_out a_moves a_savedBoard a_spell 2 1 := by
  refine br_f (by decide) ?_
  rw [ch_zI_1]
  have hb2 : -100 < b ∧ b < 100 := by clear h1 h0; omega
  refine ch_x_sq t 1 b ht (by decide) hb2 (fun n1 => ?_) (fun q hq s1 => ?_)
  · refine br_t (by decide) (nm_r (e' := 3) (by decide) (br_t (by decide) (h0 ?_)))
    rintro ⟨q, hq, z, _⟩
    exact n1 q hq z
  · refine br_f (nI_pos (by omega)) ⟨vp_in_nI hq (by omega), pk_eq (B q) m (fun e => h1 ⟨q, hq, s1, e⟩) (fun e => nm_r (e' := 3) (by decide) (br_t (by decide) (h0 ?_))) (ch_bx hB hq) rfl (by have := ch_VB_lt hV hq; omega) (by omega)⟩
    rintro ⟨q', hq', z, w⟩
    exact e (ch_SQ_u s1 z ▸ w)
theorem ch_x_pawnL {post : Int32 → Prop} {B : Nat → Nat} {t m : Nat} {b : Int} (hB : ch_BX a_board B) (hV : ch_VB B) (ht : t < 64) (ch_hm : m < 16) (hb : b = -1 ∨ b = 1) (h1 : (∃ q, q < 64 ∧ (ch_SQ t (-1) b q ∨ ch_SQ t 1 b q) ∧ B q = m) → post 1) (h0 : ¬ (∃ q, q < 64 ∧ (ch_SQ t (-1) b q ∨ ch_SQ t 1 b q) ∧ B q = m) → post 0) : wX_pawnAttacks_25 post (nI t) (nI m) ((nI t >>> ((3 : Int32) &&& 31)) + ch_zI b) f_clockTop f_numberTop f_strict f_side f_rights f_passant f_clock f_number f_lineLen f_outLen f_moveTotal f_movesKnown f_savedSide f_savedRights f_savedPassant f_savedClock f_savedNumber f_spellLen f_at f_end f_writtenMark f_writtenCastling f_writtenPromotion f_writtenTarget f_writtenCapture f_writtenRank f_writtenFile f_writtenKind a_board a_line a_out a_moves a_savedBoard a_spell 3 (-1) := by
  refine br_f (by decide) ?_
  rw [ch_zI_m1]
  have go : (¬ ∃ q, q < 64 ∧ ch_SQ t (-1) b q ∧ B q = m) → wX_pawnAttacks_25 post (nI t) (nI m) ((nI t >>> ((3 : Int32) &&& 31)) + ch_zI b) f_clockTop f_numberTop f_strict f_side f_rights f_passant f_clock f_number f_lineLen f_outLen f_moveTotal f_movesKnown f_savedSide f_savedRights f_savedPassant f_savedClock f_savedNumber f_spellLen f_at f_end f_writtenMark f_writtenCastling f_writtenPromotion f_writtenTarget f_writtenCapture f_writtenRank f_writtenFile f_writtenKind a_board a_line a_out a_moves a_savedBoard a_spell 2 1 := by
    intro n1
    refine ch_x_pawnL2 hB hV ht ch_hm hb ?_ ?_
    · rintro ⟨q, hq, z, w⟩
      exact h1 ⟨q, hq, Or.inr z, w⟩
    · intro n2
      refine h0 ?_
      rintro ⟨q, hq, z | z, w⟩
      · exact n1 ⟨q, hq, z, w⟩
      · exact n2 ⟨q, hq, z, w⟩
  have hb2 : -100 < b ∧ b < 100 := by clear h1 h0 go; omega
  refine ch_x_sq t (-1) b ht (by decide) hb2 (fun n1 => ?_) (fun q hq s1 => ?_)
  · refine br_t (by decide) (nm_r (e' := 1) (by decide) (go ?_))
    rintro ⟨q, hq, z, _⟩
    exact n1 q hq z
  · refine br_f (nI_pos (by omega)) ⟨vp_in_nI hq (by omega), pk_eq (B q) m (fun e => h1 ⟨q, hq, Or.inl s1, e⟩) (fun e => nm_r (e' := 1) (by decide) (go ?_)) (ch_bx hB hq) rfl (by have := ch_VB_lt hV hq; omega) (by omega)⟩
    rintro ⟨q', hq', z, w⟩
    exact e (ch_SQ_u s1 z ▸ w)
theorem ch_x_pawnAttacks {post : Int32 → Prop} {B : Nat → Nat} {t c : Nat} (hB : ch_BX a_board B) (hV : ch_VB B) (ht : t < 64) (hc : c < 2) (h1 : ch_PA B t c → post 1) (h0 : ¬ ch_PA B t c → post 0) : wpX_pawnAttacks post (f_clockTop, f_numberTop, f_strict, f_side, f_rights, f_passant, f_clock, f_number, f_lineLen, f_outLen, f_moveTotal, f_movesKnown, f_savedSide, f_savedRights, f_savedPassant, f_savedClock, f_savedNumber, f_spellLen, f_at, f_end, f_writtenMark, f_writtenCastling, f_writtenPromotion, f_writtenTarget, f_writtenCapture, f_writtenRank, f_writtenFile, f_writtenKind, a_board, a_line, a_out, a_moves, a_savedBoard, a_spell) (nI t) (nI c) := by
  refine nm_r (e' := nI (8 * c + 1)) (by exact ch_nI_8c c 1) (pk_eq c 0 (fun e => ?_) (fun e => ?_))
  · subst e
    refine nm_r (e' := (nI t >>> ((3 : Int32) &&& 31)) + ch_zI (-1)) (by rw [ch_zI_m1]) ⟨3, ch_x_pawnL hB hV ht (by omega) (Or.inl rfl) h1 h0⟩
  · obtain rfl : c = 1 := by omega
    refine nm_r (e' := (nI t >>> ((3 : Int32) &&& 31)) + ch_zI 1) (by rw [ch_zI_1]) ⟨3, ch_x_pawnL hB hV ht (by omega) (Or.inr rfl) h1 h0⟩
def ch_KA (B : Nat → Nat) (t c : Nat) : Prop := ∃ q a b, q < 64 ∧ ch_kn a b ∧ ch_SQ t a b q ∧ B q = 8 * c + 2
theorem ch_kn_z {a b : Int} (ha : -2 ≤ a ∧ a ≤ 2) (hb : -2 ≤ b ∧ b ≤ 2) : (ch_zI a * ch_zI a + ch_zI b * ch_zI b = 5) ↔ ch_kn a b := by
  have ca : a = -2 ∨ a = -1 ∨ a = 0 ∨ a = 1 ∨ a = 2 := by omega
  have ch_cb : b = -2 ∨ b = -1 ∨ b = 0 ∨ b = 1 ∨ b = 2 := by omega
  unfold ch_kn
  rcases ca with rfl | rfl | rfl | rfl | rfl <;> rcases ch_cb with rfl | rfl | rfl | rfl | rfl <;> decide
theorem ch_x_knight21 {post : Int32 → Prop} {J : Int32 → Prop} {B : Nat → Nat} {t m : Nat} {a : Int} (hB : ch_BX a_board B) (hV : ch_VB B) (ht : t < 64) (ch_hm : m < 16) (ha : -2 ≤ a ∧ a ≤ 2) (h1 : (∃ q b, q < 64 ∧ ch_kn a b ∧ ch_SQ t a b q ∧ B q = m) → post 1) (h0 : ¬ (∃ q b, q < 64 ∧ ch_kn a b ∧ ch_SQ t a b q ∧ B q = m) → J (ch_zI (a + 1))) : wX_knightAttacks_21 post J (nI t) (nI m) (ch_zI a) f_clockTop f_numberTop f_strict f_side f_rights f_passant f_clock f_number f_lineLen f_outLen f_moveTotal f_movesKnown f_savedSide f_savedRights f_savedPassant f_savedClock f_savedNumber f_spellLen f_at f_end f_writtenMark f_writtenCastling f_writtenPromotion f_writtenTarget f_writtenCapture f_writtenRank f_writtenFile f_writtenKind a_board a_line a_out a_moves a_savedBoard a_spell 6 (-2) := by
  rw [ch_zI_m2]
  refine ch_fz (σ := Unit) (fun n _ z => wX_knightAttacks_21 post J (nI t) (nI m) (ch_zI a) f_clockTop f_numberTop f_strict f_side f_rights f_passant f_clock f_number f_lineLen f_outLen f_moveTotal f_movesKnown f_savedSide f_savedRights f_savedPassant f_savedClock f_savedNumber f_spellLen f_at f_end f_writtenMark f_writtenCastling f_writtenPromotion f_writtenTarget f_writtenCapture f_writtenRank f_writtenFile f_writtenKind a_board a_line a_out a_moves a_savedBoard a_spell n z) (fun z _ => -2 ≤ z ∧ ¬ ∃ q b, q < 64 ∧ b < z ∧ ch_kn a b ∧ ch_SQ t a b q ∧ B q = m) 2 ?_ ?_ 5 (-2) () (by omega) ⟨by omega, ?_⟩
  · rintro n _ ⟨_, hn⟩
    refine br_t (by decide) (nm_r (ch_zI_s a) (h0 ?_))
    rintro ⟨q, b, hq, hk, hs, hb⟩
    exact hn ⟨q, b, hq, by unfold ch_kn at hk; omega, hk, hs, hb⟩
  · rintro n z _ hz ⟨hz2, hn⟩ ih
    have go : (¬ ∃ q, q < 64 ∧ ch_kn a z ∧ ch_SQ t a z q ∧ B q = m) → wX_knightAttacks_21 post J (nI t) (nI m) (ch_zI a) f_clockTop f_numberTop f_strict f_side f_rights f_passant f_clock f_number f_lineLen f_outLen f_moveTotal f_movesKnown f_savedSide f_savedRights f_savedPassant f_savedClock f_savedNumber f_spellLen f_at f_end f_writtenMark f_writtenCastling f_writtenPromotion f_writtenTarget f_writtenCapture f_writtenRank f_writtenFile f_writtenKind a_board a_line a_out a_moves a_savedBoard a_spell n (ch_zI (z + 1)) := by
      intro n2
      refine ih () ⟨by omega, ?_⟩
      rintro ⟨q, b, hq, hlt, hk, hs, hb⟩
      by_cases e : b = z
      · subst e; exact n2 ⟨q, hq, hk, hs, hb⟩
      · exact hn ⟨q, b, hq, by omega, hk, hs, hb⟩
    refine ch_zk_lt 2 z (fun c => by omega) (fun _ => br_c (fun c => ?_) (fun c => nm_r (ch_zI_s z) (go ?_)))
    · have hk := (ch_kn_z ha ⟨hz2, hz⟩).mp c
      refine ch_x_sq t a z ht (by omega) (by omega) (fun n1 => ?_) (fun q hq s1 => ?_)
      · refine br_t (by decide) (nm_r (ch_zI_s z) (go ?_))
        rintro ⟨q, hq, _, w, _⟩
        exact n1 q hq w
      · refine br_f (nI_pos (by omega)) ⟨vp_in_nI hq (by omega), pk_eq (B q) m (fun e => h1 ⟨q, z, hq, hk, s1, e⟩) (fun e => nm_r (ch_zI_s z) (go ?_)) (ch_bx hB hq) rfl (by have := ch_VB_lt hV hq; omega) (by omega)⟩
        rintro ⟨q', hq', _, w, y⟩
        exact e (ch_SQ_u s1 w ▸ y)
    · rintro ⟨q, hq, hk, _, _⟩
      exact c ((ch_kn_z ha ⟨hz2, hz⟩).mpr hk)
  · rintro ⟨q, b, hq, hlt, hk, _⟩
    unfold ch_kn at hk; omega
theorem ch_x_knightAttacks {post : Int32 → Prop} {B : Nat → Nat} {t c : Nat} (hB : ch_BX a_board B) (hV : ch_VB B) (ht : t < 64) (hc : c < 2) (h1 : ch_KA B t c → post 1) (h0 : ¬ ch_KA B t c → post 0) : wpX_knightAttacks post (f_clockTop, f_numberTop, f_strict, f_side, f_rights, f_passant, f_clock, f_number, f_lineLen, f_outLen, f_moveTotal, f_movesKnown, f_savedSide, f_savedRights, f_savedPassant, f_savedClock, f_savedNumber, f_spellLen, f_at, f_end, f_writtenMark, f_writtenCastling, f_writtenPromotion, f_writtenTarget, f_writtenCapture, f_writtenRank, f_writtenFile, f_writtenKind, a_board, a_line, a_out, a_moves, a_savedBoard, a_spell) (nI t) (nI c) := by
  refine nm_r (e' := nI (8 * c + 2)) (by exact ch_nI_8c c 2) ⟨6, ?_⟩
  rw [ch_zI_m2]
  refine ch_fz (σ := Unit) (fun n _ z => wX_knightAttacks_11 post (nI t) (nI (8 * c + 2)) f_clockTop f_numberTop f_strict f_side f_rights f_passant f_clock f_number f_lineLen f_outLen f_moveTotal f_movesKnown f_savedSide f_savedRights f_savedPassant f_savedClock f_savedNumber f_spellLen f_at f_end f_writtenMark f_writtenCastling f_writtenPromotion f_writtenTarget f_writtenCapture f_writtenRank f_writtenFile f_writtenKind a_board a_line a_out a_moves a_savedBoard a_spell n z) (fun z _ => -2 ≤ z ∧ ¬ ∃ q a b, q < 64 ∧ a < z ∧ ch_kn a b ∧ ch_SQ t a b q ∧ B q = 8 * c + 2) 2 ?_ ?_ 5 (-2) () (by omega) ⟨by omega, ?_⟩
  · rintro n _ ⟨_, hn⟩
    refine br_t (by decide) (h0 ?_)
    rintro ⟨q, a, b, hq, hk, hs, hb⟩
    exact hn ⟨q, a, b, hq, by unfold ch_kn at hk; omega, hk, hs, hb⟩
  · rintro n z _ hz ⟨hz2, hn⟩ ih
    refine ch_zk_lt 2 z (fun c => by omega) (fun _ => ⟨6, ch_x_knight21 hB hV ht (by omega) ⟨hz2, hz⟩ ?_ ?_⟩)
    · rintro ⟨q, b, hq, hk, hs, hb⟩
      exact h1 ⟨q, z, b, hq, hk, hs, hb⟩
    · intro n2
      refine ih () ⟨by omega, ?_⟩
      rintro ⟨q, a, b, hq, hlt, hk, hs, hb⟩
      by_cases e : a = z
      · subst e; exact n2 ⟨q, b, hq, hk, hs, hb⟩
      · exact hn ⟨q, a, b, hq, by omega, hk, hs, hb⟩
  · rintro ⟨q, a, b, hq, hlt, hk, _⟩
    unfold ch_kn at hk; omega
def ch_RA (B : Nat → Nat) (t c : Nat) (a b : Int) : Prop := ∃ k q, q < 64 ∧ ch_LN B t q a b k ∧ B q ≠ 0 ∧ B q / 8 = c ∧ (B q % 8 = 5 ∨ (B q % 8 = 3 ∧ a ≠ 0 ∧ b ≠ 0) ∨ (B q % 8 = 4 ∧ (a = 0 ∨ b = 0)) ∨ (B q % 8 = 6 ∧ k = 1))
theorem ch_nI_zm (k : Nat) (a : Int) : nI k * ch_zI a = ch_zI (k * a) := by rw [ch_zI_n', ch_zI_mul]
theorem ch_x_ray19 {post : Int32 → Prop} {B : Nat → Nat} {t c sl : Nat} {a b : Int} (hB : ch_BX a_board B) (hV : ch_VB B) (ht : t < 64) (hc : c < 2) (hd : ch_dr a b) (hsl : (sl = 3 ∧ a ≠ 0 ∧ b ≠ 0) ∨ (sl = 4 ∧ (a = 0 ∨ b = 0))) (h1 : ch_RA B t c a b → post 1) (h0 : ¬ ch_RA B t c a b → post 0) : ∀ (n k : Nat), 1 ≤ k → k ≤ 8 → 8 < n + k → (∀ j : Nat, 1 ≤ j → j < k → ∃ q, q < 64 ∧ ch_SQ t (j * a) (j * b) q ∧ B q = 0) → wX_rayAttacks_19 post (nI t) (nI c) (ch_zI a) (ch_zI b) (nI sl) f_clockTop f_numberTop f_strict f_side f_rights f_passant f_clock f_number f_lineLen f_outLen f_moveTotal f_movesKnown f_savedSide f_savedRights f_savedPassant f_savedClock f_savedNumber f_spellLen f_at f_end f_writtenMark f_writtenCastling f_writtenPromotion f_writtenTarget f_writtenCapture f_writtenRank f_writtenFile f_writtenKind a_board a_line a_out a_moves a_savedBoard a_spell n (nI k) := by
  intro n
  induction n with
  | zero => intro k k1 k2 k3; omega
  | succ n ih =>
    intro k k1 k2 k3 hj
    have hd' := ch_dr_c hd
    have ch_lo : ∀ j q, 1 ≤ j → j < k → q < 64 → ch_SQ t (j * a) (j * b) q → B q = 0 := by
      intro j q j1 j2 hq hs
      obtain ⟨q', _, hs', e⟩ := hj j j1 j2
      exact ch_SQ_u hs' hs ▸ e
    refine pk_lt 7 k (fun e => h0 ?_) (fun e => ?_)
    · rintro ⟨k', q, hq, ⟨l1, l2, l3, l4⟩, n0, _⟩
      exact n0 (ch_lo k' q l1 (by omega) hq l3)
    · rw [ch_nI_zm, ch_nI_zm]
      refine ch_x_sq t (k * a) (k * b) ht (by rcases hd' with ⟨rfl | rfl | rfl, _⟩ <;> omega) (by rcases hd' with ⟨_, rfl | rfl | rfl⟩ <;> omega) (fun n1 => ?_) (fun q hq s1 => ?_)
      · refine br_f (by decide) (h0 ?_)
        rintro ⟨k', q, hq, ⟨l1, l2, l3, l4⟩, n0, _⟩
        by_cases e2 : k' < k
        · exact n0 (ch_lo k' q l1 e2 hq l3)
        · obtain ⟨q2, hq2, hs2⟩ := ch_SQ_mid hd ht hq l3 (j := k) (by omega)
          exact n1 q2 hq2 hs2
      · have hv := hV q hq
        unfold ch_VM at hv
        refine br_t (nI_pos' (by omega)) ⟨vp_in_nI hq (by omega), nm_r (ch_bx hB hq) (pk_eq (B q) 0 (fun e0 => nm_r (nI_1 k) (ih (k + 1) (by omega) (by omega) (by omega) ?_)) (fun e0 => ?_))⟩
        · intro j j1 j2
          by_cases e3 : j = k
          · subst e3; exact ⟨q, hq, s1, e0⟩
          · exact hj j j1 (by omega)
        · have none : ∀ P : Prop, (∀ k', ch_LN B t q a b k' → k' = k → P) → (ch_RA B t c a b → B q / 8 = c ∧ (B q % 8 = 5 ∨ (B q % 8 = 3 ∧ a ≠ 0 ∧ b ≠ 0) ∨ (B q % 8 = 4 ∧ (a = 0 ∨ b = 0)) ∨ (B q % 8 = 6 ∧ k = 1))) := by
            rintro P _ ⟨k', q', hq', ⟨l1, l2, l3, l4⟩, n0, hcl, hkd⟩
            have ek : k' = k := by
              by_cases e2 : k' < k
              · exact absurd (ch_lo k' q' l1 e2 hq' l3) n0
              · by_cases e4 : k' = k
                · exact e4
                · exact absurd (l4 k k1 (by omega) q hq s1) e0
            subst ek
            obtain rfl := ch_SQ_u s1 l3
            exact ⟨hcl, hkd⟩
          have nn := none True (fun _ _ _ => trivial)
          have yes : B q / 8 = c → (B q % 8 = 5 ∨ (B q % 8 = 3 ∧ a ≠ 0 ∧ b ≠ 0) ∨ (B q % 8 = 4 ∧ (a = 0 ∨ b = 0)) ∨ (B q % 8 = 6 ∧ k = 1)) → ch_RA B t c a b := fun x y => ⟨k, q, hq, ⟨k1, by omega, s1, fun j j1 j2 q' hq' hs' => ch_lo j q' j1 j2 hq' hs'⟩, e0, x, y⟩
          refine nm_r (ch_nI_a7 (by omega)) ?_
          rw [ch_nI_r3 (by omega)]
          refine pk_eq (B q / 8) c (fun ec => ?_) (fun ec => h0 (fun z => ec (nn z).1))
          refine pk_eq (B q % 8) 5 (fun e5 => h1 (yes ec (Or.inl e5))) (fun e5 => ?_)
          refine pk_eq (B q % 8) sl (fun e6 => h1 (yes ec ?_)) (fun e6 => ?_)
          · rcases hsl with ⟨rfl, w1, w2⟩ | ⟨rfl, w⟩
            · exact Or.inr (Or.inl ⟨e6, w1, w2⟩)
            · exact Or.inr (Or.inr (Or.inl ⟨e6, w⟩))
          · refine pk_eq (B q % 8) 6 (fun e7 => pk_eq k 1 (fun e8 => h1 (yes ec (Or.inr (Or.inr (Or.inr ⟨e7, e8⟩))))) (fun e8 => h0 (fun z => ?_))) (fun e7 => h0 (fun z => ?_))
            · have := (nn z).2; omega
            · have := (nn z).2; omega
theorem ch_x_rayAttacks {post : Int32 → Prop} {B : Nat → Nat} {t c : Nat} {a b : Int} (hB : ch_BX a_board B) (hV : ch_VB B) (ht : t < 64) (hc : c < 2) (hd : ch_dr a b) (h1 : ch_RA B t c a b → post 1) (h0 : ¬ ch_RA B t c a b → post 0) : wpX_rayAttacks post (f_clockTop, f_numberTop, f_strict, f_side, f_rights, f_passant, f_clock, f_number, f_lineLen, f_outLen, f_moveTotal, f_movesKnown, f_savedSide, f_savedRights, f_savedPassant, f_savedClock, f_savedNumber, f_spellLen, f_at, f_end, f_writtenMark, f_writtenCastling, f_writtenPromotion, f_writtenTarget, f_writtenCapture, f_writtenRank, f_writtenFile, f_writtenKind, a_board, a_line, a_out, a_moves, a_savedBoard, a_spell) (nI t) (nI c) (ch_zI a) (ch_zI b) := by
  have hd2 := hd
  unfold ch_dr at hd2
  refine ch_zk_eq a 0 (fun e => ⟨8, ?_⟩) (fun e => ch_zk_eq b 0 (fun e2 => ⟨8, ?_⟩) (fun e2 => ⟨8, ?_⟩))
  · exact ch_x_ray19 (sl := 4) hB hV ht hc hd (Or.inr ⟨rfl, Or.inl e⟩) h1 h0 8 1 (by omega) (by omega) (by omega) (fun j j1 j2 => by omega)
  · exact ch_x_ray19 (sl := 4) hB hV ht hc hd (Or.inr ⟨rfl, Or.inr e2⟩) h1 h0 8 1 (by omega) (by omega) (by omega) (fun j j1 j2 => by omega)
  · exact ch_x_ray19 (sl := 3) hB hV ht hc hd (Or.inl ⟨rfl, e, e2⟩) h1 h0 8 1 (by omega) (by omega) (by omega) (fun j j1 j2 => by omega)
def ch_LA (B : Nat → Nat) (t c : Nat) : Prop := ∃ a b, ch_dr a b ∧ ch_RA B t c a b
theorem ch_x_line10 {post : Int32 → Prop} {J : Int32 → Prop} {B : Nat → Nat} {t c : Nat} {a : Int} (hB : ch_BX a_board B) (hV : ch_VB B) (ht : t < 64) (hc : c < 2) (ha : -1 ≤ a ∧ a ≤ 1) (h1 : (∃ b, ch_dr a b ∧ ch_RA B t c a b) → post 1) (h0 : ¬ (∃ b, ch_dr a b ∧ ch_RA B t c a b) → J (ch_zI (a + 1))) : wX_lineAttacks_10 post J (nI t) (nI c) (ch_zI a) f_clockTop f_numberTop f_strict f_side f_rights f_passant f_clock f_number f_lineLen f_outLen f_moveTotal f_movesKnown f_savedSide f_savedRights f_savedPassant f_savedClock f_savedNumber f_spellLen f_at f_end f_writtenMark f_writtenCastling f_writtenPromotion f_writtenTarget f_writtenCapture f_writtenRank f_writtenFile f_writtenKind a_board a_line a_out a_moves a_savedBoard a_spell 4 (-1) := by
  rw [ch_zI_m1]
  refine ch_fz (σ := Unit) (fun n _ z => wX_lineAttacks_10 post J (nI t) (nI c) (ch_zI a) f_clockTop f_numberTop f_strict f_side f_rights f_passant f_clock f_number f_lineLen f_outLen f_moveTotal f_movesKnown f_savedSide f_savedRights f_savedPassant f_savedClock f_savedNumber f_spellLen f_at f_end f_writtenMark f_writtenCastling f_writtenPromotion f_writtenTarget f_writtenCapture f_writtenRank f_writtenFile f_writtenKind a_board a_line a_out a_moves a_savedBoard a_spell n z) (fun z _ => -1 ≤ z ∧ ¬ ∃ b, b < z ∧ ch_dr a b ∧ ch_RA B t c a b) 1 ?_ ?_ 3 (-1) () (by omega) ⟨by omega, ?_⟩
  · rintro n _ ⟨_, hn⟩
    refine br_t (by decide) (nm_r (ch_zI_s a) (h0 ?_))
    rintro ⟨b, hd, hr⟩
    exact hn ⟨b, by unfold ch_dr at hd; omega, hd, hr⟩
  · rintro n z _ hz ⟨hz2, hn⟩ ih
    have go : (¬ (ch_dr a z ∧ ch_RA B t c a z)) → wX_lineAttacks_10 post J (nI t) (nI c) (ch_zI a) f_clockTop f_numberTop f_strict f_side f_rights f_passant f_clock f_number f_lineLen f_outLen f_moveTotal f_movesKnown f_savedSide f_savedRights f_savedPassant f_savedClock f_savedNumber f_spellLen f_at f_end f_writtenMark f_writtenCastling f_writtenPromotion f_writtenTarget f_writtenCapture f_writtenRank f_writtenFile f_writtenKind a_board a_line a_out a_moves a_savedBoard a_spell n (ch_zI (z + 1)) := by
      intro n2
      refine ih () ⟨by omega, ?_⟩
      rintro ⟨b, hlt, hd, hr⟩
      by_cases e : b = z
      · subst e; exact n2 ⟨hd, hr⟩
      · exact hn ⟨b, by omega, hd, hr⟩
    have ray : ch_dr a z → wX_lineAttacks_25 post J (wX_lineAttacks_10 post J (nI t) (nI c) (ch_zI a) f_clockTop f_numberTop f_strict f_side f_rights f_passant f_clock f_number f_lineLen f_outLen f_moveTotal f_movesKnown f_savedSide f_savedRights f_savedPassant f_savedClock f_savedNumber f_spellLen f_at f_end f_writtenMark f_writtenCastling f_writtenPromotion f_writtenTarget f_writtenCapture f_writtenRank f_writtenFile f_writtenKind a_board a_line a_out a_moves a_savedBoard a_spell n) (nI t) (nI c) (ch_zI a) (ch_zI z) f_clockTop f_numberTop f_strict f_side f_rights f_passant f_clock f_number f_lineLen f_outLen f_moveTotal f_movesKnown f_savedSide f_savedRights f_savedPassant f_savedClock f_savedNumber f_spellLen f_at f_end f_writtenMark f_writtenCastling f_writtenPromotion f_writtenTarget f_writtenCapture f_writtenRank f_writtenFile f_writtenKind a_board a_line a_out a_moves a_savedBoard a_spell := by
      intro hd
      refine ch_x_rayAttacks hB hV ht hc hd (fun r => br_f (by decide) (h1 ⟨z, hd, r⟩)) (fun r => br_t rfl (nm_r (ch_zI_s z) (go (fun w => r w.2))))
    refine ch_zk_lt 1 z (fun c => by omega) (fun _ => ch_zk_eq a 0 (fun ea => ch_zk_eq z 0 (fun ez => nm_r (ch_zI_s z) (go ?_)) (fun ez => ?_)) (fun ea => ?_))
    · rintro ⟨hd, _⟩
      unfold ch_dr at hd; omega
    · exact ray (by unfold ch_dr; omega)
    · exact ray (by unfold ch_dr; omega)
  · rintro ⟨b, hlt, hd, _⟩
    unfold ch_dr at hd; omega
theorem ch_x_lineAttacks {post : Int32 → Prop} {B : Nat → Nat} {t c : Nat} (hB : ch_BX a_board B) (hV : ch_VB B) (ht : t < 64) (hc : c < 2) (h1 : ch_LA B t c → post 1) (h0 : ¬ ch_LA B t c → post 0) : wpX_lineAttacks post (f_clockTop, f_numberTop, f_strict, f_side, f_rights, f_passant, f_clock, f_number, f_lineLen, f_outLen, f_moveTotal, f_movesKnown, f_savedSide, f_savedRights, f_savedPassant, f_savedClock, f_savedNumber, f_spellLen, f_at, f_end, f_writtenMark, f_writtenCastling, f_writtenPromotion, f_writtenTarget, f_writtenCapture, f_writtenRank, f_writtenFile, f_writtenKind, a_board, a_line, a_out, a_moves, a_savedBoard, a_spell) (nI t) (nI c) := by
  refine ⟨4, ?_⟩
  rw [ch_zI_m1]
  refine ch_fz (σ := Unit) (fun n _ z => wX_lineAttacks_2 post (nI t) (nI c) f_clockTop f_numberTop f_strict f_side f_rights f_passant f_clock f_number f_lineLen f_outLen f_moveTotal f_movesKnown f_savedSide f_savedRights f_savedPassant f_savedClock f_savedNumber f_spellLen f_at f_end f_writtenMark f_writtenCastling f_writtenPromotion f_writtenTarget f_writtenCapture f_writtenRank f_writtenFile f_writtenKind a_board a_line a_out a_moves a_savedBoard a_spell n z) (fun z _ => -1 ≤ z ∧ ¬ ∃ a b, a < z ∧ ch_dr a b ∧ ch_RA B t c a b) 1 ?_ ?_ 3 (-1) () (by omega) ⟨by omega, ?_⟩
  · rintro n _ ⟨_, hn⟩
    refine br_t (by decide) (h0 ?_)
    rintro ⟨a, b, hd, hr⟩
    exact hn ⟨a, b, by unfold ch_dr at hd; omega, hd, hr⟩
  · rintro n z _ hz ⟨hz2, hn⟩ ih
    refine ch_zk_lt 1 z (fun c => by omega) (fun _ => ⟨4, ch_x_line10 hB hV ht hc ⟨hz2, hz⟩ ?_ ?_⟩)
    · rintro ⟨b, hd, hr⟩
      exact h1 ⟨z, b, hd, hr⟩
    · intro n2
      refine ih () ⟨by omega, ?_⟩
      rintro ⟨a, b, hlt, hd, hr⟩
      by_cases e : a = z
      · subst e; exact n2 ⟨b, hd, hr⟩
      · exact hn ⟨a, b, by omega, hd, hr⟩
  · rintro ⟨a, b, hlt, hd, _⟩
    unfold ch_dr at hd; omega
/-- what the component's test finds is what the reference's finds -/
theorem ch_XA_iff {B : Nat → Nat} {t c : Nat} (hV : ch_VB B) (ht : t < 64) (hc : c < 2) : (ch_PA B t c ∨ ch_KA B t c ∨ ch_LA B t c) ↔ ch_AT B t c := by
  constructor
  · rintro (⟨q, hq, hs, e⟩ | ⟨q, a, b, hq, hk, hs, e⟩ | ⟨a, b, hd, k, q, hq, hl, n0, hcl, hkd⟩)
    · refine ⟨q, hq, by omega, by omega, Or.inl ⟨by omega, ?_⟩⟩
      rw [show B q / 8 = c from by omega]
      rcases hs with hs | hs
      · right; have := ch_SQ_r hs; simpa using this
      · left; have := ch_SQ_r hs; simpa using this
    · exact ⟨q, hq, by omega, by omega, Or.inr (Or.inl ⟨by omega, -a, -b, ch_kn_n hk, ch_SQ_r hs⟩)⟩
    · refine ⟨q, hq, n0, hcl, ?_⟩
      rcases hkd with z | ⟨z, w1, w2⟩ | ⟨z, w⟩ | ⟨z, w⟩
      · exact Or.inr (Or.inr (Or.inr ⟨-a, -b, k, ch_dr_n hd, ch_LN_r hd hl, Or.inl z⟩))
      · exact Or.inr (Or.inr (Or.inr ⟨-a, -b, k, ch_dr_n hd, ch_LN_r hd hl, Or.inr (Or.inl ⟨z, by omega, by omega⟩)⟩))
      · exact Or.inr (Or.inr (Or.inr ⟨-a, -b, k, ch_dr_n hd, ch_LN_r hd hl, Or.inr (Or.inr ⟨z, by omega⟩)⟩))
      · subst w
        refine Or.inr (Or.inr (Or.inl ⟨z, -a, -b, ch_dr_n hd, ?_⟩))
        have h3 := ch_SQ_r hl.2.2.1
        simpa using h3
  · rintro ⟨s, hs, n0, hcl, h⟩
    have hv := hV s hs
    unfold ch_VM at hv
    rcases h with ⟨hk, h⟩ | ⟨hk, a, b, hab, h⟩ | ⟨hk, a, b, hd, h⟩ | ⟨a, b, k, hd, hl, hkd⟩
    · refine Or.inl ⟨s, hs, ?_, by omega⟩
      rw [hcl] at h
      rcases h with h | h
      · right; have := ch_SQ_r h; simpa using this
      · left; have := ch_SQ_r h; simpa using this
    · exact Or.inr (Or.inl ⟨s, -a, -b, hs, ch_kn_n hab, ch_SQ_r h, by omega⟩)
    · refine Or.inr (Or.inr ⟨-a, -b, ch_dr_n hd, 1, s, hs, ⟨by omega, by omega, ?_, fun j j1 j2 => by omega⟩, n0, hcl, Or.inr (Or.inr (Or.inr ⟨hk, rfl⟩))⟩)
      have := ch_SQ_r h
      simpa using this
    · refine Or.inr (Or.inr ⟨-a, -b, ch_dr_n hd, k, s, hs, ch_LN_r hd hl, n0, hcl, ?_⟩)
      rcases hkd with z | ⟨z, w1, w2⟩ | ⟨z, w⟩
      · exact Or.inl z
      · exact Or.inr (Or.inl ⟨z, by omega, by omega⟩)
      · exact Or.inr (Or.inr (Or.inl ⟨z, by omega⟩))
theorem ch_x_isAttacked {post : Int32 → Prop} {B : Nat → Nat} {t c : Nat} (hB : ch_BX a_board B) (hV : ch_VB B) (ht : t < 64) (hc : c < 2) (h1 : ch_AT B t c → post 1) (h0 : ¬ ch_AT B t c → post 0) : wpX_isAttacked post (f_clockTop, f_numberTop, f_strict, f_side, f_rights, f_passant, f_clock, f_number, f_lineLen, f_outLen, f_moveTotal, f_movesKnown, f_savedSide, f_savedRights, f_savedPassant, f_savedClock, f_savedNumber, f_spellLen, f_at, f_end, f_writtenMark, f_writtenCastling, f_writtenPromotion, f_writtenTarget, f_writtenCapture, f_writtenRank, f_writtenFile, f_writtenKind, a_board, a_line, a_out, a_moves, a_savedBoard, a_spell) (nI t) (nI c) := by
  have hx := ch_XA_iff hV ht hc
  refine ch_x_pawnAttacks hB hV ht hc (fun p => br_f (by decide) (h1 (hx.mp (Or.inl p)))) (fun p => br_t rfl ?_)
  refine ch_x_knightAttacks hB hV ht hc (fun q => br_f (by decide) (h1 (hx.mp (Or.inr (Or.inl q))))) (fun q => br_t rfl ?_)
  refine ch_x_lineAttacks hB hV ht hc (fun r => br_f (by decide) (h1 (hx.mp (Or.inr (Or.inr r))))) (fun r => br_t rfl (h0 ?_))
  intro z
  rcases hx.mpr z with z | z | z
  · exact p z
  · exact q z
  · exact r z
end
end
section
/-! the reference's attack test, walked -/
def ch_BY (a : Nat → Int32) (b : Nat) (B : Nat → Nat) : Prop := ∀ i, i < 64 → a (b + i) = nI (B i)
theorem ch_by_ {a : Nat → Int32} {b : Nat} {B : Nat → Nat} (h : ch_BY a b B) {i : Nat} (hi : i < 64) (hb : b < 200) : a (nI b + nI i).toNatClampNeg = nI (B i) := by
  rw [nI_add, nI_clamp (by omega)]; exact h i hi
theorem ch_by_in {b i : Nat} (hi : i < 64) (hb : b ≤ 192) : vp_in (nI b + nI i) 256 := by
  rw [nI_add]; exact vp_in_nI (by omega) (by omega)
def ch_sg (z : Int) : Int := if 0 < z then 1 else if z < 0 then -1 else 0
def ch_az (z : Int) : Int := if 0 ≤ z then z else -z
def ch_mz (x y : Int) : Int := if x ≤ y then y else x
/-- all squares strictly between are empty, as the reference asks it -/
def ch_CB (B : Nat → Nat) (s : Nat) (a b far : Int) : Prop := ∀ i : Nat, 1 ≤ i → (i : Int) < far → i < 8 → ∀ q : Nat, q < 64 → (q : Int) = s + i * (8 * b + a) → B q = 0
section
variable {f_side f_rights f_ep f_clock f_number f_lineLen f_outLen f_clockTop f_numberTop f_strict f_textLen f_newSide f_newRights f_newEp f_newClock f_newNumber : Int32} {a_men a_line a_out a_text a_cut : Nat → Int32}
theorem ch_y_clear111 {post : Int32 → Prop} {B : Nat → Nat} {s bs : Nat} {a b far : Int} (hB : ch_BY a_men bs B) (hbs : bs ≤ 192) (hV : ch_VB B) (hs : s < 64) (ha : -1 ≤ a ∧ a ≤ 1) (hb : -1 ≤ b ∧ b ≤ 1) (hf : 0 ≤ far ∧ far ≤ 7) (h1 : ch_CB B s a b far → post 1) (h0 : ¬ ch_CB B s a b far → post 0) : ∀ (n k : Nat), 1 ≤ k → k ≤ 8 → 8 < n + k → (∀ j : Nat, 1 ≤ j → j < k → (j : Int) < far → ∀ q : Nat, q < 64 → (q : Int) = s + j * (8 * b + a) → B q = 0) → wY_clearBetween_111 post (nI bs) (nI s) (ch_zI a) (ch_zI b) (ch_zI far) f_side f_rights f_ep f_clock f_number f_lineLen f_outLen f_clockTop f_numberTop f_strict f_textLen f_newSide f_newRights f_newEp f_newClock f_newNumber a_men a_line a_out a_text a_cut n (nI k) := by
  intro n
  induction n with
  | zero => intro k k1 k2 k3; omega
  | succ n ih =>
    intro k k1 k2 k3 hj
    have ca : a = -1 ∨ a = 0 ∨ a = 1 := by omega
    have ch_cb : b = -1 ∨ b = 0 ∨ b = 1 := by omega
    have go : (∀ q : Nat, q < 64 → (q : Int) = s + k * (8 * b + a) → B q = 0) → k < 8 → wY_clearBetween_111 post (nI bs) (nI s) (ch_zI a) (ch_zI b) (ch_zI far) f_side f_rights f_ep f_clock f_number f_lineLen f_outLen f_clockTop f_numberTop f_strict f_textLen f_newSide f_newRights f_newEp f_newClock f_newNumber a_men a_line a_out a_text a_cut n (nI (k + 1)) := by
      intro hq k8
      refine ih (k + 1) (by omega) (by omega) (by omega) ?_
      intro j j1 j2 jf q hq' e
      by_cases e3 : j = k
      · subst e3; exact hq q hq' e
      · exact hj j j1 (by omega) jf q hq' e
    refine ch_zk_le far k (fun e => h1 ?_) (fun e => ?_) rfl (ch_zI_n' k)
    · intro i i1 i2 i3 q hq e2
      exact hj i i1 (by omega) i2 q hq e2
    · refine pk_le 8 k (fun e2 => by omega) (fun e2 => ?_)
      have e9 : nI s + nI k * (8 * ch_zI b + ch_zI a) = ch_zI (s + k * (8 * b + a)) := by
        rw [ch_zI_8, ch_zI_n', ch_zI_n', ch_zI_mul, ch_zI_add, ch_zI_mul, ch_zI_add]
      refine nm_r e9 ?_
      have hr : -100 < (s : Int) + k * (8 * b + a) ∧ (s : Int) + k * (8 * b + a) < 200 := by
        rcases ca with rfl | rfl | rfl <;> rcases ch_cb with rfl | rfl | rfl <;> omega
      generalize hz : (s : Int) + k * (8 * b + a) = z at hr go
      refine ch_zk_lt z 0 (fun c => nm_r (nI_1 k) (go (fun q hq e3 => by omega) e2)) (fun c => ch_zk_lt 63 z (fun c2 => nm_r (nI_1 k) (go (fun q hq e3 => by omega) e2)) (fun c2 => ?_))
      obtain ⟨q, rfl⟩ : ∃ q : Nat, z = q := ⟨z.toNat, by omega⟩
      have hq : q < 64 := by omega
      rw [ch_zI_n]
      refine ⟨ch_by_in hq hbs, pk_eq (B q) 0 (fun e4 => nm_r (nI_1 k) (go (fun q' hq' e5 => ?_) e2)) (fun e4 => h0 ?_) (ch_by_ hB hq (by omega)) rfl (by have := ch_VB_lt hV hq; omega) (by omega)⟩
      · obtain rfl : q' = q := by omega
        exact e4
      · intro hc
        exact e4 (hc k k1 e e2 q hq hz.symm)
theorem ch_y_clear90 {post : Int32 → Prop} {B : Nat → Nat} {s bs : Nat} {a b x y : Int} (hB : ch_BY a_men bs B) (hbs : bs ≤ 192) (hV : ch_VB B) (hs : s < 64) (ha : -1 ≤ a ∧ a ≤ 1) (hb : -1 ≤ b ∧ b ≤ 1) (hx : 0 ≤ x ∧ x ≤ 7) (hy : 0 ≤ y ∧ y ≤ 7) (h1 : ch_CB B s a b (ch_mz x y) → post 1) (h0 : ¬ ch_CB B s a b (ch_mz x y) → post 0) : wY_clearBetween_90 post (nI bs) (nI s) (ch_zI a) (ch_zI b) (ch_zI x) (ch_zI y) f_side f_rights f_ep f_clock f_number f_lineLen f_outLen f_clockTop f_numberTop f_strict f_textLen f_newSide f_newRights f_newEp f_newClock f_newNumber a_men a_line a_out a_text a_cut := by
  refine ch_zk_le x y (fun e => ⟨8, ?_⟩) (fun e => ⟨8, ?_⟩)
  · have em : ch_mz x y = y := by unfold ch_mz; rw [if_pos e]
    rw [em] at h1 h0
    exact ch_y_clear111 hB hbs hV hs ha hb hy h1 h0 8 1 (by omega) (by omega) (by omega) (fun j j1 j2 => by omega)
  · have em : ch_mz x y = x := by unfold ch_mz; rw [if_neg (by omega)]
    rw [em] at h1 h0
    exact ch_y_clear111 hB hbs hV hs ha hb hx h1 h0 8 1 (by omega) (by omega) (by omega) (fun j j1 j2 => by omega)
theorem ch_y_clear75 {post : Int32 → Prop} {B : Nat → Nat} {s bs : Nat} {a b x y : Int} (hB : ch_BY a_men bs B) (hbs : bs ≤ 192) (hV : ch_VB B) (hs : s < 64) (ha : -1 ≤ a ∧ a ≤ 1) (hb : -1 ≤ b ∧ b ≤ 1) (hx : 0 ≤ x ∧ x ≤ 7) (hy : -7 ≤ y ∧ y ≤ 7) (h1 : ch_CB B s a b (ch_mz x (ch_az y)) → post 1) (h0 : ¬ ch_CB B s a b (ch_mz x (ch_az y)) → post 0) : wY_clearBetween_75 post (nI bs) (nI s) (ch_zI y) (ch_zI a) (ch_zI b) (ch_zI x) f_side f_rights f_ep f_clock f_number f_lineLen f_outLen f_clockTop f_numberTop f_strict f_textLen f_newSide f_newRights f_newEp f_newClock f_newNumber a_men a_line a_out a_text a_cut := by
  refine ch_zk_le 0 y (fun e => ?_) (fun e => ?_)
  · rw [show ch_az y = y from by unfold ch_az; rw [if_pos e]] at h1 h0
    exact ch_y_clear90 hB hbs hV hs ha hb hx ⟨e, hy.2⟩ h1 h0
  · rw [show ch_az y = -y from by unfold ch_az; rw [if_neg (by omega)]] at h1 h0
    rw [ch_zI_neg]
    exact ch_y_clear90 hB hbs hV hs ha hb hx ⟨by omega, by omega⟩ h1 h0
theorem ch_y_clear60 {post : Int32 → Prop} {B : Nat → Nat} {s bs : Nat} {a b x y : Int} (hB : ch_BY a_men bs B) (hbs : bs ≤ 192) (hV : ch_VB B) (hs : s < 64) (ha : -1 ≤ a ∧ a ≤ 1) (hb : -1 ≤ b ∧ b ≤ 1) (hx : -7 ≤ x ∧ x ≤ 7) (hy : -7 ≤ y ∧ y ≤ 7) (h1 : ch_CB B s a b (ch_mz (ch_az x) (ch_az y)) → post 1) (h0 : ¬ ch_CB B s a b (ch_mz (ch_az x) (ch_az y)) → post 0) : wY_clearBetween_60 post (nI bs) (nI s) (ch_zI x) (ch_zI y) (ch_zI a) (ch_zI b) f_side f_rights f_ep f_clock f_number f_lineLen f_outLen f_clockTop f_numberTop f_strict f_textLen f_newSide f_newRights f_newEp f_newClock f_newNumber a_men a_line a_out a_text a_cut := by
  refine ch_zk_le 0 x (fun e => ?_) (fun e => ?_)
  · rw [show ch_az x = x from by unfold ch_az; rw [if_pos e]] at h1 h0
    exact ch_y_clear75 hB hbs hV hs ha hb ⟨e, hx.2⟩ hy h1 h0
  · rw [show ch_az x = -x from by unfold ch_az; rw [if_neg (by omega)]] at h1 h0
    rw [ch_zI_neg]
    exact ch_y_clear75 hB hbs hV hs ha hb ⟨by omega, by omega⟩ hy h1 h0
theorem ch_y_clear39 {post : Int32 → Prop} {B : Nat → Nat} {s bs : Nat} {a x y : Int} (hB : ch_BY a_men bs B) (hbs : bs ≤ 192) (hV : ch_VB B) (hs : s < 64) (ha : -1 ≤ a ∧ a ≤ 1) (hx : -7 ≤ x ∧ x ≤ 7) (hy : -7 ≤ y ∧ y ≤ 7) (h1 : ch_CB B s a (ch_sg y) (ch_mz (ch_az x) (ch_az y)) → post 1) (h0 : ¬ ch_CB B s a (ch_sg y) (ch_mz (ch_az x) (ch_az y)) → post 0) : wY_clearBetween_39 post (nI bs) (nI s) (ch_zI x) (ch_zI y) (ch_zI a) f_side f_rights f_ep f_clock f_number f_lineLen f_outLen f_clockTop f_numberTop f_strict f_textLen f_newSide f_newRights f_newEp f_newClock f_newNumber a_men a_line a_out a_text a_cut := by
  refine ch_zk_le y 0 (fun e => ch_zk_le 0 y (fun e2 => ?_) (fun e2 => ?_)) (fun e => ?_)
  · rw [show ch_sg y = 0 from by unfold ch_sg; rw [if_neg (by omega), if_neg (by omega)]] at h1 h0
    rw [ch_zI_0]
    exact ch_y_clear60 hB hbs hV hs ha (by omega) hx hy h1 h0
  · rw [show ch_sg y = -1 from by unfold ch_sg; rw [if_neg (by omega), if_pos (by omega)]] at h1 h0
    rw [ch_zI_m1]
    exact ch_y_clear60 hB hbs hV hs ha (by omega) hx hy h1 h0
  · rw [show ch_sg y = 1 from by unfold ch_sg; rw [if_pos (by omega)]] at h1 h0
    rw [ch_zI_1]
    exact ch_y_clear60 hB hbs hV hs ha (by omega) hx hy h1 h0
def ch_df (s t : Nat) : Int := ((t % 8 : Nat) : Int) - ((s % 8 : Nat) : Int)
def ch_dq (s t : Nat) : Int := ((t / 8 : Nat) : Int) - ((s / 8 : Nat) : Int)
theorem ch_df_z {s t : Nat} (hs : s < 64) (ht : t < 64) : (nI t &&& 7) - (nI s &&& 7) = ch_zI (ch_df s t) := by
  rw [ch_nI_a7 (by omega), ch_nI_a7 (by omega), ch_zI_n', ch_zI_n', ch_zI_sub]; rfl
theorem ch_dq_z {s t : Nat} (hs : s < 64) (ht : t < 64) : (nI t >>> ((3 : Int32) &&& 31)) - (nI s >>> ((3 : Int32) &&& 31)) = ch_zI (ch_dq s t) := by
  rw [ch_nI_r3 (by omega), ch_nI_r3 (by omega), ch_zI_n', ch_zI_n', ch_zI_sub]; rfl
theorem ch_df_r {s t : Nat} (hs : s < 64) (ht : t < 64) : (-7 ≤ ch_df s t ∧ ch_df s t ≤ 7) ∧ (-7 ≤ ch_dq s t ∧ ch_dq s t ≤ 7) := by
  unfold ch_df ch_dq; omega
theorem ch_y_clear {post : Int32 → Prop} {B : Nat → Nat} {s t bs : Nat} (hB : ch_BY a_men bs B) (hbs : bs ≤ 192) (hV : ch_VB B) (hs : s < 64) (ht : t < 64) (h1 : ch_CB B s (ch_sg (ch_df s t)) (ch_sg (ch_dq s t)) (ch_mz (ch_az (ch_df s t)) (ch_az (ch_dq s t))) → post 1) (h0 : ¬ ch_CB B s (ch_sg (ch_df s t)) (ch_sg (ch_dq s t)) (ch_mz (ch_az (ch_df s t)) (ch_az (ch_dq s t))) → post 0) : wpY_clearBetween post (f_side, f_rights, f_ep, f_clock, f_number, f_lineLen, f_outLen, f_clockTop, f_numberTop, f_strict, f_textLen, f_newSide, f_newRights, f_newEp, f_newClock, f_newNumber, a_men, a_line, a_out, a_text, a_cut) (nI bs) (nI s) (nI t) := by
  obtain ⟨ch_r1, ch_r2⟩ := ch_df_r hs ht
  refine nm_r (ch_df_z hs ht) (nm_r (ch_dq_z hs ht) ?_)
  generalize ch_df s t = x at *
  generalize ch_dq s t = y at *
  refine ch_zk_le x 0 (fun e => ch_zk_le 0 x (fun e2 => ?_) (fun e2 => ?_)) (fun e => ?_)
  · rw [show ch_sg x = 0 from by unfold ch_sg; rw [if_neg (by omega), if_neg (by omega)]] at h1 h0
    rw [ch_zI_0]
    exact ch_y_clear39 hB hbs hV hs (by omega) ch_r1 ch_r2 h1 h0
  · rw [show ch_sg x = -1 from by unfold ch_sg; rw [if_neg (by omega), if_pos (by omega)]] at h1 h0
    rw [ch_zI_m1]
    exact ch_y_clear39 hB hbs hV hs (by omega) ch_r1 ch_r2 h1 h0
  · rw [show ch_sg x = 1 from by unfold ch_sg; rw [if_pos (by omega)]] at h1 h0
    rw [ch_zI_1]
    exact ch_y_clear39 hB hbs hV hs (by omega) ch_r1 ch_r2 h1 h0
/-- on one line the reference's question is ch_LN -/
theorem ch_CB_LN {B : Nat → Nat} {s t : Nat} (hs : s < 64) (ht : t < 64) (hne : s ≠ t) (hl : ch_az (ch_df s t) = ch_az (ch_dq s t) ∨ ch_df s t = 0 ∨ ch_dq s t = 0) : ch_CB B s (ch_sg (ch_df s t)) (ch_sg (ch_dq s t)) (ch_mz (ch_az (ch_df s t)) (ch_az (ch_dq s t))) ↔ ∃ k, ch_LN B s t (ch_sg (ch_df s t)) (ch_sg (ch_dq s t)) k := by
  have h8 : (t : Int) = s + (8 * ch_dq s t + ch_df s t) := by unfold ch_df ch_dq; omega
  obtain ⟨ch_r1, ch_r2⟩ := ch_df_r hs ht
  have nz : ¬ (ch_df s t = 0 ∧ ch_dq s t = 0) := by unfold ch_df ch_dq; omega
  have hk : ∃ k : Nat, 1 ≤ k ∧ k ≤ 7 ∧ ch_mz (ch_az (ch_df s t)) (ch_az (ch_dq s t)) = k ∧ ch_df s t = k * ch_sg (ch_df s t) ∧ ch_dq s t = k * ch_sg (ch_dq s t) := by
    refine ⟨(ch_mz (ch_az (ch_df s t)) (ch_az (ch_dq s t))).toNat, ?_⟩
    generalize ch_df s t = x at *
    generalize ch_dq s t = y at *
    unfold ch_mz ch_az ch_sg at *
    repeat' split
    all_goals (repeat' split at hl)
    all_goals omega
  obtain ⟨k, k1, k2, k3, k4, k5⟩ := hk
  have hsg : (ch_sg (ch_df s t) = -1 ∨ ch_sg (ch_df s t) = 0 ∨ ch_sg (ch_df s t) = 1) ∧ (ch_sg (ch_dq s t) = -1 ∨ ch_sg (ch_dq s t) = 0 ∨ ch_sg (ch_dq s t) = 1) := by
    unfold ch_sg; constructor <;> (repeat' split) <;> omega
  have hdr : ch_dr (ch_sg (ch_df s t)) (ch_sg (ch_dq s t)) := by
    unfold ch_dr
    refine ⟨by omega, by omega, by omega, by omega, ?_⟩
    rintro ⟨z1, z2⟩
    rw [z1] at k4; rw [z2] at k5
    omega
  rw [k3]
  have hsq : ch_SQ s (k * ch_sg (ch_df s t)) (k * ch_sg (ch_dq s t)) t := by
    rw [← k4, ← k5]
    unfold ch_SQ ch_df ch_dq; omega
  have mid : ∀ j q : Nat, j < k → q < 64 → (ch_SQ s (j * ch_sg (ch_df s t)) (j * ch_sg (ch_dq s t)) q ↔ (q : Int) = s + j * (8 * ch_sg (ch_dq s t) + ch_sg (ch_df s t))) := by
    intro j q hj hq
    obtain ⟨q2, hq2, hs2⟩ := ch_SQ_mid hdr hs ht hsq (j := j) (by omega)
    generalize ch_sg (ch_df s t) = x at *
    generalize ch_sg (ch_dq s t) = y at *
    have e2 : (q2 : Int) = s + j * (8 * y + x) := by
      unfold ch_SQ at hs2
      rcases hsg with ⟨rfl | rfl | rfl, rfl | rfl | rfl⟩ <;> omega
    constructor
    · intro h
      rw [← ch_SQ_u hs2 h]; exact e2
    · intro h
      obtain rfl : q = q2 := by omega
      exact hs2
  constructor
  · intro h
    exact ⟨k, k1, k2, hsq, fun j j1 j2 q hq hs' => h j j1 (by omega) (by omega) q hq ((mid j q j2 hq).mp hs')⟩
  · rintro ⟨k', l1, l2, l3, l4⟩ i i1 i2 i3 q hq e
    have hkk : k' = k := by
      generalize ch_sg (ch_df s t) = x at *
      generalize ch_sg (ch_dq s t) = y at *
      unfold ch_SQ at l3 hsq
      unfold ch_dr at hdr
      rcases hsg with ⟨rfl | rfl | rfl, rfl | rfl | rfl⟩ <;> omega
    subst hkk
    exact l4 i i1 (by omega) q hq ((mid i q (by omega) hq).mpr e)
theorem ch_sg_0 {z : Int} : ch_sg z = 0 ↔ z = 0 := by unfold ch_sg; repeat' split <;> omega
theorem ch_LN_sg {B : Nat → Nat} {s t k : Nat} {a b : Int} (hd : ch_dr a b) (h : ch_LN B s t a b k) : a = ch_sg (ch_df s t) ∧ b = ch_sg (ch_dq s t) ∧ s ≠ t ∧ (ch_az (ch_df s t) = ch_az (ch_dq s t) ∨ ch_df s t = 0 ∨ ch_dq s t = 0) := by
  obtain ⟨h1, h2, h3, h4⟩ := h
  have e1 : ch_df s t = k * a := by unfold ch_SQ at h3; unfold ch_df; omega
  have e2 : ch_dq s t = k * b := by unfold ch_SQ at h3; unfold ch_dq; omega
  have hne : s ≠ t := by
    rintro rfl
    have z1 : ch_df s s = 0 := by unfold ch_df; omega
    have z2 : ch_dq s s = 0 := by unfold ch_dq; omega
    rw [z1] at e1; rw [z2] at e2
    have hd' := ch_dr_c hd
    unfold ch_dr at hd
    rcases hd' with ⟨rfl | rfl | rfl, rfl | rfl | rfl⟩ <;> omega
  rw [e1, e2]
  have hd' := ch_dr_c hd
  refine ⟨?_, ?_, hne, ?_⟩
  · rcases hd'.1 with rfl | rfl | rfl <;> unfold ch_sg <;> (repeat' split) <;> omega
  · rcases hd'.2 with rfl | rfl | rfl <;> unfold ch_sg <;> (repeat' split) <;> omega
  · rcases hd' with ⟨rfl | rfl | rfl, rfl | rfl | rfl⟩ <;> unfold ch_az <;> (repeat' split) <;> omega
theorem ch_MA_sl {B : Nat → Nat} {s t : Nat} (hs : s < 64) (ht : t < 64) (P : Int → Int → Prop) : (∃ a b k, ch_dr a b ∧ ch_LN B s t a b k ∧ P a b) ↔ (s ≠ t ∧ (ch_az (ch_df s t) = ch_az (ch_dq s t) ∨ ch_df s t = 0 ∨ ch_dq s t = 0) ∧ ch_CB B s (ch_sg (ch_df s t)) (ch_sg (ch_dq s t)) (ch_mz (ch_az (ch_df s t)) (ch_az (ch_dq s t))) ∧ P (ch_sg (ch_df s t)) (ch_sg (ch_dq s t))) := by
  constructor
  · rintro ⟨a, b, k, hd, hl, hp⟩
    obtain ⟨rfl, rfl, hne, hal⟩ := ch_LN_sg hd hl
    exact ⟨hne, hal, (ch_CB_LN hs ht hne hal).mpr ⟨k, hl⟩, hp⟩
  · rintro ⟨hne, hal, hc, hp⟩
    obtain ⟨k, hl⟩ := (ch_CB_LN hs ht hne hal).mp hc
    refine ⟨_, _, k, ?_, hl, hp⟩
    have nz : ¬ (ch_df s t = 0 ∧ ch_dq s t = 0) := by unfold ch_df ch_dq; omega
    unfold ch_dr ch_sg
    repeat' split
    all_goals omega
theorem ch_MA_1 {B : Nat → Nat} {s t : Nat} (hk : B s % 8 = 1) : ch_MA B s t ↔ (ch_az (ch_df s t) = 1 ∧ ch_dq s t = ch_fw (B s / 8)) := by
  unfold ch_MA
  constructor
  · rintro (⟨_, h⟩ | ⟨h, _⟩ | ⟨h, _⟩ | ⟨_, _, _, _, _, h⟩)
    · unfold ch_SQ at h
      unfold ch_az ch_df ch_dq
      split <;> omega
    all_goals omega
  · rintro ⟨h1, h2⟩
    refine Or.inl ⟨hk, ?_⟩
    unfold ch_SQ
    unfold ch_az ch_df at h1
    unfold ch_dq at h2
    split at h1 <;> omega
theorem ch_MA_2 {B : Nat → Nat} {s t : Nat} (hk : B s % 8 = 2) : ch_MA B s t ↔ ((ch_az (ch_df s t) = 1 ∧ ch_az (ch_dq s t) = 2) ∨ (ch_az (ch_df s t) = 2 ∧ ch_az (ch_dq s t) = 1)) := by
  unfold ch_MA
  constructor
  · rintro (⟨h, _⟩ | ⟨_, a, b, hk2, h⟩ | ⟨h, _⟩ | ⟨_, _, _, _, _, h⟩)
    · omega
    · unfold ch_SQ at h
      unfold ch_kn at hk2
      unfold ch_az ch_df ch_dq
      repeat' split
      all_goals omega
    all_goals omega
  · intro h
    refine Or.inr (Or.inl ⟨hk, ch_df s t, ch_dq s t, ?_, ?_⟩)
    · unfold ch_kn
      unfold ch_az at h
      repeat' split at h
      all_goals omega
    · unfold ch_SQ ch_df ch_dq; omega
theorem ch_MA_6 {B : Nat → Nat} {s t : Nat} (hs : s < 64) (ht : t < 64) (hk : B s % 8 = 6) : ch_MA B s t ↔ (s ≠ t ∧ ch_az (ch_df s t) ≤ 1 ∧ ch_az (ch_dq s t) ≤ 1) := by
  unfold ch_MA
  constructor
  · rintro (⟨h, _⟩ | ⟨h, _⟩ | ⟨_, a, b, hd, h⟩ | ⟨_, _, _, _, _, h⟩)
    · omega
    · omega
    · unfold ch_SQ at h
      unfold ch_dr at hd
      unfold ch_az ch_df ch_dq
      repeat' split
      all_goals omega
    · omega
  · rintro ⟨hne, h1, h2⟩
    refine Or.inr (Or.inr (Or.inl ⟨hk, ch_df s t, ch_dq s t, ?_, ?_⟩))
    · have nz : ¬ (ch_df s t = 0 ∧ ch_dq s t = 0) := by unfold ch_df ch_dq; omega
      unfold ch_dr
      unfold ch_az at h1 h2
      repeat' split at h1
      all_goals (repeat' split at h2)
      all_goals omega
    · unfold ch_SQ ch_df ch_dq; omega
theorem ch_MA_345 {B : Nat → Nat} {s t : Nat} (hs : s < 64) (ht : t < 64) (h1 : B s % 8 ≠ 1) (h2 : B s % 8 ≠ 2) (h6 : B s % 8 ≠ 6) : ch_MA B s t ↔ (s ≠ t ∧ (ch_az (ch_df s t) = ch_az (ch_dq s t) ∨ ch_df s t = 0 ∨ ch_dq s t = 0) ∧ ch_CB B s (ch_sg (ch_df s t)) (ch_sg (ch_dq s t)) (ch_mz (ch_az (ch_df s t)) (ch_az (ch_dq s t))) ∧ (B s % 8 = 5 ∨ (B s % 8 = 3 ∧ ch_df s t ≠ 0 ∧ ch_dq s t ≠ 0) ∨ (B s % 8 = 4 ∧ (ch_df s t = 0 ∨ ch_dq s t = 0)))) := by
  have e := ch_MA_sl (B := B) hs ht (fun a b => B s % 8 = 5 ∨ (B s % 8 = 3 ∧ a ≠ 0 ∧ b ≠ 0) ∨ (B s % 8 = 4 ∧ (a = 0 ∨ b = 0)))
  have z1 := @ch_sg_0 (ch_df s t)
  have z2 := @ch_sg_0 (ch_dq s t)
  constructor
  · rintro (⟨h, _⟩ | ⟨h, _⟩ | ⟨h, _⟩ | h)
    · exact absurd h h1
    · exact absurd h h2
    · exact absurd h h6
    · obtain ⟨w1, w2, w3, w4⟩ := e.mp h
      refine ⟨w1, w2, w3, ?_⟩
      rcases w4 with w | ⟨w, x, y⟩ | ⟨w, x | x⟩
      · exact Or.inl w
      · exact Or.inr (Or.inl ⟨w, fun q => x (z1.mpr q), fun q => y (z2.mpr q)⟩)
      · exact Or.inr (Or.inr ⟨w, Or.inl (z1.mp x)⟩)
      · exact Or.inr (Or.inr ⟨w, Or.inr (z2.mp x)⟩)
  · rintro ⟨w1, w2, w3, w4⟩
    refine Or.inr (Or.inr (Or.inr (e.mpr ⟨w1, w2, w3, ?_⟩)))
    rcases w4 with w | ⟨w, x, y⟩ | ⟨w, x | x⟩
    · exact Or.inl w
    · exact Or.inr (Or.inl ⟨w, fun q => x (z1.mp q), fun q => y (z2.mp q)⟩)
    · exact Or.inr (Or.inr ⟨w, Or.inl (z1.mpr x)⟩)
    · exact Or.inr (Or.inr ⟨w, Or.inr (z2.mpr x)⟩)
theorem ch_MA_ne {B : Nat → Nat} {s t : Nat} (h : ch_MA B s t) : s ≠ t := by
  rintro rfl
  rcases h with ⟨_, h⟩ | ⟨_, a, b, hk, h⟩ | ⟨_, a, b, hd, h⟩ | ⟨a, b, k, hd, hl, _⟩
  · unfold ch_SQ at h; omega
  · unfold ch_SQ at h; unfold ch_kn at hk; omega
  · unfold ch_SQ at h; unfold ch_dr at hd; omega
  · exact (ch_LN_sg hd hl).2.2.1 rfl
theorem ch_nar0 : narrow .boolean (.int 0) = .int 0 := rfl
theorem ch_nar1 : narrow .boolean (.int 1) = .int 1 := rfl
theorem ch_y_man201 {post : Int32 → Prop} {B : Nat → Nat} {s t bs : Nat} (hB : ch_BY a_men bs B) (hbs : bs ≤ 192) (hV : ch_VB B) (hs : s < 64) (ht : t < 64) (hne : s ≠ t) (k1 : B s % 8 ≠ 1) (k2 : B s % 8 ≠ 2) (k6 : B s % 8 ≠ 6) (hx : (B s % 8 = 3 ∨ B s % 8 = 5) → ch_az (ch_df s t) ≠ ch_az (ch_dq s t)) (h1 : ch_MA B s t → post 1) (h0 : ¬ ch_MA B s t → post 0) : wY_manAttacks_201 post (nI bs) (nI s) (nI t) (nI (B s % 8)) (ch_zI (ch_df s t)) (ch_zI (ch_dq s t)) f_side f_rights f_ep f_clock f_number f_lineLen f_outLen f_clockTop f_numberTop f_strict f_textLen f_newSide f_newRights f_newEp f_newClock f_newNumber a_men a_line a_out a_text a_cut := by
  obtain ⟨ch_r1, ch_r2⟩ := ch_df_r hs ht
  have ch_hm := ch_MA_345 (B := B) hs ht k1 k2 k6
  have step : (B s % 8 = 4 ∨ B s % 8 = 5) → wY_manAttacks_213 post (nI bs) (nI s) (nI t) (ch_zI (ch_df s t)) (ch_zI (ch_dq s t)) f_side f_rights f_ep f_clock f_number f_lineLen f_outLen f_clockTop f_numberTop f_strict f_textLen f_newSide f_newRights f_newEp f_newClock f_newNumber a_men a_line a_out a_text a_cut := by
    intro hk
    have clr : (ch_df s t = 0 ∨ ch_dq s t = 0) → wY_manAttacks_223 post (nI bs) (nI s) (nI t) f_side f_rights f_ep f_clock f_number f_lineLen f_outLen f_clockTop f_numberTop f_strict f_textLen f_newSide f_newRights f_newEp f_newClock f_newNumber a_men a_line a_out a_text a_cut := by
      intro hz
      refine ch_y_clear hB hbs hV hs ht (fun c => ⟨ch_nar1, h1 (ch_hm.mpr ⟨hne, Or.inr hz, c, ?_⟩)⟩) (fun c => ⟨ch_nar0, h0 (fun w => c (ch_hm.mp w).2.2.1)⟩)
      rcases hk with hk | hk
      · exact Or.inr (Or.inr ⟨hk, hz⟩)
      · exact Or.inl hk
    refine ch_zk_eq (ch_df s t) 0 (fun e => clr (Or.inl e)) (fun e => ch_zk_eq (ch_dq s t) 0 (fun e2 => clr (Or.inr e2)) (fun e2 => h0 (fun w => ?_)))
    obtain ⟨_, w2, _, w4⟩ := ch_hm.mp w
    rcases hk with hk | hk
    · omega
    · have := hx (Or.inr hk); omega
  refine pk_eq (B s % 8) 4 (fun e => step (Or.inl e)) (fun e => pk_eq (B s % 8) 5 (fun e2 => step (Or.inr e2)) (fun e2 => h0 (fun w => ?_)))
  obtain ⟨_, w2, _, w4⟩ := ch_hm.mp w
  rcases w4 with w | ⟨w, x, y⟩ | ⟨w, x⟩
  · omega
  · have := hx (Or.inl w); omega
  · omega
theorem ch_y_man186 {post : Int32 → Prop} {B : Nat → Nat} {s t bs : Nat} (hB : ch_BY a_men bs B) (hbs : bs ≤ 192) (hV : ch_VB B) (hs : s < 64) (ht : t < 64) (hne : s ≠ t) (hk : B s % 8 = 3 ∨ B s % 8 = 5) (h1 : ch_MA B s t → post 1) (h0 : ¬ ch_MA B s t → post 0) : wY_manAttacks_186 post (nI bs) (nI s) (nI t) (nI (B s % 8)) (ch_zI (ch_df s t)) (ch_zI (ch_dq s t)) (ch_zI (ch_az (ch_df s t))) (ch_zI (ch_az (ch_dq s t))) f_side f_rights f_ep f_clock f_number f_lineLen f_outLen f_clockTop f_numberTop f_strict f_textLen f_newSide f_newRights f_newEp f_newClock f_newNumber a_men a_line a_out a_text a_cut := by
  obtain ⟨ch_r1, ch_r2⟩ := ch_df_r hs ht
  have ch_hm := ch_MA_345 (B := B) hs ht (by omega) (by omega) (by omega)
  have ra : 0 ≤ ch_az (ch_df s t) ∧ ch_az (ch_df s t) ≤ 7 := by unfold ch_az; split <;> omega
  have rb : 0 ≤ ch_az (ch_dq s t) ∧ ch_az (ch_dq s t) ≤ 7 := by unfold ch_az; split <;> omega
  refine ch_zk_eq (ch_az (ch_df s t)) (ch_az (ch_dq s t)) (fun e => ?_) (fun e => ?_)
  · refine ch_y_clear hB hbs hV hs ht (fun c => ⟨ch_nar1, h1 (ch_hm.mpr ⟨hne, Or.inl e, c, ?_⟩)⟩) (fun c => ⟨ch_nar0, h0 (fun w => c (ch_hm.mp w).2.2.1)⟩)
    rcases hk with hk | hk
    · refine Or.inr (Or.inl ⟨hk, ?_⟩)
      have nz : ¬ (ch_df s t = 0 ∧ ch_dq s t = 0) := by unfold ch_df ch_dq; omega
      unfold ch_az at e
      split at e <;> split at e <;> omega
    · exact Or.inl hk
  · exact ch_y_man201 hB hbs hV hs ht hne (by omega) (by omega) (by omega) (fun _ => e) h1 h0
theorem ch_y_man72 {post : Int32 → Prop} {B : Nat → Nat} {s t bs : Nat} (hB : ch_BY a_men bs B) (hbs : bs ≤ 192) (hV : ch_VB B) (hs : s < 64) (ht : t < 64) (hne : s ≠ t) (h1 : ch_MA B s t → post 1) (h0 : ¬ ch_MA B s t → post 0) : wY_manAttacks_72 post (nI bs) (nI s) (nI t) (nI (B s)) (nI (B s % 8)) (ch_zI (ch_df s t)) (ch_zI (ch_dq s t)) (ch_zI (ch_az (ch_df s t))) (ch_zI (ch_az (ch_dq s t))) f_side f_rights f_ep f_clock f_number f_lineLen f_outLen f_clockTop f_numberTop f_strict f_textLen f_newSide f_newRights f_newEp f_newClock f_newNumber a_men a_line a_out a_text a_cut := by
  obtain ⟨ch_r1, ch_r2⟩ := ch_df_r hs ht
  have ra : 0 ≤ ch_az (ch_df s t) ∧ ch_az (ch_df s t) ≤ 7 := by unfold ch_az; split <;> omega
  have rb : 0 ≤ ch_az (ch_dq s t) ∧ ch_az (ch_dq s t) ≤ 7 := by unfold ch_az; split <;> omega
  have hv := hV s hs
  unfold ch_VM at hv
  refine pk_eq (B s % 8) 1 (fun e1 => ?_) (fun e1 => pk_eq (B s % 8) 2 (fun e2 => ?_) (fun e2 => pk_eq (B s % 8) 6 (fun e6 => ?_) (fun e6 => pk_eq (B s % 8) 3 (fun e3 => ?_) (fun e3 => pk_eq (B s % 8) 5 (fun e5 => ?_) (fun e5 => ?_)))))
  · have ch_hm := ch_MA_1 (t := t) e1
    rw [ch_nI_r3 (by omega)]
    refine pk_eq (B s / 8) 0 (fun ec => ?_) (fun ec => ?_)
    · have ef : ch_fw (B s / 8) = 1 := by unfold ch_fw; rw [if_pos ec]
      rw [ef] at ch_hm
      exact ch_zk_eq _ 1 (fun w1 => ch_zk_eq _ 1 (fun w2 => h1 (ch_hm.mpr ⟨w1, w2⟩)) (fun w2 => h0 (fun z => w2 (ch_hm.mp z).2))) (fun w1 => h0 (fun z => w1 (ch_hm.mp z).1))
    · have ef : ch_fw (B s / 8) = -1 := by unfold ch_fw; rw [if_neg ec]
      rw [ef] at ch_hm
      exact ch_zk_eq _ 1 (fun w1 => ch_zk_eq _ (-1) (fun w2 => h1 (ch_hm.mpr ⟨w1, w2⟩)) (fun w2 => h0 (fun z => w2 (ch_hm.mp z).2))) (fun w1 => h0 (fun z => w1 (ch_hm.mp z).1))
  · have ch_hm := ch_MA_2 (t := t) e2
    have tail : ¬ (ch_az (ch_df s t) = 1 ∧ ch_az (ch_dq s t) = 2) → wY_manAttacks_131 post (ch_zI (ch_az (ch_df s t))) (ch_zI (ch_az (ch_dq s t))) f_side f_rights f_ep f_clock f_number f_lineLen f_outLen f_clockTop f_numberTop f_strict f_textLen f_newSide f_newRights f_newEp f_newClock f_newNumber a_men a_line a_out a_text a_cut := fun hn =>
      ch_zk_eq _ 2 (fun w1 => ch_zk_eq _ 1 (fun w2 => h1 (ch_hm.mpr (Or.inr ⟨w1, w2⟩))) (fun w2 => h0 (fun z => by have := ch_hm.mp z; omega))) (fun w1 => h0 (fun z => by have := ch_hm.mp z; omega))
    exact ch_zk_eq _ 1 (fun w1 => ch_zk_eq _ 2 (fun w2 => h1 (ch_hm.mpr (Or.inl ⟨w1, w2⟩))) (fun w2 => tail (fun z => w2 z.2))) (fun w1 => tail (fun z => w1 z.1))
  · have ch_hm := ch_MA_6 hs ht e6
    exact ch_zk_lt 1 _ (fun w1 => h0 (fun z => by have := ch_hm.mp z; omega)) (fun w1 => ch_zk_lt 1 _ (fun w2 => h0 (fun z => by have := ch_hm.mp z; omega)) (fun w2 => h1 (ch_hm.mpr ⟨hne, w1, w2⟩)))
  · exact ch_y_man186 hB hbs hV hs ht hne (Or.inl e3) h1 h0
  · exact ch_y_man186 hB hbs hV hs ht hne (Or.inr e5) h1 h0
  · exact ch_y_man201 hB hbs hV hs ht hne e1 e2 e6 (fun z => by omega) h1 h0
theorem ch_y_man57 {post : Int32 → Prop} {B : Nat → Nat} {s t bs : Nat} (hB : ch_BY a_men bs B) (hbs : bs ≤ 192) (hV : ch_VB B) (hs : s < 64) (ht : t < 64) (hne : s ≠ t) (h1 : ch_MA B s t → post 1) (h0 : ¬ ch_MA B s t → post 0) : wY_manAttacks_57 post (nI bs) (nI s) (nI t) (nI (B s)) (nI (B s % 8)) (ch_zI (ch_df s t)) (ch_zI (ch_dq s t)) (ch_zI (ch_az (ch_df s t))) f_side f_rights f_ep f_clock f_number f_lineLen f_outLen f_clockTop f_numberTop f_strict f_textLen f_newSide f_newRights f_newEp f_newClock f_newNumber a_men a_line a_out a_text a_cut := by
  obtain ⟨ch_r1, ch_r2⟩ := ch_df_r hs ht
  have h : wY_manAttacks_72 post (nI bs) (nI s) (nI t) (nI (B s)) (nI (B s % 8)) (ch_zI (ch_df s t)) (ch_zI (ch_dq s t)) (ch_zI (ch_az (ch_df s t))) (ch_zI (ch_az (ch_dq s t))) f_side f_rights f_ep f_clock f_number f_lineLen f_outLen f_clockTop f_numberTop f_strict f_textLen f_newSide f_newRights f_newEp f_newClock f_newNumber a_men a_line a_out a_text a_cut := ch_y_man72 hB hbs hV hs ht hne h1 h0
  refine ch_zk_le 0 (ch_dq s t) (fun e => ?_) (fun e => ?_)
  · have ea : ch_az (ch_dq s t) = ch_dq s t := by unfold ch_az; rw [if_pos e]
    rw [ea] at h
    exact h
  · have ea : ch_az (ch_dq s t) = - ch_dq s t := by unfold ch_az; rw [if_neg (by omega)]
    rw [ea] at h
    rw [ch_zI_neg]
    exact h
theorem ch_y_manAttacks {post : Int32 → Prop} {B : Nat → Nat} {s t bs : Nat} (hB : ch_BY a_men bs B) (hbs : bs ≤ 192) (hV : ch_VB B) (hs : s < 64) (ht : t < 64) (h1 : ch_MA B s t → post 1) (h0 : ¬ ch_MA B s t → post 0) : wpY_manAttacks post (f_side, f_rights, f_ep, f_clock, f_number, f_lineLen, f_outLen, f_clockTop, f_numberTop, f_strict, f_textLen, f_newSide, f_newRights, f_newEp, f_newClock, f_newNumber, a_men, a_line, a_out, a_text, a_cut) (nI bs) (nI s) (nI t) := by
  obtain ⟨ch_r1, ch_r2⟩ := ch_df_r hs ht
  have hv := ch_VB_lt hV hs
  refine pk_eq s t (fun e => h0 (fun z => ch_MA_ne z e)) (fun hne => ⟨ch_by_in hs hbs, nm_r (ch_by_ hB hs (by omega)) (nm_r (ch_nI_a7 (by omega)) (nm_r (ch_df_z hs ht) (nm_r (ch_dq_z hs ht) ?_)))⟩)
  have h : wY_manAttacks_57 post (nI bs) (nI s) (nI t) (nI (B s)) (nI (B s % 8)) (ch_zI (ch_df s t)) (ch_zI (ch_dq s t)) (ch_zI (ch_az (ch_df s t))) f_side f_rights f_ep f_clock f_number f_lineLen f_outLen f_clockTop f_numberTop f_strict f_textLen f_newSide f_newRights f_newEp f_newClock f_newNumber a_men a_line a_out a_text a_cut := ch_y_man57 hB hbs hV hs ht hne h1 h0
  refine ch_zk_le 0 (ch_df s t) (fun e => ?_) (fun e => ?_)
  · have ea : ch_az (ch_df s t) = ch_df s t := by unfold ch_az; rw [if_pos e]
    rw [ea] at h
    exact h
  · have ea : ch_az (ch_df s t) = - ch_df s t := by unfold ch_az; rw [if_neg (by omega)]
    rw [ea] at h
    rw [ch_zI_neg]
    exact h
theorem ch_y_attackedOn {post : Int32 → Prop} {B : Nat → Nat} {t c bs : Nat} (hB : ch_BY a_men bs B) (hbs : bs ≤ 192) (hV : ch_VB B) (ht : t < 64) (hc : c < 2) (h1 : ch_AT B t c → post 1) (h0 : ¬ ch_AT B t c → post 0) : wpY_attackedOn post (f_side, f_rights, f_ep, f_clock, f_number, f_lineLen, f_outLen, f_clockTop, f_numberTop, f_strict, f_textLen, f_newSide, f_newRights, f_newEp, f_newClock, f_newNumber, a_men, a_line, a_out, a_text, a_cut) (nI bs) (nI t) (nI c) := by
  refine br_f (nI_pos (by omega)) (pk_le t 63 (fun _ => ⟨65, ?_⟩) (fun e => by omega))
  refine ch_fn (σ := Unit) (fun n _ z => wY_attackedOn_15 post (nI bs) (nI t) (nI c) f_side f_rights f_ep f_clock f_number f_lineLen f_outLen f_clockTop f_numberTop f_strict f_textLen f_newSide f_newRights f_newEp f_newClock f_newNumber a_men a_line a_out a_text a_cut n z) (fun i _ => ¬ ∃ s, s < i ∧ B s ≠ 0 ∧ B s / 8 = c ∧ ch_MA B s t) 64 ?_ ?_ 64 0 () rfl ?_
  · intro n _ hn
    exact br_t (by decide) (h0 hn)
  · intro n i _ hi hn ih
    have hv := ch_VB_lt hV hi
    have go : ¬ (B i ≠ 0 ∧ B i / 8 = c ∧ ch_MA B i t) → wY_attackedOn_15 post (nI bs) (nI t) (nI c) f_side f_rights f_ep f_clock f_number f_lineLen f_outLen f_clockTop f_numberTop f_strict f_textLen f_newSide f_newRights f_newEp f_newClock f_newNumber a_men a_line a_out a_text a_cut n (nI (i + 1)) := by
      intro n2
      refine ih () ?_
      rintro ⟨s, hs, w⟩
      by_cases e : s = i
      · subst e; exact n2 w
      · exact hn ⟨s, by omega, w⟩
    refine pk_le 64 i (fun e => by omega) (fun _ => ⟨ch_by_in hi hbs, nm_r (ch_by_ hB hi (by omega)) (pk_eq (B i) 0 (fun e => nm_r (nI_1 i) (go (fun w => w.1 e))) (fun e => ?_))⟩)
    rw [ch_nI_r3 (by omega)]
    refine pk_eq (B i / 8) c (fun e2 => ?_) (fun e2 => nm_r (nI_1 i) (go (fun w => e2 w.2.1)))
    exact ch_y_manAttacks hB hbs hV hi ht (fun m => br_f (by decide) (h1 ⟨i, hi, e, e2, m⟩)) (fun m => br_t rfl (nm_r (nI_1 i) (go (fun w => m w.2.2))))
  · rintro ⟨s, hs, _⟩
    omega
theorem ch_y_attackedOn_m1 {post : Int32 → Prop} {b c : Int32} (h0 : post 0) : wpY_attackedOn post (f_side, f_rights, f_ep, f_clock, f_number, f_lineLen, f_outLen, f_clockTop, f_numberTop, f_strict, f_textLen, f_newSide, f_newRights, f_newEp, f_newClock, f_newNumber, a_men, a_line, a_out, a_text, a_cut) b (-1) c := br_t (by decide) h0
end
end
section
/-! sets of squares as longs -/
def ch_lb (L : Int64) (t : Nat) : Bool := L.toBitVec.getLsbD t
theorem ch_lb_sh : ∀ l, l < 64 → ((1 : Int64) <<< ((nI l).toInt64 &&& 63)).toBitVec = BitVec.twoPow 64 l := by decide +kernel
theorem ch_lb_tp : ∀ l, l < 64 → BitVec.twoPow 64 l ≠ 0#64 := by decide +kernel
theorem ch_lb_0 (t : Nat) : ch_lb 0 t = false := by
  show (0#64).getLsbD t = false
  exact BitVec.getLsbD_zero
theorem ch_lb_or (A C : Int64) (j : Nat) : ch_lb (A ||| C) j = (ch_lb A j || ch_lb C j) := by
  unfold ch_lb
  rw [Int64.toBitVec_or, BitVec.getLsbD_or]
theorem ch_lb_set {L : Int64} {t j : Nat} (ht : t < 64) (hj : j < 64) : ch_lb (L ||| ((1 : Int64) <<< ((nI t).toInt64 &&& 63))) j = true ↔ (ch_lb L j = true ∨ j = t) := by
  unfold ch_lb
  rw [Int64.toBitVec_or, BitVec.getLsbD_or, ch_lb_sh t ht, BitVec.getLsbD_twoPow]
  simp only [Bool.or_eq_true, Bool.and_eq_true, decide_eq_true_eq]
  constructor
  · rintro (h | ⟨_, h⟩)
    · exact Or.inl h
    · exact Or.inr h.symm
  · rintro (h | h)
    · exact Or.inl h
    · exact Or.inr ⟨ht, h.symm⟩
theorem ch_lb_and0 {L : Int64} {t : Nat} (ht : t < 64) : (L &&& ((1 : Int64) <<< ((nI t).toInt64 &&& 63))) = 0 ↔ ¬ ch_lb L t = true := by
  rw [← Int64.toBitVec_inj, Int64.toBitVec_and, ch_lb_sh t ht, BitVec.and_twoPow]
  unfold ch_lb
  cases h : L.toBitVec.getLsbD t
  · simp
  · simp only [if_true, not_true_eq_false, iff_false]
    exact ch_lb_tp t ht
theorem ch_lb_z {L : Int64} : L = 0 ↔ ∀ t, t < 64 → ¬ ch_lb L t = true := by
  constructor
  · rintro rfl t _
    rw [ch_lb_0]; decide
  · intro h
    apply Int64.toBitVec_inj.mp
    apply BitVec.eq_of_getLsbD_eq
    intro i hi
    have := h i hi
    unfold ch_lb at this
    rw [show (0 : Int64).toBitVec = 0#64 from rfl, BitVec.getLsbD_zero]
    cases z : L.toBitVec.getLsbD i
    · rfl
    · exact absurd z this
/-- the long L holds the squares with P -/
def ch_SB (L : Int64) (P : Nat → Prop) : Prop := ∀ t, t < 64 → (ch_lb L t = true ↔ P t)
theorem ch_SB_c {L : Int64} {P Q : Nat → Prop} (h : ch_SB L P) (e : ∀ t, t < 64 → (P t ↔ Q t)) : ch_SB L Q := fun t ht => (h t ht).trans (e t ht)
theorem ch_SB_0 {P : Nat → Prop} (h : ∀ t, t < 64 → ¬ P t) : ch_SB 0 P := fun t ht => by
  rw [ch_lb_0]
  constructor
  · intro z; cases z
  · intro z; exact absurd z (h t ht)
theorem ch_SB_s {L : Int64} {P : Nat → Prop} {q : Nat} (h : ch_SB L P) (hq : q < 64) : ch_SB (L ||| ((1 : Int64) <<< ((nI q).toInt64 &&& 63))) (fun t => P t ∨ t = q) := fun t ht => by
  rw [ch_lb_set hq ht, h t ht]
theorem ch_SB_o {L M : Int64} {P Q : Nat → Prop} (h : ch_SB L P) (k : ch_SB M Q) : ch_SB (L ||| M) (fun t => P t ∨ Q t) := fun t ht => by
  rw [ch_lb_or, Bool.or_eq_true, h t ht, k t ht]
/-- a square or none, as the field holds it -/
def ch_epI (e : Nat) : Int32 := if e < 64 then nI e else -1
theorem ch_epI_s {e : Nat} (h : e < 64) : ch_epI e = nI e := by unfold ch_epI; rw [if_pos h]
theorem ch_epI_n {e : Nat} (h : ¬ e < 64) : ch_epI e = -1 := by unfold ch_epI; rw [if_neg h]
theorem ch_m1_nI {q : Nat} (hq : q < 2 ^ 31) : ¬ nI q = -1 := by
  intro h
  have h2 := nI_pos hq
  rw [h] at h2
  exact h2 (by decide)
theorem ch_epI_q {q e : Nat} (hq : q < 64) (he : e ≤ 64) : nI q = ch_epI e ↔ q = e := by
  by_cases h : e < 64
  · rw [ch_epI_s h, nI_eq (by omega) (by omega)]
  · rw [ch_epI_n h]
    constructor
    · intro z; exact absurd z (ch_m1_nI (by omega))
    · intro z; omega
theorem ch_epk {q e : Nat} {A C : Prop} (hq : q < 64) (he : e ≤ 64) (f : q = e → A) (g : q ≠ e → C) : (nI q = ch_epI e → A) ∧ (¬ nI q = ch_epI e → C) := by
  rw [ch_epI_q hq he]; exact ⟨f, g⟩
end
section
/-! the component's candidate targets, walked -/
def ch_ow (B : Nat → Nat) (sd i : Nat) : Prop := B i ≠ 0 ∧ B i / 8 = sd
section
variable {f_clockTop f_numberTop f_strict f_side f_rights f_passant f_clock f_number f_lineLen f_outLen f_moveTotal f_movesKnown f_savedSide f_savedRights f_savedPassant f_savedClock f_savedNumber f_spellLen f_at f_end f_writtenMark f_writtenCastling f_writtenPromotion f_writtenTarget f_writtenCapture f_writtenRank f_writtenFile f_writtenKind : Int32} {a_board a_line a_out a_moves a_savedBoard a_spell : Nat → Int32}
theorem ch_x_isOwn {post : Int32 → Prop} {sd v : Nat} (hv : v < 16) (hsd : sd < 2) (h1 : v ≠ 0 ∧ v / 8 = sd → post 1) (h0 : ¬ (v ≠ 0 ∧ v / 8 = sd) → post 0) : wpX_isOwn post (f_clockTop, f_numberTop, f_strict, nI sd, f_rights, f_passant, f_clock, f_number, f_lineLen, f_outLen, f_moveTotal, f_movesKnown, f_savedSide, f_savedRights, f_savedPassant, f_savedClock, f_savedNumber, f_spellLen, f_at, f_end, f_writtenMark, f_writtenCastling, f_writtenPromotion, f_writtenTarget, f_writtenCapture, f_writtenRank, f_writtenFile, f_writtenKind, a_board, a_line, a_out, a_moves, a_savedBoard, a_spell) (nI v) := by
  refine pk_eq v 0 (fun e => h0 (fun z => z.1 e)) (fun e => ?_)
  rw [ch_nI_r3 (by omega)]
  exact pk_eq (v / 8) sd (fun e2 => h1 ⟨e, e2⟩) (fun e2 => h0 (fun z => e2 z.2))
theorem ch_x_isFoe {post : Int32 → Prop} {sd v : Nat} (hv : v < 16) (hsd : sd < 2) (h1 : v ≠ 0 ∧ v / 8 ≠ sd → post 1) (h0 : ¬ (v ≠ 0 ∧ v / 8 ≠ sd) → post 0) : wpX_isFoe post (f_clockTop, f_numberTop, f_strict, nI sd, f_rights, f_passant, f_clock, f_number, f_lineLen, f_outLen, f_moveTotal, f_movesKnown, f_savedSide, f_savedRights, f_savedPassant, f_savedClock, f_savedNumber, f_spellLen, f_at, f_end, f_writtenMark, f_writtenCastling, f_writtenPromotion, f_writtenTarget, f_writtenCapture, f_writtenRank, f_writtenFile, f_writtenKind, a_board, a_line, a_out, a_moves, a_savedBoard, a_spell) (nI v) := by
  refine pk_eq v 0 (fun e => h0 (fun z => z.1 e)) (fun e => ?_)
  rw [ch_nI_r3 (by omega)]
  exact pk_eq (v / 8) sd (fun e2 => h0 (fun z => z.2 e2)) (fun e2 => h1 ⟨e, e2⟩)
theorem ch_x_sq0 {post : Int32 → Prop} (s : Nat) (b : Int) (hs : s < 64) (hb : -100 < b ∧ b < 100) (h0 : (∀ q, q < 64 → ¬ ch_SQ s 0 b q) → post (-1)) (h1 : ∀ q, q < 64 → ch_SQ s 0 b q → post (nI q)) : wpX_squareAt post (f_clockTop, f_numberTop, f_strict, f_side, f_rights, f_passant, f_clock, f_number, f_lineLen, f_outLen, f_moveTotal, f_movesKnown, f_savedSide, f_savedRights, f_savedPassant, f_savedClock, f_savedNumber, f_spellLen, f_at, f_end, f_writtenMark, f_writtenCastling, f_writtenPromotion, f_writtenTarget, f_writtenCapture, f_writtenRank, f_writtenFile, f_writtenKind, a_board, a_line, a_out, a_moves, a_savedBoard, a_spell) (nI s &&& 7) ((nI s >>> ((3 : Int32) &&& 31)) + ch_zI b) := by
  have h : wpX_squareAt post (f_clockTop, f_numberTop, f_strict, f_side, f_rights, f_passant, f_clock, f_number, f_lineLen, f_outLen, f_moveTotal, f_movesKnown, f_savedSide, f_savedRights, f_savedPassant, f_savedClock, f_savedNumber, f_spellLen, f_at, f_end, f_writtenMark, f_writtenCastling, f_writtenPromotion, f_writtenTarget, f_writtenCapture, f_writtenRank, f_writtenFile, f_writtenKind, a_board, a_line, a_out, a_moves, a_savedBoard, a_spell) ((nI s &&& 7) + ch_zI 0) ((nI s >>> ((3 : Int32) &&& 31)) + ch_zI b) := ch_x_sq s 0 b hs (by omega) hb h0 h1
  rw [← ch_zI_0, Int32.add_zero] at h
  exact h
/-- one capture target of a pawn -/
theorem ch_x_pawn124 {post : Int64 → Prop} {B : Nat → Nat} {s sd ep n : Nat} {u z : Int} {P : Nat → Prop} {L : Int64} (hB : ch_BX a_board B) (hV : ch_VB B) (hs : s < 64) (hsd : sd < 2) (hep : ep ≤ 64) (hu : u = 1 ∨ u = -1) (hz : z = 1 ∨ z = -1) (hL : ch_SB L P) (h : ∀ L', ch_SB L' (fun t => P t ∨ (ch_SQ s z u t ∧ (t = ep ∨ (B t ≠ 0 ∧ B t / 8 ≠ sd)))) → wX_pawnTargets_124 post (nI s &&& 7) (nI s >>> ((3 : Int32) &&& 31)) (ch_zI u) f_clockTop f_numberTop f_strict (nI sd) f_rights (ch_epI ep) f_clock f_number f_lineLen f_outLen f_moveTotal f_movesKnown f_savedSide f_savedRights f_savedPassant f_savedClock f_savedNumber f_spellLen f_at f_end f_writtenMark f_writtenCastling f_writtenPromotion f_writtenTarget f_writtenCapture f_writtenRank f_writtenFile f_writtenKind a_board a_line a_out a_moves a_savedBoard a_spell n L' (ch_zI (z + 2))) : wX_pawnTargets_124 post (nI s &&& 7) (nI s >>> ((3 : Int32) &&& 31)) (ch_zI u) f_clockTop f_numberTop f_strict (nI sd) f_rights (ch_epI ep) f_clock f_number f_lineLen f_outLen f_moveTotal f_movesKnown f_savedSide f_savedRights f_savedPassant f_savedClock f_savedNumber f_spellLen f_at f_end f_writtenMark f_writtenCastling f_writtenPromotion f_writtenTarget f_writtenCapture f_writtenRank f_writtenFile f_writtenKind a_board a_line a_out a_moves a_savedBoard a_spell (n + 1) L (ch_zI z) := by
  have e2 : ch_zI z + 2 = ch_zI (z + 2) := by rw [ch_zI_2, ch_zI_add]
  refine ch_zk_lt 1 z (fun e => by omega) (fun _ => ?_)
  refine ch_x_sq s z u hs (by omega) (by omega) (fun n1 => ?_) (fun q hq s1 => ?_)
  · refine br_t (by decide) (nm_r e2 (h L (ch_SB_c hL (fun t ht => ⟨Or.inl, ?_⟩))))
    rintro (w | ⟨w, _⟩)
    · exact w
    · exact absurd w (n1 t ht)
  · have hv := ch_VB_lt hV hq
    have put : (q = ep ∨ (B q ≠ 0 ∧ B q / 8 ≠ sd)) → wX_pawnTargets_174 post (wX_pawnTargets_124 post (nI s &&& 7) (nI s >>> ((3 : Int32) &&& 31)) (ch_zI u) f_clockTop f_numberTop f_strict (nI sd) f_rights (ch_epI ep) f_clock f_number f_lineLen f_outLen f_moveTotal f_movesKnown f_savedSide f_savedRights f_savedPassant f_savedClock f_savedNumber f_spellLen f_at f_end f_writtenMark f_writtenCastling f_writtenPromotion f_writtenTarget f_writtenCapture f_writtenRank f_writtenFile f_writtenKind a_board a_line a_out a_moves a_savedBoard a_spell n) L (nI s &&& 7) (nI s >>> ((3 : Int32) &&& 31)) (ch_zI u) (ch_zI z) (nI q) f_clockTop f_numberTop f_strict (nI sd) f_rights (ch_epI ep) f_clock f_number f_lineLen f_outLen f_moveTotal f_movesKnown f_savedSide f_savedRights f_savedPassant f_savedClock f_savedNumber f_spellLen f_at f_end f_writtenMark f_writtenCastling f_writtenPromotion f_writtenTarget f_writtenCapture f_writtenRank f_writtenFile f_writtenKind a_board a_line a_out a_moves a_savedBoard a_spell := by
      intro hc
      refine nm_e (nm_r e2 (h _ (ch_SB_c (ch_SB_s hL hq) (fun t ht => ?_))))
      constructor
      · rintro (w | rfl)
        · exact Or.inl w
        · exact Or.inr ⟨s1, hc⟩
      · rintro (w | ⟨w, _⟩)
        · exact Or.inl w
        · exact Or.inr (ch_SQ_u w s1)
    refine br_f (nI_pos (by omega)) (ch_epk hq hep (fun e => put (Or.inl e)) (fun e => ⟨vp_in_nI hq (by omega), ?_⟩))
    rw [ch_bx hB hq]
    refine ch_x_isFoe (by omega) hsd (fun w => br_f (by decide) (put (Or.inr w))) (fun w => br_t rfl (nm_r e2 (h L (ch_SB_c hL (fun t ht => ⟨Or.inl, ?_⟩)))))
    rintro (y | ⟨y, y2⟩)
    · exact y
    · obtain rfl := ch_SQ_u y s1
      rcases y2 with y2 | y2
      · exact absurd y2 e
      · exact absurd y2 w
theorem ch_x_pawnCap {post : Int64 → Prop} {B : Nat → Nat} {s sd ep : Nat} {u : Int} {P : Nat → Prop} {L : Int64} (hB : ch_BX a_board B) (hV : ch_VB B) (hs : s < 64) (hsd : sd < 2) (hep : ep ≤ 64) (hu : u = 1 ∨ u = -1) (hL : ch_SB L P) (h : ∀ L', ch_SB L' (fun t => P t ∨ ((ch_SQ s (-1) u t ∨ ch_SQ s 1 u t) ∧ (t = ep ∨ (B t ≠ 0 ∧ B t / 8 ≠ sd)))) → post L') : ∃ n, wX_pawnTargets_124 post (nI s &&& 7) (nI s >>> ((3 : Int32) &&& 31)) (ch_zI u) f_clockTop f_numberTop f_strict (nI sd) f_rights (ch_epI ep) f_clock f_number f_lineLen f_outLen f_moveTotal f_movesKnown f_savedSide f_savedRights f_savedPassant f_savedClock f_savedNumber f_spellLen f_at f_end f_writtenMark f_writtenCastling f_writtenPromotion f_writtenTarget f_writtenCapture f_writtenRank f_writtenFile f_writtenKind a_board a_line a_out a_moves a_savedBoard a_spell n L (-1) := by
  refine ⟨3, ?_⟩
  rw [ch_zI_m1]
  refine ch_x_pawn124 hB hV hs hsd hep hu (Or.inr rfl) hL (fun L1 h1 => ?_)
  refine ch_x_pawn124 (z := 1) hB hV hs hsd hep hu (Or.inl rfl) h1 (fun L2 h2 => ?_)
  refine br_t (by decide) (h L2 (ch_SB_c h2 (fun t ht => ?_)))
  constructor
  · rintro ((w | ⟨w, y⟩) | ⟨w, y⟩)
    · exact Or.inl w
    · exact Or.inr ⟨Or.inl w, y⟩
    · exact Or.inr ⟨Or.inr w, y⟩
  · rintro (w | ⟨w | w, y⟩)
    · exact Or.inl (Or.inl w)
    · exact Or.inl (Or.inr ⟨w, y⟩)
    · exact Or.inr ⟨w, y⟩
def ch_fr (sd : Nat) : Nat := if sd = 0 then 1 else 6
def ch_PT (B : Nat → Nat) (sd ep s t : Nat) : Prop := (ch_SQ s 0 (ch_fw sd) t ∧ B t = 0) ∨ (s / 8 = ch_fr sd ∧ ch_SQ s 0 (2 * ch_fw sd) t ∧ B t = 0 ∧ ∃ q, q < 64 ∧ ch_SQ s 0 (ch_fw sd) q ∧ B q = 0) ∨ ((ch_SQ s (-1) (ch_fw sd) t ∨ ch_SQ s 1 (ch_fw sd) t) ∧ (t = ep ∨ (B t ≠ 0 ∧ B t / 8 ≠ sd)))
theorem ch_x_pawn40 {post : Int64 → Prop} {B : Nat → Nat} {s sd ep : Nat} (hB : ch_BX a_board B) (hV : ch_VB B) (hs : s < 64) (hsd : sd < 2) (hep : ep ≤ 64) (h : ∀ L, ch_SB L (ch_PT B sd ep s) → post L) : wX_pawnTargets_40 post 0 (nI s &&& 7) (nI s >>> ((3 : Int32) &&& 31)) (ch_zI (ch_fw sd)) (nI (ch_fr sd)) f_clockTop f_numberTop f_strict (nI sd) f_rights (ch_epI ep) f_clock f_number f_lineLen f_outLen f_moveTotal f_movesKnown f_savedSide f_savedRights f_savedPassant f_savedClock f_savedNumber f_spellLen f_at f_end f_writtenMark f_writtenCastling f_writtenPromotion f_writtenTarget f_writtenCapture f_writtenRank f_writtenFile f_writtenKind a_board a_line a_out a_moves a_savedBoard a_spell := by
  have hu : ch_fw sd = 1 ∨ ch_fw sd = -1 := by unfold ch_fw; split <;> omega
  have hfr : ch_fr sd = 1 ∨ ch_fr sd = 6 := by unfold ch_fr; split <;> omega
  have e0 : ch_SB 0 (fun _ => False) := ch_SB_0 (fun _ _ z => z)
  refine ch_x_sq0 s _ hs (by omega) (fun n1 => ?_) (fun q hq s1 => ?_)
  · refine br_t (by decide) (ch_x_pawnCap hB hV hs hsd hep hu e0 (fun L hL => h L (ch_SB_c hL (fun t ht => ?_))))
    unfold ch_PT
    constructor
    · rintro (w | w)
      · exact w.elim
      · exact Or.inr (Or.inr w)
    · rintro (⟨w, _⟩ | ⟨_, _, _, q, hq, w, _⟩ | w)
      · exact absurd w (n1 t ht)
      · exact absurd w (n1 q hq)
      · exact Or.inr w
  · have hv := ch_VB_lt hV hq
    refine br_f (nI_pos (by omega)) ⟨vp_in_nI hq (by omega), pk_eq (B q) 0 (fun e => nm_e ?_) (fun e => ?_) (ch_bx hB hq) rfl⟩
    · have e1 := ch_SB_s e0 hq
      have one : (¬ s / 8 = ch_fr sd ∨ ∀ t, t < 64 → ¬ (ch_SQ s 0 (2 * ch_fw sd) t ∧ B t = 0)) → ∃ n, wX_pawnTargets_124 post (nI s &&& 7) (nI s >>> ((3 : Int32) &&& 31)) (ch_zI (ch_fw sd)) f_clockTop f_numberTop f_strict (nI sd) f_rights (ch_epI ep) f_clock f_number f_lineLen f_outLen f_moveTotal f_movesKnown f_savedSide f_savedRights f_savedPassant f_savedClock f_savedNumber f_spellLen f_at f_end f_writtenMark f_writtenCastling f_writtenPromotion f_writtenTarget f_writtenCapture f_writtenRank f_writtenFile f_writtenKind a_board a_line a_out a_moves a_savedBoard a_spell n (0 ||| ((1 : Int64) <<< ((nI q).toInt64 &&& 63))) (-1) := by
        intro hn
        refine ch_x_pawnCap hB hV hs hsd hep hu e1 (fun L hL => h L (ch_SB_c hL (fun t ht => ?_)))
        unfold ch_PT
        constructor
        · rintro ((w | rfl) | w)
          · exact w.elim
          · exact Or.inl ⟨s1, e⟩
          · exact Or.inr (Or.inr w)
        · rintro (⟨w, _⟩ | ⟨w1, w2, w3, _⟩ | w)
          · exact Or.inl (Or.inr (ch_SQ_u w s1))
          · rcases hn with hn | hn
            · exact absurd w1 hn
            · exact absurd ⟨w2, w3⟩ (hn t ht)
          · exact Or.inr w
      rw [ch_zI_2, ch_zI_mul]
      refine ch_x_sq0 s _ hs (by omega) (fun n2 => ?_) (fun q2 hq2 s2 => ?_)
      · refine pk_eq (s / 8) (ch_fr sd) (fun e3 => br_t (by decide) (one (Or.inr (fun t ht w => n2 t ht w.1)))) (fun e3 => one (Or.inl e3)) (ch_nI_r3 (by omega)) rfl
      · have hv2 := ch_VB_lt hV hq2
        refine pk_eq (s / 8) (ch_fr sd) (fun e3 => br_f (nI_pos (by omega)) ⟨vp_in_nI hq2 (by omega), pk_eq (B q2) 0 (fun e4 => nm_e ?_) (fun e4 => one (Or.inr (fun t ht w => e4 (ch_SQ_u w.1 s2 ▸ w.2)))) (ch_bx hB hq2) rfl⟩) (fun e3 => one (Or.inl e3)) (ch_nI_r3 (by omega)) rfl
        refine ch_x_pawnCap hB hV hs hsd hep hu (ch_SB_s e1 hq2) (fun L hL => h L (ch_SB_c hL (fun t ht => ?_)))
        unfold ch_PT
        constructor
        · rintro (((w | rfl) | rfl) | w)
          · exact w.elim
          · exact Or.inl ⟨s1, e⟩
          · exact Or.inr (Or.inl ⟨e3, s2, e4, q, hq, s1, e⟩)
          · exact Or.inr (Or.inr w)
        · rintro (⟨w, _⟩ | ⟨w1, w2, w3, _⟩ | w)
          · exact Or.inl (Or.inl (Or.inr (ch_SQ_u w s1)))
          · exact Or.inl (Or.inr (ch_SQ_u w2 s2))
          · exact Or.inr w
    · refine ch_x_pawnCap hB hV hs hsd hep hu e0 (fun L hL => h L (ch_SB_c hL (fun t ht => ?_)))
      unfold ch_PT
      constructor
      · rintro (w | w)
        · exact w.elim
        · exact Or.inr (Or.inr w)
      · rintro (⟨w, w2⟩ | ⟨_, _, _, q', hq', w, w2⟩ | w)
        · exact absurd (ch_SQ_u w s1 ▸ w2) e
        · exact absurd (ch_SQ_u w s1 ▸ w2) e
        · exact Or.inr w
theorem ch_x_pawnTargets {post : Int64 → Prop} {B : Nat → Nat} {s sd ep : Nat} (hB : ch_BX a_board B) (hV : ch_VB B) (hs : s < 64) (hsd : sd < 2) (hep : ep ≤ 64) (h : ∀ L, ch_SB L (ch_PT B sd ep s) → post L) : wpX_pawnTargets post (f_clockTop, f_numberTop, f_strict, nI sd, f_rights, ch_epI ep, f_clock, f_number, f_lineLen, f_outLen, f_moveTotal, f_movesKnown, f_savedSide, f_savedRights, f_savedPassant, f_savedClock, f_savedNumber, f_spellLen, f_at, f_end, f_writtenMark, f_writtenCastling, f_writtenPromotion, f_writtenTarget, f_writtenCapture, f_writtenRank, f_writtenFile, f_writtenKind, a_board, a_line, a_out, a_moves, a_savedBoard, a_spell) (nI s) := by
  have hh : wX_pawnTargets_40 post 0 (nI s &&& 7) (nI s >>> ((3 : Int32) &&& 31)) (ch_zI (ch_fw sd)) (nI (ch_fr sd)) f_clockTop f_numberTop f_strict (nI sd) f_rights (ch_epI ep) f_clock f_number f_lineLen f_outLen f_moveTotal f_movesKnown f_savedSide f_savedRights f_savedPassant f_savedClock f_savedNumber f_spellLen f_at f_end f_writtenMark f_writtenCastling f_writtenPromotion f_writtenTarget f_writtenCapture f_writtenRank f_writtenFile f_writtenKind a_board a_line a_out a_moves a_savedBoard a_spell := ch_x_pawn40 hB hV hs hsd hep h
  refine nm_e (nm_e (pk_eq sd 0 (fun e => ?_) (fun e => ?_)))
  · subst e
    exact br_t rfl hh
  · obtain rfl : sd = 1 := by omega
    exact br_f (by decide) hh
theorem ch_x_knight16 {post : Int64 → Prop} {J : Int64 → Int32 → Prop} {B : Nat → Nat} {s sd : Nat} {a : Int} {P : Nat → Prop} {L : Int64} (hB : ch_BX a_board B) (hV : ch_VB B) (hs : s < 64) (hsd : sd < 2) (ha : -2 ≤ a ∧ a ≤ 2) (hL : ch_SB L P) (h : ∀ L', ch_SB L' (fun t => P t ∨ ((∃ b, ch_kn a b ∧ ch_SQ s a b t) ∧ ¬ ch_ow B sd t)) → J L' (ch_zI (a + 1))) : wX_knightTargets_16 post J (nI s) (ch_zI a) f_clockTop f_numberTop f_strict (nI sd) f_rights f_passant f_clock f_number f_lineLen f_outLen f_moveTotal f_movesKnown f_savedSide f_savedRights f_savedPassant f_savedClock f_savedNumber f_spellLen f_at f_end f_writtenMark f_writtenCastling f_writtenPromotion f_writtenTarget f_writtenCapture f_writtenRank f_writtenFile f_writtenKind a_board a_line a_out a_moves a_savedBoard a_spell 6 L (-2) := by
  rw [ch_zI_m2]
  refine ch_fz (σ := Int64) (fun n L z => wX_knightTargets_16 post J (nI s) (ch_zI a) f_clockTop f_numberTop f_strict (nI sd) f_rights f_passant f_clock f_number f_lineLen f_outLen f_moveTotal f_movesKnown f_savedSide f_savedRights f_savedPassant f_savedClock f_savedNumber f_spellLen f_at f_end f_writtenMark f_writtenCastling f_writtenPromotion f_writtenTarget f_writtenCapture f_writtenRank f_writtenFile f_writtenKind a_board a_line a_out a_moves a_savedBoard a_spell n L z) (fun z L => -2 ≤ z ∧ ch_SB L (fun t => P t ∨ ((∃ b, b < z ∧ ch_kn a b ∧ ch_SQ s a b t) ∧ ¬ ch_ow B sd t))) 2 ?_ ?_ 5 (-2) L (by omega) ⟨by omega, ch_SB_c hL (fun t ht => ?_)⟩
  · rintro n L' ⟨_, hn⟩
    refine br_t (by decide) (nm_r (ch_zI_s a) (h L' (ch_SB_c hn (fun t ht => ?_))))
    constructor
    · rintro (w | ⟨⟨b, _, w⟩, y⟩)
      · exact Or.inl w
      · exact Or.inr ⟨⟨b, w⟩, y⟩
    · rintro (w | ⟨⟨b, w, w2⟩, y⟩)
      · exact Or.inl w
      · exact Or.inr ⟨⟨b, by unfold ch_kn at w; omega, w, w2⟩, y⟩
  · rintro n z L' hz ⟨hz2, hn⟩ ih
    have go : (∀ t, t < 64 → ch_kn a z → ch_SQ s a z t → ch_ow B sd t) → wX_knightTargets_16 post J (nI s) (ch_zI a) f_clockTop f_numberTop f_strict (nI sd) f_rights f_passant f_clock f_number f_lineLen f_outLen f_moveTotal f_movesKnown f_savedSide f_savedRights f_savedPassant f_savedClock f_savedNumber f_spellLen f_at f_end f_writtenMark f_writtenCastling f_writtenPromotion f_writtenTarget f_writtenCapture f_writtenRank f_writtenFile f_writtenKind a_board a_line a_out a_moves a_savedBoard a_spell n L' (ch_zI (z + 1)) := by
      intro n2
      refine ih L' ⟨by omega, ch_SB_c hn (fun t ht => ?_)⟩
      constructor
      · rintro (w | ⟨⟨b, w0, w⟩, y⟩)
        · exact Or.inl w
        · exact Or.inr ⟨⟨b, by omega, w⟩, y⟩
      · rintro (w | ⟨⟨b, w0, w1, w2⟩, y⟩)
        · exact Or.inl w
        · by_cases e : b = z
          · subst e; exact absurd (n2 t ht w1 w2) y
          · exact Or.inr ⟨⟨b, by omega, w1, w2⟩, y⟩
    refine ch_zk_lt 2 z (fun c => by omega) (fun _ => br_c (fun c => ?_) (fun c => nm_r (ch_zI_s z) (go (fun t ht hk _ => absurd ((ch_kn_z ha ⟨hz2, hz⟩).mpr hk) c))))
    have hk := (ch_kn_z ha ⟨hz2, hz⟩).mp c
    refine ch_x_sq s a z hs (by omega) (by omega) (fun n1 => ?_) (fun q hq s1 => ?_)
    · exact br_t (by decide) (nm_r (ch_zI_s z) (go (fun t ht _ w => absurd w (n1 t ht))))
    · have hv := ch_VB_lt hV hq
      refine br_f (nI_pos (by omega)) ⟨vp_in_nI hq (by omega), ?_⟩
      rw [ch_bx hB hq]
      refine ch_x_isOwn (by omega) hsd (fun w => br_f (by decide) (nm_r (ch_zI_s z) (go (fun t ht _ w2 => ch_SQ_u s1 w2 ▸ w)))) (fun w => br_t rfl (nm_e (nm_r (ch_zI_s z) (ih _ ⟨by omega, ch_SB_c (ch_SB_s hn hq) (fun t ht => ?_)⟩))))
      constructor
      · rintro ((w | ⟨⟨b, w0, w⟩, y⟩) | rfl)
        · exact Or.inl w
        · exact Or.inr ⟨⟨b, by omega, w⟩, y⟩
        · exact Or.inr ⟨⟨z, by omega, hk, s1⟩, w⟩
      · rintro (w | ⟨⟨b, w0, w1, w2⟩, y⟩)
        · exact Or.inl (Or.inl w)
        · by_cases e : b = z
          · subst e; exact Or.inr (ch_SQ_u w2 s1)
          · exact Or.inl (Or.inr ⟨⟨b, by omega, w1, w2⟩, y⟩)
  · constructor
    · exact Or.inl
    · rintro (w | ⟨⟨b, w0, w1, w2⟩, y⟩)
      · exact w
      · unfold ch_kn at w1; omega
theorem ch_x_knightTargets {post : Int64 → Prop} {B : Nat → Nat} {s sd : Nat} (hB : ch_BX a_board B) (hV : ch_VB B) (hs : s < 64) (hsd : sd < 2) (h : ∀ L, ch_SB L (fun t => (∃ a b, ch_kn a b ∧ ch_SQ s a b t) ∧ ¬ ch_ow B sd t) → post L) : wpX_knightTargets post (f_clockTop, f_numberTop, f_strict, nI sd, f_rights, f_passant, f_clock, f_number, f_lineLen, f_outLen, f_moveTotal, f_movesKnown, f_savedSide, f_savedRights, f_savedPassant, f_savedClock, f_savedNumber, f_spellLen, f_at, f_end, f_writtenMark, f_writtenCastling, f_writtenPromotion, f_writtenTarget, f_writtenCapture, f_writtenRank, f_writtenFile, f_writtenKind, a_board, a_line, a_out, a_moves, a_savedBoard, a_spell) (nI s) := by
  refine ⟨6, ?_⟩
  rw [ch_zI_m2]
  refine ch_fz (σ := Int64) (fun n L z => wX_knightTargets_6 post (nI s) f_clockTop f_numberTop f_strict (nI sd) f_rights f_passant f_clock f_number f_lineLen f_outLen f_moveTotal f_movesKnown f_savedSide f_savedRights f_savedPassant f_savedClock f_savedNumber f_spellLen f_at f_end f_writtenMark f_writtenCastling f_writtenPromotion f_writtenTarget f_writtenCapture f_writtenRank f_writtenFile f_writtenKind a_board a_line a_out a_moves a_savedBoard a_spell n L z) (fun z L => -2 ≤ z ∧ ch_SB L (fun t => (∃ a b, a < z ∧ ch_kn a b ∧ ch_SQ s a b t) ∧ ¬ ch_ow B sd t)) 2 ?_ ?_ 5 (-2) 0 (by omega) ⟨by omega, ch_SB_0 (fun t ht => ?_)⟩
  · rintro n L ⟨_, hn⟩
    refine br_t (by decide) (h L (ch_SB_c hn (fun t ht => ?_)))
    constructor
    · rintro ⟨⟨a, b, _, w⟩, y⟩
      exact ⟨⟨a, b, w⟩, y⟩
    · rintro ⟨⟨a, b, w, w2⟩, y⟩
      exact ⟨⟨a, b, by unfold ch_kn at w; omega, w, w2⟩, y⟩
  · rintro n z L hz ⟨hz2, hn⟩ ih
    refine ch_zk_lt 2 z (fun c => by omega) (fun _ => ⟨6, ch_x_knight16 hB hV hs hsd ⟨hz2, hz⟩ hn (fun L' hL' => ih L' ⟨by omega, ch_SB_c hL' (fun t ht => ?_)⟩)⟩)
    constructor
    · rintro (⟨⟨a, b, w0, w⟩, y⟩ | ⟨⟨b, w⟩, y⟩)
      · exact ⟨⟨a, b, by omega, w⟩, y⟩
      · exact ⟨⟨z, b, by omega, w⟩, y⟩
    · rintro ⟨⟨a, b, w0, w⟩, y⟩
      by_cases e : a = z
      · subst e; exact Or.inr ⟨⟨b, w⟩, y⟩
      · exact Or.inl ⟨⟨a, b, by omega, w⟩, y⟩
  · rintro ⟨⟨a, b, w0, w1, w2⟩, y⟩
    unfold ch_kn at w1; omega
theorem ch_x_rayC {post : Int64 → Prop} {x1 x2 x3 x4 x8 : Int32} {L : Int64} {n : Nat} (h : post L) : wX_rayTargets_9 post x1 x2 x3 x4 f_clockTop f_numberTop f_strict f_side f_rights f_passant f_clock f_number f_lineLen f_outLen f_moveTotal f_movesKnown f_savedSide f_savedRights f_savedPassant f_savedClock f_savedNumber f_spellLen f_at f_end f_writtenMark f_writtenCastling f_writtenPromotion f_writtenTarget f_writtenCapture f_writtenRank f_writtenFile f_writtenKind a_board a_line a_out a_moves a_savedBoard a_spell (n + 1) L 0 x8 := br_c (fun _ => h) (fun _ => br_t rfl h)
theorem ch_x_ray9 {post : Int64 → Prop} {B : Nat → Nat} {s sd R : Nat} {a b : Int} (hB : ch_BX a_board B) (hV : ch_VB B) (hs : s < 64) (hsd : sd < 2) (hR : R ≤ 7) (hd : ch_dr a b) (h : ∀ L, ch_SB L (fun t => (∃ k, k ≤ R ∧ ch_LN B s t a b k) ∧ ¬ ch_ow B sd t) → post L) : ∀ (n k : Nat) (L : Int64), 1 ≤ k → k ≤ R + 1 → R + 1 < n + k → ch_SB L (fun t => (∃ k', k' < k ∧ ch_LN B s t a b k') ∧ ¬ ch_ow B sd t) → (∀ j : Nat, 1 ≤ j → j < k → ∃ q, q < 64 ∧ ch_SQ s (j * a) (j * b) q ∧ B q = 0) → wX_rayTargets_9 post (nI s) (ch_zI a) (ch_zI b) (nI R) f_clockTop f_numberTop f_strict (nI sd) f_rights f_passant f_clock f_number f_lineLen f_outLen f_moveTotal f_movesKnown f_savedSide f_savedRights f_savedPassant f_savedClock f_savedNumber f_spellLen f_at f_end f_writtenMark f_writtenCastling f_writtenPromotion f_writtenTarget f_writtenCapture f_writtenRank f_writtenFile f_writtenKind a_board a_line a_out a_moves a_savedBoard a_spell n L 1 (nI k) := by
  intro n
  induction n with
  | zero => intro k L k1 k2 k3; omega
  | succ n ih =>
    intro k L k1 k2 k3 hL hj
    have hd' := ch_dr_c hd
    have ch_lo : ∀ j q, 1 ≤ j → j < k → q < 64 → ch_SQ s (j * a) (j * b) q → B q = 0 := by
      intro j q j1 j2 hq hs'
      obtain ⟨q', _, hs2, e⟩ := hj j j1 j2
      exact ch_SQ_u hs2 hs' ▸ e
    refine pk_lt R k (fun e => h L (ch_SB_c hL (fun t ht => ?_))) (fun e => br_f (by decide) ?_)
    · constructor
      · rintro ⟨⟨k', w, w2⟩, y⟩
        exact ⟨⟨k', by omega, w2⟩, y⟩
      · rintro ⟨⟨k', w, w2⟩, y⟩
        exact ⟨⟨k', by omega, w2⟩, y⟩
    · rw [ch_nI_zm, ch_nI_zm]
      refine ch_x_sq s (k * a) (k * b) hs (by rcases hd' with ⟨rfl | rfl | rfl, _⟩ <;> omega) (by rcases hd' with ⟨_, rfl | rfl | rfl⟩ <;> omega) (fun n1 => ?_) (fun q hq s1 => ?_)
      · obtain ⟨n', rfl⟩ : ∃ n', n = n' + 1 := ⟨n - 1, by omega⟩
        refine br_f (by decide) (nm_e (ch_x_rayC (h L (ch_SB_c hL (fun t ht => ?_)))))
        constructor
        · rintro ⟨⟨k', w, w2⟩, y⟩
          exact ⟨⟨k', by omega, w2⟩, y⟩
        · rintro ⟨⟨k', w, w2⟩, y⟩
          refine ⟨⟨k', ?_, w2⟩, y⟩
          by_cases e2 : k' < k
          · exact e2
          · obtain ⟨q2, hq2, hs2⟩ := ch_SQ_mid hd hs ht w2.2.2.1 (j := k) (by omega)
            exact absurd hs2 (n1 q2 hq2)
      · have hv := ch_VB_lt hV hq
        have fin : ∀ L', ch_SB L' (fun t => (∃ k', k' < k + 1 ∧ ch_LN B s t a b k') ∧ ¬ ch_ow B sd t) → wX_rayTargets_78 post (wX_rayTargets_9 post (nI s) (ch_zI a) (ch_zI b) (nI R) f_clockTop f_numberTop f_strict (nI sd) f_rights f_passant f_clock f_number f_lineLen f_outLen f_moveTotal f_movesKnown f_savedSide f_savedRights f_savedPassant f_savedClock f_savedNumber f_spellLen f_at f_end f_writtenMark f_writtenCastling f_writtenPromotion f_writtenTarget f_writtenCapture f_writtenRank f_writtenFile f_writtenKind a_board a_line a_out a_moves a_savedBoard a_spell n) (nI s) (ch_zI a) (ch_zI b) (nI R) L' (nI k) (nI q) f_clockTop f_numberTop f_strict (nI sd) f_rights f_passant f_clock f_number f_lineLen f_outLen f_moveTotal f_movesKnown f_savedSide f_savedRights f_savedPassant f_savedClock f_savedNumber f_spellLen f_at f_end f_writtenMark f_writtenCastling f_writtenPromotion f_writtenTarget f_writtenCapture f_writtenRank f_writtenFile f_writtenKind a_board a_line a_out a_moves a_savedBoard a_spell := by
          intro L' hL'
          refine ⟨vp_in_nI hq (by omega), pk_eq (B q) 0 (fun e0 => nm_r (nI_1 k) (ih (k + 1) L' (by omega) (by omega) (by omega) hL' ?_)) (fun e0 => ?_) (ch_bx hB hq) rfl⟩
          · intro j j1 j2
            by_cases e3 : j = k
            · subst e3; exact ⟨q, hq, s1, e0⟩
            · exact hj j j1 (by omega)
          · obtain ⟨n', rfl⟩ : ∃ n', n = n' + 1 := ⟨n - 1, by omega⟩
            refine nm_e (ch_x_rayC (h L' (ch_SB_c hL' (fun t ht => ?_))))
            constructor
            · rintro ⟨⟨k', w, w2⟩, y⟩
              exact ⟨⟨k', by omega, w2⟩, y⟩
            · rintro ⟨⟨k', w, w2⟩, y⟩
              refine ⟨⟨k', ?_, w2⟩, y⟩
              by_cases e2 : k' < k + 1
              · exact e2
              · exact absurd (w2.2.2.2 k k1 (by omega) q hq s1) e0
        have lnq : ch_LN B s q a b k := ⟨k1, by omega, s1, fun j j1 j2 q' hq' w => ch_lo j q' j1 j2 hq' w⟩
        refine br_t (nI_pos' (by omega)) ⟨vp_in_nI hq (by omega), ?_⟩
        rw [ch_bx hB hq]
        refine ch_x_isOwn (by omega) hsd (fun w => br_f (by decide) (fin L (ch_SB_c hL (fun t ht => ?_)))) (fun w => br_t rfl (nm_e (fin _ (ch_SB_c (ch_SB_s hL hq) (fun t ht => ?_)))))
        · constructor
          · rintro ⟨⟨k', y, y2⟩, z⟩
            exact ⟨⟨k', by omega, y2⟩, z⟩
          · rintro ⟨⟨k', y, y2⟩, z⟩
            by_cases e2 : k' < k
            · exact ⟨⟨k', e2, y2⟩, z⟩
            · obtain rfl : k' = k := by omega
              obtain rfl := ch_SQ_u y2.2.2.1 s1
              exact absurd w z
        · constructor
          · rintro (⟨⟨k', y, y2⟩, z⟩ | rfl)
            · exact ⟨⟨k', by omega, y2⟩, z⟩
            · exact ⟨⟨k, by omega, lnq⟩, w⟩
          · rintro ⟨⟨k', y, y2⟩, z⟩
            by_cases e2 : k' < k
            · exact Or.inl ⟨⟨k', e2, y2⟩, z⟩
            · obtain rfl : k' = k := by omega
              exact Or.inr (ch_SQ_u y2.2.2.1 s1)
theorem ch_x_rayTargets {post : Int64 → Prop} {B : Nat → Nat} {s sd R : Nat} {a b : Int} (hB : ch_BX a_board B) (hV : ch_VB B) (hs : s < 64) (hsd : sd < 2) (hR : R ≤ 7) (hd : ch_dr a b) (h : ∀ L, ch_SB L (fun t => (∃ k, k ≤ R ∧ ch_LN B s t a b k) ∧ ¬ ch_ow B sd t) → post L) : wpX_rayTargets post (f_clockTop, f_numberTop, f_strict, nI sd, f_rights, f_passant, f_clock, f_number, f_lineLen, f_outLen, f_moveTotal, f_movesKnown, f_savedSide, f_savedRights, f_savedPassant, f_savedClock, f_savedNumber, f_spellLen, f_at, f_end, f_writtenMark, f_writtenCastling, f_writtenPromotion, f_writtenTarget, f_writtenCapture, f_writtenRank, f_writtenFile, f_writtenKind, a_board, a_line, a_out, a_moves, a_savedBoard, a_spell) (nI s) (ch_zI a) (ch_zI b) (nI R) := by
  refine ⟨9, ch_x_ray9 hB hV hs hsd hR hd h 9 1 0 (by omega) (by omega) (by omega) (ch_SB_0 ?_) (fun j j1 j2 => by omega)⟩
  rintro t ht ⟨⟨k, hk, w, _⟩, _⟩
  omega
theorem ch_x_lt93 {post : Int64 → Prop} {J19 J28 : Int64 → Int32 → Prop} {s K R mv bd : Nat} {a z : Int} {L : Int64} (hmv : mv < 2) (hbd : bd < 2) (hA : (mv = 0 ∨ bd ≠ 0) → J28 L (ch_zI (z + 1))) (hC : mv ≠ 0 → bd = 0 → wpX_rayTargets (fun r => J28 (L ||| r) (ch_zI (z + 1))) (f_clockTop, f_numberTop, f_strict, f_side, f_rights, f_passant, f_clock, f_number, f_lineLen, f_outLen, f_moveTotal, f_movesKnown, f_savedSide, f_savedRights, f_savedPassant, f_savedClock, f_savedNumber, f_spellLen, f_at, f_end, f_writtenMark, f_writtenCastling, f_writtenPromotion, f_writtenTarget, f_writtenCapture, f_writtenRank, f_writtenFile, f_writtenKind, a_board, a_line, a_out, a_moves, a_savedBoard, a_spell) (nI s) (ch_zI a) (ch_zI z) (nI R)) : wX_lineTargets_93 post J19 J28 (nI s) (nI K) L (nI R) (ch_zI a) (ch_zI z) (nI mv) (nI bd) f_clockTop f_numberTop f_strict f_side f_rights f_passant f_clock f_number f_lineLen f_outLen f_moveTotal f_movesKnown f_savedSide f_savedRights f_savedPassant f_savedClock f_savedNumber f_spellLen f_at f_end f_writtenMark f_writtenCastling f_writtenPromotion f_writtenTarget f_writtenCapture f_writtenRank f_writtenFile f_writtenKind a_board a_line a_out a_moves a_savedBoard a_spell := by
  refine pk_eq mv 0 (fun e => nm_r (ch_zI_s z) (hA (Or.inl e))) (fun e => pk_eq bd 0 (fun e2 => ?_) (fun e2 => nm_r (ch_zI_s z) (hA (Or.inr e2))))
  have h := hC e e2
  have ef : (fun r : Int64 => ∀ y : Int64, y = L ||| r → ∀ w : Int32, w = ch_zI z + 1 → J28 y w) = (fun r => J28 (L ||| r) (ch_zI (z + 1))) := by
    funext r
    apply propext
    constructor
    · intro w; exact w _ rfl _ (ch_zI_s z).symm
    · rintro w y rfl x rfl
      rw [ch_zI_s]; exact w
  rw [← ef] at h
  exact h
theorem ch_x_lt66 {post : Int64 → Prop} {J19 J28 : Int64 → Int32 → Prop} {s K R mv g : Nat} {a z : Int} {L : Int64} (hmv : mv < 2) (hg : g < 2) (hK : K < 8) (hA : (mv = 0 ∨ (K = 3 ∧ g = 0) ∨ (K = 4 ∧ g ≠ 0)) → J28 L (ch_zI (z + 1))) (hC : mv ≠ 0 → ¬ (K = 3 ∧ g = 0) → ¬ (K = 4 ∧ g ≠ 0) → wpX_rayTargets (fun r => J28 (L ||| r) (ch_zI (z + 1))) (f_clockTop, f_numberTop, f_strict, f_side, f_rights, f_passant, f_clock, f_number, f_lineLen, f_outLen, f_moveTotal, f_movesKnown, f_savedSide, f_savedRights, f_savedPassant, f_savedClock, f_savedNumber, f_spellLen, f_at, f_end, f_writtenMark, f_writtenCastling, f_writtenPromotion, f_writtenTarget, f_writtenCapture, f_writtenRank, f_writtenFile, f_writtenKind, a_board, a_line, a_out, a_moves, a_savedBoard, a_spell) (nI s) (ch_zI a) (ch_zI z) (nI R)) : wX_lineTargets_66 post J19 J28 (nI s) (nI K) L (nI R) (ch_zI a) (ch_zI z) (nI mv) (nI g) f_clockTop f_numberTop f_strict f_side f_rights f_passant f_clock f_number f_lineLen f_outLen f_moveTotal f_movesKnown f_savedSide f_savedRights f_savedPassant f_savedClock f_savedNumber f_spellLen f_at f_end f_writtenMark f_writtenCastling f_writtenPromotion f_writtenTarget f_writtenCapture f_writtenRank f_writtenFile f_writtenKind a_board a_line a_out a_moves a_savedBoard a_spell := by
  have h88 : ((K = 3 ∧ g = 0) ∨ (K = 4 ∧ g ≠ 0)) → wX_lineTargets_88 post J19 J28 (nI s) (nI K) L (nI R) (ch_zI a) (ch_zI z) (nI mv) f_clockTop f_numberTop f_strict f_side f_rights f_passant f_clock f_number f_lineLen f_outLen f_moveTotal f_movesKnown f_savedSide f_savedRights f_savedPassant f_savedClock f_savedNumber f_spellLen f_at f_end f_writtenMark f_writtenCastling f_writtenPromotion f_writtenTarget f_writtenCapture f_writtenRank f_writtenFile f_writtenKind a_board a_line a_out a_moves a_savedBoard a_spell := fun w =>
    ch_x_lt93 (bd := 1) hmv (by omega) (fun _ => hA (Or.inr w)) (fun _ z => by omega)
  have h92 : ¬ (K = 3 ∧ g = 0) → ¬ (K = 4 ∧ g ≠ 0) → wX_lineTargets_92 post J19 J28 (nI s) (nI K) L (nI R) (ch_zI a) (ch_zI z) (nI mv) f_clockTop f_numberTop f_strict f_side f_rights f_passant f_clock f_number f_lineLen f_outLen f_moveTotal f_movesKnown f_savedSide f_savedRights f_savedPassant f_savedClock f_savedNumber f_spellLen f_at f_end f_writtenMark f_writtenCastling f_writtenPromotion f_writtenTarget f_writtenCapture f_writtenRank f_writtenFile f_writtenKind a_board a_line a_out a_moves a_savedBoard a_spell := fun w w2 =>
    ch_x_lt93 (bd := 0) hmv (by omega) (fun q => hA (Or.inl (by omega))) (fun q _ => hC q w w2)
  have h78 : ¬ (K = 3 ∧ g = 0) → wX_lineTargets_78 post J19 J28 (nI s) (nI K) L (nI R) (ch_zI a) (ch_zI z) (nI mv) (nI g) f_clockTop f_numberTop f_strict f_side f_rights f_passant f_clock f_number f_lineLen f_outLen f_moveTotal f_movesKnown f_savedSide f_savedRights f_savedPassant f_savedClock f_savedNumber f_spellLen f_at f_end f_writtenMark f_writtenCastling f_writtenPromotion f_writtenTarget f_writtenCapture f_writtenRank f_writtenFile f_writtenKind a_board a_line a_out a_moves a_savedBoard a_spell := fun w =>
    pk_eq K 4 (fun e => pk_eq g 0 (fun e2 => h92 w (fun y => y.2 e2)) (fun e2 => h88 (Or.inr ⟨e, e2⟩))) (fun e => h92 w (fun y => e y.1))
  exact pk_eq K 3 (fun e => pk_eq g 0 (fun e2 => h88 (Or.inl ⟨e, e2⟩)) (fun e2 => h78 (fun y => e2 y.2))) (fun e => h78 (fun y => e y.1))
/-- the directions that a kind may take -/
def ch_al (K : Nat) (a b : Int) : Prop := ch_dr a b ∧ ¬ (K = 3 ∧ (a = 0 ∨ b = 0)) ∧ ¬ (K = 4 ∧ a ≠ 0 ∧ b ≠ 0)
theorem ch_x_lt28 {post : Int64 → Prop} {J19 : Int64 → Int32 → Prop} {B : Nat → Nat} {s sd K R : Nat} {a : Int} {P : Nat → Prop} {L : Int64} (hB : ch_BX a_board B) (hV : ch_VB B) (hs : s < 64) (hsd : sd < 2) (hK : K < 8) (hR : R ≤ 7) (ha : -1 ≤ a ∧ a ≤ 1) (hL : ch_SB L P) (h : ∀ L', ch_SB L' (fun t => P t ∨ ((∃ b k, ch_al K a b ∧ k ≤ R ∧ ch_LN B s t a b k) ∧ ¬ ch_ow B sd t)) → J19 L' (ch_zI (a + 1))) : wX_lineTargets_28 post J19 (nI s) (nI K) (nI R) (ch_zI a) f_clockTop f_numberTop f_strict (nI sd) f_rights f_passant f_clock f_number f_lineLen f_outLen f_moveTotal f_movesKnown f_savedSide f_savedRights f_savedPassant f_savedClock f_savedNumber f_spellLen f_at f_end f_writtenMark f_writtenCastling f_writtenPromotion f_writtenTarget f_writtenCapture f_writtenRank f_writtenFile f_writtenKind a_board a_line a_out a_moves a_savedBoard a_spell 4 L (-1) := by
  rw [ch_zI_m1]
  refine ch_fz (σ := Int64) (fun n L z => wX_lineTargets_28 post J19 (nI s) (nI K) (nI R) (ch_zI a) f_clockTop f_numberTop f_strict (nI sd) f_rights f_passant f_clock f_number f_lineLen f_outLen f_moveTotal f_movesKnown f_savedSide f_savedRights f_savedPassant f_savedClock f_savedNumber f_spellLen f_at f_end f_writtenMark f_writtenCastling f_writtenPromotion f_writtenTarget f_writtenCapture f_writtenRank f_writtenFile f_writtenKind a_board a_line a_out a_moves a_savedBoard a_spell n L z) (fun z L => -1 ≤ z ∧ ch_SB L (fun t => P t ∨ ((∃ b k, b < z ∧ ch_al K a b ∧ k ≤ R ∧ ch_LN B s t a b k) ∧ ¬ ch_ow B sd t))) 1 ?_ ?_ 3 (-1) L (by omega) ⟨by omega, ch_SB_c hL (fun t ht => ?_)⟩
  · rintro n L' ⟨_, hn⟩
    refine br_t (by decide) (nm_r (ch_zI_s a) (h L' (ch_SB_c hn (fun t ht => ?_))))
    constructor
    · rintro (w | ⟨⟨b, k, _, w⟩, y⟩)
      · exact Or.inl w
      · exact Or.inr ⟨⟨b, k, w⟩, y⟩
    · rintro (w | ⟨⟨b, k, w, w2⟩, y⟩)
      · exact Or.inl w
      · exact Or.inr ⟨⟨b, k, by have := w.1; unfold ch_dr at this; omega, w, w2⟩, y⟩
  · rintro n z L' hz ⟨hz2, hn⟩ ih
    have skip : ¬ ch_al K a z → wX_lineTargets_28 post J19 (nI s) (nI K) (nI R) (ch_zI a) f_clockTop f_numberTop f_strict (nI sd) f_rights f_passant f_clock f_number f_lineLen f_outLen f_moveTotal f_movesKnown f_savedSide f_savedRights f_savedPassant f_savedClock f_savedNumber f_spellLen f_at f_end f_writtenMark f_writtenCastling f_writtenPromotion f_writtenTarget f_writtenCapture f_writtenRank f_writtenFile f_writtenKind a_board a_line a_out a_moves a_savedBoard a_spell n L' (ch_zI (z + 1)) := by
      intro hna
      refine ih L' ⟨by omega, ch_SB_c hn (fun t ht => ?_)⟩
      constructor
      · rintro (w | ⟨⟨b, k, w0, w⟩, y⟩)
        · exact Or.inl w
        · exact Or.inr ⟨⟨b, k, by omega, w⟩, y⟩
      · rintro (w | ⟨⟨b, k, w0, w1, w2⟩, y⟩)
        · exact Or.inl w
        · by_cases e : b = z
          · subst e; exact absurd w1 hna
          · exact Or.inr ⟨⟨b, k, by omega, w1, w2⟩, y⟩
    have ray : ch_al K a z → wpX_rayTargets (fun r => wX_lineTargets_28 post J19 (nI s) (nI K) (nI R) (ch_zI a) f_clockTop f_numberTop f_strict (nI sd) f_rights f_passant f_clock f_number f_lineLen f_outLen f_moveTotal f_movesKnown f_savedSide f_savedRights f_savedPassant f_savedClock f_savedNumber f_spellLen f_at f_end f_writtenMark f_writtenCastling f_writtenPromotion f_writtenTarget f_writtenCapture f_writtenRank f_writtenFile f_writtenKind a_board a_line a_out a_moves a_savedBoard a_spell n (L' ||| r) (ch_zI (z + 1))) (f_clockTop, f_numberTop, f_strict, nI sd, f_rights, f_passant, f_clock, f_number, f_lineLen, f_outLen, f_moveTotal, f_movesKnown, f_savedSide, f_savedRights, f_savedPassant, f_savedClock, f_savedNumber, f_spellLen, f_at, f_end, f_writtenMark, f_writtenCastling, f_writtenPromotion, f_writtenTarget, f_writtenCapture, f_writtenRank, f_writtenFile, f_writtenKind, a_board, a_line, a_out, a_moves, a_savedBoard, a_spell) (nI s) (ch_zI a) (ch_zI z) (nI R) := by
      intro hal
      refine ch_x_rayTargets hB hV hs hsd hR hal.1 (fun M hM => ih _ ⟨by omega, ch_SB_c (ch_SB_o hn hM) (fun t ht => ?_)⟩)
      constructor
      · rintro ((w | ⟨⟨b, k, w0, w⟩, y⟩) | ⟨⟨k, w⟩, y⟩)
        · exact Or.inl w
        · exact Or.inr ⟨⟨b, k, by omega, w⟩, y⟩
        · exact Or.inr ⟨⟨z, k, by omega, hal, w⟩, y⟩
      · rintro (w | ⟨⟨b, k, w0, w1, w2⟩, y⟩)
        · exact Or.inl (Or.inl w)
        · by_cases e : b = z
          · subst e; exact Or.inr ⟨⟨k, w2⟩, y⟩
          · exact Or.inl (Or.inr ⟨⟨b, k, by omega, w1, w2⟩, y⟩)
    have h49 : ∀ mv : Nat, mv < 2 → (mv = 0 ↔ (a = 0 ∧ z = 0)) → wX_lineTargets_49 post J19 (wX_lineTargets_28 post J19 (nI s) (nI K) (nI R) (ch_zI a) f_clockTop f_numberTop f_strict (nI sd) f_rights f_passant f_clock f_number f_lineLen f_outLen f_moveTotal f_movesKnown f_savedSide f_savedRights f_savedPassant f_savedClock f_savedNumber f_spellLen f_at f_end f_writtenMark f_writtenCastling f_writtenPromotion f_writtenTarget f_writtenCapture f_writtenRank f_writtenFile f_writtenKind a_board a_line a_out a_moves a_savedBoard a_spell n) (nI s) (nI K) L' (nI R) (ch_zI a) (ch_zI z) (nI mv) f_clockTop f_numberTop f_strict (nI sd) f_rights f_passant f_clock f_number f_lineLen f_outLen f_moveTotal f_movesKnown f_savedSide f_savedRights f_savedPassant f_savedClock f_savedNumber f_spellLen f_at f_end f_writtenMark f_writtenCastling f_writtenPromotion f_writtenTarget f_writtenCapture f_writtenRank f_writtenFile f_writtenKind a_board a_line a_out a_moves a_savedBoard a_spell := by
      intro mv hmv ch_hm
      have g0 : (a = 0 ∨ z = 0) → wX_lineTargets_65 post J19 (wX_lineTargets_28 post J19 (nI s) (nI K) (nI R) (ch_zI a) f_clockTop f_numberTop f_strict (nI sd) f_rights f_passant f_clock f_number f_lineLen f_outLen f_moveTotal f_movesKnown f_savedSide f_savedRights f_savedPassant f_savedClock f_savedNumber f_spellLen f_at f_end f_writtenMark f_writtenCastling f_writtenPromotion f_writtenTarget f_writtenCapture f_writtenRank f_writtenFile f_writtenKind a_board a_line a_out a_moves a_savedBoard a_spell n) (nI s) (nI K) L' (nI R) (ch_zI a) (ch_zI z) (nI mv) f_clockTop f_numberTop f_strict (nI sd) f_rights f_passant f_clock f_number f_lineLen f_outLen f_moveTotal f_movesKnown f_savedSide f_savedRights f_savedPassant f_savedClock f_savedNumber f_spellLen f_at f_end f_writtenMark f_writtenCastling f_writtenPromotion f_writtenTarget f_writtenCapture f_writtenRank f_writtenFile f_writtenKind a_board a_line a_out a_moves a_savedBoard a_spell := fun q =>
        ch_x_lt66 (g := 0) hmv (by omega) hK (fun w => skip (by unfold ch_al ch_dr; omega)) (fun w1 w2 w3 => ray (by unfold ch_al ch_dr; omega))
      refine ch_zk_eq a 0 (fun ea => g0 (Or.inl ea)) (fun ea => ch_zk_eq z 0 (fun ez => g0 (Or.inr ez)) (fun ez => ?_))
      exact ch_x_lt66 (g := 1) hmv (by omega) hK (fun w => skip (by unfold ch_al ch_dr; omega)) (fun w1 w2 w3 => ray (by unfold ch_al ch_dr; omega))
    have h44 : ¬ (a = 0 ∧ z = 0) → wX_lineTargets_44 post J19 (wX_lineTargets_28 post J19 (nI s) (nI K) (nI R) (ch_zI a) f_clockTop f_numberTop f_strict (nI sd) f_rights f_passant f_clock f_number f_lineLen f_outLen f_moveTotal f_movesKnown f_savedSide f_savedRights f_savedPassant f_savedClock f_savedNumber f_spellLen f_at f_end f_writtenMark f_writtenCastling f_writtenPromotion f_writtenTarget f_writtenCapture f_writtenRank f_writtenFile f_writtenKind a_board a_line a_out a_moves a_savedBoard a_spell n) (nI s) (nI K) L' (nI R) (ch_zI a) (ch_zI z) f_clockTop f_numberTop f_strict (nI sd) f_rights f_passant f_clock f_number f_lineLen f_outLen f_moveTotal f_movesKnown f_savedSide f_savedRights f_savedPassant f_savedClock f_savedNumber f_spellLen f_at f_end f_writtenMark f_writtenCastling f_writtenPromotion f_writtenTarget f_writtenCapture f_writtenRank f_writtenFile f_writtenKind a_board a_line a_out a_moves a_savedBoard a_spell := fun w => h49 1 (by omega) (by omega)
    exact ch_zk_lt 1 z (fun c => by omega) (fun _ => ch_zk_eq a 0 (fun ea => ch_zk_eq z 0 (fun ez => h49 0 (by omega) (by omega)) (fun ez => h44 (by omega))) (fun ea => h44 (by omega)))
  · constructor
    · exact Or.inl
    · rintro (w | ⟨⟨b, k, w0, w1, w2⟩, y⟩)
      · exact w
      · have := w1.1; unfold ch_dr at this; omega
theorem ch_x_lt19 {post : Int64 → Prop} {B : Nat → Nat} {s sd K R : Nat} (hB : ch_BX a_board B) (hV : ch_VB B) (hs : s < 64) (hsd : sd < 2) (hK : K < 8) (hR : R ≤ 7) (h : ∀ L, ch_SB L (fun t => (∃ a b k, ch_al K a b ∧ k ≤ R ∧ ch_LN B s t a b k) ∧ ¬ ch_ow B sd t) → post L) : ∃ n, wX_lineTargets_19 post (nI s) (nI K) (nI R) f_clockTop f_numberTop f_strict (nI sd) f_rights f_passant f_clock f_number f_lineLen f_outLen f_moveTotal f_movesKnown f_savedSide f_savedRights f_savedPassant f_savedClock f_savedNumber f_spellLen f_at f_end f_writtenMark f_writtenCastling f_writtenPromotion f_writtenTarget f_writtenCapture f_writtenRank f_writtenFile f_writtenKind a_board a_line a_out a_moves a_savedBoard a_spell n 0 (-1) := by
  refine ⟨4, ?_⟩
  rw [ch_zI_m1]
  refine ch_fz (σ := Int64) (fun n L z => wX_lineTargets_19 post (nI s) (nI K) (nI R) f_clockTop f_numberTop f_strict (nI sd) f_rights f_passant f_clock f_number f_lineLen f_outLen f_moveTotal f_movesKnown f_savedSide f_savedRights f_savedPassant f_savedClock f_savedNumber f_spellLen f_at f_end f_writtenMark f_writtenCastling f_writtenPromotion f_writtenTarget f_writtenCapture f_writtenRank f_writtenFile f_writtenKind a_board a_line a_out a_moves a_savedBoard a_spell n L z) (fun z L => -1 ≤ z ∧ ch_SB L (fun t => (∃ a b k, a < z ∧ ch_al K a b ∧ k ≤ R ∧ ch_LN B s t a b k) ∧ ¬ ch_ow B sd t)) 1 ?_ ?_ 3 (-1) 0 (by omega) ⟨by omega, ch_SB_0 (fun t ht => ?_)⟩
  · rintro n L ⟨_, hn⟩
    refine br_t (by decide) (h L (ch_SB_c hn (fun t ht => ?_)))
    constructor
    · rintro ⟨⟨a, b, k, _, w⟩, y⟩
      exact ⟨⟨a, b, k, w⟩, y⟩
    · rintro ⟨⟨a, b, k, w, w2⟩, y⟩
      exact ⟨⟨a, b, k, by have := w.1; unfold ch_dr at this; omega, w, w2⟩, y⟩
  · rintro n z L hz ⟨hz2, hn⟩ ih
    refine ch_zk_lt 1 z (fun c => by omega) (fun _ => ⟨4, ch_x_lt28 hB hV hs hsd hK hR ⟨hz2, hz⟩ hn (fun L' hL' => ih L' ⟨by omega, ch_SB_c hL' (fun t ht => ?_)⟩)⟩)
    constructor
    · rintro (⟨⟨a, b, k, w0, w⟩, y⟩ | ⟨⟨b, k, w⟩, y⟩)
      · exact ⟨⟨a, b, k, by omega, w⟩, y⟩
      · exact ⟨⟨z, b, k, by omega, w⟩, y⟩
    · rintro ⟨⟨a, b, k, w0, w⟩, y⟩
      by_cases e : a = z
      · subst e; exact Or.inr ⟨⟨b, k, w⟩, y⟩
      · exact Or.inl ⟨⟨a, b, k, by omega, w⟩, y⟩
  · rintro ⟨⟨a, b, k, w0, w1, w2⟩, y⟩
    have := w1.1; unfold ch_dr at this; omega
theorem ch_x_lineTargets {post : Int64 → Prop} {B : Nat → Nat} {s sd K : Nat} (hB : ch_BX a_board B) (hV : ch_VB B) (hs : s < 64) (hsd : sd < 2) (hK : K < 8) (h : ∀ L, ch_SB L (fun t => (∃ a b k, ch_al K a b ∧ k ≤ (if K = 6 then 1 else 7) ∧ ch_LN B s t a b k) ∧ ¬ ch_ow B sd t) → post L) : wpX_lineTargets post (f_clockTop, f_numberTop, f_strict, nI sd, f_rights, f_passant, f_clock, f_number, f_lineLen, f_outLen, f_moveTotal, f_movesKnown, f_savedSide, f_savedRights, f_savedPassant, f_savedClock, f_savedNumber, f_spellLen, f_at, f_end, f_writtenMark, f_writtenCastling, f_writtenPromotion, f_writtenTarget, f_writtenCapture, f_writtenRank, f_writtenFile, f_writtenKind, a_board, a_line, a_out, a_moves, a_savedBoard, a_spell) (nI s) (nI K) := by
  refine pk_eq K 6 (fun e => ?_) (fun e => ?_)
  · rw [if_pos e] at h
    exact ch_x_lt19 (R := 1) hB hV hs hsd hK (by omega) h
  · rw [if_neg e] at h
    exact ch_x_lt19 (R := 7) hB hV hs hsd hK (by omega) h
end
end
section
/-! castling, candidates -/
def ch_hm (sd : Nat) : Nat := if sd = 0 then 4 else 60
def ch_mn (sd rt : Nat) : Nat := if sd = 0 then rt % 4 else rt / 4 % 4
def ch_C6 (B : Nat → Nat) (sd rt : Nat) : Prop := ch_mn sd rt % 2 = 1 ∧ B (ch_hm sd + 1) = 0 ∧ B (ch_hm sd + 2) = 0 ∧ ¬ ch_AT B (ch_hm sd) (1 - sd) ∧ ¬ ch_AT B (ch_hm sd + 1) (1 - sd) ∧ ¬ ch_AT B (ch_hm sd + 2) (1 - sd)
def ch_C7 (B : Nat → Nat) (sd rt : Nat) : Prop := ch_mn sd rt / 2 = 1 ∧ B (ch_hm sd - 1) = 0 ∧ B (ch_hm sd - 2) = 0 ∧ B (ch_hm sd - 3) = 0 ∧ ¬ ch_AT B (ch_hm sd) (1 - sd) ∧ ¬ ch_AT B (ch_hm sd - 1) (1 - sd) ∧ ¬ ch_AT B (ch_hm sd - 2) (1 - sd)
theorem ch_hm_c {sd : Nat} (h : sd < 2) : (sd = 0 ∧ ch_hm sd = 4) ∨ (sd = 1 ∧ ch_hm sd = 60) := by
  unfold ch_hm; split <;> omega
theorem ch_an1 : ∀ m, m < 4 → nI m &&& 1 = nI (m % 2) := by decide +kernel
theorem ch_an2 : ∀ m, m < 4 → nI m &&& 2 = nI (m / 2 * 2) := by decide +kernel
theorem ch_an3 : ∀ m, m < 16 → nI m &&& 3 = nI (m % 4) := by decide +kernel
theorem ch_an4 : ∀ m, m < 16 → (nI m >>> ((2 : Int32) &&& 31)) &&& 3 = nI (m / 4 % 4) := by decide +kernel
theorem ch_side_f : ∀ sd, sd < 2 → 1 - nI sd = nI (1 - sd) := by decide +kernel
section
variable {f_clockTop f_numberTop f_strict f_side f_rights f_passant f_clock f_number f_lineLen f_outLen f_moveTotal f_movesKnown f_savedSide f_savedRights f_savedPassant f_savedClock f_savedNumber f_spellLen f_at f_end f_writtenMark f_writtenCastling f_writtenPromotion f_writtenTarget f_writtenCapture f_writtenRank f_writtenFile f_writtenKind : Int32} {a_board a_line a_out a_moves a_savedBoard a_spell : Nat → Int32}
theorem ch_x_homeSquare {post : Int32 → Prop} {sd : Nat} (hsd : sd < 2) (h : post (nI (ch_hm sd))) : wpX_homeSquare post (f_clockTop, f_numberTop, f_strict, nI sd, f_rights, f_passant, f_clock, f_number, f_lineLen, f_outLen, f_moveTotal, f_movesKnown, f_savedSide, f_savedRights, f_savedPassant, f_savedClock, f_savedNumber, f_spellLen, f_at, f_end, f_writtenMark, f_writtenCastling, f_writtenPromotion, f_writtenTarget, f_writtenCapture, f_writtenRank, f_writtenFile, f_writtenKind, a_board, a_line, a_out, a_moves, a_savedBoard, a_spell) := by
  refine pk_eq sd 0 (fun e => ?_) (fun e => ?_)
  · subst e; exact h
  · obtain rfl : sd = 1 := by omega
    exact h
theorem ch_x_cast124 {post : Int64 → Prop} {B : Nat → Nat} {sd rt : Nat} {P : Nat → Prop} {L : Int64} (hB : ch_BX a_board B) (hV : ch_VB B) (hsd : sd < 2) (hrt : rt < 16) (hA : ¬ ch_AT B (ch_hm sd) (1 - sd)) (hL : ch_SB L P) (h : ∀ L', ch_SB L' (fun t => P t ∨ (t = ch_hm sd - 2 ∧ ch_C7 B sd rt)) → post L') : wX_castlingTargets_124 post (nI (ch_hm sd)) (nI (ch_mn sd rt)) (nI (1 - sd)) L f_clockTop f_numberTop f_strict f_side f_rights f_passant f_clock f_number f_lineLen f_outLen f_moveTotal f_movesKnown f_savedSide f_savedRights f_savedPassant f_savedClock f_savedNumber f_spellLen f_at f_end f_writtenMark f_writtenCastling f_writtenPromotion f_writtenTarget f_writtenCapture f_writtenRank f_writtenFile f_writtenKind a_board a_line a_out a_moves a_savedBoard a_spell := by
  have hmn : ch_mn sd rt < 4 := by unfold ch_mn; split <;> omega
  have hh := ch_hm_c hsd
  have none : ¬ ch_C7 B sd rt → post L := fun w => h L (ch_SB_c hL (fun t ht => ⟨Or.inl, fun z => z.elim id (fun y => absurd y.2 w)⟩))
  unfold wX_castlingTargets_124
  rw [ch_an2 _ hmn, show nI (ch_hm sd) - 1 = nI (ch_hm sd - 1) from pk_sub (b := 1) (by omega), show nI (ch_hm sd) - 2 = nI (ch_hm sd - 2) from pk_sub (b := 2) (by omega), show nI (ch_hm sd) - 3 = nI (ch_hm sd - 3) from pk_sub (b := 3) (by omega)]
  have v1 := ch_VB_lt hV (i := ch_hm sd - 1) (by omega)
  have v2 := ch_VB_lt hV (i := ch_hm sd - 2) (by omega)
  have v3 := ch_VB_lt hV (i := ch_hm sd - 3) (by omega)
  refine pk_eq (ch_mn sd rt / 2 * 2) 0 (fun e => none (fun w => ?_)) (fun e => ⟨vp_in_nI (by omega) (by omega), pk_eq (B (ch_hm sd - 1)) 0 (fun e1 => ⟨vp_in_nI (by omega) (by omega), pk_eq (B (ch_hm sd - 2)) 0 (fun e2 => ⟨vp_in_nI (by omega) (by omega), pk_eq (B (ch_hm sd - 3)) 0 (fun e3 => ?_) (fun e3 => none (fun w => e3 w.2.2.2.1)) (ch_bx hB (by omega)) rfl⟩) (fun e2 => none (fun w => e2 w.2.2.1)) (ch_bx hB (by omega)) rfl⟩) (fun e1 => none (fun w => e1 w.2.1)) (ch_bx hB (by omega)) rfl⟩)
  · have := w.1; omega
  · refine ch_x_isAttacked hB hV (by omega) (by omega) (fun a1 => br_f (by decide) (none (fun w => w.2.2.2.2.2.1 a1))) (fun a1 => br_t rfl ?_)
    refine ch_x_isAttacked hB hV (by omega) (by omega) (fun a2 => br_f (by decide) (none (fun w => w.2.2.2.2.2.2 a2))) (fun a2 => br_t rfl (nm_e (h _ (ch_SB_c (ch_SB_s hL (by omega)) (fun t ht => ?_)))))
    have c7 : ch_C7 B sd rt := ⟨by omega, e1, e2, e3, hA, a1, a2⟩
    constructor
    · rintro (w | w)
      · exact Or.inl w
      · exact Or.inr ⟨w, c7⟩
    · rintro (w | w)
      · exact Or.inl w
      · exact Or.inr w.1
def ch_CS (B : Nat → Nat) (sd rt s t : Nat) : Prop := s = ch_hm sd ∧ ((t = ch_hm sd + 2 ∧ ch_C6 B sd rt) ∨ (t = ch_hm sd - 2 ∧ ch_C7 B sd rt))
theorem ch_x_cast29 {post : Int64 → Prop} {B : Nat → Nat} {sd rt s : Nat} (hB : ch_BX a_board B) (hV : ch_VB B) (hs : s < 64) (hsd : sd < 2) (hrt : rt < 16) (h : ∀ L, ch_SB L (ch_CS B sd rt s) → post L) : wX_castlingTargets_29 post (nI s) (nI (ch_hm sd)) (nI (ch_mn sd rt)) f_clockTop f_numberTop f_strict (nI sd) f_rights f_passant f_clock f_number f_lineLen f_outLen f_moveTotal f_movesKnown f_savedSide f_savedRights f_savedPassant f_savedClock f_savedNumber f_spellLen f_at f_end f_writtenMark f_writtenCastling f_writtenPromotion f_writtenTarget f_writtenCapture f_writtenRank f_writtenFile f_writtenKind a_board a_line a_out a_moves a_savedBoard a_spell := by
  have hmn : ch_mn sd rt < 4 := by unfold ch_mn; split <;> omega
  have hh := ch_hm_c hsd
  have e0 : ch_SB 0 (fun _ => False) := ch_SB_0 (fun _ _ z => z)
  have v1 := ch_VB_lt hV (i := ch_hm sd + 1) (by omega)
  have v2 := ch_VB_lt hV (i := ch_hm sd + 2) (by omega)
  unfold wX_castlingTargets_29
  refine nm_r (ch_side_f sd hsd) ?_
  rw [ch_an1 _ hmn, show nI (ch_hm sd) + 1 = nI (ch_hm sd + 1) from nI_1 _, show nI (ch_hm sd) + 2 = nI (ch_hm sd + 2) from nI_add _ 2]
  refine pk_eq s (ch_hm sd) (fun es => ?_) (fun es => h 0 (ch_SB_0 (fun t ht w => es w.1)))
  refine pk_eq (ch_mn sd rt) 0 (fun em => h 0 (ch_SB_0 (fun t ht w => ?_))) (fun em => ?_)
  · rcases w.2 with ⟨_, w⟩ | ⟨_, w⟩
    · have := w.1; omega
    · have := w.1; omega
  refine ch_x_isAttacked hB hV (by omega) (by omega) (fun a0 => br_f (by decide) (h 0 (ch_SB_0 (fun t ht w => ?_)))) (fun a0 => br_t rfl ?_)
  · rcases w.2 with ⟨_, w⟩ | ⟨_, w⟩
    · exact w.2.2.2.1 a0
    · exact w.2.2.2.2.1 a0
  have none : ¬ ch_C6 B sd rt → wX_castlingTargets_124 post (nI (ch_hm sd)) (nI (ch_mn sd rt)) (nI (1 - sd)) 0 f_clockTop f_numberTop f_strict (nI sd) f_rights f_passant f_clock f_number f_lineLen f_outLen f_moveTotal f_movesKnown f_savedSide f_savedRights f_savedPassant f_savedClock f_savedNumber f_spellLen f_at f_end f_writtenMark f_writtenCastling f_writtenPromotion f_writtenTarget f_writtenCapture f_writtenRank f_writtenFile f_writtenKind a_board a_line a_out a_moves a_savedBoard a_spell := by
    intro w
    refine ch_x_cast124 hB hV hsd hrt a0 e0 (fun L hL => h L (ch_SB_c hL (fun t ht => ?_)))
    constructor
    · rintro (y | y)
      · exact y.elim
      · exact ⟨es, Or.inr y⟩
    · rintro ⟨_, y | y⟩
      · exact absurd y.2 w
      · exact Or.inr y
  refine pk_eq (ch_mn sd rt % 2) 0 (fun e => none (fun w => ?_)) (fun e => ⟨vp_in_nI (by omega) (by omega), pk_eq (B (ch_hm sd + 1)) 0 (fun e1 => ⟨vp_in_nI (by omega) (by omega), pk_eq (B (ch_hm sd + 2)) 0 (fun e2 => ?_) (fun e2 => none (fun w => e2 w.2.2.1)) (ch_bx hB (by omega)) rfl⟩) (fun e1 => none (fun w => e1 w.2.1)) (ch_bx hB (by omega)) rfl⟩)
  · have := w.1; omega
  refine ch_x_isAttacked hB hV (by omega) (by omega) (fun a1 => br_f (by decide) (none (fun w => w.2.2.2.2.1 a1))) (fun a1 => br_t rfl ?_)
  refine ch_x_isAttacked hB hV (by omega) (by omega) (fun a2 => br_f (by decide) (none (fun w => w.2.2.2.2.2 a2))) (fun a2 => br_t rfl (nm_e ?_))
  refine ch_x_cast124 hB hV hsd hrt a0 (ch_SB_s e0 (by omega)) (fun L hL => h L (ch_SB_c hL (fun t ht => ?_)))
  have c6 : ch_C6 B sd rt := ⟨by omega, e1, e2, a0, a1, a2⟩
  constructor
  · rintro ((y | y) | y)
    · exact y.elim
    · exact ⟨es, Or.inl ⟨y, c6⟩⟩
    · exact ⟨es, Or.inr y⟩
  · rintro ⟨_, y | y⟩
    · exact Or.inl (Or.inr y.1)
    · exact Or.inr y
theorem ch_x_castlingTargets {post : Int64 → Prop} {B : Nat → Nat} {sd rt s : Nat} (hB : ch_BX a_board B) (hV : ch_VB B) (hs : s < 64) (hsd : sd < 2) (hrt : rt < 16) (h : ∀ L, ch_SB L (ch_CS B sd rt s) → post L) : wpX_castlingTargets post (f_clockTop, f_numberTop, f_strict, nI sd, nI rt, f_passant, f_clock, f_number, f_lineLen, f_outLen, f_moveTotal, f_movesKnown, f_savedSide, f_savedRights, f_savedPassant, f_savedClock, f_savedNumber, f_spellLen, f_at, f_end, f_writtenMark, f_writtenCastling, f_writtenPromotion, f_writtenTarget, f_writtenCapture, f_writtenRank, f_writtenFile, f_writtenKind, a_board, a_line, a_out, a_moves, a_savedBoard, a_spell) (nI s) := by
  unfold wpX_castlingTargets
  refine ch_x_homeSquare hsd ?_
  have hh : wX_castlingTargets_29 post (nI s) (nI (ch_hm sd)) (nI (ch_mn sd rt)) f_clockTop f_numberTop f_strict (nI sd) (nI rt) f_passant f_clock f_number f_lineLen f_outLen f_moveTotal f_movesKnown f_savedSide f_savedRights f_savedPassant f_savedClock f_savedNumber f_spellLen f_at f_end f_writtenMark f_writtenCastling f_writtenPromotion f_writtenTarget f_writtenCapture f_writtenRank f_writtenFile f_writtenKind a_board a_line a_out a_moves a_savedBoard a_spell := ch_x_cast29 hB hV hs hsd hrt h
  refine pk_eq sd 0 (fun e => ?_) (fun e => ?_)
  · rw [ch_an3 _ hrt]
    rw [show ch_mn sd rt = rt % 4 from by unfold ch_mn; rw [if_pos e]] at hh
    exact hh
  · rw [ch_an4 _ hrt]
    rw [show ch_mn sd rt = rt / 4 % 4 from by unfold ch_mn; rw [if_neg e]] at hh
    exact hh
/-- what the component takes for a candidate -/
def ch_CT (B : Nat → Nat) (sd rt ep s t : Nat) : Prop := ch_ow B sd s ∧ ((B s % 8 = 1 ∧ ch_PT B sd ep s t) ∨ (B s % 8 ≠ 1 ∧ ch_MA B s t ∧ ¬ ch_ow B sd t) ∨ (B s % 8 = 6 ∧ ch_CS B sd rt s t))
theorem ch_x_candidateTargets {post : Int64 → Prop} {B : Nat → Nat} {sd rt ep s : Nat} (hB : ch_BX a_board B) (hV : ch_VB B) (hs : s < 64) (hsd : sd < 2) (hrt : rt < 16) (hep : ep ≤ 64) (h : ∀ L, ch_SB L (ch_CT B sd rt ep s) → post L) : wpX_candidateTargets post (f_clockTop, f_numberTop, f_strict, nI sd, nI rt, ch_epI ep, f_clock, f_number, f_lineLen, f_outLen, f_moveTotal, f_movesKnown, f_savedSide, f_savedRights, f_savedPassant, f_savedClock, f_savedNumber, f_spellLen, f_at, f_end, f_writtenMark, f_writtenCastling, f_writtenPromotion, f_writtenTarget, f_writtenCapture, f_writtenRank, f_writtenFile, f_writtenKind, a_board, a_line, a_out, a_moves, a_savedBoard, a_spell) (nI s) := by
  have hv := hV s hs
  have hv2 := ch_VB_lt hV hs
  unfold ch_VM at hv
  refine ⟨vp_in_nI hs (by omega), nm_r (ch_bx hB hs) (ch_x_isOwn (by omega) hsd (fun w => br_f (by decide) (nm_r (ch_nI_a7 (by omega)) ?_)) (fun w => br_t rfl (h 0 (ch_SB_0 (fun t ht z => w z.1)))))⟩
  refine pk_eq (B s % 8) 1 (fun e1 => ?_) (fun e1 => pk_eq (B s % 8) 2 (fun e2 => ?_) (fun e2 => pk_eq (B s % 8) 6 (fun e6 => ?_) (fun e6 => ?_)))
  · refine ch_x_pawnTargets hB hV hs hsd hep (fun L hL => h L (ch_SB_c hL (fun t ht => ?_)))
    constructor
    · intro z; exact ⟨w, Or.inl ⟨e1, z⟩⟩
    · rintro ⟨_, z | z | z⟩
      · exact z.2
      · exact absurd e1 z.1
      · have := z.1; omega
  · refine ch_x_knightTargets hB hV hs hsd (fun L hL => h L (ch_SB_c hL (fun t ht => ?_)))
    constructor
    · rintro ⟨z, y⟩; exact ⟨w, Or.inr (Or.inl ⟨e1, Or.inr (Or.inl ⟨e2, z⟩), y⟩)⟩
    · rintro ⟨_, z | ⟨_, z, y⟩ | z⟩
      · have := z.1; omega
      · refine ⟨?_, y⟩
        rcases z with ⟨z, _⟩ | ⟨_, z⟩ | ⟨z, _⟩ | ⟨_, _, _, _, _, z⟩
        · omega
        · exact z
        · omega
        · omega
      · have := z.1; omega
  · refine ch_x_lineTargets (K := 6) hB hV hs hsd (by omega) (fun L hL => ?_)
    refine ch_x_castlingTargets hB hV hs hsd hrt (fun M hM => h _ (ch_SB_c (ch_SB_o hL hM) (fun t ht => ?_)))
    rw [if_pos rfl]
    constructor
    · rintro (⟨⟨a, b, k, ha, hk, hl⟩, y⟩ | z)
      · refine ⟨w, Or.inr (Or.inl ⟨e1, Or.inr (Or.inr (Or.inl ⟨e6, a, b, ha.1, ?_⟩)), y⟩)⟩
        have h3 := hl.2.2.1
        obtain rfl : k = 1 := by have := hl.1; omega
        simpa using h3
      · exact ⟨w, Or.inr (Or.inr ⟨e6, z⟩)⟩
    · rintro ⟨_, z | ⟨_, z, y⟩ | z⟩
      · have := z.1; omega
      · refine Or.inl ⟨?_, y⟩
        rcases z with ⟨z, _⟩ | ⟨z, _⟩ | ⟨_, a, b, hd, z⟩ | ⟨_, _, _, _, _, z⟩
        · omega
        · omega
        · refine ⟨a, b, 1, ⟨hd, by omega, by omega⟩, by omega, by omega, by omega, ?_, fun j j1 j2 => by omega⟩
          simpa using z
        · omega
      · exact Or.inr z.2
  · rw [ch_nI_a7 (by omega)]
    refine ch_x_lineTargets (K := B s % 8) hB hV hs hsd (by omega) (fun L hL => h L (ch_SB_c hL (fun t ht => ?_)))
    rw [if_neg e6]
    have hk : B s % 8 = 3 ∨ B s % 8 = 4 ∨ B s % 8 = 5 := by have := w.1; omega
    constructor
    · rintro ⟨⟨a, b, k, ha, hk', hl⟩, y⟩
      refine ⟨w, Or.inr (Or.inl ⟨e1, Or.inr (Or.inr (Or.inr ⟨a, b, k, ha.1, hl, ?_⟩)), y⟩)⟩
      obtain ⟨_, a2, a3⟩ := ha
      omega
    · rintro ⟨_, z | ⟨_, z, y⟩ | z⟩
      · have := z.1; omega
      · refine ⟨?_, y⟩
        rcases z with ⟨z, _⟩ | ⟨z, _⟩ | ⟨z, _⟩ | ⟨a, b, k, hd, hl, z⟩
        · omega
        · omega
        · omega
        · exact ⟨a, b, k, ⟨hd, by omega, by omega⟩, hl.2.1, hl⟩
      · have := z.1; omega
end
end
section
/-! moves, the board after a move, the invariant -/
def ch_lr (sd : Nat) : Nat := if sd = 0 then 7 else 0
def ch_vq (sd t : Nat) : Nat := if sd = 0 then t - 8 else t + 8
def ch_PR (sd t p : Nat) : Prop := (t / 8 = ch_lr sd ∧ 2 ≤ p ∧ p ≤ 5) ∨ (t / 8 ≠ ch_lr sd ∧ p = 0)
def ch_PC (sd s t : Nat) : Prop := ch_SQ s (-1) (ch_fw sd) t ∨ ch_SQ s 1 (ch_fw sd) t
/-- the code s, t, p is a candidate of the reference's type x -/
def ch_TP (B : Nat → Nat) (sd rt ep s t p x : Nat) : Prop := ch_ow B sd s ∧ (
  (x = 1 ∧ B s % 8 ≠ 1 ∧ p = 0 ∧ ch_MA B s t ∧ ¬ ch_ow B sd t) ∨
  (x = 2 ∧ B s % 8 = 1 ∧ ch_PR sd t p ∧ ch_SQ s 0 (ch_fw sd) t ∧ B t = 0) ∨
  (x = 3 ∧ B s % 8 = 1 ∧ ch_PR sd t p ∧ s / 8 = ch_fr sd ∧ ch_SQ s 0 (2 * ch_fw sd) t ∧ B t = 0 ∧ ∃ q, q < 64 ∧ ch_SQ s 0 (ch_fw sd) q ∧ B q = 0) ∨
  (x = 4 ∧ B s % 8 = 1 ∧ ch_PR sd t p ∧ ch_PC sd s t ∧ B t ≠ 0 ∧ B t / 8 ≠ sd) ∨
  (x = 5 ∧ B s % 8 = 1 ∧ ch_PR sd t p ∧ ch_PC sd s t ∧ t = ep) ∨
  (x = 6 ∧ B s % 8 = 6 ∧ p = 0 ∧ s = ch_hm sd ∧ t = ch_hm sd + 2 ∧ ch_C6 B sd rt) ∨
  (x = 7 ∧ B s % 8 = 6 ∧ p = 0 ∧ s = ch_hm sd ∧ t = ch_hm sd - 2 ∧ ch_C7 B sd rt))
/-- the board after it -/
def ch_AF (B : Nat → Nat) (sd s t p x : Nat) : Nat → Nat := fun i =>
  if x = 6 ∧ i = ch_hm sd + 3 then 0 else if x = 6 ∧ i = ch_hm sd + 1 then B (ch_hm sd + 3) else
  if x = 7 ∧ i = ch_hm sd - 4 then 0 else if x = 7 ∧ i = ch_hm sd - 1 then B (ch_hm sd - 4) else
  if x = 5 ∧ i = ch_vq sd t then 0 else
  if i = t then (if p = 0 then B s else 8 * sd + p) else if i = s then 0 else B i
def ch_K1 (B : Nat → Nat) (c q : Nat) : Prop := q < 64 ∧ B q = 8 * c + 6 ∧ ∀ j, j < 64 → B j = 8 * c + 6 → j = q
def ch_PRM (B : Nat → Nat) (sd s t p : Nat) : Prop := (B s % 8 = 1 ∧ t / 8 = ch_lr sd ∧ 2 ≤ p ∧ p ≤ 5) ∨ (¬ (B s % 8 = 1 ∧ t / 8 = ch_lr sd) ∧ p = 0)
/-- the castling rights are in place -/
def ch_RG (B : Nat → Nat) (rt : Nat) : Prop := (rt % 2 = 1 → B 4 = 6 ∧ B 7 = 4) ∧ (rt / 2 % 2 = 1 → B 4 = 6 ∧ B 0 = 4) ∧ (rt / 4 % 2 = 1 → B 60 = 14 ∧ B 63 = 12) ∧ (rt / 8 % 2 = 1 → B 60 = 14 ∧ B 56 = 12)
/-- the passant square is in place -/
def ch_EG (B : Nat → Nat) (sd ep : Nat) : Prop := ep < 64 → (sd = 0 ∧ ep / 8 = 5 ∧ B ep = 0 ∧ B (ep + 8) = 0 ∧ B (ep - 8) = 9) ∨ (sd = 1 ∧ ep / 8 = 2 ∧ B ep = 0 ∧ B (ep - 8) = 0 ∧ B (ep + 8) = 1)
noncomputable def ch_b01 (P : Prop) : Nat := @ite Nat P (Classical.propDecidable P) 1 0
noncomputable def ch_cn (P : Nat → Prop) : Nat → Nat
  | 0 => 0
  | k + 1 => ch_cn P k + ch_b01 (P k)
def ch_POS (B : Nat → Nat) (sd rt ep : Nat) : Prop := ch_VB B ∧ sd < 2 ∧ rt < 16 ∧ ep ≤ 64 ∧ (∃ q, ch_K1 B 0 q) ∧ (∃ q, ch_K1 B 1 q) ∧ (∀ i, i < 64 → B i % 8 = 1 → 1 ≤ i / 8 ∧ i / 8 ≤ 6) ∧ ch_RG B rt ∧ ch_EG B sd ep ∧ (∀ q, ch_K1 B (1 - sd) q → ¬ ch_AT B q sd) ∧ (∀ c, c < 2 → ch_cn (fun i => ch_ow B c i) 64 ≤ 16)
theorem ch_K1_u {B : Nat → Nat} {c q q' : Nat} (h : ch_K1 B c q) (h' : ch_K1 B c q') : q = q' := h'.2.2 q h.1 h.2.1
theorem ch_POS_K {B : Nat → Nat} {sd rt ep : Nat} (h : ch_POS B sd rt ep) {c : Nat} (hc : c < 2) : ∃ q, ch_K1 B c q := by
  obtain ⟨_, _, _, _, k0, k1, _⟩ := h
  by_cases e : c = 0
  · subst e; exact k0
  · obtain rfl : c = 1 := by omega
    exact k1
theorem ch_MA_pc {B : Nat → Nat} {sd s t : Nat} (hk : B s % 8 = 1) (ho : ch_ow B sd s) : ch_MA B s t ↔ ch_PC sd s t := by
  have e : B s / 8 = sd := ho.2
  unfold ch_MA ch_PC
  rw [e]
  constructor
  · rintro (⟨_, h⟩ | ⟨h, _⟩ | ⟨h, _⟩ | ⟨_, _, _, _, _, h⟩)
    · exact h
    all_goals omega
  · intro h; exact Or.inl ⟨hk, h⟩
theorem ch_MA_k {B : Nat → Nat} {s t : Nat} (hk : B s % 8 = 6) (h : ch_MA B s t) : ∃ a b, ch_dr a b ∧ ch_SQ s a b t := by
  rcases h with ⟨h, _⟩ | ⟨h, _⟩ | ⟨_, h⟩ | ⟨_, _, _, _, _, h⟩
  · omega
  · omega
  · exact h
  · omega
theorem ch_PR_ex (sd t : Nat) : ∃ p, p < 8 ∧ ch_PR sd t p := by
  by_cases h : t / 8 = ch_lr sd
  · exact ⟨2, by omega, Or.inl ⟨h, by omega, by omega⟩⟩
  · exact ⟨0, by omega, Or.inr ⟨h, rfl⟩⟩
theorem ch_CT_TP {B : Nat → Nat} {sd rt ep s t : Nat} : ch_CT B sd rt ep s t ↔ ∃ p x, p < 8 ∧ ch_TP B sd rt ep s t p x := by
  obtain ⟨p, hp8, hp⟩ := ch_PR_ex sd t
  constructor
  · rintro ⟨ho, ⟨hk, h | h | ⟨h, h2⟩⟩ | ⟨hk, h, h2⟩ | ⟨hk, h, h2 | h2⟩⟩
    · exact ⟨p, 2, hp8, ho, Or.inr (Or.inl ⟨rfl, hk, hp, h⟩)⟩
    · exact ⟨p, 3, hp8, ho, Or.inr (Or.inr (Or.inl ⟨rfl, hk, hp, h⟩))⟩
    · rcases h2 with h2 | h2
      · exact ⟨p, 5, hp8, ho, Or.inr (Or.inr (Or.inr (Or.inr (Or.inl ⟨rfl, hk, hp, h, h2⟩))))⟩
      · exact ⟨p, 4, hp8, ho, Or.inr (Or.inr (Or.inr (Or.inl ⟨rfl, hk, hp, h, h2⟩)))⟩
    · exact ⟨0, 1, by omega, ho, Or.inl ⟨rfl, hk, rfl, h, h2⟩⟩
    · exact ⟨0, 6, by omega, ho, Or.inr (Or.inr (Or.inr (Or.inr (Or.inr (Or.inl ⟨rfl, hk, rfl, h, h2⟩)))))⟩
    · exact ⟨0, 7, by omega, ho, Or.inr (Or.inr (Or.inr (Or.inr (Or.inr (Or.inr ⟨rfl, hk, rfl, h, h2⟩)))))⟩
  · rintro ⟨p, x, _, ho, ⟨_, hk, _, h, h2⟩ | ⟨_, hk, _, h⟩ | ⟨_, hk, _, h⟩ | ⟨_, hk, _, h, h2⟩ | ⟨_, hk, _, h, h2⟩ | ⟨_, hk, _, h, h2⟩ | ⟨_, hk, _, h, h2⟩⟩
    · exact ⟨ho, Or.inr (Or.inl ⟨hk, h, h2⟩)⟩
    · exact ⟨ho, Or.inl ⟨hk, Or.inl h⟩⟩
    · exact ⟨ho, Or.inl ⟨hk, Or.inr (Or.inl h)⟩⟩
    · exact ⟨ho, Or.inl ⟨hk, Or.inr (Or.inr ⟨h, Or.inr h2⟩)⟩⟩
    · exact ⟨ho, Or.inl ⟨hk, Or.inr (Or.inr ⟨h, Or.inl h2⟩)⟩⟩
    · exact ⟨ho, Or.inr (Or.inr ⟨hk, h, Or.inl h2⟩)⟩
    · exact ⟨ho, Or.inr (Or.inr ⟨hk, h, Or.inr h2⟩)⟩
theorem ch_TP_r {B : Nat → Nat} {sd rt ep s t p x : Nat} (h : ch_TP B sd rt ep s t p x) : 1 ≤ x ∧ x ≤ 7 := by
  rcases h with ⟨_, h | h | h | h | h | h | h⟩ <;> (have := h.1; omega)
theorem ch_TP_p {B : Nat → Nat} {sd rt ep s t p x : Nat} (h : ch_TP B sd rt ep s t p x) : ch_PRM B sd s t p := by
  unfold ch_PRM
  rcases h with ⟨_, ⟨_, hk, hp, _⟩ | ⟨_, hk, hp, _⟩ | ⟨_, hk, hp, _⟩ | ⟨_, hk, hp, _⟩ | ⟨_, hk, hp, _⟩ | ⟨_, hk, hp, _⟩ | ⟨_, hk, hp, _⟩⟩
  · omega
  · unfold ch_PR at hp; omega
  · unfold ch_PR at hp; omega
  · unfold ch_PR at hp; omega
  · unfold ch_PR at hp; omega
  · omega
  · omega
theorem ch_TP_q {B : Nat → Nat} {sd rt ep s t p p' x : Nat} (h : ch_TP B sd rt ep s t p x) (hp' : ch_PRM B sd s t p') : ch_TP B sd rt ep s t p' x := by
  unfold ch_PRM at hp'
  obtain ⟨ho, h⟩ := h
  refine ⟨ho, ?_⟩
  rcases h with ⟨h1, hk, hp, h⟩ | ⟨h1, hk, hp, h⟩ | ⟨h1, hk, hp, h⟩ | ⟨h1, hk, hp, h⟩ | ⟨h1, hk, hp, h⟩ | ⟨h1, hk, hp, h⟩ | ⟨h1, hk, hp, h⟩
  · exact Or.inl ⟨h1, hk, by omega, h⟩
  · exact Or.inr (Or.inl ⟨h1, hk, by unfold ch_PR; omega, h⟩)
  · exact Or.inr (Or.inr (Or.inl ⟨h1, hk, by unfold ch_PR; omega, h⟩))
  · exact Or.inr (Or.inr (Or.inr (Or.inl ⟨h1, hk, by unfold ch_PR; omega, h⟩)))
  · exact Or.inr (Or.inr (Or.inr (Or.inr (Or.inl ⟨h1, hk, by unfold ch_PR; omega, h⟩))))
  · exact Or.inr (Or.inr (Or.inr (Or.inr (Or.inr (Or.inl ⟨h1, hk, by omega, h⟩)))))
  · exact Or.inr (Or.inr (Or.inr (Or.inr (Or.inr (Or.inr ⟨h1, hk, by omega, h⟩)))))
/-- plain facts of a candidate, for omega -/
theorem ch_TP_f {B : Nat → Nat} {sd rt ep s t p x : Nat} (hE : ch_EG B sd ep) (hs : s < 64) (ht : t < 64) (hsd : sd < 2) (h : ch_TP B sd rt ep s t p x) :
    s ≠ t ∧ B s ≠ 0 ∧ B s / 8 = sd ∧ (B t = 0 ∨ B t / 8 ≠ sd) ∧
    (x = 5 → B t = 0 ∧ t = ep ∧ B s % 8 = 1 ∧ s % 8 ≠ t % 8 ∧ ch_vq sd t < 64 ∧ ch_vq sd t ≠ t ∧ ch_vq sd t ≠ s ∧ B (ch_vq sd t) = 8 * (1 - sd) + 1) ∧
    ((x = 2 ∨ x = 3) → s % 8 = t % 8 ∧ B t = 0 ∧ B s % 8 = 1) ∧
    (x = 4 → B s % 8 = 1 ∧ B t ≠ 0) ∧ (x = 1 → B s % 8 ≠ 1) ∧
    (x = 6 → B s % 8 = 6 ∧ s = ch_hm sd ∧ t = ch_hm sd + 2 ∧ B (ch_hm sd + 1) = 0 ∧ B (ch_hm sd + 2) = 0) ∧
    (x = 7 → B s % 8 = 6 ∧ s = ch_hm sd ∧ t + 2 = ch_hm sd ∧ B (ch_hm sd - 1) = 0 ∧ B (ch_hm sd - 2) = 0 ∧ B (ch_hm sd - 3) = 0) ∧
    (B s % 8 = 6 → s = ch_hm sd → x = 1 → t ≠ s + 2 ∧ t + 2 ≠ s) := by
  have hh := ch_hm_c hsd
  have hf : (sd = 0 ∧ ch_fw sd = 1) ∨ (sd = 1 ∧ ch_fw sd = -1) := by unfold ch_fw; split <;> omega
  have hvq : (sd = 0 ∧ ch_vq sd t = t - 8) ∨ (sd = 1 ∧ ch_vq sd t = t + 8) := by unfold ch_vq; split <;> omega
  obtain ⟨⟨o1, o2⟩, h⟩ := h
  rcases h with ⟨h1, hk, hp, hma, hno⟩ | ⟨h1, hk, hp, hsq, h0⟩ | ⟨h1, hk, hp, hr, hsq, h0, _⟩ | ⟨h1, hk, hp, hpc, h0, h2⟩ | ⟨h1, hk, hp, hpc, h0⟩ | ⟨h1, hk, hp, h2, h3, h4⟩ | ⟨h1, hk, hp, h2, h3, h4⟩
  · have hne := ch_MA_ne hma
    have kk : B s % 8 = 6 → ∃ a b, ch_dr a b ∧ ch_SQ s a b t := fun w => ch_MA_k w hma
    refine ⟨hne, o1, o2, ?_, by omega, by omega, by omega, by omega, by omega, by omega, ?_⟩
    · unfold ch_ow at hno; omega
    · intro w1 w2 w3
      obtain ⟨a, b, hd, hsq⟩ := kk w1
      unfold ch_dr at hd; unfold ch_SQ at hsq; omega
  · unfold ch_SQ at hsq
    refine ⟨by omega, o1, o2, by omega, by omega, by omega, by omega, by omega, by omega, by omega, by omega⟩
  · unfold ch_SQ at hsq
    refine ⟨by omega, o1, o2, by omega, by omega, by omega, by omega, by omega, by omega, by omega, by omega⟩
  · unfold ch_PC ch_SQ at hpc
    refine ⟨by omega, o1, o2, by omega, by omega, by omega, by omega, by omega, by omega, by omega, by omega⟩
  · unfold ch_PC ch_SQ at hpc
    have he := hE (by omega)
    subst h0
    have hb : B (ch_vq sd t) = 8 * (1 - sd) + 1 := by
      rcases hvq with ⟨w, e⟩ | ⟨w, e⟩
      · rw [e]; omega
      · rw [e]; omega
    refine ⟨by omega, o1, o2, by omega, fun _ => ⟨by omega, rfl, hk, by omega, by omega, by omega, by omega, hb⟩, by omega, by omega, by omega, by omega, by omega, by omega⟩
  · have c1 := h4.2.1
    have c2 := h4.2.2.1
    refine ⟨by omega, o1, o2, ?_, by omega, by omega, by omega, by omega, fun _ => ⟨hk, h2, h3, c1, c2⟩, by omega, by omega⟩
    rw [h3]; exact Or.inl c2
  · have c1 := h4.2.1
    have c2 := h4.2.2.1
    have c3 := h4.2.2.2.1
    refine ⟨by omega, o1, o2, ?_, by omega, by omega, by omega, by omega, by omega, fun _ => ⟨hk, h2, by omega, c1, c2, c3⟩, by omega⟩
    rw [h3]; exact Or.inl c2
theorem ch_TP_g {B : Nat → Nat} {sd rt ep s t p x : Nat} (hE : ch_EG B sd ep) (hs : s < 64) (ht : t < 64) (hsd : sd < 2) (h : ch_TP B sd rt ep s t p x) :
    (x = 1 → B s % 8 ≠ 1) ∧ ((x = 2 ∨ x = 3) → s % 8 = t % 8 ∧ B s % 8 = 1) ∧ (x = 4 → B s % 8 = 1 ∧ B t ≠ 0) ∧ (x = 5 → B s % 8 = 1 ∧ B t = 0) ∧ ((x = 4 ∨ x = 5) → s % 8 ≠ t % 8) ∧
    (x = 6 → B s % 8 = 6 ∧ s = ch_hm sd ∧ t = ch_hm sd + 2) ∧ (x = 7 → B s % 8 = 6 ∧ s = ch_hm sd ∧ t + 2 = ch_hm sd) ∧ (B s % 8 = 6 → s = ch_hm sd → x = 1 → t ≠ s + 2 ∧ t + 2 ≠ s) ∧
    (x = 2 → t = s + 8 ∨ s = t + 8) ∧ (x = 3 → t = s + 16 ∨ s = t + 16) := by
  have f := ch_TP_f hE hs ht hsd h
  have hf : (sd = 0 ∧ ch_fw sd = 1) ∨ (sd = 1 ∧ ch_fw sd = -1) := by unfold ch_fw; split <;> omega
  refine ⟨f.2.2.2.2.2.2.2.1, fun w => ⟨(f.2.2.2.2.2.1 w).1, (f.2.2.2.2.2.1 w).2.2⟩, f.2.2.2.2.2.2.1, fun w => ⟨(f.2.2.2.2.1 w).2.2.1, (f.2.2.2.2.1 w).1⟩, ?_, fun w => ⟨(f.2.2.2.2.2.2.2.2.1 w).1, (f.2.2.2.2.2.2.2.2.1 w).2.1, (f.2.2.2.2.2.2.2.2.1 w).2.2.1⟩, fun w => ⟨(f.2.2.2.2.2.2.2.2.2.1 w).1, (f.2.2.2.2.2.2.2.2.2.1 w).2.1, (f.2.2.2.2.2.2.2.2.2.1 w).2.2.1⟩, f.2.2.2.2.2.2.2.2.2.2, ?_, ?_⟩
  all_goals clear f hE
  all_goals obtain ⟨_, h⟩ := h
  · intro hw
    rcases h with h | h | h | ⟨_, _, _, h, _⟩ | ⟨_, _, _, h, _⟩ | h | h
    · have := h.1; omega
    · have := h.1; omega
    · have := h.1; omega
    · unfold ch_PC ch_SQ at h; omega
    · unfold ch_PC ch_SQ at h; omega
    · have := h.1; omega
    · have := h.1; omega
  · intro hw
    rcases h with h | ⟨_, _, _, h, _⟩ | h | h | h | h | h
    · have := h.1; omega
    · unfold ch_SQ at h; omega
    · have := h.1; omega
    · have := h.1; omega
    · have := h.1; omega
    · have := h.1; omega
    · have := h.1; omega
  · intro hw
    rcases h with h | h | ⟨_, _, _, _, h, _⟩ | h | h | h | h
    · have := h.1; omega
    · have := h.1; omega
    · unfold ch_SQ at h; omega
    · have := h.1; omega
    · have := h.1; omega
    · have := h.1; omega
    · have := h.1; omega
theorem ch_TP_u {B : Nat → Nat} {sd rt ep s t p p' x y : Nat} (hE : ch_EG B sd ep) (hs : s < 64) (ht : t < 64) (hsd : sd < 2) (h : ch_TP B sd rt ep s t p x) (h' : ch_TP B sd rt ep s t p' y) : x = y := by
  obtain ⟨a1, a2, a3, a4, a5, a6, a7, a8, a9, a10⟩ := ch_TP_g hE hs ht hsd h
  obtain ⟨b1, b2, b3, b4, b5, b6, b7, b8, b9, b10⟩ := ch_TP_g hE hs ht hsd h'
  have r := ch_TP_r h
  have r' := ch_TP_r h'
  clear h h' hE
  have hx : x = 1 ∨ x = 2 ∨ x = 3 ∨ x = 4 ∨ x = 5 ∨ x = 6 ∨ x = 7 := by clear a1 a2 a3 a4 a5 a6 a7 a8 a9 a10 b1 b2 b3 b4 b5 b6 b7 b8 b9 b10; omega
  have hy : y = 1 ∨ y = 2 ∨ y = 3 ∨ y = 4 ∨ y = 5 ∨ y = 6 ∨ y = 7 := by clear a1 a2 a3 a4 a5 a6 a7 a8 a9 a10 b1 b2 b3 b4 b5 b6 b7 b8 b9 b10; omega
  generalize B s % 8 = k at *
  rcases hx with rfl | rfl | rfl | rfl | rfl | rfl | rfl
  · have a := a1 rfl
    rcases hy with rfl | rfl | rfl | rfl | rfl | rfl | rfl
    · rfl
    · exact absurd (b2 (Or.inl rfl)).2 a
    · exact absurd (b2 (Or.inr rfl)).2 a
    · exact absurd (b3 rfl).1 a
    · exact absurd (b4 rfl).1 a
    · have w := b6 rfl; have := a8 w.1 w.2.1 rfl; exact absurd (by rw [w.2.1]; exact w.2.2) this.1
    · have w := b7 rfl; have := a8 w.1 w.2.1 rfl; exact absurd (by rw [w.2.1]; exact w.2.2) this.2
  · have a := a2 (Or.inl rfl)
    have c := a9 rfl
    rcases hy with rfl | rfl | rfl | rfl | rfl | rfl | rfl
    · exact absurd a.2 (b1 rfl)
    · rfl
    · have d := b10 rfl; omega
    · exact absurd a.1 (b5 (Or.inl rfl))
    · exact absurd a.1 (b5 (Or.inr rfl))
    · have := (b6 rfl).1; omega
    · have := (b7 rfl).1; omega
  · have a := a2 (Or.inr rfl)
    have c := a10 rfl
    rcases hy with rfl | rfl | rfl | rfl | rfl | rfl | rfl
    · exact absurd a.2 (b1 rfl)
    · have d := b9 rfl; omega
    · rfl
    · exact absurd a.1 (b5 (Or.inl rfl))
    · exact absurd a.1 (b5 (Or.inr rfl))
    · have := (b6 rfl).1; omega
    · have := (b7 rfl).1; omega
  · have a := a3 rfl
    have c := a5 (Or.inl rfl)
    rcases hy with rfl | rfl | rfl | rfl | rfl | rfl | rfl
    · exact absurd a.1 (b1 rfl)
    · exact absurd (b2 (Or.inl rfl)).1 c
    · exact absurd (b2 (Or.inr rfl)).1 c
    · rfl
    · exact absurd (b4 rfl).2 a.2
    · have := (b6 rfl).1; omega
    · have := (b7 rfl).1; omega
  · have a := a4 rfl
    have c := a5 (Or.inr rfl)
    rcases hy with rfl | rfl | rfl | rfl | rfl | rfl | rfl
    · exact absurd a.1 (b1 rfl)
    · exact absurd (b2 (Or.inl rfl)).1 c
    · exact absurd (b2 (Or.inr rfl)).1 c
    · exact absurd a.2 (b3 rfl).2
    · rfl
    · have := (b6 rfl).1; omega
    · have := (b7 rfl).1; omega
  · have a := a6 rfl
    rcases hy with rfl | rfl | rfl | rfl | rfl | rfl | rfl
    · have := b8 a.1 a.2.1 rfl; exact absurd (by rw [a.2.1]; exact a.2.2) this.1
    · have := (b2 (Or.inl rfl)).2; omega
    · have := (b2 (Or.inr rfl)).2; omega
    · have := (b3 rfl).1; omega
    · have := (b4 rfl).1; omega
    · rfl
    · have := b7 rfl; omega
  · have a := a7 rfl
    rcases hy with rfl | rfl | rfl | rfl | rfl | rfl | rfl
    · have := b8 a.1 a.2.1 rfl; exact absurd (by rw [a.2.1]; exact a.2.2) this.2
    · have := (b2 (Or.inl rfl)).2; omega
    · have := (b2 (Or.inr rfl)).2; omega
    · have := (b3 rfl).1; omega
    · have := (b4 rfl).1; omega
    · have := b6 rfl; omega
    · rfl
end
section
/-! what a candidate move does to the board -/
theorem ch_b01_t {P : Prop} (h : P) : ch_b01 P = 1 := by unfold ch_b01; rw [if_pos h]
theorem ch_b01_f {P : Prop} (h : ¬ P) : ch_b01 P = 0 := by unfold ch_b01; rw [if_neg h]
theorem ch_b01_le (P : Prop) : ch_b01 P ≤ 1 := by
  rcases Classical.em P with h | h
  · rw [ch_b01_t h]; omega
  · rw [ch_b01_f h]; omega
theorem ch_b01_mono {P Q : Prop} (h : P → Q) : ch_b01 P ≤ ch_b01 Q := by
  rcases Classical.em P with hp | hp
  · rw [ch_b01_t hp, ch_b01_t (h hp)]; omega
  · rw [ch_b01_f hp]; omega
theorem ch_cn_mono {P Q : Nat → Prop} : ∀ {N : Nat}, (∀ k, k < N → P k → Q k) → ch_cn P N ≤ ch_cn Q N
  | 0, _ => Nat.le_refl _
  | N + 1, h => by
    have a := ch_cn_mono (P := P) (Q := Q) (N := N) (fun k hk => h k (by omega))
    have b := ch_b01_mono (h N (by omega))
    simp only [ch_cn]; omega
theorem ch_cn_le (P : Nat → Prop) : ∀ N, ch_cn P N ≤ N
  | 0 => Nat.le_refl _
  | N + 1 => by have := ch_cn_le P N; have := ch_b01_le (P N); simp only [ch_cn]; omega
theorem ch_cn_eq {P Q : Nat → Prop} {N : Nat} (h : ∀ k, k < N → (P k ↔ Q k)) : ch_cn P N = ch_cn Q N :=
  Nat.le_antisymm (ch_cn_mono fun k hk => (h k hk).mp) (ch_cn_mono fun k hk => (h k hk).mpr)
theorem ch_cn_or1 {P : Nat → Prop} {a : Nat} : ∀ N : Nat, ch_cn (fun k => P k ∨ k = a) N ≤ ch_cn P N + 1 := by
  have key : ∀ N : Nat, ch_cn (fun k => P k ∨ k = a) N ≤ ch_cn P N + (if a < N then 1 else 0) := by
    intro N
    induction N with
    | zero => simp only [ch_cn]; omega
    | succ N ih =>
      simp only [ch_cn]
      by_cases e : N = a
      · subst e
        rw [if_neg (by omega)] at ih
        rw [if_pos (by omega)]
        have := ch_b01_le (P N ∨ N = N)
        omega
      · have : ch_b01 (P N ∨ N = a) = ch_b01 (P N) := Nat.le_antisymm (ch_b01_mono fun q => q.elim id (fun z => absurd z e)) (ch_b01_mono Or.inl)
        rw [this]
        by_cases e2 : a < N
        · rw [if_pos e2] at ih; rw [if_pos (by omega)]; omega
        · rw [if_neg e2] at ih; rw [if_neg (by omega)]; omega
  intro N
  have := key N
  split at this <;> omega
theorem ch_cn_del {P : Nat → Prop} {a : Nat} (hp : P a) : ∀ {N : Nat}, a < N → ch_cn (fun k => P k ∧ k ≠ a) N + 1 ≤ ch_cn P N
  | 0, h => by omega
  | N + 1, h => by
    simp only [ch_cn]
    by_cases e : a = N
    · subst e
      have h1 : ch_cn (fun k => P k ∧ k ≠ a) a ≤ ch_cn P a := ch_cn_mono (fun k _ z => z.1)
      have h2 : ch_b01 (P a ∧ a ≠ a) = 0 := ch_b01_f (fun z => z.2 rfl)
      have h3 := ch_b01_t hp
      omega
    · have h1 := ch_cn_del hp (N := N) (by omega)
      have h2 : ch_b01 (P N ∧ N ≠ a) ≤ ch_b01 (P N) := ch_b01_mono (fun z => z.1)
      omega
theorem ch_AT_m {B B' : Nat → Nat} {q c : Nat} (h0 : ∀ i, i < 64 → B i = 0 → B' i = 0) (h1 : ∀ i, i < 64 → B i ≠ 0 → B i / 8 = c → B' i = B i) (h : ch_AT B q c) : ch_AT B' q c := by
  obtain ⟨s, hs, n0, hc, ch_hm⟩ := h
  have e := h1 s hs n0 hc
  refine ⟨s, hs, by rw [e]; exact n0, by rw [e]; exact hc, ?_⟩
  unfold ch_MA
  rw [e]
  rcases ch_hm with h | h | h | ⟨a, b, k, hd, ⟨l1, l2, l3, l4⟩, hk⟩
  · exact Or.inl h
  · exact Or.inr (Or.inl h)
  · exact Or.inr (Or.inr (Or.inl h))
  · exact Or.inr (Or.inr (Or.inr ⟨a, b, k, hd, ⟨l1, l2, l3, fun j j1 j2 q hq w => h0 q hq (l4 j j1 j2 q hq w)⟩, hk⟩))
/-- an implication that omega doesn't read -/
def ch_im (P Q : Prop) : Prop := P → Q
theorem ch_TP_F {B : Nat → Nat} {sd rt ep s t p x : Nat} (hE : ch_EG B sd ep) (hs : s < 64) (ht : t < 64) (hsd : sd < 2) (h : ch_TP B sd rt ep s t p x) :
    s ≠ t ∧ B s ≠ 0 ∧ B s / 8 = sd ∧ (B t = 0 ∨ B t / 8 ≠ sd) ∧
    ch_im (x = 5) (B t = 0 ∧ t = ep ∧ B s % 8 = 1 ∧ s % 8 ≠ t % 8 ∧ ch_vq sd t < 64 ∧ ch_vq sd t ≠ t ∧ ch_vq sd t ≠ s ∧ B (ch_vq sd t) = 8 * (1 - sd) + 1) ∧
    ch_im (x = 2 ∨ x = 3) (s % 8 = t % 8 ∧ B t = 0 ∧ B s % 8 = 1) ∧
    ch_im (x = 4) (B s % 8 = 1 ∧ B t ≠ 0) ∧ ch_im (x = 1) (B s % 8 ≠ 1) ∧
    ch_im (x = 6) (B s % 8 = 6 ∧ s = ch_hm sd ∧ t = ch_hm sd + 2 ∧ B (ch_hm sd + 1) = 0 ∧ B (ch_hm sd + 2) = 0) ∧
    ch_im (x = 7) (B s % 8 = 6 ∧ s = ch_hm sd ∧ t + 2 = ch_hm sd ∧ B (ch_hm sd - 1) = 0 ∧ B (ch_hm sd - 2) = 0 ∧ B (ch_hm sd - 3) = 0) ∧
    ch_im (B s % 8 = 6) (s = ch_hm sd → x = 1 → t ≠ s + 2 ∧ t + 2 ≠ s) := ch_TP_f hE hs ht hsd h
/-- facts that a position gives to a castling candidate -/
theorem ch_RG_h {B : Nat → Nat} {sd rt ep s t p x : Nat} (hR : ch_RG B rt) (hsd : sd < 2) (h : ch_TP B sd rt ep s t p x) : ch_im (x = 6) (B (ch_hm sd + 3) = 8 * sd + 4) ∧ ch_im (x = 7) (B (ch_hm sd - 4) = 8 * sd + 4) := by
  have hh := ch_hm_c hsd
  unfold ch_RG at hR
  obtain ⟨_, h⟩ := h
  constructor
  · intro e
    rcases h with h | h | h | h | h | ⟨_, _, _, _, _, h⟩ | h <;> try (have := h.1; omega)
    have h1 := h.1
    unfold ch_mn at h1
    rcases hh with ⟨rfl, e2⟩ | ⟨rfl, e2⟩
    · rw [e2]; rw [if_pos rfl] at h1; show B 7 = _; omega
    · rw [e2]; rw [if_neg (by omega)] at h1; show B 63 = _; omega
  · intro e
    rcases h with h | h | h | h | h | h | ⟨_, _, _, _, _, h⟩ <;> try (have := h.1; omega)
    have h1 := h.1
    unfold ch_mn at h1
    rcases hh with ⟨rfl, e2⟩ | ⟨rfl, e2⟩
    · rw [e2]; rw [if_pos rfl] at h1; show B 0 = _; omega
    · rw [e2]; rw [if_neg (by omega)] at h1; show B 56 = _; omega
theorem ch_AF_V {B : Nat → Nat} {sd rt ep s t p x : Nat} (hV : ch_VB B) (hs : s < 64) (hsd : sd < 2) (h : ch_TP B sd rt ep s t p x) : ch_VB (ch_AF B sd s t p x) := by
  have hp := ch_TP_p h
  have hh := ch_hm_c hsd
  unfold ch_PRM at hp
  intro i hi
  unfold ch_AF
  have z : ch_VM 0 := Or.inl rfl
  repeat' split
  · exact z
  · exact hV _ (by omega)
  · exact z
  · exact hV _ (by omega)
  · exact z
  · exact hV _ hs
  · unfold ch_VM; omega
  · exact z
  · exact hV _ hi
theorem ch_AF_p {B : Nat → Nat} {sd rt ep s t p x q : Nat} (hs : s < 64) (hsd : sd < 2) (h : ch_TP B sd rt ep s t p x) : ch_AT (ch_AF B sd s t p x) q (1 - sd) ↔ ch_AT (ch_AF B sd s t 0 x) q (1 - sd) := by
  have ho := h.1
  unfold ch_ow at ho
  have hp := ch_TP_p h
  unfold ch_PRM at hp
  have e1 : ∀ i, ch_AF B sd s t p x i = ch_AF B sd s t 0 x i ∨ (ch_AF B sd s t p x i ≠ 0 ∧ ch_AF B sd s t p x i / 8 = sd ∧ ch_AF B sd s t 0 x i ≠ 0 ∧ ch_AF B sd s t 0 x i / 8 = sd) := by
    intro i
    unfold ch_AF
    by_cases c1 : x = 6 ∧ i = ch_hm sd + 3
    · rw [if_pos c1, if_pos c1]; exact Or.inl rfl
    rw [if_neg c1, if_neg c1]
    by_cases c2 : x = 6 ∧ i = ch_hm sd + 1
    · rw [if_pos c2, if_pos c2]; exact Or.inl rfl
    rw [if_neg c2, if_neg c2]
    by_cases c3 : x = 7 ∧ i = ch_hm sd - 4
    · rw [if_pos c3, if_pos c3]; exact Or.inl rfl
    rw [if_neg c3, if_neg c3]
    by_cases c4 : x = 7 ∧ i = ch_hm sd - 1
    · rw [if_pos c4, if_pos c4]; exact Or.inl rfl
    rw [if_neg c4, if_neg c4]
    by_cases c5 : x = 5 ∧ i = ch_vq sd t
    · rw [if_pos c5, if_pos c5]; exact Or.inl rfl
    rw [if_neg c5, if_neg c5]
    by_cases c6 : i = t
    · rw [if_pos c6, if_pos c6, if_pos rfl]
      split
      · exact Or.inl rfl
      · right; omega
    · rw [if_neg c6, if_neg c6]; exact Or.inl rfl
  constructor
  · refine ch_AT_m (fun i _ w => ?_) (fun i _ w w2 => ?_)
    · rcases e1 i with e | e <;> omega
    · rcases e1 i with e | e <;> omega
  · refine ch_AT_m (fun i _ w => ?_) (fun i _ w w2 => ?_)
    · rcases e1 i with e | e <;> omega
    · rcases e1 i with e | e <;> omega
/-- the value of the new board at a square, by cases -/
theorem ch_AF_c {B : Nat → Nat} {sd s t p x i : Nat} : (ch_AF B sd s t p x i = 0 ∧ ((x = 6 ∧ i = ch_hm sd + 3) ∨ (x = 7 ∧ i = ch_hm sd - 4) ∨ (x = 5 ∧ i = ch_vq sd t) ∨ (i = s ∧ i ≠ t))) ∨ (ch_AF B sd s t p x i = B (ch_hm sd + 3) ∧ x = 6 ∧ i = ch_hm sd + 1) ∨ (ch_AF B sd s t p x i = B (ch_hm sd - 4) ∧ x = 7 ∧ i = ch_hm sd - 1) ∨ (i = t ∧ ¬ (x = 6 ∧ i = ch_hm sd + 3) ∧ ¬ (x = 6 ∧ i = ch_hm sd + 1) ∧ ¬ (x = 7 ∧ i = ch_hm sd - 4) ∧ ¬ (x = 7 ∧ i = ch_hm sd - 1) ∧ ¬ (x = 5 ∧ i = ch_vq sd t) ∧ ((p = 0 ∧ ch_AF B sd s t p x i = B s) ∨ (p ≠ 0 ∧ ch_AF B sd s t p x i = 8 * sd + p))) ∨ (ch_AF B sd s t p x i = B i ∧ i ≠ s ∧ i ≠ t ∧ ¬ (x = 6 ∧ i = ch_hm sd + 3) ∧ ¬ (x = 6 ∧ i = ch_hm sd + 1) ∧ ¬ (x = 7 ∧ i = ch_hm sd - 4) ∧ ¬ (x = 7 ∧ i = ch_hm sd - 1) ∧ ¬ (x = 5 ∧ i = ch_vq sd t)) := by
  unfold ch_AF
  by_cases c1 : x = 6 ∧ i = ch_hm sd + 3
  · rw [if_pos c1]; exact Or.inl ⟨rfl, Or.inl c1⟩
  rw [if_neg c1]
  by_cases c2 : x = 6 ∧ i = ch_hm sd + 1
  · rw [if_pos c2]; exact Or.inr (Or.inl ⟨rfl, c2⟩)
  rw [if_neg c2]
  by_cases c3 : x = 7 ∧ i = ch_hm sd - 4
  · rw [if_pos c3]; exact Or.inl ⟨rfl, Or.inr (Or.inl c3)⟩
  rw [if_neg c3]
  by_cases c4 : x = 7 ∧ i = ch_hm sd - 1
  · rw [if_pos c4]; exact Or.inr (Or.inr (Or.inl ⟨rfl, c4⟩))
  rw [if_neg c4]
  by_cases c5 : x = 5 ∧ i = ch_vq sd t
  · rw [if_pos c5]; exact Or.inl ⟨rfl, Or.inr (Or.inr (Or.inl c5))⟩
  rw [if_neg c5]
  by_cases c6 : i = t
  · rw [if_pos c6]
    refine Or.inr (Or.inr (Or.inr (Or.inl ⟨c6, c1, c2, c3, c4, c5, ?_⟩)))
    by_cases c8 : p = 0
    · rw [if_pos c8]; exact Or.inl ⟨c8, rfl⟩
    · rw [if_neg c8]; exact Or.inr ⟨c8, rfl⟩
  rw [if_neg c6]
  by_cases c7 : i = s
  · rw [if_pos c7]; exact Or.inl ⟨rfl, Or.inr (Or.inr (Or.inr ⟨c7, c6⟩))⟩
  · rw [if_neg c7]; exact Or.inr (Or.inr (Or.inr (Or.inr ⟨rfl, c7, c6, c1, c2, c3, c4, c5⟩)))
/-- the own king after the move -/
theorem ch_AF_K {B : Nat → Nat} {sd rt ep s t p x kq : Nat} (hE : ch_EG B sd ep) (hR : ch_RG B rt) (hsd : sd < 2) (hs : s < 64) (ht : t < 64) (hK : ch_K1 B sd kq) (h : ch_TP B sd rt ep s t p x) : ch_K1 (ch_AF B sd s t p x) sd (if B s % 8 = 6 then t else kq) := by
  obtain ⟨f1, f2, f3, f4, f5, _, _, _, f6, f7, _⟩ := ch_TP_F hE hs ht hsd h
  obtain ⟨r6, r7⟩ := ch_RG_h hR hsd h
  have hp := ch_TP_p h
  have hh := ch_hm_c hsd
  unfold ch_PRM at hp
  obtain ⟨kl, kv, ku⟩ := hK
  by_cases e : B s % 8 = 6
  · rw [if_pos e]
    have es : s = kq := ku s hs (by omega)
    have hp0 : p = 0 := by omega
    clear hp f4
    refine ⟨ht, ?_, fun j hj w => ?_⟩
    · rcases @ch_AF_c B sd s t p x t with ⟨_, ⟨e6, w⟩ | ⟨e7, w⟩ | ⟨e5, w⟩ | ⟨_, w⟩⟩ | ⟨_, e6, w⟩ | ⟨_, e7, w⟩ | ⟨_, _, _, _, _, _, ⟨_, c⟩ | ⟨w, _⟩⟩ | ⟨_, _, w, _⟩
      · have := (f6 e6).2.2.1; omega
      · have := (f7 e7).2.2.1; omega
      · have := (f5 e5).2.2.2.2.2.1; omega
      · exact absurd rfl w
      · have := (f6 e6).2.2.1; omega
      · have := (f7 e7).2.2.1; omega
      · omega
      · exact absurd hp0 w
      · exact absurd rfl w
    · rcases @ch_AF_c B sd s t p x j with ⟨c, _⟩ | ⟨c, e6, _⟩ | ⟨c, e7, _⟩ | ⟨c, _⟩ | ⟨c, w2, _⟩
      · omega
      · have := r6 e6; omega
      · have := r7 e7; omega
      · exact c
      · exact absurd ((ku j hj (by omega)).trans es.symm) w2
  · rw [if_neg e]
    have nk : kq ≠ s := by rintro rfl; omega
    have nt : kq ≠ t := by rintro rfl; omega
    clear f4
    refine ⟨kl, ?_, fun j hj w => ?_⟩
    · rcases @ch_AF_c B sd s t p x kq with ⟨_, ⟨e6, w⟩ | ⟨e7, w⟩ | ⟨e5, w⟩ | ⟨w, _⟩⟩ | ⟨_, e6, w⟩ | ⟨_, e7, w⟩ | ⟨w, _⟩ | ⟨c, _⟩
      · have := (f6 e6).1; omega
      · have := (f7 e7).1; omega
      · have := (f5 e5).2.2.2.2.2.2.2; rw [← w] at this; omega
      · exact absurd w nk
      · have := (f6 e6).1; omega
      · have := (f7 e7).1; omega
      · exact absurd w nt
      · rw [c]; exact kv
    · rcases @ch_AF_c B sd s t p x j with ⟨c, _⟩ | ⟨c, e6, _⟩ | ⟨c, e7, _⟩ | ⟨c, _, _, _, _, _, ⟨_, c2⟩ | ⟨c2, c3⟩⟩ | ⟨c, _⟩
      · omega
      · have := (f6 e6).1; omega
      · have := (f7 e7).1; omega
      · omega
      · omega
      · exact ku j hj (by omega)
/-- the other king stays -/
theorem ch_AF_K' {B : Nat → Nat} {sd rt ep s t p x kq : Nat} (hE : ch_EG B sd ep) (hR : ch_RG B rt) (hsd : sd < 2) (hs : s < 64) (ht : t < 64) (hK : ch_K1 B (1 - sd) kq) (hA : ¬ ch_AT B kq sd) (h : ch_TP B sd rt ep s t p x) : ch_K1 (ch_AF B sd s t p x) (1 - sd) kq := by
  obtain ⟨f1, f2, f3, f4, f5, f23, _, _, f6, f7, _⟩ := ch_TP_F hE hs ht hsd h
  obtain ⟨r6, r7⟩ := ch_RG_h hR hsd h
  have hp := ch_TP_p h
  unfold ch_PRM at hp
  obtain ⟨kl, kv, ku⟩ := hK
  have nk : kq ≠ s := by rintro rfl; omega
  have nt : kq ≠ t := by
    rintro rfl
    refine hA ⟨s, hs, h.1.1, h.1.2, ?_⟩
    obtain ⟨ho, h⟩ := h
    rcases h with ⟨h1, hk, hp, hma, hno⟩ | h | h | ⟨h1, hk, _, h, _⟩ | ⟨h1, hk, _, h, _⟩ | h | h
    · exact hma
    · have := (f23 (Or.inl h.1)).2.1; omega
    · have := (f23 (Or.inr h.1)).2.1; omega
    · exact (ch_MA_pc hk ho).mpr h
    · exact (ch_MA_pc hk ho).mpr h
    · have w := f6 h.1; have := w.2.2.2.2; rw [← w.2.2.1] at this; omega
    · have w := f7 h.1; have := w.2.2.2.2.1; rw [show ch_hm sd - 2 = kq from by omega] at this; omega
  clear f4 hA
  refine ⟨kl, ?_, fun j hj w => ?_⟩
  · rcases @ch_AF_c B sd s t p x kq with ⟨_, ⟨e6, w⟩ | ⟨e7, w⟩ | ⟨e5, w⟩ | ⟨w, _⟩⟩ | ⟨_, e6, w⟩ | ⟨_, e7, w⟩ | ⟨w, _⟩ | ⟨c, _⟩
    · have := r6 e6; rw [← w] at this; omega
    · have := r7 e7; rw [← w] at this; omega
    · have := (f5 e5).2.2.2.2.2.2.2; rw [← w] at this; omega
    · exact absurd w nk
    · have := (f6 e6).2.2.2.1; rw [← w] at this; omega
    · have := (f7 e7).2.2.2.1; rw [← w] at this; omega
    · exact absurd w nt
    · rw [c]; exact kv
  · rcases @ch_AF_c B sd s t p x j with ⟨c, _⟩ | ⟨c, e6, _⟩ | ⟨c, e7, _⟩ | ⟨c, _, _, _, _, _, ⟨_, c2⟩ | ⟨c2, c3⟩⟩ | ⟨c, _⟩
    · omega
    · have := r6 e6; omega
    · have := r7 e7; omega
    · omega
    · omega
    · exact ku j hj (by omega)
/-- legal, as the reference asks it; and as the component does -/
def ch_LG (B : Nat → Nat) (sd rt ep s t p : Nat) : Prop := ∃ x, ch_TP B sd rt ep s t p x ∧ ∀ q, ch_K1 (ch_AF B sd s t p x) sd q → ¬ ch_AT (ch_AF B sd s t p x) q (1 - sd)
def ch_LX (B : Nat → Nat) (sd rt ep kq s t : Nat) : Prop := ∃ p x, p < 8 ∧ ch_TP B sd rt ep s t p x ∧ ¬ ch_AT (ch_AF B sd s t 0 x) (if B s % 8 = 6 then t else kq) (1 - sd)
theorem ch_LG_LX {B : Nat → Nat} {sd rt ep s t p kq : Nat} (hP : ch_POS B sd rt ep) (hK : ch_K1 B sd kq) (hs : s < 64) (ht : t < 64) : ch_LG B sd rt ep s t p ↔ (ch_LX B sd rt ep kq s t ∧ ch_PRM B sd s t p) := by
  obtain ⟨hV, hsd, hrt, hep, k0, k1, hpw, hR, hE, hA, hcn⟩ := hP
  constructor
  · rintro ⟨x, hT, hq⟩
    have hp := ch_TP_p hT
    refine ⟨⟨p, x, ?_, hT, ?_⟩, hp⟩
    · unfold ch_PRM at hp; omega
    · have := hq _ (ch_AF_K hE hR hsd hs ht hK hT)
      rw [ch_AF_p hs hsd hT] at this
      exact this
  · rintro ⟨⟨p', x, _, hT, hn⟩, hp⟩
    have hT' := ch_TP_q hT hp
    refine ⟨x, hT', fun q hq => ?_⟩
    obtain rfl := ch_K1_u hq (ch_AF_K hE hR hsd hs ht hK hT')
    rw [ch_AF_p hs hsd hT']
    exact hn
end
section
/-! a legal move keeps the invariant -/
def ch_nrt (rt s t : Nat) : Nat := (if s = 4 ∨ s = 7 ∨ t = 4 ∨ t = 7 then 0 else rt % 2) + 2 * (if s = 4 ∨ s = 0 ∨ t = 4 ∨ t = 0 then 0 else rt / 2 % 2) + 4 * (if s = 60 ∨ s = 63 ∨ t = 60 ∨ t = 63 then 0 else rt / 4 % 2) + 8 * (if s = 60 ∨ s = 56 ∨ t = 60 ∨ t = 56 then 0 else rt / 8 % 2)
def ch_nep (sd s x : Nat) : Nat := if x = 3 then (if sd = 0 then s + 8 else s - 8) else 64
theorem ch_nrt_f {rt s t : Nat} : ch_nrt rt s t < 16 ∧ (ch_nrt rt s t % 2 = 1 → rt % 2 = 1 ∧ s ≠ 4 ∧ s ≠ 7 ∧ t ≠ 4 ∧ t ≠ 7) ∧ (ch_nrt rt s t / 2 % 2 = 1 → rt / 2 % 2 = 1 ∧ s ≠ 4 ∧ s ≠ 0 ∧ t ≠ 4 ∧ t ≠ 0) ∧ (ch_nrt rt s t / 4 % 2 = 1 → rt / 4 % 2 = 1 ∧ s ≠ 60 ∧ s ≠ 63 ∧ t ≠ 60 ∧ t ≠ 63) ∧ (ch_nrt rt s t / 8 % 2 = 1 → rt / 8 % 2 = 1 ∧ s ≠ 60 ∧ s ≠ 56 ∧ t ≠ 60 ∧ t ≠ 56) := by
  unfold ch_nrt
  by_cases h1 : s = 4 ∨ s = 7 ∨ t = 4 ∨ t = 7
  · rw [if_pos h1]
    by_cases h2 : s = 4 ∨ s = 0 ∨ t = 4 ∨ t = 0
    · rw [if_pos h2]
      split <;> split <;> omega
    · rw [if_neg h2]
      split <;> split <;> omega
  · rw [if_neg h1]
    by_cases h2 : s = 4 ∨ s = 0 ∨ t = 4 ∨ t = 0
    · rw [if_pos h2]
      split <;> split <;> omega
    · rw [if_neg h2]
      split <;> split <;> omega
/-- a square of a king or rook in place, not touched by the move, stays -/
theorem ch_AF_st {B : Nat → Nat} {sd rt ep s t p x i : Nat} (hE : ch_EG B sd ep) (hsd : sd < 2) (hs : s < 64) (ht : t < 64) (h : ch_TP B sd rt ep s t p x) (h1 : i ≠ s) (h2 : i ≠ t) (h3 : B i % 8 ≠ 1) (h4 : B i ≠ 0) (h6 : x = 6 → i ≠ ch_hm sd + 3) (h7 : x = 7 → i ≠ ch_hm sd - 4) : ch_AF B sd s t p x i = B i := by
  obtain ⟨f1, f2, f3, f4, f5, f23, _, _, f6, f7, _⟩ := ch_TP_F hE hs ht hsd h
  rcases @ch_AF_c B sd s t p x i with ⟨_, ⟨e6, w⟩ | ⟨e7, w⟩ | ⟨e5, w⟩ | ⟨w, _⟩⟩ | ⟨_, e6, w⟩ | ⟨_, e7, w⟩ | ⟨w, _⟩ | ⟨c, _⟩
  · exact absurd w (h6 e6)
  · exact absurd w (h7 e7)
  · have := (f5 e5).2.2.2.2.2.2.2; rw [← w] at this; clear h6 h7; omega
  · exact absurd w h1
  · have := (f6 e6).2.2.2.1; rw [← w] at this; exact absurd this h4
  · have := (f7 e7).2.2.2.1; rw [← w] at this; exact absurd this h4
  · exact absurd w h2
  · exact c
theorem ch_RG_k {B : Nat → Nat} {sd rt ep s t p x : Nat} (hR : ch_RG B rt) (hE : ch_EG B sd ep) (hsd : sd < 2) (hs : s < 64) (ht : t < 64) (h : ch_TP B sd rt ep s t p x) : ch_RG (ch_AF B sd s t p x) (ch_nrt rt s t) := by
  obtain ⟨_, _, _, _, _, _, _, _, f6, f7, _⟩ := ch_TP_F hE hs ht hsd h
  have hh := ch_hm_c hsd
  have st : ∀ i, i ≠ s → i ≠ t → B i % 8 ≠ 1 → B i ≠ 0 → (x = 6 → i ≠ ch_hm sd + 3) → (x = 7 → i ≠ ch_hm sd - 4) → ch_AF B sd s t p x i = B i := fun i a b c d e f => ch_AF_st hE hsd hs ht h a b c d e f
  obtain ⟨n0, n1, n2, n3, n4⟩ := @ch_nrt_f rt s t
  unfold ch_RG at hR ⊢
  obtain ⟨ch_r1, ch_r2, r3, ch_r4⟩ := hR
  clear hE h
  have s6 : x = 6 → s = ch_hm sd := fun w => (f6 w).2.1
  have s7 : x = 7 → s = ch_hm sd := fun w => (f7 w).2.1
  clear f6 f7
  refine ⟨fun w => ?_, fun w => ?_, fun w => ?_, fun w => ?_⟩
  · obtain ⟨w1, w2⟩ := n1 w
    obtain ⟨z1, z2⟩ := ch_r1 w1
    clear n1 n2 n3 n4 ch_r1 ch_r2 r3 ch_r4
    rw [st 4 (by omega) (by omega) (by omega) (by omega) (by omega) (by omega), st 7 (by omega) (by omega) (by omega) (by omega) (by omega) (by omega)]
    exact ⟨z1, z2⟩
  · obtain ⟨w1, w2⟩ := n2 w
    obtain ⟨z1, z2⟩ := ch_r2 w1
    clear n1 n2 n3 n4 ch_r1 ch_r2 r3 ch_r4
    rw [st 4 (by omega) (by omega) (by omega) (by omega) (by omega) (by omega), st 0 (by omega) (by omega) (by omega) (by omega) (by omega) (by omega)]
    exact ⟨z1, z2⟩
  · obtain ⟨w1, w2⟩ := n3 w
    obtain ⟨z1, z2⟩ := r3 w1
    clear n1 n2 n3 n4 ch_r1 ch_r2 r3 ch_r4
    rw [st 60 (by omega) (by omega) (by omega) (by omega) (by omega) (by omega), st 63 (by omega) (by omega) (by omega) (by omega) (by omega) (by omega)]
    exact ⟨z1, z2⟩
  · obtain ⟨w1, w2⟩ := n4 w
    obtain ⟨z1, z2⟩ := ch_r4 w1
    clear n1 n2 n3 n4 ch_r1 ch_r2 r3 ch_r4
    rw [st 60 (by omega) (by omega) (by omega) (by omega) (by omega) (by omega), st 56 (by omega) (by omega) (by omega) (by omega) (by omega) (by omega)]
    exact ⟨z1, z2⟩
/-- the value where nothing happens -/
theorem ch_AF_o {B : Nat → Nat} {sd s t p x i : Nat} (h3 : x = 3) (h1 : i ≠ s) (h2 : i ≠ t) : ch_AF B sd s t p x i = B i := by
  subst h3
  rcases @ch_AF_c B sd s t p 3 i with ⟨_, ⟨e, _⟩ | ⟨e, _⟩ | ⟨e, _⟩ | ⟨w, _⟩⟩ | ⟨_, e, _⟩ | ⟨_, e, _⟩ | ⟨w, _⟩ | ⟨c, _⟩
  · omega
  · omega
  · omega
  · exact absurd w h1
  · omega
  · omega
  · exact absurd w h2
  · exact c
theorem ch_AF_s {B : Nat → Nat} {sd s t p x : Nat} (h3 : x = 3) (h1 : s ≠ t) : ch_AF B sd s t p x s = 0 := by
  subst h3
  rcases @ch_AF_c B sd s t p 3 s with ⟨c, _⟩ | ⟨_, e, _⟩ | ⟨_, e, _⟩ | ⟨w, _⟩ | ⟨_, c, _⟩
  · exact c
  · omega
  · omega
  · exact absurd w h1
  · exact absurd rfl c
theorem ch_AF_t {B : Nat → Nat} {sd s t x : Nat} (h3 : x = 3) : ch_AF B sd s t 0 x t = B s := by
  subst h3
  rcases @ch_AF_c B sd s t 0 3 t with ⟨_, ⟨e, _⟩ | ⟨e, _⟩ | ⟨e, _⟩ | ⟨_, w⟩⟩ | ⟨_, e, _⟩ | ⟨_, e, _⟩ | ⟨_, _, _, _, _, _, ⟨_, c⟩ | ⟨w, _⟩⟩ | ⟨_, _, w, _⟩
  · omega
  · omega
  · omega
  · exact absurd rfl w
  · omega
  · omega
  · exact c
  · exact absurd rfl w
  · exact absurd rfl w
theorem ch_EG_k {B : Nat → Nat} {sd rt ep s t p x : Nat} (hsd : sd < 2) (hs : s < 64) (ht : t < 64) (h : ch_TP B sd rt ep s t p x) : ch_EG (ch_AF B sd s t p x) (1 - sd) (ch_nep sd s x) ∧ ch_nep sd s x ≤ 64 := by
  by_cases e : x = 3
  · have hp := ch_TP_p h
    unfold ch_PRM at hp
    obtain ⟨ho, h⟩ := h
    rcases h with h | h | ⟨_, hk, _, hr, hsq, h0, q, hq, hq2, hq0⟩ | h | h | h | h <;> try (have := h.1; clear hp; omega)
    have o2 := ho.2
    by_cases e0 : sd = 0
    · subst e0
      have hf : ch_fw 0 = 1 := rfl
      have hl : ch_lr 0 = 7 := rfl
      have hr' : ch_fr 0 = 1 := rfl
      rw [hf] at hsq hq2
      rw [hr'] at hr
      rw [hl] at hp
      unfold ch_SQ at hsq hq2
      obtain rfl : q = s + 8 := by omega
      obtain rfl : p = 0 := by omega
      have en : ch_nep 0 s x = s + 8 := by unfold ch_nep; rw [if_pos e, if_pos rfl]
      rw [en]
      have et : s + 8 + 8 = t := by omega
      refine ⟨fun _ => Or.inr ⟨rfl, by omega, ?_, ?_, ?_⟩, by omega⟩
      · rw [ch_AF_o e (by omega) (by omega)]; exact hq0
      · rw [show s + 8 - 8 = s from by omega]; exact ch_AF_s e (by omega)
      · rw [et, ch_AF_t e]; omega
    · obtain rfl : sd = 1 := by omega
      have hf : ch_fw 1 = -1 := rfl
      have hl : ch_lr 1 = 0 := rfl
      have hr' : ch_fr 1 = 6 := rfl
      rw [hf] at hsq hq2
      rw [hr'] at hr
      rw [hl] at hp
      unfold ch_SQ at hsq hq2
      obtain rfl : q = s - 8 := by omega
      obtain rfl : p = 0 := by omega
      have en : ch_nep 1 s x = s - 8 := by unfold ch_nep; rw [if_pos e, if_neg (by omega)]
      rw [en]
      have et : s - 8 - 8 = t := by omega
      refine ⟨fun _ => Or.inl ⟨rfl, by omega, ?_, ?_, ?_⟩, by omega⟩
      · rw [ch_AF_o e (by omega) (by omega)]; exact hq0
      · rw [show s - 8 + 8 = s from by omega]; exact ch_AF_s e (by omega)
      · rw [et, ch_AF_t e]; omega
  · have en : ch_nep sd s x = 64 := by unfold ch_nep; rw [if_neg e]
    rw [en]
    exact ⟨fun w => by omega, by omega⟩
theorem ch_PW_k {B : Nat → Nat} {sd rt ep s t p x : Nat} (hpw : ∀ i, i < 64 → B i % 8 = 1 → 1 ≤ i / 8 ∧ i / 8 ≤ 6) (hR : ch_RG B rt) (hsd : sd < 2) (hs : s < 64) (ht : t < 64) (h : ch_TP B sd rt ep s t p x) : ∀ i, i < 64 → ch_AF B sd s t p x i % 8 = 1 → 1 ≤ i / 8 ∧ i / 8 ≤ 6 := by
  intro i hi w
  obtain ⟨r6, r7⟩ := ch_RG_h hR hsd h
  have hp := ch_TP_p h
  unfold ch_PRM at hp
  have hl : (sd = 0 ∧ ch_lr sd = 7) ∨ (sd = 1 ∧ ch_lr sd = 0) := by unfold ch_lr; split <;> omega
  have hf : (sd = 0 ∧ ch_fw sd = 1) ∨ (sd = 1 ∧ ch_fw sd = -1) := by unfold ch_fw; split <;> omega
  have mv : ch_im (B s % 8 = 1) ((sd = 0 ∧ s / 8 < t / 8) ∨ (sd = 1 ∧ t / 8 < s / 8)) := by
    intro hk
    clear hp hl w
    obtain ⟨_, h⟩ := h
    rcases h with h | ⟨_, _, _, h, _⟩ | ⟨_, _, _, _, h, _⟩ | ⟨_, _, _, h, _⟩ | ⟨_, _, _, h, _⟩ | h | h
    · exact absurd hk h.2.1
    · unfold ch_SQ at h; omega
    · unfold ch_SQ at h; omega
    · unfold ch_PC ch_SQ at h; omega
    · unfold ch_PC ch_SQ at h; omega
    · have := h.2.1; omega
    · have := h.2.1; omega
  clear hf
  rcases @ch_AF_c B sd s t p x i with ⟨c, _⟩ | ⟨c, c1, _⟩ | ⟨c, c1, _⟩ | ⟨c, _, _, _, _, _, c2⟩ | ⟨c, _⟩
  · omega
  · have := r6 c1; omega
  · have := r7 c1; omega
  · rcases c2 with ⟨c2, c3⟩ | ⟨c2, c3⟩
    · have k1 : B s % 8 = 1 := by omega
      have := mv k1
      have := hpw s hs k1
      clear hpw
      omega
    · clear hpw; omega
  · exact hpw i hi (by omega)
theorem ch_CN_k {B : Nat → Nat} {sd rt ep s t p x : Nat} (hR : ch_RG B rt) (hE : ch_EG B sd ep) (hsd : sd < 2) (hs : s < 64) (ht : t < 64) (h : ch_TP B sd rt ep s t p x) : ∀ c, c < 2 → ch_cn (fun i => ch_ow (ch_AF B sd s t p x) c i) 64 ≤ ch_cn (fun i => ch_ow B c i) 64 := by
  intro c hc
  obtain ⟨f1, f2, f3, f4, f5, _, _, _, f6, f7, _⟩ := ch_TP_F hE hs ht hsd h
  obtain ⟨r6, r7⟩ := ch_RG_h hR hsd h
  have hp := ch_TP_p h
  have hh := ch_hm_c hsd
  unfold ch_PRM at hp
  clear h hE hR
  by_cases ec : c = sd
  · subst ec
    have os : ch_ow B c s := ⟨f2, f3⟩
    have keep : ∀ i, ch_ow (ch_AF B c s t p x) c i → i ≠ t → (x = 6 ∧ i = ch_hm c + 1) ∨ (x = 7 ∧ i = ch_hm c - 1) ∨ (ch_ow B c i ∧ i ≠ s ∧ ¬ (x = 6 ∧ i = ch_hm c + 3) ∧ ¬ (x = 7 ∧ i = ch_hm c - 4)) := by
      rintro i ⟨w1, w2⟩ nt
      rcases @ch_AF_c B c s t p x i with ⟨z, _⟩ | ⟨z, e, w⟩ | ⟨z, e, w⟩ | ⟨z, _⟩ | ⟨z, z1, z2, z3, z4, z5, _⟩
      · exact absurd z w1
      · exact Or.inl ⟨e, w⟩
      · exact Or.inr (Or.inl ⟨e, w⟩)
      · exact absurd z nt
      · rw [z] at w1 w2
        exact Or.inr (Or.inr ⟨⟨w1, w2⟩, z1, z3, z5⟩)
    by_cases e6 : x = 6
    · have v6 := f6 e6
      have o2 : ch_ow B c (ch_hm c + 3) := by have := r6 e6; unfold ch_ow; omega
      have d1 := ch_cn_del (P := fun i => ch_ow B c i) (a := s) os (N := 64) hs
      have d2 := ch_cn_del (P := fun i => ch_ow B c i ∧ i ≠ s) (a := ch_hm c + 3) ⟨o2, by omega⟩ (N := 64) (by omega)
      have a1 := ch_cn_or1 (P := fun i => (ch_ow B c i ∧ i ≠ s) ∧ i ≠ ch_hm c + 3) (a := t) 64
      have a2 := ch_cn_or1 (P := fun i => ((ch_ow B c i ∧ i ≠ s) ∧ i ≠ ch_hm c + 3) ∨ i = t) (a := ch_hm c + 1) 64
      have m := ch_cn_mono (P := fun i => ch_ow (ch_AF B c s t p x) c i) (Q := fun i => (((ch_ow B c i ∧ i ≠ s) ∧ i ≠ ch_hm c + 3) ∨ i = t) ∨ i = ch_hm c + 1) (N := 64) ?_
      · clear keep hp f4; omega
      · intro i hi w
        by_cases nt : i = t
        · exact Or.inl (Or.inr nt)
        rcases keep i w nt with ⟨_, z⟩ | ⟨z, _⟩ | ⟨z1, z2, z3, _⟩
        · exact Or.inr z
        · omega
        · exact Or.inl (Or.inl ⟨⟨z1, z2⟩, fun y => z3 ⟨e6, y⟩⟩)
    · by_cases e7 : x = 7
      · have v7 := f7 e7
        have o2 : ch_ow B c (ch_hm c - 4) := by have := r7 e7; unfold ch_ow; omega
        have d1 := ch_cn_del (P := fun i => ch_ow B c i) (a := s) os (N := 64) hs
        have d2 := ch_cn_del (P := fun i => ch_ow B c i ∧ i ≠ s) (a := ch_hm c - 4) ⟨o2, by omega⟩ (N := 64) (by omega)
        have a1 := ch_cn_or1 (P := fun i => (ch_ow B c i ∧ i ≠ s) ∧ i ≠ ch_hm c - 4) (a := t) 64
        have a2 := ch_cn_or1 (P := fun i => ((ch_ow B c i ∧ i ≠ s) ∧ i ≠ ch_hm c - 4) ∨ i = t) (a := ch_hm c - 1) 64
        have m := ch_cn_mono (P := fun i => ch_ow (ch_AF B c s t p x) c i) (Q := fun i => (((ch_ow B c i ∧ i ≠ s) ∧ i ≠ ch_hm c - 4) ∨ i = t) ∨ i = ch_hm c - 1) (N := 64) ?_
        · clear keep hp f4; omega
        · intro i hi w
          by_cases nt : i = t
          · exact Or.inl (Or.inr nt)
          rcases keep i w nt with ⟨z, _⟩ | ⟨_, z⟩ | ⟨z1, z2, _, z3⟩
          · exact absurd z e6
          · exact Or.inr z
          · exact Or.inl (Or.inl ⟨⟨z1, z2⟩, fun y => z3 ⟨e7, y⟩⟩)
      · have d1 := ch_cn_del (P := fun i => ch_ow B c i) (a := s) os (N := 64) hs
        have a1 := ch_cn_or1 (P := fun i => ch_ow B c i ∧ i ≠ s) (a := t) 64
        have m := ch_cn_mono (P := fun i => ch_ow (ch_AF B c s t p x) c i) (Q := fun i => (ch_ow B c i ∧ i ≠ s) ∨ i = t) (N := 64) ?_
        · clear keep hp f4; omega
        · intro i hi w
          by_cases nt : i = t
          · exact Or.inr nt
          rcases keep i w nt with ⟨z, _⟩ | ⟨z, _⟩ | ⟨z1, z2, _, _⟩
          · exact absurd z e6
          · exact absurd z e7
          · exact Or.inl ⟨z1, z2⟩
  · refine ch_cn_mono (fun i hi w => ?_)
    obtain ⟨w1, w2⟩ := w
    rcases @ch_AF_c B sd s t p x i with ⟨z, _⟩ | ⟨z, e, _⟩ | ⟨z, e, _⟩ | ⟨_, _, _, _, _, _, ⟨_, z⟩ | ⟨_, z⟩⟩ | ⟨z, _⟩
    · exact absurd z w1
    · have := r6 e; clear f4 hp; omega
    · have := r7 e; clear f4 hp; omega
    · clear f4; omega
    · clear f4; omega
    · rw [z] at w1 w2; exact ⟨w1, w2⟩
theorem ch_POS_k {B : Nat → Nat} {sd rt ep s t p x : Nat} (hP : ch_POS B sd rt ep) (hs : s < 64) (ht : t < 64) (h : ch_TP B sd rt ep s t p x) (hq : ∀ q, ch_K1 (ch_AF B sd s t p x) sd q → ¬ ch_AT (ch_AF B sd s t p x) q (1 - sd)) : ch_POS (ch_AF B sd s t p x) (1 - sd) (ch_nrt rt s t) (ch_nep sd s x) := by
  have hP' := hP
  obtain ⟨hV, hsd, hrt, hep, _, _, hpw, hR, hE, hA, hcn⟩ := hP
  obtain ⟨kq, hK⟩ := ch_POS_K hP' hsd
  obtain ⟨kf, hF⟩ := ch_POS_K hP' (c := 1 - sd) (by omega)
  have k1 := ch_AF_K hE hR hsd hs ht hK h
  have k2 := ch_AF_K' hE hR hsd hs ht hF (hA kf hF) h
  have e := ch_EG_k hsd hs ht h
  have c2 : (1 : Nat) - (1 - sd) = sd := by omega
  have kk : (∃ q, ch_K1 (ch_AF B sd s t p x) 0 q) ∧ (∃ q, ch_K1 (ch_AF B sd s t p x) 1 q) := by
    by_cases z : sd = 0
    · subst z; exact ⟨⟨_, k1⟩, ⟨_, k2⟩⟩
    · obtain rfl : sd = 1 := by omega
      exact ⟨⟨_, k2⟩, ⟨_, k1⟩⟩
  refine ⟨ch_AF_V hV hs hsd h, by omega, ch_nrt_f.1, e.2, kk.1, kk.2, ch_PW_k hpw hR hsd hs ht h, ch_RG_k hR hE hsd hs ht h, e.1, ?_, fun c hc => Nat.le_trans (ch_CN_k hR hE hsd hs ht h c hc) (hcn c hc)⟩
  rw [c2]
  exact hq
end
section
/-! the component tries a move and takes it back -/
def ch_XM (a : Nat → Int32) (sd s t x : Nat) (w : Int32) : Nat → Int32 :=
  if x = 6 then upd (upd (upd (upd (upd a s 0) t 0) t w) (s + 1) (upd (upd (upd a s 0) t 0) t w (s + 3))) (s + 3) 0
  else if x = 7 then upd (upd (upd (upd (upd a s 0) t 0) t w) (s - 1) (upd (upd (upd a s 0) t 0) t w (s - 4))) (s - 4) 0
  else upd (upd (upd a s 0) (if x = 5 then ch_vq sd t else t) 0) t w
theorem ch_u_t {a : Nat → Int32} {k j : Nat} {x : Int32} (h : j = k) : upd a k x j = x := if_pos h
theorem ch_u_f {a : Nat → Int32} {k j : Nat} {x : Int32} (h : j ≠ k) : upd a k x j = a j := if_neg h
theorem ch_XM_6 {a : Nat → Int32} {sd s t x : Nat} {w : Int32} (e : x = 6) : ch_XM a sd s t x w = upd (upd (upd (upd (upd a s 0) t 0) t w) (s + 1) (upd (upd (upd a s 0) t 0) t w (s + 3))) (s + 3) 0 := by
  unfold ch_XM; rw [if_pos e]
theorem ch_XM_7 {a : Nat → Int32} {sd s t x : Nat} {w : Int32} (e : x = 7) : ch_XM a sd s t x w = upd (upd (upd (upd (upd a s 0) t 0) t w) (s - 1) (upd (upd (upd a s 0) t 0) t w (s - 4))) (s - 4) 0 := by
  unfold ch_XM; rw [if_neg (by omega), if_pos e]
theorem ch_XM_5 {a : Nat → Int32} {sd s t x : Nat} {w : Int32} (e : x = 5) : ch_XM a sd s t x w = upd (upd (upd a s 0) (ch_vq sd t) 0) t w := by
  unfold ch_XM; rw [if_neg (by omega), if_neg (by omega), if_pos e]
theorem ch_XM_0 {a : Nat → Int32} {sd s t x : Nat} {w : Int32} (e5 : x ≠ 5) (e6 : x ≠ 6) (e7 : x ≠ 7) : ch_XM a sd s t x w = upd (upd (upd a s 0) t 0) t w := by
  unfold ch_XM; rw [if_neg e6, if_neg e7, if_neg e5]
theorem ch_XM_BX' {a : Nat → Int32} {B : Nat → Nat} {sd rt ep s t p0 x : Nat} {w : Int32} (p : Nat) (hw : (p = 0 ∧ w = nI (B s)) ∨ (p ≠ 0 ∧ w = nI (8 * sd + p))) (hB : ch_BX a B) (hE : ch_EG B sd ep) (hsd : sd < 2) (hs : s < 64) (ht : t < 64) (h : ch_TP B sd rt ep s t p0 x) : ch_BX (ch_XM a sd s t x w) (ch_AF B sd s t p x) := by
  obtain ⟨f1, _, _, _, f5, _, _, _, f6, f7, _⟩ := ch_TP_F hE hs ht hsd h
  have hh := ch_hm_c hsd
  intro i hi
  rcases @ch_AF_c B sd s t p x i with ⟨c, ⟨e6, y⟩ | ⟨e7, y⟩ | ⟨e5, y⟩ | ⟨es, nt⟩⟩ | ⟨c, e6, y⟩ | ⟨c, e7, y⟩ | ⟨et, n1, n2, n3, n4, n5, c⟩ | ⟨c, m1, m2, n1, n2, n3, n4, n5⟩
  · obtain ⟨_, z1, z2, _, _⟩ := f6 e6
    rw [c, ch_XM_6 e6, ch_u_t (by omega)]; rfl
  · obtain ⟨_, z1, z2, _, _⟩ := f7 e7
    rw [c, ch_XM_7 e7, ch_u_t (by omega)]; rfl
  · have z := f5 e5
    rw [c, ch_XM_5 e5, ch_u_f (by omega), ch_u_t y]; rfl
  · rw [c]
    by_cases e6 : x = 6
    · obtain ⟨_, z1, z2, _, _⟩ := f6 e6
      rw [ch_XM_6 e6, ch_u_f (by omega), ch_u_f (by omega), ch_u_f nt, ch_u_f nt, ch_u_t es]; rfl
    by_cases e7 : x = 7
    · obtain ⟨_, z1, z2, _, _⟩ := f7 e7
      rw [ch_XM_7 e7, ch_u_f (by omega), ch_u_f (by omega), ch_u_f nt, ch_u_f nt, ch_u_t es]; rfl
    by_cases e5 : x = 5
    · have z := f5 e5
      rw [ch_XM_5 e5, ch_u_f nt, ch_u_f (by omega), ch_u_t es]; rfl
    · rw [ch_XM_0 e5 e6 e7, ch_u_f nt, ch_u_f nt, ch_u_t es]; rfl
  · obtain ⟨_, z1, z2, _, _⟩ := f6 e6
    rw [c, ch_XM_6 e6, ch_u_f (by omega), ch_u_t (by omega), ch_u_f (by omega), ch_u_f (by omega), ch_u_f (by omega), ← z1]
    exact hB _ (by omega)
  · obtain ⟨_, z1, z2, _, _⟩ := f7 e7
    rw [c, ch_XM_7 e7, ch_u_f (by omega), ch_u_t (by omega), ch_u_f (by omega), ch_u_f (by omega), ch_u_f (by omega), ← z1]
    exact hB _ (by omega)
  · have ew : w = nI (ch_AF B sd s t p x i) := by
      rcases hw with ⟨w1, w2⟩ | ⟨w1, w2⟩ <;> rcases c with ⟨c1, c2⟩ | ⟨c1, c2⟩
      · rw [w2, c2]
      · exact absurd w1 c1
      · exact absurd c1 w1
      · rw [w2, c2]
    rw [← ew]
    by_cases e6 : x = 6
    · obtain ⟨_, z1, z2, _, _⟩ := f6 e6
      rw [ch_XM_6 e6, ch_u_f (by omega), ch_u_f (by omega), ch_u_t et]
    by_cases e7 : x = 7
    · obtain ⟨_, z1, z2, _, _⟩ := f7 e7
      rw [ch_XM_7 e7, ch_u_f (by omega), ch_u_f (by omega), ch_u_t et]
    by_cases e5 : x = 5
    · rw [ch_XM_5 e5, ch_u_t et]
    · rw [ch_XM_0 e5 e6 e7, ch_u_t et]
  · rw [c]
    by_cases e6 : x = 6
    · obtain ⟨_, z1, z2, _, _⟩ := f6 e6
      rw [ch_XM_6 e6, ch_u_f (by omega), ch_u_f (by omega), ch_u_f m2, ch_u_f m2, ch_u_f m1]; exact hB i hi
    by_cases e7 : x = 7
    · obtain ⟨_, z1, z2, _, _⟩ := f7 e7
      rw [ch_XM_7 e7, ch_u_f (by omega), ch_u_f (by omega), ch_u_f m2, ch_u_f m2, ch_u_f m1]; exact hB i hi
    by_cases e5 : x = 5
    · rw [ch_XM_5 e5, ch_u_f m2, ch_u_f (by omega), ch_u_f m1]; exact hB i hi
    · rw [ch_XM_0 e5 e6 e7, ch_u_f m2, ch_u_f m2, ch_u_f m1]; exact hB i hi
theorem ch_XM_BX {a : Nat → Int32} {B : Nat → Nat} {sd rt ep s t p0 x : Nat} (p : Nat) (hB : ch_BX a B) (hE : ch_EG B sd ep) (hsd : sd < 2) (hs : s < 64) (ht : t < 64) (h : ch_TP B sd rt ep s t p0 x) : ch_BX (ch_XM a sd s t x (nI (if p = 0 then B s else 8 * sd + p))) (ch_AF B sd s t p x) := by
  refine ch_XM_BX' p ?_ hB hE hsd hs ht h
  by_cases e : p = 0
  · exact Or.inl ⟨e, by rw [if_pos e]⟩
  · exact Or.inr ⟨e, by rw [if_neg e]⟩
section
variable {f_clockTop f_numberTop f_strict f_side f_rights f_passant f_clock f_number f_lineLen f_outLen f_moveTotal f_movesKnown f_savedSide f_savedRights f_savedPassant f_savedClock f_savedNumber f_spellLen f_at f_end f_writtenMark f_writtenCastling f_writtenPromotion f_writtenTarget f_writtenCapture f_writtenRank f_writtenFile f_writtenKind : Int32} {a_board a_line a_out a_moves a_savedBoard a_spell : Nat → Int32}
theorem ch_x_kingSquare {post : Int32 → Prop} {B : Nat → Nat} {c kq : Nat} (hB : ch_BX a_board B) (hV : ch_VB B) (hc : c < 2) (hK : ch_K1 B c kq) (h : post (nI kq)) : wpX_kingSquare post (f_clockTop, f_numberTop, f_strict, f_side, f_rights, f_passant, f_clock, f_number, f_lineLen, f_outLen, f_moveTotal, f_movesKnown, f_savedSide, f_savedRights, f_savedPassant, f_savedClock, f_savedNumber, f_spellLen, f_at, f_end, f_writtenMark, f_writtenCastling, f_writtenPromotion, f_writtenTarget, f_writtenCapture, f_writtenRank, f_writtenFile, f_writtenKind, a_board, a_line, a_out, a_moves, a_savedBoard, a_spell) (nI c) := by
  refine nm_r (e' := nI (8 * c + 6)) (by exact ch_nI_8c c 6) ⟨65, ?_⟩
  refine ch_fn (σ := Unit) (fun n _ z => wX_kingSquare_10 post (nI (8 * c + 6)) f_clockTop f_numberTop f_strict f_side f_rights f_passant f_clock f_number f_lineLen f_outLen f_moveTotal f_movesKnown f_savedSide f_savedRights f_savedPassant f_savedClock f_savedNumber f_spellLen f_at f_end f_writtenMark f_writtenCastling f_writtenPromotion f_writtenTarget f_writtenCapture f_writtenRank f_writtenFile f_writtenKind a_board a_line a_out a_moves a_savedBoard a_spell n z) (fun i _ => i ≤ kq) 64 ?_ ?_ 64 0 () rfl (by omega)
  · intro n _ hn
    have := hK.1; omega
  · intro n i _ hi hn ih
    have hv := ch_VB_lt hV hi
    refine pk_le 64 i (fun e => by omega) (fun _ => ⟨vp_in_nI hi (by omega), pk_eq (B i) (8 * c + 6) (fun e => ?_) (fun e => nm_r (nI_1 i) (ih () ?_)) (ch_bx hB hi) rfl⟩)
    · rw [hK.2.2 i hi e]; exact h
    · have := hK.2.1
      by_cases e2 : i = kq
      · subst e2; exact absurd this e
      · omega
theorem ch_x_victimSquare {post : Int32 → Prop} {B : Nat → Nat} {s t sd ep : Nat} (hB : ch_BX a_board B) (hV : ch_VB B) (hs : s < 64) (ht : t < 64) (hsd : sd < 2) (hep : ep ≤ 64) (hE : ch_EG B sd ep) (h1 : (t = ep ∧ B s % 8 = 1 ∧ s % 8 ≠ t % 8) → post (nI (ch_vq sd t))) (h0 : ¬ (t = ep ∧ B s % 8 = 1 ∧ s % 8 ≠ t % 8) → post (nI t)) : wpX_victimSquare post (f_clockTop, f_numberTop, f_strict, nI sd, f_rights, ch_epI ep, f_clock, f_number, f_lineLen, f_outLen, f_moveTotal, f_movesKnown, f_savedSide, f_savedRights, f_savedPassant, f_savedClock, f_savedNumber, f_spellLen, f_at, f_end, f_writtenMark, f_writtenCastling, f_writtenPromotion, f_writtenTarget, f_writtenCapture, f_writtenRank, f_writtenFile, f_writtenKind, a_board, a_line, a_out, a_moves, a_savedBoard, a_spell) (nI s) (nI t) := by
  have hv := ch_VB_lt hV hs
  refine ch_epk ht hep (fun e => ⟨vp_in_nI hs (by omega), ?_⟩) (fun e => h0 (fun w => e w.1))
  rw [ch_bx hB hs, ch_nI_a7 (s := B s) (by omega), ch_nI_a7 (s := s) (by omega), ch_nI_a7 (s := t) (by omega)]
  refine pk_eq (B s % 8) 1 (fun e1 => pk_eq (s % 8) (t % 8) (fun e2 => h0 (fun w => w.2.2 e2)) (fun e2 => ?_)) (fun e1 => h0 (fun w => e1 w.2.1))
  have h := h1 ⟨e, e1, e2⟩
  have hg := hE (by omega)
  refine pk_eq sd 0 (fun z => nm_r (e' := nI (t - 8)) (pk_sub (b := 8) (by omega)) ?_) (fun z => nm_r (e' := nI (t + 8)) (nI_add t 8) ?_)
  · rw [ch_nI_a63 (by omega), show (t - 8) % 64 = ch_vq sd t from by unfold ch_vq; rw [if_pos z]; omega]
    exact h
  · rw [ch_nI_a63 (by omega), show (t + 8) % 64 = ch_vq sd t from by unfold ch_vq; rw [if_neg z]; omega]
    exact h
theorem ch_x_isCastling {post : Int32 → Prop} {B : Nat → Nat} {s t sd : Nat} (hB : ch_BX a_board B) (hV : ch_VB B) (hs : s < 64) (ht : t < 64) (hsd : sd < 2) (h1 : (s = ch_hm sd ∧ B s % 8 = 6 ∧ (t = s + 2 ∨ t + 2 = s)) → post 1) (h0 : ¬ (s = ch_hm sd ∧ B s % 8 = 6 ∧ (t = s + 2 ∨ t + 2 = s)) → post 0) : wpX_isCastling post (f_clockTop, f_numberTop, f_strict, nI sd, f_rights, f_passant, f_clock, f_number, f_lineLen, f_outLen, f_moveTotal, f_movesKnown, f_savedSide, f_savedRights, f_savedPassant, f_savedClock, f_savedNumber, f_spellLen, f_at, f_end, f_writtenMark, f_writtenCastling, f_writtenPromotion, f_writtenTarget, f_writtenCapture, f_writtenRank, f_writtenFile, f_writtenKind, a_board, a_line, a_out, a_moves, a_savedBoard, a_spell) (nI s) (nI t) := by
  have hv := ch_VB_lt hV hs
  have hh := ch_hm_c hsd
  unfold wpX_isCastling
  refine ch_x_homeSquare hsd ?_
  refine pk_eq s (ch_hm sd) (fun e => ⟨vp_in_nI hs (by omega), ?_⟩) (fun e => h0 (fun w => e w.1))
  rw [ch_bx hB hs, ch_nI_a7 (s := B s) (by omega), show nI s + 2 = nI (s + 2) from nI_add s 2, show nI s - 2 = nI (s - 2) from pk_sub (b := 2) (by omega)]
  refine pk_eq (B s % 8) 6 (fun e1 => pk_eq t (s + 2) (fun e2 => h1 ⟨e, e1, Or.inl e2⟩) (fun e2 => pk_eq t (s - 2) (fun e3 => h1 ⟨e, e1, Or.inr (by omega)⟩) (fun e3 => h0 (by omega)))) (fun e1 => h0 (fun w => e1 w.2.1))
/-- the two questions at a candidate -/
theorem ch_cand_q {B : Nat → Nat} {sd rt ep s t p x : Nat} (hE : ch_EG B sd ep) (hsd : sd < 2) (hs : s < 64) (ht : t < 64) (h : ch_TP B sd rt ep s t p x) : ((t = ep ∧ B s % 8 = 1 ∧ s % 8 ≠ t % 8) ↔ x = 5) ∧ ((s = ch_hm sd ∧ B s % 8 = 6 ∧ (t = s + 2 ∨ t + 2 = s)) ↔ (x = 6 ∨ x = 7)) := by
  obtain ⟨a1, a2, a3, a4, a5, a6, a7, a8, _, _⟩ := ch_TP_g hE hs ht hsd h
  have f5 := (ch_TP_F hE hs ht hsd h).2.2.2.2.1
  have r := ch_TP_r h
  have hx : x = 1 ∨ x = 2 ∨ x = 3 ∨ x = 4 ∨ x = 5 ∨ x = 6 ∨ x = 7 := by clear a1 a2 a3 a4 a5 a6 a7 a8 h hE; omega
  clear h
  constructor
  · constructor
    · rintro ⟨w1, w2, w3⟩
      rcases hx with rfl | rfl | rfl | rfl | rfl | rfl | rfl
      · exact absurd w2 (a1 rfl)
      · exact absurd (a2 (Or.inl rfl)).1 w3
      · exact absurd (a2 (Or.inr rfl)).1 w3
      · have z := (a3 rfl).2
        have := hE (by rw [← w1]; exact ht)
        rw [w1] at z
        rcases this with ⟨_, _, y, _⟩ | ⟨_, _, y, _⟩
        · exact absurd y z
        · exact absurd y z
      · rfl
      · have := (a6 rfl).1; rw [w2] at this; exact absurd this (by decide)
      · have := (a7 rfl).1; rw [w2] at this; exact absurd this (by decide)
    · intro w
      have z := f5 w
      exact ⟨z.2.1, z.2.2.1, z.2.2.2.1⟩
  · constructor
    · rintro ⟨w1, w2, w3⟩
      rcases hx with rfl | rfl | rfl | rfl | rfl | rfl | rfl
      · have := a8 w2 w1 rfl
        rcases w3 with w3 | w3
        · exact absurd w3 this.1
        · exact absurd w3 this.2
      · have := (a2 (Or.inl rfl)).2; rw [w2] at this; exact absurd this (by decide)
      · have := (a2 (Or.inr rfl)).2; rw [w2] at this; exact absurd this (by decide)
      · have := (a3 rfl).1; rw [w2] at this; exact absurd this (by decide)
      · have := (a4 rfl).1; rw [w2] at this; exact absurd this (by decide)
      · exact Or.inl rfl
      · exact Or.inr rfl
    · rintro (w | w)
      · have z := a6 w
        exact ⟨z.2.1, z.1, Or.inl (by rw [z.2.1]; exact z.2.2)⟩
      · have z := a7 w
        exact ⟨z.2.1, z.1, Or.inr (by rw [z.2.1]; exact z.2.2)⟩
theorem ch_x_vic {post : Int32 → Prop} {B : Nat → Nat} {s t sd rt ep p x : Nat} (hB : ch_BX a_board B) (hV : ch_VB B) (hs : s < 64) (ht : t < 64) (hsd : sd < 2) (hep : ep ≤ 64) (hE : ch_EG B sd ep) (hT : ch_TP B sd rt ep s t p x) (h : ∀ v, v < 64 → v = (if x = 5 then ch_vq sd t else t) → post (nI v)) : wpX_victimSquare post (f_clockTop, f_numberTop, f_strict, nI sd, f_rights, ch_epI ep, f_clock, f_number, f_lineLen, f_outLen, f_moveTotal, f_movesKnown, f_savedSide, f_savedRights, f_savedPassant, f_savedClock, f_savedNumber, f_spellLen, f_at, f_end, f_writtenMark, f_writtenCastling, f_writtenPromotion, f_writtenTarget, f_writtenCapture, f_writtenRank, f_writtenFile, f_writtenKind, a_board, a_line, a_out, a_moves, a_savedBoard, a_spell) (nI s) (nI t) := by
  have f := ch_TP_F hE hs ht hsd hT
  obtain ⟨q5, q6⟩ := ch_cand_q hE hsd hs ht hT
  refine ch_x_victimSquare hB hV hs ht hsd hep hE (fun c => h (ch_vq sd t) ?_ ?_) (fun c => h t ht ?_)
  · exact (f.2.2.2.2.1 (q5.mp c)).2.2.2.2.1
  · rw [if_pos (q5.mp c)]
  · rw [if_neg (fun z => c (q5.mpr z))]
theorem ch_x_cas {post : Int32 → Prop} {B : Nat → Nat} {s t sd rt ep p x : Nat} (hB : ch_BX a_board B) (hV : ch_VB B) (hs : s < 64) (ht : t < 64) (hsd : sd < 2) (hE : ch_EG B sd ep) (hT : ch_TP B sd rt ep s t p x) (h : ∀ cs, ((cs = 0 ∧ x ≠ 6 ∧ x ≠ 7) ∨ (cs = 1 ∧ (x = 6 ∨ x = 7))) → post (nI cs)) : wpX_isCastling post (f_clockTop, f_numberTop, f_strict, nI sd, f_rights, f_passant, f_clock, f_number, f_lineLen, f_outLen, f_moveTotal, f_movesKnown, f_savedSide, f_savedRights, f_savedPassant, f_savedClock, f_savedNumber, f_spellLen, f_at, f_end, f_writtenMark, f_writtenCastling, f_writtenPromotion, f_writtenTarget, f_writtenCapture, f_writtenRank, f_writtenFile, f_writtenKind, a_board, a_line, a_out, a_moves, a_savedBoard, a_spell) (nI s) (nI t) := by
  obtain ⟨q5, q6⟩ := ch_cand_q hE hsd hs ht hT
  exact ch_x_isCastling hB hV hs ht hsd (fun c => h 1 (Or.inr ⟨rfl, q6.mp c⟩)) (fun c => h 0 (Or.inl ⟨rfl, fun z => c (q6.mpr (Or.inl z)), fun z => c (q6.mpr (Or.inr z))⟩))
theorem ch_x_moveMen {post : SX → Prop} {B : Nat → Nat} {s t sd rt ep p x : Nat} {w : Int32} (hB : ch_BX a_board B) (hV : ch_VB B) (hs : s < 64) (ht : t < 64) (hsd : sd < 2) (hep : ep ≤ 64) (hE : ch_EG B sd ep) (hT : ch_TP B sd rt ep s t p x) (h : post (f_clockTop, f_numberTop, f_strict, nI sd, f_rights, ch_epI ep, f_clock, f_number, f_lineLen, f_outLen, f_moveTotal, f_movesKnown, f_savedSide, f_savedRights, f_savedPassant, f_savedClock, f_savedNumber, f_spellLen, f_at, f_end, f_writtenMark, f_writtenCastling, f_writtenPromotion, f_writtenTarget, f_writtenCapture, f_writtenRank, f_writtenFile, f_writtenKind, ch_XM a_board sd s t x w, a_line, a_out, a_moves, a_savedBoard, a_spell)) : wpX_moveMen post (f_clockTop, f_numberTop, f_strict, nI sd, f_rights, ch_epI ep, f_clock, f_number, f_lineLen, f_outLen, f_moveTotal, f_movesKnown, f_savedSide, f_savedRights, f_savedPassant, f_savedClock, f_savedNumber, f_spellLen, f_at, f_end, f_writtenMark, f_writtenCastling, f_writtenPromotion, f_writtenTarget, f_writtenCapture, f_writtenRank, f_writtenFile, f_writtenKind, a_board, a_line, a_out, a_moves, a_savedBoard, a_spell) (nI s) (nI t) w := by
  have f := ch_TP_F hE hs ht hsd hT
  have hh := ch_hm_c hsd
  unfold wpX_moveMen
  refine ch_x_vic hB hV hs ht hsd hep hE hT (fun v hv ev => ?_)
  refine ch_x_cas hB hV hs ht hsd hE hT (fun cs hcs => ?_)
  rw [nI_clamp (n := s) (by omega), nI_clamp (n := v) (by omega), nI_clamp (n := t) (by omega)]
  refine ⟨vp_in_nI hs (by omega), nm_e ⟨vp_in_nI hv (by omega), nm_e ⟨vp_in_nI ht (by omega), nm_e ?_⟩⟩⟩
  rcases hcs with ⟨rfl, n6, n7⟩ | ⟨rfl, c67⟩
  · refine br_t rfl ?_
    unfold ch_XM at h
    rw [if_neg n6, if_neg n7] at h
    rw [ev]
    exact h
  · refine br_f (by decide) ?_
    have e5 : ¬ x = 5 := by omega
    rw [if_neg e5] at ev
    subst ev
    by_cases e6 : x = 6
    · obtain ⟨_, z1, z2, _, _⟩ := f.2.2.2.2.2.2.2.2.1 e6
      unfold ch_XM at h
      rw [if_pos e6] at h
      refine br_f (nI_ge (by omega) (by omega)) (br_f (nI_ge (by omega) (by omega)) ?_)
      unfold wX_moveMen_73
      rw [show nI s + 3 = nI (s + 3) from nI_add s 3, show nI s + 1 = nI (s + 1) from nI_1 s, nI_clamp (n := s + 3) (by omega), nI_clamp (n := s + 1) (by omega)]
      exact ⟨vp_in_nI (by omega) (by omega), vp_in_nI (by omega) (by omega), nm_e ⟨vp_in_nI (by omega) (by omega), nm_e h⟩⟩
    · have e7 : x = 7 := by omega
      obtain ⟨_, z1, z2, _, _⟩ := f.2.2.2.2.2.2.2.2.2.1 e7
      unfold ch_XM at h
      rw [if_neg e6, if_pos e7] at h
      refine br_t (nI_le (by omega) (by omega)) (br_t (nI_le (by omega) (by omega)) ?_)
      unfold wX_moveMen_73
      rw [show nI s - 4 = nI (s - 4) from pk_sub (b := 4) (by omega), show nI s - 1 = nI (s - 1) from pk_sub (b := 1) (by omega), nI_clamp (n := s - 4) (by omega), nI_clamp (n := s - 1) (by omega)]
      exact ⟨vp_in_nI (by omega) (by omega), vp_in_nI (by omega) (by omega), nm_e ⟨vp_in_nI (by omega) (by omega), nm_e h⟩⟩
end
end
section
/-! the component's legal targets -/
theorem ch_undo_0 {a : Nat → Int32} {s t : Nat} {w : Int32} : upd (upd (upd (upd (upd (upd a s 0) t 0) t w) t 0) t (a t)) s (a s) = a := by
  funext j
  by_cases h1 : j = s
  · rw [ch_u_t h1, h1]
  rw [ch_u_f h1]
  by_cases h2 : j = t
  · rw [ch_u_t h2, h2]
  rw [ch_u_f h2, ch_u_f h2, ch_u_f h2, ch_u_f h2, ch_u_f h1]
theorem ch_undo_5 {a : Nat → Int32} {s t v : Nat} {w : Int32} (h0 : a t = 0) : upd (upd (upd (upd (upd (upd a s 0) v 0) t w) t 0) v (a v)) s (a s) = a := by
  funext j
  by_cases h1 : j = s
  · rw [ch_u_t h1, h1]
  rw [ch_u_f h1]
  by_cases h3 : j = v
  · rw [ch_u_t h3, h3]
  rw [ch_u_f h3]
  by_cases h2 : j = t
  · rw [ch_u_t h2, h2, h0]
  rw [ch_u_f h2, ch_u_f h2, ch_u_f h3, ch_u_f h1]
theorem ch_undo_c {a m : Nat → Int32} {s t f g : Nat} {w : Int32} (ch_hm : m = upd (upd (upd a s 0) t 0) t w) (h0 : a g = 0) (n1 : f ≠ s) (n2 : f ≠ t) (n3 : g ≠ s) (n4 : g ≠ t) (n5 : f ≠ g) : upd (upd (upd (upd (upd (upd (upd m g (m f)) f 0) t 0) t (a t)) s (a s)) f (upd (upd (upd (upd (upd m g (m f)) f 0) t 0) t (a t)) s (a s) g)) g 0 = a := by
  subst ch_hm
  funext j
  by_cases h1 : j = g
  · rw [ch_u_t h1, h1, h0]
  rw [ch_u_f h1]
  by_cases h2 : j = f
  · rw [ch_u_t h2, ch_u_f n3, ch_u_f n4, ch_u_f n4, ch_u_f (Ne.symm n5), ch_u_t rfl, ch_u_f n2, ch_u_f n2, ch_u_f n1, h2]
  rw [ch_u_f h2]
  by_cases h3 : j = s
  · rw [ch_u_t h3, h3]
  rw [ch_u_f h3]
  by_cases h4 : j = t
  · rw [ch_u_t h4, h4]
  rw [ch_u_f h4, ch_u_f h4, ch_u_f h2, ch_u_f h1, ch_u_f h4, ch_u_f h4, ch_u_f h3]
section
variable {f_clockTop f_numberTop f_strict f_side f_rights f_passant f_clock f_number f_lineLen f_outLen f_moveTotal f_movesKnown f_savedSide f_savedRights f_savedPassant f_savedClock f_savedNumber f_spellLen f_at f_end f_writtenMark f_writtenCastling f_writtenPromotion f_writtenTarget f_writtenCapture f_writtenRank f_writtenFile f_writtenKind : Int32} {a_board a_line a_out a_moves a_savedBoard a_spell : Nat → Int32}
theorem ch_x_keeps78 {post : Int32 → SX → Prop} {B : Nat → Nat} {s t sd rt ep p x v cs : Nat} {r : Int32} (hB : ch_BX a_board B) (hV : ch_VB B) (hs : s < 64) (ht : t < 64) (hsd : sd < 2) (hep : ep ≤ 64) (hE : ch_EG B sd ep) (hT : ch_TP B sd rt ep s t p x) (hr : r = 0 ∨ r = 1) (hv : v < 64) (ev : v = (if x = 5 then ch_vq sd t else t)) (hcs : (cs = 0 ∧ x ≠ 6 ∧ x ≠ 7) ∨ (cs = 1 ∧ (x = 6 ∨ x = 7))) (h : post r (f_clockTop, f_numberTop, f_strict, f_side, f_rights, f_passant, f_clock, f_number, f_lineLen, f_outLen, f_moveTotal, f_movesKnown, f_savedSide, f_savedRights, f_savedPassant, f_savedClock, f_savedNumber, f_spellLen, f_at, f_end, f_writtenMark, f_writtenCastling, f_writtenPromotion, f_writtenTarget, f_writtenCapture, f_writtenRank, f_writtenFile, f_writtenKind, a_board, a_line, a_out, a_moves, a_savedBoard, a_spell)) : wX_keepsKingSafe_78 post (nI s) (nI t) (a_board s) (nI v) (a_board v) (nI cs) r f_clockTop f_numberTop f_strict f_side f_rights f_passant f_clock f_number f_lineLen f_outLen f_moveTotal f_movesKnown f_savedSide f_savedRights f_savedPassant f_savedClock f_savedNumber f_spellLen f_at f_end f_writtenMark f_writtenCastling f_writtenPromotion f_writtenTarget f_writtenCapture f_writtenRank f_writtenFile f_writtenKind (ch_XM a_board sd s t x (a_board s)) a_line a_out a_moves a_savedBoard a_spell := by
  have f := ch_TP_F hE hs ht hsd hT
  have hh := ch_hm_c hsd
  have nar : narrow .boolean (.int r) = .int r := by rcases hr with rfl | rfl <;> rfl
  unfold wX_keepsKingSafe_78
  rw [nI_clamp (n := t) (by omega), nI_clamp (n := v) (by omega), nI_clamp (n := s) (by omega)]
  refine ⟨vp_in_nI ht (by omega), nm_e ⟨vp_in_nI hv (by omega), nm_e ⟨vp_in_nI hs (by omega), nm_e ?_⟩⟩⟩
  rcases hcs with ⟨rfl, n6, n7⟩ | ⟨rfl, c67⟩
  · refine br_t rfl ⟨nar, ?_⟩
    unfold ch_XM
    rw [if_neg n6, if_neg n7]
    by_cases e5 : x = 5
    · rw [if_pos e5] at ev ⊢
      subst ev
      rw [ch_undo_5]
      · exact h
      · rw [hB t ht, (f.2.2.2.2.1 e5).1]; rfl
    · rw [if_neg e5] at ev ⊢
      subst ev
      rw [ch_undo_0]
      exact h
  · have e5 : ¬ x = 5 := by omega
    rw [if_neg e5] at ev
    subst ev
    refine br_f (by decide) ?_
    by_cases e6 : x = 6
    · obtain ⟨_, z1, z2, z3, _⟩ := f.2.2.2.2.2.2.2.2.1 e6
      refine br_f (nI_ge (by omega) (by omega)) (br_f (nI_ge (by omega) (by omega)) ?_)
      unfold wX_keepsKingSafe_139
      rw [show nI s + 3 = nI (s + 3) from nI_add s 3, show nI s + 1 = nI (s + 1) from nI_1 s, nI_clamp (n := s + 3) (by omega), nI_clamp (n := s + 1) (by omega)]
      refine ⟨vp_in_nI (by omega) (by omega), vp_in_nI (by omega) (by omega), nm_e ⟨vp_in_nI (by omega) (by omega), nm_e ⟨nar, ?_⟩⟩⟩
      unfold ch_XM
      rw [if_pos e6, ch_undo_c rfl (f := s + 3) (g := s + 1)]
      · exact h
      · rw [hB (s + 1) (by omega), z1, z3]; rfl
      · omega
      · omega
      · omega
      · omega
      · omega
    · have e7 : x = 7 := by omega
      obtain ⟨_, z1, z2, z3, _⟩ := f.2.2.2.2.2.2.2.2.2.1 e7
      refine br_t (nI_le (by omega) (by omega)) (br_t (nI_le (by omega) (by omega)) ?_)
      unfold wX_keepsKingSafe_139
      rw [show nI s - 4 = nI (s - 4) from pk_sub (b := 4) (by omega), show nI s - 1 = nI (s - 1) from pk_sub (b := 1) (by omega), nI_clamp (n := s - 4) (by omega), nI_clamp (n := s - 1) (by omega)]
      refine ⟨vp_in_nI (by omega) (by omega), vp_in_nI (by omega) (by omega), nm_e ⟨vp_in_nI (by omega) (by omega), nm_e ⟨nar, ?_⟩⟩⟩
      unfold ch_XM
      rw [if_neg e6, if_pos e7, ch_undo_c rfl (f := s - 4) (g := s - 1)]
      · exact h
      · rw [hB (s - 1) (by omega), z1, z3]; rfl
      · omega
      · omega
      · omega
      · omega
      · omega
theorem ch_AF_V0 {B : Nat → Nat} {sd s t x : Nat} (hV : ch_VB B) (hsd : sd < 2) (hs : s < 64) : ch_VB (ch_AF B sd s t 0 x) := by
  have hh := ch_hm_c hsd
  intro i hi
  have c := @ch_AF_c B sd s t 0 x i
  have vs := hV s hs
  have vi := hV i hi
  have h3 : ∀ j, j < 64 → ch_VM (B j) := hV
  rcases c with ⟨c, _⟩ | ⟨c, _⟩ | ⟨c, _⟩ | ⟨_, _, _, _, _, _, ⟨_, c⟩ | ⟨c2, _⟩⟩ | ⟨c, _⟩
  · rw [c]; exact Or.inl rfl
  · rw [c]; exact h3 _ (by omega)
  · rw [c]; exact h3 _ (by omega)
  · rw [c]; exact vs
  · exact absurd rfl c2
  · rw [c]; exact vi
theorem ch_x_keepsKingSafe {post : Int32 → SX → Prop} {B : Nat → Nat} {s t sd rt ep p x kq : Nat} (hB : ch_BX a_board B) (hV : ch_VB B) (hs : s < 64) (ht : t < 64) (hsd : sd < 2) (hep : ep ≤ 64) (hE : ch_EG B sd ep) (hkq : kq < 64) (hT : ch_TP B sd rt ep s t p x) (h1 : ¬ ch_AT (ch_AF B sd s t 0 x) (if B s % 8 = 6 then t else kq) (1 - sd) → post 1 (f_clockTop, f_numberTop, f_strict, nI sd, f_rights, ch_epI ep, f_clock, f_number, f_lineLen, f_outLen, f_moveTotal, f_movesKnown, f_savedSide, f_savedRights, f_savedPassant, f_savedClock, f_savedNumber, f_spellLen, f_at, f_end, f_writtenMark, f_writtenCastling, f_writtenPromotion, f_writtenTarget, f_writtenCapture, f_writtenRank, f_writtenFile, f_writtenKind, a_board, a_line, a_out, a_moves, a_savedBoard, a_spell)) (h0 : ch_AT (ch_AF B sd s t 0 x) (if B s % 8 = 6 then t else kq) (1 - sd) → post 0 (f_clockTop, f_numberTop, f_strict, nI sd, f_rights, ch_epI ep, f_clock, f_number, f_lineLen, f_outLen, f_moveTotal, f_movesKnown, f_savedSide, f_savedRights, f_savedPassant, f_savedClock, f_savedNumber, f_spellLen, f_at, f_end, f_writtenMark, f_writtenCastling, f_writtenPromotion, f_writtenTarget, f_writtenCapture, f_writtenRank, f_writtenFile, f_writtenKind, a_board, a_line, a_out, a_moves, a_savedBoard, a_spell)) : wpX_keepsKingSafe post (f_clockTop, f_numberTop, f_strict, nI sd, f_rights, ch_epI ep, f_clock, f_number, f_lineLen, f_outLen, f_moveTotal, f_movesKnown, f_savedSide, f_savedRights, f_savedPassant, f_savedClock, f_savedNumber, f_spellLen, f_at, f_end, f_writtenMark, f_writtenCastling, f_writtenPromotion, f_writtenTarget, f_writtenCapture, f_writtenRank, f_writtenFile, f_writtenKind, a_board, a_line, a_out, a_moves, a_savedBoard, a_spell) (nI s) (nI t) (nI kq) := by
  have hvs := ch_VB_lt hV hs
  have cl : ∀ v, v < 64 → (nI v).toNatClampNeg = v := fun v hv => nI_clamp (by omega)
  have hBX : ch_BX (ch_XM a_board sd s t x (a_board s)) (ch_AF B sd s t 0 x) := by
    have h := ch_XM_BX 0 hB hE hsd hs ht hT
    rw [if_pos rfl, ← hB s hs] at h
    exact h
  have fin : ∀ (v cs : Nat), v < 64 → v = (if x = 5 then ch_vq sd t else t) → ((cs = 0 ∧ x ≠ 6 ∧ x ≠ 7) ∨ (cs = 1 ∧ (x = 6 ∨ x = 7))) → ∀ g, g = (if B s % 8 = 6 then t else kq) → g < 64 → wX_keepsKingSafe_56 post (nI s) (nI t) (a_board s) (nI v) (a_board v) (nI cs) (nI g) f_clockTop f_numberTop f_strict (nI sd) f_rights (ch_epI ep) f_clock f_number f_lineLen f_outLen f_moveTotal f_movesKnown f_savedSide f_savedRights f_savedPassant f_savedClock f_savedNumber f_spellLen f_at f_end f_writtenMark f_writtenCastling f_writtenPromotion f_writtenTarget f_writtenCapture f_writtenRank f_writtenFile f_writtenKind (ch_XM a_board sd s t x (a_board s)) a_line a_out a_moves a_savedBoard a_spell := by
    intro v cs hv ev hcs g eg hg
    unfold wX_keepsKingSafe_56
    rw [ch_side_f sd hsd]
    subst eg
    refine ch_x_isAttacked hBX (ch_AF_V0 hV hsd hs) hg (by omega) (fun a => br_f (by decide) ?_) (fun a => br_t rfl ?_)
    · exact ch_x_keeps78 hB hV hs ht hsd hep hE hT (Or.inl rfl) hv ev hcs (h0 a)
    · exact ch_x_keeps78 hB hV hs ht hsd hep hE hT (Or.inr rfl) hv ev hcs (h1 a)
  have ek : a_board s &&& 7 = nI (B s % 8) := by rw [hB s hs, ch_nI_a7 (by omega)]
  refine ⟨vp_in_nI hs (by omega), nm_r (e' := a_board s) (by rw [cl s hs]) (ch_x_vic hB hV hs ht hsd hep hE hT (fun v hv ev => ⟨vp_in_nI hv (by omega), nm_r (e' := a_board v) (by rw [cl v hv]) (ch_x_cas hB hV hs ht hsd hE hT (fun cs hcs => ch_x_moveMen hB hV hs ht hsd hep hE hT ?_))⟩))⟩
  refine pk_eq (B s % 8) 6 (fun e => fin v cs hv ev hcs t (by rw [if_pos e]) ht) (fun e => fin v cs hv ev hcs kq (by rw [if_neg e]) hkq) ek rfl
theorem ch_x_legalTargets {post : Int64 → SX → Prop} {B : Nat → Nat} {s sd rt ep kq : Nat} (hB : ch_BX a_board B) (hP : ch_POS B sd rt ep) (hs : s < 64) (hK : ch_K1 B sd kq) (h : ∀ L, ch_SB L (ch_LX B sd rt ep kq s) → post L (f_clockTop, f_numberTop, f_strict, nI sd, nI rt, ch_epI ep, f_clock, f_number, f_lineLen, f_outLen, f_moveTotal, f_movesKnown, f_savedSide, f_savedRights, f_savedPassant, f_savedClock, f_savedNumber, f_spellLen, f_at, f_end, f_writtenMark, f_writtenCastling, f_writtenPromotion, f_writtenTarget, f_writtenCapture, f_writtenRank, f_writtenFile, f_writtenKind, a_board, a_line, a_out, a_moves, a_savedBoard, a_spell)) : wpX_legalTargets post (f_clockTop, f_numberTop, f_strict, nI sd, nI rt, ch_epI ep, f_clock, f_number, f_lineLen, f_outLen, f_moveTotal, f_movesKnown, f_savedSide, f_savedRights, f_savedPassant, f_savedClock, f_savedNumber, f_spellLen, f_at, f_end, f_writtenMark, f_writtenCastling, f_writtenPromotion, f_writtenTarget, f_writtenCapture, f_writtenRank, f_writtenFile, f_writtenKind, a_board, a_line, a_out, a_moves, a_savedBoard, a_spell) (nI s) (nI kq) := by
  obtain ⟨hV, hsd, hrt, hep, _, _, hpw, hR, hE, hA, hcn⟩ := hP
  unfold wpX_legalTargets
  refine ch_x_candidateTargets hB hV hs hsd hrt hep (fun C hC => br_c (fun c => h 0 ?_) (fun c => ⟨65, ?_⟩))
  · refine ch_SB_0 (fun t ht w => ?_)
    obtain ⟨p, x, hp, hT, _⟩ := w
    subst c
    have := (hC t ht).mpr (ch_CT_TP.mpr ⟨p, x, hp, hT⟩)
    rw [ch_lb_0] at this
    cases this
  · refine ch_fn (σ := Int64) (fun n L z => wX_legalTargets_20 post (nI s) (nI kq) C n L z f_clockTop f_numberTop f_strict (nI sd) (nI rt) (ch_epI ep) f_clock f_number f_lineLen f_outLen f_moveTotal f_movesKnown f_savedSide f_savedRights f_savedPassant f_savedClock f_savedNumber f_spellLen f_at f_end f_writtenMark f_writtenCastling f_writtenPromotion f_writtenTarget f_writtenCapture f_writtenRank f_writtenFile f_writtenKind a_board a_line a_out a_moves a_savedBoard a_spell) (fun i L => ch_SB L (fun t => t < i ∧ ch_LX B sd rt ep kq s t)) 64 ?_ ?_ 64 0 0 rfl ?_
    · intro n L hL
      exact br_t (by decide) (h L (ch_SB_c hL (fun t ht => ⟨fun w => w.2, fun w => ⟨ht, w⟩⟩)))
    · intro n i L hi hL ih
      have skip : ¬ ch_LX B sd rt ep kq s i → wX_legalTargets_20 post (nI s) (nI kq) C n L (nI (i + 1)) f_clockTop f_numberTop f_strict (nI sd) (nI rt) (ch_epI ep) f_clock f_number f_lineLen f_outLen f_moveTotal f_movesKnown f_savedSide f_savedRights f_savedPassant f_savedClock f_savedNumber f_spellLen f_at f_end f_writtenMark f_writtenCastling f_writtenPromotion f_writtenTarget f_writtenCapture f_writtenRank f_writtenFile f_writtenKind a_board a_line a_out a_moves a_savedBoard a_spell := by
        intro w
        refine ih L (ch_SB_c hL (fun t ht => ?_))
        constructor
        · rintro ⟨y, z⟩; exact ⟨by omega, z⟩
        · rintro ⟨y, z⟩
          by_cases e : t = i
          · subst e; exact absurd z w
          · exact ⟨by omega, z⟩
      refine pk_le 64 i (fun e => by omega) (fun _ => nm_e (br_c (fun c => nm_r (nI_1 i) (skip ?_)) (fun c => ?_)))
      · rintro ⟨p, x, hp, hT, _⟩
        exact (ch_lb_and0 hi).mp c ((hC i hi).mpr (ch_CT_TP.mpr ⟨p, x, hp, hT⟩))
      · have ch_cb : ch_lb C i = true := Classical.byContradiction (fun w => c ((ch_lb_and0 hi).mpr w))
        obtain ⟨p, x, hp, hT⟩ := ch_CT_TP.mp ((hC i hi).mp ch_cb)
        refine ch_x_keepsKingSafe hB hV hs hi hsd hep hE hK.1 hT (fun a => br_f (by decide) (nm_e (nm_r (nI_1 i) (ih _ (ch_SB_c (ch_SB_s hL hi) (fun t ht => ?_)))))) (fun a => br_t rfl (nm_r (nI_1 i) (skip ?_)))
        · constructor
          · rintro (⟨y, z⟩ | rfl)
            · exact ⟨by omega, z⟩
            · exact ⟨by omega, p, x, hp, hT, a⟩
          · rintro ⟨y, z⟩
            by_cases e : t = i
            · exact Or.inr e
            · exact Or.inl ⟨by omega, z⟩
        · rintro ⟨p', x', hp', hT', a'⟩
          obtain rfl := ch_TP_u hE hs hi hsd hT' hT
          exact a' a
    · exact ch_SB_0 (fun t ht w => by have := w.1; omega)
theorem ch_x_hasLegalMove {post : Int32 → SX → Prop} {B : Nat → Nat} {sd rt ep kq : Nat} (hB : ch_BX a_board B) (hP : ch_POS B sd rt ep) (hK : ch_K1 B sd kq) (h1 : (∃ s t, s < 64 ∧ t < 64 ∧ ch_LX B sd rt ep kq s t) → post 1 (f_clockTop, f_numberTop, f_strict, nI sd, nI rt, ch_epI ep, f_clock, f_number, f_lineLen, f_outLen, f_moveTotal, f_movesKnown, f_savedSide, f_savedRights, f_savedPassant, f_savedClock, f_savedNumber, f_spellLen, f_at, f_end, f_writtenMark, f_writtenCastling, f_writtenPromotion, f_writtenTarget, f_writtenCapture, f_writtenRank, f_writtenFile, f_writtenKind, a_board, a_line, a_out, a_moves, a_savedBoard, a_spell)) (h0 : ¬ (∃ s t, s < 64 ∧ t < 64 ∧ ch_LX B sd rt ep kq s t) → post 0 (f_clockTop, f_numberTop, f_strict, nI sd, nI rt, ch_epI ep, f_clock, f_number, f_lineLen, f_outLen, f_moveTotal, f_movesKnown, f_savedSide, f_savedRights, f_savedPassant, f_savedClock, f_savedNumber, f_spellLen, f_at, f_end, f_writtenMark, f_writtenCastling, f_writtenPromotion, f_writtenTarget, f_writtenCapture, f_writtenRank, f_writtenFile, f_writtenKind, a_board, a_line, a_out, a_moves, a_savedBoard, a_spell)) : wpX_hasLegalMove post (f_clockTop, f_numberTop, f_strict, nI sd, nI rt, ch_epI ep, f_clock, f_number, f_lineLen, f_outLen, f_moveTotal, f_movesKnown, f_savedSide, f_savedRights, f_savedPassant, f_savedClock, f_savedNumber, f_spellLen, f_at, f_end, f_writtenMark, f_writtenCastling, f_writtenPromotion, f_writtenTarget, f_writtenCapture, f_writtenRank, f_writtenFile, f_writtenKind, a_board, a_line, a_out, a_moves, a_savedBoard, a_spell) := by
  have hP' := hP
  obtain ⟨hV, hsd, _⟩ := hP
  unfold wpX_hasLegalMove
  refine ch_x_kingSquare hB hV hsd hK ⟨65, ?_⟩
  refine ch_fn (σ := Unit) (fun n _ z => wX_hasLegalMove_11 post (nI kq) n z f_clockTop f_numberTop f_strict (nI sd) (nI rt) (ch_epI ep) f_clock f_number f_lineLen f_outLen f_moveTotal f_movesKnown f_savedSide f_savedRights f_savedPassant f_savedClock f_savedNumber f_spellLen f_at f_end f_writtenMark f_writtenCastling f_writtenPromotion f_writtenTarget f_writtenCapture f_writtenRank f_writtenFile f_writtenKind a_board a_line a_out a_moves a_savedBoard a_spell) (fun i _ => ¬ ∃ s t, s < i ∧ s < 64 ∧ t < 64 ∧ ch_LX B sd rt ep kq s t) 64 ?_ ?_ 64 0 () rfl ?_
  · intro n _ hn
    refine br_t (by decide) (h0 ?_)
    rintro ⟨s, t, hs, ht, w⟩
    exact hn ⟨s, t, hs, hs, ht, w⟩
  · intro n i _ hi hn ih
    refine pk_le 64 i (fun e => by omega) (fun _ => ch_x_legalTargets hB hP' hi hK (fun L hL => br_c (fun c => nm_r (nI_1 i) (ih () ?_)) (fun c => h1 ?_)))
    · rintro ⟨s, t, hs, hs2, ht, w⟩
      by_cases e : s = i
      · subst e
        exact ch_lb_z.mp c t ht ((hL t ht).mpr w)
      · exact hn ⟨s, t, by omega, hs2, ht, w⟩
    · refine Classical.byContradiction (fun w => c (ch_lb_z.mpr (fun t ht y => w ⟨i, t, hi, ht, (hL t ht).mp y⟩)))
  · rintro ⟨s, t, hs, _⟩
    omega
end
end
section
/-! the reference's move types, walked -/
theorem ch_TP_n1 {B : Nat → Nat} {sd rt ep s t p : Nat} (hk : B s % 8 = 1) (hn : ¬ ch_PR sd t p) : ∀ x, ¬ ch_TP B sd rt ep s t p x := by
  rintro x ⟨_, h | h | h | h | h | h | h⟩
  · exact h.2.1 hk
  · exact hn h.2.2.1
  · exact hn h.2.2.1
  · exact hn h.2.2.1
  · exact hn h.2.2.1
  · have := h.2.1; omega
  · have := h.2.1; omega
theorem ch_TP_n2 {B : Nat → Nat} {sd rt ep s t p : Nat} (hk : B s % 8 = 1) (n2 : ¬ (ch_SQ s 0 (ch_fw sd) t ∧ B t = 0)) (n3 : ¬ (s / 8 = ch_fr sd ∧ ch_SQ s 0 (2 * ch_fw sd) t ∧ B t = 0 ∧ ∃ q, q < 64 ∧ ch_SQ s 0 (ch_fw sd) q ∧ B q = 0)) (n4 : ¬ (ch_PC sd s t ∧ B t ≠ 0 ∧ B t / 8 ≠ sd)) (n5 : ¬ (ch_PC sd s t ∧ t = ep)) : ∀ x, ¬ ch_TP B sd rt ep s t p x := by
  rintro x ⟨_, h | h | h | h | h | h | h⟩
  · exact h.2.1 hk
  · exact n2 h.2.2.2
  · exact n3 h.2.2.2
  · exact n4 h.2.2.2
  · exact n5 h.2.2.2
  · have := h.2.1; omega
  · have := h.2.1; omega
theorem ch_TP_n3 {B : Nat → Nat} {sd rt ep s t p : Nat} (hk : B s % 8 ≠ 1) (n1 : ¬ (p = 0 ∧ ch_MA B s t ∧ ¬ ch_ow B sd t)) (n6 : ¬ (B s % 8 = 6 ∧ p = 0 ∧ s = ch_hm sd ∧ t = ch_hm sd + 2 ∧ ch_C6 B sd rt)) (n7 : ¬ (B s % 8 = 6 ∧ p = 0 ∧ s = ch_hm sd ∧ t = ch_hm sd - 2 ∧ ch_C7 B sd rt)) : ∀ x, ¬ ch_TP B sd rt ep s t p x := by
  rintro x ⟨_, h | h | h | h | h | h | h⟩
  · exact n1 h.2.2
  · exact hk h.2.1
  · exact hk h.2.1
  · exact hk h.2.1
  · exact hk h.2.1
  · exact n6 h.2
  · exact n7 h.2
/-- a pawn's double step -/
def ch_D3 (B : Nat → Nat) (sd s t : Nat) : Prop := s / 8 = ch_fr sd ∧ ch_SQ s 0 (2 * ch_fw sd) t ∧ B t = 0 ∧ ∃ q, q < 64 ∧ ch_SQ s 0 (ch_fw sd) q ∧ B q = 0
theorem ch_ra1 : ∀ m, m < 16 → nI m &&& 1 = nI (m % 2) := by decide +kernel
theorem ch_ra2 : ∀ m, m < 16 → nI m &&& 2 = nI (m / 2 % 2 * 2) := by decide +kernel
theorem ch_ra4 : ∀ m, m < 16 → nI m &&& 4 = nI (m / 4 % 2 * 4) := by decide +kernel
theorem ch_ra8 : ∀ m, m < 16 → nI m &&& 8 = nI (m / 8 % 2 * 8) := by decide +kernel
theorem ch_SQ_8 {s t : Nat} {b : Int} (hs : s < 64) (ht : t < 64) (hb : -3 < b ∧ b < 3) : (t : Int) = s + 8 * b ↔ ch_SQ s 0 b t := by
  unfold ch_SQ; omega
theorem ch_by0 {a : Nat → Int32} {B : Nat → Nat} (h : ch_BY a 0 B) {i : Nat} (hi : i < 64) : a (nI i).toNatClampNeg = nI (B i) := by
  rw [nI_clamp (by omega)]; have := h i hi; rw [Nat.zero_add] at this; exact this
section
variable {f_side f_rights f_ep f_clock f_number f_lineLen f_outLen f_clockTop f_numberTop f_strict f_textLen f_newSide f_newRights f_newEp f_newClock f_newNumber : Int32} {a_men a_line a_out a_text a_cut : Nat → Int32}
theorem ch_y_mt559 {post : Int32 → Prop} {ep t hf : Nat} (ht : t < 64) (hep : ep ≤ 64) (hhf : hf < 2) (h5 : hf = 1 → t = ep → post 5) (h0 : ¬ (hf = 1 ∧ t = ep) → post 0) : wY_moveType_559 post (nI t) (nI hf) f_side f_rights (ch_epI ep) f_clock f_number f_lineLen f_outLen f_clockTop f_numberTop f_strict f_textLen f_newSide f_newRights f_newEp f_newClock f_newNumber a_men a_line a_out a_text a_cut :=
  pk_eq hf 0 (fun e => h0 (fun w => by omega)) (fun e => ch_epk ht hep (fun e2 => h5 (by omega) e2) (fun e2 => h0 (fun w => e2 w.2)))
theorem ch_y_mt547 {post : Int32 → Prop} {ep t hf ef : Nat} (ht : t < 64) (hep : ep ≤ 64) (hhf : hf < 2) (hef : ef < 2) (h4 : hf = 1 → ef = 1 → post 4) (h5 : hf = 1 → t = ep → post 5) (h0 : ¬ (hf = 1 ∧ ef = 1) → ¬ (hf = 1 ∧ t = ep) → post 0) : wY_moveType_547 post (nI t) (nI hf) (nI ef) f_side f_rights (ch_epI ep) f_clock f_number f_lineLen f_outLen f_clockTop f_numberTop f_strict f_textLen f_newSide f_newRights f_newEp f_newClock f_newNumber a_men a_line a_out a_text a_cut :=
  pk_eq hf 0 (fun e => ch_y_mt559 ht hep hhf h5 (fun w => h0 (by omega) w)) (fun e => pk_eq ef 0 (fun e2 => ch_y_mt559 ht hep hhf h5 (fun w => h0 (by omega) w)) (fun e2 => h4 (by omega) (by omega)))
theorem ch_y_mt506 {post : Int32 → Prop} {B : Nat → Nat} {sd ep s t hf ef : Nat} (hB : ch_BY a_men 0 B) (hV : ch_VB B) (hs : s < 64) (ht : t < 64) (hsd : sd < 2) (hep : ep ≤ 64) (hhf : hf < 2) (hef : ef < 2) (h3 : (ch_D3 B sd s t) → post 3) (h4 : hf = 1 → ef = 1 → post 4) (h5 : hf = 1 → t = ep → post 5) (h0 : ¬ (ch_D3 B sd s t) → ¬ (hf = 1 ∧ ef = 1) → ¬ (hf = 1 ∧ t = ep) → post 0) : wY_moveType_506 post (nI s) (nI t) (ch_zI (8 * ch_fw sd)) (nI hf) (nI ef) (nI (ch_fr sd)) f_side f_rights (ch_epI ep) f_clock f_number f_lineLen f_outLen f_clockTop f_numberTop f_strict f_textLen f_newSide f_newRights f_newEp f_newClock f_newNumber a_men a_line a_out a_text a_cut := by
  have hf2 : (sd = 0 ∧ ch_fw sd = 1) ∨ (sd = 1 ∧ ch_fw sd = -1) := by unfold ch_fw; split <;> omega
  have hfr : (sd = 0 ∧ ch_fr sd = 1) ∨ (sd = 1 ∧ ch_fr sd = 6) := by unfold ch_fr; split <;> omega
  have hvt := ch_VB_lt hV ht
  have no : ¬ (ch_D3 B sd s t) → wY_moveType_547 post (nI t) (nI hf) (nI ef) f_side f_rights (ch_epI ep) f_clock f_number f_lineLen f_outLen f_clockTop f_numberTop f_strict f_textLen f_newSide f_newRights f_newEp f_newClock f_newNumber a_men a_line a_out a_text a_cut := fun w => ch_y_mt547 ht hep hhf hef h4 h5 (fun w2 w3 => h0 w w2 w3)
  unfold wY_moveType_506
  have e2 : nI s + 2 * ch_zI (8 * ch_fw sd) = ch_zI (s + 8 * (2 * ch_fw sd)) := by
    rw [ch_zI_2, ch_zI_mul, ch_zI_n', ch_zI_add]; congr 1; omega
  rw [ch_nI_r3 (by omega), e2]
  refine pk_eq (s / 8) (ch_fr sd) (fun er => ch_zk_eq t (s + 8 * (2 * ch_fw sd)) (fun et => ?_) (fun et => no (fun w => et ((ch_SQ_8 hs ht (by omega)).mpr w.2.1))) (ch_zI_n' t) rfl) (fun er => no (fun w => er w.1))
  obtain ⟨q, hq⟩ : ∃ q : Nat, (q : Int) = s + 8 * ch_fw sd := ⟨((s : Int) + 8 * ch_fw sd).toNat, by omega⟩
  have hq64 : q < 64 := by omega
  have hvq := ch_VB_lt hV hq64
  have e1 : nI s + ch_zI (8 * ch_fw sd) = nI q := by rw [ch_zI_n', ch_zI_add, ← hq, ch_zI_n]
  rw [e1]
  have sq : ch_SQ s 0 (ch_fw sd) q := (ch_SQ_8 hs hq64 (by omega)).mp hq
  refine ⟨vp_in_nI (by omega) (by omega), pk_eq (B q) 0 (fun eq => ⟨vp_in_nI (by omega) (by omega), pk_eq (B t) 0 (fun et0 => h3 ⟨er, (ch_SQ_8 hs ht (by omega)).mp et, et0, q, hq64, sq, eq⟩) (fun et0 => no (fun w => et0 w.2.2.1)) (ch_by0 hB ht) rfl⟩) (fun eq => no ?_) (ch_by0 hB hq64) rfl⟩
  rintro ⟨_, _, _, q', _, w, w2⟩
  exact eq (ch_SQ_u w sq ▸ w2)
theorem ch_y_mt487 {post : Int32 → Prop} {B : Nat → Nat} {sd ep s t hf ef : Nat} (hB : ch_BY a_men 0 B) (hV : ch_VB B) (hs : s < 64) (ht : t < 64) (hsd : sd < 2) (hep : ep ≤ 64) (hhf : hf < 2) (hef : ef < 2) (h2 : (ch_SQ s 0 (ch_fw sd) t ∧ B t = 0) → post 2) (h3 : (ch_D3 B sd s t) → post 3) (h4 : hf = 1 → ef = 1 → post 4) (h5 : hf = 1 → t = ep → post 5) (h0 : ¬ (ch_SQ s 0 (ch_fw sd) t ∧ B t = 0) → ¬ (ch_D3 B sd s t) → ¬ (hf = 1 ∧ ef = 1) → ¬ (hf = 1 ∧ t = ep) → post 0) : wY_moveType_487 post (nI s) (nI t) (ch_zI (8 * ch_fw sd)) (nI hf) (nI ef) (nI (ch_fr sd)) f_side f_rights (ch_epI ep) f_clock f_number f_lineLen f_outLen f_clockTop f_numberTop f_strict f_textLen f_newSide f_newRights f_newEp f_newClock f_newNumber a_men a_line a_out a_text a_cut := by
  have hf2 : (sd = 0 ∧ ch_fw sd = 1) ∨ (sd = 1 ∧ ch_fw sd = -1) := by unfold ch_fw; split <;> omega
  have hvt := ch_VB_lt hV ht
  have no : ¬ (ch_SQ s 0 (ch_fw sd) t ∧ B t = 0) → wY_moveType_506 post (nI s) (nI t) (ch_zI (8 * ch_fw sd)) (nI hf) (nI ef) (nI (ch_fr sd)) f_side f_rights (ch_epI ep) f_clock f_number f_lineLen f_outLen f_clockTop f_numberTop f_strict f_textLen f_newSide f_newRights f_newEp f_newClock f_newNumber a_men a_line a_out a_text a_cut := fun w => ch_y_mt506 hB hV hs ht hsd hep hhf hef h3 h4 h5 (h0 w)
  unfold wY_moveType_487
  have e1 : nI s + ch_zI (8 * ch_fw sd) = ch_zI (s + 8 * ch_fw sd) := by rw [ch_zI_n', ch_zI_add]
  rw [e1]
  exact ch_zk_eq t (s + 8 * ch_fw sd) (fun et => ⟨vp_in_nI (by omega) (by omega), pk_eq (B t) 0 (fun e0 => h2 ⟨(ch_SQ_8 hs ht (by omega)).mp et, e0⟩) (fun e0 => no (fun w => e0 w.2)) (ch_by0 hB ht) rfl⟩) (fun et => no (fun w => et ((ch_SQ_8 hs ht (by omega)).mpr w.1))) (ch_zI_n' t) rfl
/-- a pawn's code -/
theorem ch_y_mt441 {post : Int32 → Prop} {B : Nat → Nat} {sd rt ep s t p hf ef : Nat} (hB : ch_BY a_men 0 B) (hV : ch_VB B) (hs : s < 64) (ht : t < 64) (hp : p < 8) (hsd : sd < 2) (hep : ep ≤ 64) (hhf : hf < 2) (hef : ef < 2) (ho : ch_ow B sd s) (hk : B s % 8 = 1) (hhf' : hf = 1 ↔ ch_PC sd s t) (hef' : ef = 1 ↔ (B t ≠ 0 ∧ B t / 8 ≠ sd)) (h : ∀ x, ch_TP B sd rt ep s t p x → post (nI x)) (h0 : (∀ x, ¬ ch_TP B sd rt ep s t p x) → post 0) : wY_moveType_441 post (nI s) (nI t) (nI p) (ch_zI (8 * ch_fw sd)) (nI hf) (nI ef) (nI (ch_lr sd)) (nI sd) f_rights (ch_epI ep) f_clock f_number f_lineLen f_outLen f_clockTop f_numberTop f_strict f_textLen f_newSide f_newRights f_newEp f_newClock f_newNumber a_men a_line a_out a_text a_cut := by
  have h487 : ch_PR sd t p → wY_moveType_487 post (nI s) (nI t) (ch_zI (8 * ch_fw sd)) (nI hf) (nI ef) (nI (ch_fr sd)) (nI sd) f_rights (ch_epI ep) f_clock f_number f_lineLen f_outLen f_clockTop f_numberTop f_strict f_textLen f_newSide f_newRights f_newEp f_newClock f_newNumber a_men a_line a_out a_text a_cut := by
    intro hpr
    refine ch_y_mt487 hB hV hs ht hsd hep hhf hef (fun w => h 2 ⟨ho, Or.inr (Or.inl ⟨rfl, hk, hpr, w⟩)⟩) (fun w => h 3 ⟨ho, Or.inr (Or.inr (Or.inl ⟨rfl, hk, hpr, w⟩))⟩) (fun w w2 => h 4 ⟨ho, Or.inr (Or.inr (Or.inr (Or.inl ⟨rfl, hk, hpr, hhf'.mp w, hef'.mp w2⟩)))⟩) (fun w w2 => h 5 ⟨ho, Or.inr (Or.inr (Or.inr (Or.inr (Or.inl ⟨rfl, hk, hpr, hhf'.mp w, w2⟩))))⟩) (fun a2 a3 a4 a5 => h0 (ch_TP_n2 hk a2 a3 (fun w => a4 ⟨hhf'.mpr w.1, hef'.mpr w.2⟩) (fun w => a5 ⟨hhf'.mpr w.1, w.2⟩)))
  have h456 : wY_moveType_456 post (nI s) (nI t) (nI p) (ch_zI (8 * ch_fw sd)) (nI hf) (nI ef) (nI (ch_lr sd)) (nI (ch_fr sd)) (nI sd) f_rights (ch_epI ep) f_clock f_number f_lineLen f_outLen f_clockTop f_numberTop f_strict f_textLen f_newSide f_newRights f_newEp f_newClock f_newNumber a_men a_line a_out a_text a_cut := by
    have hlr : ch_lr sd < 8 := by unfold ch_lr; split <;> omega
    unfold wY_moveType_456
    rw [ch_nI_r3 (by omega)]
    refine pk_eq (t / 8) (ch_lr sd) (fun e => pk_lt p 2 (fun e2 => h0 (ch_TP_n1 hk (by unfold ch_PR; omega))) (fun e2 => pk_le p 5 (fun e3 => h487 (by unfold ch_PR; omega)) (fun e3 => h0 (ch_TP_n1 hk (by unfold ch_PR; omega))))) (fun e => pk_eq p 0 (fun e2 => h487 (by unfold ch_PR; omega)) (fun e2 => h0 (ch_TP_n1 hk (by unfold ch_PR; omega))))
  refine pk_eq sd 0 (fun e => ?_) (fun e => ?_)
  · rw [show ch_fr sd = 1 from by unfold ch_fr; rw [if_pos e]] at h456
    exact h456
  · rw [show ch_fr sd = 6 from by unfold ch_fr; rw [if_neg e]] at h456
    exact h456
theorem ch_y_mt317 {post : Int32 → Prop} {B : Nat → Nat} {sd rt t b7 : Nat} {x13 : Int32} (hB : ch_BY a_men 0 B) (hV : ch_VB B) (ht : t < 64) (hsd : sd < 2) (hx : nI rt &&& x13 = nI b7) (hb : b7 < 16) (hb7 : b7 = 0 ↔ ¬ ch_mn sd rt / 2 = 1) (h7 : t = ch_hm sd - 2 → ch_C7 B sd rt → post 7) (h0 : ¬ (t = ch_hm sd - 2 ∧ ch_C7 B sd rt) → post 0) : wY_moveType_317 post (nI t) (nI (1 - sd)) (nI (ch_hm sd)) x13 f_side (nI rt) f_ep f_clock f_number f_lineLen f_outLen f_clockTop f_numberTop f_strict f_textLen f_newSide f_newRights f_newEp f_newClock f_newNumber a_men a_line a_out a_text a_cut := by
  have hh := ch_hm_c hsd
  have v1 := ch_VB_lt hV (i := ch_hm sd - 1) (by omega)
  have v2 := ch_VB_lt hV (i := ch_hm sd - 2) (by omega)
  have v3 := ch_VB_lt hV (i := ch_hm sd - 3) (by omega)
  unfold wY_moveType_317
  rw [hx, show nI (ch_hm sd) - 1 = nI (ch_hm sd - 1) from pk_sub (b := 1) (by omega), show nI (ch_hm sd) - 2 = nI (ch_hm sd - 2) from pk_sub (b := 2) (by omega), show nI (ch_hm sd) - 3 = nI (ch_hm sd - 3) from pk_sub (b := 3) (by omega)]
  refine pk_eq t (ch_hm sd - 2) (fun et => pk_eq b7 0 (fun e => h0 (fun w => hb7.mp e w.2.1)) (fun e => ⟨vp_in_nI (by omega) (by omega), pk_eq (B (ch_hm sd - 1)) 0 (fun e1 => ⟨vp_in_nI (by omega) (by omega), pk_eq (B (ch_hm sd - 2)) 0 (fun e2 => ⟨vp_in_nI (by omega) (by omega), pk_eq (B (ch_hm sd - 3)) 0 (fun e3 => ?_) (fun e3 => h0 (fun w => e3 w.2.2.2.2.1)) (ch_by0 hB (by omega)) rfl⟩) (fun e2 => h0 (fun w => e2 w.2.2.2.1)) (ch_by0 hB (by omega)) rfl⟩) (fun e1 => h0 (fun w => e1 w.2.2.1)) (ch_by0 hB (by omega)) rfl⟩)) (fun et => h0 (fun w => et w.1))
  have hm7 : ch_mn sd rt / 2 = 1 := Classical.byContradiction (fun w => e (hb7.mpr w))
  refine ch_y_attackedOn (bs := 0) hB (by omega) hV (by omega) (by omega) (fun a1 => ?_) (fun a1 => ?_) <;> refine ch_y_attackedOn (bs := 0) hB (by omega) hV (by omega) (by omega) (fun a2 => ?_) (fun a2 => ?_) <;> refine ch_y_attackedOn (bs := 0) hB (by omega) hV (by omega) (by omega) (fun a3 => ?_) (fun a3 => ?_)
  · exact br_f (by decide) (h0 (fun w => w.2.2.2.2.2.1 a1))
  · exact br_f (by decide) (h0 (fun w => w.2.2.2.2.2.1 a1))
  · exact br_f (by decide) (h0 (fun w => w.2.2.2.2.2.1 a1))
  · exact br_f (by decide) (h0 (fun w => w.2.2.2.2.2.1 a1))
  · exact br_t rfl (br_f (by decide) (h0 (fun w => w.2.2.2.2.2.2.1 a2)))
  · exact br_t rfl (br_f (by decide) (h0 (fun w => w.2.2.2.2.2.2.1 a2)))
  · exact br_t rfl (br_t rfl (br_f (by decide) (h0 (fun w => w.2.2.2.2.2.2.2 a3))))
  · exact br_t rfl (br_t rfl (br_t rfl (h7 et ⟨hm7, e1, e2, e3, a1, a2, a3⟩)))
theorem ch_y_mt218 {post : Int32 → Prop} {B : Nat → Nat} {sd rt t b6 b7 : Nat} {x12 x13 : Int32} (hB : ch_BY a_men 0 B) (hV : ch_VB B) (ht : t < 64) (hsd : sd < 2) (hx6 : nI rt &&& x12 = nI b6) (hb : b6 < 16) (hb6 : b6 = 0 ↔ ¬ ch_mn sd rt % 2 = 1) (hx : nI rt &&& x13 = nI b7) (hb' : b7 < 16) (hb7 : b7 = 0 ↔ ¬ ch_mn sd rt / 2 = 1) (h6 : t = ch_hm sd + 2 → ch_C6 B sd rt → post 6) (h7 : t = ch_hm sd - 2 → ch_C7 B sd rt → post 7) (h0 : ¬ (t = ch_hm sd + 2 ∧ ch_C6 B sd rt) → ¬ (t = ch_hm sd - 2 ∧ ch_C7 B sd rt) → post 0) : wY_moveType_218 post (nI t) (nI (1 - sd)) (nI (ch_hm sd)) x12 x13 f_side (nI rt) f_ep f_clock f_number f_lineLen f_outLen f_clockTop f_numberTop f_strict f_textLen f_newSide f_newRights f_newEp f_newClock f_newNumber a_men a_line a_out a_text a_cut := by
  have hh := ch_hm_c hsd
  have v1 := ch_VB_lt hV (i := ch_hm sd + 1) (by omega)
  have v2 := ch_VB_lt hV (i := ch_hm sd + 2) (by omega)
  have no : ¬ (t = ch_hm sd + 2 ∧ ch_C6 B sd rt) → wY_moveType_317 post (nI t) (nI (1 - sd)) (nI (ch_hm sd)) x13 f_side (nI rt) f_ep f_clock f_number f_lineLen f_outLen f_clockTop f_numberTop f_strict f_textLen f_newSide f_newRights f_newEp f_newClock f_newNumber a_men a_line a_out a_text a_cut := fun w => ch_y_mt317 hB hV ht hsd hx hb' hb7 h7 (h0 w)
  unfold wY_moveType_218
  rw [hx6, show nI (ch_hm sd) + 1 = nI (ch_hm sd + 1) from nI_1 _, show nI (ch_hm sd) + 2 = nI (ch_hm sd + 2) from nI_add _ 2]
  refine pk_eq t (ch_hm sd + 2) (fun et => pk_eq b6 0 (fun e => no (fun w => hb6.mp e w.2.1)) (fun e => ⟨vp_in_nI (by omega) (by omega), pk_eq (B (ch_hm sd + 1)) 0 (fun e1 => ⟨vp_in_nI (by omega) (by omega), pk_eq (B (ch_hm sd + 2)) 0 (fun e2 => ?_) (fun e2 => no (fun w => e2 w.2.2.2.1)) (ch_by0 hB (by omega)) rfl⟩) (fun e1 => no (fun w => e1 w.2.2.1)) (ch_by0 hB (by omega)) rfl⟩)) (fun et => no (fun w => et w.1))
  have hm6 : ch_mn sd rt % 2 = 1 := Classical.byContradiction (fun w => e (hb6.mpr w))
  refine ch_y_attackedOn (bs := 0) hB (by omega) hV (by omega) (by omega) (fun a1 => ?_) (fun a1 => ?_) <;> refine ch_y_attackedOn (bs := 0) hB (by omega) hV (by omega) (by omega) (fun a2 => ?_) (fun a2 => ?_) <;> refine ch_y_attackedOn (bs := 0) hB (by omega) hV (by omega) (by omega) (fun a3 => ?_) (fun a3 => ?_)
  · exact br_f (by decide) (no (fun w => w.2.2.2.2.1 a1))
  · exact br_f (by decide) (no (fun w => w.2.2.2.2.1 a1))
  · exact br_f (by decide) (no (fun w => w.2.2.2.2.1 a1))
  · exact br_f (by decide) (no (fun w => w.2.2.2.2.1 a1))
  · exact br_t rfl (br_f (by decide) (no (fun w => w.2.2.2.2.2.1 a2)))
  · exact br_t rfl (br_f (by decide) (no (fun w => w.2.2.2.2.2.1 a2)))
  · exact br_t rfl (br_t rfl (br_f (by decide) (no (fun w => w.2.2.2.2.2.2 a3))))
  · exact br_t rfl (br_t rfl (br_t rfl (h6 et ⟨hm6, e1, e2, a1, a2, a3⟩)))
/-- a king's castling -/
theorem ch_y_mt163 {post : Int32 → Prop} {B : Nat → Nat} {sd rt ep s t p : Nat} (hB : ch_BY a_men 0 B) (hV : ch_VB B) (hs : s < 64) (ht : t < 64) (hsd : sd < 2) (hrt : rt < 16) (ho : ch_ow B sd s) (hk : B s % 8 ≠ 1) (hp0 : p = 0) (n1 : ¬ (ch_MA B s t ∧ ¬ ch_ow B sd t)) (h : ∀ x, ch_TP B sd rt ep s t p x → post (nI x)) (h0 : (∀ x, ¬ ch_TP B sd rt ep s t p x) → post 0) : wY_moveType_163 post (nI s) (nI t) (nI (B s % 8)) (nI (1 - sd)) (nI sd) (nI rt) f_ep f_clock f_number f_lineLen f_outLen f_clockTop f_numberTop f_strict f_textLen f_newSide f_newRights f_newEp f_newClock f_newNumber a_men a_line a_out a_text a_cut := by
  have hh := ch_hm_c hsd
  have h176 : wY_moveType_176 post (nI s) (nI t) (nI (B s % 8)) (nI (1 - sd)) (nI (ch_hm sd)) (nI sd) (nI rt) f_ep f_clock f_number f_lineLen f_outLen f_clockTop f_numberTop f_strict f_textLen f_newSide f_newRights f_newEp f_newClock f_newNumber a_men a_line a_out a_text a_cut := by
    refine pk_eq (B s % 8) 6 (fun e6 => pk_eq s (ch_hm sd) (fun es => ?_) (fun es => h0 (ch_TP_n3 hk (fun w => n1 w.2) (fun w => es w.2.2.1) (fun w => es w.2.2.1)))) (fun e6 => h0 (ch_TP_n3 hk (fun w => n1 w.2) (fun w => e6 w.1) (fun w => e6 w.1)))
    have c6 : t = ch_hm sd + 2 → ch_C6 B sd rt → post 6 := fun w w2 => h 6 ⟨ho, Or.inr (Or.inr (Or.inr (Or.inr (Or.inr (Or.inl ⟨rfl, e6, hp0, es, w, w2⟩)))))⟩
    have c7 : t = ch_hm sd - 2 → ch_C7 B sd rt → post 7 := fun w w2 => h 7 ⟨ho, Or.inr (Or.inr (Or.inr (Or.inr (Or.inr (Or.inr ⟨rfl, e6, hp0, es, w, w2⟩)))))⟩
    have c0 : ¬ (t = ch_hm sd + 2 ∧ ch_C6 B sd rt) → ¬ (t = ch_hm sd - 2 ∧ ch_C7 B sd rt) → post 0 := fun w w2 => h0 (ch_TP_n3 hk (fun y => n1 y.2) (fun y => w y.2.2.2) (fun y => w2 y.2.2.2))
    have hmn : (sd = 0 ∧ ch_mn sd rt = rt % 4) ∨ (sd = 1 ∧ ch_mn sd rt = rt / 4 % 4) := by unfold ch_mn; split <;> omega
    refine pk_eq sd 0 (fun e => br_t (by rw [e]; rfl) ?_) (fun e => br_f (nI_ne0 (by omega) (by omega)) ?_)
    · exact ch_y_mt218 hB hV ht hsd (ch_ra1 rt hrt) (by omega) (by omega) (ch_ra2 rt hrt) (by omega) (by omega) c6 c7 c0
    · exact ch_y_mt218 hB hV ht hsd (ch_ra4 rt hrt) (by omega) (by omega) (ch_ra8 rt hrt) (by omega) (by omega) c6 c7 c0
  refine pk_eq sd 0 (fun e => ?_) (fun e => ?_)
  · rw [show ch_hm sd = 4 from by unfold ch_hm; rw [if_pos e]] at h176
    exact h176
  · rw [show ch_hm sd = 60 from by unfold ch_hm; rw [if_neg e]] at h176
    exact h176
theorem ch_y_mt127 {post : Int32 → Prop} {B : Nat → Nat} {sd rt ep s t p hf ef : Nat} (hB : ch_BY a_men 0 B) (hV : ch_VB B) (hs : s < 64) (ht : t < 64) (hp : p < 8) (hsd : sd < 2) (hrt : rt < 16) (hep : ep ≤ 64) (hhf : hf < 2) (hef : ef < 2) (ho : ch_ow B sd s) (hhf' : hf = 1 ↔ ch_MA B s t) (hef' : ef = 1 ↔ (B t ≠ 0 ∧ B t / 8 ≠ sd)) (h : ∀ x, ch_TP B sd rt ep s t p x → post (nI x)) (h0 : (∀ x, ¬ ch_TP B sd rt ep s t p x) → post 0) : wY_moveType_127 post (nI s) (nI t) (nI p) (nI (B s % 8)) (nI (1 - sd)) (ch_zI (8 * ch_fw sd)) (nI hf) (nI ef) (nI sd) (nI rt) (ch_epI ep) f_clock f_number f_lineLen f_outLen f_clockTop f_numberTop f_strict f_textLen f_newSide f_newRights f_newEp f_newClock f_newNumber a_men a_line a_out a_text a_cut := by
  have hvt := ch_VB_lt hV ht
  have hvs := ch_VB_lt hV hs
  refine pk_eq (B s % 8) 1 (fun e1 => ?_) (fun e1 => pk_eq p 0 (fun ep0 => ?_) (fun ep0 => h0 (ch_TP_n3 e1 (fun w => ep0 w.1) (fun w => ep0 w.2.1) (fun w => ep0 w.2.1))))
  · have h441 : wY_moveType_441 post (nI s) (nI t) (nI p) (ch_zI (8 * ch_fw sd)) (nI hf) (nI ef) (nI (ch_lr sd)) (nI sd) (nI rt) (ch_epI ep) f_clock f_number f_lineLen f_outLen f_clockTop f_numberTop f_strict f_textLen f_newSide f_newRights f_newEp f_newClock f_newNumber a_men a_line a_out a_text a_cut := ch_y_mt441 hB hV hs ht hp hsd hep hhf hef ho e1 (hhf'.trans (ch_MA_pc e1 ho)) hef' h h0
    refine pk_eq sd 0 (fun e => ?_) (fun e => ?_)
    · rw [show ch_lr sd = 7 from by unfold ch_lr; rw [if_pos e]] at h441
      exact h441
    · rw [show ch_lr sd = 0 from by unfold ch_lr; rw [if_neg e]] at h441
      exact h441
  · have no : ¬ (ch_MA B s t ∧ ¬ ch_ow B sd t) → wY_moveType_163 post (nI s) (nI t) (nI (B s % 8)) (nI (1 - sd)) (nI sd) (nI rt) (ch_epI ep) f_clock f_number f_lineLen f_outLen f_clockTop f_numberTop f_strict f_textLen f_newSide f_newRights f_newEp f_newClock f_newNumber a_men a_line a_out a_text a_cut := fun w => ch_y_mt163 hB hV hs ht hsd hrt ho e1 ep0 w h h0
    have yes : ch_MA B s t → ¬ ch_ow B sd t → post 1 := fun w w2 => h 1 ⟨ho, Or.inl ⟨rfl, e1, ep0, w, w2⟩⟩
    refine pk_eq hf 0 (fun e => no (fun w => ?_)) (fun e => ⟨vp_in_nI (by omega) (by omega), pk_eq (B t) 0 (fun e2 => yes (hhf'.mp (by omega)) (fun w => w.1 e2)) (fun e2 => pk_eq ef 0 (fun e3 => no (fun w => ?_)) (fun e3 => yes (hhf'.mp (by omega)) (fun w => ?_))) (ch_by0 hB ht) rfl⟩)
    · have := hhf'.mpr w.1; omega
    · have : ¬ (B t ≠ 0 ∧ B t / 8 ≠ sd) := fun y => by have := hef'.mpr y; omega
      refine w.2 ⟨e2, ?_⟩
      omega
    · exact (hef'.mp (by omega)).2 w.2
theorem ch_y_manF {post : Int32 → Prop} {B : Nat → Nat} {s t bs : Nat} (hB : ch_BY a_men bs B) (hbs : bs ≤ 192) (hV : ch_VB B) (hs : s < 64) (ht : t < 64) (h : ∀ hf : Nat, hf < 2 → (hf = 1 ↔ ch_MA B s t) → post (nI hf)) : wpY_manAttacks post (f_side, f_rights, f_ep, f_clock, f_number, f_lineLen, f_outLen, f_clockTop, f_numberTop, f_strict, f_textLen, f_newSide, f_newRights, f_newEp, f_newClock, f_newNumber, a_men, a_line, a_out, a_text, a_cut) (nI bs) (nI s) (nI t) :=
  ch_y_manAttacks hB hbs hV hs ht (fun m => h 1 (by omega) ⟨fun _ => m, fun _ => rfl⟩) (fun m => h 0 (by omega) ⟨fun w => by omega, fun w => absurd w m⟩)
theorem ch_y_moveType {post : Int32 → Prop} {B : Nat → Nat} {sd rt ep s t p : Nat} (hB : ch_BY a_men 0 B) (hV : ch_VB B) (hs : s < 64) (ht : t < 64) (hp : p < 8) (hsd : sd < 2) (hrt : rt < 16) (hep : ep ≤ 64) (h : ∀ x, ch_TP B sd rt ep s t p x → post (nI x)) (h0 : (∀ x, ¬ ch_TP B sd rt ep s t p x) → post 0) : wpY_moveType post (nI sd, nI rt, ch_epI ep, f_clock, f_number, f_lineLen, f_outLen, f_clockTop, f_numberTop, f_strict, f_textLen, f_newSide, f_newRights, f_newEp, f_newClock, f_newNumber, a_men, a_line, a_out, a_text, a_cut) (nI (512 * s + 8 * t + p)) := by
  have hvs := ch_VB_lt hV hs
  have hvt := ch_VB_lt hV ht
  have z0 : ¬ ch_ow B sd s → post 0 := fun w => h0 (fun x hx => w hx.1)
  refine br_f (nI_pos (by omega)) (pk_le (512 * s + 8 * t + p) 32767 (fun _ => ?_) (fun e => by omega))
  refine nm_r (e' := nI s) (by rw [ch_nI_r9 (by omega), ch_nI_a63 (by omega)]; congr 1; omega) (nm_r (e' := nI t) (by rw [ch_nI_r3 (by omega), ch_nI_a63 (by omega)]; congr 1; omega) (nm_r (e' := nI p) (by rw [ch_nI_a7 (by omega)]; congr 1; omega) ⟨vp_in_nI (by omega) (by omega), nm_r (ch_by0 hB hs) (pk_eq (B s) 0 (fun e => z0 (fun w => w.1 e)) (fun e => ?_))⟩))
  rw [ch_nI_r3 (by omega)]
  refine pk_eq (B s / 8) sd (fun e2 => nm_r (ch_nI_a7 (by omega)) (nm_r (ch_side_f sd hsd) ?_)) (fun e2 => z0 (fun w => e2 w.2))
  have ho : ch_ow B sd s := ⟨e, e2⟩
  have h89 : wY_moveType_89 post (nI s) (nI t) (nI p) (nI (B s % 8)) (nI (1 - sd)) (ch_zI (8 * ch_fw sd)) (nI sd) (nI rt) (ch_epI ep) f_clock f_number f_lineLen f_outLen f_clockTop f_numberTop f_strict f_textLen f_newSide f_newRights f_newEp f_newClock f_newNumber a_men a_line a_out a_text a_cut := by
    unfold wY_moveType_89
    refine ch_y_manF (bs := 0) hB (by omega) hV hs ht (fun hf hhf hhf' => ?_)
    have n126 : ¬ (B t ≠ 0 ∧ B t / 8 ≠ sd) → wY_moveType_126 post (nI s) (nI t) (nI p) (nI (B s % 8)) (nI (1 - sd)) (ch_zI (8 * ch_fw sd)) (nI hf) (nI sd) (nI rt) (ch_epI ep) f_clock f_number f_lineLen f_outLen f_clockTop f_numberTop f_strict f_textLen f_newSide f_newRights f_newEp f_newClock f_newNumber a_men a_line a_out a_text a_cut := fun w => ch_y_mt127 (ef := 0) hB hV hs ht hp hsd hrt hep hhf (by omega) ho hhf' ⟨fun y => by omega, fun y => absurd y w⟩ h h0
    rw [ch_by0 hB ht, ch_nI_r3 (by omega)]
    refine ⟨vp_in_nI (by omega) (by omega), pk_eq (B t) 0 (fun e => n126 (fun w => w.1 e)) (fun e => ⟨vp_in_nI (by omega) (by omega), pk_eq (B t / 8) (1 - sd) (fun e2 => ?_) (fun e2 => n126 (fun w => ?_))⟩)⟩
    · exact ch_y_mt127 (ef := 1) hB hV hs ht hp hsd hrt hep hhf (by omega) ho hhf' ⟨fun _ => ⟨e, by omega⟩, fun _ => rfl⟩ h h0
    · omega
  refine pk_eq sd 0 (fun e => ?_) (fun e => ?_)
  · rw [show (8 * ch_fw sd : Int) = 8 from by unfold ch_fw; rw [if_pos e]; rfl] at h89
    exact h89
  · rw [show (8 * ch_fw sd : Int) = -8 from by unfold ch_fw; rw [if_neg e]; rfl] at h89
    exact h89
end
end
section
/-! the reference's board after a move, and its legal test -/
def ch_EQ6 (m a : Nat → Int32) : Prop := ∀ i, (i < 64 ∨ 128 ≤ i) → m i = a i
theorem ch_EQ6_r {a : Nat → Int32} : ch_EQ6 a a := fun _ _ => rfl
theorem ch_EQ6_t {a b c : Nat → Int32} (h : ch_EQ6 a b) (k : ch_EQ6 b c) : ch_EQ6 a c := fun i hi => (h i hi).trans (k i hi)
theorem ch_EQ6_u {m a : Nat → Int32} {i : Nat} {v : Int32} (h : ch_EQ6 m a) (h1 : 64 ≤ i) (h2 : i < 128) : ch_EQ6 (upd m i v) a := fun j hj => by
  rw [ch_u_f (by omega)]; exact h j hj
theorem ch_EQ6_B {m a : Nat → Int32} {B : Nat → Nat} (h : ch_EQ6 m a) (hB : ch_BY a 0 B) : ch_BY m 0 B := fun i hi => by
  rw [h _ (by omega)]; exact hB i hi
def ch_YM (m : Nat → Int32) (sd s t x : Nat) (v : Int32) : Nat → Int32 :=
  if x = 5 then upd (upd (upd m (64 + s) 0) (64 + t) v) (64 + ch_vq sd t) 0
  else if x = 6 then upd (upd (upd (upd m (64 + s) 0) (64 + t) v) (64 + (ch_hm sd + 1)) (upd (upd m (64 + s) 0) (64 + t) v (ch_hm sd + 3))) (64 + (ch_hm sd + 3)) 0
  else if x = 7 then upd (upd (upd (upd m (64 + s) 0) (64 + t) v) (64 + (ch_hm sd - 1)) (upd (upd m (64 + s) 0) (64 + t) v (ch_hm sd - 4))) (64 + (ch_hm sd - 4)) 0
  else upd (upd m (64 + s) 0) (64 + t) v
theorem ch_YM_5 {m : Nat → Int32} {sd s t x : Nat} {v : Int32} (e : x = 5) : ch_YM m sd s t x v = upd (upd (upd m (64 + s) 0) (64 + t) v) (64 + ch_vq sd t) 0 := by
  unfold ch_YM; rw [if_pos e]
theorem ch_YM_6 {m : Nat → Int32} {sd s t x : Nat} {v : Int32} (e : x = 6) : ch_YM m sd s t x v = upd (upd (upd (upd m (64 + s) 0) (64 + t) v) (64 + (ch_hm sd + 1)) (upd (upd m (64 + s) 0) (64 + t) v (ch_hm sd + 3))) (64 + (ch_hm sd + 3)) 0 := by
  unfold ch_YM; rw [if_neg (by omega), if_pos e]
theorem ch_YM_7 {m : Nat → Int32} {sd s t x : Nat} {v : Int32} (e : x = 7) : ch_YM m sd s t x v = upd (upd (upd (upd m (64 + s) 0) (64 + t) v) (64 + (ch_hm sd - 1)) (upd (upd m (64 + s) 0) (64 + t) v (ch_hm sd - 4))) (64 + (ch_hm sd - 4)) 0 := by
  unfold ch_YM; rw [if_neg (by omega), if_neg (by omega), if_pos e]
theorem ch_YM_0 {m : Nat → Int32} {sd s t x : Nat} {v : Int32} (e5 : x ≠ 5) (e6 : x ≠ 6) (e7 : x ≠ 7) : ch_YM m sd s t x v = upd (upd m (64 + s) 0) (64 + t) v := by
  unfold ch_YM; rw [if_neg e5, if_neg e6, if_neg e7]
theorem ch_YM_ok {m a : Nat → Int32} {B : Nat → Nat} {sd rt ep s t p x : Nat} {w : Int32} (hw : (p = 0 ∧ w = nI (B s)) ∨ (p ≠ 0 ∧ w = nI (8 * sd + p))) (hB : ch_BY a 0 B) (hE : ch_EG B sd ep) (hsd : sd < 2) (hs : s < 64) (ht : t < 64) (hT : ch_TP B sd rt ep s t p x) (hm1 : ch_EQ6 m a) (hm2 : ch_BY m 64 B) : ch_EQ6 (ch_YM m sd s t x w) a ∧ ch_BY (ch_YM m sd s t x w) 64 (ch_AF B sd s t p x) := by
  obtain ⟨f1, _, _, _, f5, _, _, _, f6, f7, _⟩ := ch_TP_F hE hs ht hsd hT
  have hh := ch_hm_c hsd
  have low : ∀ i, i < 64 → m i = nI (B i) := fun i hi => by rw [hm1 i (by omega)]; have := hB i hi; rw [Nat.zero_add] at this; exact this
  have q2 := ch_EQ6_u (ch_EQ6_u (i := 64 + s) (v := 0) hm1 (by omega) (by omega)) (i := 64 + t) (v := w) (by omega) (by omega)
  constructor
  · by_cases e5 : x = 5
    · have z := f5 e5
      rw [ch_YM_5 e5]; exact ch_EQ6_u q2 (by omega) (by omega)
    by_cases e6 : x = 6
    · rw [ch_YM_6 e6]; exact ch_EQ6_u (ch_EQ6_u q2 (by omega) (by omega)) (by omega) (by omega)
    by_cases e7 : x = 7
    · rw [ch_YM_7 e7]; exact ch_EQ6_u (ch_EQ6_u q2 (by omega) (by omega)) (by omega) (by omega)
    · rw [ch_YM_0 e5 e6 e7]; exact q2
  · intro i hi
    rcases @ch_AF_c B sd s t p x i with ⟨c, ⟨e6, y⟩ | ⟨e7, y⟩ | ⟨e5, y⟩ | ⟨es, nt⟩⟩ | ⟨c, e6, y⟩ | ⟨c, e7, y⟩ | ⟨et, n1, n2, n3, n4, n5, c⟩ | ⟨c, m1, m2, n1, n2, n3, n4, n5⟩
    · rw [c, ch_YM_6 e6, ch_u_t (by omega)]; rfl
    · rw [c, ch_YM_7 e7, ch_u_t (by omega)]; rfl
    · rw [c, ch_YM_5 e5, ch_u_t (by omega)]; rfl
    · rw [c]
      by_cases e5 : x = 5
      · have z := f5 e5
        rw [ch_YM_5 e5, ch_u_f (by omega), ch_u_f (by omega), ch_u_t (by omega)]; rfl
      by_cases e6 : x = 6
      · obtain ⟨_, z1, z2, _, _⟩ := f6 e6
        rw [ch_YM_6 e6, ch_u_f (by omega), ch_u_f (by omega), ch_u_f (by omega), ch_u_t (by omega)]; rfl
      by_cases e7 : x = 7
      · obtain ⟨_, z1, z2, _, _⟩ := f7 e7
        rw [ch_YM_7 e7, ch_u_f (by omega), ch_u_f (by omega), ch_u_f (by omega), ch_u_t (by omega)]; rfl
      · rw [ch_YM_0 e5 e6 e7, ch_u_f (by omega), ch_u_t (by omega)]; rfl
    · rw [c, ch_YM_6 e6, ch_u_f (by omega), ch_u_t (by omega), ch_u_f (by omega), ch_u_f (by omega)]
      exact low _ (by omega)
    · rw [c, ch_YM_7 e7, ch_u_f (by omega), ch_u_t (by omega), ch_u_f (by omega), ch_u_f (by omega)]
      exact low _ (by omega)
    · have ew : w = nI (ch_AF B sd s t p x i) := by
        rcases hw with ⟨w1, w2⟩ | ⟨w1, w2⟩ <;> rcases c with ⟨c1, c2⟩ | ⟨c1, c2⟩
        · rw [w2, c2]
        · exact absurd w1 c1
        · exact absurd c1 w1
        · rw [w2, c2]
      rw [← ew]
      by_cases e5 : x = 5
      · rw [ch_YM_5 e5, ch_u_f (by omega), ch_u_t (by omega)]
      by_cases e6 : x = 6
      · rw [ch_YM_6 e6, ch_u_f (by omega), ch_u_f (by omega), ch_u_t (by omega)]
      by_cases e7 : x = 7
      · rw [ch_YM_7 e7, ch_u_f (by omega), ch_u_f (by omega), ch_u_t (by omega)]
      · rw [ch_YM_0 e5 e6 e7, ch_u_t (by omega)]
    · rw [c]
      by_cases e5 : x = 5
      · rw [ch_YM_5 e5, ch_u_f (by omega), ch_u_f (by omega), ch_u_f (by omega)]; exact hm2 i hi
      by_cases e6 : x = 6
      · rw [ch_YM_6 e6, ch_u_f (by omega), ch_u_f (by omega), ch_u_f (by omega), ch_u_f (by omega)]; exact hm2 i hi
      by_cases e7 : x = 7
      · rw [ch_YM_7 e7, ch_u_f (by omega), ch_u_f (by omega), ch_u_f (by omega), ch_u_f (by omega)]; exact hm2 i hi
      · rw [ch_YM_0 e5 e6 e7, ch_u_f (by omega), ch_u_f (by omega)]; exact hm2 i hi
theorem ch_i64 (k : Nat) : (64 : Int32) + nI k = nI (64 + k) := nI_add 64 k
section
variable {f_side f_rights f_ep f_clock f_number f_lineLen f_outLen f_clockTop f_numberTop f_strict f_textLen f_newSide f_newRights f_newEp f_newClock f_newNumber : Int32} {a_men a_line a_out a_text a_cut : Nat → Int32}
theorem ch_y_ma201 {post : SY → Prop} {sd x : Nat} (hsd : sd < 2) (hx : x < 8) (h7 : x = 7 → post (f_side, f_rights, f_ep, f_clock, f_number, f_lineLen, f_outLen, f_clockTop, f_numberTop, f_strict, f_textLen, f_newSide, f_newRights, f_newEp, f_newClock, f_newNumber, upd (upd a_men (64 + (ch_hm sd - 1)) (a_men (ch_hm sd - 4))) (64 + (ch_hm sd - 4)) 0, a_line, a_out, a_text, a_cut)) (h0 : x ≠ 7 → post (f_side, f_rights, f_ep, f_clock, f_number, f_lineLen, f_outLen, f_clockTop, f_numberTop, f_strict, f_textLen, f_newSide, f_newRights, f_newEp, f_newClock, f_newNumber, a_men, a_line, a_out, a_text, a_cut)) : wY_makeAfter_201 post (nI x) (nI (ch_hm sd)) f_side f_rights f_ep f_clock f_number f_lineLen f_outLen f_clockTop f_numberTop f_strict f_textLen f_newSide f_newRights f_newEp f_newClock f_newNumber a_men a_line a_out a_text a_cut := by
  have hh := ch_hm_c hsd
  unfold wY_makeAfter_201
  rw [ch_i64, show nI (ch_hm sd) - 4 = nI (ch_hm sd - 4) from pk_sub (b := 4) (by omega), show nI (64 + ch_hm sd) - 1 = nI (64 + (ch_hm sd - 1)) from (pk_sub (b := 1) (by omega)).trans (congrArg nI (by omega)), show nI (64 + ch_hm sd) - 4 = nI (64 + (ch_hm sd - 4)) from (pk_sub (b := 4) (by omega)).trans (congrArg nI (by omega)), nI_clamp (n := ch_hm sd - 4) (by omega), nI_clamp (n := 64 + (ch_hm sd - 1)) (by omega), nI_clamp (n := 64 + (ch_hm sd - 4)) (by omega)]
  exact pk_eq x 7 (fun e => ⟨vp_in_nI (by omega) (by omega), vp_in_nI (by omega) (by omega), nm_e ⟨vp_in_nI (by omega) (by omega), nm_e (h7 e)⟩⟩) (fun e => h0 e)
theorem ch_y_ma161 {post : SY → Prop} {sd x : Nat} (hsd : sd < 2) (hx : x < 8) (h6 : x = 6 → post (f_side, f_rights, f_ep, f_clock, f_number, f_lineLen, f_outLen, f_clockTop, f_numberTop, f_strict, f_textLen, f_newSide, f_newRights, f_newEp, f_newClock, f_newNumber, upd (upd a_men (64 + (ch_hm sd + 1)) (a_men (ch_hm sd + 3))) (64 + (ch_hm sd + 3)) 0, a_line, a_out, a_text, a_cut)) (h7 : x = 7 → post (f_side, f_rights, f_ep, f_clock, f_number, f_lineLen, f_outLen, f_clockTop, f_numberTop, f_strict, f_textLen, f_newSide, f_newRights, f_newEp, f_newClock, f_newNumber, upd (upd a_men (64 + (ch_hm sd - 1)) (a_men (ch_hm sd - 4))) (64 + (ch_hm sd - 4)) 0, a_line, a_out, a_text, a_cut)) (h0 : x ≠ 6 → x ≠ 7 → post (f_side, f_rights, f_ep, f_clock, f_number, f_lineLen, f_outLen, f_clockTop, f_numberTop, f_strict, f_textLen, f_newSide, f_newRights, f_newEp, f_newClock, f_newNumber, a_men, a_line, a_out, a_text, a_cut)) : wY_makeAfter_161 post (nI x) (nI (ch_hm sd)) f_side f_rights f_ep f_clock f_number f_lineLen f_outLen f_clockTop f_numberTop f_strict f_textLen f_newSide f_newRights f_newEp f_newClock f_newNumber a_men a_line a_out a_text a_cut := by
  have hh := ch_hm_c hsd
  unfold wY_makeAfter_161
  rw [ch_i64, show nI (ch_hm sd) + 3 = nI (ch_hm sd + 3) from nI_add _ 3, show nI (64 + ch_hm sd) + 1 = nI (64 + (ch_hm sd + 1)) from (nI_add _ 1).trans (congrArg nI (by omega)), show nI (64 + ch_hm sd) + 3 = nI (64 + (ch_hm sd + 3)) from (nI_add _ 3).trans (congrArg nI (by omega)), nI_clamp (n := ch_hm sd + 3) (by omega), nI_clamp (n := 64 + (ch_hm sd + 1)) (by omega), nI_clamp (n := 64 + (ch_hm sd + 3)) (by omega)]
  exact pk_eq x 6 (fun e => ⟨vp_in_nI (by omega) (by omega), vp_in_nI (by omega) (by omega), nm_e ⟨vp_in_nI (by omega) (by omega), nm_e (ch_y_ma201 hsd hx (fun w => by omega) (fun _ => h6 e))⟩⟩) (fun e => ch_y_ma201 hsd hx h7 (h0 e))
theorem ch_y_ma125 {post : SY → Prop} {sd t x : Nat} {v : Int32} (hsd : sd < 2) (hx : x < 8) (ht : t < 64) (hv : x = 5 → (sd = 0 ∧ 8 ≤ t) ∨ (sd = 1 ∧ t + 8 < 64)) (h5 : x = 5 → post (f_side, f_rights, f_ep, f_clock, f_number, f_lineLen, f_outLen, f_clockTop, f_numberTop, f_strict, f_textLen, f_newSide, f_newRights, f_newEp, f_newClock, f_newNumber, upd (upd a_men (64 + t) v) (64 + ch_vq sd t) 0, a_line, a_out, a_text, a_cut)) (h6 : x = 6 → post (f_side, f_rights, f_ep, f_clock, f_number, f_lineLen, f_outLen, f_clockTop, f_numberTop, f_strict, f_textLen, f_newSide, f_newRights, f_newEp, f_newClock, f_newNumber, upd (upd (upd a_men (64 + t) v) (64 + (ch_hm sd + 1)) (upd a_men (64 + t) v (ch_hm sd + 3))) (64 + (ch_hm sd + 3)) 0, a_line, a_out, a_text, a_cut)) (h7 : x = 7 → post (f_side, f_rights, f_ep, f_clock, f_number, f_lineLen, f_outLen, f_clockTop, f_numberTop, f_strict, f_textLen, f_newSide, f_newRights, f_newEp, f_newClock, f_newNumber, upd (upd (upd a_men (64 + t) v) (64 + (ch_hm sd - 1)) (upd a_men (64 + t) v (ch_hm sd - 4))) (64 + (ch_hm sd - 4)) 0, a_line, a_out, a_text, a_cut)) (h0 : x ≠ 5 → x ≠ 6 → x ≠ 7 → post (f_side, f_rights, f_ep, f_clock, f_number, f_lineLen, f_outLen, f_clockTop, f_numberTop, f_strict, f_textLen, f_newSide, f_newRights, f_newEp, f_newClock, f_newNumber, upd a_men (64 + t) v, a_line, a_out, a_text, a_cut)) : wY_makeAfter_125 post (nI x) (nI t) (ch_zI (8 * ch_fw sd)) (nI (ch_hm sd)) v (nI (64 + t)) f_side f_rights f_ep f_clock f_number f_lineLen f_outLen f_clockTop f_numberTop f_strict f_textLen f_newSide f_newRights f_newEp f_newClock f_newNumber a_men a_line a_out a_text a_cut := by
  unfold wY_makeAfter_125
  rw [nI_clamp (n := 64 + t) (by omega)]
  refine ⟨vp_in_nI (by omega) (by omega), nm_e (pk_eq x 5 (fun e => ?_) (fun e => ch_y_ma161 hsd hx h6 h7 (h0 e)))⟩
  have hf2 : (sd = 0 ∧ ch_fw sd = 1 ∧ ch_vq sd t = t - 8) ∨ (sd = 1 ∧ ch_fw sd = -1 ∧ ch_vq sd t = t + 8) := by unfold ch_fw ch_vq; split <;> omega
  have hv' := hv e
  refine nm_r (e' := nI (ch_vq sd t)) (by rw [ch_zI_n', ch_zI_n', ch_zI_sub]; congr 1; omega) (br_f (nI_pos (by omega)) (pk_lt 63 (ch_vq sd t) (fun z => by omega) (fun z => ?_)))
  rw [ch_i64, nI_clamp (n := 64 + ch_vq sd t) (by omega)]
  exact ⟨vp_in_nI (by omega) (by omega), nm_e (ch_y_ma161 hsd hx (fun w => by omega) (fun w => by omega) (fun _ _ => h5 e))⟩
theorem ch_y_ma80 {post : SY → Prop} {sd s t p x : Nat} (hsd : sd < 2) (hx : x < 8) (hs : s < 64) (ht : t < 64) (hp : p < 8) (hv : x = 5 → (sd = 0 ∧ 8 ≤ t) ∨ (sd = 1 ∧ t + 8 < 64)) (h : ∀ w, w = (if p = 0 then a_men s else nI (8 * sd + p)) → post (nI sd, f_rights, f_ep, f_clock, f_number, f_lineLen, f_outLen, f_clockTop, f_numberTop, f_strict, f_textLen, f_newSide, f_newRights, f_newEp, f_newClock, f_newNumber, ch_YM a_men sd s t x w, a_line, a_out, a_text, a_cut)) : wY_makeAfter_80 post (nI x) (nI s) (nI t) (nI p) (ch_zI (8 * ch_fw sd)) (nI (ch_hm sd)) (nI sd) f_rights f_ep f_clock f_number f_lineLen f_outLen f_clockTop f_numberTop f_strict f_textLen f_newSide f_newRights f_newEp f_newClock f_newNumber a_men a_line a_out a_text a_cut := by
  unfold wY_makeAfter_80
  rw [ch_i64, ch_i64, nI_clamp (n := 64 + s) (by omega), nI_clamp (n := s) (by omega)]
  have fin : ∀ w, w = (if p = 0 then a_men s else nI (8 * sd + p)) → wY_makeAfter_125 post (nI x) (nI t) (ch_zI (8 * ch_fw sd)) (nI (ch_hm sd)) w (nI (64 + t)) (nI sd) f_rights f_ep f_clock f_number f_lineLen f_outLen f_clockTop f_numberTop f_strict f_textLen f_newSide f_newRights f_newEp f_newClock f_newNumber (upd a_men (64 + s) 0) a_line a_out a_text a_cut := by
    intro w ew
    have hw := h w ew
    unfold ch_YM at hw
    refine ch_y_ma125 hsd hx ht hv (fun e => ?_) (fun e => ?_) (fun e => ?_) (fun e5 e6 e7 => ?_)
    · rw [if_pos e] at hw; exact hw
    · rw [if_neg (by omega), if_pos e] at hw; exact hw
    · rw [if_neg (by omega), if_neg (by omega), if_pos e] at hw; exact hw
    · rw [if_neg e5, if_neg e6, if_neg e7] at hw; exact hw
  refine ⟨vp_in_nI (by omega) (by omega), nm_e (pk_eq p 0 (fun e => ⟨vp_in_nI (by omega) (by omega), fin _ ?_⟩) (fun e => ?_))⟩
  · rw [ch_u_f (by omega), if_pos e]
  · rw [show (8 : Int32) * nI sd + nI p = nI (8 * sd + p) from ch_nI_8c sd p]
    exact fin _ (by rw [if_neg e])
theorem ch_y_makeAfter {post : SY → Prop} {B : Nat → Nat} {sd rt ep s t p x : Nat} (hB : ch_BY a_men 0 B) (hV : ch_VB B) (hE : ch_EG B sd ep) (hs : s < 64) (ht : t < 64) (hp : p < 8) (hsd : sd < 2) (hep : ep ≤ 64) (hT : ch_TP B sd rt ep s t p x) (h : ∀ m, ch_EQ6 m a_men → ch_BY m 64 (ch_AF B sd s t p x) → post (nI sd, nI rt, ch_epI ep, f_clock, f_number, f_lineLen, f_outLen, f_clockTop, f_numberTop, f_strict, f_textLen, f_newSide, f_newRights, f_newEp, f_newClock, f_newNumber, m, a_line, a_out, a_text, a_cut)) : wpY_makeAfter post (nI sd, nI rt, ch_epI ep, f_clock, f_number, f_lineLen, f_outLen, f_clockTop, f_numberTop, f_strict, f_textLen, f_newSide, f_newRights, f_newEp, f_newClock, f_newNumber, a_men, a_line, a_out, a_text, a_cut) (nI (512 * s + 8 * t + p)) (nI x) := by
  have r := ch_TP_r hT
  have f := ch_TP_F hE hs ht hsd hT
  have hv : x = 5 → (sd = 0 ∧ 8 ≤ t) ∨ (sd = 1 ∧ t + 8 < 64) := by
    intro e
    have z := f.2.2.2.2.1 e
    have := hE (by omega)
    omega
  refine ⟨65, ?_⟩
  refine ch_fn (σ := Nat → Int32) (fun n m z => wY_makeAfter_2 post (nI (512 * s + 8 * t + p)) (nI x) (nI sd) (nI rt) (ch_epI ep) f_clock f_number f_lineLen f_outLen f_clockTop f_numberTop f_strict f_textLen f_newSide f_newRights f_newEp f_newClock f_newNumber n z m a_line a_out a_text a_cut) (fun i m => ch_EQ6 m a_men ∧ ∀ j, j < i → m (64 + j) = nI (B j)) 64 ?_ ?_ 64 0 a_men rfl ⟨ch_EQ6_r, fun j hj => by omega⟩
  · rintro n m ⟨m1, m2⟩
    have h80 : wY_makeAfter_80 post (nI x) (nI s) (nI t) (nI p) (ch_zI (8 * ch_fw sd)) (nI (ch_hm sd)) (nI sd) (nI rt) (ch_epI ep) f_clock f_number f_lineLen f_outLen f_clockTop f_numberTop f_strict f_textLen f_newSide f_newRights f_newEp f_newClock f_newNumber m a_line a_out a_text a_cut := by
      refine ch_y_ma80 hsd (by omega) hs ht hp hv (fun w ew => ?_)
      have e : (p = 0 ∧ w = nI (B s)) ∨ (p ≠ 0 ∧ w = nI (8 * sd + p)) := by
        by_cases e : p = 0
        · rw [if_pos e, m1 s (by omega)] at ew
          exact Or.inl ⟨e, by rw [ew]; have := hB s hs; rw [Nat.zero_add] at this; exact this⟩
        · rw [if_neg e] at ew
          exact Or.inr ⟨e, ew⟩
      have k := ch_YM_ok e hB hE hsd hs ht hT m1 m2
      exact h _ k.1 k.2
    refine br_t (by decide) ?_
    refine nm_r (e' := nI s) (by rw [ch_nI_r9 (by omega), ch_nI_a63 (by omega)]; congr 1; omega) (nm_r (e' := nI t) (by rw [ch_nI_r3 (by omega), ch_nI_a63 (by omega)]; congr 1; omega) (nm_r (e' := nI p) (by rw [ch_nI_a7 (by omega)]; congr 1; omega) ?_))
    refine pk_eq sd 0 (fun e => ?_) (fun e => ?_)
    · subst e
      exact br_t rfl h80
    · obtain rfl : sd = 1 := by omega
      exact br_f (by decide) h80
  · rintro n i m hi ⟨m1, m2⟩ ih
    refine pk_le 64 i (fun e => by omega) (fun _ => ⟨vp_in_nI (by omega) (by omega), ?_⟩)
    rw [ch_i64, nI_clamp (n := 64 + i) (by omega), nI_clamp (n := i) (by omega)]
    refine ⟨vp_in_nI (by omega) (by omega), nm_e (nm_r (nI_1 i) (ih _ ⟨ch_EQ6_u m1 (by omega) (by omega), fun j hj => ?_⟩))⟩
    by_cases e : j = i
    · rw [ch_u_t (by omega), e, m1 i (by omega)]; have := hB i hi; rw [Nat.zero_add] at this; exact this
    · rw [ch_u_f (by omega)]; exact m2 j (by omega)
theorem ch_y_findKing {post : Int32 → Prop} {B : Nat → Nat} {c kq bs : Nat} (hB : ch_BY a_men bs B) (hbs : bs ≤ 192) (hV : ch_VB B) (hc : c < 2) (hK : ch_K1 B c kq) (h : post (nI kq)) : wpY_findKing post (f_side, f_rights, f_ep, f_clock, f_number, f_lineLen, f_outLen, f_clockTop, f_numberTop, f_strict, f_textLen, f_newSide, f_newRights, f_newEp, f_newClock, f_newNumber, a_men, a_line, a_out, a_text, a_cut) (nI bs) (nI c) := by
  refine ⟨65, ?_⟩
  refine ch_fn (σ := Unit) (fun n _ z => wY_findKing_2 post (nI bs) (nI c) f_side f_rights f_ep f_clock f_number f_lineLen f_outLen f_clockTop f_numberTop f_strict f_textLen f_newSide f_newRights f_newEp f_newClock f_newNumber a_men a_line a_out a_text a_cut n z) (fun i _ => i ≤ kq) 64 ?_ ?_ 64 0 () rfl (by omega)
  · intro n _ hn
    have := hK.1; omega
  · intro n i _ hi hn ih
    have hv := ch_VB_lt hV hi
    refine pk_le 64 i (fun e => by omega) (fun _ => ⟨ch_by_in hi hbs, pk_eq (B i) (8 * c + 6) (fun e => ?_) (fun e => nm_r (nI_1 i) (ih () ?_)) (ch_by_ hB hi (by omega)) (by exact ch_nI_8c c 6)⟩)
    · rw [hK.2.2 i hi e]; exact h
    · have := hK.2.1
      by_cases e2 : i = kq
      · subst e2; exact absurd this e
      · omega
theorem ch_y_isLegal {post : Int32 → SY → Prop} {B : Nat → Nat} {sd rt ep s t p : Nat} (hB : ch_BY a_men 0 B) (hP : ch_POS B sd rt ep) (hs : s < 64) (ht : t < 64) (hp : p < 8) (h1 : ch_LG B sd rt ep s t p → ∀ m, ch_EQ6 m a_men → post 1 (nI sd, nI rt, ch_epI ep, f_clock, f_number, f_lineLen, f_outLen, f_clockTop, f_numberTop, f_strict, f_textLen, f_newSide, f_newRights, f_newEp, f_newClock, f_newNumber, m, a_line, a_out, a_text, a_cut)) (h0 : ¬ ch_LG B sd rt ep s t p → ∀ m, ch_EQ6 m a_men → post 0 (nI sd, nI rt, ch_epI ep, f_clock, f_number, f_lineLen, f_outLen, f_clockTop, f_numberTop, f_strict, f_textLen, f_newSide, f_newRights, f_newEp, f_newClock, f_newNumber, m, a_line, a_out, a_text, a_cut)) : wpY_isLegal post (nI sd, nI rt, ch_epI ep, f_clock, f_number, f_lineLen, f_outLen, f_clockTop, f_numberTop, f_strict, f_textLen, f_newSide, f_newRights, f_newEp, f_newClock, f_newNumber, a_men, a_line, a_out, a_text, a_cut) (nI (512 * s + 8 * t + p)) := by
  have hP' := hP
  obtain ⟨hV, hsd, hrt, hep, _, _, hpw, hR, hE, hA, hcn⟩ := hP
  unfold wpY_isLegal
  refine ch_y_moveType hB hV hs ht hp hsd hrt hep (fun x hT => br_f (nI_ne0 (by have := ch_TP_r hT; omega) (by have := ch_TP_r hT; omega)) ?_) (fun hn => br_t rfl (h0 (fun w => ?_) _ ch_EQ6_r))
  · refine ch_y_makeAfter hB hV hE hs ht hp hsd hep hT (fun m m1 m2 => ?_)
    obtain ⟨kq, hK⟩ := ch_POS_K hP' hsd
    have hAK := ch_AF_K hE hR hsd hs ht hK hT
    have hAV := ch_AF_V hV hs hsd hT
    have e1 : (1 : Int32) - nI sd = nI (1 - sd) := ch_side_f sd hsd
    refine ch_y_findKing (bs := 64) m2 (by omega) hAV hsd hAK ?_
    rw [e1]
    refine ch_y_attackedOn (bs := 64) m2 (by omega) hAV hAK.1 (by omega) (fun a => br_f (by decide) (h0 ?_ m m1)) (fun a => br_t rfl (h1 ⟨x, hT, fun q hq => ?_⟩ m m1))
    · rintro ⟨y, hT', w⟩
      obtain rfl := ch_TP_u hE hs ht hsd hT' hT
      exact w _ hAK a
    · rw [ch_K1_u hq hAK]; exact a
  · obtain ⟨x, hT, _⟩ := w
    exact hn x hT
/-- legal codes -/
def ch_LC (B : Nat → Nat) (sd rt ep c : Nat) : Prop := ch_LG B sd rt ep (c / 512) (c / 8 % 64) (c % 8)
theorem ch_y_isLegalc {post : Int32 → SY → Prop} {B : Nat → Nat} {sd rt ep c : Nat} (hB : ch_BY a_men 0 B) (hP : ch_POS B sd rt ep) (hc : c < 32768) (h1 : ch_LC B sd rt ep c → ∀ m, ch_EQ6 m a_men → post 1 (nI sd, nI rt, ch_epI ep, f_clock, f_number, f_lineLen, f_outLen, f_clockTop, f_numberTop, f_strict, f_textLen, f_newSide, f_newRights, f_newEp, f_newClock, f_newNumber, m, a_line, a_out, a_text, a_cut)) (h0 : ¬ ch_LC B sd rt ep c → ∀ m, ch_EQ6 m a_men → post 0 (nI sd, nI rt, ch_epI ep, f_clock, f_number, f_lineLen, f_outLen, f_clockTop, f_numberTop, f_strict, f_textLen, f_newSide, f_newRights, f_newEp, f_newClock, f_newNumber, m, a_line, a_out, a_text, a_cut)) : wpY_isLegal post (nI sd, nI rt, ch_epI ep, f_clock, f_number, f_lineLen, f_outLen, f_clockTop, f_numberTop, f_strict, f_textLen, f_newSide, f_newRights, f_newEp, f_newClock, f_newNumber, a_men, a_line, a_out, a_text, a_cut) (nI c) := by
  have h : wpY_isLegal post (nI sd, nI rt, ch_epI ep, f_clock, f_number, f_lineLen, f_outLen, f_clockTop, f_numberTop, f_strict, f_textLen, f_newSide, f_newRights, f_newEp, f_newClock, f_newNumber, a_men, a_line, a_out, a_text, a_cut) (nI (512 * (c / 512) + 8 * (c / 8 % 64) + c % 8)) := ch_y_isLegal hB hP (by omega) (by omega) (by omega) h1 h0
  rw [show 512 * (c / 512) + 8 * (c / 8 % 64) + c % 8 = c from by omega] at h
  exact h
theorem ch_y_isLegal_x {post : Int32 → SY → Prop} {c : Int32} (hc : c < 0 ∨ 32767 < c) (h : post 0 (f_side, f_rights, f_ep, f_clock, f_number, f_lineLen, f_outLen, f_clockTop, f_numberTop, f_strict, f_textLen, f_newSide, f_newRights, f_newEp, f_newClock, f_newNumber, a_men, a_line, a_out, a_text, a_cut)) : wpY_isLegal post (f_side, f_rights, f_ep, f_clock, f_number, f_lineLen, f_outLen, f_clockTop, f_numberTop, f_strict, f_textLen, f_newSide, f_newRights, f_newEp, f_newClock, f_newNumber, a_men, a_line, a_out, a_text, a_cut) c := by
  rcases hc with hc | hc
  · exact br_t hc (br_t rfl h)
  · by_cases z : c < 0
    · exact br_t z (br_t rfl h)
    · exact br_f z (br_f (Int32.not_le.mpr hc) (br_t rfl h))
theorem ch_y_isCapture {post : Int32 → Prop} {B : Nat → Nat} {sd rt ep s t p x : Nat} (hB : ch_BY a_men 0 B) (hV : ch_VB B) (hE : ch_EG B sd ep) (hs : s < 64) (ht : t < 64) (hp : p < 8) (hsd : sd < 2) (hrt : rt < 16) (hep : ep ≤ 64) (hT : ch_TP B sd rt ep s t p x) (h1 : (x = 5 ∨ B t ≠ 0) → post 1) (h0 : ¬ (x = 5 ∨ B t ≠ 0) → post 0) : wpY_isCapture post (nI sd, nI rt, ch_epI ep, f_clock, f_number, f_lineLen, f_outLen, f_clockTop, f_numberTop, f_strict, f_textLen, f_newSide, f_newRights, f_newEp, f_newClock, f_newNumber, a_men, a_line, a_out, a_text, a_cut) (nI (512 * s + 8 * t + p)) := by
  have f := ch_TP_F hE hs ht hsd hT
  have hvt := ch_VB_lt hV ht
  refine nm_r (e' := nI t) (by rw [ch_nI_r3 (by omega), ch_nI_a63 (by omega)]; congr 1; omega) (ch_y_moveType hB hV hs ht hp hsd hrt hep (fun y hT' => ?_) (fun w => absurd hT (w x)))
  have r := ch_TP_r hT'
  obtain rfl := ch_TP_u hE hs ht hsd hT' hT
  rw [ch_by0 hB ht, ch_nI_r3 (by omega)]
  refine pk_eq y 5 (fun e => h1 (Or.inl e)) (fun e => ⟨vp_in_nI (by omega) (by omega), pk_eq (B t) 0 (fun e2 => h0 (by omega)) (fun e2 => ⟨vp_in_nI (by omega) (by omega), pk_eq (B t / 8) sd (fun e3 => by omega) (fun e3 => h1 (Or.inr e2))⟩)⟩)
end
end
section
/-! counting the legal codes: never more than 512 -/
theorem ch_cn_s (P : Nat → Prop) (N : Nat) : ch_cn P (N + 1) = ch_cn P N + ch_b01 (P N) := rfl
theorem ch_cn_split (P : Nat → Prop) (a : Nat) : ∀ n, ch_cn P (a + n) = ch_cn P a + ch_cn (fun i => P (a + i)) n
  | 0 => rfl
  | n + 1 => by
    have := ch_cn_split P a n
    show ch_cn P (a + n) + ch_b01 (P (a + n)) = ch_cn P a + (ch_cn (fun i => P (a + i)) n + ch_b01 (P (a + n)))
    omega
theorem ch_cn_none {P : Nat → Prop} : ∀ {n : Nat}, (∀ i, i < n → ¬ P i) → ch_cn P n = 0
  | 0, _ => rfl
  | n + 1, h => by
    rw [ch_cn_s, ch_cn_none (fun i hi => h i (by omega)), ch_b01_f (h n (by omega))]
theorem ch_cn_skip {P : Nat → Prop} {a n : Nat} (h : ∀ i, i < n → ¬ P (a + i)) : ch_cn P (a + n) = ch_cn P a := by
  rw [ch_cn_split, ch_cn_none h]; rfl
theorem ch_cn_le2 {P : Nat → Prop} {a b : Nat} (h : a ≤ b) : ch_cn P a ≤ ch_cn P b := by
  obtain ⟨d, rfl⟩ : ∃ d, b = a + d := ⟨b - a, by omega⟩
  rw [ch_cn_split]; omega
theorem ch_cn_lt2 {P : Nat → Prop} {a b : Nat} (h : a < b) (hp : P a) : ch_cn P a < ch_cn P b := by
  have h1 : ch_cn P (a + 1) ≤ ch_cn P b := ch_cn_le2 h
  rw [ch_cn_s, ch_b01_t hp] at h1
  omega
theorem ch_cn_inj {P : Nat → Prop} {a b : Nat} (ha : P a) (hb : P b) (h : ch_cn P a = ch_cn P b) : a = b := by
  rcases Nat.lt_trichotomy a b with z | z | z
  · have := ch_cn_lt2 z ha; omega
  · exact z
  · have := ch_cn_lt2 z hb; omega
theorem ch_cn_sur {P : Nat → Prop} : ∀ {N i : Nat}, i < ch_cn P N → ∃ c, c < N ∧ P c ∧ ch_cn P c = i
  | 0, i, h => by simp only [ch_cn] at h; omega
  | N + 1, i, h => by
    rw [ch_cn_s] at h
    by_cases e : i < ch_cn P N
    · obtain ⟨c, hc, hp, he⟩ := ch_cn_sur e
      exact ⟨c, by omega, hp, he⟩
    · by_cases hp : P N
      · rw [ch_b01_t hp] at h
        exact ⟨N, by omega, hp, by omega⟩
      · rw [ch_b01_f hp] at h; omega
def ch_cb (f : Nat → Bool) : Nat → Nat
  | 0 => 0
  | n + 1 => ch_cb f n + (f n).toNat
theorem ch_cn_cb {P : Nat → Prop} {f : Nat → Bool} : ∀ {n : Nat}, (∀ i, i < n → P i → f i = true) → ch_cn P n ≤ ch_cb f n
  | 0, _ => Nat.le_refl _
  | n + 1, h => by
    have a := ch_cn_cb (P := P) (f := f) (n := n) (fun i hi => h i (by omega))
    show ch_cn P n + ch_b01 (P n) ≤ ch_cb f n + (f n).toNat
    by_cases hp : P n
    · rw [ch_b01_t hp, h n (by omega) hp]; show ch_cn P n + 1 ≤ ch_cb f n + 1; omega
    · rw [ch_b01_f hp]; omega
def ch_gA (s t : Nat) : Bool := s % 8 == t % 8 || s / 8 == t / 8 || s % 8 + s / 8 == t % 8 + t / 8 || s % 8 + t / 8 == t % 8 + s / 8
def ch_gN (s t : Nat) : Bool := (s % 8 + 1 == t % 8 || t % 8 + 1 == s % 8 || s % 8 + 2 == t % 8 || t % 8 + 2 == s % 8) && (s / 8 + 1 == t / 8 || t / 8 + 1 == s / 8 || s / 8 + 2 == t / 8 || t / 8 + 2 == s / 8)
def ch_gW (s t : Nat) : Bool := t == s + 8 || t == s + 16 || t == s + 7 || t == s + 9
def ch_gB (s t : Nat) : Bool := t + 8 == s || t + 16 == s || t + 7 == s || t + 9 == s
theorem ch_cA : ∀ s, s < 64 → ch_cb (fun i => i % 8 == 0 && ch_gA s (i / 8)) 512 ≤ 32 := by decide +kernel
theorem ch_cN : ∀ s, s < 64 → ch_cb (fun i => i % 8 == 0 && ch_gN s (i / 8)) 512 ≤ 32 := by decide +kernel
theorem ch_cW : ∀ s, s < 64 → ch_cb (fun i => ch_gW s (i / 8)) 512 ≤ 32 := by decide +kernel
theorem ch_cB : ∀ s, s < 64 → ch_cb (fun i => ch_gB s (i / 8)) 512 ≤ 32 := by decide +kernel
theorem ch_gA_i {s t : Nat} (h : s % 8 = t % 8 ∨ s / 8 = t / 8 ∨ s % 8 + s / 8 = t % 8 + t / 8 ∨ s % 8 + t / 8 = t % 8 + s / 8) : ch_gA s t = true := by
  unfold ch_gA
  simp only [Bool.or_eq_true, beq_iff_eq]
  omega
theorem ch_gN_i {s t : Nat} (h : (s % 8 + 1 = t % 8 ∨ t % 8 + 1 = s % 8 ∨ s % 8 + 2 = t % 8 ∨ t % 8 + 2 = s % 8) ∧ (s / 8 + 1 = t / 8 ∨ t / 8 + 1 = s / 8 ∨ s / 8 + 2 = t / 8 ∨ t / 8 + 2 = s / 8)) : ch_gN s t = true := by
  unfold ch_gN
  simp only [Bool.or_eq_true, Bool.and_eq_true, beq_iff_eq]
  omega
theorem ch_gW_i {s t : Nat} (h : t = s + 8 ∨ t = s + 16 ∨ t = s + 7 ∨ t = s + 9) : ch_gW s t = true := by
  unfold ch_gW
  simp only [Bool.or_eq_true, beq_iff_eq]
  omega
theorem ch_gB_i {s t : Nat} (h : t + 8 = s ∨ t + 16 = s ∨ t + 7 = s ∨ t + 9 = s) : ch_gB s t = true := by
  unfold ch_gB
  simp only [Bool.or_eq_true, beq_iff_eq]
  omega
theorem ch_LN_g {B : Nat → Nat} {s t k : Nat} {a b : Int} (hd : ch_dr a b) (h : ch_LN B s t a b k) : s % 8 = t % 8 ∨ s / 8 = t / 8 ∨ s % 8 + s / 8 = t % 8 + t / 8 ∨ s % 8 + t / 8 = t % 8 + s / 8 := by
  have hd' := ch_dr_c hd
  have h3 := h.2.2.1
  unfold ch_SQ at h3
  rcases hd' with ⟨rfl | rfl | rfl, rfl | rfl | rfl⟩ <;> omega
/-- a man has at most 32 codes -/
theorem ch_TP_32 {B : Nat → Nat} {sd rt ep s : Nat} (hsd : sd < 2) (hs : s < 64) : ch_cn (fun i => ∃ x, ch_TP B sd rt ep s (i / 8) (i % 8) x) 512 ≤ 32 := by
  have hh := ch_hm_c hsd
  have hf : (sd = 0 ∧ ch_fw sd = 1) ∨ (sd = 1 ∧ ch_fw sd = -1) := by unfold ch_fw; split <;> omega
  by_cases k1 : B s % 8 = 1
  · have pw : ∀ t p x, ch_TP B sd rt ep s t p x → (sd = 0 ∧ (t = s + 8 ∨ t = s + 16 ∨ t = s + 7 ∨ t = s + 9)) ∨ (sd = 1 ∧ (t + 8 = s ∨ t + 16 = s ∨ t + 7 = s ∨ t + 9 = s)) := by
      rintro t p x ⟨_, h | ⟨_, _, _, h, _⟩ | ⟨_, _, _, _, h, _⟩ | ⟨_, _, _, h, _⟩ | ⟨_, _, _, h, _⟩ | h | h⟩
      · exact absurd k1 h.2.1
      · unfold ch_SQ at h; omega
      · unfold ch_SQ at h; omega
      · unfold ch_PC ch_SQ at h; omega
      · unfold ch_PC ch_SQ at h; omega
      · have := h.2.1; omega
      · have := h.2.1; omega
    by_cases e : sd = 0
    · refine Nat.le_trans (ch_cn_cb (f := fun i => ch_gW s (i / 8)) ?_) (ch_cW s hs)
      rintro i hi ⟨x, h⟩
      have := pw _ _ _ h
      exact ch_gW_i (by omega)
    · refine Nat.le_trans (ch_cn_cb (f := fun i => ch_gB s (i / 8)) ?_) (ch_cB s hs)
      rintro i hi ⟨x, h⟩
      have := pw _ _ _ h
      exact ch_gB_i (by omega)
  · by_cases k2 : B s % 8 = 2
    · refine Nat.le_trans (ch_cn_cb (f := fun i => i % 8 == 0 && ch_gN s (i / 8)) ?_) (ch_cN s hs)
      rintro i hi ⟨x, _, h | h | h | h | h | h | h⟩
      · obtain ⟨_, _, h0, ch_hm, _⟩ := h
        simp only [Bool.and_eq_true, beq_iff_eq]
        refine ⟨h0, ch_gN_i ?_⟩
        rcases ch_hm with ⟨z, _⟩ | ⟨_, a, b, hk, hq⟩ | ⟨z, _⟩ | ⟨_, _, _, _, _, z⟩
        · omega
        · unfold ch_SQ at hq; unfold ch_kn at hk; omega
        · omega
        · omega
      · have := h.2.1; omega
      · have := h.2.1; omega
      · have := h.2.1; omega
      · have := h.2.1; omega
      · have := h.2.1; omega
      · have := h.2.1; omega
    · refine Nat.le_trans (ch_cn_cb (f := fun i => i % 8 == 0 && ch_gA s (i / 8)) ?_) (ch_cA s hs)
      rintro i hi ⟨x, _, h | h | h | h | h | h | h⟩
      · obtain ⟨_, _, h0, ch_hm, _⟩ := h
        simp only [Bool.and_eq_true, beq_iff_eq]
        refine ⟨h0, ch_gA_i ?_⟩
        rcases ch_hm with ⟨z, _⟩ | ⟨z, _⟩ | ⟨_, a, b, hd, hq⟩ | ⟨a, b, k, hd, hl, _⟩
        · omega
        · omega
        · unfold ch_SQ at hq; unfold ch_dr at hd; omega
        · exact ch_LN_g hd hl
      · exact absurd h.2.1 k1
      · exact absurd h.2.1 k1
      · exact absurd h.2.1 k1
      · exact absurd h.2.1 k1
      · obtain ⟨_, _, h0, h1, h2, _⟩ := h
        simp only [Bool.and_eq_true, beq_iff_eq]
        exact ⟨h0, ch_gA_i (by omega)⟩
      · obtain ⟨_, _, h0, h1, h2, _⟩ := h
        simp only [Bool.and_eq_true, beq_iff_eq]
        exact ⟨h0, ch_gA_i (by omega)⟩
theorem ch_LC_512 {B : Nat → Nat} {sd rt ep : Nat} (hP : ch_POS B sd rt ep) : ch_cn (ch_LC B sd rt ep) 32768 ≤ 512 := by
  obtain ⟨hV, hsd, hrt, hep, _, _, hpw, hR, hE, hA, hcn⟩ := hP
  have key : ∀ s, s ≤ 64 → ch_cn (ch_LC B sd rt ep) (512 * s) ≤ 32 * ch_cn (fun i => ch_ow B sd i) s := by
    intro s
    induction s with
    | zero => intro _; exact Nat.le_refl _
    | succ s ih =>
      intro hs
      have h1 := ih (by omega)
      have h2 := ch_cn_split (ch_LC B sd rt ep) (512 * s) 512
      have e : ∀ i, i < 512 → (ch_LC B sd rt ep (512 * s + i) → ∃ x, ch_TP B sd rt ep s (i / 8) (i % 8) x) := by
        intro i hi w
        unfold ch_LC at w
        rw [show (512 * s + i) / 512 = s from by omega, show (512 * s + i) / 8 % 64 = i / 8 from by omega, show (512 * s + i) % 8 = i % 8 from by omega] at w
        obtain ⟨x, hT, _⟩ := w
        exact ⟨x, hT⟩
      have h4 : ch_cn (fun i => ch_ow B sd i) (s + 1) = ch_cn (fun i => ch_ow B sd i) s + ch_b01 (ch_ow B sd s) := rfl
      rw [show 512 * (s + 1) = 512 * s + 512 from by omega, h2, h4]
      by_cases o : ch_ow B sd s
      · rw [ch_b01_t o]
        have h3 : ch_cn (fun i => ch_LC B sd rt ep (512 * s + i)) 512 ≤ 32 := Nat.le_trans (ch_cn_mono e) (ch_TP_32 hsd (by omega))
        omega
      · have h5 : ch_cn (fun i => ch_LC B sd rt ep (512 * s + i)) 512 = 0 := ch_cn_none (fun i hi w => by
          obtain ⟨x, hT⟩ := e i hi w
          exact o hT.1)
        rw [ch_b01_f o, h5]
        omega
  have h1 := key 64 (by omega)
  have h2 := hcn sd hsd
  have h3 : ch_cn (ch_LC B sd rt ep) 32768 = ch_cn (ch_LC B sd rt ep) (512 * 64) := rfl
  omega
end
section
/-! the component's list of legal moves -/
def ch_CM (B : Nat → Nat) (sd rt ep : Nat) (mv : Nat → Int32) (c : Nat) : Prop := ∀ d, d < c → ch_LC B sd rt ep d → mv (ch_cn (ch_LC B sd rt ep) d) = nI d
theorem ch_CM_put {B : Nat → Nat} {sd rt ep c : Nat} {mv : Nat → Int32} (h : ch_CM B sd rt ep mv c) : ch_CM B sd rt ep (upd mv (ch_cn (ch_LC B sd rt ep) c) (nI c)) (c + 1) := by
  intro d hd hl
  by_cases e : d = c
  · subst e; exact ch_u_t rfl
  · have := ch_cn_lt2 (show d < c by omega) hl
    rw [ch_u_f (by omega)]
    exact h d (by omega) hl
theorem ch_CM_skip {B : Nat → Nat} {sd rt ep c n : Nat} {mv : Nat → Int32} (h : ch_CM B sd rt ep mv c) (hn : ∀ i, i < n → ¬ ch_LC B sd rt ep (c + i)) : ch_CM B sd rt ep mv (c + n) := by
  intro d hd hl
  by_cases e : d < c
  · exact h d e hl
  · exact absurd (show ch_LC B sd rt ep (c + (d - c)) by rw [show c + (d - c) = d from by omega]; exact hl) (hn (d - c) (by omega))
theorem ch_LC_LX {B : Nat → Nat} {sd rt ep s t p kq : Nat} (hP : ch_POS B sd rt ep) (hK : ch_K1 B sd kq) (hs : s < 64) (ht : t < 64) (hp : p < 8) : ch_LC B sd rt ep (512 * s + 8 * t + p) ↔ (ch_LX B sd rt ep kq s t ∧ ch_PRM B sd s t p) := by
  unfold ch_LC
  rw [show (512 * s + 8 * t + p) / 512 = s from by omega, show (512 * s + 8 * t + p) / 8 % 64 = t from by omega, show (512 * s + 8 * t + p) % 8 = p from by omega]
  exact ch_LG_LX hP hK hs ht
section
variable {f_clockTop f_numberTop f_strict f_side f_rights f_passant f_clock f_number f_lineLen f_outLen f_moveTotal f_movesKnown f_savedSide f_savedRights f_savedPassant f_savedClock f_savedNumber f_spellLen f_at f_end f_writtenMark f_writtenCastling f_writtenPromotion f_writtenTarget f_writtenCapture f_writtenRank f_writtenFile f_writtenKind : Int32} {a_board a_line a_out a_moves a_savedBoard a_spell : Nat → Int32}
theorem ch_x_listMove {post : SX → Prop} {n : Nat} {w : Int32} (hn : n < 512) (h : post (f_clockTop, f_numberTop, f_strict, f_side, f_rights, f_passant, f_clock, f_number, f_lineLen, f_outLen, nI (n + 1), f_movesKnown, f_savedSide, f_savedRights, f_savedPassant, f_savedClock, f_savedNumber, f_spellLen, f_at, f_end, f_writtenMark, f_writtenCastling, f_writtenPromotion, f_writtenTarget, f_writtenCapture, f_writtenRank, f_writtenFile, f_writtenKind, a_board, a_line, a_out, upd a_moves n w, a_savedBoard, a_spell)) : wpX_listMove post (f_clockTop, f_numberTop, f_strict, f_side, f_rights, f_passant, f_clock, f_number, f_lineLen, f_outLen, nI n, f_movesKnown, f_savedSide, f_savedRights, f_savedPassant, f_savedClock, f_savedNumber, f_spellLen, f_at, f_end, f_writtenMark, f_writtenCastling, f_writtenPromotion, f_writtenTarget, f_writtenCapture, f_writtenRank, f_writtenFile, f_writtenKind, a_board, a_line, a_out, a_moves, a_savedBoard, a_spell) w := by
  refine pk_le 512 n (fun e => by omega) (fun _ => ?_)
  rw [nI_clamp (by omega)]
  exact ⟨vp_in_nI hn (by omega), nm_e (nm_r (nI_1 n) h)⟩
theorem ch_x_list86 {post : SX → Prop} {B : Nat → Nat} {sd rt ep c : Nat} {mv : Nat → Int32} {x1 x4 x5 : Int32} {x2 : Int64} {t k : Nat} (hP : ch_POS B sd rt ep) (hc : c + 8 ≤ 32768) (hl : ∀ p, p < 8 → (ch_LC B sd rt ep (c + p) ↔ (2 ≤ p ∧ p ≤ 5))) (ch_hm : ch_CM B sd rt ep mv c) (h : ∀ mv', ch_CM B sd rt ep mv' (c + 8) → wX_listMoves_38 post x1 x2 x4 x5 k (nI (t + 1)) f_clockTop f_numberTop f_strict (nI sd) (nI rt) (ch_epI ep) f_clock f_number f_lineLen f_outLen (nI (ch_cn (ch_LC B sd rt ep) (c + 8))) f_movesKnown f_savedSide f_savedRights f_savedPassant f_savedClock f_savedNumber f_spellLen f_at f_end f_writtenMark f_writtenCastling f_writtenPromotion f_writtenTarget f_writtenCapture f_writtenRank f_writtenFile f_writtenKind a_board a_line a_out mv' a_savedBoard a_spell) : ∃ n, wX_listMoves_86 post (wX_listMoves_38 post x1 x2 x4 x5 k) x1 x2 x4 x5 (nI t) (nI c) n 2 f_clockTop f_numberTop f_strict (nI sd) (nI rt) (ch_epI ep) f_clock f_number f_lineLen f_outLen (nI (ch_cn (ch_LC B sd rt ep) c)) f_movesKnown f_savedSide f_savedRights f_savedPassant f_savedClock f_savedNumber f_spellLen f_at f_end f_writtenMark f_writtenCastling f_writtenPromotion f_writtenTarget f_writtenCapture f_writtenRank f_writtenFile f_writtenKind a_board a_line a_out mv a_savedBoard a_spell := by
  refine ⟨5, ?_⟩
  have h512 := ch_LC_512 hP
  have e2 : ch_cn (ch_LC B sd rt ep) (c + 2) = ch_cn (ch_LC B sd rt ep) c := ch_cn_skip (fun i hi w => by have := (hl i (by omega)).mp w; omega)
  have n6 : ∀ i, i < 2 → ¬ ch_LC B sd rt ep (c + 6 + i) := fun i hi w => by
    have := (hl (6 + i) (by omega)).mp (by rw [show c + (6 + i) = c + 6 + i from by omega]; exact w)
    omega
  have e8 : ch_cn (ch_LC B sd rt ep) (c + 8) = ch_cn (ch_LC B sd rt ep) (c + 6) := ch_cn_skip (a := c + 6) (n := 2) n6
  have m2 : ch_CM B sd rt ep mv (c + 2) := ch_CM_skip ch_hm (fun i hi w => by have := (hl i (by omega)).mp w; omega)
  refine ch_fn (σ := (Nat → Int32) × Nat) (fun n s z => wX_listMoves_86 post (wX_listMoves_38 post x1 x2 x4 x5 k) x1 x2 x4 x5 (nI t) (nI c) n z f_clockTop f_numberTop f_strict (nI sd) (nI rt) (ch_epI ep) f_clock f_number f_lineLen f_outLen (nI s.2) f_movesKnown f_savedSide f_savedRights f_savedPassant f_savedClock f_savedNumber f_spellLen f_at f_end f_writtenMark f_writtenCastling f_writtenPromotion f_writtenTarget f_writtenCapture f_writtenRank f_writtenFile f_writtenKind a_board a_line a_out s.1 a_savedBoard a_spell) (fun i s => 2 ≤ i ∧ s.2 = ch_cn (ch_LC B sd rt ep) (c + i) ∧ ch_CM B sd rt ep s.1 (c + i)) 6 ?_ ?_ 4 2 (mv, ch_cn (ch_LC B sd rt ep) c) rfl ⟨by omega, e2.symm, m2⟩
  · rintro n ⟨mv', tot⟩ ⟨_, et, hm'⟩
    dsimp only at et hm' ⊢
    subst et
    rw [← e8]
    exact br_t (by decide) (nm_r (nI_1 t) (h mv' (ch_CM_skip (c := c + 6) (n := 2) hm' n6)))
  · rintro n i ⟨mv', tot⟩ hi ⟨hi2, et, hm'⟩ ih
    dsimp only at et hm' ⊢
    subst et
    have hL : ch_LC B sd rt ep (c + i) := (hl i (by omega)).mpr (by omega)
    have hlt : ch_cn (ch_LC B sd rt ep) (c + i) < ch_cn (ch_LC B sd rt ep) 32768 := ch_cn_lt2 (by omega) hL
    refine pk_lt 5 i (fun e => by omega) (fun _ => ch_x_listMove (by omega) (nm_r (nI_1 i) ?_))
    rw [nI_add c i]
    exact ih (upd mv' (ch_cn (ch_LC B sd rt ep) (c + i)) (nI (c + i)), ch_cn (ch_LC B sd rt ep) (c + i) + 1) ⟨by omega, by rw [show c + (i + 1) = c + i + 1 from by omega, ch_cn_s, ch_b01_t hL], ch_CM_put hm'⟩
theorem ch_x_list38 {post : SX → Prop} {B : Nat → Nat} {sd rt ep s kq pf : Nat} {mv : Nat → Int32} {L : Int64} (hP : ch_POS B sd rt ep) (hK : ch_K1 B sd kq) (hs : s < 64) (hL : ch_SB L (ch_LX B sd rt ep kq s)) (hpf : (pf = 1 ∧ B s % 8 = 1) ∨ (pf = 0 ∧ B s % 8 ≠ 1)) (ch_hm : ch_CM B sd rt ep mv (512 * s)) (h : ∀ mv', ch_CM B sd rt ep mv' (512 * (s + 1)) → post (f_clockTop, f_numberTop, f_strict, nI sd, nI rt, ch_epI ep, f_clock, f_number, f_lineLen, f_outLen, nI (ch_cn (ch_LC B sd rt ep) (512 * (s + 1))), f_movesKnown, f_savedSide, f_savedRights, f_savedPassant, f_savedClock, f_savedNumber, f_spellLen, f_at, f_end, f_writtenMark, f_writtenCastling, f_writtenPromotion, f_writtenTarget, f_writtenCapture, f_writtenRank, f_writtenFile, f_writtenKind, a_board, a_line, a_out, mv', a_savedBoard, a_spell)) : ∃ n, wX_listMoves_38 post (nI s) L (nI (ch_lr sd)) (nI pf) n 0 f_clockTop f_numberTop f_strict (nI sd) (nI rt) (ch_epI ep) f_clock f_number f_lineLen f_outLen (nI (ch_cn (ch_LC B sd rt ep) (512 * s))) f_movesKnown f_savedSide f_savedRights f_savedPassant f_savedClock f_savedNumber f_spellLen f_at f_end f_writtenMark f_writtenCastling f_writtenPromotion f_writtenTarget f_writtenCapture f_writtenRank f_writtenFile f_writtenKind a_board a_line a_out mv a_savedBoard a_spell := by
  refine ⟨65, ?_⟩
  have h512 := ch_LC_512 hP
  have hlr : ch_lr sd < 8 := by unfold ch_lr; split <;> omega
  refine ch_fn (σ := (Nat → Int32) × Nat) (fun n q z => wX_listMoves_38 post (nI s) L (nI (ch_lr sd)) (nI pf) n z f_clockTop f_numberTop f_strict (nI sd) (nI rt) (ch_epI ep) f_clock f_number f_lineLen f_outLen (nI q.2) f_movesKnown f_savedSide f_savedRights f_savedPassant f_savedClock f_savedNumber f_spellLen f_at f_end f_writtenMark f_writtenCastling f_writtenPromotion f_writtenTarget f_writtenCapture f_writtenRank f_writtenFile f_writtenKind a_board a_line a_out q.1 a_savedBoard a_spell) (fun i q => q.2 = ch_cn (ch_LC B sd rt ep) (512 * s + 8 * i) ∧ ch_CM B sd rt ep q.1 (512 * s + 8 * i)) 64 ?_ ?_ 64 0 (mv, ch_cn (ch_LC B sd rt ep) (512 * s)) rfl ⟨rfl, ch_hm⟩
  · rintro n ⟨mv', tot⟩ ⟨et, hm'⟩
    dsimp only at et hm' ⊢
    subst et
    rw [show 512 * s + 8 * 64 = 512 * (s + 1) from by omega] at hm' ⊢
    exact br_t (by decide) (h mv' hm')
  · rintro n i ⟨mv', tot⟩ hi ⟨et, hm'⟩ ih
    dsimp only at et hm' ⊢
    subst et
    have hl : ∀ p, p < 8 → (ch_LC B sd rt ep (512 * s + 8 * i + p) ↔ (ch_LX B sd rt ep kq s i ∧ ch_PRM B sd s i p)) := fun p hp => ch_LC_LX hP hK hs hi hp
    have ih' : ∀ mv2, ch_CM B sd rt ep mv2 (512 * s + 8 * i + 8) → wX_listMoves_38 post (nI s) L (nI (ch_lr sd)) (nI pf) n (nI (i + 1)) f_clockTop f_numberTop f_strict (nI sd) (nI rt) (ch_epI ep) f_clock f_number f_lineLen f_outLen (nI (ch_cn (ch_LC B sd rt ep) (512 * s + 8 * i + 8))) f_movesKnown f_savedSide f_savedRights f_savedPassant f_savedClock f_savedNumber f_spellLen f_at f_end f_writtenMark f_writtenCastling f_writtenPromotion f_writtenTarget f_writtenCapture f_writtenRank f_writtenFile f_writtenKind a_board a_line a_out mv2 a_savedBoard a_spell := fun mv2 h2 => ih (mv2, ch_cn (ch_LC B sd rt ep) (512 * s + 8 * i + 8)) ⟨rfl, h2⟩
    have ec : 512 * nI s + 8 * nI i = nI (512 * s + 8 * i) := by
      rw [ch_nI_m8, show (512 : Int32) * nI s = nI (512 * s) from pk_mul 512 s, nI_add]
    refine pk_le 64 i (fun e => by omega) (fun _ => br_c (fun c => ?_) (fun c => nm_r ec ?_))
    · have nl : ¬ ch_LX B sd rt ep kq s i := fun w => (ch_lb_and0 hi).mp c ((hL i hi).mpr w)
      have ns : ∀ p, p < 8 → ¬ ch_LC B sd rt ep (512 * s + 8 * i + p) := fun p hp w => nl ((hl p hp).mp w).1
      have := ih' mv' (ch_CM_skip hm' ns)
      rw [ch_cn_skip ns] at this
      exact nm_r (nI_1 i) this
    · have yl : ch_LX B sd rt ep kq s i := (hL i hi).mp (Classical.byContradiction (fun w => c ((ch_lb_and0 hi).mpr w)))
      have one : ¬ (B s % 8 = 1 ∧ i / 8 = ch_lr sd) → wX_listMoves_110 post (wX_listMoves_38 post (nI s) L (nI (ch_lr sd)) (nI pf) n) (nI s) L (nI (ch_lr sd)) (nI pf) (nI i) (nI (512 * s + 8 * i)) f_clockTop f_numberTop f_strict (nI sd) (nI rt) (ch_epI ep) f_clock f_number f_lineLen f_outLen (nI (ch_cn (ch_LC B sd rt ep) (512 * s + 8 * i))) f_movesKnown f_savedSide f_savedRights f_savedPassant f_savedClock f_savedNumber f_spellLen f_at f_end f_writtenMark f_writtenCastling f_writtenPromotion f_writtenTarget f_writtenCapture f_writtenRank f_writtenFile f_writtenKind a_board a_line a_out mv' a_savedBoard a_spell := by
        intro hnp
        have h0 : ch_LC B sd rt ep (512 * s + 8 * i) := (hl 0 (by omega)).mpr ⟨yl, Or.inr ⟨hnp, rfl⟩⟩
        have n1 : ∀ q, q < 7 → ¬ ch_LC B sd rt ep (512 * s + 8 * i + 1 + q) := fun q hq w => by
          have := (hl (1 + q) (by omega)).mp (by rw [show 512 * s + 8 * i + (1 + q) = 512 * s + 8 * i + 1 + q from by omega]; exact w)
          have := this.2
          unfold ch_PRM at this
          omega
        have hlt : ch_cn (ch_LC B sd rt ep) (512 * s + 8 * i) < ch_cn (ch_LC B sd rt ep) 32768 := ch_cn_lt2 (by omega) h0
        have m1 := ch_CM_put hm'
        have m8 := ch_CM_skip m1 n1
        have e8 : ch_cn (ch_LC B sd rt ep) (512 * s + 8 * i + 1 + 7) = ch_cn (ch_LC B sd rt ep) (512 * s + 8 * i) + 1 := by rw [ch_cn_skip n1, ch_cn_s, ch_b01_t h0]
        have := ih' _ m8
        rw [show 512 * s + 8 * i + 8 = 512 * s + 8 * i + 1 + 7 from by omega, e8] at this
        exact ch_x_listMove (by omega) (nm_r (nI_1 i) this)
      rw [ch_nI_r3 (by omega)]
      refine pk_eq pf 0 (fun e => one (by omega)) (fun e => pk_eq (i / 8) (ch_lr sd) (fun e2 => ?_) (fun e2 => one (by omega)))
      refine ch_x_list86 hP (by omega) (fun p hp => ?_) hm' ih'
      rw [hl p hp]
      unfold ch_PRM
      constructor
      · rintro ⟨_, w⟩; omega
      · intro w; exact ⟨yl, by omega⟩
theorem ch_x_listMoves {post : SX → Prop} {B : Nat → Nat} {sd rt ep s kq : Nat} {mv : Nat → Int32} {L : Int64} (hB : ch_BX a_board B) (hP : ch_POS B sd rt ep) (hK : ch_K1 B sd kq) (hs : s < 64) (hL : ch_SB L (ch_LX B sd rt ep kq s)) (ch_hm : ch_CM B sd rt ep mv (512 * s)) (h : ∀ mv', ch_CM B sd rt ep mv' (512 * (s + 1)) → post (f_clockTop, f_numberTop, f_strict, nI sd, nI rt, ch_epI ep, f_clock, f_number, f_lineLen, f_outLen, nI (ch_cn (ch_LC B sd rt ep) (512 * (s + 1))), f_movesKnown, f_savedSide, f_savedRights, f_savedPassant, f_savedClock, f_savedNumber, f_spellLen, f_at, f_end, f_writtenMark, f_writtenCastling, f_writtenPromotion, f_writtenTarget, f_writtenCapture, f_writtenRank, f_writtenFile, f_writtenKind, a_board, a_line, a_out, mv', a_savedBoard, a_spell)) : wpX_listMoves post (f_clockTop, f_numberTop, f_strict, nI sd, nI rt, ch_epI ep, f_clock, f_number, f_lineLen, f_outLen, nI (ch_cn (ch_LC B sd rt ep) (512 * s)), f_movesKnown, f_savedSide, f_savedRights, f_savedPassant, f_savedClock, f_savedNumber, f_spellLen, f_at, f_end, f_writtenMark, f_writtenCastling, f_writtenPromotion, f_writtenTarget, f_writtenCapture, f_writtenRank, f_writtenFile, f_writtenKind, a_board, a_line, a_out, mv, a_savedBoard, a_spell) (nI s) L := by
  have hP' := hP
  obtain ⟨hV, hsd, _⟩ := hP
  have hv := ch_VB_lt hV hs
  have h13 : wX_listMoves_13 post (nI s) L (nI (ch_lr sd)) f_clockTop f_numberTop f_strict (nI sd) (nI rt) (ch_epI ep) f_clock f_number f_lineLen f_outLen (nI (ch_cn (ch_LC B sd rt ep) (512 * s))) f_movesKnown f_savedSide f_savedRights f_savedPassant f_savedClock f_savedNumber f_spellLen f_at f_end f_writtenMark f_writtenCastling f_writtenPromotion f_writtenTarget f_writtenCapture f_writtenRank f_writtenFile f_writtenKind a_board a_line a_out mv a_savedBoard a_spell := by
    unfold wX_listMoves_13
    rw [ch_bx hB hs, ch_nI_a7 (by omega)]
    refine ⟨vp_in_nI hs (by omega), pk_eq (B s % 8) 1 (fun e => ?_) (fun e => ?_)⟩
    · exact ch_x_list38 (pf := 1) hP' hK hs hL (Or.inl ⟨rfl, e⟩) ch_hm h
    · exact ch_x_list38 (pf := 0) hP' hK hs hL (Or.inr ⟨rfl, e⟩) ch_hm h
  refine pk_eq sd 0 (fun e => ?_) (fun e => ?_)
  · rw [show ch_lr sd = 7 from by unfold ch_lr; rw [if_pos e]] at h13
    exact h13
  · rw [show ch_lr sd = 0 from by unfold ch_lr; rw [if_neg e]] at h13
    exact h13
/-- the cache is empty or right -/
def ch_CA (B : Nat → Nat) (sd rt ep : Nat) (known total : Int32) (mv : Nat → Int32) : Prop := known = 0 ∨ (known = 1 ∧ total = nI (ch_cn (ch_LC B sd rt ep) 32768) ∧ ch_CM B sd rt ep mv 32768)
theorem ch_x_ensureMoves {post : SX → Prop} {B : Nat → Nat} {sd rt ep : Nat} (hB : ch_BX a_board B) (hP : ch_POS B sd rt ep) (hC : ch_CA B sd rt ep f_movesKnown f_moveTotal a_moves) (h : ∀ mv, ch_CM B sd rt ep mv 32768 → post (f_clockTop, f_numberTop, f_strict, nI sd, nI rt, ch_epI ep, f_clock, f_number, f_lineLen, f_outLen, nI (ch_cn (ch_LC B sd rt ep) 32768), 1, f_savedSide, f_savedRights, f_savedPassant, f_savedClock, f_savedNumber, f_spellLen, f_at, f_end, f_writtenMark, f_writtenCastling, f_writtenPromotion, f_writtenTarget, f_writtenCapture, f_writtenRank, f_writtenFile, f_writtenKind, a_board, a_line, a_out, mv, a_savedBoard, a_spell)) : wpX_ensureMoves post (f_clockTop, f_numberTop, f_strict, nI sd, nI rt, ch_epI ep, f_clock, f_number, f_lineLen, f_outLen, f_moveTotal, f_movesKnown, f_savedSide, f_savedRights, f_savedPassant, f_savedClock, f_savedNumber, f_spellLen, f_at, f_end, f_writtenMark, f_writtenCastling, f_writtenPromotion, f_writtenTarget, f_writtenCapture, f_writtenRank, f_writtenFile, f_writtenKind, a_board, a_line, a_out, a_moves, a_savedBoard, a_spell) := by
  rcases hC with rfl | ⟨rfl, rfl, ch_hm⟩
  · refine br_t rfl ?_
    have hP' := hP
    obtain ⟨hV, hsd, _⟩ := hP
    obtain ⟨kq, hK⟩ := ch_POS_K hP' hsd
    refine ch_x_kingSquare hB hV hsd hK ⟨65, ?_⟩
    refine ch_fn (σ := (Nat → Int32) × Nat) (fun n q z => wX_ensureMoves_24 post (nI kq) n z f_clockTop f_numberTop f_strict (nI sd) (nI rt) (ch_epI ep) f_clock f_number f_lineLen f_outLen (nI q.2) 0 f_savedSide f_savedRights f_savedPassant f_savedClock f_savedNumber f_spellLen f_at f_end f_writtenMark f_writtenCastling f_writtenPromotion f_writtenTarget f_writtenCapture f_writtenRank f_writtenFile f_writtenKind a_board a_line a_out q.1 a_savedBoard a_spell) (fun i q => q.2 = ch_cn (ch_LC B sd rt ep) (512 * i) ∧ ch_CM B sd rt ep q.1 (512 * i)) 64 ?_ ?_ 64 0 (a_moves, 0) rfl ⟨rfl, fun d hd => by omega⟩
    · rintro n ⟨mv', tot⟩ ⟨et, hm'⟩
      dsimp only at et hm' ⊢
      subst et
      exact br_t (by decide) (h mv' hm')
    · rintro n i ⟨mv', tot⟩ hi ⟨et, hm'⟩ ih
      dsimp only at et hm' ⊢
      subst et
      have ih' : ∀ mv2, ch_CM B sd rt ep mv2 (512 * (i + 1)) → wX_ensureMoves_24 post (nI kq) n (nI (i + 1)) f_clockTop f_numberTop f_strict (nI sd) (nI rt) (ch_epI ep) f_clock f_number f_lineLen f_outLen (nI (ch_cn (ch_LC B sd rt ep) (512 * (i + 1)))) 0 f_savedSide f_savedRights f_savedPassant f_savedClock f_savedNumber f_spellLen f_at f_end f_writtenMark f_writtenCastling f_writtenPromotion f_writtenTarget f_writtenCapture f_writtenRank f_writtenFile f_writtenKind a_board a_line a_out mv2 a_savedBoard a_spell := fun mv2 h2 => ih (mv2, ch_cn (ch_LC B sd rt ep) (512 * (i + 1))) ⟨rfl, h2⟩
      refine pk_le 64 i (fun e => by omega) (fun _ => ch_x_legalTargets hB hP' hi hK (fun L hL => br_c (fun c => ?_) (fun c => ?_)))
      · have ns : ∀ j, j < 512 → ¬ ch_LC B sd rt ep (512 * i + j) := by
          intro j hj w
          have w2 : ch_LC B sd rt ep (512 * i + 8 * (j / 8) + j % 8) := by rw [show 512 * i + 8 * (j / 8) + j % 8 = 512 * i + j from by omega]; exact w
          have := ((ch_LC_LX hP' hK hi (by omega) (by omega)).mp w2).1
          exact ch_lb_z.mp c (j / 8) (by omega) ((hL (j / 8) (by omega)).mpr this)
        have := ih' mv' (by rw [show 512 * (i + 1) = 512 * i + 512 from by omega]; exact ch_CM_skip hm' ns)
        rw [show 512 * (i + 1) = 512 * i + 512 from by omega, ch_cn_skip ns] at this
        exact nm_r (nI_1 i) this
      · exact ch_x_listMoves hB hP' hK hi hL hm' (fun mv2 h2 => nm_r (nI_1 i) (ih' mv2 h2))
  · exact br_f (by decide) (h a_moves ch_hm)
end
end
section
/-! the component plays a move -/
def ch_lo (s : Nat) : Nat := if s = 0 then 2 else if s = 4 then 3 else if s = 7 then 1 else if s = 56 then 8 else if s = 60 then 12 else if s = 63 then 4 else 0
theorem ch_lo_f (s : Nat) : ch_lo s < 16 ∧ (ch_lo s % 2 = 1 ↔ (s = 4 ∨ s = 7)) ∧ (ch_lo s / 2 % 2 = 1 ↔ (s = 4 ∨ s = 0)) ∧ (ch_lo s / 4 % 2 = 1 ↔ (s = 60 ∨ s = 63)) ∧ (ch_lo s / 8 % 2 = 1 ↔ (s = 60 ∨ s = 56)) := by
  unfold ch_lo
  repeat' split
  all_goals omega
def ch_rbits (rt a b : Nat) : Nat := (if a % 2 = 1 ∨ b % 2 = 1 then 0 else rt % 2) + 2 * (if a / 2 % 2 = 1 ∨ b / 2 % 2 = 1 then 0 else rt / 2 % 2) + 4 * (if a / 4 % 2 = 1 ∨ b / 4 % 2 = 1 then 0 else rt / 4 % 2) + 8 * (if a / 8 % 2 = 1 ∨ b / 8 % 2 = 1 then 0 else rt / 8 % 2)
theorem ch_rb_z : ∀ rt, rt < 16 → ∀ a, a < 16 → ∀ b, b < 16 → nI rt &&& ((nI a ||| nI b) ^^^ (-1)) = nI (ch_rbits rt a b) := by decide +kernel
theorem ch_rb_n {rt s t : Nat} : ch_rbits rt (ch_lo s) (ch_lo t) = ch_nrt rt s t := by
  obtain ⟨_, a1, a2, a3, a4⟩ := ch_lo_f s
  obtain ⟨_, b1, b2, b3, b4⟩ := ch_lo_f t
  unfold ch_rbits ch_nrt
  have e1 : (ch_lo s % 2 = 1 ∨ ch_lo t % 2 = 1) ↔ (s = 4 ∨ s = 7 ∨ t = 4 ∨ t = 7) := by rw [a1, b1]; omega
  have e2 : (ch_lo s / 2 % 2 = 1 ∨ ch_lo t / 2 % 2 = 1) ↔ (s = 4 ∨ s = 0 ∨ t = 4 ∨ t = 0) := by rw [a2, b2]; omega
  have e3 : (ch_lo s / 4 % 2 = 1 ∨ ch_lo t / 4 % 2 = 1) ↔ (s = 60 ∨ s = 63 ∨ t = 60 ∨ t = 63) := by rw [a3, b3]; omega
  have e4 : (ch_lo s / 8 % 2 = 1 ∨ ch_lo t / 8 % 2 = 1) ↔ (s = 60 ∨ s = 56 ∨ t = 60 ∨ t = 56) := by rw [a4, b4]; omega
  simp only [e1, e2, e3, e4]
def ch_HI (m a : Nat → Int32) : Prop := ∀ i, 64 ≤ i → m i = a i
theorem ch_XM_HI {a : Nat → Int32} {B : Nat → Nat} {sd rt ep s t p x : Nat} {w : Int32} (hE : ch_EG B sd ep) (hsd : sd < 2) (hs : s < 64) (ht : t < 64) (h : ch_TP B sd rt ep s t p x) : ch_HI (ch_XM a sd s t x w) a := by
  have f := ch_TP_F hE hs ht hsd h
  have hh := ch_hm_c hsd
  intro i hi
  unfold ch_XM
  by_cases e6 : x = 6
  · obtain ⟨_, z1, z2, _, _⟩ := f.2.2.2.2.2.2.2.2.1 e6
    rw [if_pos e6, ch_u_f (by omega), ch_u_f (by omega), ch_u_f (by omega), ch_u_f (by omega), ch_u_f (by omega)]
  rw [if_neg e6]
  by_cases e7 : x = 7
  · obtain ⟨_, z1, z2, _, _⟩ := f.2.2.2.2.2.2.2.2.2.1 e7
    rw [if_pos e7, ch_u_f (by omega), ch_u_f (by omega), ch_u_f (by omega), ch_u_f (by omega), ch_u_f (by omega)]
  rw [if_neg e7]
  by_cases e5 : x = 5
  · have z := f.2.2.2.2.1 e5
    rw [if_pos e5, ch_u_f (by omega), ch_u_f (by omega), ch_u_f (by omega)]
  · rw [if_neg e5, ch_u_f (by omega), ch_u_f (by omega), ch_u_f (by omega)]
/-- the two counts after a move -/
def ch_nck (B : Nat → Nat) (s t x ck ct : Nat) : Nat := if B s % 8 = 1 ∨ x = 5 ∨ B t ≠ 0 then 0 else if ck < ct then ck + 1 else ck
def ch_nnb (sd nb nt : Nat) : Nat := if sd = 1 ∧ nb < nt then nb + 1 else nb
theorem ch_ep_3 {B : Nat → Nat} {sd rt ep s t p x : Nat} (hsd : sd < 2) (hs : s < 64) (ht : t < 64) (h : ch_TP B sd rt ep s t p x) (hk : B s % 8 = 1) : (x = 3 ↔ (t = s + 16 ∨ s = t + 16)) ∧ (x = 3 → ch_nep sd s x = (s + t) / 2 ∧ (s + t) / 2 < 64) := by
  have hf : (sd = 0 ∧ ch_fw sd = 1) ∨ (sd = 1 ∧ ch_fw sd = -1) := by unfold ch_fw; split <;> omega
  have ee : x = 3 → ch_nep sd s x = if sd = 0 then s + 8 else s - 8 := fun e => by unfold ch_nep; rw [if_pos e]
  obtain ⟨_, h⟩ := h
  rcases h with h | ⟨e, _, _, h, _⟩ | ⟨e, _, _, _, h, _⟩ | ⟨e, _, _, h, _⟩ | ⟨e, _, _, h, _⟩ | h | h
  · exact absurd hk h.2.1
  · unfold ch_SQ at h; omega
  · unfold ch_SQ at h
    refine ⟨by omega, fun e => ?_⟩
    rw [ee e]
    split <;> omega
  · unfold ch_PC ch_SQ at h; omega
  · unfold ch_PC ch_SQ at h; omega
  · have := h.2.1; omega
  · have := h.2.1; omega
theorem ch_ep_n {B : Nat → Nat} {sd rt ep s t p x : Nat} (h : ch_TP B sd rt ep s t p x) (hk : B s % 8 ≠ 1) : x ≠ 3 := by
  obtain ⟨_, h⟩ := h
  rcases h with h | h | h | h | h | h | h
  · have := h.1; omega
  · exact absurd h.2.1 hk
  · exact absurd h.2.1 hk
  · exact absurd h.2.1 hk
  · exact absurd h.2.1 hk
  · have := h.1; omega
  · have := h.1; omega
section
variable {f_clockTop f_numberTop f_strict f_side f_rights f_passant f_clock f_number f_lineLen f_outLen f_moveTotal f_movesKnown f_savedSide f_savedRights f_savedPassant f_savedClock f_savedNumber f_spellLen f_at f_end f_writtenMark f_writtenCastling f_writtenPromotion f_writtenTarget f_writtenCapture f_writtenRank f_writtenFile f_writtenKind : Int32} {a_board a_line a_out a_moves a_savedBoard a_spell : Nat → Int32}
theorem ch_x_rightsOn {post : Int32 → Prop} {s : Nat} (hs : s < 64) (h : post (nI (ch_lo s))) : wpX_rightsOn post (f_clockTop, f_numberTop, f_strict, f_side, f_rights, f_passant, f_clock, f_number, f_lineLen, f_outLen, f_moveTotal, f_movesKnown, f_savedSide, f_savedRights, f_savedPassant, f_savedClock, f_savedNumber, f_spellLen, f_at, f_end, f_writtenMark, f_writtenCastling, f_writtenPromotion, f_writtenTarget, f_writtenCapture, f_writtenRank, f_writtenFile, f_writtenKind, a_board, a_line, a_out, a_moves, a_savedBoard, a_spell) (nI s) := by
  unfold ch_lo at h
  refine pk_eq s 0 (fun e => ?_) (fun e0 => pk_eq s 4 (fun e => ?_) (fun e4 => pk_eq s 7 (fun e => ?_) (fun e7 => pk_eq s 56 (fun e => ?_) (fun e56 => pk_eq s 60 (fun e => ?_) (fun e60 => pk_eq s 63 (fun e => ?_) (fun e63 => ?_))))))
  · rw [if_pos e] at h; exact h
  · rw [if_neg e0, if_pos e] at h; exact h
  · rw [if_neg e0, if_neg e4, if_pos e] at h; exact h
  · rw [if_neg e0, if_neg e4, if_neg e7, if_pos e] at h; exact h
  · rw [if_neg e0, if_neg e4, if_neg e7, if_neg e56, if_pos e] at h; exact h
  · rw [if_neg e0, if_neg e4, if_neg e7, if_neg e56, if_neg e60, if_pos e] at h; exact h
  · rw [if_neg e0, if_neg e4, if_neg e7, if_neg e56, if_neg e60, if_neg e63] at h; exact h
theorem ch_x_isCapture {post : Int32 → Prop} {B : Nat → Nat} {sd rt ep s t p x : Nat} (hB : ch_BX a_board B) (hV : ch_VB B) (hE : ch_EG B sd ep) (hs : s < 64) (ht : t < 64) (hsd : sd < 2) (hep : ep ≤ 64) (hT : ch_TP B sd rt ep s t p x) (h1 : (x = 5 ∨ B t ≠ 0) → post 1) (h0 : ¬ (x = 5 ∨ B t ≠ 0) → post 0) : wpX_isCapture post (f_clockTop, f_numberTop, f_strict, nI sd, f_rights, ch_epI ep, f_clock, f_number, f_lineLen, f_outLen, f_moveTotal, f_movesKnown, f_savedSide, f_savedRights, f_savedPassant, f_savedClock, f_savedNumber, f_spellLen, f_at, f_end, f_writtenMark, f_writtenCastling, f_writtenPromotion, f_writtenTarget, f_writtenCapture, f_writtenRank, f_writtenFile, f_writtenKind, a_board, a_line, a_out, a_moves, a_savedBoard, a_spell) (nI s) (nI t) := by
  have f := ch_TP_F hE hs ht hsd hT
  unfold wpX_isCapture
  refine ch_x_vic hB hV hs ht hsd hep hE hT (fun v hv ev => ⟨vp_in_nI hv (by omega), ?_⟩)
  have hvv := ch_VB_lt hV hv
  refine pk_eq (B v) 0 (fun e => h0 ?_) (fun e => h1 ?_) (ch_bx hB hv) rfl
  · by_cases e5 : x = 5
    · rw [if_pos e5] at ev
      have := (f.2.2.2.2.1 e5).2.2.2.2.2.2.2
      rw [ev] at e; omega
    · rw [if_neg e5] at ev
      rw [ev] at e; omega
  · by_cases e5 : x = 5
    · exact Or.inl e5
    · rw [if_neg e5] at ev
      rw [ev] at e; exact Or.inr e
theorem ch_x_adv182 {post : SX → Prop} {sd nb nt : Nat} (hsd : sd < 2) (hnb : nb < 100000) (hnt : nt < 100000) (h : post (f_clockTop, nI nt, f_strict, nI (1 - sd), f_rights, f_passant, f_clock, nI (ch_nnb sd nb nt), f_lineLen, f_outLen, f_moveTotal, f_movesKnown, f_savedSide, f_savedRights, f_savedPassant, f_savedClock, f_savedNumber, f_spellLen, f_at, f_end, f_writtenMark, f_writtenCastling, f_writtenPromotion, f_writtenTarget, f_writtenCapture, f_writtenRank, f_writtenFile, f_writtenKind, a_board, a_line, a_out, a_moves, a_savedBoard, a_spell)) : wX_advance_182 post f_clockTop (nI nt) f_strict (nI sd) f_rights f_passant f_clock (nI nb) f_lineLen f_outLen f_moveTotal f_movesKnown f_savedSide f_savedRights f_savedPassant f_savedClock f_savedNumber f_spellLen f_at f_end f_writtenMark f_writtenCastling f_writtenPromotion f_writtenTarget f_writtenCapture f_writtenRank f_writtenFile f_writtenKind a_board a_line a_out a_moves a_savedBoard a_spell := by
  unfold ch_nnb at h
  refine pk_eq sd 1 (fun e => pk_le nt nb (fun e2 => nm_r (ch_side_f sd hsd) ?_) (fun e2 => nm_r (nI_1 nb) (nm_r (ch_side_f sd hsd) ?_))) (fun e => nm_r (ch_side_f sd hsd) ?_)
  · rw [if_neg (by omega)] at h; exact h
  · rw [if_pos ⟨e, e2⟩] at h; exact h
  · rw [if_neg (by omega)] at h; exact h
theorem ch_x_adv88 {post : SX → Prop} {B : Nat → Nat} {sd rt ep s t p x nb nt pw : Nat} (hB : ch_BX a_board B) (hV : ch_VB B) (hE : ch_EG B sd ep) (hs : s < 64) (ht : t < 64) (hp : p < 8) (hsd : sd < 2) (hrt : rt < 16) (hep : ep ≤ 64) (hnb : nb < 100000) (hnt : nt < 100000) (hT : ch_TP B sd rt ep s t p x) (hpw : (pw = 1 ∧ B s % 8 = 1) ∨ (pw = 0 ∧ B s % 8 ≠ 1)) (h : ∀ ab, ch_BX ab (ch_AF B sd s t p x) → ch_HI ab a_board → post (f_clockTop, nI nt, f_strict, nI (1 - sd), nI (ch_nrt rt s t), ch_epI (ch_nep sd s x), f_clock, nI (ch_nnb sd nb nt), f_lineLen, f_outLen, f_moveTotal, f_movesKnown, f_savedSide, f_savedRights, f_savedPassant, f_savedClock, f_savedNumber, f_spellLen, f_at, f_end, f_writtenMark, f_writtenCastling, f_writtenPromotion, f_writtenTarget, f_writtenCapture, f_writtenRank, f_writtenFile, f_writtenKind, ab, a_line, a_out, a_moves, a_savedBoard, a_spell)) : wX_advance_88 post (nI s) (nI t) (nI p) (nI (B s)) (nI pw) f_clockTop (nI nt) f_strict (nI sd) (nI rt) (ch_epI ep) f_clock (nI nb) f_lineLen f_outLen f_moveTotal f_movesKnown f_savedSide f_savedRights f_savedPassant f_savedClock f_savedNumber f_spellLen f_at f_end f_writtenMark f_writtenCastling f_writtenPromotion f_writtenTarget f_writtenCapture f_writtenRank f_writtenFile f_writtenKind a_board a_line a_out a_moves a_savedBoard a_spell := by
  have hvs := ch_VB_lt hV hs
  unfold wX_advance_88
  refine ch_x_rightsOn hs ?_
  refine ch_x_rightsOn ht (nm_e (nm_r (e' := nI (ch_nrt rt s t)) (by rw [ch_rb_z rt hrt _ (ch_lo_f s).1 _ (ch_lo_f t).1, ch_rb_n]) ?_))
  have fin : wX_advance_134 post (nI s) (nI t) (nI pw) (nI (if p = 0 then B s else 8 * sd + p)) f_clockTop (nI nt) f_strict (nI sd) (nI (ch_nrt rt s t)) (ch_epI ep) f_clock (nI nb) f_lineLen f_outLen f_moveTotal f_movesKnown f_savedSide f_savedRights f_savedPassant f_savedClock f_savedNumber f_spellLen f_at f_end f_writtenMark f_writtenCastling f_writtenPromotion f_writtenTarget f_writtenCapture f_writtenRank f_writtenFile f_writtenKind a_board a_line a_out a_moves a_savedBoard a_spell := by
    unfold wX_advance_134
    refine ch_x_moveMen hB hV hs ht hsd hep hE hT ?_
    have hb := ch_XM_BX p hB hE hsd hs ht hT
    have hh : ch_HI (ch_XM a_board sd s t x (nI (if p = 0 then B s else 8 * sd + p))) a_board := ch_XM_HI hE hsd hs ht hT
    have h182 := h _ hb hh
    have n3 : x ≠ 3 → wX_advance_177 post f_clockTop (nI nt) f_strict (nI sd) (nI (ch_nrt rt s t)) (ch_epI ep) f_clock (nI nb) f_lineLen f_outLen f_moveTotal f_movesKnown f_savedSide f_savedRights f_savedPassant f_savedClock f_savedNumber f_spellLen f_at f_end f_writtenMark f_writtenCastling f_writtenPromotion f_writtenTarget f_writtenCapture f_writtenRank f_writtenFile f_writtenKind (ch_XM a_board sd s t x (nI (if p = 0 then B s else 8 * sd + p))) a_line a_out a_moves a_savedBoard a_spell := by
      intro e
      have en : ch_nep sd s x = 64 := by unfold ch_nep; rw [if_neg e]
      rw [en, ch_epI_n (by omega)] at h182
      exact ch_x_adv182 hsd hnb hnt h182
    have y3 : B s % 8 = 1 → x = 3 → wX_advance_165 post (nI s) (nI t) f_clockTop (nI nt) f_strict (nI sd) (nI (ch_nrt rt s t)) (ch_epI ep) f_clock (nI nb) f_lineLen f_outLen f_moveTotal f_movesKnown f_savedSide f_savedRights f_savedPassant f_savedClock f_savedNumber f_spellLen f_at f_end f_writtenMark f_writtenCastling f_writtenPromotion f_writtenTarget f_writtenCapture f_writtenRank f_writtenFile f_writtenKind (ch_XM a_board sd s t x (nI (if p = 0 then B s else 8 * sd + p))) a_line a_out a_moves a_savedBoard a_spell := by
      intro hk e
      have z := (ch_ep_3 hsd hs ht hT hk).2 e
      rw [z.1, ch_epI_s z.2] at h182
      refine ⟨by decide, nm_r (e' := nI ((s + t) / 2)) ?_ (ch_x_adv182 hsd hnb hnt h182)⟩
      rw [nI_add]
      exact pk_div (d := 2) (by omega) (by omega) (by omega)
    have d1 : nI t - nI s = ch_zI (t - s) := by rw [ch_zI_n', ch_zI_n', ch_zI_sub]
    have d2 : nI s - nI t = ch_zI (s - t) := by rw [ch_zI_n', ch_zI_n', ch_zI_sub]
    rcases hpw with ⟨rfl, hk⟩ | ⟨rfl, hk⟩
    · have z := (ch_ep_3 hsd hs ht hT hk).1
      refine br_f (by decide) ?_
      rw [d1, d2]
      refine ch_zk_eq ((t : Int) - (s : Int)) 16 (fun e => y3 hk (z.mpr (by omega))) (fun e => ch_zk_eq ((s : Int) - (t : Int)) 16 (fun e2 => y3 hk (z.mpr (by omega))) (fun e2 => n3 (fun w => by have := z.mp w; omega)))
    · exact br_t rfl (n3 (ch_ep_n hT hk))
  refine pk_eq p 0 (fun e => ?_) (fun e => ?_)
  · rw [if_pos e] at fin; exact fin
  · rw [if_neg e] at fin
    rw [show (8 : Int32) * nI sd + nI p = nI (8 * sd + p) from ch_nI_8c sd p]
    exact fin
theorem ch_x_advance {post : SX → Prop} {B : Nat → Nat} {sd rt ep s t p x ck ct nb nt : Nat} (hB : ch_BX a_board B) (hP : ch_POS B sd rt ep) (hs : s < 64) (ht : t < 64) (hp : p < 8) (hck : ck < 100000) (hct : ct < 100000) (hnb : nb < 100000) (hnt : nt < 100000) (hT : ch_TP B sd rt ep s t p x) (h : ∀ ab, ch_BX ab (ch_AF B sd s t p x) → ch_HI ab a_board → post (nI ct, nI nt, f_strict, nI (1 - sd), nI (ch_nrt rt s t), ch_epI (ch_nep sd s x), nI (ch_nck B s t x ck ct), nI (ch_nnb sd nb nt), f_lineLen, f_outLen, f_moveTotal, f_movesKnown, f_savedSide, f_savedRights, f_savedPassant, f_savedClock, f_savedNumber, f_spellLen, f_at, f_end, f_writtenMark, f_writtenCastling, f_writtenPromotion, f_writtenTarget, f_writtenCapture, f_writtenRank, f_writtenFile, f_writtenKind, ab, a_line, a_out, a_moves, a_savedBoard, a_spell)) : wpX_advance post (nI ct, nI nt, f_strict, nI sd, nI rt, ch_epI ep, nI ck, nI nb, f_lineLen, f_outLen, f_moveTotal, f_movesKnown, f_savedSide, f_savedRights, f_savedPassant, f_savedClock, f_savedNumber, f_spellLen, f_at, f_end, f_writtenMark, f_writtenCastling, f_writtenPromotion, f_writtenTarget, f_writtenCapture, f_writtenRank, f_writtenFile, f_writtenKind, a_board, a_line, a_out, a_moves, a_savedBoard, a_spell) (nI (512 * s + 8 * t + p)) := by
  obtain ⟨hV, hsd, hrt, hep, _, _, hpw, hR, hE, hA, hcn⟩ := hP
  have hvs := ch_VB_lt hV hs
  refine nm_r (e' := nI s) (by rw [ch_nI_r9 (by omega), ch_nI_a63 (by omega)]; congr 1; omega) (nm_r (e' := nI t) (by rw [ch_nI_r3 (by omega), ch_nI_a63 (by omega)]; congr 1; omega) (nm_r (e' := nI p) (by rw [ch_nI_a7 (by omega)]; congr 1; omega) ⟨vp_in_nI hs (by omega), nm_r (ch_bx hB hs) ?_⟩))
  rw [ch_nI_a7 (by omega)]
  unfold ch_nck at h
  have z59 : ∀ pw : Nat, ((pw = 1 ∧ B s % 8 = 1) ∨ (pw = 0 ∧ B s % 8 ≠ 1)) → (B s % 8 = 1 ∨ x = 5 ∨ B t ≠ 0) → wX_advance_59 post (nI s) (nI t) (nI p) (nI (B s)) (nI pw) (nI ct) (nI nt) f_strict (nI sd) (nI rt) (ch_epI ep) (nI ck) (nI nb) f_lineLen f_outLen f_moveTotal f_movesKnown f_savedSide f_savedRights f_savedPassant f_savedClock f_savedNumber f_spellLen f_at f_end f_writtenMark f_writtenCastling f_writtenPromotion f_writtenTarget f_writtenCapture f_writtenRank f_writtenFile f_writtenKind a_board a_line a_out a_moves a_savedBoard a_spell := by
    intro pw hpw e
    rw [if_pos e] at h
    exact ch_x_adv88 hB hV hE hs ht hp hsd hrt hep hnb hnt hT hpw h
  refine pk_eq (B s % 8) 1 (fun e => br_f (by decide) (z59 1 (Or.inl ⟨rfl, e⟩) (Or.inl e))) (fun e => br_t rfl ?_)
  refine ch_x_isCapture hB hV hE hs ht hsd hep hT (fun c => br_f (by decide) (z59 0 (Or.inr ⟨rfl, e⟩) (Or.inr c))) (fun c => br_t rfl ?_)
  rw [if_neg (by omega)] at h
  refine pk_le ct ck (fun e2 => ?_) (fun e2 => nm_r (nI_1 ck) ?_)
  · rw [if_neg (by omega)] at h
    exact ch_x_adv88 (pw := 0) hB hV hE hs ht hp hsd hrt hep hnb hnt hT (Or.inr ⟨rfl, e⟩) h
  · rw [if_pos e2] at h
    exact ch_x_adv88 (pw := 0) hB hV hE hs ht hp hsd hrt hep hnb hnt hT (Or.inr ⟨rfl, e⟩) h
end
end
section
/-! the reference plays a move -/
theorem ch_rq1 : ∀ m, m < 16 → nI m &&& 14 = nI (m - m % 2) := by decide +kernel
theorem ch_rq2 : ∀ m, m < 16 → nI m &&& 13 = nI (m - 2 * (m / 2 % 2)) := by decide +kernel
theorem ch_rq4 : ∀ m, m < 16 → nI m &&& 11 = nI (m - 4 * (m / 4 % 2)) := by decide +kernel
theorem ch_rq8 : ∀ m, m < 16 → nI m &&& 7 = nI (m - 8 * (m / 8 % 2)) := by decide +kernel
def ch_r1 (rt s t : Nat) : Nat := if s = 4 ∨ s = 7 ∨ t = 4 ∨ t = 7 then rt - rt % 2 else rt
def ch_r2 (rt s t : Nat) : Nat := if s = 4 ∨ s = 0 ∨ t = 4 ∨ t = 0 then rt - 2 * (rt / 2 % 2) else rt
def ch_r4 (rt s t : Nat) : Nat := if s = 60 ∨ s = 63 ∨ t = 60 ∨ t = 63 then rt - 4 * (rt / 4 % 2) else rt
def ch_r8 (rt s t : Nat) : Nat := if s = 60 ∨ s = 56 ∨ t = 60 ∨ t = 56 then rt - 8 * (rt / 8 % 2) else rt
theorem ch_r_n {rt s t : Nat} (h : rt < 16) : ch_r8 (ch_r4 (ch_r2 (ch_r1 rt s t) s t) s t) s t = ch_nrt rt s t := by
  unfold ch_r8 ch_r4 ch_r2 ch_r1 ch_nrt
  by_cases h1 : (s = 4 ∨ s = 7 ∨ t = 4 ∨ t = 7)
  · skip
    by_cases h2 : (s = 4 ∨ s = 0 ∨ t = 4 ∨ t = 0)
    · skip
      by_cases h3 : (s = 60 ∨ s = 63 ∨ t = 60 ∨ t = 63)
      · skip
        by_cases h4 : (s = 60 ∨ s = 56 ∨ t = 60 ∨ t = 56)
        · skip
          simp only [if_pos h1, if_pos h2, if_pos h3, if_pos h4]
          clear h1 h2 h3 h4
          revert rt
          decide
        · skip
          simp only [if_pos h1, if_pos h2, if_pos h3, if_neg h4]
          clear h1 h2 h3 h4
          revert rt
          decide
      · skip
        by_cases h4 : (s = 60 ∨ s = 56 ∨ t = 60 ∨ t = 56)
        · skip
          simp only [if_pos h1, if_pos h2, if_neg h3, if_pos h4]
          clear h1 h2 h3 h4
          revert rt
          decide
        · skip
          simp only [if_pos h1, if_pos h2, if_neg h3, if_neg h4]
          clear h1 h2 h3 h4
          revert rt
          decide
    · skip
      by_cases h3 : (s = 60 ∨ s = 63 ∨ t = 60 ∨ t = 63)
      · skip
        by_cases h4 : (s = 60 ∨ s = 56 ∨ t = 60 ∨ t = 56)
        · skip
          simp only [if_pos h1, if_neg h2, if_pos h3, if_pos h4]
          clear h1 h2 h3 h4
          revert rt
          decide
        · skip
          simp only [if_pos h1, if_neg h2, if_pos h3, if_neg h4]
          clear h1 h2 h3 h4
          revert rt
          decide
      · skip
        by_cases h4 : (s = 60 ∨ s = 56 ∨ t = 60 ∨ t = 56)
        · skip
          simp only [if_pos h1, if_neg h2, if_neg h3, if_pos h4]
          clear h1 h2 h3 h4
          revert rt
          decide
        · skip
          simp only [if_pos h1, if_neg h2, if_neg h3, if_neg h4]
          clear h1 h2 h3 h4
          revert rt
          decide
  · skip
    by_cases h2 : (s = 4 ∨ s = 0 ∨ t = 4 ∨ t = 0)
    · skip
      by_cases h3 : (s = 60 ∨ s = 63 ∨ t = 60 ∨ t = 63)
      · skip
        by_cases h4 : (s = 60 ∨ s = 56 ∨ t = 60 ∨ t = 56)
        · skip
          simp only [if_neg h1, if_pos h2, if_pos h3, if_pos h4]
          clear h1 h2 h3 h4
          revert rt
          decide
        · skip
          simp only [if_neg h1, if_pos h2, if_pos h3, if_neg h4]
          clear h1 h2 h3 h4
          revert rt
          decide
      · skip
        by_cases h4 : (s = 60 ∨ s = 56 ∨ t = 60 ∨ t = 56)
        · skip
          simp only [if_neg h1, if_pos h2, if_neg h3, if_pos h4]
          clear h1 h2 h3 h4
          revert rt
          decide
        · skip
          simp only [if_neg h1, if_pos h2, if_neg h3, if_neg h4]
          clear h1 h2 h3 h4
          revert rt
          decide
    · skip
      by_cases h3 : (s = 60 ∨ s = 63 ∨ t = 60 ∨ t = 63)
      · skip
        by_cases h4 : (s = 60 ∨ s = 56 ∨ t = 60 ∨ t = 56)
        · skip
          simp only [if_neg h1, if_neg h2, if_pos h3, if_pos h4]
          clear h1 h2 h3 h4
          revert rt
          decide
        · skip
          simp only [if_neg h1, if_neg h2, if_pos h3, if_neg h4]
          clear h1 h2 h3 h4
          revert rt
          decide
      · skip
        by_cases h4 : (s = 60 ∨ s = 56 ∨ t = 60 ∨ t = 56)
        · skip
          simp only [if_neg h1, if_neg h2, if_neg h3, if_pos h4]
          clear h1 h2 h3 h4
          revert rt
          decide
        · skip
          simp only [if_neg h1, if_neg h2, if_neg h3, if_neg h4]
          clear h1 h2 h3 h4
          revert rt
          decide
def ch_H8 (m a : Nat → Int32) : Prop := ∀ i, 128 ≤ i → m i = a i
section
variable {f_side f_rights f_ep f_clock f_number f_lineLen f_outLen f_clockTop f_numberTop f_strict f_textLen f_newSide f_newRights f_newEp f_newClock f_newNumber : Int32} {a_men a_line a_out a_text a_cut : Nat → Int32}
theorem ch_y_co256 {post : SY → Prop} {A : Nat → Nat} {sd nb nt : Nat} (hA : ch_BY a_men 64 A) (hsd : sd < 2) (hnb : nb < 100000) (hnt : nt < 100000) (h : ∀ m, ch_BY m 0 A → ch_H8 m a_men → post (nI (1 - sd), f_rights, f_ep, f_clock, nI (ch_nnb sd nb nt), f_lineLen, f_outLen, f_clockTop, nI nt, f_strict, f_textLen, f_newSide, f_newRights, f_newEp, f_newClock, f_newNumber, m, a_line, a_out, a_text, a_cut)) : ∃ n, wY_carryOut_256 post (nI sd) f_rights f_ep f_clock (nI nb) f_lineLen f_outLen f_clockTop (nI nt) f_strict f_textLen f_newSide f_newRights f_newEp f_newClock f_newNumber n 0 a_men a_line a_out a_text a_cut := by
  refine ⟨65, ?_⟩
  refine ch_fn (σ := Nat → Int32) (fun n m z => wY_carryOut_256 post (nI sd) f_rights f_ep f_clock (nI nb) f_lineLen f_outLen f_clockTop (nI nt) f_strict f_textLen f_newSide f_newRights f_newEp f_newClock f_newNumber n z m a_line a_out a_text a_cut) (fun i m => (∀ j, 64 ≤ j → m j = a_men j) ∧ ∀ j, j < i → m j = nI (A j)) 64 ?_ ?_ 64 0 a_men rfl ⟨fun _ _ => rfl, fun j hj => by omega⟩
  · rintro n m ⟨m1, m2⟩
    have hh := h m (fun i hi => by rw [Nat.zero_add]; exact m2 i hi) (fun i hi => m1 i (by omega))
    unfold ch_nnb at hh
    refine br_t (by decide) (pk_eq sd 1 (fun e => pk_le nt nb (fun e2 => nm_r (ch_side_f sd hsd) ?_) (fun e2 => nm_r (nI_1 nb) (nm_r (ch_side_f sd hsd) ?_))) (fun e => nm_r (ch_side_f sd hsd) ?_))
    · rw [if_neg (by omega)] at hh; exact hh
    · rw [if_pos ⟨e, e2⟩] at hh; exact hh
    · rw [if_neg (by omega)] at hh; exact hh
  · rintro n i m hi ⟨m1, m2⟩ ih
    refine pk_le 64 i (fun e => by omega) (fun _ => ?_)
    rw [ch_i64, nI_clamp (n := 64 + i) (by omega), nI_clamp (n := i) (by omega)]
    refine ⟨vp_in_nI (by omega) (by omega), vp_in_nI (by omega) (by omega), nm_e (nm_r (nI_1 i) (ih _ ⟨fun j hj => ?_, fun j hj => ?_⟩))⟩
    · rw [ch_u_f (by omega)]; exact m1 j hj
    · by_cases e : j = i
      · rw [ch_u_t e, m1 _ (by omega), e]; exact hA i hi
      · rw [ch_u_f e]; exact m2 j (by omega)
theorem ch_y_co231 {post : SY → Prop} {A : Nat → Nat} {sd s x nb nt : Nat} (hA : ch_BY a_men 64 A) (hs : s < 64) (hx : x < 8) (h3 : x = 3 → ch_nep sd s x < 64 ∧ (sd = 1 → 8 ≤ s)) (hsd : sd < 2) (hnb : nb < 100000) (hnt : nt < 100000) (h : ∀ m, ch_BY m 0 A → ch_H8 m a_men → post (nI (1 - sd), f_rights, ch_epI (ch_nep sd s x), f_clock, nI (ch_nnb sd nb nt), f_lineLen, f_outLen, f_clockTop, nI nt, f_strict, f_textLen, f_newSide, f_newRights, f_newEp, f_newClock, f_newNumber, m, a_line, a_out, a_text, a_cut)) : wY_carryOut_231 post (nI s) (ch_zI (8 * ch_fw sd)) (nI x) (nI sd) f_rights f_ep f_clock (nI nb) f_lineLen f_outLen f_clockTop (nI nt) f_strict f_textLen f_newSide f_newRights f_newEp f_newClock f_newNumber a_men a_line a_out a_text a_cut := by
  refine pk_eq x 3 (fun e => ?_) (fun e => ?_)
  · obtain ⟨h3, h4⟩ := h3 e
    rw [ch_epI_s h3] at h
    refine nm_r (e' := nI (ch_nep sd s x)) ?_ (ch_y_co256 hA hsd hnb hnt h)
    rw [ch_zI_n', ch_zI_n', ch_zI_add]
    congr 1
    unfold ch_nep ch_fw
    rw [if_pos e]
    by_cases e0 : sd = 0
    · rw [if_pos e0, if_pos e0]; omega
    · rw [if_neg e0, if_neg e0]; have := h4 (by omega); omega
  · have en : ch_nep sd s x = 64 := by unfold ch_nep; rw [if_neg e]
    rw [en, ch_epI_n (by omega)] at h
    exact ch_y_co256 hA hsd hnb hnt h
theorem ch_y_co196 {post : SY → Prop} {A : Nat → Nat} {sd rt s t x nb nt : Nat} (hA : ch_BY a_men 64 A) (hs : s < 64) (ht : t < 64) (hx : x < 8) (h3 : x = 3 → ch_nep sd s x < 64 ∧ (sd = 1 → 8 ≤ s)) (hrt : rt < 16) (hsd : sd < 2) (hnb : nb < 100000) (hnt : nt < 100000) (h : ∀ m, ch_BY m 0 A → ch_H8 m a_men → post (nI (1 - sd), nI (ch_r8 rt s t), ch_epI (ch_nep sd s x), f_clock, nI (ch_nnb sd nb nt), f_lineLen, f_outLen, f_clockTop, nI nt, f_strict, f_textLen, f_newSide, f_newRights, f_newEp, f_newClock, f_newNumber, m, a_line, a_out, a_text, a_cut)) : wY_carryOut_196 post (nI s) (nI t) (ch_zI (8 * ch_fw sd)) (nI x) (nI sd) (nI rt) f_ep f_clock (nI nb) f_lineLen f_outLen f_clockTop (nI nt) f_strict f_textLen f_newSide f_newRights f_newEp f_newClock f_newNumber a_men a_line a_out a_text a_cut := by
  have y : (s = 60 ∨ s = 56 ∨ t = 60 ∨ t = 56) → wY_carryOut_220 post (nI s) (ch_zI (8 * ch_fw sd)) (nI x) (nI sd) (nI rt) f_ep f_clock (nI nb) f_lineLen f_outLen f_clockTop (nI nt) f_strict f_textLen f_newSide f_newRights f_newEp f_newClock f_newNumber a_men a_line a_out a_text a_cut := by
    intro e
    have er : ch_r8 rt s t = rt - 8 * (rt / 8 % 2) := by unfold ch_r8; rw [if_pos e]
    rw [er] at h
    exact nm_r (ch_rq8 rt hrt) (ch_y_co231 hA hs hx h3 hsd hnb hnt h)
  refine pk_eq s 60 (fun e => y (Or.inl e)) (fun e1 => pk_eq s 56 (fun e => y (Or.inr (Or.inl e))) (fun e2 => pk_eq t 60 (fun e => y (Or.inr (Or.inr (Or.inl e)))) (fun e3 => pk_eq t 56 (fun e => y (Or.inr (Or.inr (Or.inr e)))) (fun e4 => ?_))))
  have er : ch_r8 rt s t = rt := by unfold ch_r8; rw [if_neg (by omega)]
  rw [er] at h
  exact ch_y_co231 hA hs hx h3 hsd hnb hnt h
theorem ch_y_co161 {post : SY → Prop} {A : Nat → Nat} {sd rt s t x nb nt : Nat} (hA : ch_BY a_men 64 A) (hs : s < 64) (ht : t < 64) (hx : x < 8) (h3 : x = 3 → ch_nep sd s x < 64 ∧ (sd = 1 → 8 ≤ s)) (hrt : rt < 16) (hsd : sd < 2) (hnb : nb < 100000) (hnt : nt < 100000) (h : ∀ m, ch_BY m 0 A → ch_H8 m a_men → post (nI (1 - sd), nI (ch_r8 (ch_r4 rt s t) s t), ch_epI (ch_nep sd s x), f_clock, nI (ch_nnb sd nb nt), f_lineLen, f_outLen, f_clockTop, nI nt, f_strict, f_textLen, f_newSide, f_newRights, f_newEp, f_newClock, f_newNumber, m, a_line, a_out, a_text, a_cut)) : wY_carryOut_161 post (nI s) (nI t) (ch_zI (8 * ch_fw sd)) (nI x) (nI sd) (nI rt) f_ep f_clock (nI nb) f_lineLen f_outLen f_clockTop (nI nt) f_strict f_textLen f_newSide f_newRights f_newEp f_newClock f_newNumber a_men a_line a_out a_text a_cut := by
  have y : (s = 60 ∨ s = 63 ∨ t = 60 ∨ t = 63) → wY_carryOut_185 post (nI s) (nI t) (ch_zI (8 * ch_fw sd)) (nI x) (nI sd) (nI rt) f_ep f_clock (nI nb) f_lineLen f_outLen f_clockTop (nI nt) f_strict f_textLen f_newSide f_newRights f_newEp f_newClock f_newNumber a_men a_line a_out a_text a_cut := by
    intro e
    have er : ch_r4 rt s t = rt - 4 * (rt / 4 % 2) := by unfold ch_r4; rw [if_pos e]
    rw [er] at h
    exact nm_r (ch_rq4 rt hrt) (ch_y_co196 hA hs ht hx h3 (by omega) hsd hnb hnt h)
  refine pk_eq s 60 (fun e => y (Or.inl e)) (fun e1 => pk_eq s 63 (fun e => y (Or.inr (Or.inl e))) (fun e2 => pk_eq t 60 (fun e => y (Or.inr (Or.inr (Or.inl e)))) (fun e3 => pk_eq t 63 (fun e => y (Or.inr (Or.inr (Or.inr e)))) (fun e4 => ?_))))
  have er : ch_r4 rt s t = rt := by unfold ch_r4; rw [if_neg (by omega)]
  rw [er] at h
  exact ch_y_co196 hA hs ht hx h3 hrt hsd hnb hnt h
theorem ch_y_co132 {post : SY → Prop} {A : Nat → Nat} {sd rt s t x nb nt : Nat} (hA : ch_BY a_men 64 A) (hs : s < 64) (ht : t < 64) (hx : x < 8) (h3 : x = 3 → ch_nep sd s x < 64 ∧ (sd = 1 → 8 ≤ s)) (hrt : rt < 16) (hsd : sd < 2) (hnb : nb < 100000) (hnt : nt < 100000) (h : ∀ m, ch_BY m 0 A → ch_H8 m a_men → post (nI (1 - sd), nI (ch_r8 (ch_r4 (ch_r2 rt s t) s t) s t), ch_epI (ch_nep sd s x), f_clock, nI (ch_nnb sd nb nt), f_lineLen, f_outLen, f_clockTop, nI nt, f_strict, f_textLen, f_newSide, f_newRights, f_newEp, f_newClock, f_newNumber, m, a_line, a_out, a_text, a_cut)) : wY_carryOut_132 post (nI s) (nI t) (ch_zI (8 * ch_fw sd)) (nI x) (nI sd) (nI rt) f_ep f_clock (nI nb) f_lineLen f_outLen f_clockTop (nI nt) f_strict f_textLen f_newSide f_newRights f_newEp f_newClock f_newNumber a_men a_line a_out a_text a_cut := by
  have y : (s = 4 ∨ s = 0 ∨ t = 4 ∨ t = 0) → wY_carryOut_150 post (nI s) (nI t) (ch_zI (8 * ch_fw sd)) (nI x) (nI sd) (nI rt) f_ep f_clock (nI nb) f_lineLen f_outLen f_clockTop (nI nt) f_strict f_textLen f_newSide f_newRights f_newEp f_newClock f_newNumber a_men a_line a_out a_text a_cut := by
    intro e
    have er : ch_r2 rt s t = rt - 2 * (rt / 2 % 2) := by unfold ch_r2; rw [if_pos e]
    rw [er] at h
    exact nm_r (ch_rq2 rt hrt) (ch_y_co161 hA hs ht hx h3 (by omega) hsd hnb hnt h)
  refine pk_eq s 4 (fun e => y (Or.inl e)) (fun e1 => pk_eq s 0 (fun e => y (Or.inr (Or.inl e))) (fun e2 => pk_eq t 4 (fun e => y (Or.inr (Or.inr (Or.inl e)))) (fun e3 => pk_eq t 0 (fun e => y (Or.inr (Or.inr (Or.inr e)))) (fun e4 => ?_))))
  have er : ch_r2 rt s t = rt := by unfold ch_r2; rw [if_neg (by omega)]
  rw [er] at h
  exact ch_y_co161 hA hs ht hx h3 hrt hsd hnb hnt h
theorem ch_y_co99 {post : SY → Prop} {A : Nat → Nat} {sd rt s t x nb nt : Nat} (hA : ch_BY a_men 64 A) (hs : s < 64) (ht : t < 64) (hx : x < 8) (h3 : x = 3 → ch_nep sd s x < 64 ∧ (sd = 1 → 8 ≤ s)) (hrt : rt < 16) (hsd : sd < 2) (hnb : nb < 100000) (hnt : nt < 100000) (h : ∀ m, ch_BY m 0 A → ch_H8 m a_men → post (nI (1 - sd), nI (ch_nrt rt s t), ch_epI (ch_nep sd s x), f_clock, nI (ch_nnb sd nb nt), f_lineLen, f_outLen, f_clockTop, nI nt, f_strict, f_textLen, f_newSide, f_newRights, f_newEp, f_newClock, f_newNumber, m, a_line, a_out, a_text, a_cut)) : wY_carryOut_99 post (nI s) (nI t) (ch_zI (8 * ch_fw sd)) (nI x) (nI sd) (nI rt) f_ep f_clock (nI nb) f_lineLen f_outLen f_clockTop (nI nt) f_strict f_textLen f_newSide f_newRights f_newEp f_newClock f_newNumber a_men a_line a_out a_text a_cut := by
  rw [← ch_r_n hrt] at h
  have y : (s = 4 ∨ s = 7 ∨ t = 4 ∨ t = 7) → wY_carryOut_121 post (nI s) (nI t) (ch_zI (8 * ch_fw sd)) (nI x) (nI sd) (nI rt) f_ep f_clock (nI nb) f_lineLen f_outLen f_clockTop (nI nt) f_strict f_textLen f_newSide f_newRights f_newEp f_newClock f_newNumber a_men a_line a_out a_text a_cut := by
    intro e
    have er : ch_r1 rt s t = rt - rt % 2 := by unfold ch_r1; rw [if_pos e]
    rw [er] at h
    exact nm_r (ch_rq1 rt hrt) (ch_y_co132 hA hs ht hx h3 (by omega) hsd hnb hnt h)
  refine pk_eq s 4 (fun e => y (Or.inl e)) (fun e1 => pk_eq s 7 (fun e => y (Or.inr (Or.inl e))) (fun e2 => pk_eq t 4 (fun e => y (Or.inr (Or.inr (Or.inl e)))) (fun e3 => pk_eq t 7 (fun e => y (Or.inr (Or.inr (Or.inr e)))) (fun e4 => ?_))))
  have er : ch_r1 rt s t = rt := by unfold ch_r1; rw [if_neg (by omega)]
  rw [er] at h
  exact ch_y_co132 hA hs ht hx h3 hrt hsd hnb hnt h
theorem ch_y_carryOut {post : SY → Prop} {B : Nat → Nat} {sd rt ep s t p x ck ct nb nt : Nat} (hB : ch_BY a_men 0 B) (hP : ch_POS B sd rt ep) (hs : s < 64) (ht : t < 64) (hp : p < 8) (hck : ck < 100000) (hct : ct < 100000) (hnb : nb < 100000) (hnt : nt < 100000) (hT : ch_TP B sd rt ep s t p x) (h : ∀ m, ch_BY m 0 (ch_AF B sd s t p x) → ch_H8 m a_men → post (nI (1 - sd), nI (ch_nrt rt s t), ch_epI (ch_nep sd s x), nI (ch_nck B s t x ck ct), nI (ch_nnb sd nb nt), f_lineLen, f_outLen, nI ct, nI nt, f_strict, f_textLen, f_newSide, f_newRights, f_newEp, f_newClock, f_newNumber, m, a_line, a_out, a_text, a_cut)) : wpY_carryOut post (nI sd, nI rt, ch_epI ep, nI ck, nI nb, f_lineLen, f_outLen, nI ct, nI nt, f_strict, f_textLen, f_newSide, f_newRights, f_newEp, f_newClock, f_newNumber, a_men, a_line, a_out, a_text, a_cut) (nI (512 * s + 8 * t + p)) := by
  obtain ⟨hV, hsd, hrt, hep, _, _, hpw, hR, hE, hA, hcn⟩ := hP
  have hvs := ch_VB_lt hV hs
  have r := ch_TP_r hT
  have h3 : x = 3 → ch_nep sd s x < 64 ∧ (sd = 1 → 8 ≤ s) := by
    intro e
    have hk : B s % 8 = 1 := by
      by_cases hk : B s % 8 = 1
      · exact hk
      · exact absurd e (ch_ep_n hT hk)
    have z := ch_ep_3 hsd hs ht hT hk
    have z2 := z.2 e
    have := hpw s hs hk
    exact ⟨by omega, by omega⟩
  have h29 : wY_carryOut_29 post (nI (512 * s + 8 * t + p)) (nI s) (nI t) (ch_zI (8 * ch_fw sd)) (nI sd) (nI rt) (ch_epI ep) (nI ck) (nI nb) f_lineLen f_outLen (nI ct) (nI nt) f_strict f_textLen f_newSide f_newRights f_newEp f_newClock f_newNumber a_men a_line a_out a_text a_cut := by
    unfold wY_carryOut_29
    refine ch_y_moveType hB hV hs ht hp hsd hrt hep (fun x' hT' => ?_) (fun w => absurd hT (w x))
    obtain rfl := ch_TP_u hE hs ht hsd hT' hT
    have fin : ∀ cf : Nat, ((cf = 1 ∧ (x' = 5 ∨ B t ≠ 0)) ∨ (cf = 0 ∧ ¬ (x' = 5 ∨ B t ≠ 0))) → wpY_makeAfter (fun u => match u with | (f_side, f_rights, f_ep, f_clock, f_number, f_lineLen, f_outLen, f_clockTop, f_numberTop, f_strict, f_textLen, f_newSide, f_newRights, f_newEp, f_newClock, f_newNumber, a_men, a_line, a_out, a_text, a_cut) => (vp_in (nI s) 256 ∧ (((((a_men (nI s).toNatClampNeg) &&& 7) = 1 → (wY_carryOut_70 post (nI s) (nI t) (ch_zI (8 * ch_fw sd)) (nI x') f_side f_rights f_ep f_clock f_number f_lineLen f_outLen f_clockTop f_numberTop f_strict f_textLen f_newSide f_newRights f_newEp f_newClock f_newNumber a_men a_line a_out a_text a_cut)) ∧ (¬ ((a_men (nI s).toNatClampNeg) &&& 7) = 1 → (((nI cf = 0 → (((f_clockTop ≤ f_clock → (wY_carryOut_99 post (nI s) (nI t) (ch_zI (8 * ch_fw sd)) (nI x') f_side f_rights f_ep f_clock f_number f_lineLen f_outLen f_clockTop f_numberTop f_strict f_textLen f_newSide f_newRights f_newEp f_newClock f_newNumber a_men a_line a_out a_text a_cut)) ∧ (¬ f_clockTop ≤ f_clock → (∀ f_clock_107 : Int32, f_clock_107 = f_clock + 1 → (wY_carryOut_99 post (nI s) (nI t) (ch_zI (8 * ch_fw sd)) (nI x') f_side f_rights f_ep f_clock_107 f_number f_lineLen f_outLen f_clockTop f_numberTop f_strict f_textLen f_newSide f_newRights f_newEp f_newClock f_newNumber a_men a_line a_out a_text a_cut)))))) ∧ (¬ nI cf = 0 → (wY_carryOut_70 post (nI s) (nI t) (ch_zI (8 * ch_fw sd)) (nI x') f_side f_rights f_ep f_clock f_number f_lineLen f_outLen f_clockTop f_numberTop f_strict f_textLen f_newSide f_newRights f_newEp f_newClock f_newNumber a_men a_line a_out a_text a_cut))))))))) (nI sd, nI rt, ch_epI ep, nI ck, nI nb, f_lineLen, f_outLen, nI ct, nI nt, f_strict, f_textLen, f_newSide, f_newRights, f_newEp, f_newClock, f_newNumber, a_men, a_line, a_out, a_text, a_cut) (nI (512 * s + 8 * t + p)) (nI x') := by
      intro cf hcf
      refine ch_y_makeAfter hB hV hE hs ht hp hsd hep hT' (fun m m1 m2 => ?_)
      have hm0 := ch_EQ6_B m1 hB
      have h8 : ∀ m', ch_H8 m' m → ch_H8 m' a_men := fun m' w i hi => (w i hi).trans (m1 i (by omega))
      have h' : ∀ m', ch_BY m' 0 (ch_AF B sd s t p x') → ch_H8 m' m → post (nI (1 - sd), nI (ch_nrt rt s t), ch_epI (ch_nep sd s x'), nI (ch_nck B s t x' ck ct), nI (ch_nnb sd nb nt), f_lineLen, f_outLen, nI ct, nI nt, f_strict, f_textLen, f_newSide, f_newRights, f_newEp, f_newClock, f_newNumber, m', a_line, a_out, a_text, a_cut) := fun m' a b => h m' a (h8 m' b)
      unfold ch_nck at h'
      have z70 : (B s % 8 = 1 ∨ x' = 5 ∨ B t ≠ 0) → wY_carryOut_70 post (nI s) (nI t) (ch_zI (8 * ch_fw sd)) (nI x') (nI sd) (nI rt) (ch_epI ep) (nI ck) (nI nb) f_lineLen f_outLen (nI ct) (nI nt) f_strict f_textLen f_newSide f_newRights f_newEp f_newClock f_newNumber m a_line a_out a_text a_cut := by
        intro e
        rw [if_pos e] at h'
        exact ch_y_co99 m2 hs ht (by omega) h3 hrt hsd hnb hnt h'
      refine ⟨vp_in_nI (by omega) (by omega), pk_eq (B s % 8) 1 (fun e => z70 (Or.inl e)) (fun e => pk_eq cf 0 (fun e2 => ?_) (fun e2 => z70 (Or.inr (by omega)))) (by rw [ch_by0 hm0 hs, ch_nI_a7 (by omega)]) rfl⟩
      rw [if_neg (by omega)] at h'
      refine pk_le ct ck (fun e3 => ?_) (fun e3 => nm_r (nI_1 ck) ?_)
      · rw [if_neg (by omega)] at h'
        exact ch_y_co99 m2 hs ht (by omega) h3 hrt hsd hnb hnt h'
      · rw [if_pos e3] at h'
        exact ch_y_co99 m2 hs ht (by omega) h3 hrt hsd hnb hnt h'
    exact ch_y_isCapture hB hV hE hs ht hp hsd hrt hep hT' (fun c => fin 1 (Or.inl ⟨rfl, c⟩)) (fun c => fin 0 (Or.inr ⟨rfl, c⟩))
  refine nm_r (e' := nI s) (by rw [ch_nI_r9 (by omega), ch_nI_a63 (by omega)]; congr 1; omega) (nm_r (e' := nI t) (by rw [ch_nI_r3 (by omega), ch_nI_a63 (by omega)]; congr 1; omega) (pk_eq sd 0 (fun e => ?_) (fun e => ?_)))
  · rw [show (8 * ch_fw sd : Int) = 8 from by unfold ch_fw; rw [if_pos e]; rfl] at h29
    exact h29
  · rw [show (8 * ch_fw sd : Int) = -8 from by unfold ch_fw; rw [if_neg e]; rfl] at h29
    exact h29
end
end
section
/-! check, status, the mark of a move -/
def ch_CK (B : Nat → Nat) (sd : Nat) : Prop := ∀ q, ch_K1 B sd q → ch_AT B q (1 - sd)
def ch_HL (B : Nat → Nat) (sd rt ep : Nat) : Prop := ∃ c, c < 32768 ∧ ch_LC B sd rt ep c
theorem ch_HL_LX {B : Nat → Nat} {sd rt ep kq : Nat} (hP : ch_POS B sd rt ep) (hK : ch_K1 B sd kq) : (∃ s t, s < 64 ∧ t < 64 ∧ ch_LX B sd rt ep kq s t) ↔ ch_HL B sd rt ep := by
  constructor
  · rintro ⟨s, t, hs, ht, h⟩
    obtain ⟨p, x, hp, hT, w⟩ := h
    exact ⟨512 * s + 8 * t + p, by omega, (ch_LC_LX hP hK hs ht hp).mpr ⟨⟨p, x, hp, hT, w⟩, ch_TP_p hT⟩⟩
  · rintro ⟨c, hc, h⟩
    have h2 : ch_LC B sd rt ep (512 * (c / 512) + 8 * (c / 8 % 64) + c % 8) := by rw [show 512 * (c / 512) + 8 * (c / 8 % 64) + c % 8 = c from by omega]; exact h
    exact ⟨c / 512, c / 8 % 64, by omega, by omega, ((ch_LC_LX hP hK (by omega) (by omega) (by omega)).mp h2).1⟩
theorem ch_HL_cn {B : Nat → Nat} {sd rt ep : Nat} : ch_HL B sd rt ep ↔ 0 < ch_cn (ch_LC B sd rt ep) 32768 := by
  constructor
  · rintro ⟨c, hc, h⟩
    have := ch_cn_lt2 hc h
    omega
  · intro h
    obtain ⟨c, hc, hp, _⟩ := ch_cn_sur h
    exact ⟨c, hc, hp⟩
section
variable {f_clockTop f_numberTop f_strict f_side f_rights f_passant f_clock f_number f_lineLen f_outLen f_moveTotal f_movesKnown f_savedSide f_savedRights f_savedPassant f_savedClock f_savedNumber f_spellLen f_at f_end f_writtenMark f_writtenCastling f_writtenPromotion f_writtenTarget f_writtenCapture f_writtenRank f_writtenFile f_writtenKind : Int32} {a_board a_line a_out a_moves a_savedBoard a_spell : Nat → Int32}
theorem ch_x_isInCheck {post : Int32 → Prop} {B : Nat → Nat} {sd rt ep : Nat} (hB : ch_BX a_board B) (hP : ch_POS B sd rt ep) (h1 : ch_CK B sd → post 1) (h0 : ¬ ch_CK B sd → post 0) : wpX_isInCheck post (f_clockTop, f_numberTop, f_strict, nI sd, nI rt, ch_epI ep, f_clock, f_number, f_lineLen, f_outLen, f_moveTotal, f_movesKnown, f_savedSide, f_savedRights, f_savedPassant, f_savedClock, f_savedNumber, f_spellLen, f_at, f_end, f_writtenMark, f_writtenCastling, f_writtenPromotion, f_writtenTarget, f_writtenCapture, f_writtenRank, f_writtenFile, f_writtenKind, a_board, a_line, a_out, a_moves, a_savedBoard, a_spell) := by
  have hP' := hP
  obtain ⟨hV, hsd, _⟩ := hP
  obtain ⟨kq, hK⟩ := ch_POS_K hP' hsd
  unfold wpX_isInCheck
  refine ch_x_kingSquare hB hV hsd hK ?_
  rw [ch_side_f sd hsd]
  exact ch_x_isAttacked hB hV hK.1 (by omega) (fun a => ⟨ch_nar1, h1 (fun q hq => by rw [ch_K1_u hq hK]; exact a)⟩) (fun a => ⟨ch_nar0, h0 (fun w => a (w kq hK))⟩)
theorem ch_x_save {post : SX → Prop} (h : ∀ sb, (∀ i, i < 64 → sb i = a_board i) → post (f_clockTop, f_numberTop, f_strict, f_side, f_rights, f_passant, f_clock, f_number, f_lineLen, f_outLen, f_moveTotal, f_movesKnown, f_side, f_rights, f_passant, f_clock, f_number, f_spellLen, f_at, f_end, f_writtenMark, f_writtenCastling, f_writtenPromotion, f_writtenTarget, f_writtenCapture, f_writtenRank, f_writtenFile, f_writtenKind, a_board, a_line, a_out, a_moves, sb, a_spell)) : wpX_save post (f_clockTop, f_numberTop, f_strict, f_side, f_rights, f_passant, f_clock, f_number, f_lineLen, f_outLen, f_moveTotal, f_movesKnown, f_savedSide, f_savedRights, f_savedPassant, f_savedClock, f_savedNumber, f_spellLen, f_at, f_end, f_writtenMark, f_writtenCastling, f_writtenPromotion, f_writtenTarget, f_writtenCapture, f_writtenRank, f_writtenFile, f_writtenKind, a_board, a_line, a_out, a_moves, a_savedBoard, a_spell) := by
  refine ⟨65, ?_⟩
  refine ch_fn (σ := Nat → Int32) (fun n m z => wX_save_2 post f_clockTop f_numberTop f_strict f_side f_rights f_passant f_clock f_number f_lineLen f_outLen f_moveTotal f_movesKnown f_savedSide f_savedRights f_savedPassant f_savedClock f_savedNumber f_spellLen f_at f_end f_writtenMark f_writtenCastling f_writtenPromotion f_writtenTarget f_writtenCapture f_writtenRank f_writtenFile f_writtenKind n z a_board a_line a_out a_moves m a_spell) (fun i m => ∀ j, j < i → m j = a_board j) 64 ?_ ?_ 64 0 a_savedBoard rfl (fun j hj => by omega)
  · intro n m ch_hm
    exact br_t (by decide) (h m ch_hm)
  · intro n i m hi ch_hm ih
    refine pk_le 64 i (fun e => by omega) (fun _ => ?_)
    rw [nI_clamp (n := i) (by omega)]
    refine ⟨vp_in_nI (by omega) (by omega), vp_in_nI (by omega) (by omega), nm_e (nm_r (nI_1 i) (ih _ (fun j hj => ?_)))⟩
    by_cases e : j = i
    · rw [ch_u_t e, e]
    · rw [ch_u_f e]; exact ch_hm j (by omega)
theorem ch_x_restore {post : SX → Prop} (h : ∀ ab, (∀ i, i < 64 → ab i = a_savedBoard i) → ch_HI ab a_board → post (f_clockTop, f_numberTop, f_strict, f_savedSide, f_savedRights, f_savedPassant, f_savedClock, f_savedNumber, f_lineLen, f_outLen, f_moveTotal, f_movesKnown, f_savedSide, f_savedRights, f_savedPassant, f_savedClock, f_savedNumber, f_spellLen, f_at, f_end, f_writtenMark, f_writtenCastling, f_writtenPromotion, f_writtenTarget, f_writtenCapture, f_writtenRank, f_writtenFile, f_writtenKind, ab, a_line, a_out, a_moves, a_savedBoard, a_spell)) : wpX_restore post (f_clockTop, f_numberTop, f_strict, f_side, f_rights, f_passant, f_clock, f_number, f_lineLen, f_outLen, f_moveTotal, f_movesKnown, f_savedSide, f_savedRights, f_savedPassant, f_savedClock, f_savedNumber, f_spellLen, f_at, f_end, f_writtenMark, f_writtenCastling, f_writtenPromotion, f_writtenTarget, f_writtenCapture, f_writtenRank, f_writtenFile, f_writtenKind, a_board, a_line, a_out, a_moves, a_savedBoard, a_spell) := by
  refine ⟨65, ?_⟩
  refine ch_fn (σ := Nat → Int32) (fun n m z => wX_restore_2 post f_clockTop f_numberTop f_strict f_side f_rights f_passant f_clock f_number f_lineLen f_outLen f_moveTotal f_movesKnown f_savedSide f_savedRights f_savedPassant f_savedClock f_savedNumber f_spellLen f_at f_end f_writtenMark f_writtenCastling f_writtenPromotion f_writtenTarget f_writtenCapture f_writtenRank f_writtenFile f_writtenKind n z m a_line a_out a_moves a_savedBoard a_spell) (fun i m => (∀ j, j < i → m j = a_savedBoard j) ∧ ch_HI m a_board) 64 ?_ ?_ 64 0 a_board rfl ⟨fun j hj => by omega, fun _ _ => rfl⟩
  · rintro n m ⟨ch_hm, hh⟩
    exact br_t (by decide) (h m ch_hm hh)
  · rintro n i m hi ⟨ch_hm, hh⟩ ih
    refine pk_le 64 i (fun e => by omega) (fun _ => ?_)
    rw [nI_clamp (n := i) (by omega)]
    refine ⟨vp_in_nI (by omega) (by omega), vp_in_nI (by omega) (by omega), nm_e (nm_r (nI_1 i) (ih _ ⟨fun j hj => ?_, fun j hj => ?_⟩))⟩
    · by_cases e : j = i
      · rw [ch_u_t e, e]
      · rw [ch_u_f e]; exact ch_hm j (by omega)
    · rw [ch_u_f (by omega)]; exact hh j hj
/-- the mark: 0, '+' or '#' -/
def ch_MK (B : Nat → Nat) (sd rt ep s t p x : Nat) (r : Int32) : Prop := (¬ ch_CK (ch_AF B sd s t p x) (1 - sd) ∧ r = 0) ∨ (ch_CK (ch_AF B sd s t p x) (1 - sd) ∧ ch_HL (ch_AF B sd s t p x) (1 - sd) (ch_nrt rt s t) (ch_nep sd s x) ∧ r = 43) ∨ (ch_CK (ch_AF B sd s t p x) (1 - sd) ∧ ¬ ch_HL (ch_AF B sd s t p x) (1 - sd) (ch_nrt rt s t) (ch_nep sd s x) ∧ r = 35)
theorem ch_MK_u {B : Nat → Nat} {sd rt ep s t p x : Nat} {r r' : Int32} (h : ch_MK B sd rt ep s t p x r) (h' : ch_MK B sd rt ep s t p x r') : r = r' := by
  rcases h with ⟨a, e⟩ | ⟨a, b, e⟩ | ⟨a, b, e⟩ <;> rcases h' with ⟨a', e'⟩ | ⟨a', b', e'⟩ | ⟨a', b', e'⟩
  · rw [e, e']
  · exact absurd a' a
  · exact absurd a' a
  · exact absurd a a'
  · rw [e, e']
  · exact absurd b b'
  · exact absurd a a'
  · exact absurd b' b
  · rw [e, e']
theorem ch_x_markOf {post : Int32 → SX → Prop} {B : Nat → Nat} {sd rt ep s t p x ck ct nb nt : Nat} (hB : ch_BX a_board B) (hP : ch_POS B sd rt ep) (hs : s < 64) (ht : t < 64) (hp : p < 8) (hck : ck < 100000) (hct : ct < 100000) (hnb : nb < 100000) (hnt : nt < 100000) (hT : ch_TP B sd rt ep s t p x) (hq : ∀ q, ch_K1 (ch_AF B sd s t p x) sd q → ¬ ch_AT (ch_AF B sd s t p x) q (1 - sd)) (h : ∀ r s1 s2 s3 s4 s5 sb, ch_MK B sd rt ep s t p x r → post r (nI ct, nI nt, f_strict, nI sd, nI rt, ch_epI ep, nI ck, nI nb, f_lineLen, f_outLen, f_moveTotal, f_movesKnown, s1, s2, s3, s4, s5, f_spellLen, f_at, f_end, f_writtenMark, f_writtenCastling, f_writtenPromotion, f_writtenTarget, f_writtenCapture, f_writtenRank, f_writtenFile, f_writtenKind, a_board, a_line, a_out, a_moves, sb, a_spell)) : wpX_markOf post (nI ct, nI nt, f_strict, nI sd, nI rt, ch_epI ep, nI ck, nI nb, f_lineLen, f_outLen, f_moveTotal, f_movesKnown, f_savedSide, f_savedRights, f_savedPassant, f_savedClock, f_savedNumber, f_spellLen, f_at, f_end, f_writtenMark, f_writtenCastling, f_writtenPromotion, f_writtenTarget, f_writtenCapture, f_writtenRank, f_writtenFile, f_writtenKind, a_board, a_line, a_out, a_moves, a_savedBoard, a_spell) (nI (512 * s + 8 * t + p)) := by
  have hPk := ch_POS_k hP hs ht hT hq
  have hsd : sd < 2 := hP.2.1
  obtain ⟨kq, hK⟩ := ch_POS_K hPk (c := 1 - sd) (by omega)
  have hHL := ch_HL_LX hPk hK
  unfold wpX_markOf
  refine ch_x_save (fun sb hsb => ?_)
  refine ch_x_advance hB hP hs ht hp hck hct hnb hnt hT (fun ab hab hhi => ?_)
  have back : ∀ r, ch_MK B sd rt ep s t p x r → wX_markOf_33 post r (nI ct) (nI nt) f_strict (nI (1 - sd)) (nI (ch_nrt rt s t)) (ch_epI (ch_nep sd s x)) (nI (ch_nck B s t x ck ct)) (nI (ch_nnb sd nb nt)) f_lineLen f_outLen f_moveTotal f_movesKnown (nI sd) (nI rt) (ch_epI ep) (nI ck) (nI nb) f_spellLen f_at f_end f_writtenMark f_writtenCastling f_writtenPromotion f_writtenTarget f_writtenCapture f_writtenRank f_writtenFile f_writtenKind ab a_line a_out a_moves sb a_spell := by
    intro r hr
    unfold wX_markOf_33
    refine ch_x_restore (fun ab2 h1 h2 => ?_)
    have e : ab2 = a_board := by
      funext i
      by_cases hi : i < 64
      · rw [h1 i hi, hsb i hi]
      · rw [h2 i (by omega), hhi i (by omega)]
    rw [e]
    exact h r _ _ _ _ _ sb hr
  refine ch_x_isInCheck hab hPk (fun c => br_f (by decide) ?_) (fun c => br_t rfl (back 0 (Or.inl ⟨c, rfl⟩)))
  refine ch_x_hasLegalMove hab hPk hK (fun w => br_f (by decide) (back 43 (Or.inr (Or.inl ⟨c, hHL.mp w, rfl⟩)))) (fun w => br_t rfl (back 35 (Or.inr (Or.inr ⟨c, fun z => w (hHL.mpr z), rfl⟩))))
end
section
variable {f_side f_rights f_ep f_clock f_number f_lineLen f_outLen f_clockTop f_numberTop f_strict f_textLen f_newSide f_newRights f_newEp f_newClock f_newNumber : Int32} {a_men a_line a_out a_text a_cut : Nat → Int32}
/-- the reference's status -/
def ch_ST (B : Nat → Nat) (sd rt ep : Nat) (r : Int32) : Prop := (ch_CK B sd ∧ ch_HL B sd rt ep ∧ r = 1) ∨ (ch_CK B sd ∧ ¬ ch_HL B sd rt ep ∧ r = 2) ∨ (¬ ch_CK B sd ∧ ch_HL B sd rt ep ∧ r = 0) ∨ (¬ ch_CK B sd ∧ ¬ ch_HL B sd rt ep ∧ r = 3)
theorem ch_y_status {post : Int32 → SY → Prop} {B : Nat → Nat} {sd rt ep : Nat} (hB : ch_BY a_men 0 B) (hP : ch_POS B sd rt ep) (h : ∀ r m, ch_EQ6 m a_men → ch_ST B sd rt ep r → post r (nI sd, nI rt, ch_epI ep, f_clock, f_number, f_lineLen, f_outLen, f_clockTop, f_numberTop, f_strict, f_textLen, f_newSide, f_newRights, f_newEp, f_newClock, f_newNumber, m, a_line, a_out, a_text, a_cut)) : wpY_status post (nI sd, nI rt, ch_epI ep, f_clock, f_number, f_lineLen, f_outLen, f_clockTop, f_numberTop, f_strict, f_textLen, f_newSide, f_newRights, f_newEp, f_newClock, f_newNumber, a_men, a_line, a_out, a_text, a_cut) := by
  have hP' := hP
  obtain ⟨hV, hsd, _⟩ := hP
  obtain ⟨kq, hK⟩ := ch_POS_K hP' hsd
  have main : ∀ cf : Nat, ((cf = 1 ∧ ch_CK B sd) ∨ (cf = 0 ∧ ¬ ch_CK B sd)) → ∃ n, wY_status_28 post (nI cf) n 0 0 (nI sd) (nI rt) (ch_epI ep) f_clock f_number f_lineLen f_outLen f_clockTop f_numberTop f_strict f_textLen f_newSide f_newRights f_newEp f_newClock f_newNumber a_men a_line a_out a_text a_cut := by
    intro cf hcf
    refine ⟨32769 + 1, ?_⟩
    have fin : ∀ (lf : Nat) (m : Nat → Int32), ch_EQ6 m a_men → ((lf = 1 ∧ ch_HL B sd rt ep) ∨ (lf = 0 ∧ ¬ ch_HL B sd rt ep)) → wY_status_52 post (nI cf) (nI lf) (nI sd) (nI rt) (ch_epI ep) f_clock f_number f_lineLen f_outLen f_clockTop f_numberTop f_strict f_textLen f_newSide f_newRights f_newEp f_newClock f_newNumber m a_line a_out a_text a_cut := by
      intro lf m ch_hm hlf
      rcases hcf with ⟨rfl, c⟩ | ⟨rfl, c⟩ <;> rcases hlf with ⟨rfl, l⟩ | ⟨rfl, l⟩
      · exact br_f (by decide) (br_f (by decide) (h 1 m ch_hm (Or.inl ⟨c, l, rfl⟩)))
      · exact br_f (by decide) (br_t rfl (h 2 m ch_hm (Or.inr (Or.inl ⟨c, l, rfl⟩))))
      · exact br_t rfl (br_f (by decide) (h 0 m ch_hm (Or.inr (Or.inr (Or.inl ⟨c, l, rfl⟩)))))
      · exact br_t rfl (br_t rfl (h 3 m ch_hm (Or.inr (Or.inr (Or.inr ⟨c, l, rfl⟩)))))
    refine ch_fn (σ := (Nat → Int32) × Nat) (fun n q z => wY_status_28 post (nI cf) (n + 1) (nI q.2) z (nI sd) (nI rt) (ch_epI ep) f_clock f_number f_lineLen f_outLen f_clockTop f_numberTop f_strict f_textLen f_newSide f_newRights f_newEp f_newClock f_newNumber q.1 a_line a_out a_text a_cut) (fun i q => ch_EQ6 q.1 a_men ∧ ((q.2 = 1 ∧ ch_HL B sd rt ep) ∨ (q.2 = 0 ∧ ¬ ∃ c, c < i ∧ ch_LC B sd rt ep c))) 32768 ?_ ?_ 32768 0 (a_men, 0) rfl ⟨ch_EQ6_r, Or.inr ⟨rfl, ?_⟩⟩
    · rintro n ⟨m, lf⟩ ⟨ch_hm, hl⟩
      refine br_t (by decide) (fin lf m ch_hm ?_)
      rcases hl with hl | ⟨e, hl⟩
      · exact Or.inl hl
      · exact Or.inr ⟨e, fun ⟨c, hc, w⟩ => hl ⟨c, hc, w⟩⟩
    · rintro n i ⟨m, lf⟩ hi ⟨ch_hm, hl⟩ ih
      refine pk_le 32768 i (fun e => by omega) (fun _ => ?_)
      rcases hl with ⟨e, hl⟩ | ⟨e, hl⟩
      · dsimp only at e
        subst e
        exact br_f (show ¬ nI 1 = 0 by decide) (fin 1 m ch_hm (Or.inl ⟨rfl, hl⟩))
      · dsimp only at e
        subst e
        refine br_t rfl (ch_y_isLegalc (ch_EQ6_B ch_hm hB) hP' hi (fun w m' hm' => nm_r (nI_1 i) ?_) (fun w m' hm' => nm_r (nI_1 i) ?_))
        · exact ih (m', 1) ⟨ch_EQ6_t hm' ch_hm, Or.inl ⟨rfl, i, hi, w⟩⟩
        · refine ih (m', 0) ⟨ch_EQ6_t hm' ch_hm, Or.inr ⟨rfl, ?_⟩⟩
          rintro ⟨c, hc, y⟩
          by_cases e : c = i
          · subst e; exact w y
          · exact hl ⟨c, by omega, y⟩
    · rintro ⟨c, hc, _⟩
      omega
  unfold wpY_status
  refine ch_y_findKing (bs := 0) hB (by omega) hV hsd hK ?_
  rw [ch_side_f sd hsd]
  exact ch_y_attackedOn (bs := 0) hB (by omega) hV hK.1 (by omega) (fun a => main 1 (Or.inl ⟨rfl, fun q hq => by rw [ch_K1_u hq hK]; exact a⟩)) (fun a => main 0 (Or.inr ⟨rfl, fun w => a (w kq hK)⟩))
theorem ch_i128 (k : Nat) : (128 : Int32) + nI k = nI (128 + k) := nI_add 128 k
theorem ch_y_markOf {post : Int32 → SY → Prop} {B : Nat → Nat} {sd rt ep s t p x ck ct nb nt : Nat} (hB : ch_BY a_men 0 B) (hP : ch_POS B sd rt ep) (hs : s < 64) (ht : t < 64) (hp : p < 8) (hck : ck < 100000) (hct : ct < 100000) (hnb : nb < 100000) (hnt : nt < 100000) (hT : ch_TP B sd rt ep s t p x) (hq : ∀ q, ch_K1 (ch_AF B sd s t p x) sd q → ¬ ch_AT (ch_AF B sd s t p x) q (1 - sd)) (h : ∀ r m, ch_BY m 0 B → ch_MK B sd rt ep s t p x r → post r (nI sd, nI rt, ch_epI ep, nI ck, nI nb, f_lineLen, f_outLen, nI ct, nI nt, f_strict, f_textLen, f_newSide, f_newRights, f_newEp, f_newClock, f_newNumber, m, a_line, a_out, a_text, a_cut)) : wpY_markOf post (nI sd, nI rt, ch_epI ep, nI ck, nI nb, f_lineLen, f_outLen, nI ct, nI nt, f_strict, f_textLen, f_newSide, f_newRights, f_newEp, f_newClock, f_newNumber, a_men, a_line, a_out, a_text, a_cut) (nI (512 * s + 8 * t + p)) := by
  have hPk := ch_POS_k hP hs ht hT hq
  have hsd : sd < 2 := hP.2.1
  refine ⟨65, ?_⟩
  refine ch_fn (σ := Nat → Int32) (fun n m z => wY_markOf_2 post (nI (512 * s + 8 * t + p)) (nI sd) (nI rt) (ch_epI ep) (nI ck) (nI nb) f_lineLen f_outLen (nI ct) (nI nt) f_strict f_textLen f_newSide f_newRights f_newEp f_newClock f_newNumber n z m a_line a_out a_text a_cut) (fun i m => ch_BY m 0 B ∧ ∀ j, j < i → m (128 + j) = nI (B j)) 64 ?_ ?_ 64 0 a_men rfl ⟨hB, fun j hj => by omega⟩
  · rintro n m ⟨m1, m2⟩
    refine br_t (by decide) (ch_y_carryOut m1 hP hs ht hp hck hct hnb hnt hT (fun m' a1 a2 => ?_))
    refine ch_y_status a1 hPk (fun r m3 e3 hst => ⟨65, ?_⟩)
    have keep : ∀ j, j < 64 → m3 (128 + j) = nI (B j) := fun j hj => by rw [e3 _ (by omega), a2 _ (by omega)]; exact m2 j hj
    refine ch_fn (σ := Nat → Int32) (fun n m z => wY_markOf_72 post (nI sd) (nI rt) (ch_epI ep) (nI ck) (nI nb) r (nI (1 - sd)) (nI (ch_nrt rt s t)) (ch_epI (ch_nep sd s x)) (nI (ch_nck B s t x ck ct)) (nI (ch_nnb sd nb nt)) f_lineLen f_outLen (nI ct) (nI nt) f_strict f_textLen f_newSide f_newRights f_newEp f_newClock f_newNumber n z m a_line a_out a_text a_cut) (fun i m => (∀ j, j < i → m j = nI (B j)) ∧ ∀ j, j < 64 → m (128 + j) = nI (B j)) 64 ?_ ?_ 64 0 m3 rfl ⟨fun j hj => by omega, keep⟩
    · rintro n m4 ⟨b1, _⟩
      have hB4 : ch_BY m4 0 B := fun i hi => by rw [Nat.zero_add]; exact b1 i hi
      rcases hst with ⟨c, l, rfl⟩ | ⟨c, l, rfl⟩ | ⟨c, l, rfl⟩ | ⟨c, l, rfl⟩
      · exact br_t (by decide) (br_f (by decide) (br_t rfl (h 43 m4 hB4 (Or.inr (Or.inl ⟨c, l, rfl⟩)))))
      · exact br_t (by decide) (br_t rfl (h 35 m4 hB4 (Or.inr (Or.inr ⟨c, l, rfl⟩))))
      · exact br_t (by decide) (br_f (by decide) (br_f (by decide) (h 0 m4 hB4 (Or.inl ⟨c, rfl⟩))))
      · exact br_t (by decide) (br_f (by decide) (br_f (by decide) (h 0 m4 hB4 (Or.inl ⟨c, rfl⟩))))
    · rintro n i m4 hi ⟨b1, b2⟩ ih
      refine pk_le 64 i (fun e => by omega) (fun _ => ?_)
      rw [ch_i128, nI_clamp (n := 128 + i) (by omega), nI_clamp (n := i) (by omega)]
      refine ⟨vp_in_nI (by omega) (by omega), vp_in_nI (by omega) (by omega), nm_e (nm_r (nI_1 i) (ih _ ⟨fun j hj => ?_, fun j hj => ?_⟩))⟩
      · by_cases e : j = i
        · rw [ch_u_t e, b2 i hi, e]
        · rw [ch_u_f e]; exact b1 j (by omega)
      · rw [ch_u_f (by omega)]; exact b2 j hj
  · rintro n i m hi ⟨m1, m2⟩ ih
    refine pk_le 64 i (fun e => by omega) (fun _ => ?_)
    rw [ch_i128, nI_clamp (n := 128 + i) (by omega), nI_clamp (n := i) (by omega)]
    refine ⟨vp_in_nI (by omega) (by omega), vp_in_nI (by omega) (by omega), nm_e (nm_r (nI_1 i) (ih _ ⟨fun j hj => ?_, fun j hj => ?_⟩))⟩
    · rw [ch_u_f (by omega)]; exact m1 j hj
    · by_cases e : j = i
      · rw [ch_u_t (by omega), e]; have := m1 i hi; rw [Nat.zero_add] at this; exact this
      · rw [ch_u_f (by omega)]; exact m2 j (by omega)
end
end
section
/-! the calls about legal moves, side by side -/
theorem ch_cd_c {c : Nat} (h : c < 32768) : 512 * (c / 512) + 8 * (c / 8 % 64) + c % 8 = c := by omega
section
variable {f_clockTop f_numberTop f_strict f_side f_rights f_passant f_clock f_number f_lineLen f_outLen f_moveTotal f_movesKnown f_savedSide f_savedRights f_savedPassant f_savedClock f_savedNumber f_spellLen f_at f_end f_writtenMark f_writtenCastling f_writtenPromotion f_writtenTarget f_writtenCapture f_writtenRank f_writtenFile f_writtenKind : Int32} {a_board a_line a_out a_moves a_savedBoard a_spell : Nat → Int32}

theorem ch_x_isLegal {post : Int32 → SX → Prop} {B : Nat → Nat} {sd rt ep : Nat} {w : Int32} (hB : ch_BX a_board B) (hP : ch_POS B sd rt ep) (hC : ch_CA B sd rt ep f_movesKnown f_moveTotal a_moves) (h1 : ∀ c mv, c < 32768 → ch_LC B sd rt ep c → w = nI c → ch_CM B sd rt ep mv 32768 → post 1 (f_clockTop, f_numberTop, f_strict, nI sd, nI rt, ch_epI ep, f_clock, f_number, f_lineLen, f_outLen, nI (ch_cn (ch_LC B sd rt ep) 32768), 1, f_savedSide, f_savedRights, f_savedPassant, f_savedClock, f_savedNumber, f_spellLen, f_at, f_end, f_writtenMark, f_writtenCastling, f_writtenPromotion, f_writtenTarget, f_writtenCapture, f_writtenRank, f_writtenFile, f_writtenKind, a_board, a_line, a_out, mv, a_savedBoard, a_spell)) (h0 : (∀ c, c < 32768 → ch_LC B sd rt ep c → w ≠ nI c) → ∀ mv, ch_CM B sd rt ep mv 32768 → post 0 (f_clockTop, f_numberTop, f_strict, nI sd, nI rt, ch_epI ep, f_clock, f_number, f_lineLen, f_outLen, nI (ch_cn (ch_LC B sd rt ep) 32768), 1, f_savedSide, f_savedRights, f_savedPassant, f_savedClock, f_savedNumber, f_spellLen, f_at, f_end, f_writtenMark, f_writtenCastling, f_writtenPromotion, f_writtenTarget, f_writtenCapture, f_writtenRank, f_writtenFile, f_writtenKind, a_board, a_line, a_out, mv, a_savedBoard, a_spell)) : wpX_isLegal post (f_clockTop, f_numberTop, f_strict, nI sd, nI rt, ch_epI ep, f_clock, f_number, f_lineLen, f_outLen, f_moveTotal, f_movesKnown, f_savedSide, f_savedRights, f_savedPassant, f_savedClock, f_savedNumber, f_spellLen, f_at, f_end, f_writtenMark, f_writtenCastling, f_writtenPromotion, f_writtenTarget, f_writtenCapture, f_writtenRank, f_writtenFile, f_writtenKind, a_board, a_line, a_out, a_moves, a_savedBoard, a_spell) w := by
  unfold wpX_isLegal
  refine ch_x_ensureMoves hB hP hC (fun mv ch_hm => ⟨ch_cn (ch_LC B sd rt ep) 32768 + 1, ?_⟩)
  have h512 := ch_LC_512 hP
  generalize hN : ch_cn (ch_LC B sd rt ep) 32768 = N at *
  refine ch_fn (σ := Unit) (fun n _ z => wX_isLegal_6 post w f_clockTop f_numberTop f_strict (nI sd) (nI rt) (ch_epI ep) f_clock f_number f_lineLen f_outLen (nI N) 1 f_savedSide f_savedRights f_savedPassant f_savedClock f_savedNumber f_spellLen f_at f_end f_writtenMark f_writtenCastling f_writtenPromotion f_writtenTarget f_writtenCapture f_writtenRank f_writtenFile f_writtenKind a_board a_line a_out mv a_savedBoard a_spell n z) (fun i _ => ∀ c, c < 32768 → ch_LC B sd rt ep c → ch_cn (ch_LC B sd rt ep) c < i → w ≠ nI c) N ?_ ?_ N 0 () (by omega) (fun c _ _ z => by omega)
  · intro n _ hn
    exact br_t (Int32.le_refl _) (h0 (fun c hc hl => hn c hc hl (by rw [← hN]; exact ch_cn_lt2 hc hl)) mv ch_hm)
  · intro n i _ hi hn ih
    obtain ⟨c, hc, hl, hcn⟩ := ch_cn_sur (show i < ch_cn (ch_LC B sd rt ep) 32768 by rw [hN]; exact hi)
    have em : mv (nI i).toNatClampNeg = nI c := by rw [nI_clamp (by omega), ← hcn]; exact ch_hm c hc hl
    refine br_f (nI_ge hi (by omega)) ⟨vp_in_nI (by omega) (by omega), ?_⟩
    rw [em]
    refine br_c (fun e => h1 c mv hc hl e.symm ch_hm) (fun e => nm_r (nI_1 i) (ih () (fun d hd hld hdi => ?_)))
    by_cases z : ch_cn (ch_LC B sd rt ep) d < i
    · exact hn d hd hld z
    · have : d = c := ch_cn_inj hld hl (by omega)
      subst this
      exact fun y => e y.symm
theorem ch_x_status {post : Int32 → SX → Prop} {B : Nat → Nat} {sd rt ep : Nat} (hB : ch_BX a_board B) (hP : ch_POS B sd rt ep) (hC : ch_CA B sd rt ep f_movesKnown f_moveTotal a_moves) (h : ∀ r mv, ch_CM B sd rt ep mv 32768 → ch_ST B sd rt ep r → post r (f_clockTop, f_numberTop, f_strict, nI sd, nI rt, ch_epI ep, f_clock, f_number, f_lineLen, f_outLen, nI (ch_cn (ch_LC B sd rt ep) 32768), 1, f_savedSide, f_savedRights, f_savedPassant, f_savedClock, f_savedNumber, f_spellLen, f_at, f_end, f_writtenMark, f_writtenCastling, f_writtenPromotion, f_writtenTarget, f_writtenCapture, f_writtenRank, f_writtenFile, f_writtenKind, a_board, a_line, a_out, mv, a_savedBoard, a_spell)) : wpX_status post (f_clockTop, f_numberTop, f_strict, nI sd, nI rt, ch_epI ep, f_clock, f_number, f_lineLen, f_outLen, f_moveTotal, f_movesKnown, f_savedSide, f_savedRights, f_savedPassant, f_savedClock, f_savedNumber, f_spellLen, f_at, f_end, f_writtenMark, f_writtenCastling, f_writtenPromotion, f_writtenTarget, f_writtenCapture, f_writtenRank, f_writtenFile, f_writtenKind, a_board, a_line, a_out, a_moves, a_savedBoard, a_spell) := by
  unfold wpX_status
  refine ch_x_ensureMoves hB hP hC (fun mv ch_hm => ?_)
  have h512 := ch_LC_512 hP
  have hl := @ch_HL_cn B sd rt ep
  refine ch_x_isInCheck hB hP (fun c => ?_) (fun c => ?_)
  · refine pk_le (ch_cn (ch_LC B sd rt ep) 32768) 0 (fun e => br_f (by decide) (h 2 mv ch_hm (Or.inr (Or.inl ⟨c, fun w => ?_, rfl⟩)))) (fun e => br_f (by decide) (h 1 mv ch_hm (Or.inl ⟨c, hl.mpr e, rfl⟩)))
    have := hl.mp w; omega
  · refine pk_le (ch_cn (ch_LC B sd rt ep) 32768) 0 (fun e => br_t rfl (h 3 mv ch_hm (Or.inr (Or.inr (Or.inr ⟨c, fun w => ?_, rfl⟩))))) (fun e => br_t rfl (h 0 mv ch_hm (Or.inr (Or.inr (Or.inl ⟨c, hl.mpr e, rfl⟩)))))
    have := hl.mp w; omega
theorem ch_x_moveAt {post : Int32 → SX → Prop} {B : Nat → Nat} {sd rt ep : Nat} {w : Int32} (hB : ch_BX a_board B) (hP : ch_POS B sd rt ep) (hC : ch_CA B sd rt ep f_movesKnown f_moveTotal a_moves) (h1 : ∀ c mv, c < 32768 → ch_LC B sd rt ep c → w = nI (ch_cn (ch_LC B sd rt ep) c) → ch_CM B sd rt ep mv 32768 → post (nI c) (f_clockTop, f_numberTop, f_strict, nI sd, nI rt, ch_epI ep, f_clock, f_number, f_lineLen, f_outLen, nI (ch_cn (ch_LC B sd rt ep) 32768), 1, f_savedSide, f_savedRights, f_savedPassant, f_savedClock, f_savedNumber, f_spellLen, f_at, f_end, f_writtenMark, f_writtenCastling, f_writtenPromotion, f_writtenTarget, f_writtenCapture, f_writtenRank, f_writtenFile, f_writtenKind, a_board, a_line, a_out, mv, a_savedBoard, a_spell)) (h0 : (w < 0 ∨ nI (ch_cn (ch_LC B sd rt ep) 32768) ≤ w) → ∀ mv, ch_CM B sd rt ep mv 32768 → post (-1) (f_clockTop, f_numberTop, f_strict, nI sd, nI rt, ch_epI ep, f_clock, f_number, f_lineLen, f_outLen, nI (ch_cn (ch_LC B sd rt ep) 32768), 1, f_savedSide, f_savedRights, f_savedPassant, f_savedClock, f_savedNumber, f_spellLen, f_at, f_end, f_writtenMark, f_writtenCastling, f_writtenPromotion, f_writtenTarget, f_writtenCapture, f_writtenRank, f_writtenFile, f_writtenKind, a_board, a_line, a_out, mv, a_savedBoard, a_spell)) : wpX_moveAt post (f_clockTop, f_numberTop, f_strict, nI sd, nI rt, ch_epI ep, f_clock, f_number, f_lineLen, f_outLen, f_moveTotal, f_movesKnown, f_savedSide, f_savedRights, f_savedPassant, f_savedClock, f_savedNumber, f_spellLen, f_at, f_end, f_writtenMark, f_writtenCastling, f_writtenPromotion, f_writtenTarget, f_writtenCapture, f_writtenRank, f_writtenFile, f_writtenKind, a_board, a_line, a_out, a_moves, a_savedBoard, a_spell) w := by
  unfold wpX_moveAt
  refine ch_x_ensureMoves hB hP hC (fun mv ch_hm => ?_)
  have h512 := ch_LC_512 hP
  refine br_c (fun c => h0 (Or.inl c) mv ch_hm) (fun c => br_c (fun c2 => ?_) (fun c2 => h0 (Or.inr (Int32.not_lt.mp c2)) mv ch_hm))
  obtain ⟨j, hj, rfl⟩ := nI_of c
  have hjn : j < ch_cn (ch_LC B sd rt ep) 32768 := (nI_ltI hj (by omega)).mp c2
  obtain ⟨d, hd, hl, hcn⟩ := ch_cn_sur hjn
  have em : mv (nI j).toNatClampNeg = nI d := by rw [nI_clamp (by omega), ← hcn]; exact ch_hm d hd hl
  refine ⟨vp_in_nI (by omega) (by omega), ?_⟩
  rw [em]
  exact h1 d mv hd hl (by rw [hcn]) ch_hm
end
section
variable {f_side f_rights f_ep f_clock f_number f_lineLen f_outLen f_clockTop f_numberTop f_strict f_textLen f_newSide f_newRights f_newEp f_newClock f_newNumber : Int32} {a_men a_line a_out a_text a_cut : Nat → Int32}
theorem ch_y_isLegal_w {post : Int32 → SY → Prop} {B : Nat → Nat} {sd rt ep : Nat} {w : Int32} (hB : ch_BY a_men 0 B) (hP : ch_POS B sd rt ep) (h1 : ∀ c, c < 32768 → ch_LC B sd rt ep c → w = nI c → ∀ m, ch_EQ6 m a_men → post 1 (nI sd, nI rt, ch_epI ep, f_clock, f_number, f_lineLen, f_outLen, f_clockTop, f_numberTop, f_strict, f_textLen, f_newSide, f_newRights, f_newEp, f_newClock, f_newNumber, m, a_line, a_out, a_text, a_cut)) (h0 : (∀ c, c < 32768 → ch_LC B sd rt ep c → w ≠ nI c) → ∀ m, ch_EQ6 m a_men → post 0 (nI sd, nI rt, ch_epI ep, f_clock, f_number, f_lineLen, f_outLen, f_clockTop, f_numberTop, f_strict, f_textLen, f_newSide, f_newRights, f_newEp, f_newClock, f_newNumber, m, a_line, a_out, a_text, a_cut)) : wpY_isLegal post (nI sd, nI rt, ch_epI ep, f_clock, f_number, f_lineLen, f_outLen, f_clockTop, f_numberTop, f_strict, f_textLen, f_newSide, f_newRights, f_newEp, f_newClock, f_newNumber, a_men, a_line, a_out, a_text, a_cut) w := by
  by_cases c0 : w < 0
  · refine ch_y_isLegal_x (Or.inl c0) (h0 (fun c hc _ e => ?_) _ ch_EQ6_r)
    rw [e] at c0
    exact nI_pos (by omega) c0
  · obtain ⟨j, hj, rfl⟩ := nI_of c0
    by_cases hj2 : j < 32768
    · refine ch_y_isLegalc hB hP hj2 (fun l m ch_hm => h1 j hj2 l rfl m ch_hm) (fun l m ch_hm => h0 (fun c hc hl e => ?_) m ch_hm)
      have : j = c := (nI_eq hj (by omega)).mp e
      subst this
      exact l hl
    · refine ch_y_isLegal_x (Or.inr (nI_lt (a := 32767) (by omega) hj)) (h0 (fun c hc _ e => ?_) _ ch_EQ6_r)
      have : j = c := (nI_eq hj (by omega)).mp e
      omega
theorem ch_y_moveCount {post : Int32 → SY → Prop} {B : Nat → Nat} {sd rt ep : Nat} (hB : ch_BY a_men 0 B) (hP : ch_POS B sd rt ep) (h : ∀ m, ch_EQ6 m a_men → post (nI (ch_cn (ch_LC B sd rt ep) 32768)) (nI sd, nI rt, ch_epI ep, f_clock, f_number, f_lineLen, f_outLen, f_clockTop, f_numberTop, f_strict, f_textLen, f_newSide, f_newRights, f_newEp, f_newClock, f_newNumber, m, a_line, a_out, a_text, a_cut)) : wpY_moveCount post (nI sd, nI rt, ch_epI ep, f_clock, f_number, f_lineLen, f_outLen, f_clockTop, f_numberTop, f_strict, f_textLen, f_newSide, f_newRights, f_newEp, f_newClock, f_newNumber, a_men, a_line, a_out, a_text, a_cut) := by
  refine ⟨32768 + 1, ?_⟩
  refine ch_fn (σ := (Nat → Int32) × Nat) (fun n q z => wY_moveCount_4 post n (nI q.2) z (nI sd) (nI rt) (ch_epI ep) f_clock f_number f_lineLen f_outLen f_clockTop f_numberTop f_strict f_textLen f_newSide f_newRights f_newEp f_newClock f_newNumber q.1 a_line a_out a_text a_cut) (fun i q => ch_EQ6 q.1 a_men ∧ q.2 = ch_cn (ch_LC B sd rt ep) i) 32768 ?_ ?_ 32768 0 (a_men, 0) rfl ⟨ch_EQ6_r, rfl⟩
  · rintro n ⟨m, q⟩ ⟨ch_hm, e⟩
    dsimp only at ch_hm e ⊢
    rw [e]
    exact br_t (by decide) (h m ch_hm)
  · rintro n i ⟨m, q⟩ hi ⟨ch_hm, e⟩ ih
    dsimp only at ch_hm e ⊢
    rw [e]
    refine pk_le 32768 i (fun e => by omega) (fun _ => ch_y_isLegalc (ch_EQ6_B ch_hm hB) hP hi (fun l m' hm' => br_f (by decide) (nm_r (nI_1 _) (nm_r (nI_1 i) ?_))) (fun l m' hm' => br_t rfl (nm_r (nI_1 i) ?_)))
    · exact ih (m', ch_cn (ch_LC B sd rt ep) i + 1) ⟨ch_EQ6_t hm' ch_hm, by rw [ch_cn_s, ch_b01_t l]⟩
    · exact ih (m', ch_cn (ch_LC B sd rt ep) i) ⟨ch_EQ6_t hm' ch_hm, by rw [ch_cn_s, ch_b01_f l]; rfl⟩
theorem ch_y_moveAt {post : Int32 → SY → Prop} {B : Nat → Nat} {sd rt ep : Nat} {w : Int32} (hB : ch_BY a_men 0 B) (hP : ch_POS B sd rt ep) (h1 : ∀ c, c < 32768 → ch_LC B sd rt ep c → w = nI (ch_cn (ch_LC B sd rt ep) c) → ∀ m, ch_EQ6 m a_men → post (nI c) (nI sd, nI rt, ch_epI ep, f_clock, f_number, f_lineLen, f_outLen, f_clockTop, f_numberTop, f_strict, f_textLen, f_newSide, f_newRights, f_newEp, f_newClock, f_newNumber, m, a_line, a_out, a_text, a_cut)) (h0 : (w < 0 ∨ nI (ch_cn (ch_LC B sd rt ep) 32768) ≤ w) → ∀ m, ch_EQ6 m a_men → post (-1) (nI sd, nI rt, ch_epI ep, f_clock, f_number, f_lineLen, f_outLen, f_clockTop, f_numberTop, f_strict, f_textLen, f_newSide, f_newRights, f_newEp, f_newClock, f_newNumber, m, a_line, a_out, a_text, a_cut)) : wpY_moveAt post (nI sd, nI rt, ch_epI ep, f_clock, f_number, f_lineLen, f_outLen, f_clockTop, f_numberTop, f_strict, f_textLen, f_newSide, f_newRights, f_newEp, f_newClock, f_newNumber, a_men, a_line, a_out, a_text, a_cut) w := by
  have h512 := ch_LC_512 hP
  refine br_c (fun c => ⟨32768 + 1, ?_⟩) (fun c => h0 (Or.inl (Int32.not_le.mp c)) _ ch_EQ6_r)
  obtain ⟨j, hj, rfl⟩ := nI_of (Int32.not_lt.mpr c)
  refine ch_fn (σ := (Nat → Int32) × Nat) (fun n q z => wY_moveAt_10 post (nI j) n (nI q.2) z (nI sd) (nI rt) (ch_epI ep) f_clock f_number f_lineLen f_outLen f_clockTop f_numberTop f_strict f_textLen f_newSide f_newRights f_newEp f_newClock f_newNumber q.1 a_line a_out a_text a_cut) (fun i q => ch_EQ6 q.1 a_men ∧ q.2 = ch_cn (ch_LC B sd rt ep) i ∧ ch_cn (ch_LC B sd rt ep) i ≤ j) 32768 ?_ ?_ 32768 0 (a_men, 0) rfl ⟨ch_EQ6_r, rfl, by simp only [ch_cn]; omega⟩
  · rintro n ⟨m, q⟩ ⟨ch_hm, _, e⟩
    exact br_t (by decide) (h0 (Or.inr (nI_le e hj)) m ch_hm)
  · rintro n i ⟨m, q⟩ hi ⟨ch_hm, e, hle⟩ ih
    dsimp only at ch_hm e ⊢
    rw [e]
    have hlt : ch_cn (ch_LC B sd rt ep) i ≤ 512 := Nat.le_trans (ch_cn_le2 (by omega)) h512
    refine pk_le 32768 i (fun e => by omega) (fun _ => ch_y_isLegalc (ch_EQ6_B ch_hm hB) hP hi (fun l m' hm' => br_f (by decide) (pk_eq (ch_cn (ch_LC B sd rt ep) i) j (fun e2 => ?_) (fun e2 => nm_r (nI_1 _) (nm_r (nI_1 i) ?_)))) (fun l m' hm' => br_t rfl (nm_r (nI_1 i) ?_)))
    · exact h1 i hi l (by rw [e2]) m' (ch_EQ6_t hm' ch_hm)
    · exact ih (m', ch_cn (ch_LC B sd rt ep) i + 1) ⟨ch_EQ6_t hm' ch_hm, by rw [ch_cn_s, ch_b01_t l], by rw [ch_cn_s, ch_b01_t l]; omega⟩
    · exact ih (m', ch_cn (ch_LC B sd rt ep) i) ⟨ch_EQ6_t hm' ch_hm, by rw [ch_cn_s, ch_b01_f l]; rfl, by rw [ch_cn_s, ch_b01_f l]; exact hle⟩
end
end
section
/-! the relation -/

def ch_FA (B : Nat → Nat) (sd rt ep ck ct nb nt st ll ol : Nat) (known total : Int32) (a_board a_moves a_men : Nat → Int32) : Prop := ch_BX a_board B ∧ ch_BY a_men 0 B ∧ ch_POS B sd rt ep ∧ ch_CA B sd rt ep known total a_moves ∧ (ck ≤ ct ∧ 1 ≤ ct ∧ ct ≤ 999) ∧ (nb ≤ nt ∧ 1 ≤ nt ∧ nt ≤ 9999) ∧ st < 2 ∧ ll ≤ 96 ∧ ol ≤ 96
def i_Rel (_k : Nat) (u : SX) (v : SY) : Prop := ∃ (B : Nat → Nat) (sd rt ep ck ct nb nt st ll ol : Nat) (f_moveTotal f_movesKnown f_savedSide f_savedRights f_savedPassant f_savedClock f_savedNumber f_spellLen f_at f_end f_writtenMark f_writtenCastling f_writtenPromotion f_writtenTarget f_writtenCapture f_writtenRank f_writtenFile f_writtenKind : Int32) (a_board a_line a_out a_moves a_savedBoard a_spell : Nat → Int32) (f_textLen f_newSide f_newRights f_newEp f_newClock f_newNumber : Int32) (a_men a_text a_cut : Nat → Int32), u = (nI ct, nI nt, nI st, nI sd, nI rt, ch_epI ep, nI ck, nI nb, nI ll, nI ol, f_moveTotal, f_movesKnown, f_savedSide, f_savedRights, f_savedPassant, f_savedClock, f_savedNumber, f_spellLen, f_at, f_end, f_writtenMark, f_writtenCastling, f_writtenPromotion, f_writtenTarget, f_writtenCapture, f_writtenRank, f_writtenFile, f_writtenKind, a_board, a_line, a_out, a_moves, a_savedBoard, a_spell) ∧ v = (nI sd, nI rt, ch_epI ep, nI ck, nI nb, nI ll, nI ol, nI ct, nI nt, nI st, f_textLen, f_newSide, f_newRights, f_newEp, f_newClock, f_newNumber, a_men, a_line, a_out, a_text, a_cut) ∧ ch_FA B sd rt ep ck ct nb nt st ll ol f_movesKnown f_moveTotal a_board a_moves a_men
theorem i_up {k : Nat} {u : SX} {v : SY} (h : i_Rel k u v) : i_Rel (k + 4) u v := h
theorem ch_rl_mk {k : Nat} {B : Nat → Nat} {sd rt ep ck ct nb nt st ll ol : Nat} {f_moveTotal f_movesKnown f_savedSide f_savedRights f_savedPassant f_savedClock f_savedNumber f_spellLen f_at f_end f_writtenMark f_writtenCastling f_writtenPromotion f_writtenTarget f_writtenCapture f_writtenRank f_writtenFile f_writtenKind : Int32} {a_board a_line a_out a_moves a_savedBoard a_spell : Nat → Int32} {f_textLen f_newSide f_newRights f_newEp f_newClock f_newNumber : Int32} {a_men a_text a_cut : Nat → Int32} (h : ch_FA B sd rt ep ck ct nb nt st ll ol f_movesKnown f_moveTotal a_board a_moves a_men) : i_Rel k (nI ct, nI nt, nI st, nI sd, nI rt, ch_epI ep, nI ck, nI nb, nI ll, nI ol, f_moveTotal, f_movesKnown, f_savedSide, f_savedRights, f_savedPassant, f_savedClock, f_savedNumber, f_spellLen, f_at, f_end, f_writtenMark, f_writtenCastling, f_writtenPromotion, f_writtenTarget, f_writtenCapture, f_writtenRank, f_writtenFile, f_writtenKind, a_board, a_line, a_out, a_moves, a_savedBoard, a_spell) (nI sd, nI rt, ch_epI ep, nI ck, nI nb, nI ll, nI ol, nI ct, nI nt, nI st, f_textLen, f_newSide, f_newRights, f_newEp, f_newClock, f_newNumber, a_men, a_line, a_out, a_text, a_cut) :=
  ⟨B, sd, rt, ep, ck, ct, nb, nt, st, ll, ol, f_moveTotal, f_movesKnown, f_savedSide, f_savedRights, f_savedPassant, f_savedClock, f_savedNumber, f_spellLen, f_at, f_end, f_writtenMark, f_writtenCastling, f_writtenPromotion, f_writtenTarget, f_writtenCapture, f_writtenRank, f_writtenFile, f_writtenKind, a_board, a_line, a_out, a_moves, a_savedBoard, a_spell, f_textLen, f_newSide, f_newRights, f_newEp, f_newClock, f_newNumber, a_men, a_text, a_cut, rfl, rfl, h⟩
theorem ch_rl_el {k : Nat} {u : SX} {v : SY} {P : SX → SY → Prop} (h : ∀ (B : Nat → Nat) (sd rt ep ck ct nb nt st ll ol : Nat) (f_moveTotal f_movesKnown f_savedSide f_savedRights f_savedPassant f_savedClock f_savedNumber f_spellLen f_at f_end f_writtenMark f_writtenCastling f_writtenPromotion f_writtenTarget f_writtenCapture f_writtenRank f_writtenFile f_writtenKind : Int32) (a_board a_line a_out a_moves a_savedBoard a_spell : Nat → Int32) (f_textLen f_newSide f_newRights f_newEp f_newClock f_newNumber : Int32) (a_men a_text a_cut : Nat → Int32), ch_FA B sd rt ep ck ct nb nt st ll ol f_movesKnown f_moveTotal a_board a_moves a_men → P (nI ct, nI nt, nI st, nI sd, nI rt, ch_epI ep, nI ck, nI nb, nI ll, nI ol, f_moveTotal, f_movesKnown, f_savedSide, f_savedRights, f_savedPassant, f_savedClock, f_savedNumber, f_spellLen, f_at, f_end, f_writtenMark, f_writtenCastling, f_writtenPromotion, f_writtenTarget, f_writtenCapture, f_writtenRank, f_writtenFile, f_writtenKind, a_board, a_line, a_out, a_moves, a_savedBoard, a_spell) (nI sd, nI rt, ch_epI ep, nI ck, nI nb, nI ll, nI ol, nI ct, nI nt, nI st, f_textLen, f_newSide, f_newRights, f_newEp, f_newClock, f_newNumber, a_men, a_line, a_out, a_text, a_cut)) (I : i_Rel k u v) : P u v := by
  refine I.elim fun B I => I.elim fun sd I => I.elim fun rt I => I.elim fun ep I => I.elim fun ck I => I.elim fun ct I => I.elim fun nb I => I.elim fun nt I => I.elim fun st I => I.elim fun ll I => I.elim fun ol I => ?_
  refine I.elim fun q1 I => I.elim fun q2 I => I.elim fun q3 I => I.elim fun q4 I => I.elim fun q5 I => I.elim fun q6 I => I.elim fun q7 I => I.elim fun q8 I => I.elim fun q9 I => I.elim fun q10 I => I.elim fun q11 I => I.elim fun q12 I => I.elim fun q13 I => I.elim fun q14 I => I.elim fun q15 I => I.elim fun q16 I => I.elim fun q17 I => I.elim fun q18 I => ?_
  refine I.elim fun p1 I => I.elim fun p2 I => I.elim fun p3 I => I.elim fun p4 I => I.elim fun p5 I => I.elim fun p6 I => I.elim fun p7 I => I.elim fun p8 I => I.elim fun p9 I => I.elim fun p10 I => I.elim fun p11 I => I.elim fun p12 I => I.elim fun p13 I => I.elim fun p14 I => I.elim fun p15 I => ?_
  rw [I.1, I.2.1]
  exact h B sd rt ep ck ct nb nt st ll ol q1 q2 q3 q4 q5 q6 q7 q8 q9 q10 q11 q12 q13 q14 q15 q16 q17 q18 p1 p2 p3 p4 p5 p6 p7 p8 p9 p10 p11 p12 p13 p14 p15 I.2.2
end
section
/-! the easy calls -/

theorem i_vc_limit {k : Nat} {u : SX} {v : SY} (I : i_Rel k u v) (hk : k + 4 ≤ 2051) (v1 : Int32) : wpX_limit (fun r => wpY_limit (fun r' => r' = r ∧ i_Rel (k + 4) u v) v v1) u v1 := by
  refine ch_rl_el (P := fun u v => wpX_limit (fun r => wpY_limit (fun r' => r' = r ∧ i_Rel (k + 4) u v) v v1) u v1) ?_ I
  intro B sd rt ep ck ct nb nt st ll ol f_moveTotal f_movesKnown f_savedSide f_savedRights f_savedPassant f_savedClock f_savedNumber f_spellLen f_at f_end f_writtenMark f_writtenCastling f_writtenPromotion f_writtenTarget f_writtenCapture f_writtenRank f_writtenFile f_writtenKind a_board a_line a_out a_moves a_savedBoard a_spell f_textLen f_newSide f_newRights f_newEp f_newClock f_newNumber a_men a_text a_cut hF
  have R : i_Rel (k + 4) (nI ct, nI nt, nI st, nI sd, nI rt, ch_epI ep, nI ck, nI nb, nI ll, nI ol, f_moveTotal, f_movesKnown, f_savedSide, f_savedRights, f_savedPassant, f_savedClock, f_savedNumber, f_spellLen, f_at, f_end, f_writtenMark, f_writtenCastling, f_writtenPromotion, f_writtenTarget, f_writtenCapture, f_writtenRank, f_writtenFile, f_writtenKind, a_board, a_line, a_out, a_moves, a_savedBoard, a_spell) (nI sd, nI rt, ch_epI ep, nI ck, nI nb, nI ll, nI ol, nI ct, nI nt, nI st, f_textLen, f_newSide, f_newRights, f_newEp, f_newClock, f_newNumber, a_men, a_line, a_out, a_text, a_cut) := ch_rl_mk hF
  exact br_c (fun c => br_t c ⟨rfl, R⟩) (fun c0 => br_c (fun c => br_f c0 (br_t c ⟨rfl, R⟩)) (fun c1 => br_c (fun c => br_f c0 (br_f c1 (br_t c ⟨rfl, R⟩))) (fun c2 => br_f c0 (br_f c1 (br_f c2 ⟨rfl, R⟩)))))
theorem i_vc_feed {k : Nat} {u : SX} {v : SY} (I : i_Rel k u v) (hk : k + 4 ≤ 2051) (v1 : Int32) : wpX_feed (fun r u' => wpY_feed (fun r' v' => r' = r ∧ i_Rel (k + 4) u' v') v v1) u v1 := by
  refine ch_rl_el (P := fun u v => wpX_feed (fun r u' => wpY_feed (fun r' v' => r' = r ∧ i_Rel (k + 4) u' v') v v1) u v1) ?_ I
  intro B sd rt ep ck ct nb nt st ll ol f_moveTotal f_movesKnown f_savedSide f_savedRights f_savedPassant f_savedClock f_savedNumber f_spellLen f_at f_end f_writtenMark f_writtenCastling f_writtenPromotion f_writtenTarget f_writtenCapture f_writtenRank f_writtenFile f_writtenKind a_board a_line a_out a_moves a_savedBoard a_spell f_textLen f_newSide f_newRights f_newEp f_newClock f_newNumber a_men a_text a_cut hF
  have R : i_Rel (k + 4) (nI ct, nI nt, nI st, nI sd, nI rt, ch_epI ep, nI ck, nI nb, nI ll, nI ol, f_moveTotal, f_movesKnown, f_savedSide, f_savedRights, f_savedPassant, f_savedClock, f_savedNumber, f_spellLen, f_at, f_end, f_writtenMark, f_writtenCastling, f_writtenPromotion, f_writtenTarget, f_writtenCapture, f_writtenRank, f_writtenFile, f_writtenKind, a_board, a_line, a_out, a_moves, a_savedBoard, a_spell) (nI sd, nI rt, ch_epI ep, nI ck, nI nb, nI ll, nI ol, nI ct, nI nt, nI st, f_textLen, f_newSide, f_newRights, f_newEp, f_newClock, f_newNumber, a_men, a_line, a_out, a_text, a_cut) := ch_rl_mk hF
  obtain ⟨h1, h2, h3, h4, h5, h6, h7, h8, h9⟩ := hF
  refine br_c (fun c => br_t c ⟨rfl, R⟩) (fun c0 => br_c (fun c1 => pk_lt ll 96 (fun e => ⟨vp_in_nI e (by omega), nm_e (nm_r (nI_1 ll) ?_)⟩) (fun e => br_f c0 (br_t c1 (br_f (nI_nlt (a := ll) (b := 96) e (by omega)) ⟨rfl, R⟩)))) (fun c1 => br_f c0 (br_f c1 ⟨rfl, R⟩)))
  exact br_f c0 (br_t c1 (br_t (nI_lt (a := ll) (b := 96) e (by omega)) ⟨vp_in_nI e (by omega), nm_e (nm_r (nI_1 ll) ⟨rfl, ch_rl_mk ⟨h1, h2, h3, h4, h5, h6, h7, by omega, h9⟩⟩)⟩))
theorem i_vc_clearLine {k : Nat} {u : SX} {v : SY} (I : i_Rel k u v) (hk : k + 4 ≤ 2051) : wpX_clearLine (fun u' => wpY_clearLine (fun v' => i_Rel (k + 4) u' v') v) u := by
  refine ch_rl_el (P := fun u v => wpX_clearLine (fun u' => wpY_clearLine (fun v' => i_Rel (k + 4) u' v') v) u) ?_ I
  intro B sd rt ep ck ct nb nt st ll ol f_moveTotal f_movesKnown f_savedSide f_savedRights f_savedPassant f_savedClock f_savedNumber f_spellLen f_at f_end f_writtenMark f_writtenCastling f_writtenPromotion f_writtenTarget f_writtenCapture f_writtenRank f_writtenFile f_writtenKind a_board a_line a_out a_moves a_savedBoard a_spell f_textLen f_newSide f_newRights f_newEp f_newClock f_newNumber a_men a_text a_cut hF
  obtain ⟨h1, h2, h3, h4, h5, h6, h7, h8, h9⟩ := hF
  have R : i_Rel (k + 4) (nI ct, nI nt, nI st, nI sd, nI rt, ch_epI ep, nI ck, nI nb, nI 0, nI ol, f_moveTotal, f_movesKnown, f_savedSide, f_savedRights, f_savedPassant, f_savedClock, f_savedNumber, f_spellLen, f_at, f_end, f_writtenMark, f_writtenCastling, f_writtenPromotion, f_writtenTarget, f_writtenCapture, f_writtenRank, f_writtenFile, f_writtenKind, a_board, a_line, a_out, a_moves, a_savedBoard, a_spell) (nI sd, nI rt, ch_epI ep, nI ck, nI nb, nI 0, nI ol, nI ct, nI nt, nI st, f_textLen, f_newSide, f_newRights, f_newEp, f_newClock, f_newNumber, a_men, a_line, a_out, a_text, a_cut) := ch_rl_mk ⟨h1, h2, h3, h4, h5, h6, h7, by omega, h9⟩
  exact R
theorem i_vc_lineLength {k : Nat} {u : SX} {v : SY} (I : i_Rel k u v) (hk : k + 4 ≤ 2051) : wpX_lineLength (fun r => wpY_lineLength (fun r' => r' = r ∧ i_Rel (k + 4) u v) v) u := by
  refine ch_rl_el (P := fun u v => wpX_lineLength (fun r => wpY_lineLength (fun r' => r' = r ∧ i_Rel (k + 4) u v) v) u) ?_ I
  intro B sd rt ep ck ct nb nt st ll ol f_moveTotal f_movesKnown f_savedSide f_savedRights f_savedPassant f_savedClock f_savedNumber f_spellLen f_at f_end f_writtenMark f_writtenCastling f_writtenPromotion f_writtenTarget f_writtenCapture f_writtenRank f_writtenFile f_writtenKind a_board a_line a_out a_moves a_savedBoard a_spell f_textLen f_newSide f_newRights f_newEp f_newClock f_newNumber a_men a_text a_cut hF
  exact ⟨rfl, ch_rl_mk hF⟩
theorem i_vc_outLength {k : Nat} {u : SX} {v : SY} (I : i_Rel k u v) (hk : k + 4 ≤ 2051) : wpX_outLength (fun r => wpY_outLength (fun r' => r' = r ∧ i_Rel (k + 4) u v) v) u := by
  refine ch_rl_el (P := fun u v => wpX_outLength (fun r => wpY_outLength (fun r' => r' = r ∧ i_Rel (k + 4) u v) v) u) ?_ I
  intro B sd rt ep ck ct nb nt st ll ol f_moveTotal f_movesKnown f_savedSide f_savedRights f_savedPassant f_savedClock f_savedNumber f_spellLen f_at f_end f_writtenMark f_writtenCastling f_writtenPromotion f_writtenTarget f_writtenCapture f_writtenRank f_writtenFile f_writtenKind a_board a_line a_out a_moves a_savedBoard a_spell f_textLen f_newSide f_newRights f_newEp f_newClock f_newNumber a_men a_text a_cut hF
  exact ⟨rfl, ch_rl_mk hF⟩
theorem i_vc_sideToMove {k : Nat} {u : SX} {v : SY} (I : i_Rel k u v) (hk : k + 4 ≤ 2051) : wpX_sideToMove (fun r => wpY_sideToMove (fun r' => r' = r ∧ i_Rel (k + 4) u v) v) u := by
  refine ch_rl_el (P := fun u v => wpX_sideToMove (fun r => wpY_sideToMove (fun r' => r' = r ∧ i_Rel (k + 4) u v) v) u) ?_ I
  intro B sd rt ep ck ct nb nt st ll ol f_moveTotal f_movesKnown f_savedSide f_savedRights f_savedPassant f_savedClock f_savedNumber f_spellLen f_at f_end f_writtenMark f_writtenCastling f_writtenPromotion f_writtenTarget f_writtenCapture f_writtenRank f_writtenFile f_writtenKind a_board a_line a_out a_moves a_savedBoard a_spell f_textLen f_newSide f_newRights f_newEp f_newClock f_newNumber a_men a_text a_cut hF
  exact ⟨rfl, ch_rl_mk hF⟩
theorem i_vc_castlingRights {k : Nat} {u : SX} {v : SY} (I : i_Rel k u v) (hk : k + 4 ≤ 2051) : wpX_castlingRights (fun r => wpY_castlingRights (fun r' => r' = r ∧ i_Rel (k + 4) u v) v) u := by
  refine ch_rl_el (P := fun u v => wpX_castlingRights (fun r => wpY_castlingRights (fun r' => r' = r ∧ i_Rel (k + 4) u v) v) u) ?_ I
  intro B sd rt ep ck ct nb nt st ll ol f_moveTotal f_movesKnown f_savedSide f_savedRights f_savedPassant f_savedClock f_savedNumber f_spellLen f_at f_end f_writtenMark f_writtenCastling f_writtenPromotion f_writtenTarget f_writtenCapture f_writtenRank f_writtenFile f_writtenKind a_board a_line a_out a_moves a_savedBoard a_spell f_textLen f_newSide f_newRights f_newEp f_newClock f_newNumber a_men a_text a_cut hF
  exact ⟨rfl, ch_rl_mk hF⟩
theorem i_vc_enPassantSquare {k : Nat} {u : SX} {v : SY} (I : i_Rel k u v) (hk : k + 4 ≤ 2051) : wpX_enPassantSquare (fun r => wpY_enPassantSquare (fun r' => r' = r ∧ i_Rel (k + 4) u v) v) u := by
  refine ch_rl_el (P := fun u v => wpX_enPassantSquare (fun r => wpY_enPassantSquare (fun r' => r' = r ∧ i_Rel (k + 4) u v) v) u) ?_ I
  intro B sd rt ep ck ct nb nt st ll ol f_moveTotal f_movesKnown f_savedSide f_savedRights f_savedPassant f_savedClock f_savedNumber f_spellLen f_at f_end f_writtenMark f_writtenCastling f_writtenPromotion f_writtenTarget f_writtenCapture f_writtenRank f_writtenFile f_writtenKind a_board a_line a_out a_moves a_savedBoard a_spell f_textLen f_newSide f_newRights f_newEp f_newClock f_newNumber a_men a_text a_cut hF
  exact ⟨rfl, ch_rl_mk hF⟩
theorem i_vc_halfClock {k : Nat} {u : SX} {v : SY} (I : i_Rel k u v) (hk : k + 4 ≤ 2051) : wpX_halfClock (fun r => wpY_halfClock (fun r' => r' = r ∧ i_Rel (k + 4) u v) v) u := by
  refine ch_rl_el (P := fun u v => wpX_halfClock (fun r => wpY_halfClock (fun r' => r' = r ∧ i_Rel (k + 4) u v) v) u) ?_ I
  intro B sd rt ep ck ct nb nt st ll ol f_moveTotal f_movesKnown f_savedSide f_savedRights f_savedPassant f_savedClock f_savedNumber f_spellLen f_at f_end f_writtenMark f_writtenCastling f_writtenPromotion f_writtenTarget f_writtenCapture f_writtenRank f_writtenFile f_writtenKind a_board a_line a_out a_moves a_savedBoard a_spell f_textLen f_newSide f_newRights f_newEp f_newClock f_newNumber a_men a_text a_cut hF
  exact ⟨rfl, ch_rl_mk hF⟩
theorem i_vc_moveNumber {k : Nat} {u : SX} {v : SY} (I : i_Rel k u v) (hk : k + 4 ≤ 2051) : wpX_moveNumber (fun r => wpY_moveNumber (fun r' => r' = r ∧ i_Rel (k + 4) u v) v) u := by
  refine ch_rl_el (P := fun u v => wpX_moveNumber (fun r => wpY_moveNumber (fun r' => r' = r ∧ i_Rel (k + 4) u v) v) u) ?_ I
  intro B sd rt ep ck ct nb nt st ll ol f_moveTotal f_movesKnown f_savedSide f_savedRights f_savedPassant f_savedClock f_savedNumber f_spellLen f_at f_end f_writtenMark f_writtenCastling f_writtenPromotion f_writtenTarget f_writtenCapture f_writtenRank f_writtenFile f_writtenKind a_board a_line a_out a_moves a_savedBoard a_spell f_textLen f_newSide f_newRights f_newEp f_newClock f_newNumber a_men a_text a_cut hF
  exact ⟨rfl, ch_rl_mk hF⟩
theorem i_vc_pieceAt {k : Nat} {u : SX} {v : SY} (I : i_Rel k u v) (hk : k + 4 ≤ 2051) (v1 : Int32) : wpX_pieceAt (fun r => wpY_pieceAt (fun r' => r' = r ∧ i_Rel (k + 4) u v) v v1) u v1 := by
  refine ch_rl_el (P := fun u v => wpX_pieceAt (fun r => wpY_pieceAt (fun r' => r' = r ∧ i_Rel (k + 4) u v) v v1) u v1) ?_ I
  intro B sd rt ep ck ct nb nt st ll ol f_moveTotal f_movesKnown f_savedSide f_savedRights f_savedPassant f_savedClock f_savedNumber f_spellLen f_at f_end f_writtenMark f_writtenCastling f_writtenPromotion f_writtenTarget f_writtenCapture f_writtenRank f_writtenFile f_writtenKind a_board a_line a_out a_moves a_savedBoard a_spell f_textLen f_newSide f_newRights f_newEp f_newClock f_newNumber a_men a_text a_cut hF
  have R : i_Rel (k + 4) (nI ct, nI nt, nI st, nI sd, nI rt, ch_epI ep, nI ck, nI nb, nI ll, nI ol, f_moveTotal, f_movesKnown, f_savedSide, f_savedRights, f_savedPassant, f_savedClock, f_savedNumber, f_spellLen, f_at, f_end, f_writtenMark, f_writtenCastling, f_writtenPromotion, f_writtenTarget, f_writtenCapture, f_writtenRank, f_writtenFile, f_writtenKind, a_board, a_line, a_out, a_moves, a_savedBoard, a_spell) (nI sd, nI rt, ch_epI ep, nI ck, nI nb, nI ll, nI ol, nI ct, nI nt, nI st, f_textLen, f_newSide, f_newRights, f_newEp, f_newClock, f_newNumber, a_men, a_line, a_out, a_text, a_cut) := ch_rl_mk hF
  obtain ⟨h1, h2, _⟩ := hF
  refine br_c (fun c => br_t c ⟨rfl, R⟩) (fun c0 => br_c (fun c1 => ?_) (fun c1 => br_f c0 (br_f c1 ⟨rfl, R⟩)))
  obtain ⟨j, hj, rfl⟩ := nI_of2 (n := 63) (by decide) c0 c1
  exact ⟨vp_in_nI (by omega) (by omega), br_f c0 (br_t c1 ⟨vp_in_nI (by omega) (by omega), (ch_by0 h2 (by omega)).trans (ch_bx h1 (by omega)).symm, R⟩)⟩
theorem i_vc_attacked {k : Nat} {u : SX} {v : SY} (I : i_Rel k u v) (hk : k + 4 ≤ 2051) (v1 : Int32) (v2 : Int32) : wpX_attacked (fun r => wpY_attacked (fun r' => r' = r ∧ i_Rel (k + 4) u v) v v1 v2) u v1 v2 := by
  refine ch_rl_el (P := fun u v => wpX_attacked (fun r => wpY_attacked (fun r' => r' = r ∧ i_Rel (k + 4) u v) v v1 v2) u v1 v2) ?_ I
  intro B sd rt ep ck ct nb nt st ll ol f_moveTotal f_movesKnown f_savedSide f_savedRights f_savedPassant f_savedClock f_savedNumber f_spellLen f_at f_end f_writtenMark f_writtenCastling f_writtenPromotion f_writtenTarget f_writtenCapture f_writtenRank f_writtenFile f_writtenKind a_board a_line a_out a_moves a_savedBoard a_spell f_textLen f_newSide f_newRights f_newEp f_newClock f_newNumber a_men a_text a_cut hF
  have R : i_Rel (k + 4) (nI ct, nI nt, nI st, nI sd, nI rt, ch_epI ep, nI ck, nI nb, nI ll, nI ol, f_moveTotal, f_movesKnown, f_savedSide, f_savedRights, f_savedPassant, f_savedClock, f_savedNumber, f_spellLen, f_at, f_end, f_writtenMark, f_writtenCastling, f_writtenPromotion, f_writtenTarget, f_writtenCapture, f_writtenRank, f_writtenFile, f_writtenKind, a_board, a_line, a_out, a_moves, a_savedBoard, a_spell) (nI sd, nI rt, ch_epI ep, nI ck, nI nb, nI ll, nI ol, nI ct, nI nt, nI st, f_textLen, f_newSide, f_newRights, f_newEp, f_newClock, f_newNumber, a_men, a_line, a_out, a_text, a_cut) := ch_rl_mk hF
  obtain ⟨h1, h2, h3, _⟩ := hF
  refine br_c (fun c => br_t c ⟨rfl, R⟩) (fun c0 => br_c (fun c1 => br_f c0 (br_t c1 ⟨rfl, R⟩)) (fun c1 => br_c (fun c2 => br_f c0 (br_f c1 (br_t c2 ⟨rfl, R⟩))) (fun c2 => br_c (fun c3 => ?_) (fun c3 => br_f c0 (br_f c1 (br_f c2 (br_f c3 ⟨rfl, R⟩)))))))
  obtain ⟨t, ht, rfl⟩ := nI_of2 (M := 63) (n := 63) (by decide) c0 (Int32.not_lt.mp c1)
  obtain ⟨c, hc, rfl⟩ := nI_of2 (n := 1) (by decide) c2 c3
  refine ch_x_isAttacked h1 h3.1 (by omega) (by omega) (fun a => ⟨ch_nar1, br_f c0 (br_f c1 (br_f c2 (br_t c3 ?_)))⟩) (fun a => ⟨ch_nar0, br_f c0 (br_f c1 (br_f c2 (br_t c3 ?_)))⟩)
  · exact ch_y_attackedOn (bs := 0) h2 (by omega) h3.1 (by omega) (by omega) (fun _ => ⟨ch_nar1, rfl, R⟩) (fun b => absurd a b)
  · exact ch_y_attackedOn (bs := 0) h2 (by omega) h3.1 (by omega) (by omega) (fun b => absurd b a) (fun _ => ⟨ch_nar0, rfl, R⟩)
end
section
/-! the calls about legal moves -/

theorem ch_CA_k {B : Nat → Nat} {sd rt ep : Nat} {mv : Nat → Int32} (h : ch_CM B sd rt ep mv 32768) : ch_CA B sd rt ep 1 (nI (ch_cn (ch_LC B sd rt ep) 32768)) mv := Or.inr ⟨rfl, rfl, h⟩
theorem ch_ST_u {B : Nat → Nat} {sd rt ep : Nat} {r r' : Int32} (h : ch_ST B sd rt ep r) (h' : ch_ST B sd rt ep r') : r = r' := by
  rcases h with ⟨a, b, e⟩ | ⟨a, b, e⟩ | ⟨a, b, e⟩ | ⟨a, b, e⟩ <;> rcases h' with ⟨a', b', e'⟩ | ⟨a', b', e'⟩ | ⟨a', b', e'⟩ | ⟨a', b', e'⟩
  · rw [e, e']
  · exact absurd b b'
  · exact absurd a a'
  · exact absurd a a'
  · exact absurd b' b
  · rw [e, e']
  · exact absurd a a'
  · exact absurd a a'
  · exact absurd a' a
  · exact absurd a' a
  · rw [e, e']
  · exact absurd b b'
  · exact absurd a' a
  · exact absurd a' a
  · exact absurd b' b
  · rw [e, e']
theorem i_vc_status {k : Nat} {u : SX} {v : SY} (I : i_Rel k u v) (hk : k + 4 ≤ 2051) : wpX_status (fun r u' => wpY_status (fun r' v' => r' = r ∧ i_Rel (k + 4) u' v') v) u := by
  refine ch_rl_el (P := fun u v => wpX_status (fun r u' => wpY_status (fun r' v' => r' = r ∧ i_Rel (k + 4) u' v') v) u) ?_ I
  intro B sd rt ep ck ct nb nt st ll ol f_moveTotal f_movesKnown f_savedSide f_savedRights f_savedPassant f_savedClock f_savedNumber f_spellLen f_at f_end f_writtenMark f_writtenCastling f_writtenPromotion f_writtenTarget f_writtenCapture f_writtenRank f_writtenFile f_writtenKind a_board a_line a_out a_moves a_savedBoard a_spell f_textLen f_newSide f_newRights f_newEp f_newClock f_newNumber a_men a_text a_cut hF
  obtain ⟨h1, h2, h3, h4, h5⟩ := hF
  refine ch_x_status h1 h3 h4 (fun r mv ch_hm hst => ?_)
  exact ch_y_status h2 h3 (fun r' m hm' hst' => ⟨ch_ST_u hst' hst, ch_rl_mk ⟨h1, ch_EQ6_B hm' h2, h3, ch_CA_k ch_hm, h5⟩⟩)
theorem i_vc_moveCount {k : Nat} {u : SX} {v : SY} (I : i_Rel k u v) (hk : k + 4 ≤ 2051) : wpX_moveCount (fun r u' => wpY_moveCount (fun r' v' => r' = r ∧ i_Rel (k + 4) u' v') v) u := by
  refine ch_rl_el (P := fun u v => wpX_moveCount (fun r u' => wpY_moveCount (fun r' v' => r' = r ∧ i_Rel (k + 4) u' v') v) u) ?_ I
  intro B sd rt ep ck ct nb nt st ll ol f_moveTotal f_movesKnown f_savedSide f_savedRights f_savedPassant f_savedClock f_savedNumber f_spellLen f_at f_end f_writtenMark f_writtenCastling f_writtenPromotion f_writtenTarget f_writtenCapture f_writtenRank f_writtenFile f_writtenKind a_board a_line a_out a_moves a_savedBoard a_spell f_textLen f_newSide f_newRights f_newEp f_newClock f_newNumber a_men a_text a_cut hF
  obtain ⟨h1, h2, h3, h4, h5⟩ := hF
  unfold wpX_moveCount
  refine ch_x_ensureMoves h1 h3 h4 (fun mv ch_hm => ?_)
  exact ch_y_moveCount h2 h3 (fun m hm' => ⟨rfl, ch_rl_mk ⟨h1, ch_EQ6_B hm' h2, h3, ch_CA_k ch_hm, h5⟩⟩)
theorem i_vc_moveAt {k : Nat} {u : SX} {v : SY} (I : i_Rel k u v) (hk : k + 4 ≤ 2051) (v1 : Int32) : wpX_moveAt (fun r u' => wpY_moveAt (fun r' v' => r' = r ∧ i_Rel (k + 4) u' v') v v1) u v1 := by
  refine ch_rl_el (P := fun u v => wpX_moveAt (fun r u' => wpY_moveAt (fun r' v' => r' = r ∧ i_Rel (k + 4) u' v') v v1) u v1) ?_ I
  intro B sd rt ep ck ct nb nt st ll ol f_moveTotal f_movesKnown f_savedSide f_savedRights f_savedPassant f_savedClock f_savedNumber f_spellLen f_at f_end f_writtenMark f_writtenCastling f_writtenPromotion f_writtenTarget f_writtenCapture f_writtenRank f_writtenFile f_writtenKind a_board a_line a_out a_moves a_savedBoard a_spell f_textLen f_newSide f_newRights f_newEp f_newClock f_newNumber a_men a_text a_cut hF
  obtain ⟨h1, h2, h3, h4, h5⟩ := hF
  have h512 := ch_LC_512 h3
  refine ch_x_moveAt h1 h3 h4 (fun c mv hc hl e ch_hm => ?_) (fun e mv ch_hm => ?_)
  · refine ch_y_moveAt h2 h3 (fun c' hc' hl' e' m hm' => ⟨?_, ch_rl_mk ⟨h1, ch_EQ6_B hm' h2, h3, ch_CA_k ch_hm, h5⟩⟩) (fun e' => ?_)
    · have l1 := ch_cn_lt2 hc hl
      have l2 := ch_cn_lt2 hc' hl'
      rw [ch_cn_inj hl' hl ((nI_eq (by omega) (by omega)).mp (e'.symm.trans e))]
    · have l1 := ch_cn_lt2 hc hl
      rw [e] at e'
      rcases e' with e' | e'
      · exact absurd e' (nI_pos (by omega))
      · exact absurd ((nI_leI (by omega) (by omega)).mp e') (by omega)
  · refine ch_y_moveAt h2 h3 (fun c' hc' hl' e' => ?_) (fun _ m hm' => ⟨rfl, ch_rl_mk ⟨h1, ch_EQ6_B hm' h2, h3, ch_CA_k ch_hm, h5⟩⟩)
    have l1 := ch_cn_lt2 hc' hl'
    rw [e'] at e
    rcases e with e | e
    · exact absurd e (nI_pos (by omega))
    · exact absurd ((nI_leI (by omega) (by omega)).mp e) (by omega)
/-- the two legal tests, one behind the other -/
theorem i_vc_moveCode {k : Nat} {u : SX} {v : SY} (I : i_Rel k u v) (hk : k + 4 ≤ 2051) (v1 : Int32) (v2 : Int32) (v3 : Int32) : wpX_moveCode (fun r u' => wpY_moveCode (fun r' v' => r' = r ∧ i_Rel (k + 4) u' v') v v1 v2 v3) u v1 v2 v3 := by
  refine ch_rl_el (P := fun u v => wpX_moveCode (fun r u' => wpY_moveCode (fun r' v' => r' = r ∧ i_Rel (k + 4) u' v') v v1 v2 v3) u v1 v2 v3) ?_ I
  intro B sd rt ep ck ct nb nt st ll ol f_moveTotal f_movesKnown f_savedSide f_savedRights f_savedPassant f_savedClock f_savedNumber f_spellLen f_at f_end f_writtenMark f_writtenCastling f_writtenPromotion f_writtenTarget f_writtenCapture f_writtenRank f_writtenFile f_writtenKind a_board a_line a_out a_moves a_savedBoard a_spell f_textLen f_newSide f_newRights f_newEp f_newClock f_newNumber a_men a_text a_cut hF
  have R : i_Rel (k + 4) (nI ct, nI nt, nI st, nI sd, nI rt, ch_epI ep, nI ck, nI nb, nI ll, nI ol, f_moveTotal, f_movesKnown, f_savedSide, f_savedRights, f_savedPassant, f_savedClock, f_savedNumber, f_spellLen, f_at, f_end, f_writtenMark, f_writtenCastling, f_writtenPromotion, f_writtenTarget, f_writtenCapture, f_writtenRank, f_writtenFile, f_writtenKind, a_board, a_line, a_out, a_moves, a_savedBoard, a_spell) (nI sd, nI rt, ch_epI ep, nI ck, nI nb, nI ll, nI ol, nI ct, nI nt, nI st, f_textLen, f_newSide, f_newRights, f_newEp, f_newClock, f_newNumber, a_men, a_line, a_out, a_text, a_cut) := ch_rl_mk hF
  obtain ⟨h1, h2, h3, h4, h5⟩ := hF
  refine br_c (fun c => br_t c ⟨rfl, R⟩) (fun c1 => br_c (fun c => br_f c1 (br_t c ⟨rfl, R⟩)) (fun c2 => br_c (fun c => br_f c1 (br_f c2 (br_t c ⟨rfl, R⟩))) (fun c3 => br_c (fun c => br_f c1 (br_f c2 (br_f c3 (br_t c ⟨rfl, R⟩)))) (fun c4 => br_c (fun c => br_f c1 (br_f c2 (br_f c3 (br_f c4 (br_t c ⟨rfl, R⟩))))) (fun c5 => br_c (fun c6 => nm_e ?_) (fun c6 => br_f c1 (br_f c2 (br_f c3 (br_f c4 (br_f c5 (br_f c6 ⟨rfl, R⟩)))))))))))
  refine ch_x_isLegal h1 h3 h4 (fun c mv hc hl e ch_hm => br_f (by decide) ?_) (fun hn mv ch_hm => br_t rfl ?_)
  · refine br_f c1 (br_f c2 (br_f c3 (br_f c4 (br_f c5 (br_t c6 (nm_e ?_))))))
    refine ch_y_isLegal_w h2 h3 (fun c' hc' hl' e' m hm' => br_f (by decide) ⟨rfl, ch_rl_mk ⟨h1, ch_EQ6_B hm' h2, h3, ch_CA_k ch_hm, h5⟩⟩) (fun hn => absurd e (hn c hc hl))
  · refine br_f c1 (br_f c2 (br_f c3 (br_f c4 (br_f c5 (br_t c6 (nm_e ?_))))))
    refine ch_y_isLegal_w h2 h3 (fun c' hc' hl' e' => absurd e' (hn c' hc' hl')) (fun _ m hm' => br_t rfl ⟨rfl, ch_rl_mk ⟨h1, ch_EQ6_B hm' h2, h3, ch_CA_k ch_hm, h5⟩⟩)
theorem ch_nck_l {B : Nat → Nat} {s t x ck ct : Nat} (h : ck ≤ ct) : ch_nck B s t x ck ct ≤ ct := by
  unfold ch_nck; split
  · omega
  · split <;> omega
theorem ch_nnb_l {sd nb nt : Nat} (h : nb ≤ nt) : ch_nnb sd nb nt ≤ nt := by
  unfold ch_nnb; split <;> omega
theorem i_vc_play {k : Nat} {u : SX} {v : SY} (I : i_Rel k u v) (hk : k + 4 ≤ 2051) (v1 : Int32) : wpX_play (fun r u' => wpY_play (fun r' v' => r' = r ∧ i_Rel (k + 4) u' v') v v1) u v1 := by
  refine ch_rl_el (P := fun u v => wpX_play (fun r u' => wpY_play (fun r' v' => r' = r ∧ i_Rel (k + 4) u' v') v v1) u v1) ?_ I
  intro B sd rt ep ck ct nb nt st ll ol f_moveTotal f_movesKnown f_savedSide f_savedRights f_savedPassant f_savedClock f_savedNumber f_spellLen f_at f_end f_writtenMark f_writtenCastling f_writtenPromotion f_writtenTarget f_writtenCapture f_writtenRank f_writtenFile f_writtenKind a_board a_line a_out a_moves a_savedBoard a_spell f_textLen f_newSide f_newRights f_newEp f_newClock f_newNumber a_men a_text a_cut hF
  obtain ⟨h1, h2, h3, h4, h5, h6, h7⟩ := hF
  unfold wpX_play
  refine ch_x_isLegal h1 h3 h4 (fun c mv hc hl e ch_hm => br_f (by decide) ?_) (fun hn mv ch_hm => br_t rfl ?_)
  · subst e
    have hl' := hl
    obtain ⟨x, hT, hq⟩ := hl'
    have hPk := ch_POS_k h3 (by omega) (by omega) hT hq
    have ec := ch_cd_c hc
    have ax : ∀ post : SX → Prop, (∀ ab, ch_BX ab (ch_AF B sd (c / 512) (c / 8 % 64) (c % 8) x) → ch_HI ab a_board → post (nI ct, nI nt, nI st, nI (1 - sd), nI (ch_nrt rt (c / 512) (c / 8 % 64)), ch_epI (ch_nep sd (c / 512) x), nI (ch_nck B (c / 512) (c / 8 % 64) x ck ct), nI (ch_nnb sd nb nt), nI ll, nI ol, nI (ch_cn (ch_LC B sd rt ep) 32768), 1, f_savedSide, f_savedRights, f_savedPassant, f_savedClock, f_savedNumber, f_spellLen, f_at, f_end, f_writtenMark, f_writtenCastling, f_writtenPromotion, f_writtenTarget, f_writtenCapture, f_writtenRank, f_writtenFile, f_writtenKind, ab, a_line, a_out, mv, a_savedBoard, a_spell)) → wpX_advance post (nI ct, nI nt, nI st, nI sd, nI rt, ch_epI ep, nI ck, nI nb, nI ll, nI ol, nI (ch_cn (ch_LC B sd rt ep) 32768), 1, f_savedSide, f_savedRights, f_savedPassant, f_savedClock, f_savedNumber, f_spellLen, f_at, f_end, f_writtenMark, f_writtenCastling, f_writtenPromotion, f_writtenTarget, f_writtenCapture, f_writtenRank, f_writtenFile, f_writtenKind, a_board, a_line, a_out, mv, a_savedBoard, a_spell) (nI c) := by
      intro post hp
      have := ch_x_advance h1 h3 (by omega) (by omega) (by omega) (by omega) (by omega) (by omega) (by omega) hT hp
      rw [ec] at this
      exact this
    have ay : ∀ (post : SY → Prop) (m : Nat → Int32), ch_BY m 0 B → (∀ m', ch_BY m' 0 (ch_AF B sd (c / 512) (c / 8 % 64) (c % 8) x) → ch_H8 m' m → post (nI (1 - sd), nI (ch_nrt rt (c / 512) (c / 8 % 64)), ch_epI (ch_nep sd (c / 512) x), nI (ch_nck B (c / 512) (c / 8 % 64) x ck ct), nI (ch_nnb sd nb nt), nI ll, nI ol, nI ct, nI nt, nI st, f_textLen, f_newSide, f_newRights, f_newEp, f_newClock, f_newNumber, m', a_line, a_out, a_text, a_cut)) → wpY_carryOut post (nI sd, nI rt, ch_epI ep, nI ck, nI nb, nI ll, nI ol, nI ct, nI nt, nI st, f_textLen, f_newSide, f_newRights, f_newEp, f_newClock, f_newNumber, m, a_line, a_out, a_text, a_cut) (nI c) := by
      intro post m ch_hm hp
      have := ch_y_carryOut ch_hm h3 (by omega) (by omega) (by omega) (by omega) (by omega) (by omega) (by omega) hT hp
      rw [ec] at this
      exact this
    refine ax _ (fun ab hab _ => ?_)
    refine ch_x_status hab hPk (Or.inl rfl) (fun r mv' hm' hst => ?_)
    unfold wpY_play
    refine ch_y_isLegal_w h2 h3 (fun c' hc' hl' e' m hm'' => br_f (by decide) ?_) (fun hn => absurd rfl (hn c hc hl))
    refine ay _ m (ch_EQ6_B hm'' h2) (fun m' hm3 _ => ?_)
    refine ch_y_status hm3 hPk (fun r' m4 hm4 hst' => ⟨ch_ST_u hst' hst, ch_rl_mk ⟨hab, ch_EQ6_B hm4 hm3, hPk, ch_CA_k hm', ⟨ch_nck_l h5.1, h5.2⟩, ⟨ch_nnb_l h6.1, h6.2⟩, h7⟩⟩)
  · unfold wpY_play
    refine ch_y_isLegal_w h2 h3 (fun c' hc' hl' e' => absurd e' (hn c' hc' hl')) (fun _ m hm' => br_t rfl ⟨rfl, ch_rl_mk ⟨h1, ch_EQ6_B hm' h2, h3, ch_CA_k ch_hm, h5, h6, h7⟩⟩)
theorem i_vc_playNth {k : Nat} {u : SX} {v : SY} (I : i_Rel k u v) (hk : k + 4 ≤ 2051) (v1 : Int32) : wpX_playNth (fun r u' => wpY_playNth (fun r' v' => r' = r ∧ i_Rel (k + 4) u' v') v v1) u v1 := by
  refine ch_rl_el (P := fun u v => wpX_playNth (fun r u' => wpY_playNth (fun r' v' => r' = r ∧ i_Rel (k + 4) u' v') v v1) u v1) ?_ I
  intro B sd rt ep ck ct nb nt st ll ol f_moveTotal f_movesKnown f_savedSide f_savedRights f_savedPassant f_savedClock f_savedNumber f_spellLen f_at f_end f_writtenMark f_writtenCastling f_writtenPromotion f_writtenTarget f_writtenCapture f_writtenRank f_writtenFile f_writtenKind a_board a_line a_out a_moves a_savedBoard a_spell f_textLen f_newSide f_newRights f_newEp f_newClock f_newNumber a_men a_text a_cut hF
  obtain ⟨h1, h2, h3, h4, h5, h6, h7⟩ := hF
  have h512 := ch_LC_512 h3
  unfold wpX_playNth
  refine ch_x_moveAt h1 h3 h4 (fun c mv hc hl e ch_hm => br_t (nI_pos' (by omega)) ?_) (fun e mv ch_hm => br_f (by decide) ?_)
  · have hl' := hl
    obtain ⟨x, hT, hq⟩ := hl'
    have hPk := ch_POS_k h3 (by omega) (by omega) hT hq
    have ec := ch_cd_c hc
    have ax : ∀ post : SX → Prop, (∀ ab, ch_BX ab (ch_AF B sd (c / 512) (c / 8 % 64) (c % 8) x) → ch_HI ab a_board → post (nI ct, nI nt, nI st, nI (1 - sd), nI (ch_nrt rt (c / 512) (c / 8 % 64)), ch_epI (ch_nep sd (c / 512) x), nI (ch_nck B (c / 512) (c / 8 % 64) x ck ct), nI (ch_nnb sd nb nt), nI ll, nI ol, nI (ch_cn (ch_LC B sd rt ep) 32768), 1, f_savedSide, f_savedRights, f_savedPassant, f_savedClock, f_savedNumber, f_spellLen, f_at, f_end, f_writtenMark, f_writtenCastling, f_writtenPromotion, f_writtenTarget, f_writtenCapture, f_writtenRank, f_writtenFile, f_writtenKind, ab, a_line, a_out, mv, a_savedBoard, a_spell)) → wpX_advance post (nI ct, nI nt, nI st, nI sd, nI rt, ch_epI ep, nI ck, nI nb, nI ll, nI ol, nI (ch_cn (ch_LC B sd rt ep) 32768), 1, f_savedSide, f_savedRights, f_savedPassant, f_savedClock, f_savedNumber, f_spellLen, f_at, f_end, f_writtenMark, f_writtenCastling, f_writtenPromotion, f_writtenTarget, f_writtenCapture, f_writtenRank, f_writtenFile, f_writtenKind, a_board, a_line, a_out, mv, a_savedBoard, a_spell) (nI c) := by
      intro post hp
      have := ch_x_advance h1 h3 (by omega) (by omega) (by omega) (by omega) (by omega) (by omega) (by omega) hT hp
      rw [ec] at this
      exact this
    have ay : ∀ (post : SY → Prop) (m : Nat → Int32), ch_BY m 0 B → (∀ m', ch_BY m' 0 (ch_AF B sd (c / 512) (c / 8 % 64) (c % 8) x) → ch_H8 m' m → post (nI (1 - sd), nI (ch_nrt rt (c / 512) (c / 8 % 64)), ch_epI (ch_nep sd (c / 512) x), nI (ch_nck B (c / 512) (c / 8 % 64) x ck ct), nI (ch_nnb sd nb nt), nI ll, nI ol, nI ct, nI nt, nI st, f_textLen, f_newSide, f_newRights, f_newEp, f_newClock, f_newNumber, m', a_line, a_out, a_text, a_cut)) → wpY_carryOut post (nI sd, nI rt, ch_epI ep, nI ck, nI nb, nI ll, nI ol, nI ct, nI nt, nI st, f_textLen, f_newSide, f_newRights, f_newEp, f_newClock, f_newNumber, m, a_line, a_out, a_text, a_cut) (nI c) := by
      intro post m ch_hm hp
      have := ch_y_carryOut ch_hm h3 (by omega) (by omega) (by omega) (by omega) (by omega) (by omega) (by omega) hT hp
      rw [ec] at this
      exact this
    refine ax _ (fun ab hab _ => ?_)
    unfold wpY_playNth
    have l1 := ch_cn_lt2 hc hl
    refine ch_y_moveAt h2 h3 (fun c' hc' hl' e' m hm' => ?_) (fun e' => ?_)
    · have l2 := ch_cn_lt2 hc' hl'
      obtain rfl : c' = c := ch_cn_inj hl' hl ((nI_eq (by omega) (by omega)).mp (e'.symm.trans e))
      refine br_t (nI_pos' (by omega)) (ay _ m (ch_EQ6_B hm' h2) (fun m' hm3 _ => ⟨rfl, ch_rl_mk ⟨hab, hm3, hPk, Or.inl rfl, ⟨ch_nck_l h5.1, h5.2⟩, ⟨ch_nnb_l h6.1, h6.2⟩, h7⟩⟩))
    · rw [e] at e'
      rcases e' with e' | e'
      · exact absurd e' (nI_pos (by omega))
      · exact absurd ((nI_leI (by omega) (by omega)).mp e') (by omega)
  · unfold wpY_playNth
    refine ch_y_moveAt h2 h3 (fun c' hc' hl' e' => ?_) (fun _ m hm' => br_f (by decide) ⟨rfl, ch_rl_mk ⟨h1, ch_EQ6_B hm' h2, h3, ch_CA_k ch_hm, h5, h6, h7⟩⟩)
    have l1 := ch_cn_lt2 hc' hl'
    rw [e'] at e
    rcases e with e | e
    · exact absurd e (nI_pos (by omega))
    · exact absurd ((nI_leI (by omega) (by omega)).mp e) (by omega)
end
section
/-! line, out text, words -/

theorem ch_sh64 {k : Nat} (hk : k < 64) (x : Int64) : (x <<< ((nI k).toInt64 &&& 63)).toBitVec = x.toBitVec <<< k := by
  rw [wb_c k hk, Int64.toBitVec_shiftLeft, wb_tb, wb_sm k hk, BitVec.shiftLeft_eq', BitVec.toNat_ofNat, Nat.mod_eq_of_lt (by omega)]
theorem ch_n56 {i : Nat} (h : i < 8) : (56 : Int32) - 8 * nI i = nI (56 - 8 * i) := by
  rw [ch_nI_m8]; exact pk_sub (a := 56) (by omega)
/-- what the two packings hold after i steps -/
def ch_PK (i : Nat) (p q : Int64) : Prop := q.toBitVec = p.toBitVec <<< (64 - 8 * i)
theorem ch_PK_0 : ch_PK 0 0 0 := by unfold ch_PK; decide
theorem ch_PK_8 {p q : Int64} (h : ch_PK 8 p q) : q = p := by
  unfold ch_PK at h
  apply Int64.toBitVec_inj.mp
  rw [h]; exact BitVec.shiftLeft_zero _
theorem ch_PK_n {i : Nat} {p q : Int64} (hi : i < 8) (h : ch_PK i p q) : ch_PK (i + 1) (p <<< ((8 : Int32).toInt64 &&& 63)) q := by
  unfold ch_PK at h ⊢
  rw [show (8 : Int32) = nI 8 from rfl, ch_sh64 (by omega), h, ← BitVec.shiftLeft_add, show 8 + (64 - 8 * (i + 1)) = 64 - 8 * i from by omega]
theorem ch_PK_c {i : Nat} {p q c : Int64} (hi : i < 8) (h : ch_PK i p q) : ch_PK (i + 1) ((p <<< ((8 : Int32).toInt64 &&& 63)) ||| c) (q ||| (c <<< ((56 - 8 * nI i).toInt64 &&& 63))) := by
  have h1 := ch_PK_n hi h
  unfold ch_PK at h1 ⊢
  rw [ch_n56 hi, Int64.toBitVec_or, Int64.toBitVec_or, h1, ch_sh64 (by omega), BitVec.shiftLeft_or_distrib, show 64 - 8 * (i + 1) = 56 - 8 * i from by omega]
theorem i_vc_lineEight {k : Nat} {u : SX} {v : SY} (I : i_Rel k u v) (hk : k + 4 ≤ 2051) (v1 : Int32) : wpX_lineEight (fun r => wpY_lineEight (fun r' => r' = r ∧ i_Rel (k + 4) u v) v v1) u v1 := by
  refine ch_rl_el (P := fun u v => wpX_lineEight (fun r => wpY_lineEight (fun r' => r' = r ∧ i_Rel (k + 4) u v) v v1) u v1) ?_ I
  intro B sd rt ep ck ct nb nt st ll ol f_moveTotal f_movesKnown f_savedSide f_savedRights f_savedPassant f_savedClock f_savedNumber f_spellLen f_at f_end f_writtenMark f_writtenCastling f_writtenPromotion f_writtenTarget f_writtenCapture f_writtenRank f_writtenFile f_writtenKind a_board a_line a_out a_moves a_savedBoard a_spell f_textLen f_newSide f_newRights f_newEp f_newClock f_newNumber a_men a_text a_cut hF
  have R : i_Rel (k + 4) (nI ct, nI nt, nI st, nI sd, nI rt, ch_epI ep, nI ck, nI nb, nI ll, nI ol, f_moveTotal, f_movesKnown, f_savedSide, f_savedRights, f_savedPassant, f_savedClock, f_savedNumber, f_spellLen, f_at, f_end, f_writtenMark, f_writtenCastling, f_writtenPromotion, f_writtenTarget, f_writtenCapture, f_writtenRank, f_writtenFile, f_writtenKind, a_board, a_line, a_out, a_moves, a_savedBoard, a_spell) (nI sd, nI rt, ch_epI ep, nI ck, nI nb, nI ll, nI ol, nI ct, nI nt, nI st, f_textLen, f_newSide, f_newRights, f_newEp, f_newClock, f_newNumber, a_men, a_line, a_out, a_text, a_cut) := ch_rl_mk hF
  have hll : ll ≤ 96 := hF.2.2.2.2.2.2.2.1
  refine br_c (fun c => br_t c ⟨rfl, R⟩) (fun c0 => br_c (fun c1 => ⟨9, ?_⟩) (fun c1 => br_f c0 (br_f c1 ⟨rfl, R⟩)))
  obtain ⟨j, hj, rfl⟩ := nI_of2 (n := 11) (by decide) c0 c1
  have key : ∀ d i, i + d = 8 → ∀ p q : Int64, ch_PK i p q → ∃ p' : Int64, (∀ post : Int64 → Prop, post p' → wX_lineEight_17 post (nI j) (nI ct) (nI nt) (nI st) (nI sd) (nI rt) (ch_epI ep) (nI ck) (nI nb) (nI ll) (nI ol) f_moveTotal f_movesKnown f_savedSide f_savedRights f_savedPassant f_savedClock f_savedNumber f_spellLen f_at f_end f_writtenMark f_writtenCastling f_writtenPromotion f_writtenTarget f_writtenCapture f_writtenRank f_writtenFile f_writtenKind a_board a_line a_out a_moves a_savedBoard a_spell (d + 1) p (nI i)) ∧ (∀ post : Int64 → Prop, post p' → wY_lineEight_17 post (nI j) (nI sd) (nI rt) (ch_epI ep) (nI ck) (nI nb) (nI ll) (nI ol) (nI ct) (nI nt) (nI st) f_textLen f_newSide f_newRights f_newEp f_newClock f_newNumber a_men a_line a_out a_text a_cut (d + 1) q (nI i)) := by
    intro d
    induction d with
    | zero =>
      intro i hi p q hp
      obtain rfl : i = 8 := by omega
      have e := ch_PK_8 hp
      subst e
      exact ⟨q, fun post h => br_t (by decide) h, fun post h => br_t (by decide) h⟩
    | succ d ih =>
      intro i hi p q hp
      have ei : 8 * nI j + nI i = nI (8 * j + i) := ch_nI_8c j i
      by_cases c : ll ≤ 8 * j + i
      · obtain ⟨p', hX, hY⟩ := ih (i + 1) (by omega) _ _ (ch_PK_n (by omega) hp)
        refine ⟨p', fun post h => pk_le 8 i (fun e => by omega) (fun _ => nm_r ei (nm_e (br_t (nI_le c (by omega)) (nm_r (nI_1 i) (hX post h))))), fun post h => pk_le 8 i (fun e => by omega) (fun _ => nm_r ei (br_t (nI_le c (by omega)) (nm_r (nI_1 i) (hY post h))))⟩
      · obtain ⟨p', hX, hY⟩ := ih (i + 1) (by omega) _ _ (ch_PK_c (c := (a_line (nI (8 * j + i)).toNatClampNeg).toInt64) (by omega) hp)
        refine ⟨p', fun post h => pk_le 8 i (fun e => by omega) (fun _ => nm_r ei (nm_e (br_f (nI_ge (by omega) (by omega)) ⟨vp_in_nI (by omega) (by omega), nm_e (nm_r (nI_1 i) (hX post h))⟩))), fun post h => pk_le 8 i (fun e => by omega) (fun _ => nm_r ei (br_f (nI_ge (by omega) (by omega)) ⟨vp_in_nI (by omega) (by omega), nm_e (nm_e (nm_r (nI_1 i) (hY post h)))⟩))⟩
  obtain ⟨p', hX, hY⟩ := key 8 0 rfl 0 0 ch_PK_0
  exact hX _ (br_f c0 (br_t c1 ⟨9, hY _ ⟨rfl, R⟩⟩))
theorem i_vc_outEight {k : Nat} {u : SX} {v : SY} (I : i_Rel k u v) (hk : k + 4 ≤ 2051) (v1 : Int32) : wpX_outEight (fun r => wpY_outEight (fun r' => r' = r ∧ i_Rel (k + 4) u v) v v1) u v1 := by
  refine ch_rl_el (P := fun u v => wpX_outEight (fun r => wpY_outEight (fun r' => r' = r ∧ i_Rel (k + 4) u v) v v1) u v1) ?_ I
  intro B sd rt ep ck ct nb nt st ll ol f_moveTotal f_movesKnown f_savedSide f_savedRights f_savedPassant f_savedClock f_savedNumber f_spellLen f_at f_end f_writtenMark f_writtenCastling f_writtenPromotion f_writtenTarget f_writtenCapture f_writtenRank f_writtenFile f_writtenKind a_board a_line a_out a_moves a_savedBoard a_spell f_textLen f_newSide f_newRights f_newEp f_newClock f_newNumber a_men a_text a_cut hF
  have R : i_Rel (k + 4) (nI ct, nI nt, nI st, nI sd, nI rt, ch_epI ep, nI ck, nI nb, nI ll, nI ol, f_moveTotal, f_movesKnown, f_savedSide, f_savedRights, f_savedPassant, f_savedClock, f_savedNumber, f_spellLen, f_at, f_end, f_writtenMark, f_writtenCastling, f_writtenPromotion, f_writtenTarget, f_writtenCapture, f_writtenRank, f_writtenFile, f_writtenKind, a_board, a_line, a_out, a_moves, a_savedBoard, a_spell) (nI sd, nI rt, ch_epI ep, nI ck, nI nb, nI ll, nI ol, nI ct, nI nt, nI st, f_textLen, f_newSide, f_newRights, f_newEp, f_newClock, f_newNumber, a_men, a_line, a_out, a_text, a_cut) := ch_rl_mk hF
  have hol : ol ≤ 96 := hF.2.2.2.2.2.2.2.2
  refine br_c (fun c => br_t c ⟨rfl, R⟩) (fun c0 => br_c (fun c1 => ⟨9, ?_⟩) (fun c1 => br_f c0 (br_f c1 ⟨rfl, R⟩)))
  obtain ⟨j, hj, rfl⟩ := nI_of2 (n := 11) (by decide) c0 c1
  have key : ∀ d i, i + d = 8 → ∀ p q : Int64, ch_PK i p q → ∃ p' : Int64, (∀ post : Int64 → Prop, post p' → wX_outEight_17 post (nI j) (nI ct) (nI nt) (nI st) (nI sd) (nI rt) (ch_epI ep) (nI ck) (nI nb) (nI ll) (nI ol) f_moveTotal f_movesKnown f_savedSide f_savedRights f_savedPassant f_savedClock f_savedNumber f_spellLen f_at f_end f_writtenMark f_writtenCastling f_writtenPromotion f_writtenTarget f_writtenCapture f_writtenRank f_writtenFile f_writtenKind a_board a_line a_out a_moves a_savedBoard a_spell (d + 1) p (nI i)) ∧ (∀ post : Int64 → Prop, post p' → wY_outEight_17 post (nI j) (nI sd) (nI rt) (ch_epI ep) (nI ck) (nI nb) (nI ll) (nI ol) (nI ct) (nI nt) (nI st) f_textLen f_newSide f_newRights f_newEp f_newClock f_newNumber a_men a_line a_out a_text a_cut (d + 1) q (nI i)) := by
    intro d
    induction d with
    | zero =>
      intro i hi p q hp
      obtain rfl : i = 8 := by omega
      have e := ch_PK_8 hp
      subst e
      exact ⟨q, fun post h => br_t (by decide) h, fun post h => br_t (by decide) h⟩
    | succ d ih =>
      intro i hi p q hp
      have ei : 8 * nI j + nI i = nI (8 * j + i) := ch_nI_8c j i
      by_cases c : ol ≤ 8 * j + i
      · obtain ⟨p', hX, hY⟩ := ih (i + 1) (by omega) _ _ (ch_PK_n (by omega) hp)
        refine ⟨p', fun post h => pk_le 8 i (fun e => by omega) (fun _ => nm_r ei (nm_e (br_t (nI_le c (by omega)) (nm_r (nI_1 i) (hX post h))))), fun post h => pk_le 8 i (fun e => by omega) (fun _ => nm_r ei (br_t (nI_le c (by omega)) (nm_r (nI_1 i) (hY post h))))⟩
      · obtain ⟨p', hX, hY⟩ := ih (i + 1) (by omega) _ _ (ch_PK_c (c := (a_out (nI (8 * j + i)).toNatClampNeg).toInt64) (by omega) hp)
        refine ⟨p', fun post h => pk_le 8 i (fun e => by omega) (fun _ => nm_r ei (nm_e (br_f (nI_ge (by omega) (by omega)) ⟨vp_in_nI (by omega) (by omega), nm_e (nm_r (nI_1 i) (hX post h))⟩))), fun post h => pk_le 8 i (fun e => by omega) (fun _ => nm_r ei (br_f (nI_ge (by omega) (by omega)) ⟨vp_in_nI (by omega) (by omega), nm_e (nm_e (nm_r (nI_1 i) (hY post h)))⟩))⟩
  obtain ⟨p', hX, hY⟩ := key 8 0 rfl 0 0 ch_PK_0
  exact hX _ (br_f c0 (br_t c1 ⟨9, hY _ ⟨rfl, R⟩⟩))
theorem i_vc_rankWord {k : Nat} {u : SX} {v : SY} (I : i_Rel k u v) (hk : k + 4 ≤ 2051) (v1 : Int32) : wpX_rankWord (fun r => wpY_rankWord (fun r' => r' = r ∧ i_Rel (k + 4) u v) v v1) u v1 := by
  refine ch_rl_el (P := fun u v => wpX_rankWord (fun r => wpY_rankWord (fun r' => r' = r ∧ i_Rel (k + 4) u v) v v1) u v1) ?_ I
  intro B sd rt ep ck ct nb nt st ll ol f_moveTotal f_movesKnown f_savedSide f_savedRights f_savedPassant f_savedClock f_savedNumber f_spellLen f_at f_end f_writtenMark f_writtenCastling f_writtenPromotion f_writtenTarget f_writtenCapture f_writtenRank f_writtenFile f_writtenKind a_board a_line a_out a_moves a_savedBoard a_spell f_textLen f_newSide f_newRights f_newEp f_newClock f_newNumber a_men a_text a_cut hF
  have R : i_Rel (k + 4) (nI ct, nI nt, nI st, nI sd, nI rt, ch_epI ep, nI ck, nI nb, nI ll, nI ol, f_moveTotal, f_movesKnown, f_savedSide, f_savedRights, f_savedPassant, f_savedClock, f_savedNumber, f_spellLen, f_at, f_end, f_writtenMark, f_writtenCastling, f_writtenPromotion, f_writtenTarget, f_writtenCapture, f_writtenRank, f_writtenFile, f_writtenKind, a_board, a_line, a_out, a_moves, a_savedBoard, a_spell) (nI sd, nI rt, ch_epI ep, nI ck, nI nb, nI ll, nI ol, nI ct, nI nt, nI st, f_textLen, f_newSide, f_newRights, f_newEp, f_newClock, f_newNumber, a_men, a_line, a_out, a_text, a_cut) := ch_rl_mk hF
  have h1 := hF.1
  have h2 := hF.2.1
  refine br_c (fun c => br_t c ⟨rfl, R⟩) (fun c0 => br_c (fun c1 => ⟨9, ?_⟩) (fun c1 => br_f c0 (br_f c1 ⟨rfl, R⟩)))
  obtain ⟨j, hj, rfl⟩ := nI_of2 (n := 7) (by decide) c0 c1
  have key : ∀ d i, i + d = 8 → ∀ p : Int32, ∃ p' : Int32, (∀ post : Int32 → Prop, post p' → wX_rankWord_16 post (nI j) (nI ct) (nI nt) (nI st) (nI sd) (nI rt) (ch_epI ep) (nI ck) (nI nb) (nI ll) (nI ol) f_moveTotal f_movesKnown f_savedSide f_savedRights f_savedPassant f_savedClock f_savedNumber f_spellLen f_at f_end f_writtenMark f_writtenCastling f_writtenPromotion f_writtenTarget f_writtenCapture f_writtenRank f_writtenFile f_writtenKind a_board a_line a_out a_moves a_savedBoard a_spell (d + 1) p (nI i)) ∧ (∀ post : Int32 → Prop, post p' → wY_rankWord_16 post (nI j) (nI sd) (nI rt) (ch_epI ep) (nI ck) (nI nb) (nI ll) (nI ol) (nI ct) (nI nt) (nI st) f_textLen f_newSide f_newRights f_newEp f_newClock f_newNumber a_men a_line a_out a_text a_cut (d + 1) p (nI i)) := by
    intro d
    induction d with
    | zero =>
      intro i hi p
      obtain rfl : i = 8 := by omega
      exact ⟨p, fun post h => br_t (by decide) h, fun post h => br_t (by decide) h⟩
    | succ d ih =>
      intro i hi p
      have ei : 8 * nI j + nI i = nI (8 * j + i) := ch_nI_8c j i
      obtain ⟨p', hX, hY⟩ := ih (i + 1) (by omega) (p + (nI (B (8 * j + i)) <<< ((4 * nI i) &&& 31)))
      refine ⟨p', fun post h => pk_le 8 i (fun e => by omega) (fun _ => ?_), fun post h => pk_le 8 i (fun e => by omega) (fun _ => ?_)⟩
      · rw [ei]
        exact ⟨vp_in_nI (by omega) (by omega), nm_r (by rw [ch_bx h1 (by omega)]) (nm_r (nI_1 i) (hX post h))⟩
      · rw [ei]
        exact ⟨vp_in_nI (by omega) (by omega), nm_r (by rw [ch_by0 h2 (by omega)]) (nm_r (nI_1 i) (hY post h))⟩
  obtain ⟨p', hX, hY⟩ := key 8 0 rfl 0
  exact hX _ (br_f c0 (br_t c1 ⟨9, hY _ ⟨rfl, R⟩⟩))
theorem i_vc_echo {k : Nat} {u : SX} {v : SY} (I : i_Rel k u v) (hk : k + 4 ≤ 2051) : wpX_echo (fun r u' => wpY_echo (fun r' v' => r' = r ∧ i_Rel (k + 4) u' v') v) u := by
  refine ch_rl_el (P := fun u v => wpX_echo (fun r u' => wpY_echo (fun r' v' => r' = r ∧ i_Rel (k + 4) u' v') v) u) ?_ I
  intro B sd rt ep ck ct nb nt st ll ol f_moveTotal f_movesKnown f_savedSide f_savedRights f_savedPassant f_savedClock f_savedNumber f_spellLen f_at f_end f_writtenMark f_writtenCastling f_writtenPromotion f_writtenTarget f_writtenCapture f_writtenRank f_writtenFile f_writtenKind a_board a_line a_out a_moves a_savedBoard a_spell f_textLen f_newSide f_newRights f_newEp f_newClock f_newNumber a_men a_text a_cut hF
  obtain ⟨h1, h2, h3, h4, h5, h6, h7, h8, h9⟩ := hF
  have key : ∀ d i, i + d = ol → ∀ l : Nat → Int32, ∃ l' : Nat → Int32, (∀ post : Int32 → SX → Prop, post (nI ol) (nI ct, nI nt, nI st, nI sd, nI rt, ch_epI ep, nI ck, nI nb, nI ol, nI ol, f_moveTotal, f_movesKnown, f_savedSide, f_savedRights, f_savedPassant, f_savedClock, f_savedNumber, f_spellLen, f_at, f_end, f_writtenMark, f_writtenCastling, f_writtenPromotion, f_writtenTarget, f_writtenCapture, f_writtenRank, f_writtenFile, f_writtenKind, a_board, l', a_out, a_moves, a_savedBoard, a_spell) → wX_echo_2 post (nI ct) (nI nt) (nI st) (nI sd) (nI rt) (ch_epI ep) (nI ck) (nI nb) (nI ll) (nI ol) f_moveTotal f_movesKnown f_savedSide f_savedRights f_savedPassant f_savedClock f_savedNumber f_spellLen f_at f_end f_writtenMark f_writtenCastling f_writtenPromotion f_writtenTarget f_writtenCapture f_writtenRank f_writtenFile f_writtenKind (d + 1) (nI i) a_board l a_out a_moves a_savedBoard a_spell) ∧ (∀ post : Int32 → SY → Prop, post (nI ol) (nI sd, nI rt, ch_epI ep, nI ck, nI nb, nI ol, nI ol, nI ct, nI nt, nI st, f_textLen, f_newSide, f_newRights, f_newEp, f_newClock, f_newNumber, a_men, l', a_out, a_text, a_cut) → wY_echo_2 post (nI sd) (nI rt) (ch_epI ep) (nI ck) (nI nb) (nI ll) (nI ol) (nI ct) (nI nt) (nI st) f_textLen f_newSide f_newRights f_newEp f_newClock f_newNumber (d + 1) (nI i) a_men l a_out a_text a_cut) := by
    intro d
    induction d with
    | zero =>
      intro i hi l
      obtain rfl : i = ol := by omega
      exact ⟨l, fun post h => br_t (Int32.le_refl _) h, fun post h => br_t (Int32.le_refl _) h⟩
    | succ d ih =>
      intro i hi l
      obtain ⟨l', hX, hY⟩ := ih (i + 1) (by omega) (upd l (nI i).toNatClampNeg (a_out (nI i).toNatClampNeg))
      have v9 : vp_in (nI i) 96 := vp_in_nI (by omega) (by omega)
      exact ⟨l', fun post h => br_f (nI_ge (by omega) (by omega)) ⟨v9, v9, nm_e (nm_r (nI_1 i) (hX post h))⟩, fun post h => br_f (nI_ge (by omega) (by omega)) ⟨v9, v9, nm_e (nm_r (nI_1 i) (hY post h))⟩⟩
  obtain ⟨l', hX, hY⟩ := key ol 0 (by omega) a_line
  exact ⟨ol + 1, hX _ ⟨ol + 1, hY _ ⟨rfl, ch_rl_mk ⟨h1, h2, h3, h4, h5, h6, h7, h9, h9⟩⟩⟩⟩
theorem i_vc_feedEight {k : Nat} {u : SX} {v : SY} (I : i_Rel k u v) (hk : k + 4 ≤ 2051) (a0 : Int64) : wpX_feedEight (fun r u' => wpY_feedEight (fun r' v' => r' = r ∧ i_Rel (k + 4) u' v') v a0) u a0 := by
  refine ch_rl_el (P := fun u v => wpX_feedEight (fun r u' => wpY_feedEight (fun r' v' => r' = r ∧ i_Rel (k + 4) u' v') v a0) u a0) ?_ I
  intro B sd rt ep ck ct nb nt st ll ol f_moveTotal f_movesKnown f_savedSide f_savedRights f_savedPassant f_savedClock f_savedNumber f_spellLen f_at f_end f_writtenMark f_writtenCastling f_writtenPromotion f_writtenTarget f_writtenCapture f_writtenRank f_writtenFile f_writtenKind a_board a_line a_out a_moves a_savedBoard a_spell f_textLen f_newSide f_newRights f_newEp f_newClock f_newNumber a_men a_text a_cut hF
  have R : i_Rel (k + 4) (nI ct, nI nt, nI st, nI sd, nI rt, ch_epI ep, nI ck, nI nb, nI ll, nI ol, f_moveTotal, f_movesKnown, f_savedSide, f_savedRights, f_savedPassant, f_savedClock, f_savedNumber, f_spellLen, f_at, f_end, f_writtenMark, f_writtenCastling, f_writtenPromotion, f_writtenTarget, f_writtenCapture, f_writtenRank, f_writtenFile, f_writtenKind, a_board, a_line, a_out, a_moves, a_savedBoard, a_spell) (nI sd, nI rt, ch_epI ep, nI ck, nI nb, nI ll, nI ol, nI ct, nI nt, nI st, f_textLen, f_newSide, f_newRights, f_newEp, f_newClock, f_newNumber, a_men, a_line, a_out, a_text, a_cut) := ch_rl_mk hF
  obtain ⟨h1, h2, h3, h4, h5, h6, h7, h8, h9⟩ := hF
  have put : ∀ (x3 : Int32) (d i : Nat), i + d = 8 → ∀ (l : Nat → Int32) (n : Nat), n ≤ 96 → ∃ (l' : Nat → Int32) (n' : Nat), n' ≤ 96 ∧ (∀ post : Int32 → SX → Prop, post x3 (nI ct, nI nt, nI st, nI sd, nI rt, ch_epI ep, nI ck, nI nb, nI n', nI ol, f_moveTotal, f_movesKnown, f_savedSide, f_savedRights, f_savedPassant, f_savedClock, f_savedNumber, f_spellLen, f_at, f_end, f_writtenMark, f_writtenCastling, f_writtenPromotion, f_writtenTarget, f_writtenCapture, f_writtenRank, f_writtenFile, f_writtenKind, a_board, l', a_out, a_moves, a_savedBoard, a_spell) → wX_feedEight_76 post a0 x3 (nI ct) (nI nt) (nI st) (nI sd) (nI rt) (ch_epI ep) (nI ck) (nI nb) (nI ol) f_moveTotal f_movesKnown f_savedSide f_savedRights f_savedPassant f_savedClock f_savedNumber f_spellLen f_at f_end f_writtenMark f_writtenCastling f_writtenPromotion f_writtenTarget f_writtenCapture f_writtenRank f_writtenFile f_writtenKind (d + 1) (nI i) (nI n) a_board l a_out a_moves a_savedBoard a_spell) ∧ (∀ post : Int32 → SY → Prop, post x3 (nI sd, nI rt, ch_epI ep, nI ck, nI nb, nI n', nI ol, nI ct, nI nt, nI st, f_textLen, f_newSide, f_newRights, f_newEp, f_newClock, f_newNumber, a_men, l', a_out, a_text, a_cut) → wY_feedEight_77 post a0 x3 (nI sd) (nI rt) (ch_epI ep) (nI ck) (nI nb) (nI ol) (nI ct) (nI nt) (nI st) f_textLen f_newSide f_newRights f_newEp f_newClock f_newNumber (d + 1) (nI i) (nI n) a_men l a_out a_text a_cut) := by
    intro x3 d
    induction d with
    | zero =>
      intro i hi l n hn
      obtain rfl : i = 8 := by omega
      exact ⟨l, n, hn, fun post h => br_t (by decide) h, fun post h => br_t (by decide) h⟩
    | succ d ih =>
      intro i hi l n hn
      have n8 : ¬ (8 : Int32) ≤ nI i := nI_ge (b := 8) (by omega) (by omega)
      by_cases z : (((a0.toUInt64 >>> ((56 - (8 * nI i)).toInt64.toUInt64 &&& Int64.toUInt64 63)).toInt64) &&& 255).toInt32 = 0
      · obtain ⟨l', n', hn', hX, hY⟩ := ih (i + 1) (by omega) l n hn
        exact ⟨l', n', hn', fun post h => br_f n8 (nm_e (br_t z (nm_r (nI_1 i) (hX post h)))), fun post h => br_f n8 (nm_e (br_t z (nm_r (nI_1 i) (hY post h))))⟩
      · by_cases z2 : 96 ≤ n
        · obtain ⟨l', n', hn', hX, hY⟩ := ih (i + 1) (by omega) l n hn
          have b : (96 : Int32) ≤ nI n := nI_le (a := 96) z2 (by omega)
          exact ⟨l', n', hn', fun post h => br_f n8 (nm_e (br_f z (br_t b (nm_r (nI_1 i) (hX post h))))), fun post h => br_f n8 (nm_e (br_f z (br_t b (nm_r (nI_1 i) (hY post h)))))⟩
        · obtain ⟨l', n', hn', hX, hY⟩ := ih (i + 1) (by omega) (upd l (nI n).toNatClampNeg (((a0.toUInt64 >>> ((56 - (8 * nI i)).toInt64.toUInt64 &&& Int64.toUInt64 63)).toInt64) &&& 255).toInt32) (n + 1) (by omega)
          have b : ¬ (96 : Int32) ≤ nI n := nI_ge (b := 96) (by omega) (by omega)
          have v9 : vp_in (nI n) 96 := vp_in_nI (by omega) (by omega)
          exact ⟨l', n', hn', fun post h => br_f n8 (nm_e (br_f z (br_f b ⟨v9, nm_e (nm_r (nI_1 n) (nm_r (nI_1 i) (hX post h)))⟩))), fun post h => br_f n8 (nm_e (br_f z (br_f b ⟨v9, nm_e (nm_r (nI_1 n) (nm_r (nI_1 i) (hY post h)))⟩)))⟩
  have scan : ∀ (d i : Nat), i + d = 8 → ∀ x3 : Int32, ((∀ post : Int32 → SX → Prop, post (-1) (nI ct, nI nt, nI st, nI sd, nI rt, ch_epI ep, nI ck, nI nb, nI ll, nI ol, f_moveTotal, f_movesKnown, f_savedSide, f_savedRights, f_savedPassant, f_savedClock, f_savedNumber, f_spellLen, f_at, f_end, f_writtenMark, f_writtenCastling, f_writtenPromotion, f_writtenTarget, f_writtenCapture, f_writtenRank, f_writtenFile, f_writtenKind, a_board, a_line, a_out, a_moves, a_savedBoard, a_spell) → wX_feedEight_5 post a0 (nI ct) (nI nt) (nI st) (nI sd) (nI rt) (ch_epI ep) (nI ck) (nI nb) (nI ll) (nI ol) f_moveTotal f_movesKnown f_savedSide f_savedRights f_savedPassant f_savedClock f_savedNumber f_spellLen f_at f_end f_writtenMark f_writtenCastling f_writtenPromotion f_writtenTarget f_writtenCapture f_writtenRank f_writtenFile f_writtenKind a_board a_line a_out a_moves a_savedBoard a_spell (d + 1) x3 (nI i)) ∧ (∀ post : Int32 → SY → Prop, post (-1) (nI sd, nI rt, ch_epI ep, nI ck, nI nb, nI ll, nI ol, nI ct, nI nt, nI st, f_textLen, f_newSide, f_newRights, f_newEp, f_newClock, f_newNumber, a_men, a_line, a_out, a_text, a_cut) → wY_feedEight_5 post a0 (nI sd) (nI rt) (ch_epI ep) (nI ck) (nI nb) (nI ll) (nI ol) (nI ct) (nI nt) (nI st) f_textLen f_newSide f_newRights f_newEp f_newClock f_newNumber a_men a_line a_out a_text a_cut (d + 1) x3 (nI i))) ∨ (∃ x : Int32, (∀ post : Int32 → SX → Prop, (((nI ll + x) ≤ 96 → (∃ n76 : Nat, wX_feedEight_76 post a0 x (nI ct) (nI nt) (nI st) (nI sd) (nI rt) (ch_epI ep) (nI ck) (nI nb) (nI ol) f_moveTotal f_movesKnown f_savedSide f_savedRights f_savedPassant f_savedClock f_savedNumber f_spellLen f_at f_end f_writtenMark f_writtenCastling f_writtenPromotion f_writtenTarget f_writtenCapture f_writtenRank f_writtenFile f_writtenKind n76 0 (nI ll) a_board a_line a_out a_moves a_savedBoard a_spell)) ∧ (¬ (nI ll + x) ≤ 96 → (post (-2) (nI ct, nI nt, nI st, nI sd, nI rt, ch_epI ep, nI ck, nI nb, nI ll, nI ol, f_moveTotal, f_movesKnown, f_savedSide, f_savedRights, f_savedPassant, f_savedClock, f_savedNumber, f_spellLen, f_at, f_end, f_writtenMark, f_writtenCastling, f_writtenPromotion, f_writtenTarget, f_writtenCapture, f_writtenRank, f_writtenFile, f_writtenKind, a_board, a_line, a_out, a_moves, a_savedBoard, a_spell)))) → wX_feedEight_5 post a0 (nI ct) (nI nt) (nI st) (nI sd) (nI rt) (ch_epI ep) (nI ck) (nI nb) (nI ll) (nI ol) f_moveTotal f_movesKnown f_savedSide f_savedRights f_savedPassant f_savedClock f_savedNumber f_spellLen f_at f_end f_writtenMark f_writtenCastling f_writtenPromotion f_writtenTarget f_writtenCapture f_writtenRank f_writtenFile f_writtenKind a_board a_line a_out a_moves a_savedBoard a_spell (d + 1) x3 (nI i)) ∧ (∀ post : Int32 → SY → Prop, (((nI ll + x) ≤ 96 → (∃ n77 : Nat, wY_feedEight_77 post a0 x (nI sd) (nI rt) (ch_epI ep) (nI ck) (nI nb) (nI ol) (nI ct) (nI nt) (nI st) f_textLen f_newSide f_newRights f_newEp f_newClock f_newNumber n77 0 (nI ll) a_men a_line a_out a_text a_cut)) ∧ (¬ (nI ll + x) ≤ 96 → (post (-2) (nI sd, nI rt, ch_epI ep, nI ck, nI nb, nI ll, nI ol, nI ct, nI nt, nI st, f_textLen, f_newSide, f_newRights, f_newEp, f_newClock, f_newNumber, a_men, a_line, a_out, a_text, a_cut)))) → wY_feedEight_5 post a0 (nI sd) (nI rt) (ch_epI ep) (nI ck) (nI nb) (nI ll) (nI ol) (nI ct) (nI nt) (nI st) f_textLen f_newSide f_newRights f_newEp f_newClock f_newNumber a_men a_line a_out a_text a_cut (d + 1) x3 (nI i))) := by
    intro d
    induction d with
    | zero =>
      intro i hi x3
      obtain rfl : i = 8 := by omega
      exact Or.inr ⟨x3, fun post h => br_t (by decide) h, fun post h => br_t (by decide) h⟩
    | succ d ih =>
      intro i hi x3
      have n8 : ¬ (8 : Int32) ≤ nI i := nI_ge (b := 8) (by omega) (by omega)
      by_cases z : (((a0.toUInt64 >>> ((56 - (8 * nI i)).toInt64.toUInt64 &&& Int64.toUInt64 63)).toInt64) &&& 255).toInt32 = 0
      · rcases ih (i + 1) (by omega) x3 with ⟨hX, hY⟩ | ⟨x, hX, hY⟩
        · exact Or.inl ⟨fun post h => br_f n8 (nm_e (br_t z (nm_r (nI_1 i) (hX post h)))), fun post h => br_f n8 (nm_e (br_t z (nm_r (nI_1 i) (hY post h))))⟩
        · exact Or.inr ⟨x, fun post h => br_f n8 (nm_e (br_t z (nm_r (nI_1 i) (hX post h)))), fun post h => br_f n8 (nm_e (br_t z (nm_r (nI_1 i) (hY post h))))⟩
      · by_cases z2 : (((a0.toUInt64 >>> ((56 - (8 * nI i)).toInt64.toUInt64 &&& Int64.toUInt64 63)).toInt64) &&& 255).toInt32 < 32
        · exact Or.inl ⟨fun post h => br_f n8 (nm_e (br_f z (br_t z2 h))), fun post h => br_f n8 (nm_e (br_f z (br_t z2 h)))⟩
        · by_cases z3 : (((a0.toUInt64 >>> ((56 - (8 * nI i)).toInt64.toUInt64 &&& Int64.toUInt64 63)).toInt64) &&& 255).toInt32 ≤ 126
          · rcases ih (i + 1) (by omega) (x3 + 1) with ⟨hX, hY⟩ | ⟨x, hX, hY⟩
            · exact Or.inl ⟨fun post h => br_f n8 (nm_e (br_f z (br_f z2 (br_t z3 (nm_e (nm_r (nI_1 i) (hX post h))))))), fun post h => br_f n8 (nm_e (br_f z (br_f z2 (br_t z3 (nm_e (nm_r (nI_1 i) (hY post h)))))))⟩
            · exact Or.inr ⟨x, fun post h => br_f n8 (nm_e (br_f z (br_f z2 (br_t z3 (nm_e (nm_r (nI_1 i) (hX post h))))))), fun post h => br_f n8 (nm_e (br_f z (br_f z2 (br_t z3 (nm_e (nm_r (nI_1 i) (hY post h)))))))⟩
          · exact Or.inl ⟨fun post h => br_f n8 (nm_e (br_f z (br_f z2 (br_f z3 h)))), fun post h => br_f n8 (nm_e (br_f z (br_f z2 (br_f z3 h))))⟩
  rcases scan 8 0 rfl 0 with ⟨hX, hY⟩ | ⟨x, hX, hY⟩
  · exact ⟨9, hX _ ⟨9, hY _ ⟨rfl, R⟩⟩⟩
  · refine ⟨9, hX _ (br_c (fun c => ?_) (fun c => ⟨9, hY _ (br_f c ⟨rfl, R⟩)⟩))⟩
    obtain ⟨l', n', hn', pX, pY⟩ := put x 8 0 rfl a_line ll h8
    exact ⟨9, pX _ ⟨9, hY _ (br_t c ⟨9, pY _ ⟨rfl, ch_rl_mk ⟨h1, h2, h3, h4, h5, h6, h7, hn', h9⟩⟩⟩)⟩⟩
end
section
/-! the starting position -/

def ch_bk (f : Nat) : Nat := if f = 0 then 4 else if f = 1 then 2 else if f = 2 then 3 else if f = 3 then 5 else if f = 4 then 6 else if f = 5 then 3 else if f = 6 then 2 else 4
def ch_B0 (i : Nat) : Nat := if i < 8 then ch_bk i else if i < 16 then 1 else if i < 48 then 0 else if i < 56 then 9 else if i < 64 then 8 + ch_bk (i - 56) else 0
theorem ch_B0_v : ∀ i, i < 64 → (ch_B0 i = 0 ∨ (1 ≤ ch_B0 i ∧ ch_B0 i ≤ 6) ∨ (9 ≤ ch_B0 i ∧ ch_B0 i ≤ 14)) := by decide +kernel
theorem ch_B0_k0 : ∀ j, j < 64 → ch_B0 j = 8 * 0 + 6 → j = 4 := by decide +kernel
theorem ch_B0_k1 : ∀ j, j < 64 → ch_B0 j = 8 * 1 + 6 → j = 60 := by decide +kernel
theorem ch_B0_p : ∀ i, i < 64 → ch_B0 i % 8 = 1 → 1 ≤ i / 8 ∧ i / 8 ≤ 6 := by decide +kernel
theorem ch_B0_w : ∀ i, i < 64 → ch_B0 i ≠ 0 → ch_B0 i / 8 = 0 → i < 16 := by decide +kernel
theorem ch_B0_1 : ∀ i, i < 64 → i / 8 = 1 → ch_B0 i = 1 := by decide +kernel
theorem ch_B0_c : ∀ c, c < 2 → ch_cb (fun i => ch_B0 i != 0 && ch_B0 i / 8 == c) 64 ≤ 16 := by decide +kernel
theorem ch_B0_at : ¬ ch_AT ch_B0 60 0 := by
  rintro ⟨s, hs, n0, hc, h⟩
  have h16 := ch_B0_w s hs n0 hc
  rcases h with ⟨_, h⟩ | ⟨_, a, b, hk, h⟩ | ⟨_, a, b, hd, h⟩ | ⟨a, b, k, hd, hl, hk⟩
  · rw [hc] at h
    have hf : ch_fw 0 = 1 := rfl
    rw [hf] at h
    unfold ch_SQ at h
    omega
  · unfold ch_SQ at h; unfold ch_kn at hk; omega
  · unfold ch_SQ at h; unfold ch_dr at hd; omega
  · obtain ⟨l1, l2, l3, l4⟩ := hl
    have hb : b = 1 ∧ 6 ≤ k := by
      have := ch_dr_c hd
      unfold ch_SQ at l3
      rcases this.2 with rfl | rfl | rfl <;> omega
    obtain ⟨q, hq, hsq⟩ := ch_SQ_mid hd hs (by omega) l3 (j := 1) (by omega)
    have hq0 := l4 1 (by omega) (by omega) q hq hsq
    obtain ⟨rfl, _⟩ := hb
    have e1 : q / 8 = s / 8 + 1 := by unfold ch_SQ at hsq; omega
    by_cases e : s / 8 = 0
    · have := ch_B0_1 q hq (by omega); omega
    · have := ch_B0_1 s hs (by omega); omega
theorem ch_B0_pos : ch_POS ch_B0 0 15 64 := by
  refine ⟨ch_B0_v, by omega, by omega, by omega, ⟨4, by omega, rfl, ch_B0_k0⟩, ⟨60, by omega, rfl, ch_B0_k1⟩, ch_B0_p, ?_, fun h => by omega, fun q hq => ?_, fun c hc => ?_⟩
  · unfold ch_RG; decide
  · have : q = 60 := ch_B0_k1 q hq.1 hq.2.1
    rw [this]; exact ch_B0_at
  · refine Nat.le_trans (ch_cn_cb (f := fun i => ch_B0 i != 0 && ch_B0 i / 8 == c) ?_) (ch_B0_c c hc)
    rintro i hi ⟨w1, w2⟩
    simp only [Bool.and_eq_true, bne_iff_ne, ne_eq, beq_iff_eq]
    exact ⟨w1, w2⟩
/-- the board while the files are filled -/
def ch_FI (i : Nat) (m : Nat → Int32) : Prop := ∀ j, j < 64 → m j = if j % 8 < i then nI (ch_B0 j) else 0
theorem ch_FI_s {i : Nat} {m : Nat → Int32} (hi : i < 8) (h : ch_FI i m) : ch_FI (i + 1) (upd (upd (upd (upd m i (nI (ch_bk i))) (8 + i) 1) (48 + i) 9) (56 + i) (nI (8 + ch_bk i))) := by
  intro j hj
  have hj2 := h j hj
  have v : j % 8 = i → nI (ch_B0 j) = if j = 56 + i then nI (8 + ch_bk i) else if j = 48 + i then 9 else if j = 8 + i then 1 else if j = i then nI (ch_bk i) else 0 := by
    intro e
    unfold ch_B0
    by_cases c1 : j = 56 + i
    · rw [if_pos c1, if_neg (by omega), if_neg (by omega), if_neg (by omega), if_neg (by omega), if_pos (by omega), show j - 56 = i from by omega]
    rw [if_neg c1]
    by_cases c2 : j = 48 + i
    · rw [if_pos c2, if_neg (by omega), if_neg (by omega), if_neg (by omega), if_pos (by omega)]; rfl
    rw [if_neg c2]
    by_cases c3 : j = 8 + i
    · rw [if_pos c3, if_neg (by omega), if_pos (by omega)]; rfl
    rw [if_neg c3]
    by_cases c4 : j = i
    · rw [if_pos c4, if_pos (by omega), c4]
    · rw [if_neg c4, if_neg (by omega), if_neg (by omega), if_pos (by omega)]; rfl
  by_cases e : j % 8 = i
  · rw [if_pos (by omega), v e]
    by_cases c1 : j = 56 + i
    · rw [ch_u_t c1, if_pos c1]
    rw [ch_u_f c1, if_neg c1]
    by_cases c2 : j = 48 + i
    · rw [ch_u_t c2, if_pos c2]
    rw [ch_u_f c2, if_neg c2]
    by_cases c3 : j = 8 + i
    · rw [ch_u_t c3, if_pos c3]
    rw [ch_u_f c3, if_neg c3]
    by_cases c4 : j = i
    · rw [ch_u_t c4, if_pos c4]
    · rw [ch_u_f c4, if_neg c4, hj2, if_neg (by omega)]
  · rw [ch_u_f (by omega), ch_u_f (by omega), ch_u_f (by omega), ch_u_f (by omega), hj2]
    by_cases c : j % 8 < i
    · rw [if_pos c, if_pos (by omega)]
    · rw [if_neg c, if_neg (by omega)]
theorem ch_FI_8 {m : Nat → Int32} (h : ch_FI 8 m) : ∀ j, j < 64 → m j = nI (ch_B0 j) := fun j hj => by
  have := h j hj
  rw [if_pos (by omega)] at this
  exact this
theorem ch_i8 (k : Nat) : (8 : Int32) + nI k = nI (8 + k) := nI_add 8 k
theorem ch_i48 (k : Nat) : (48 : Int32) + nI k = nI (48 + k) := nI_add 48 k
theorem ch_i56 (k : Nat) : (56 : Int32) + nI k = nI (56 + k) := nI_add 56 k
section
variable {f_clockTop f_numberTop f_strict f_side f_rights f_passant f_clock f_number f_lineLen f_outLen f_moveTotal f_movesKnown f_savedSide f_savedRights f_savedPassant f_savedClock f_savedNumber f_spellLen f_at f_end f_writtenMark f_writtenCastling f_writtenPromotion f_writtenTarget f_writtenCapture f_writtenRank f_writtenFile f_writtenKind : Int32} {a_board a_line a_out a_moves a_savedBoard a_spell : Nat → Int32}
theorem ch_x_clamp {post : Int32 → Prop} {w : Int32} {ch_lo hi c : Nat} (hA : ∀ R : Int32 → Prop, R (nI c) → ((nI ch_lo ≤ w → ((w ≤ nI hi → R w) ∧ (¬ w ≤ nI hi → R (nI hi)))) ∧ (¬ nI ch_lo ≤ w → R (nI ch_lo)))) (h : post (nI c)) : wpX_clamp post (f_clockTop, f_numberTop, f_strict, f_side, f_rights, f_passant, f_clock, f_number, f_lineLen, f_outLen, f_moveTotal, f_movesKnown, f_savedSide, f_savedRights, f_savedPassant, f_savedClock, f_savedNumber, f_spellLen, f_at, f_end, f_writtenMark, f_writtenCastling, f_writtenPromotion, f_writtenTarget, f_writtenCapture, f_writtenRank, f_writtenFile, f_writtenKind, a_board, a_line, a_out, a_moves, a_savedBoard, a_spell) w (nI ch_lo) (nI hi) := hA post h
theorem ch_x_backKind {post : Int32 → Prop} {i : Nat} (hi : i < 8) (h : post (nI (ch_bk i))) : wpX_backKind post (f_clockTop, f_numberTop, f_strict, f_side, f_rights, f_passant, f_clock, f_number, f_lineLen, f_outLen, f_moveTotal, f_movesKnown, f_savedSide, f_savedRights, f_savedPassant, f_savedClock, f_savedNumber, f_spellLen, f_at, f_end, f_writtenMark, f_writtenCastling, f_writtenPromotion, f_writtenTarget, f_writtenCapture, f_writtenRank, f_writtenFile, f_writtenKind, a_board, a_line, a_out, a_moves, a_savedBoard, a_spell) (nI i) := by
  have c : i = 0 ∨ i = 1 ∨ i = 2 ∨ i = 3 ∨ i = 4 ∨ i = 5 ∨ i = 6 ∨ i = 7 := by omega
  rcases c with rfl | rfl | rfl | rfl | rfl | rfl | rfl | rfl
  · exact br_t (by decide) h
  · exact br_f (by decide) (br_f (by decide) (br_t (by decide) h))
  · exact br_f (by decide) (br_f (by decide) (br_f (by decide) (br_f (by decide) (br_t (by decide) h))))
  · exact br_f (by decide) (br_f (by decide) (br_f (by decide) (br_f (by decide) (br_f (by decide) (br_f (by decide) (br_t (by decide) h))))))
  · exact br_f (by decide) (br_f (by decide) (br_f (by decide) (br_f (by decide) (br_f (by decide) (br_f (by decide) (br_f (by decide) h))))))
  · exact br_f (by decide) (br_f (by decide) (br_f (by decide) (br_f (by decide) (br_f (by decide) (br_t (by decide) h)))))
  · exact br_f (by decide) (br_f (by decide) (br_f (by decide) (br_t (by decide) h)))
  · exact br_f (by decide) (br_t (by decide) h)
theorem ch_x_reset {post : SX → Prop} (h : ∀ ab, ch_BX ab ch_B0 → post (f_clockTop, f_numberTop, f_strict, 0, 15, (-1), 0, 1, 0, 0, f_moveTotal, 0, f_savedSide, f_savedRights, f_savedPassant, f_savedClock, f_savedNumber, f_spellLen, f_at, f_end, f_writtenMark, f_writtenCastling, f_writtenPromotion, f_writtenTarget, f_writtenCapture, f_writtenRank, f_writtenFile, f_writtenKind, ab, a_line, a_out, a_moves, a_savedBoard, a_spell)) : wpX_reset post (f_clockTop, f_numberTop, f_strict, f_side, f_rights, f_passant, f_clock, f_number, f_lineLen, f_outLen, f_moveTotal, f_movesKnown, f_savedSide, f_savedRights, f_savedPassant, f_savedClock, f_savedNumber, f_spellLen, f_at, f_end, f_writtenMark, f_writtenCastling, f_writtenPromotion, f_writtenTarget, f_writtenCapture, f_writtenRank, f_writtenFile, f_writtenKind, a_board, a_line, a_out, a_moves, a_savedBoard, a_spell) := by
  refine ⟨65, ?_⟩
  refine ch_fn (σ := Nat → Int32) (fun n m z => wX_reset_2 post f_clockTop f_numberTop f_strict f_side f_rights f_passant f_clock f_number f_lineLen f_outLen f_moveTotal f_movesKnown f_savedSide f_savedRights f_savedPassant f_savedClock f_savedNumber f_spellLen f_at f_end f_writtenMark f_writtenCastling f_writtenPromotion f_writtenTarget f_writtenCapture f_writtenRank f_writtenFile f_writtenKind n z m a_line a_out a_moves a_savedBoard a_spell) (fun i m => ∀ j, j < i → m j = 0) 64 ?_ ?_ 64 0 a_board rfl (fun j hj => by omega)
  · intro n m ch_hm
    refine br_t (by decide) ⟨9, ?_⟩
    refine ch_fn (σ := Nat → Int32) (fun n m z => wX_reset_23 post f_clockTop f_numberTop f_strict f_side f_rights f_passant f_clock f_number f_lineLen f_outLen f_moveTotal f_movesKnown f_savedSide f_savedRights f_savedPassant f_savedClock f_savedNumber f_spellLen f_at f_end f_writtenMark f_writtenCastling f_writtenPromotion f_writtenTarget f_writtenCapture f_writtenRank f_writtenFile f_writtenKind n z m a_line a_out a_moves a_savedBoard a_spell) ch_FI 8 ?_ ?_ 8 0 m rfl (fun j hj => by rw [if_neg (by omega)]; exact ch_hm j hj)
    · intro n m' hm'
      exact br_t (by decide) (h m' (ch_FI_8 hm'))
    · intro n i m' hi hm' ih
      refine pk_le 8 i (fun e => by omega) (fun _ => ch_x_backKind hi ?_)
      rw [ch_i8, ch_i48, ch_i56, ch_i8, nI_clamp (n := i) (by omega), nI_clamp (n := 8 + i) (by omega), nI_clamp (n := 48 + i) (by omega), nI_clamp (n := 56 + i) (by omega)]
      exact ⟨vp_in_nI (by omega) (by omega), nm_e ⟨vp_in_nI (by omega) (by omega), nm_e ⟨vp_in_nI (by omega) (by omega), nm_e ⟨vp_in_nI (by omega) (by omega), nm_e (nm_r (nI_1 i) (ih _ (ch_FI_s hi hm')))⟩⟩⟩⟩
  · intro n i m hi ch_hm ih
    refine pk_le 64 i (fun e => by omega) (fun _ => ?_)
    rw [nI_clamp (n := i) (by omega)]
    refine ⟨vp_in_nI hi (by omega), nm_e (nm_r (nI_1 i) (ih _ (fun j hj => ?_)))⟩
    by_cases e : j = i
    · exact ch_u_t e
    · rw [ch_u_f e]; exact ch_hm j (by omega)
end
section
variable {f_side f_rights f_ep f_clock f_number f_lineLen f_outLen f_clockTop f_numberTop f_strict f_textLen f_newSide f_newRights f_newEp f_newClock f_newNumber : Int32} {a_men a_line a_out a_text a_cut : Nat → Int32}
theorem ch_y_reset {post : SY → Prop} (h : ∀ m, ch_BY m 0 ch_B0 → post (0, 15, (-1), 0, 1, 0, 0, f_clockTop, f_numberTop, f_strict, f_textLen, f_newSide, f_newRights, f_newEp, f_newClock, f_newNumber, m, a_line, a_out, a_text, a_cut)) : wpY_reset post (f_side, f_rights, f_ep, f_clock, f_number, f_lineLen, f_outLen, f_clockTop, f_numberTop, f_strict, f_textLen, f_newSide, f_newRights, f_newEp, f_newClock, f_newNumber, a_men, a_line, a_out, a_text, a_cut) := by
  refine ⟨65, ?_⟩
  refine ch_fn (σ := Nat → Int32) (fun n m z => wY_reset_2 post f_side f_rights f_ep f_clock f_number f_lineLen f_outLen f_clockTop f_numberTop f_strict f_textLen f_newSide f_newRights f_newEp f_newClock f_newNumber n z m a_line a_out a_text a_cut) (fun i m => ∀ j, j < i → m j = 0) 64 ?_ ?_ 64 0 a_men rfl (fun j hj => by omega)
  · intro n m ch_hm
    refine br_t (by decide) ⟨9, ?_⟩
    refine ch_fn (σ := Nat → Int32) (fun n m z => wY_reset_23 post f_side f_rights f_ep f_clock f_number f_lineLen f_outLen f_clockTop f_numberTop f_strict f_textLen f_newSide f_newRights f_newEp f_newClock f_newNumber n z m a_line a_out a_text a_cut) ch_FI 8 ?_ ?_ 8 0 m rfl (fun j hj => by rw [if_neg (by omega)]; exact ch_hm j hj)
    · intro n m' hm'
      exact br_t (by decide) (h m' (fun i hi => by rw [Nat.zero_add]; exact ch_FI_8 hm' i hi))
    · intro n i m' hi hm' ih
      have h71 : wY_reset_71 post (wY_reset_23 post f_side f_rights f_ep f_clock f_number f_lineLen f_outLen f_clockTop f_numberTop f_strict f_textLen f_newSide f_newRights f_newEp f_newClock f_newNumber n) (nI i) (nI (ch_bk i)) f_side f_rights f_ep f_clock f_number f_lineLen f_outLen f_clockTop f_numberTop f_strict f_textLen f_newSide f_newRights f_newEp f_newClock f_newNumber m' a_line a_out a_text a_cut := by
        unfold wY_reset_71
        rw [ch_i8, ch_i48, ch_i56, ch_i8, nI_clamp (n := i) (by omega), nI_clamp (n := 8 + i) (by omega), nI_clamp (n := 48 + i) (by omega), nI_clamp (n := 56 + i) (by omega)]
        exact ⟨vp_in_nI (by omega) (by omega), nm_e ⟨vp_in_nI (by omega) (by omega), nm_e ⟨vp_in_nI (by omega) (by omega), nm_e ⟨vp_in_nI (by omega) (by omega), nm_e (nm_r (nI_1 i) (ih _ (ch_FI_s hi hm')))⟩⟩⟩⟩
      refine pk_le 8 i (fun e => by omega) (fun _ => ?_)
      clear ih
      have c : i = 0 ∨ i = 1 ∨ i = 2 ∨ i = 3 ∨ i = 4 ∨ i = 5 ∨ i = 6 ∨ i = 7 := by omega
      rcases c with rfl | rfl | rfl | rfl | rfl | rfl | rfl | rfl
      · exact br_f (by decide) (br_f (by decide) (br_f (by decide) (br_f (by decide) (br_f (by decide) (br_f (by decide) h71)))))
      · exact br_t (by decide) (br_f (by decide) (br_f (by decide) (br_f (by decide) (br_f (by decide) h71))))
      · exact br_f (by decide) (br_f (by decide) (br_t (by decide) (br_f (by decide) (br_f (by decide) h71))))
      · exact br_f (by decide) (br_f (by decide) (br_f (by decide) (br_f (by decide) (br_t (by decide) (br_f (by decide) h71)))))
      · exact br_f (by decide) (br_f (by decide) (br_f (by decide) (br_f (by decide) (br_f (by decide) (br_t (by decide) h71)))))
      · exact br_f (by decide) (br_f (by decide) (br_f (by decide) (br_t (by decide) (br_f (by decide) (br_f (by decide) h71)))))
      · exact br_f (by decide) (br_t (by decide) (br_f (by decide) (br_f (by decide) (br_f (by decide) (br_f (by decide) h71)))))
      · exact br_f (by decide) (br_f (by decide) (br_f (by decide) (br_f (by decide) (br_f (by decide) (br_f (by decide) h71)))))
  · intro n i m hi ch_hm ih
    refine pk_le 64 i (fun e => by omega) (fun _ => ?_)
    rw [nI_clamp (n := i) (by omega)]
    refine ⟨vp_in_nI (by omega) (by omega), nm_e (nm_r (nI_1 i) (ih _ (fun j hj => ?_)))⟩
    by_cases e : j = i
    · exact ch_u_t e
    · rw [ch_u_f e]; exact ch_hm j (by omega)
end
theorem i_vc_reset {k : Nat} {u : SX} {v : SY} (I : i_Rel k u v) (hk : k + 4 ≤ 2051) : wpX_reset (fun u' => wpY_reset (fun v' => i_Rel (k + 4) u' v') v) u := by
  refine ch_rl_el (P := fun u v => wpX_reset (fun u' => wpY_reset (fun v' => i_Rel (k + 4) u' v') v) u) ?_ I
  intro B sd rt ep ck ct nb nt st ll ol f_moveTotal f_movesKnown f_savedSide f_savedRights f_savedPassant f_savedClock f_savedNumber f_spellLen f_at f_end f_writtenMark f_writtenCastling f_writtenPromotion f_writtenTarget f_writtenCapture f_writtenRank f_writtenFile f_writtenKind a_board a_line a_out a_moves a_savedBoard a_spell f_textLen f_newSide f_newRights f_newEp f_newClock f_newNumber a_men a_text a_cut hF
  obtain ⟨h1, h2, h3, h4, h5, h6, h7, h8, h9⟩ := hF
  refine ch_x_reset (fun ab hab => ch_y_reset (fun m ch_hm => ?_))
  have R : i_Rel (k + 4) (nI ct, nI nt, nI st, nI 0, nI 15, ch_epI 64, nI 0, nI 1, nI 0, nI 0, f_moveTotal, 0, f_savedSide, f_savedRights, f_savedPassant, f_savedClock, f_savedNumber, f_spellLen, f_at, f_end, f_writtenMark, f_writtenCastling, f_writtenPromotion, f_writtenTarget, f_writtenCapture, f_writtenRank, f_writtenFile, f_writtenKind, ab, a_line, a_out, a_moves, a_savedBoard, a_spell) (nI 0, nI 15, ch_epI 64, nI 0, nI 1, nI 0, nI 0, nI ct, nI nt, nI st, f_textLen, f_newSide, f_newRights, f_newEp, f_newClock, f_newNumber, m, a_line, a_out, a_text, a_cut) := ch_rl_mk ⟨hab, ch_hm, ch_B0_pos, Or.inl rfl, by omega, by omega, h7, by omega, by omega⟩
  exact R
theorem ch_cl3 (ch_lo hi : Nat) (h : ch_lo ≤ hi) (hh : hi < 100000) (w : Int32) : ∃ c, ch_lo ≤ c ∧ c ≤ hi ∧ ∀ R : Int32 → Prop, R (nI c) → ((nI ch_lo ≤ w → ((w ≤ nI hi → R w) ∧ (¬ w ≤ nI hi → R (nI hi)))) ∧ (¬ nI ch_lo ≤ w → R (nI ch_lo))) := by
  by_cases c1 : nI ch_lo ≤ w
  · by_cases c2 : w ≤ nI hi
    · have p : ¬ w < 0 := Int32.not_lt.mpr (Int32.le_trans (nI_pos' (by omega)) c1)
      obtain ⟨j, hj, rfl⟩ := nI_of p
      exact ⟨j, (nI_leI (by omega) hj).mp c1, (nI_leI hj (by omega)).mp c2, fun R r => br_t c1 (br_t c2 r)⟩
    · exact ⟨hi, h, Nat.le_refl _, fun R r => br_t c1 (br_f c2 r)⟩
  · exact ⟨ch_lo, Nat.le_refl _, h, fun R r => br_f c1 r⟩
theorem i_vc0 (k0 : Int32) (k1 : Int32) (k2 : Int32) : wpX_init (fun u => wpY_init (fun v => i_Rel 3 u v) k0 k1 k2) k0 k1 k2 := by
  obtain ⟨ct, a1, a2, hA⟩ := ch_cl3 1 999 (by omega) (by omega) k0
  obtain ⟨nt, b1, b2, hBb⟩ := ch_cl3 1 9999 (by omega) (by omega) k1
  obtain ⟨st, c1, c2, hC⟩ := ch_cl3 0 1 (by omega) (by omega) k2
  unfold wpX_init
  refine ch_x_clamp (ch_lo := 1) (hi := 999) hA ?_
  refine ch_x_clamp (ch_lo := 1) (hi := 9999) hBb ?_
  refine ch_x_clamp (ch_lo := 0) (hi := 1) hC ?_
  refine ch_x_reset (fun ab hab => ?_)
  unfold wpY_init
  refine hA (fun z => wY_init_69 _ k1 k2 z 0 0 0 0 0 0 0 0 0 0 0 0 0 0 0 0 (fun _ => 0) (fun _ => 0) (fun _ => 0) (fun _ => 0) (fun _ => 0)) ?_
  refine hBb (fun z => wY_init_96 _ k2 z 0 0 0 0 0 0 0 (nI ct) 0 0 0 0 0 0 0 0 (fun _ => 0) (fun _ => 0) (fun _ => 0) (fun _ => 0) (fun _ => 0)) ?_
  refine hC (fun z => wY_init_118 _ z 0 0 0 0 0 0 0 (nI ct) (nI nt) 0 0 0 0 0 0 0 (fun _ => 0) (fun _ => 0) (fun _ => 0) (fun _ => 0) (fun _ => 0)) ?_
  unfold wY_init_118
  refine ch_y_reset (fun m ch_hm => ?_)
  exact ch_rl_mk (sd := 0) (rt := 15) (ep := 64) (ck := 0) (nb := 1) (ll := 0) (ol := 0) ⟨hab, ch_hm, ch_B0_pos, Or.inl rfl, by omega, by omega, by omega, by omega, by omega⟩
end
section
/-! printing the position, side by side -/
def ch_pu (ao : Nat → Int32) (n : Nat) (c : Int32) : Nat → Int32 := if n < 96 then upd ao n c else ao
def ch_pn (n : Nat) : Nat := if n < 96 then n + 1 else n
def ch_ru (b : Nat) (ao : Nat → Int32) (n : Nat) (L : Int32) : Nat → Int32 := if b = 0 then ao else ch_pu ao n L
def ch_rn (b n : Nat) : Nat := if b = 0 then n else ch_pn n
theorem ch_pn_l {n : Nat} (h : n ≤ 96) : ch_pn n ≤ 96 := by unfold ch_pn; split <;> omega
theorem ch_rn_l {b n : Nat} (h : n ≤ 96) : ch_rn b n ≤ 96 := by
  unfold ch_rn; split
  · exact h
  · exact ch_pn_l h
def ch_lt_ (k : Nat) : Nat := if k = 1 then 80 else if k = 2 then 78 else if k = 3 then 66 else if k = 4 then 82 else if k = 5 then 81 else 75
theorem ch_lt_r (k : Nat) : ch_lt_ k < 100 := by
  unfold ch_lt_
  repeat' split
  all_goals omega
section
variable {f_clockTop f_numberTop f_strict f_side f_rights f_passant f_clock f_number f_lineLen f_outLen f_moveTotal f_movesKnown f_savedSide f_savedRights f_savedPassant f_savedClock f_savedNumber f_spellLen f_at f_end f_writtenMark f_writtenCastling f_writtenPromotion f_writtenTarget f_writtenCapture f_writtenRank f_writtenFile f_writtenKind : Int32} {a_board a_line a_out a_moves a_savedBoard a_spell : Nat → Int32}
theorem ch_x_putOut {post : SX → Prop} {ao : Nat → Int32} {n : Nat} {c : Int32} (hn : n ≤ 96) (h : post (f_clockTop, f_numberTop, f_strict, f_side, f_rights, f_passant, f_clock, f_number, f_lineLen, nI (ch_pn n), f_moveTotal, f_movesKnown, f_savedSide, f_savedRights, f_savedPassant, f_savedClock, f_savedNumber, f_spellLen, f_at, f_end, f_writtenMark, f_writtenCastling, f_writtenPromotion, f_writtenTarget, f_writtenCapture, f_writtenRank, f_writtenFile, f_writtenKind, a_board, a_line, ch_pu ao n c, a_moves, a_savedBoard, a_spell)) : wpX_putOut post (f_clockTop, f_numberTop, f_strict, f_side, f_rights, f_passant, f_clock, f_number, f_lineLen, nI n, f_moveTotal, f_movesKnown, f_savedSide, f_savedRights, f_savedPassant, f_savedClock, f_savedNumber, f_spellLen, f_at, f_end, f_writtenMark, f_writtenCastling, f_writtenPromotion, f_writtenTarget, f_writtenCapture, f_writtenRank, f_writtenFile, f_writtenKind, a_board, a_line, ao, a_moves, a_savedBoard, a_spell) c := by
  unfold ch_pn ch_pu at h
  refine pk_le 96 n (fun e => ?_) (fun e => ?_)
  · rw [if_neg (by omega), if_neg (by omega)] at h; exact h
  · rw [if_pos e, if_pos e] at h
    rw [nI_clamp (by omega)]
    exact ⟨vp_in_nI e (by omega), nm_e (nm_r (nI_1 n) h)⟩
theorem ch_x_letterOf {post : Int32 → Prop} {k : Nat} (hk : k < 8) (h : post (nI (ch_lt_ k))) : wpX_letterOf post (f_clockTop, f_numberTop, f_strict, f_side, f_rights, f_passant, f_clock, f_number, f_lineLen, f_outLen, f_moveTotal, f_movesKnown, f_savedSide, f_savedRights, f_savedPassant, f_savedClock, f_savedNumber, f_spellLen, f_at, f_end, f_writtenMark, f_writtenCastling, f_writtenPromotion, f_writtenTarget, f_writtenCapture, f_writtenRank, f_writtenFile, f_writtenKind, a_board, a_line, a_out, a_moves, a_savedBoard, a_spell) (nI k) := by
  have c : k = 0 ∨ k = 1 ∨ k = 2 ∨ k = 3 ∨ k = 4 ∨ k = 5 ∨ k = 6 ∨ k = 7 := by omega
  rcases c with rfl | rfl | rfl | rfl | rfl | rfl | rfl | rfl
  · exact br_t (by decide) h
  · exact br_f (by decide) (br_f (by decide) (br_t (by decide) h))
  · exact br_f (by decide) (br_f (by decide) (br_f (by decide) (br_t (by decide) h)))
  · exact br_f (by decide) (br_f (by decide) (br_f (by decide) (br_f (by decide) (br_t (by decide) h))))
  · exact br_f (by decide) (br_f (by decide) (br_f (by decide) (br_f (by decide) (br_f (by decide) (br_t (by decide) h)))))
  · exact br_f (by decide) (br_f (by decide) (br_f (by decide) (br_f (by decide) (br_f (by decide) (br_f (by decide) (br_t (by decide) h))))))
  · exact br_f (by decide) (br_t (by decide) h)
  · exact br_f (by decide) (br_t (by decide) h)
end
section
variable {f_side f_rights f_ep f_clock f_number f_lineLen f_outLen f_clockTop f_numberTop f_strict f_textLen f_newSide f_newRights f_newEp f_newClock f_newNumber : Int32} {a_men a_line a_out a_text a_cut : Nat → Int32}
theorem ch_y_putOut {post : SY → Prop} {ao : Nat → Int32} {n : Nat} {c : Int32} (hn : n ≤ 96) (h : post (f_side, f_rights, f_ep, f_clock, f_number, f_lineLen, nI (ch_pn n), f_clockTop, f_numberTop, f_strict, f_textLen, f_newSide, f_newRights, f_newEp, f_newClock, f_newNumber, a_men, a_line, ch_pu ao n c, a_text, a_cut)) : wpY_putOut post (f_side, f_rights, f_ep, f_clock, f_number, f_lineLen, nI n, f_clockTop, f_numberTop, f_strict, f_textLen, f_newSide, f_newRights, f_newEp, f_newClock, f_newNumber, a_men, a_line, ao, a_text, a_cut) c := by
  unfold ch_pn ch_pu at h
  refine pk_le 96 n (fun e => ?_) (fun e => ?_)
  · rw [if_neg (by omega), if_neg (by omega)] at h; exact h
  · rw [if_pos e, if_pos e] at h
    rw [nI_clamp (by omega)]
    exact ⟨vp_in_nI e (by omega), nm_e (nm_r (nI_1 n) h)⟩
theorem ch_y_kindLetter {post : Int32 → Prop} {k : Nat} (hk : k < 8) (h : post (nI (ch_lt_ k))) : wpY_kindLetter post (f_side, f_rights, f_ep, f_clock, f_number, f_lineLen, f_outLen, f_clockTop, f_numberTop, f_strict, f_textLen, f_newSide, f_newRights, f_newEp, f_newClock, f_newNumber, a_men, a_line, a_out, a_text, a_cut) (nI k) := by
  have c : k = 0 ∨ k = 1 ∨ k = 2 ∨ k = 3 ∨ k = 4 ∨ k = 5 ∨ k = 6 ∨ k = 7 := by omega
  rcases c with rfl | rfl | rfl | rfl | rfl | rfl | rfl | rfl
  · exact br_f (by decide) (br_f (by decide) (br_f (by decide) (br_f (by decide) (br_f (by decide) h))))
  · exact br_t (by decide) h
  · exact br_f (by decide) (br_t (by decide) h)
  · exact br_f (by decide) (br_f (by decide) (br_t (by decide) h))
  · exact br_f (by decide) (br_f (by decide) (br_f (by decide) (br_t (by decide) h)))
  · exact br_f (by decide) (br_f (by decide) (br_f (by decide) (br_f (by decide) (br_t (by decide) h))))
  · exact br_f (by decide) (br_f (by decide) (br_f (by decide) (br_f (by decide) (br_f (by decide) h))))
  · exact br_f (by decide) (br_f (by decide) (br_f (by decide) (br_f (by decide) (br_f (by decide) h))))
end
section
variable {B : Nat → Nat} {sd rt ep ck ct nb nt st ll ol : Nat} {f_moveTotal f_movesKnown f_savedSide f_savedRights f_savedPassant f_savedClock f_savedNumber f_spellLen f_at f_end f_writtenMark f_writtenCastling f_writtenPromotion f_writtenTarget f_writtenCapture f_writtenRank f_writtenFile f_writtenKind : Int32} {a_board a_line a_out a_moves a_savedBoard a_spell : Nat → Int32} {f_textLen f_newSide f_newRights f_newEp f_newClock f_newNumber : Int32} {a_men a_text a_cut : Nat → Int32}



theorem ch_pp_rank {r : Nat} (hX : ch_BX a_board B) (hY : ch_BY a_men 0 B) (hV : ch_VB B) (hr : r < 8) : ∀ d f, f + d = 8 → ∀ e, e ≤ f → ∀ (ao : Nat → Int32) (n : Nat), n ≤ 96 → ∃ (ao' : Nat → Int32) (n' : Nat), n' ≤ 96 ∧ (∀ post : SX → Prop, post (nI ct, nI nt, nI st, nI sd, nI rt, ch_epI ep, nI ck, nI nb, nI ll, nI n', f_moveTotal, f_movesKnown, f_savedSide, f_savedRights, f_savedPassant, f_savedClock, f_savedNumber, f_spellLen, f_at, f_end, f_writtenMark, f_writtenCastling, f_writtenPromotion, f_writtenTarget, f_writtenCapture, f_writtenRank, f_writtenFile, f_writtenKind, a_board, a_line, ao', a_moves, a_savedBoard, a_spell) → wX_putRank_4 post (nI r) (d + 1) (nI e) (nI f) (nI ct) (nI nt) (nI st) (nI sd) (nI rt) (ch_epI ep) (nI ck) (nI nb) (nI ll) (nI n) f_moveTotal f_movesKnown f_savedSide f_savedRights f_savedPassant f_savedClock f_savedNumber f_spellLen f_at f_end f_writtenMark f_writtenCastling f_writtenPromotion f_writtenTarget f_writtenCapture f_writtenRank f_writtenFile f_writtenKind a_board a_line ao a_moves a_savedBoard a_spell) ∧ (∀ (post : Int32 → SY → Prop) J8, wY_printPosition_111 post J8 (nI r) (nI sd) (nI rt) (ch_epI ep) (nI ck) (nI nb) (nI ll) (nI n') (nI ct) (nI nt) (nI st) f_textLen f_newSide f_newRights f_newEp f_newClock f_newNumber a_men a_line ao' a_text a_cut → wY_printPosition_16 post J8 (nI r) (d + 1) (nI e) (nI f) (nI sd) (nI rt) (ch_epI ep) (nI ck) (nI nb) (nI ll) (nI n) (nI ct) (nI nt) (nI st) f_textLen f_newSide f_newRights f_newEp f_newClock f_newNumber a_men a_line ao a_text a_cut) := by
  intro d
  induction d with
  | zero =>
    intro f hf e he ao n hn
    obtain rfl : f = 8 := by omega
    by_cases c : e ≤ 0
    · have b : nI e ≤ (0 : Int32) := nI_le (b := 0) c (by omega)
      exact ⟨ao, n, hn, fun post h => br_t (by decide) (br_t b h), fun post J8 h => br_t (by decide) (br_t b h)⟩
    · have b : ¬ nI e ≤ (0 : Int32) := nI_ge (a := 0) (by omega) (by omega)
      exact ⟨ch_pu ao n (48 + nI e), ch_pn n, ch_pn_l hn, fun post h => br_t (by decide) (br_f b (ch_x_putOut hn h)), fun post J8 h => br_t (by decide) (br_f b (ch_y_putOut hn h))⟩
  | succ d ih =>
    intro f hf e he ao n hn
    have hi : 8 * r + f < 64 := by omega
    have hv := ch_VB_lt hV hi
    have n8 : ¬ (8 : Int32) ≤ nI f := nI_ge (b := 8) (by omega) (by omega)
    have ei : 8 * nI r + nI f = nI (8 * r + f) := ch_nI_8c r f
    have vX : vp_in (8 * nI r + nI f) 64 := by rw [ei]; exact vp_in_nI hi (by omega)
    have vY : vp_in (8 * nI r + nI f) 256 := by rw [ei]; exact vp_in_nI (by omega) (by omega)
    have rX : a_board (8 * nI r + nI f).toNatClampNeg = nI (B (8 * r + f)) := by rw [ei]; exact ch_bx hX hi
    have rY : a_men (8 * nI r + nI f).toNatClampNeg = nI (B (8 * r + f)) := by rw [ei]; exact ch_by0 hY hi
    by_cases z : B (8 * r + f) = 0
    · obtain ⟨ao', n', hn', pX, pY⟩ := ih (f + 1) (by omega) (e + 1) (by omega) ao n hn
      have z0 : nI (B (8 * r + f)) = 0 := by rw [z]; rfl
      exact ⟨ao', n', hn', fun post h => br_f n8 ⟨vX, nm_r rX (br_t z0 (nm_r (nI_1 e) (nm_r (nI_1 f) (pX post h))))⟩, fun post J8 h => br_f n8 ⟨vY, nm_r rY (br_t z0 (nm_r (nI_1 e) (nm_r (nI_1 f) (pY post J8 h))))⟩⟩
    · have z0 : ¬ nI (B (8 * r + f)) = 0 := nI_ne0 (by omega) (by omega)
      have lX : ∀ (ao2 : Nat → Int32) (n2 : Nat), n2 ≤ 96 → ∃ (ao' : Nat → Int32) (n' : Nat), n' ≤ 96 ∧ (∀ post : SX → Prop, post (nI ct, nI nt, nI st, nI sd, nI rt, ch_epI ep, nI ck, nI nb, nI ll, nI n', f_moveTotal, f_movesKnown, f_savedSide, f_savedRights, f_savedPassant, f_savedClock, f_savedNumber, f_spellLen, f_at, f_end, f_writtenMark, f_writtenCastling, f_writtenPromotion, f_writtenTarget, f_writtenCapture, f_writtenRank, f_writtenFile, f_writtenKind, a_board, a_line, ao', a_moves, a_savedBoard, a_spell) → wX_putRank_46 post (wX_putRank_4 post (nI r) (d + 1)) (nI r) (nI f) (nI (B (8 * r + f))) (nI ct) (nI nt) (nI st) (nI sd) (nI rt) (ch_epI ep) (nI ck) (nI nb) (nI ll) (nI n2) f_moveTotal f_movesKnown f_savedSide f_savedRights f_savedPassant f_savedClock f_savedNumber f_spellLen f_at f_end f_writtenMark f_writtenCastling f_writtenPromotion f_writtenTarget f_writtenCapture f_writtenRank f_writtenFile f_writtenKind a_board a_line ao2 a_moves a_savedBoard a_spell) ∧ (∀ (post : Int32 → SY → Prop) J8, wY_printPosition_111 post J8 (nI r) (nI sd) (nI rt) (ch_epI ep) (nI ck) (nI nb) (nI ll) (nI n') (nI ct) (nI nt) (nI st) f_textLen f_newSide f_newRights f_newEp f_newClock f_newNumber a_men a_line ao' a_text a_cut → wY_printPosition_59 post J8 (wY_printPosition_16 post J8 (nI r) (d + 1)) (nI r) (nI f) (nI (B (8 * r + f))) (nI sd) (nI rt) (ch_epI ep) (nI ck) (nI nb) (nI ll) (nI n2) (nI ct) (nI nt) (nI st) f_textLen f_newSide f_newRights f_newEp f_newClock f_newNumber a_men a_line ao2 a_text a_cut) := by
        intro ao2 n2 hn2
        by_cases w : B (8 * r + f) / 8 = 0
        · obtain ⟨ao', n', hn', pX, pY⟩ := ih (f + 1) (by omega) 0 (by omega) (ch_pu ao2 n2 (nI (ch_lt_ (B (8 * r + f) % 8)))) (ch_pn n2) (ch_pn_l hn2)
          refine ⟨ao', n', hn', fun post h => ?_, fun post J8 h => ?_⟩
          · unfold wX_putRank_46
            rw [ch_nI_a7 (by omega), ch_nI_r3 (by omega), w]
            exact ch_x_letterOf (by omega) (br_t rfl (ch_x_putOut hn2 (nm_r (nI_1 f) (pX post h))))
          · unfold wY_printPosition_59
            rw [ch_nI_a7 (by omega), ch_nI_r3 (by omega), w]
            exact ch_y_kindLetter (by omega) (br_f (by decide) (ch_y_putOut hn2 (nm_r (nI_1 f) (pY post J8 h))))
        · have w1 : B (8 * r + f) / 8 = 1 := by omega
          obtain ⟨ao', n', hn', pX, pY⟩ := ih (f + 1) (by omega) 0 (by omega) (ch_pu ao2 n2 (nI (ch_lt_ (B (8 * r + f) % 8)) + 32)) (ch_pn n2) (ch_pn_l hn2)
          refine ⟨ao', n', hn', fun post h => ?_, fun post J8 h => ?_⟩
          · unfold wX_putRank_46
            rw [ch_nI_a7 (by omega), ch_nI_r3 (by omega), w1]
            exact ch_x_letterOf (by omega) (br_f (by decide) (ch_x_putOut hn2 (nm_r (nI_1 f) (pX post h))))
          · unfold wY_printPosition_59
            rw [ch_nI_a7 (by omega), ch_nI_r3 (by omega), w1]
            exact ch_y_kindLetter (by omega) (br_t rfl (nm_e (ch_y_putOut hn2 (nm_r (nI_1 f) (pY post J8 h)))))
      by_cases c : e ≤ 0
      · have b : nI e ≤ (0 : Int32) := nI_le (b := 0) c (by omega)
        obtain ⟨ao', n', hn', pX, pY⟩ := lX ao n hn
        exact ⟨ao', n', hn', fun post h => br_f n8 ⟨vX, nm_r rX (br_f z0 (br_t b (pX post h)))⟩, fun post J8 h => br_f n8 ⟨vY, nm_r rY (br_f z0 (br_t b (pY post J8 h)))⟩⟩
      · have b : ¬ nI e ≤ (0 : Int32) := nI_ge (a := 0) (by omega) (by omega)
        obtain ⟨ao', n', hn', pX, pY⟩ := lX (ch_pu ao n (48 + nI e)) (ch_pn n) (ch_pn_l hn)
        exact ⟨ao', n', hn', fun post h => br_f n8 ⟨vX, nm_r rX (br_f z0 (br_f b (ch_x_putOut hn (pX post h))))⟩, fun post J8 h => br_f n8 ⟨vY, nm_r rY (br_f z0 (br_f b (ch_y_putOut hn (pY post J8 h))))⟩⟩
theorem ch_pp_ranks (hX : ch_BX a_board B) (hY : ch_BY a_men 0 B) (hV : ch_VB B) : ∀ d : Nat, d ≤ 8 → ∀ (ao : Nat → Int32) (n : Nat), n ≤ 96 → ∃ (ao' : Nat → Int32) (n' : Nat), n' ≤ 96 ∧ (∀ post : Int32 → SX → Prop, wX_printPosition_8 post 1 (-1) (nI ct) (nI nt) (nI st) (nI sd) (nI rt) (ch_epI ep) (nI ck) (nI nb) (nI ll) (nI n') f_moveTotal f_movesKnown f_savedSide f_savedRights f_savedPassant f_savedClock f_savedNumber f_spellLen f_at f_end f_writtenMark f_writtenCastling f_writtenPromotion f_writtenTarget f_writtenCapture f_writtenRank f_writtenFile f_writtenKind a_board a_line ao' a_moves a_savedBoard a_spell → wX_printPosition_8 post (d + 1) (ch_zI (d - 1)) (nI ct) (nI nt) (nI st) (nI sd) (nI rt) (ch_epI ep) (nI ck) (nI nb) (nI ll) (nI n) f_moveTotal f_movesKnown f_savedSide f_savedRights f_savedPassant f_savedClock f_savedNumber f_spellLen f_at f_end f_writtenMark f_writtenCastling f_writtenPromotion f_writtenTarget f_writtenCapture f_writtenRank f_writtenFile f_writtenKind a_board a_line ao a_moves a_savedBoard a_spell) ∧ (∀ post : Int32 → SY → Prop, wY_printPosition_8 post 1 (-1) (nI sd) (nI rt) (ch_epI ep) (nI ck) (nI nb) (nI ll) (nI n') (nI ct) (nI nt) (nI st) f_textLen f_newSide f_newRights f_newEp f_newClock f_newNumber a_men a_line ao' a_text a_cut → wY_printPosition_8 post (d + 1) (ch_zI (d - 1)) (nI sd) (nI rt) (ch_epI ep) (nI ck) (nI nb) (nI ll) (nI n) (nI ct) (nI nt) (nI st) f_textLen f_newSide f_newRights f_newEp f_newClock f_newNumber a_men a_line ao a_text a_cut) := by
  intro d
  induction d with
  | zero =>
    intro _ ao n hn
    exact ⟨ao, n, hn, fun post h => h, fun post h => h⟩
  | succ d ih =>
    intro hd ao n hn
    have ez : ch_zI (((d + 1 : Nat) : Int) - 1) = nI d := by rw [← ch_zI_n]; congr 1; omega
    have em : nI d + (-1) = ch_zI ((d : Int) - 1) := by rw [ch_zI_n', ch_zI_m1, ch_zI_add]; congr 1
    rw [ez]
    have p0 : ¬ nI d < (0 : Int32) := nI_pos (by omega)
    obtain ⟨ao1, n1, hn1, aX, aY⟩ := ch_pp_rank hX hY hV (show d < 8 by omega) 8 0 rfl 0 (by omega) ao n hn
    by_cases c : d ≤ 0
    · have b : nI d ≤ (0 : Int32) := nI_le (b := 0) c (by omega)
      obtain ⟨ao', n', hn', pX, pY⟩ := ih (by omega) ao1 n1 hn1
      exact ⟨ao', n', hn', fun post h => br_f p0 ⟨9, aX _ (br_t b (nm_r em (pX post h)))⟩, fun post h => br_f p0 ⟨9, aY _ _ (br_t b (nm_r em (pY post h)))⟩⟩
    · have b : ¬ nI d ≤ (0 : Int32) := nI_ge (a := 0) (by omega) (by omega)
      obtain ⟨ao', n', hn', pX, pY⟩ := ih (by omega) (ch_pu ao1 n1 47) (ch_pn n1) (ch_pn_l hn1)
      exact ⟨ao', n', hn', fun post h => br_f p0 ⟨9, aX _ (br_f b (ch_x_putOut hn1 (nm_r em (pX post h))))⟩, fun post h => br_f p0 ⟨9, aY _ _ (br_f b (ch_y_putOut hn1 (nm_r em (pY post h))))⟩⟩
theorem ch_sw0 : ∀ m, m < 16 → nI m &&& ((1 : Int32) <<< ((0 : Int32) &&& 31)) = nI (m % 2) := by decide +kernel
theorem ch_sw1 : ∀ m, m < 16 → nI m &&& ((1 : Int32) <<< ((1 : Int32) &&& 31)) = nI (m / 2 % 2 * 2) := by decide +kernel
theorem ch_sw2 : ∀ m, m < 16 → nI m &&& ((1 : Int32) <<< ((2 : Int32) &&& 31)) = nI (m / 4 % 2 * 4) := by decide +kernel
theorem ch_sw3 : ∀ m, m < 16 → nI m &&& ((1 : Int32) <<< ((3 : Int32) &&& 31)) = nI (m / 8 % 2 * 8) := by decide +kernel
/-- one right of the component -/
theorem ch_pr_x {w b : Nat} {L : Int32} (hb : nI rt &&& ((1 : Int32) <<< (nI w &&& 31)) = nI b) (hb2 : b < 100) (hw : w < 4) (hL : ∀ post : Int32 → Prop, ∀ u : SX, post L → wpX_rightLetter post u (nI w)) {m : Nat} {ao : Nat → Int32} {n : Nat} (hn : n ≤ 96) {post : SX → Prop} (h : wX_putRights_15 post m (nI (w + 1)) (nI ct) (nI nt) (nI st) (nI sd) (nI rt) (ch_epI ep) (nI ck) (nI nb) (nI ll) (nI (ch_rn b n)) f_moveTotal f_movesKnown f_savedSide f_savedRights f_savedPassant f_savedClock f_savedNumber f_spellLen f_at f_end f_writtenMark f_writtenCastling f_writtenPromotion f_writtenTarget f_writtenCapture f_writtenRank f_writtenFile f_writtenKind a_board a_line (ch_ru b ao n L) a_moves a_savedBoard a_spell) : wX_putRights_15 post (m + 1) (nI w) (nI ct) (nI nt) (nI st) (nI sd) (nI rt) (ch_epI ep) (nI ck) (nI nb) (nI ll) (nI n) f_moveTotal f_movesKnown f_savedSide f_savedRights f_savedPassant f_savedClock f_savedNumber f_spellLen f_at f_end f_writtenMark f_writtenCastling f_writtenPromotion f_writtenTarget f_writtenCapture f_writtenRank f_writtenFile f_writtenKind a_board a_line ao a_moves a_savedBoard a_spell := by
  unfold ch_ru ch_rn at h
  refine pk_le 4 w (fun e => by omega) (fun _ => ?_)
  rw [hb]
  refine pk_eq b 0 (fun e => nm_r (nI_1 w) ?_) (fun e => hL _ _ (ch_x_putOut hn (nm_r (nI_1 w) ?_)))
  · rw [if_pos e, if_pos e] at h; exact h
  · rw [if_neg e, if_neg e] at h; exact h
theorem ch_pp_rights (hrt : rt < 16) (ao : Nat → Int32) (n : Nat) (hn : n ≤ 96) : ∃ (ao' : Nat → Int32) (n' : Nat), n' ≤ 96 ∧ (∀ post : SX → Prop, post (nI ct, nI nt, nI st, nI sd, nI rt, ch_epI ep, nI ck, nI nb, nI ll, nI n', f_moveTotal, f_movesKnown, f_savedSide, f_savedRights, f_savedPassant, f_savedClock, f_savedNumber, f_spellLen, f_at, f_end, f_writtenMark, f_writtenCastling, f_writtenPromotion, f_writtenTarget, f_writtenCapture, f_writtenRank, f_writtenFile, f_writtenKind, a_board, a_line, ao', a_moves, a_savedBoard, a_spell) → wpX_putRights post (nI ct, nI nt, nI st, nI sd, nI rt, ch_epI ep, nI ck, nI nb, nI ll, nI n, f_moveTotal, f_movesKnown, f_savedSide, f_savedRights, f_savedPassant, f_savedClock, f_savedNumber, f_spellLen, f_at, f_end, f_writtenMark, f_writtenCastling, f_writtenPromotion, f_writtenTarget, f_writtenCapture, f_writtenRank, f_writtenFile, f_writtenKind, a_board, a_line, ao, a_moves, a_savedBoard, a_spell)) ∧ (∀ post : Int32 → SY → Prop, wY_printPosition_235 post (nI sd) (nI rt) (ch_epI ep) (nI ck) (nI nb) (nI ll) (nI n') (nI ct) (nI nt) (nI st) f_textLen f_newSide f_newRights f_newEp f_newClock f_newNumber a_men a_line ao' a_text a_cut → (((nI rt = 0 → (wpY_putOut (fun u => match u with | (f_side, f_rights, f_ep, f_clock, f_number, f_lineLen, f_outLen, f_clockTop, f_numberTop, f_strict, f_textLen, f_newSide, f_newRights, f_newEp, f_newClock, f_newNumber, a_men, a_line, a_out, a_text, a_cut) => (wY_printPosition_174 post f_side f_rights f_ep f_clock f_number f_lineLen f_outLen f_clockTop f_numberTop f_strict f_textLen f_newSide f_newRights f_newEp f_newClock f_newNumber a_men a_line a_out a_text a_cut)) (nI sd, nI rt, ch_epI ep, nI ck, nI nb, nI ll, nI n, nI ct, nI nt, nI st, f_textLen, f_newSide, f_newRights, f_newEp, f_newClock, f_newNumber, a_men, a_line, ao, a_text, a_cut) 45)) ∧ (¬ nI rt = 0 → (wY_printPosition_174 post (nI sd) (nI rt) (ch_epI ep) (nI ck) (nI nb) (nI ll) (nI n) (nI ct) (nI nt) (nI st) f_textLen f_newSide f_newRights f_newEp f_newClock f_newNumber a_men a_line ao a_text a_cut))))) := by
  have core : ∀ (ao : Nat → Int32) (n : Nat), n ≤ 96 → ∃ (ao' : Nat → Int32) (n' : Nat), n' ≤ 96 ∧ (∀ post : SX → Prop, post (nI ct, nI nt, nI st, nI sd, nI rt, ch_epI ep, nI ck, nI nb, nI ll, nI n', f_moveTotal, f_movesKnown, f_savedSide, f_savedRights, f_savedPassant, f_savedClock, f_savedNumber, f_spellLen, f_at, f_end, f_writtenMark, f_writtenCastling, f_writtenPromotion, f_writtenTarget, f_writtenCapture, f_writtenRank, f_writtenFile, f_writtenKind, a_board, a_line, ao', a_moves, a_savedBoard, a_spell) → wX_putRights_15 post 5 0 (nI ct) (nI nt) (nI st) (nI sd) (nI rt) (ch_epI ep) (nI ck) (nI nb) (nI ll) (nI n) f_moveTotal f_movesKnown f_savedSide f_savedRights f_savedPassant f_savedClock f_savedNumber f_spellLen f_at f_end f_writtenMark f_writtenCastling f_writtenPromotion f_writtenTarget f_writtenCapture f_writtenRank f_writtenFile f_writtenKind a_board a_line ao a_moves a_savedBoard a_spell) ∧ (∀ post : Int32 → SY → Prop, wY_printPosition_235 post (nI sd) (nI rt) (ch_epI ep) (nI ck) (nI nb) (nI ll) (nI n') (nI ct) (nI nt) (nI st) f_textLen f_newSide f_newRights f_newEp f_newClock f_newNumber a_men a_line ao' a_text a_cut → wY_printPosition_174 post (nI sd) (nI rt) (ch_epI ep) (nI ck) (nI nb) (nI ll) (nI n) (nI ct) (nI nt) (nI st) f_textLen f_newSide f_newRights f_newEp f_newClock f_newNumber a_men a_line ao a_text a_cut) := by
    intro ao n hn
    generalize e1 : rt % 2 = b1
    generalize e2 : rt / 2 % 2 * 2 = b2
    generalize e3 : rt / 4 % 2 * 4 = b3
    generalize e4 : rt / 8 % 2 * 8 = b4
    have h1 : ch_rn b1 n ≤ 96 := ch_rn_l hn
    have h2 : ch_rn b2 (ch_rn b1 n) ≤ 96 := ch_rn_l h1
    have h3 : ch_rn b3 (ch_rn b2 (ch_rn b1 n)) ≤ 96 := ch_rn_l h2
    have h4 : ch_rn b4 (ch_rn b3 (ch_rn b2 (ch_rn b1 n))) ≤ 96 := ch_rn_l h3
    refine ⟨ch_ru b4 (ch_ru b3 (ch_ru b2 (ch_ru b1 ao n 75) (ch_rn b1 n) 81) (ch_rn b2 (ch_rn b1 n)) 107) (ch_rn b3 (ch_rn b2 (ch_rn b1 n))) 113, ch_rn b4 (ch_rn b3 (ch_rn b2 (ch_rn b1 n))), h4, fun post h => ?_, fun post h => ?_⟩
    · refine ch_pr_x (w := 0) (L := 75) (e1 ▸ ch_sw0 rt hrt) (by omega) (by omega) (fun post u p => by obtain ⟨_⟩ := u; exact br_t (by decide) (br_f (by decide) p)) hn ?_
      refine ch_pr_x (w := 1) (L := 81) (e2 ▸ ch_sw1 rt hrt) (by omega) (by omega) (fun post u p => by obtain ⟨_⟩ := u; exact br_f (by decide) (br_f (by decide) p)) h1 ?_
      refine ch_pr_x (w := 2) (L := 107) (e3 ▸ ch_sw2 rt hrt) (by omega) (by omega) (fun post u p => by obtain ⟨_⟩ := u; exact br_t (by decide) (br_t (by decide) p)) h2 ?_
      refine ch_pr_x (w := 3) (L := 113) (e4 ▸ ch_sw3 rt hrt) (by omega) (by omega) (fun post u p => by obtain ⟨_⟩ := u; exact br_f (by decide) (br_t (by decide) p)) h3 ?_
      exact br_t (by decide) h
    · have yr : ∀ (b : Nat) (x L : Int32) (hb : nI rt &&& x = nI b) (hb2 : b < 100) (Q : SY → Prop) (ao : Nat → Int32) (n : Nat), n ≤ 96 → Q (nI sd, nI rt, ch_epI ep, nI ck, nI nb, nI ll, nI (ch_rn b n), nI ct, nI nt, nI st, f_textLen, f_newSide, f_newRights, f_newEp, f_newClock, f_newNumber, a_men, a_line, ch_ru b ao n L, a_text, a_cut) → ((nI rt &&& x = 0 → Q (nI sd, nI rt, ch_epI ep, nI ck, nI nb, nI ll, nI n, nI ct, nI nt, nI st, f_textLen, f_newSide, f_newRights, f_newEp, f_newClock, f_newNumber, a_men, a_line, ao, a_text, a_cut)) ∧ (¬ nI rt &&& x = 0 → wpY_putOut Q (nI sd, nI rt, ch_epI ep, nI ck, nI nb, nI ll, nI n, nI ct, nI nt, nI st, f_textLen, f_newSide, f_newRights, f_newEp, f_newClock, f_newNumber, a_men, a_line, ao, a_text, a_cut) L)) := by
        intro b x L hb hb2 Q ao n hn q
        unfold ch_ru ch_rn at q
        rw [hb]
        refine pk_eq b 0 (fun e => ?_) (fun e => ch_y_putOut hn ?_)
        · rw [if_pos e, if_pos e] at q; exact q
        · rw [if_neg e, if_neg e] at q; exact q
      refine yr _ 1 75 (e1 ▸ ch_ra1 rt hrt) (by omega) (fun u => match u with | (f_side, f_rights, f_ep, f_clock, f_number, f_lineLen, f_outLen, f_clockTop, f_numberTop, f_strict, f_textLen, f_newSide, f_newRights, f_newEp, f_newClock, f_newNumber, a_men, a_line, a_out, a_text, a_cut) => wY_printPosition_189 post f_side f_rights f_ep f_clock f_number f_lineLen f_outLen f_clockTop f_numberTop f_strict f_textLen f_newSide f_newRights f_newEp f_newClock f_newNumber a_men a_line a_out a_text a_cut) ao n hn ?_
      refine yr _ 2 81 (e2 ▸ ch_ra2 rt hrt) (by omega) (fun u => match u with | (f_side, f_rights, f_ep, f_clock, f_number, f_lineLen, f_outLen, f_clockTop, f_numberTop, f_strict, f_textLen, f_newSide, f_newRights, f_newEp, f_newClock, f_newNumber, a_men, a_line, a_out, a_text, a_cut) => wY_printPosition_204 post f_side f_rights f_ep f_clock f_number f_lineLen f_outLen f_clockTop f_numberTop f_strict f_textLen f_newSide f_newRights f_newEp f_newClock f_newNumber a_men a_line a_out a_text a_cut) _ _ h1 ?_
      refine yr _ 4 107 (e3 ▸ ch_ra4 rt hrt) (by omega) (fun u => match u with | (f_side, f_rights, f_ep, f_clock, f_number, f_lineLen, f_outLen, f_clockTop, f_numberTop, f_strict, f_textLen, f_newSide, f_newRights, f_newEp, f_newClock, f_newNumber, a_men, a_line, a_out, a_text, a_cut) => wY_printPosition_219 post f_side f_rights f_ep f_clock f_number f_lineLen f_outLen f_clockTop f_numberTop f_strict f_textLen f_newSide f_newRights f_newEp f_newClock f_newNumber a_men a_line a_out a_text a_cut) _ _ h2 ?_
      refine yr _ 8 113 (e4 ▸ ch_ra8 rt hrt) (by omega) (fun u => match u with | (f_side, f_rights, f_ep, f_clock, f_number, f_lineLen, f_outLen, f_clockTop, f_numberTop, f_strict, f_textLen, f_newSide, f_newRights, f_newEp, f_newClock, f_newNumber, a_men, a_line, a_out, a_text, a_cut) => wY_printPosition_235 post f_side f_rights f_ep f_clock f_number f_lineLen f_outLen f_clockTop f_numberTop f_strict f_textLen f_newSide f_newRights f_newEp f_newClock f_newNumber a_men a_line a_out a_text a_cut) _ _ h3 ?_
      exact h
  by_cases z : rt = 0
  · obtain ⟨ao', n', hn', pX, pY⟩ := core (ch_pu ao n 45) (ch_pn n) (ch_pn_l hn)
    have z0 : nI rt = 0 := by rw [z]; rfl
    exact ⟨ao', n', hn', fun post h => br_t z0 (ch_x_putOut hn ⟨5, pX post h⟩), fun post h => br_t z0 (ch_y_putOut hn (pY post h))⟩
  · obtain ⟨ao', n', hn', pX, pY⟩ := core ao n hn
    have z0 : ¬ nI rt = 0 := nI_ne0 (by omega) (by omega)
    exact ⟨ao', n', hn', fun post h => br_f z0 ⟨5, pX post h⟩, fun post h => br_f z0 (pY post h)⟩
theorem ch_pp_number {v : Nat} (hv : v < 10000) (ao : Nat → Int32) (n : Nat) (hn : n ≤ 96) : ∃ (ao' : Nat → Int32) (n' : Nat), n' ≤ 96 ∧ (∀ post : SX → Prop, post (nI ct, nI nt, nI st, nI sd, nI rt, ch_epI ep, nI ck, nI nb, nI ll, nI n', f_moveTotal, f_movesKnown, f_savedSide, f_savedRights, f_savedPassant, f_savedClock, f_savedNumber, f_spellLen, f_at, f_end, f_writtenMark, f_writtenCastling, f_writtenPromotion, f_writtenTarget, f_writtenCapture, f_writtenRank, f_writtenFile, f_writtenKind, a_board, a_line, ao', a_moves, a_savedBoard, a_spell) → wpX_putNumber post (nI ct, nI nt, nI st, nI sd, nI rt, ch_epI ep, nI ck, nI nb, nI ll, nI n, f_moveTotal, f_movesKnown, f_savedSide, f_savedRights, f_savedPassant, f_savedClock, f_savedNumber, f_spellLen, f_at, f_end, f_writtenMark, f_writtenCastling, f_writtenPromotion, f_writtenTarget, f_writtenCapture, f_writtenRank, f_writtenFile, f_writtenKind, a_board, a_line, ao, a_moves, a_savedBoard, a_spell) (nI v)) ∧ (∀ post : SY → Prop, post (nI sd, nI rt, ch_epI ep, nI ck, nI nb, nI ll, nI n', nI ct, nI nt, nI st, f_textLen, f_newSide, f_newRights, f_newEp, f_newClock, f_newNumber, a_men, a_line, ao', a_text, a_cut) → wpY_putNumber post (nI sd, nI rt, ch_epI ep, nI ck, nI nb, nI ll, nI n, nI ct, nI nt, nI st, f_textLen, f_newSide, f_newRights, f_newEp, f_newClock, f_newNumber, a_men, a_line, ao, a_text, a_cut) (nI v)) := by
  have d10 : ¬ (10 : Int32) = 0 := by decide
  have d100 : ¬ (100 : Int32) = 0 := by decide
  have d1000 : ¬ (1000 : Int32) = 0 := by decide
  have c1 : ∀ (ao : Nat → Int32) (n : Nat), n ≤ 96 → ∃ (ao' : Nat → Int32) (n' : Nat), n' ≤ 96 ∧ (∀ post : SX → Prop, post (nI ct, nI nt, nI st, nI sd, nI rt, ch_epI ep, nI ck, nI nb, nI ll, nI n', f_moveTotal, f_movesKnown, f_savedSide, f_savedRights, f_savedPassant, f_savedClock, f_savedNumber, f_spellLen, f_at, f_end, f_writtenMark, f_writtenCastling, f_writtenPromotion, f_writtenTarget, f_writtenCapture, f_writtenRank, f_writtenFile, f_writtenKind, a_board, a_line, ao', a_moves, a_savedBoard, a_spell) → wX_putNumber_62 post (nI v) (nI ct) (nI nt) (nI st) (nI sd) (nI rt) (ch_epI ep) (nI ck) (nI nb) (nI ll) (nI n) f_moveTotal f_movesKnown f_savedSide f_savedRights f_savedPassant f_savedClock f_savedNumber f_spellLen f_at f_end f_writtenMark f_writtenCastling f_writtenPromotion f_writtenTarget f_writtenCapture f_writtenRank f_writtenFile f_writtenKind a_board a_line ao a_moves a_savedBoard a_spell) ∧ (∀ post : SY → Prop, post (nI sd, nI rt, ch_epI ep, nI ck, nI nb, nI ll, nI n', nI ct, nI nt, nI st, f_textLen, f_newSide, f_newRights, f_newEp, f_newClock, f_newNumber, a_men, a_line, ao', a_text, a_cut) → wY_putNumber_59 post (nI v) (nI sd) (nI rt) (ch_epI ep) (nI ck) (nI nb) (nI ll) (nI n) (nI ct) (nI nt) (nI st) f_textLen f_newSide f_newRights f_newEp f_newClock f_newNumber a_men a_line ao a_text a_cut) := fun ao n hn =>
    ⟨_, _, ch_pn_l hn, fun post h => ⟨d10, ch_x_putOut hn h⟩, fun post h => ⟨d10, ch_y_putOut hn h⟩⟩
  have c2 : ∀ (ao : Nat → Int32) (n : Nat), n ≤ 96 → ∃ (ao' : Nat → Int32) (n' : Nat), n' ≤ 96 ∧ (∀ post : SX → Prop, post (nI ct, nI nt, nI st, nI sd, nI rt, ch_epI ep, nI ck, nI nb, nI ll, nI n', f_moveTotal, f_movesKnown, f_savedSide, f_savedRights, f_savedPassant, f_savedClock, f_savedNumber, f_spellLen, f_at, f_end, f_writtenMark, f_writtenCastling, f_writtenPromotion, f_writtenTarget, f_writtenCapture, f_writtenRank, f_writtenFile, f_writtenKind, a_board, a_line, ao', a_moves, a_savedBoard, a_spell) → wX_putNumber_42 post (nI v) (nI ct) (nI nt) (nI st) (nI sd) (nI rt) (ch_epI ep) (nI ck) (nI nb) (nI ll) (nI n) f_moveTotal f_movesKnown f_savedSide f_savedRights f_savedPassant f_savedClock f_savedNumber f_spellLen f_at f_end f_writtenMark f_writtenCastling f_writtenPromotion f_writtenTarget f_writtenCapture f_writtenRank f_writtenFile f_writtenKind a_board a_line ao a_moves a_savedBoard a_spell) ∧ (∀ post : SY → Prop, post (nI sd, nI rt, ch_epI ep, nI ck, nI nb, nI ll, nI n', nI ct, nI nt, nI st, f_textLen, f_newSide, f_newRights, f_newEp, f_newClock, f_newNumber, a_men, a_line, ao', a_text, a_cut) → wY_putNumber_39 post (nI v) (nI sd) (nI rt) (ch_epI ep) (nI ck) (nI nb) (nI ll) (nI n) (nI ct) (nI nt) (nI st) f_textLen f_newSide f_newRights f_newEp f_newClock f_newNumber a_men a_line ao a_text a_cut) := by
    intro ao n hn
    by_cases z : nI v < (10 : Int32)
    · obtain ⟨ao', n', hn', pX, pY⟩ := c1 ao n hn
      exact ⟨ao', n', hn', fun post h => br_t z (pX post h), fun post h => br_t z (pY post h)⟩
    · obtain ⟨ao', n', hn', pX, pY⟩ := c1 (ch_pu ao n (48 + ((nI v / 10) - (nI v / 10) / 10 * 10))) (ch_pn n) (ch_pn_l hn)
      exact ⟨ao', n', hn', fun post h => br_f z ⟨d10, d10, ch_x_putOut hn (pX post h)⟩, fun post h => br_f z ⟨d10, d10, ch_y_putOut hn (pY post h)⟩⟩
  have c3 : ∀ (ao : Nat → Int32) (n : Nat), n ≤ 96 → ∃ (ao' : Nat → Int32) (n' : Nat), n' ≤ 96 ∧ (∀ post : SX → Prop, post (nI ct, nI nt, nI st, nI sd, nI rt, ch_epI ep, nI ck, nI nb, nI ll, nI n', f_moveTotal, f_movesKnown, f_savedSide, f_savedRights, f_savedPassant, f_savedClock, f_savedNumber, f_spellLen, f_at, f_end, f_writtenMark, f_writtenCastling, f_writtenPromotion, f_writtenTarget, f_writtenCapture, f_writtenRank, f_writtenFile, f_writtenKind, a_board, a_line, ao', a_moves, a_savedBoard, a_spell) → wX_putNumber_22 post (nI v) (nI ct) (nI nt) (nI st) (nI sd) (nI rt) (ch_epI ep) (nI ck) (nI nb) (nI ll) (nI n) f_moveTotal f_movesKnown f_savedSide f_savedRights f_savedPassant f_savedClock f_savedNumber f_spellLen f_at f_end f_writtenMark f_writtenCastling f_writtenPromotion f_writtenTarget f_writtenCapture f_writtenRank f_writtenFile f_writtenKind a_board a_line ao a_moves a_savedBoard a_spell) ∧ (∀ post : SY → Prop, post (nI sd, nI rt, ch_epI ep, nI ck, nI nb, nI ll, nI n', nI ct, nI nt, nI st, f_textLen, f_newSide, f_newRights, f_newEp, f_newClock, f_newNumber, a_men, a_line, ao', a_text, a_cut) → wY_putNumber_19 post (nI v) (nI sd) (nI rt) (ch_epI ep) (nI ck) (nI nb) (nI ll) (nI n) (nI ct) (nI nt) (nI st) f_textLen f_newSide f_newRights f_newEp f_newClock f_newNumber a_men a_line ao a_text a_cut) := by
    intro ao n hn
    by_cases z : nI v < (100 : Int32)
    · obtain ⟨ao', n', hn', pX, pY⟩ := c2 ao n hn
      exact ⟨ao', n', hn', fun post h => br_t z (pX post h), fun post h => br_t z (pY post h)⟩
    · obtain ⟨ao', n', hn', pX, pY⟩ := c2 (ch_pu ao n (48 + ((nI v / 100) - (nI v / 100) / 10 * 10))) (ch_pn n) (ch_pn_l hn)
      exact ⟨ao', n', hn', fun post h => br_f z ⟨d100, d10, ch_x_putOut hn (pX post h)⟩, fun post h => br_f z ⟨d100, d10, ch_y_putOut hn (pY post h)⟩⟩
  have ek : (nI v / 1000) - (nI v / 1000) / 10 * 10 = nI v / 1000 := by
    have e : nI v / 1000 = nI (v / 1000) := pk_div (d := 1000) (by omega) (by omega) (by omega)
    rw [e]
    have e2 : nI (v / 1000) - nI (v / 1000) / 10 * 10 = nI (v / 1000 % 10) := pk_rem (d := 10) (by omega) (by omega) (by omega)
    rw [e2]
    congr 1
    omega
  by_cases z : nI v < (1000 : Int32)
  · obtain ⟨ao', n', hn', pX, pY⟩ := c3 ao n hn
    exact ⟨ao', n', hn', fun post h => br_t z (pX post h), fun post h => br_t z (pY post h)⟩
  · obtain ⟨ao', n', hn', pX, pY⟩ := c3 (ch_pu ao n (48 + nI v / 1000)) (ch_pn n) (ch_pn_l hn)
    refine ⟨ao', n', hn', fun post h => br_f z ⟨d1000, d10, ?_⟩, fun post h => br_f z ⟨d1000, ch_y_putOut hn (pY post h)⟩⟩
    rw [ek]
    exact ch_x_putOut hn (pX post h)
end
end
section
/-! printing the position -/



section
variable {B : Nat → Nat} {sd rt ep ck ct nb nt st ll ol : Nat} {f_moveTotal f_movesKnown f_savedSide f_savedRights f_savedPassant f_savedClock f_savedNumber f_spellLen f_at f_end f_writtenMark f_writtenCastling f_writtenPromotion f_writtenTarget f_writtenCapture f_writtenRank f_writtenFile f_writtenKind : Int32} {a_board a_line a_out a_moves a_savedBoard a_spell : Nat → Int32} {f_textLen f_newSide f_newRights f_newEp f_newClock f_newNumber : Int32} {a_men a_text a_cut : Nat → Int32}
theorem ch_pp_116 (hck : ck < 10000) (hnb : nb < 10000) (ao : Nat → Int32) (n : Nat) (hn : n ≤ 96) : ∃ (ao' : Nat → Int32) (n' : Nat), n' ≤ 96 ∧ (∀ post : Int32 → SX → Prop, post (nI n') (nI ct, nI nt, nI st, nI sd, nI rt, ch_epI ep, nI ck, nI nb, nI ll, nI n', f_moveTotal, f_movesKnown, f_savedSide, f_savedRights, f_savedPassant, f_savedClock, f_savedNumber, f_spellLen, f_at, f_end, f_writtenMark, f_writtenCastling, f_writtenPromotion, f_writtenTarget, f_writtenCapture, f_writtenRank, f_writtenFile, f_writtenKind, a_board, a_line, ao', a_moves, a_savedBoard, a_spell) → wX_printPosition_116 post (nI ct) (nI nt) (nI st) (nI sd) (nI rt) (ch_epI ep) (nI ck) (nI nb) (nI ll) (nI n) f_moveTotal f_movesKnown f_savedSide f_savedRights f_savedPassant f_savedClock f_savedNumber f_spellLen f_at f_end f_writtenMark f_writtenCastling f_writtenPromotion f_writtenTarget f_writtenCapture f_writtenRank f_writtenFile f_writtenKind a_board a_line ao a_moves a_savedBoard a_spell) ∧ (∀ post : Int32 → SY → Prop, post (nI n') (nI sd, nI rt, ch_epI ep, nI ck, nI nb, nI ll, nI n', nI ct, nI nt, nI st, f_textLen, f_newSide, f_newRights, f_newEp, f_newClock, f_newNumber, a_men, a_line, ao', a_text, a_cut) → wY_printPosition_284 post (nI sd) (nI rt) (ch_epI ep) (nI ck) (nI nb) (nI ll) (nI n) (nI ct) (nI nt) (nI st) f_textLen f_newSide f_newRights f_newEp f_newClock f_newNumber a_men a_line ao a_text a_cut) := by
  obtain ⟨ao1, n1, h1, aX, aY⟩ := ch_pp_number hck (ch_pu ao n 32) (ch_pn n) (ch_pn_l hn)
  obtain ⟨ao2, n2, h2, bX, bY⟩ := ch_pp_number hnb (ch_pu ao1 n1 32) (ch_pn n1) (ch_pn_l h1)
  exact ⟨ao2, n2, h2, fun post h => ch_x_putOut hn (aX _ (ch_x_putOut h1 (bX _ h))), fun post h => ch_y_putOut hn (aY _ (ch_y_putOut h1 (bY _ h)))⟩
theorem ch_pp_ep (hck : ck < 10000) (hnb : nb < 10000) (hep : ep ≤ 64) (ao : Nat → Int32) (n : Nat) (hn : n ≤ 96) : ∃ (ao' : Nat → Int32) (n' : Nat), n' ≤ 96 ∧ (∀ post : Int32 → SX → Prop, post (nI n') (nI ct, nI nt, nI st, nI sd, nI rt, ch_epI ep, nI ck, nI nb, nI ll, nI n', f_moveTotal, f_movesKnown, f_savedSide, f_savedRights, f_savedPassant, f_savedClock, f_savedNumber, f_spellLen, f_at, f_end, f_writtenMark, f_writtenCastling, f_writtenPromotion, f_writtenTarget, f_writtenCapture, f_writtenRank, f_writtenFile, f_writtenKind, a_board, a_line, ao', a_moves, a_savedBoard, a_spell) → ((0 ≤ ch_epI ep → (wpX_putOut (fun u => match u with | (f_clockTop, f_numberTop, f_strict, f_side, f_rights, f_passant, f_clock, f_number, f_lineLen, f_outLen, f_moveTotal, f_movesKnown, f_savedSide, f_savedRights, f_savedPassant, f_savedClock, f_savedNumber, f_spellLen, f_at, f_end, f_writtenMark, f_writtenCastling, f_writtenPromotion, f_writtenTarget, f_writtenCapture, f_writtenRank, f_writtenFile, f_writtenKind, a_board, a_line, a_out, a_moves, a_savedBoard, a_spell) => (wpX_putOut (fun u => match u with | (f_clockTop, f_numberTop, f_strict, f_side, f_rights, f_passant, f_clock, f_number, f_lineLen, f_outLen, f_moveTotal, f_movesKnown, f_savedSide, f_savedRights, f_savedPassant, f_savedClock, f_savedNumber, f_spellLen, f_at, f_end, f_writtenMark, f_writtenCastling, f_writtenPromotion, f_writtenTarget, f_writtenCapture, f_writtenRank, f_writtenFile, f_writtenKind, a_board, a_line, a_out, a_moves, a_savedBoard, a_spell) => (wX_printPosition_116 post f_clockTop f_numberTop f_strict f_side f_rights f_passant f_clock f_number f_lineLen f_outLen f_moveTotal f_movesKnown f_savedSide f_savedRights f_savedPassant f_savedClock f_savedNumber f_spellLen f_at f_end f_writtenMark f_writtenCastling f_writtenPromotion f_writtenTarget f_writtenCapture f_writtenRank f_writtenFile f_writtenKind a_board a_line a_out a_moves a_savedBoard a_spell)) (f_clockTop, f_numberTop, f_strict, f_side, f_rights, f_passant, f_clock, f_number, f_lineLen, f_outLen, f_moveTotal, f_movesKnown, f_savedSide, f_savedRights, f_savedPassant, f_savedClock, f_savedNumber, f_spellLen, f_at, f_end, f_writtenMark, f_writtenCastling, f_writtenPromotion, f_writtenTarget, f_writtenCapture, f_writtenRank, f_writtenFile, f_writtenKind, a_board, a_line, a_out, a_moves, a_savedBoard, a_spell) (49 + (f_passant >>> ((3 : Int32) &&& 31))))) (nI ct, nI nt, nI st, nI sd, nI rt, ch_epI ep, nI ck, nI nb, nI ll, nI n, f_moveTotal, f_movesKnown, f_savedSide, f_savedRights, f_savedPassant, f_savedClock, f_savedNumber, f_spellLen, f_at, f_end, f_writtenMark, f_writtenCastling, f_writtenPromotion, f_writtenTarget, f_writtenCapture, f_writtenRank, f_writtenFile, f_writtenKind, a_board, a_line, ao, a_moves, a_savedBoard, a_spell) (97 + (ch_epI ep &&& 7)))) ∧ (¬ 0 ≤ ch_epI ep → (wpX_putOut (fun u => match u with | (f_clockTop, f_numberTop, f_strict, f_side, f_rights, f_passant, f_clock, f_number, f_lineLen, f_outLen, f_moveTotal, f_movesKnown, f_savedSide, f_savedRights, f_savedPassant, f_savedClock, f_savedNumber, f_spellLen, f_at, f_end, f_writtenMark, f_writtenCastling, f_writtenPromotion, f_writtenTarget, f_writtenCapture, f_writtenRank, f_writtenFile, f_writtenKind, a_board, a_line, a_out, a_moves, a_savedBoard, a_spell) => (wX_printPosition_116 post f_clockTop f_numberTop f_strict f_side f_rights f_passant f_clock f_number f_lineLen f_outLen f_moveTotal f_movesKnown f_savedSide f_savedRights f_savedPassant f_savedClock f_savedNumber f_spellLen f_at f_end f_writtenMark f_writtenCastling f_writtenPromotion f_writtenTarget f_writtenCapture f_writtenRank f_writtenFile f_writtenKind a_board a_line a_out a_moves a_savedBoard a_spell)) (nI ct, nI nt, nI st, nI sd, nI rt, ch_epI ep, nI ck, nI nb, nI ll, nI n, f_moveTotal, f_movesKnown, f_savedSide, f_savedRights, f_savedPassant, f_savedClock, f_savedNumber, f_spellLen, f_at, f_end, f_writtenMark, f_writtenCastling, f_writtenPromotion, f_writtenTarget, f_writtenCapture, f_writtenRank, f_writtenFile, f_writtenKind, a_board, a_line, ao, a_moves, a_savedBoard, a_spell) 45)))) ∧ (∀ post : Int32 → SY → Prop, post (nI n') (nI sd, nI rt, ch_epI ep, nI ck, nI nb, nI ll, nI n', nI ct, nI nt, nI st, f_textLen, f_newSide, f_newRights, f_newEp, f_newClock, f_newNumber, a_men, a_line, ao', a_text, a_cut) → ((0 ≤ ch_epI ep → (wpY_putOut (fun u => match u with | (f_side, f_rights, f_ep, f_clock, f_number, f_lineLen, f_outLen, f_clockTop, f_numberTop, f_strict, f_textLen, f_newSide, f_newRights, f_newEp, f_newClock, f_newNumber, a_men, a_line, a_out, a_text, a_cut) => (wpY_putOut (fun u => match u with | (f_side, f_rights, f_ep, f_clock, f_number, f_lineLen, f_outLen, f_clockTop, f_numberTop, f_strict, f_textLen, f_newSide, f_newRights, f_newEp, f_newClock, f_newNumber, a_men, a_line, a_out, a_text, a_cut) => (wY_printPosition_284 post f_side f_rights f_ep f_clock f_number f_lineLen f_outLen f_clockTop f_numberTop f_strict f_textLen f_newSide f_newRights f_newEp f_newClock f_newNumber a_men a_line a_out a_text a_cut)) (f_side, f_rights, f_ep, f_clock, f_number, f_lineLen, f_outLen, f_clockTop, f_numberTop, f_strict, f_textLen, f_newSide, f_newRights, f_newEp, f_newClock, f_newNumber, a_men, a_line, a_out, a_text, a_cut) (49 + (f_ep >>> ((3 : Int32) &&& 31))))) (nI sd, nI rt, ch_epI ep, nI ck, nI nb, nI ll, nI n, nI ct, nI nt, nI st, f_textLen, f_newSide, f_newRights, f_newEp, f_newClock, f_newNumber, a_men, a_line, ao, a_text, a_cut) (97 + (ch_epI ep &&& 7)))) ∧ (¬ 0 ≤ ch_epI ep → (wpY_putOut (fun u => match u with | (f_side, f_rights, f_ep, f_clock, f_number, f_lineLen, f_outLen, f_clockTop, f_numberTop, f_strict, f_textLen, f_newSide, f_newRights, f_newEp, f_newClock, f_newNumber, a_men, a_line, a_out, a_text, a_cut) => (wY_printPosition_284 post f_side f_rights f_ep f_clock f_number f_lineLen f_outLen f_clockTop f_numberTop f_strict f_textLen f_newSide f_newRights f_newEp f_newClock f_newNumber a_men a_line a_out a_text a_cut)) (nI sd, nI rt, ch_epI ep, nI ck, nI nb, nI ll, nI n, nI ct, nI nt, nI st, f_textLen, f_newSide, f_newRights, f_newEp, f_newClock, f_newNumber, a_men, a_line, ao, a_text, a_cut) 45)))) := by
  by_cases c : 0 ≤ ch_epI ep
  · obtain ⟨ao1, n1, h1, aX, aY⟩ := ch_pp_116 hck hnb (ch_pu (ch_pu ao n (97 + (ch_epI ep &&& 7))) (ch_pn n) (49 + (ch_epI ep >>> ((3 : Int32) &&& 31)))) (ch_pn (ch_pn n)) (ch_pn_l (ch_pn_l hn))
    exact ⟨ao1, n1, h1, fun post h => br_t c (ch_x_putOut hn (ch_x_putOut (ch_pn_l hn) (aX _ h))), fun post h => br_t c (ch_y_putOut hn (ch_y_putOut (ch_pn_l hn) (aY _ h)))⟩
  · obtain ⟨ao1, n1, h1, aX, aY⟩ := ch_pp_116 hck hnb (ch_pu ao n 45) (ch_pn n) (ch_pn_l hn)
    exact ⟨ao1, n1, h1, fun post h => br_f c (ch_x_putOut hn (aX _ h)), fun post h => br_f c (ch_y_putOut hn (aY _ h))⟩
theorem ch_pp_tail (hrt : rt < 16) (hsd : sd < 2) (hck : ck < 10000) (hnb : nb < 10000) (hep : ep ≤ 64) (ao : Nat → Int32) (n : Nat) (hn : n ≤ 96) : ∃ (ao' : Nat → Int32) (n' : Nat), n' ≤ 96 ∧ (∀ post : Int32 → SX → Prop, post (nI n') (nI ct, nI nt, nI st, nI sd, nI rt, ch_epI ep, nI ck, nI nb, nI ll, nI n', f_moveTotal, f_movesKnown, f_savedSide, f_savedRights, f_savedPassant, f_savedClock, f_savedNumber, f_spellLen, f_at, f_end, f_writtenMark, f_writtenCastling, f_writtenPromotion, f_writtenTarget, f_writtenCapture, f_writtenRank, f_writtenFile, f_writtenKind, a_board, a_line, ao', a_moves, a_savedBoard, a_spell) → wX_printPosition_8 post 1 (-1) (nI ct) (nI nt) (nI st) (nI sd) (nI rt) (ch_epI ep) (nI ck) (nI nb) (nI ll) (nI n) f_moveTotal f_movesKnown f_savedSide f_savedRights f_savedPassant f_savedClock f_savedNumber f_spellLen f_at f_end f_writtenMark f_writtenCastling f_writtenPromotion f_writtenTarget f_writtenCapture f_writtenRank f_writtenFile f_writtenKind a_board a_line ao a_moves a_savedBoard a_spell) ∧ (∀ post : Int32 → SY → Prop, post (nI n') (nI sd, nI rt, ch_epI ep, nI ck, nI nb, nI ll, nI n', nI ct, nI nt, nI st, f_textLen, f_newSide, f_newRights, f_newEp, f_newClock, f_newNumber, a_men, a_line, ao', a_text, a_cut) → wY_printPosition_8 post 1 (-1) (nI sd) (nI rt) (ch_epI ep) (nI ck) (nI nb) (nI ll) (nI n) (nI ct) (nI nt) (nI st) f_textLen f_newSide f_newRights f_newEp f_newClock f_newNumber a_men a_line ao a_text a_cut) := by
  have go : ∀ z : Int32, ∃ (ao' : Nat → Int32) (n' : Nat), n' ≤ 96 ∧ (∀ post : Int32 → SX → Prop, post (nI n') (nI ct, nI nt, nI st, nI sd, nI rt, ch_epI ep, nI ck, nI nb, nI ll, nI n', f_moveTotal, f_movesKnown, f_savedSide, f_savedRights, f_savedPassant, f_savedClock, f_savedNumber, f_spellLen, f_at, f_end, f_writtenMark, f_writtenCastling, f_writtenPromotion, f_writtenTarget, f_writtenCapture, f_writtenRank, f_writtenFile, f_writtenKind, a_board, a_line, ao', a_moves, a_savedBoard, a_spell) → wX_printPosition_54 post z (nI ct) (nI nt) (nI st) (nI sd) (nI rt) (ch_epI ep) (nI ck) (nI nb) (nI ll) (nI (ch_pn n)) f_moveTotal f_movesKnown f_savedSide f_savedRights f_savedPassant f_savedClock f_savedNumber f_spellLen f_at f_end f_writtenMark f_writtenCastling f_writtenPromotion f_writtenTarget f_writtenCapture f_writtenRank f_writtenFile f_writtenKind a_board a_line (ch_pu ao n 32) a_moves a_savedBoard a_spell) ∧ (∀ post : Int32 → SY → Prop, post (nI n') (nI sd, nI rt, ch_epI ep, nI ck, nI nb, nI ll, nI n', nI ct, nI nt, nI st, f_textLen, f_newSide, f_newRights, f_newEp, f_newClock, f_newNumber, a_men, a_line, ao', a_text, a_cut) → wY_printPosition_155 post (nI sd) (nI rt) (ch_epI ep) (nI ck) (nI nb) (nI ll) (nI (ch_pn (ch_pn n))) (nI ct) (nI nt) (nI st) f_textLen f_newSide f_newRights f_newEp f_newClock f_newNumber a_men a_line (ch_pu (ch_pu ao n 32) (ch_pn n) z) a_text a_cut) := by
    intro z
    have l1 := ch_pn_l hn
    have l2 := ch_pn_l l1
    obtain ⟨ao1, n1, h1, aX, aY⟩ := ch_pp_rights hrt (ch_pu (ch_pu (ch_pu ao n 32) (ch_pn n) z) (ch_pn (ch_pn n)) 32) (ch_pn (ch_pn (ch_pn n))) (ch_pn_l l2)
    obtain ⟨ao2, n2, h2, bX, bY⟩ := ch_pp_ep hck hnb hep (ch_pu ao1 n1 32) (ch_pn n1) (ch_pn_l h1)
    refine ⟨ao2, n2, h2, fun post h => ?_, fun post h => ?_⟩
    · unfold wX_printPosition_54
      refine ch_x_putOut l1 ?_
      refine ch_x_putOut l2 ?_
      refine aX _ ?_
      refine ch_x_putOut h1 ?_
      exact bX post h
    · unfold wY_printPosition_155
      refine ch_y_putOut l2 ?_
      refine aY post ?_
      unfold wY_printPosition_235
      refine ch_y_putOut h1 ?_
      exact bY post h
  by_cases c : sd = 0
  · obtain ⟨ao1, n1, h1, aX, aY⟩ := go 119
    have c0 : nI sd = 0 := by rw [c]; rfl
    exact ⟨ao1, n1, h1, fun post h => br_t (by decide) (ch_x_putOut hn (br_t c0 (aX post h))), fun post h => br_t (by decide) (ch_y_putOut hn (br_t c0 (ch_y_putOut (ch_pn_l hn) (aY post h))))⟩
  · obtain ⟨ao1, n1, h1, aX, aY⟩ := go 98
    have c0 : ¬ nI sd = 0 := nI_ne0 (by omega) (by omega)
    exact ⟨ao1, n1, h1, fun post h => br_t (by decide) (ch_x_putOut hn (br_f c0 (aX post h))), fun post h => br_t (by decide) (ch_y_putOut hn (br_f c0 (ch_y_putOut (ch_pn_l hn) (aY post h))))⟩
end
theorem i_vc_printPosition {k : Nat} {u : SX} {v : SY} (I : i_Rel k u v) (hk : k + 4 ≤ 2051) : wpX_printPosition (fun r u' => wpY_printPosition (fun r' v' => r' = r ∧ i_Rel (k + 4) u' v') v) u := by
  refine ch_rl_el (P := fun u v => wpX_printPosition (fun r u' => wpY_printPosition (fun r' v' => r' = r ∧ i_Rel (k + 4) u' v') v) u) ?_ I
  intro B sd rt ep ck ct nb nt st ll ol f_moveTotal f_movesKnown f_savedSide f_savedRights f_savedPassant f_savedClock f_savedNumber f_spellLen f_at f_end f_writtenMark f_writtenCastling f_writtenPromotion f_writtenTarget f_writtenCapture f_writtenRank f_writtenFile f_writtenKind a_board a_line a_out a_moves a_savedBoard a_spell f_textLen f_newSide f_newRights f_newEp f_newClock f_newNumber a_men a_text a_cut hF
  obtain ⟨h1, h2, h3, h4, h5, h6, h7, h8, h9⟩ := hF
  obtain ⟨ao1, n1, l1, aX, aY⟩ := ch_pp_ranks h1 h2 h3.1 8 (by omega) a_out 0 (by omega)
  obtain ⟨ao2, n2, l2, bX, bY⟩ := ch_pp_tail (ck := ck) (nb := nb) h3.2.2.1 h3.2.1 (by omega) (by omega) h3.2.2.2.1 ao1 n1 l1
  refine ⟨9, aX _ (bX _ ?_)⟩
  refine ⟨9, aY _ (bY _ ?_)⟩
  refine ⟨rfl, ?_⟩
  exact ch_rl_mk ⟨h1, h2, h3, h4, h5, h6, h7, h8, l2⟩
end
section
/-! the printed text of a move: the component -/
def ch_TX (a : Nat → Int32) (l : List Int32) : Prop := ∀ i, i < l.length → a i = l.getD i 0
theorem ch_TX_0 (a : Nat → Int32) : ch_TX a [] := fun i h => by simp at h
theorem ch_TX_p {a : Nat → Int32} {l : List Int32} {c : Int32} (h : ch_TX a l) : ch_TX (upd a l.length c) (l ++ [c]) := by
  intro i hi
  rw [List.length_append, List.length_singleton] at hi
  by_cases e : i = l.length
  · subst e
    rw [ch_u_t rfl, List.getD_eq_getElem?_getD, List.getElem?_append_right (Nat.le_refl _), Nat.sub_self]
    rfl
  · rw [ch_u_f e, h i (by omega), List.getD_eq_getElem?_getD, List.getD_eq_getElem?_getD, List.getElem?_append_left (by omega)]
theorem ch_len_p (l : List Int32) (c : Int32) : (l ++ [c]).length = l.length + 1 := by
  rw [List.length_append, List.length_singleton]
/-- some other man of the kind may go to t -/
def ch_OT (B : Nat → Nat) (sd rt ep s t : Nat) (F : Nat → Prop) : Prop := ∃ o, o < 64 ∧ o ≠ s ∧ B o = B s ∧ ch_LC B sd rt ep (512 * o + 8 * t) ∧ F o
def ch_T1 (_ : Nat) : Prop := True
def ch_T2 (s o : Nat) : Prop := o % 8 = s % 8
def ch_T3 (s o : Nat) : Prop := o / 8 = s / 8
def ch_ORL (B : Nat → Nat) (sd rt ep s t : Nat) (l : List Int32) : Prop :=
  (¬ ch_OT B sd rt ep s t ch_T1 ∧ l = []) ∨
  (ch_OT B sd rt ep s t ch_T1 ∧ ¬ ch_OT B sd rt ep s t (ch_T2 s) ∧ l = [97 + nI (s % 8)]) ∨
  (ch_OT B sd rt ep s t ch_T1 ∧ ch_OT B sd rt ep s t (ch_T2 s) ∧ ¬ ch_OT B sd rt ep s t (ch_T3 s) ∧ l = [49 + nI (s / 8)]) ∨
  (ch_OT B sd rt ep s t ch_T1 ∧ ch_OT B sd rt ep s t (ch_T2 s) ∧ ch_OT B sd rt ep s t (ch_T3 s) ∧ l = [97 + nI (s % 8), 49 + nI (s / 8)])
theorem ch_ORL_u {B : Nat → Nat} {sd rt ep s t : Nat} {l l' : List Int32} (h : ch_ORL B sd rt ep s t l) (h' : ch_ORL B sd rt ep s t l') : l = l' := by
  rcases h with ⟨a, e⟩ | ⟨a, b, e⟩ | ⟨a, b, c, e⟩ | ⟨a, b, c, e⟩ <;> rcases h' with ⟨a', e'⟩ | ⟨a', b', e'⟩ | ⟨a', b', c', e'⟩ | ⟨a', b', c', e'⟩
  · rw [e, e']
  · exact absurd a' a
  · exact absurd a' a
  · exact absurd a' a
  · exact absurd a a'
  · rw [e, e']
  · exact absurd b' b
  · exact absurd b' b
  · exact absurd a a'
  · exact absurd b b'
  · rw [e, e']
  · exact absurd c' c
  · exact absurd a a'
  · exact absurd b b'
  · exact absurd c c'
  · rw [e, e']
theorem ch_ORL_l {B : Nat → Nat} {sd rt ep s t : Nat} {l : List Int32} (h : ch_ORL B sd rt ep s t l) : l.length ≤ 2 := by
  rcases h with ⟨_, e⟩ | ⟨_, _, e⟩ | ⟨_, _, _, e⟩ | ⟨_, _, _, e⟩ <;> rw [e]
  · exact Nat.zero_le 2
  · show 1 ≤ 2; omega
  · show 1 ≤ 2; omega
  · exact Nat.le_refl 2
def ch_capS (x bt s : Nat) : List Int32 := if x = 5 ∨ bt ≠ 0 then [97 + nI (s % 8), 120] else []
def ch_capX (x bt : Nat) : List Int32 := if x = 5 ∨ bt ≠ 0 then [120] else []
def ch_sqL (t : Nat) : List Int32 := [97 + nI (t % 8), 49 + nI (t / 8)]
def ch_proL (p : Nat) : List Int32 := if p = 0 then [] else [61, nI (ch_lt_ p)]
def ch_mkL (r : Int32) : List Int32 := if r = 0 then [] else [r]
/-- the text without its mark -/
def ch_BDY (B : Nat → Nat) (sd rt ep s t p x : Nat) (l : List Int32) : Prop :=
  (x = 6 ∧ l = [79, 45, 79]) ∨ (x = 7 ∧ l = [79, 45, 79, 45, 79]) ∨
  (x ≠ 6 ∧ x ≠ 7 ∧ B s % 8 = 1 ∧ l = ch_capS x (B t) s ++ ch_sqL t ++ ch_proL p) ∨
  (x ≠ 6 ∧ x ≠ 7 ∧ B s % 8 ≠ 1 ∧ ∃ o, ch_ORL B sd rt ep s t o ∧ l = [nI (ch_lt_ (B s % 8))] ++ o ++ ch_capX x (B t) ++ ch_sqL t)
theorem ch_BDY_u {B : Nat → Nat} {sd rt ep s t p x : Nat} {l l' : List Int32} (h : ch_BDY B sd rt ep s t p x l) (h' : ch_BDY B sd rt ep s t p x l') : l = l' := by
  rcases h with ⟨a, e⟩ | ⟨a, e⟩ | ⟨a, b, c, e⟩ | ⟨a, b, c, o, d, e⟩ <;> rcases h' with ⟨a', e'⟩ | ⟨a', e'⟩ | ⟨a', b', c', e'⟩ | ⟨a', b', c', o', d', e'⟩
  · rw [e, e']
  · omega
  · exact absurd a a'
  · exact absurd a a'
  · omega
  · rw [e, e']
  · exact absurd a b'
  · exact absurd a b'
  · exact absurd a' a
  · exact absurd a' b
  · rw [e, e']
  · exact absurd c c'
  · exact absurd a' a
  · exact absurd a' b
  · exact absurd c' c
  · rw [e, e', ch_ORL_u d d']
theorem ch_capS_l (x bt s : Nat) : (ch_capS x bt s).length ≤ 2 := by
  unfold ch_capS; split
  · exact Nat.le_refl 2
  · exact Nat.zero_le 2
theorem ch_capX_l (x bt : Nat) : (ch_capX x bt).length ≤ 1 := by
  unfold ch_capX; split
  · exact Nat.le_refl 1
  · exact Nat.zero_le 1
theorem ch_proL_l (p : Nat) : (ch_proL p).length ≤ 2 := by
  unfold ch_proL; split
  · exact Nat.zero_le 2
  · exact Nat.le_refl 2
theorem ch_mkL_l (r : Int32) : (ch_mkL r).length ≤ 1 := by
  unfold ch_mkL; split
  · exact Nat.zero_le 1
  · exact Nat.le_refl 1
theorem ch_BDY_l {B : Nat → Nat} {sd rt ep s t p x : Nat} {l : List Int32} (h : ch_BDY B sd rt ep s t p x l) : l.length ≤ 6 := by
  rcases h with ⟨a, e⟩ | ⟨a, e⟩ | ⟨a, b, c, e⟩ | ⟨a, b, c, o, d, e⟩
  · rw [e]; decide
  · rw [e]; decide
  · rw [e, List.length_append, List.length_append]
    have h1 := ch_capS_l x (B t) s
    have h2 := ch_proL_l p
    have h3 : (ch_sqL t).length = 2 := rfl
    omega
  · rw [e, List.length_append, List.length_append, List.length_append, List.length_singleton]
    have h1 := ch_capX_l x (B t)
    have h2 := ch_ORL_l d
    have h3 : (ch_sqL t).length = 2 := rfl
    omega
/-- the whole text -/
def ch_SPL (B : Nat → Nat) (sd rt ep s t p x : Nat) (l : List Int32) : Prop := ∃ b r, ch_BDY B sd rt ep s t p x b ∧ ch_MK B sd rt ep s t p x r ∧ l = b ++ ch_mkL r
theorem ch_SPL_u {B : Nat → Nat} {sd rt ep s t p x : Nat} {l l' : List Int32} (h : ch_SPL B sd rt ep s t p x l) (h' : ch_SPL B sd rt ep s t p x l') : l = l' := by
  obtain ⟨b, r, h1, h2, e⟩ := h
  obtain ⟨b', r', h1', h2', e'⟩ := h'
  rw [e, e', ch_BDY_u h1 h1', ch_MK_u h2 h2']
theorem ch_SPL_l {B : Nat → Nat} {sd rt ep s t p x : Nat} {l : List Int32} (h : ch_SPL B sd rt ep s t p x l) : l.length ≤ 7 := by
  obtain ⟨b, r, h1, h2, e⟩ := h
  rw [e, List.length_append]
  have := ch_BDY_l h1
  have := ch_mkL_l r
  omega
section
variable {f_clockTop f_numberTop f_strict f_side f_rights f_passant f_clock f_number f_lineLen f_outLen f_moveTotal f_movesKnown f_savedSide f_savedRights f_savedPassant f_savedClock f_savedNumber f_spellLen f_at f_end f_writtenMark f_writtenCastling f_writtenPromotion f_writtenTarget f_writtenCapture f_writtenRank f_writtenFile f_writtenKind : Int32} {a_board a_line a_out a_moves a_savedBoard a_spell : Nat → Int32}

theorem ch_x_putSpell {post : SX → Prop} {l : List Int32} {c : Int32} (hT : ch_TX a_spell l) (hl : l.length < 8) (h : ∀ a, ch_TX a (l ++ [c]) → post (f_clockTop, f_numberTop, f_strict, f_side, f_rights, f_passant, f_clock, f_number, f_lineLen, f_outLen, f_moveTotal, f_movesKnown, f_savedSide, f_savedRights, f_savedPassant, f_savedClock, f_savedNumber, nI (l ++ [c]).length, f_at, f_end, f_writtenMark, f_writtenCastling, f_writtenPromotion, f_writtenTarget, f_writtenCapture, f_writtenRank, f_writtenFile, f_writtenKind, a_board, a_line, a_out, a_moves, a_savedBoard, a)) : wpX_putSpell post (f_clockTop, f_numberTop, f_strict, f_side, f_rights, f_passant, f_clock, f_number, f_lineLen, f_outLen, f_moveTotal, f_movesKnown, f_savedSide, f_savedRights, f_savedPassant, f_savedClock, f_savedNumber, nI l.length, f_at, f_end, f_writtenMark, f_writtenCastling, f_writtenPromotion, f_writtenTarget, f_writtenCapture, f_writtenRank, f_writtenFile, f_writtenKind, a_board, a_line, a_out, a_moves, a_savedBoard, a_spell) c := by
  refine pk_le 8 l.length (fun e => by omega) (fun _ => ?_)
  rw [nI_clamp (by omega)]
  have := h _ (ch_TX_p hT)
  rw [ch_len_p] at this
  exact ⟨vp_in_nI hl (by omega), nm_e (nm_r (nI_1 _) this)⟩
theorem ch_x_spellSquare {post : SX → Prop} {l : List Int32} {s : Nat} (hs : s < 64) (hT : ch_TX a_spell l) (hl : l.length < 7) (h : ∀ a, ch_TX a (l ++ ch_sqL s) → post (f_clockTop, f_numberTop, f_strict, f_side, f_rights, f_passant, f_clock, f_number, f_lineLen, f_outLen, f_moveTotal, f_movesKnown, f_savedSide, f_savedRights, f_savedPassant, f_savedClock, f_savedNumber, nI (l ++ ch_sqL s).length, f_at, f_end, f_writtenMark, f_writtenCastling, f_writtenPromotion, f_writtenTarget, f_writtenCapture, f_writtenRank, f_writtenFile, f_writtenKind, a_board, a_line, a_out, a_moves, a_savedBoard, a)) : wpX_spellSquare post (f_clockTop, f_numberTop, f_strict, f_side, f_rights, f_passant, f_clock, f_number, f_lineLen, f_outLen, f_moveTotal, f_movesKnown, f_savedSide, f_savedRights, f_savedPassant, f_savedClock, f_savedNumber, nI l.length, f_at, f_end, f_writtenMark, f_writtenCastling, f_writtenPromotion, f_writtenTarget, f_writtenCapture, f_writtenRank, f_writtenFile, f_writtenKind, a_board, a_line, a_out, a_moves, a_savedBoard, a_spell) (nI s) := by
  unfold wpX_spellSquare
  rw [ch_nI_a7 (by omega), ch_nI_r3 (by omega)]
  refine ch_x_putSpell hT (by omega) (fun a ha => ?_)
  refine ch_x_putSpell ha (by rw [ch_len_p]; omega) (fun a2 ha2 => ?_)
  rw [show (l ++ [97 + nI (s % 8)] ++ [49 + nI (s / 8)]) = l ++ ch_sqL s from by rw [List.append_assoc]; rfl] at ha2 ⊢
  exact h a2 ha2
theorem ch_x_spellCastling {post : SX → Prop} {ks : Nat} (hks : ks < 2) (h : ∀ a, ch_TX a (if ks = 0 then [79, 45, 79, 45, 79] else [79, 45, 79]) → post (f_clockTop, f_numberTop, f_strict, f_side, f_rights, f_passant, f_clock, f_number, f_lineLen, f_outLen, f_moveTotal, f_movesKnown, f_savedSide, f_savedRights, f_savedPassant, f_savedClock, f_savedNumber, nI (if ks = 0 then ([79, 45, 79, 45, 79] : List Int32) else [79, 45, 79]).length, f_at, f_end, f_writtenMark, f_writtenCastling, f_writtenPromotion, f_writtenTarget, f_writtenCapture, f_writtenRank, f_writtenFile, f_writtenKind, a_board, a_line, a_out, a_moves, a_savedBoard, a)) : wpX_spellCastling post (f_clockTop, f_numberTop, f_strict, f_side, f_rights, f_passant, f_clock, f_number, f_lineLen, f_outLen, f_moveTotal, f_movesKnown, f_savedSide, f_savedRights, f_savedPassant, f_savedClock, f_savedNumber, 0, f_at, f_end, f_writtenMark, f_writtenCastling, f_writtenPromotion, f_writtenTarget, f_writtenCapture, f_writtenRank, f_writtenFile, f_writtenKind, a_board, a_line, a_out, a_moves, a_savedBoard, a_spell) (nI ks) := by
  unfold wpX_spellCastling
  refine ch_x_putSpell (l := []) (ch_TX_0 _) (by decide) (fun a1 h1 => ?_)
  refine ch_x_putSpell (l := [79]) h1 (by show 1 < 8; omega) (fun a2 h2 => ?_)
  refine ch_x_putSpell (l := [79, 45]) h2 (by show 2 < 8; omega) (fun a3 h3 => ?_)
  refine pk_eq ks 0 (fun e => ?_) (fun e => ?_)
  · refine ch_x_putSpell (l := [79, 45, 79]) h3 (by show 3 < 8; omega) (fun a4 h4 => ?_)
    refine ch_x_putSpell (l := [79, 45, 79, 45]) h4 (by show 4 < 8; omega) (fun a5 h5 => ?_)
    rw [if_pos e] at h
    exact h a5 h5
  · rw [if_neg e] at h
    exact h a3 h3
theorem ch_x_spellPawn26 {post : SX → Prop} {l : List Int32} {t p : Nat} (ht : t < 64) (hp : p < 8) (hT : ch_TX a_spell l) (hl : l.length ≤ 2) (h : ∀ a, ch_TX a (l ++ ch_sqL t ++ ch_proL p) → post (f_clockTop, f_numberTop, f_strict, f_side, f_rights, f_passant, f_clock, f_number, f_lineLen, f_outLen, f_moveTotal, f_movesKnown, f_savedSide, f_savedRights, f_savedPassant, f_savedClock, f_savedNumber, nI (l ++ ch_sqL t ++ ch_proL p).length, f_at, f_end, f_writtenMark, f_writtenCastling, f_writtenPromotion, f_writtenTarget, f_writtenCapture, f_writtenRank, f_writtenFile, f_writtenKind, a_board, a_line, a_out, a_moves, a_savedBoard, a)) : wX_spellPawn_26 post (nI t) (nI p) f_clockTop f_numberTop f_strict f_side f_rights f_passant f_clock f_number f_lineLen f_outLen f_moveTotal f_movesKnown f_savedSide f_savedRights f_savedPassant f_savedClock f_savedNumber (nI l.length) f_at f_end f_writtenMark f_writtenCastling f_writtenPromotion f_writtenTarget f_writtenCapture f_writtenRank f_writtenFile f_writtenKind a_board a_line a_out a_moves a_savedBoard a_spell := by
  unfold wX_spellPawn_26
  refine ch_x_spellSquare ht hT (by omega) (fun a ha => ?_)
  have hs : (l ++ ch_sqL t).length = l.length + 2 := by rw [List.length_append]; rfl
  refine pk_eq p 0 (fun e => ?_) (fun e => ch_x_letterOf hp ?_)
  · unfold ch_proL at h
    rw [if_pos e, List.append_nil] at h
    exact h a ha
  · unfold ch_proL at h
    rw [if_neg e] at h
    refine ch_x_putSpell ha (by omega) (fun a2 h2 => ?_)
    refine ch_x_putSpell h2 (by rw [ch_len_p]; omega) (fun a3 h3 => ?_)
    rw [show (l ++ ch_sqL t ++ [61] ++ [nI (ch_lt_ p)]) = l ++ ch_sqL t ++ [61, nI (ch_lt_ p)] from by rw [List.append_assoc (l ++ ch_sqL t)]; rfl] at h3 ⊢
    exact h a3 h3
theorem ch_x_spellPawn {post : SX → Prop} {B : Nat → Nat} {sd rt ep s t p x : Nat} (hB : ch_BX a_board B) (hV : ch_VB B) (hE : ch_EG B sd ep) (hs : s < 64) (ht : t < 64) (hp : p < 8) (hsd : sd < 2) (hep : ep ≤ 64) (hT : ch_TP B sd rt ep s t p x) (h : ∀ a, ch_TX a (ch_capS x (B t) s ++ ch_sqL t ++ ch_proL p) → post (f_clockTop, f_numberTop, f_strict, nI sd, nI rt, ch_epI ep, f_clock, f_number, f_lineLen, f_outLen, f_moveTotal, f_movesKnown, f_savedSide, f_savedRights, f_savedPassant, f_savedClock, f_savedNumber, nI (ch_capS x (B t) s ++ ch_sqL t ++ ch_proL p).length, f_at, f_end, f_writtenMark, f_writtenCastling, f_writtenPromotion, f_writtenTarget, f_writtenCapture, f_writtenRank, f_writtenFile, f_writtenKind, a_board, a_line, a_out, a_moves, a_savedBoard, a)) : wpX_spellPawn post (f_clockTop, f_numberTop, f_strict, nI sd, nI rt, ch_epI ep, f_clock, f_number, f_lineLen, f_outLen, f_moveTotal, f_movesKnown, f_savedSide, f_savedRights, f_savedPassant, f_savedClock, f_savedNumber, 0, f_at, f_end, f_writtenMark, f_writtenCastling, f_writtenPromotion, f_writtenTarget, f_writtenCapture, f_writtenRank, f_writtenFile, f_writtenKind, a_board, a_line, a_out, a_moves, a_savedBoard, a_spell) (nI s) (nI t) (nI p) := by
  unfold wpX_spellPawn
  refine ch_x_isCapture hB hV hE hs ht hsd hep hT (fun c => br_f (by decide) ?_) (fun c => br_t rfl ?_)
  · unfold ch_capS at h
    rw [if_pos c] at h
    rw [ch_nI_a7 (by omega)]
    refine ch_x_putSpell (l := []) (ch_TX_0 _) (by decide) (fun a1 h1 => ?_)
    refine ch_x_putSpell (l := [97 + nI (s % 8)]) h1 (by show 1 < 8; omega) (fun a2 h2 => ?_)
    exact ch_x_spellPawn26 (l := [97 + nI (s % 8), 120]) ht hp h2 (Nat.le_refl 2) h
  · unfold ch_capS at h
    rw [if_neg c] at h
    exact ch_x_spellPawn26 (l := []) ht hp (ch_TX_0 _) (Nat.zero_le 2) h
end
end
section
/-! the component's text of a piece's move, and of any move -/
/-- a legal code to t by another man of the kind, with F, among the first i -/
def ch_OX (B : Nat → Nat) (sd rt ep s t : Nat) (F : Nat → Prop) (i : Nat) : Prop := ∃ d, d < 32768 ∧ ch_LC B sd rt ep d ∧ ch_cn (ch_LC B sd rt ep) d < i ∧ (d / 8 % 64 = t ∧ d / 512 ≠ s ∧ B (d / 512) = B s) ∧ F (d / 512)
theorem ch_OX_0 {B : Nat → Nat} {sd rt ep s t : Nat} {F : Nat → Prop} : ¬ ch_OX B sd rt ep s t F 0 := by
  rintro ⟨d, _, _, h, _⟩; omega
theorem ch_OX_s {B : Nat → Nat} {sd rt ep s t i d : Nat} {F : Nat → Prop} (hd : d < 32768) (hl : ch_LC B sd rt ep d) (hc : ch_cn (ch_LC B sd rt ep) d = i) : ch_OX B sd rt ep s t F (i + 1) ↔ (ch_OX B sd rt ep s t F i ∨ ((d / 8 % 64 = t ∧ d / 512 ≠ s ∧ B (d / 512) = B s) ∧ F (d / 512))) := by
  constructor
  · rintro ⟨e, he, hle, hce, ch_hm, hF⟩
    by_cases z : ch_cn (ch_LC B sd rt ep) e < i
    · exact Or.inl ⟨e, he, hle, z, ch_hm, hF⟩
    · obtain rfl : e = d := ch_cn_inj hle hl (by omega)
      exact Or.inr ⟨ch_hm, hF⟩
  · rintro (⟨e, he, hle, hce, ch_hm, hF⟩ | ⟨ch_hm, hF⟩)
    · exact ⟨e, he, hle, by omega, ch_hm, hF⟩
    · exact ⟨d, hd, hl, by omega, ch_hm, hF⟩
theorem ch_OX_e {B : Nat → Nat} {sd rt ep s t : Nat} {F : Nat → Prop} (hP : ch_POS B sd rt ep) (hs : s < 64) (ht : t < 64) (hk : B s % 8 ≠ 1) : ch_OX B sd rt ep s t F (ch_cn (ch_LC B sd rt ep) 32768) ↔ ch_OT B sd rt ep s t F := by
  obtain ⟨kq, hK⟩ := ch_POS_K hP hP.2.1
  constructor
  · rintro ⟨d, hd, hl, _, ⟨h1, h2, h3⟩, hF⟩
    refine ⟨d / 512, by omega, h2, h3, ?_, hF⟩
    have hl2 := hl
    rw [← ch_cd_c hd, ch_LC_LX hP hK (by omega) (by omega) (by omega)] at hl2
    have hp := hl2.2
    unfold ch_PRM at hp
    rw [h3] at hp
    have e0 : d % 8 = 0 := by omega
    rw [show 512 * (d / 512) + 8 * t = d from by omega]
    exact hl
  · rintro ⟨o, ho, h1, h2, hl, hF⟩
    refine ⟨512 * o + 8 * t, by omega, hl, ch_cn_lt2 (by omega) hl, ?_, ?_⟩
    · rw [show (512 * o + 8 * t) / 8 % 64 = t from by omega, show (512 * o + 8 * t) / 512 = o from by omega]
      exact ⟨rfl, h1, h2⟩
    · rw [show (512 * o + 8 * t) / 512 = o from by omega]; exact hF
section
variable {f_clockTop f_numberTop f_strict f_side f_rights f_passant f_clock f_number f_lineLen f_outLen f_moveTotal f_movesKnown f_savedSide f_savedRights f_savedPassant f_savedClock f_savedNumber f_spellLen f_at f_end f_writtenMark f_writtenCastling f_writtenPromotion f_writtenTarget f_writtenCapture f_writtenRank f_writtenFile f_writtenKind : Int32} {a_board a_line a_out a_moves a_savedBoard a_spell : Nat → Int32}

theorem ch_x_so101 {post : SX → Prop} {J : Int32 → Int32 → Int32 → Int32 → Prop} {s o c z i : Nat} {x1 x2 : Int32} (hs : s < 64) (ho : o < 64) (hc : c < 2) (h : ∀ c' : Nat, c' < 2 → (c' = 1 ↔ (c = 1 ∨ o / 8 = s / 8)) → J 1 (nI z) (nI c') (nI (i + 1))) : wX_spellOrigin_101 post J (nI s) x2 1 (nI c) (nI i) (nI o) (nI z) f_clockTop f_numberTop f_strict f_side f_rights f_passant f_clock f_number f_lineLen f_outLen f_moveTotal f_movesKnown f_savedSide f_savedRights f_savedPassant f_savedClock f_savedNumber f_spellLen f_at f_end f_writtenMark f_writtenCastling f_writtenPromotion f_writtenTarget f_writtenCapture f_writtenRank f_writtenFile f_writtenKind a_board a_line a_out a_moves a_savedBoard a_spell := by
  unfold wX_spellOrigin_101
  rw [ch_nI_r3 (by omega), ch_nI_r3 (by omega)]
  refine pk_eq c 0 (fun e => pk_eq (o / 8) (s / 8) (fun e2 => nm_r (nI_1 i) (h 1 (by omega) (by omega))) (fun e2 => nm_r (nI_1 i) (h 0 (by omega) (by omega)))) (fun e => nm_r (nI_1 i) (h 1 (by omega) (by omega)))
theorem ch_x_spellOrigin {post : SX → Prop} {B : Nat → Nat} {sd rt ep s t : Nat} {mv : Nat → Int32} {l : List Int32} (hB : ch_BX a_board B) (hP : ch_POS B sd rt ep) (hs : s < 64) (ht : t < 64) (hk : B s % 8 ≠ 1) (ch_hm : ch_CM B sd rt ep mv 32768) (hT : ch_TX a_spell l) (hl : l.length ≤ 1) (h : ∀ o a, ch_ORL B sd rt ep s t o → ch_TX a (l ++ o) → post (f_clockTop, f_numberTop, f_strict, nI sd, nI rt, ch_epI ep, f_clock, f_number, f_lineLen, f_outLen, nI (ch_cn (ch_LC B sd rt ep) 32768), 1, f_savedSide, f_savedRights, f_savedPassant, f_savedClock, f_savedNumber, nI (l ++ o).length, f_at, f_end, f_writtenMark, f_writtenCastling, f_writtenPromotion, f_writtenTarget, f_writtenCapture, f_writtenRank, f_writtenFile, f_writtenKind, a_board, a_line, a_out, mv, a_savedBoard, a)) : wpX_spellOrigin post (f_clockTop, f_numberTop, f_strict, nI sd, nI rt, ch_epI ep, f_clock, f_number, f_lineLen, f_outLen, nI (ch_cn (ch_LC B sd rt ep) 32768), 1, f_savedSide, f_savedRights, f_savedPassant, f_savedClock, f_savedNumber, nI l.length, f_at, f_end, f_writtenMark, f_writtenCastling, f_writtenPromotion, f_writtenTarget, f_writtenCapture, f_writtenRank, f_writtenFile, f_writtenKind, a_board, a_line, a_out, mv, a_savedBoard, a_spell) (nI s) (nI t) := by
  have h512 := ch_LC_512 hP
  have e1 := @ch_OX_e B sd rt ep s t ch_T1 hP hs ht hk
  have e2 := @ch_OX_e B sd rt ep s t (ch_T2 s) hP hs ht hk
  have e3 := @ch_OX_e B sd rt ep s t (ch_T3 s) hP hs ht hk
  have hV : ch_VB B := hP.1
  have hvs := ch_VB_lt hV hs
  refine ⟨ch_cn (ch_LC B sd rt ep) 32768 + 1, ?_⟩
  generalize hN : ch_cn (ch_LC B sd rt ep) 32768 = N at *
  refine ch_fn (σ := Nat × Nat × Nat) (fun n q z => wX_spellOrigin_11 post (nI s) (nI t) f_clockTop f_numberTop f_strict (nI sd) (nI rt) (ch_epI ep) f_clock f_number f_lineLen f_outLen (nI N) 1 f_savedSide f_savedRights f_savedPassant f_savedClock f_savedNumber (nI l.length) f_at f_end f_writtenMark f_writtenCastling f_writtenPromotion f_writtenTarget f_writtenCapture f_writtenRank f_writtenFile f_writtenKind a_board a_line a_out mv a_savedBoard a_spell n (nI q.1) (nI q.2.1) (nI q.2.2) z) (fun i q => q.1 < 2 ∧ q.2.1 < 2 ∧ q.2.2 < 2 ∧ (q.1 = 1 ↔ ch_OX B sd rt ep s t ch_T1 i) ∧ (q.2.1 = 1 ↔ ch_OX B sd rt ep s t (ch_T2 s) i) ∧ (q.2.2 = 1 ↔ ch_OX B sd rt ep s t (ch_T3 s) i)) N ?_ ?_ N 0 (0, 0, 0) (by omega) ⟨by decide, by decide, by decide, ⟨fun w => absurd w (by decide), fun w => absurd w ch_OX_0⟩, ⟨fun w => absurd w (by decide), fun w => absurd w ch_OX_0⟩, ⟨fun w => absurd w (by decide), fun w => absurd w ch_OX_0⟩⟩
  · rintro n ⟨a, b, c⟩ ⟨ha, hb, hc, wa, wb, wc⟩
    dsimp only at ha hb hc wa wb wc ⊢
    rw [e1] at wa
    rw [e2] at wb
    rw [e3] at wc
    refine br_t (Int32.le_refl _) (pk_eq a 0 (fun z1 => ?_) (fun z1 => pk_eq b 0 (fun z2 => ?_) (fun z2 => pk_eq c 0 (fun z3 => ?_) (fun z3 => ?_))))
    · have := h [] a_spell (Or.inl ⟨fun w => by have := wa.mpr w; omega, rfl⟩) (by rw [List.append_nil]; exact hT)
      rw [List.append_nil] at this
      exact this
    · rw [ch_nI_a7 (by omega)]
      exact ch_x_putSpell hT (by omega) (fun a' ha' => h _ a' (Or.inr (Or.inl ⟨wa.mp (by omega), fun w => by have := wb.mpr w; omega, rfl⟩)) ha')
    · rw [ch_nI_r3 (by omega)]
      exact ch_x_putSpell hT (by omega) (fun a' ha' => h _ a' (Or.inr (Or.inr (Or.inl ⟨wa.mp (by omega), wb.mp (by omega), fun w => by have := wc.mpr w; omega, rfl⟩))) ha')
    · exact ch_x_spellSquare hs hT (by omega) (fun a' ha' => h _ a' (Or.inr (Or.inr (Or.inr ⟨wa.mp (by omega), wb.mp (by omega), wc.mp (by omega), rfl⟩))) ha')
  · rintro n i ⟨a, b, c⟩ hi ⟨ha, hb, hc, wa, wb, wc⟩ ih
    dsimp only at ha hb hc wa wb wc ⊢
    obtain ⟨d, hd, hld, hcd⟩ := ch_cn_sur (show i < ch_cn (ch_LC B sd rt ep) 32768 by rw [hN]; exact hi)
    have em : mv (nI i).toNatClampNeg = nI d := by rw [nI_clamp (by omega), ← hcd]; exact ch_hm d hd hld
    have s1 := @ch_OX_s B sd rt ep s t i d ch_T1 hd hld hcd
    have s2 := @ch_OX_s B sd rt ep s t i d (ch_T2 s) hd hld hcd
    have s3 := @ch_OX_s B sd rt ep s t i d (ch_T3 s) hd hld hcd
    have skip : ¬ (d / 8 % 64 = t ∧ d / 512 ≠ s ∧ B (d / 512) = B s) → wX_spellOrigin_11 post (nI s) (nI t) f_clockTop f_numberTop f_strict (nI sd) (nI rt) (ch_epI ep) f_clock f_number f_lineLen f_outLen (nI N) 1 f_savedSide f_savedRights f_savedPassant f_savedClock f_savedNumber (nI l.length) f_at f_end f_writtenMark f_writtenCastling f_writtenPromotion f_writtenTarget f_writtenCapture f_writtenRank f_writtenFile f_writtenKind a_board a_line a_out mv a_savedBoard a_spell n (nI a) (nI b) (nI c) (nI (i + 1)) := by
      intro w
      refine ih (a, b, c) ⟨ha, hb, hc, ?_, ?_, ?_⟩
      · rw [s1, wa]; exact ⟨Or.inl, fun z => z.elim id (fun y => absurd y.1 w)⟩
      · rw [s2, wb]; exact ⟨Or.inl, fun z => z.elim id (fun y => absurd y.1 w)⟩
      · rw [s3, wc]; exact ⟨Or.inl, fun z => z.elim id (fun y => absurd y.1 w)⟩
    have ho : d / 512 < 64 := by omega
    have hvo := ch_VB_lt hV ho
    refine br_f (nI_ge hi (by omega)) ⟨vp_in_nI (by omega) (by omega), ?_⟩
    rw [em]
    refine nm_r (e' := nI (d / 512)) (by rw [ch_nI_r9 (by omega), ch_nI_a63 (by omega)]; congr 1; omega) ⟨vp_in_nI (by omega) (by omega), nm_r (e' := nI (d / 8 % 64)) (by rw [ch_nI_r3 (by omega), ch_nI_a63 (by omega)]) ?_⟩
    refine pk_eq (d / 8 % 64) t (fun g1 => pk_eq (d / 512) s (fun g2 => nm_r (nI_1 i) (skip (fun w => w.2.1 g2))) (fun g2 => ⟨vp_in_nI ho (by omega), vp_in_nI hs (by omega), ?_⟩)) (fun g1 => nm_r (nI_1 i) (skip (fun w => g1 w.1)))
    rw [ch_bx hB ho, ch_bx hB hs, ch_nI_a7 (s := d / 512) (by omega), ch_nI_a7 (s := s) (by omega)]
    refine pk_eq (B (d / 512)) (B s) (fun g3 => ?_) (fun g3 => nm_r (nI_1 i) (skip (fun w => g3 w.2.2)))
    have hM : d / 8 % 64 = t ∧ d / 512 ≠ s ∧ B (d / 512) = B s := ⟨g1, g2, g3⟩
    have fin : ∀ b' : Nat, b' < 2 → (b' = 1 ↔ (b = 1 ∨ d / 512 % 8 = s % 8)) → wX_spellOrigin_101 post (wX_spellOrigin_11 post (nI s) (nI t) f_clockTop f_numberTop f_strict (nI sd) (nI rt) (ch_epI ep) f_clock f_number f_lineLen f_outLen (nI N) 1 f_savedSide f_savedRights f_savedPassant f_savedClock f_savedNumber (nI l.length) f_at f_end f_writtenMark f_writtenCastling f_writtenPromotion f_writtenTarget f_writtenCapture f_writtenRank f_writtenFile f_writtenKind a_board a_line a_out mv a_savedBoard a_spell n) (nI s) (nI t) 1 (nI c) (nI i) (nI (d / 512)) (nI b') f_clockTop f_numberTop f_strict (nI sd) (nI rt) (ch_epI ep) f_clock f_number f_lineLen f_outLen (nI N) 1 f_savedSide f_savedRights f_savedPassant f_savedClock f_savedNumber (nI l.length) f_at f_end f_writtenMark f_writtenCastling f_writtenPromotion f_writtenTarget f_writtenCapture f_writtenRank f_writtenFile f_writtenKind a_board a_line a_out mv a_savedBoard a_spell := by
      intro b' hb' wb'
      refine ch_x_so101 (x1 := 0) hs ho hc (fun c' hc' wc' => ih (1, b', c') ⟨show 1 < 2 by omega, hb', hc', ?_, ?_, ?_⟩)
      · rw [s1]; exact ⟨fun _ => Or.inr ⟨hM, trivial⟩, fun _ => rfl⟩
      · rw [s2, wb', wb]; exact ⟨fun z => z.elim Or.inl (fun y => Or.inr ⟨hM, y⟩), fun z => z.elim Or.inl (fun y => Or.inr y.2)⟩
      · rw [s3, wc', wc]; exact ⟨fun z => z.elim Or.inl (fun y => Or.inr ⟨hM, y⟩), fun z => z.elim Or.inl (fun y => Or.inr y.2)⟩
    refine pk_eq b 0 (fun g4 => pk_eq (d / 512 % 8) (s % 8) (fun g5 => fin 1 (by omega) (by omega)) (fun g5 => fin 0 (by omega) (by omega))) (fun g4 => fin 1 (by omega) (by omega))
theorem ch_x_spellPiece {post : SX → Prop} {B : Nat → Nat} {sd rt ep s t p x : Nat} {mv : Nat → Int32} (hB : ch_BX a_board B) (hP : ch_POS B sd rt ep) (hs : s < 64) (ht : t < 64) (hk : B s % 8 ≠ 1) (ch_hm : ch_CM B sd rt ep mv 32768) (hT : ch_TP B sd rt ep s t p x) (h : ∀ o a, ch_ORL B sd rt ep s t o → ch_TX a ([nI (ch_lt_ (B s % 8))] ++ o ++ ch_capX x (B t) ++ ch_sqL t) → post (f_clockTop, f_numberTop, f_strict, nI sd, nI rt, ch_epI ep, f_clock, f_number, f_lineLen, f_outLen, nI (ch_cn (ch_LC B sd rt ep) 32768), 1, f_savedSide, f_savedRights, f_savedPassant, f_savedClock, f_savedNumber, nI ([nI (ch_lt_ (B s % 8))] ++ o ++ ch_capX x (B t) ++ ch_sqL t).length, f_at, f_end, f_writtenMark, f_writtenCastling, f_writtenPromotion, f_writtenTarget, f_writtenCapture, f_writtenRank, f_writtenFile, f_writtenKind, a_board, a_line, a_out, mv, a_savedBoard, a)) : wpX_spellPiece post (f_clockTop, f_numberTop, f_strict, nI sd, nI rt, ch_epI ep, f_clock, f_number, f_lineLen, f_outLen, nI (ch_cn (ch_LC B sd rt ep) 32768), 1, f_savedSide, f_savedRights, f_savedPassant, f_savedClock, f_savedNumber, 0, f_at, f_end, f_writtenMark, f_writtenCastling, f_writtenPromotion, f_writtenTarget, f_writtenCapture, f_writtenRank, f_writtenFile, f_writtenKind, a_board, a_line, a_out, mv, a_savedBoard, a_spell) (nI s) (nI t) := by
  have hP' := hP
  obtain ⟨hV, hsd, hrt, hep, _, _, hpw, hR, hE, hA, hcn⟩ := hP
  have hvs := ch_VB_lt hV hs
  unfold wpX_spellPiece
  refine ⟨vp_in_nI hs (by omega), ?_⟩
  rw [ch_bx hB hs, ch_nI_a7 (by omega)]
  refine ch_x_letterOf (by omega) ?_
  refine ch_x_putSpell (l := []) (ch_TX_0 _) (by decide) (fun a1 h1 => ?_)
  refine ch_x_spellOrigin (l := [nI (ch_lt_ (B s % 8))]) hB hP' hs ht hk ch_hm h1 (Nat.le_refl 1) (fun o a2 ho h2 => ?_)
  have lo2 := ch_ORL_l ho
  have l3 : ([nI (ch_lt_ (B s % 8))] ++ o).length = o.length + 1 := by rw [List.length_append, List.length_singleton]; omega
  refine ch_x_isCapture hB hV hE hs ht hsd hep hT (fun c => br_f (by decide) ?_) (fun c => br_t rfl ?_)
  · refine ch_x_putSpell h2 (by omega) (fun a3 h3 => ?_)
    unfold wX_spellPiece_40
    refine ch_x_spellSquare ht h3 (by rw [ch_len_p]; omega) (fun a4 h4 => ?_)
    have hx : ch_capX x (B t) = [120] := by unfold ch_capX; rw [if_pos c]
    have := h o a4 ho
    rw [hx] at this
    exact this h4
  · unfold wX_spellPiece_40
    refine ch_x_spellSquare ht h2 (by omega) (fun a4 h4 => ?_)
    have hx : ch_capX x (B t) = [] := by unfold ch_capX; rw [if_neg c]
    have := h o a4 ho
    rw [hx, List.append_nil] at this
    exact this h4

theorem ch_x_spell78 {post : SX → Prop} {B : Nat → Nat} {sd rt ep s t p x ck ct nb nt : Nat} {mv : Nat → Int32} {b : List Int32} (hB : ch_BX a_board B) (hP : ch_POS B sd rt ep) (hs : s < 64) (ht : t < 64) (hp : p < 8) (hck : ck < 100000) (hct : ct < 100000) (hnb : nb < 100000) (hnt : nt < 100000) (hT : ch_TP B sd rt ep s t p x) (hq : ∀ q, ch_K1 (ch_AF B sd s t p x) sd q → ¬ ch_AT (ch_AF B sd s t p x) q (1 - sd)) (hb : ch_BDY B sd rt ep s t p x b) (hX : ch_TX a_spell b) (h : ∀ l a s1 s2 s3 s4 s5 sb, ch_SPL B sd rt ep s t p x l → ch_TX a l → post (nI ct, nI nt, f_strict, nI sd, nI rt, ch_epI ep, nI ck, nI nb, f_lineLen, f_outLen, nI (ch_cn (ch_LC B sd rt ep) 32768), 1, s1, s2, s3, s4, s5, nI l.length, f_at, f_end, f_writtenMark, f_writtenCastling, f_writtenPromotion, f_writtenTarget, f_writtenCapture, f_writtenRank, f_writtenFile, f_writtenKind, a_board, a_line, a_out, mv, sb, a)) : wX_spellMove_78 post (nI (512 * s + 8 * t + p)) (nI ct) (nI nt) f_strict (nI sd) (nI rt) (ch_epI ep) (nI ck) (nI nb) f_lineLen f_outLen (nI (ch_cn (ch_LC B sd rt ep) 32768)) 1 f_savedSide f_savedRights f_savedPassant f_savedClock f_savedNumber (nI b.length) f_at f_end f_writtenMark f_writtenCastling f_writtenPromotion f_writtenTarget f_writtenCapture f_writtenRank f_writtenFile f_writtenKind a_board a_line a_out mv a_savedBoard a_spell := by
  have lb6 := ch_BDY_l hb
  unfold wX_spellMove_78
  refine ch_x_markOf hB hP hs ht hp hck hct hnb hnt hT hq (fun r s1 s2 s3 s4 s5 sb hr => br_c (fun c => ?_) (fun c => ?_))
  · have e : ch_mkL r = [] := by unfold ch_mkL; rw [if_pos c]
    exact h b a_spell s1 s2 s3 s4 s5 sb ⟨b, r, hb, hr, by rw [e, List.append_nil]⟩ hX
  · have e : ch_mkL r = [r] := by unfold ch_mkL; rw [if_neg c]
    exact ch_x_putSpell hX (by omega) (fun a ha => h (b ++ [r]) a s1 s2 s3 s4 s5 sb ⟨b, r, hb, hr, by rw [e]⟩ ha)
theorem ch_x_spellMove {post : SX → Prop} {B : Nat → Nat} {sd rt ep s t p x ck ct nb nt : Nat} {mv : Nat → Int32} (hB : ch_BX a_board B) (hP : ch_POS B sd rt ep) (hs : s < 64) (ht : t < 64) (hp : p < 8) (hck : ck < 100000) (hct : ct < 100000) (hnb : nb < 100000) (hnt : nt < 100000) (ch_hm : ch_CM B sd rt ep mv 32768) (hT : ch_TP B sd rt ep s t p x) (hq : ∀ q, ch_K1 (ch_AF B sd s t p x) sd q → ¬ ch_AT (ch_AF B sd s t p x) q (1 - sd)) (h : ∀ l a s1 s2 s3 s4 s5 sb, ch_SPL B sd rt ep s t p x l → ch_TX a l → post (nI ct, nI nt, f_strict, nI sd, nI rt, ch_epI ep, nI ck, nI nb, f_lineLen, f_outLen, nI (ch_cn (ch_LC B sd rt ep) 32768), 1, s1, s2, s3, s4, s5, nI l.length, f_at, f_end, f_writtenMark, f_writtenCastling, f_writtenPromotion, f_writtenTarget, f_writtenCapture, f_writtenRank, f_writtenFile, f_writtenKind, a_board, a_line, a_out, mv, sb, a)) : wpX_spellMove post (nI ct, nI nt, f_strict, nI sd, nI rt, ch_epI ep, nI ck, nI nb, f_lineLen, f_outLen, nI (ch_cn (ch_LC B sd rt ep) 32768), 1, f_savedSide, f_savedRights, f_savedPassant, f_savedClock, f_savedNumber, f_spellLen, f_at, f_end, f_writtenMark, f_writtenCastling, f_writtenPromotion, f_writtenTarget, f_writtenCapture, f_writtenRank, f_writtenFile, f_writtenKind, a_board, a_line, a_out, mv, a_savedBoard, a_spell) (nI (512 * s + 8 * t + p)) := by
  have hP' := hP
  obtain ⟨hV, hsd, hrt, hep, _, _, hpw, hR, hE, hA, hcn⟩ := hP
  have hvs := ch_VB_lt hV hs
  have g := ch_TP_g hE hs ht hsd hT
  have hh := ch_hm_c hsd
  unfold wpX_spellMove
  refine nm_r (e' := nI s) (by rw [ch_nI_r9 (by omega), ch_nI_a63 (by omega)]; congr 1; omega) (nm_r (e' := nI t) (by rw [ch_nI_r3 (by omega), ch_nI_a63 (by omega)]; congr 1; omega) ?_)
  rw [ch_nI_a7 (s := 512 * s + 8 * t + p) (by omega), show (512 * s + 8 * t + p) % 8 = p from by omega]
  refine ch_x_cas hB hV hs ht hsd hE hT (fun cs hcs => ?_)
  rcases hcs with ⟨rfl, n6, n7⟩ | ⟨rfl, c67⟩
  · refine br_t rfl ⟨vp_in_nI hs (by omega), ?_⟩
    refine pk_eq (B s % 8) 1 (fun e => ?_) (fun e => ?_) (by rw [ch_bx hB hs, ch_nI_a7 (by omega)]) rfl
    · refine ch_x_spellPawn hB hV hE hs ht hp hsd hep hT (fun a ha => ?_)
      exact ch_x_spell78 hB hP' hs ht hp hck hct hnb hnt hT hq (Or.inr (Or.inr (Or.inl ⟨n6, n7, e, rfl⟩))) ha h
    · refine ch_x_spellPiece hB hP' hs ht e ch_hm hT (fun o a ho ha => ?_)
      exact ch_x_spell78 hB hP' hs ht hp hck hct hnb hnt hT hq (Or.inr (Or.inr (Or.inr ⟨n6, n7, e, o, ho, rfl⟩))) ha h
  · refine br_f (by decide) ?_
    have fin : ∀ ks : Nat, ks < 2 → ch_BDY B sd rt ep s t p x (if ks = 0 then [79, 45, 79, 45, 79] else [79, 45, 79]) → wX_spellMove_40 post (nI (512 * s + 8 * t + p)) (nI ks) (nI ct) (nI nt) f_strict (nI sd) (nI rt) (ch_epI ep) (nI ck) (nI nb) f_lineLen f_outLen (nI (ch_cn (ch_LC B sd rt ep) 32768)) 1 f_savedSide f_savedRights f_savedPassant f_savedClock f_savedNumber 0 f_at f_end f_writtenMark f_writtenCastling f_writtenPromotion f_writtenTarget f_writtenCapture f_writtenRank f_writtenFile f_writtenKind a_board a_line a_out mv a_savedBoard a_spell := by
      intro ks hks hb
      unfold wX_spellMove_40
      refine ch_x_spellCastling hks (fun a ha => ?_)
      exact ch_x_spell78 hB hP' hs ht hp hck hct hnb hnt hT hq hb ha h
    by_cases e6 : x = 6
    · have z := g.2.2.2.2.2.1 e6
      exact br_f (nI_ge (by omega) (by omega)) (fin 1 (by omega) (Or.inl ⟨e6, rfl⟩))
    · have e7 : x = 7 := by clear g; omega
      have z := g.2.2.2.2.2.2.1 e7
      exact br_t (nI_le (by omega) (by omega)) (fin 0 (by omega) (Or.inr (Or.inl ⟨e7, rfl⟩)))
end
end
section
/-! the reference's text of a move -/
/-- the same question as the reference asks it -/
def ch_OY (B : Nat → Nat) (sd rt ep s t : Nat) (F : Nat → Prop) (i : Nat) : Prop := ∃ o, o < i ∧ o ≠ s ∧ B o = B s ∧ ch_LC B sd rt ep (512 * o + 8 * t) ∧ F o
theorem ch_OY_0 {B : Nat → Nat} {sd rt ep s t : Nat} {F : Nat → Prop} : ¬ ch_OY B sd rt ep s t F 0 := by
  rintro ⟨d, h, _⟩; omega
theorem ch_OY_s {B : Nat → Nat} {sd rt ep s t i : Nat} {F : Nat → Prop} : ch_OY B sd rt ep s t F (i + 1) ↔ (ch_OY B sd rt ep s t F i ∨ ((i ≠ s ∧ B i = B s ∧ ch_LC B sd rt ep (512 * i + 8 * t)) ∧ F i)) := by
  constructor
  · rintro ⟨o, ho, h1, h2, h3, hF⟩
    by_cases z : o < i
    · exact Or.inl ⟨o, z, h1, h2, h3, hF⟩
    · obtain rfl : o = i := by omega
      exact Or.inr ⟨⟨h1, h2, h3⟩, hF⟩
  · rintro (⟨o, ho, h1, h2, h3, hF⟩ | ⟨⟨h1, h2, h3⟩, hF⟩)
    · exact ⟨o, by omega, h1, h2, h3, hF⟩
    · exact ⟨i, by omega, h1, h2, h3, hF⟩
section
variable {f_side f_rights f_ep f_clock f_number f_lineLen f_outLen f_clockTop f_numberTop f_strict f_textLen f_newSide f_newRights f_newEp f_newClock f_newNumber : Int32} {a_men a_line a_out a_text a_cut : Nat → Int32}

theorem ch_y_putText {post : SY → Prop} {l : List Int32} {c : Int32} (hT : ch_TX a_text l) (hl : l.length < 16) (h : ∀ a, ch_TX a (l ++ [c]) → post (f_side, f_rights, f_ep, f_clock, f_number, f_lineLen, f_outLen, f_clockTop, f_numberTop, f_strict, nI (l ++ [c]).length, f_newSide, f_newRights, f_newEp, f_newClock, f_newNumber, a_men, a_line, a_out, a, a_cut)) : wpY_putText post (f_side, f_rights, f_ep, f_clock, f_number, f_lineLen, f_outLen, f_clockTop, f_numberTop, f_strict, nI l.length, f_newSide, f_newRights, f_newEp, f_newClock, f_newNumber, a_men, a_line, a_out, a_text, a_cut) c := by
  refine pk_le 16 l.length (fun e => by omega) (fun _ => ?_)
  rw [nI_clamp (by omega)]
  have := h _ (ch_TX_p hT)
  rw [ch_len_p] at this
  exact ⟨vp_in_nI hl (by omega), nm_e (nm_r (nI_1 _) this)⟩
theorem ch_y_comp391 {post : SY → Prop} {B : Nat → Nat} {sd rt ep s t p x ck ct nb nt : Nat} {b : List Int32} (hB : ch_BY a_men 0 B) (hP : ch_POS B sd rt ep) (hs : s < 64) (ht : t < 64) (hp : p < 8) (hck : ck < 100000) (hct : ct < 100000) (hnb : nb < 100000) (hnt : nt < 100000) (hT : ch_TP B sd rt ep s t p x) (hq : ∀ q, ch_K1 (ch_AF B sd s t p x) sd q → ¬ ch_AT (ch_AF B sd s t p x) q (1 - sd)) (hb : ch_BDY B sd rt ep s t p x b) (hX : ch_TX a_text b) (h : ∀ l a m, ch_BY m 0 B → ch_SPL B sd rt ep s t p x l → ch_TX a l → post (nI sd, nI rt, ch_epI ep, nI ck, nI nb, f_lineLen, f_outLen, nI ct, nI nt, f_strict, nI l.length, f_newSide, f_newRights, f_newEp, f_newClock, f_newNumber, m, a_line, a_out, a, a_cut)) : wY_compose_391 post (nI (512 * s + 8 * t + p)) (nI sd) (nI rt) (ch_epI ep) (nI ck) (nI nb) f_lineLen f_outLen (nI ct) (nI nt) f_strict (nI b.length) f_newSide f_newRights f_newEp f_newClock f_newNumber a_men a_line a_out a_text a_cut := by
  have lb6 := ch_BDY_l hb
  unfold wY_compose_391
  refine ch_y_markOf hB hP hs ht hp hck hct hnb hnt hT hq (fun r m ch_hm hr => br_c (fun c => ?_) (fun c => ?_))
  · have e : ch_mkL r = [] := by unfold ch_mkL; rw [if_pos c]
    exact h b a_text m ch_hm ⟨b, r, hb, hr, by rw [e, List.append_nil]⟩ hX
  · have e : ch_mkL r = [r] := by unfold ch_mkL; rw [if_neg c]
    exact ch_y_putText hX (by omega) (fun a ha => h (b ++ [r]) a m ch_hm ⟨b, r, hb, hr, by rw [e]⟩ ha)
theorem ch_y_comp65 {post : SY → Prop} {B : Nat → Nat} {sd rt ep s t p x ck ct nb nt : Nat} (hB : ch_BY a_men 0 B) (hP : ch_POS B sd rt ep) (hs : s < 64) (ht : t < 64) (hp : p < 8) (hck : ck < 100000) (hct : ct < 100000) (hnb : nb < 100000) (hnt : nt < 100000) (hT : ch_TP B sd rt ep s t p x) (hq : ∀ q, ch_K1 (ch_AF B sd s t p x) sd q → ¬ ch_AT (ch_AF B sd s t p x) q (1 - sd)) (hx : x = 6 ∨ x = 7) (h : ∀ l a m, ch_BY m 0 B → ch_SPL B sd rt ep s t p x l → ch_TX a l → post (nI sd, nI rt, ch_epI ep, nI ck, nI nb, f_lineLen, f_outLen, nI ct, nI nt, f_strict, nI l.length, f_newSide, f_newRights, f_newEp, f_newClock, f_newNumber, m, a_line, a_out, a, a_cut)) : wY_compose_65 post (nI (512 * s + 8 * t + p)) (nI x) (nI sd) (nI rt) (ch_epI ep) (nI ck) (nI nb) f_lineLen f_outLen (nI ct) (nI nt) f_strict 0 f_newSide f_newRights f_newEp f_newClock f_newNumber a_men a_line a_out a_text a_cut := by
  unfold wY_compose_65
  refine ch_y_putText (l := []) (ch_TX_0 _) (by decide) (fun a1 h1 => ?_)
  refine ch_y_putText (l := [79]) h1 (by show 1 < 16; omega) (fun a2 h2 => ?_)
  refine ch_y_putText (l := [79, 45]) h2 (by show 2 < 16; omega) (fun a3 h3 => ?_)
  refine pk_eq x 7 (fun e => ?_) (fun e => ?_)
  · refine ch_y_putText (l := [79, 45, 79]) h3 (by show 3 < 16; omega) (fun a4 h4 => ?_)
    refine ch_y_putText (l := [79, 45, 79, 45]) h4 (by show 4 < 16; omega) (fun a5 h5 => ?_)
    exact ch_y_comp391 (b := [79, 45, 79, 45, 79]) hB hP hs ht hp hck hct hnb hnt hT hq (Or.inr (Or.inl ⟨e, rfl⟩)) h5 h
  · exact ch_y_comp391 (b := [79, 45, 79]) hB hP hs ht hp hck hct hnb hnt hT hq (Or.inl ⟨by omega, rfl⟩) h3 h
theorem ch_y_comp370 {post : SY → Prop} {B : Nat → Nat} {sd rt ep s t p x ck ct nb nt : Nat} {l : List Int32} (hB : ch_BY a_men 0 B) (hP : ch_POS B sd rt ep) (hs : s < 64) (ht : t < 64) (hp : p < 8) (hck : ck < 100000) (hct : ct < 100000) (hnb : nb < 100000) (hnt : nt < 100000) (hT : ch_TP B sd rt ep s t p x) (hq : ∀ q, ch_K1 (ch_AF B sd s t p x) sd q → ¬ ch_AT (ch_AF B sd s t p x) q (1 - sd)) (hb : ch_BDY B sd rt ep s t p x (l ++ ch_sqL t)) (hX : ch_TX a_text l) (h : ∀ l a m, ch_BY m 0 B → ch_SPL B sd rt ep s t p x l → ch_TX a l → post (nI sd, nI rt, ch_epI ep, nI ck, nI nb, f_lineLen, f_outLen, nI ct, nI nt, f_strict, nI l.length, f_newSide, f_newRights, f_newEp, f_newClock, f_newNumber, m, a_line, a_out, a, a_cut)) : wY_compose_370 post (nI (512 * s + 8 * t + p)) (nI t) (nI sd) (nI rt) (ch_epI ep) (nI ck) (nI nb) f_lineLen f_outLen (nI ct) (nI nt) f_strict (nI l.length) f_newSide f_newRights f_newEp f_newClock f_newNumber a_men a_line a_out a_text a_cut := by
  have lb6 := ch_BDY_l hb
  have hs2 : (l ++ ch_sqL t).length = l.length + 2 := by rw [List.length_append]; rfl
  unfold wY_compose_370
  rw [ch_nI_a7 (by omega), ch_nI_r3 (by omega)]
  refine ch_y_putText hX (by omega) (fun a1 h1 => ?_)
  refine ch_y_putText h1 (by rw [ch_len_p]; omega) (fun a2 h2 => ?_)
  rw [show (l ++ [97 + nI (t % 8)] ++ [49 + nI (t / 8)]) = l ++ ch_sqL t from by rw [List.append_assoc]; rfl] at h2 ⊢
  exact ch_y_comp391 hB hP hs ht hp hck hct hnb hnt hT hq hb h2 h
theorem ch_y_comp359 {post : SY → Prop} {B : Nat → Nat} {sd rt ep s t p x ck ct nb nt cf : Nat} {l : List Int32} (hB : ch_BY a_men 0 B) (hP : ch_POS B sd rt ep) (hs : s < 64) (ht : t < 64) (hp : p < 8) (hck : ck < 100000) (hct : ct < 100000) (hnb : nb < 100000) (hnt : nt < 100000) (hT : ch_TP B sd rt ep s t p x) (hq : ∀ q, ch_K1 (ch_AF B sd s t p x) sd q → ¬ ch_AT (ch_AF B sd s t p x) q (1 - sd)) (hcf : cf < 2) (hcf' : cf = 1 ↔ (x = 5 ∨ B t ≠ 0)) (hb : ch_BDY B sd rt ep s t p x (l ++ ch_capX x (B t) ++ ch_sqL t)) (hX : ch_TX a_text l) (h : ∀ l a m, ch_BY m 0 B → ch_SPL B sd rt ep s t p x l → ch_TX a l → post (nI sd, nI rt, ch_epI ep, nI ck, nI nb, f_lineLen, f_outLen, nI ct, nI nt, f_strict, nI l.length, f_newSide, f_newRights, f_newEp, f_newClock, f_newNumber, m, a_line, a_out, a, a_cut)) : wY_compose_359 post (nI (512 * s + 8 * t + p)) (nI t) (nI cf) (nI sd) (nI rt) (ch_epI ep) (nI ck) (nI nb) f_lineLen f_outLen (nI ct) (nI nt) f_strict (nI l.length) f_newSide f_newRights f_newEp f_newClock f_newNumber a_men a_line a_out a_text a_cut := by
  have lb6 := ch_BDY_l hb
  rw [List.length_append, List.length_append] at lb6
  refine pk_eq cf 0 (fun e => ?_) (fun e => ?_)
  · have hx : ch_capX x (B t) = [] := by unfold ch_capX; rw [if_neg (fun w => by have := hcf'.mpr w; omega)]
    rw [hx, List.append_nil] at hb
    exact ch_y_comp370 hB hP hs ht hp hck hct hnb hnt hT hq hb hX h
  · have hx : ch_capX x (B t) = [120] := by unfold ch_capX; rw [if_pos (hcf'.mp (by omega))]
    rw [hx] at hb
    exact ch_y_putText hX (by omega) (fun a ha => ch_y_comp370 hB hP hs ht hp hck hct hnb hnt hT hq hb ha h)
theorem ch_y_comp133 {post : SY → Prop} {B : Nat → Nat} {sd rt ep s t p x ck ct nb nt : Nat} {l : List Int32} (hB : ch_BY a_men 0 B) (hP : ch_POS B sd rt ep) (hs : s < 64) (ht : t < 64) (hp : p < 8) (hck : ck < 100000) (hct : ct < 100000) (hnb : nb < 100000) (hnt : nt < 100000) (hT : ch_TP B sd rt ep s t p x) (hq : ∀ q, ch_K1 (ch_AF B sd s t p x) sd q → ¬ ch_AT (ch_AF B sd s t p x) q (1 - sd)) (hb : ch_BDY B sd rt ep s t p x (l ++ ch_sqL t ++ ch_proL p)) (hX : ch_TX a_text l) (h : ∀ l a m, ch_BY m 0 B → ch_SPL B sd rt ep s t p x l → ch_TX a l → post (nI sd, nI rt, ch_epI ep, nI ck, nI nb, f_lineLen, f_outLen, nI ct, nI nt, f_strict, nI l.length, f_newSide, f_newRights, f_newEp, f_newClock, f_newNumber, m, a_line, a_out, a, a_cut)) : wY_compose_133 post (nI (512 * s + 8 * t + p)) (nI t) (nI p) (nI sd) (nI rt) (ch_epI ep) (nI ck) (nI nb) f_lineLen f_outLen (nI ct) (nI nt) f_strict (nI l.length) f_newSide f_newRights f_newEp f_newClock f_newNumber a_men a_line a_out a_text a_cut := by
  have lb6 := ch_BDY_l hb
  rw [List.length_append, List.length_append] at lb6
  have hs2 : (l ++ ch_sqL t).length = l.length + 2 := by rw [List.length_append]; rfl
  unfold wY_compose_133
  rw [ch_nI_a7 (by omega), ch_nI_r3 (by omega)]
  refine ch_y_putText hX (by omega) (fun a1 h1 => ?_)
  refine ch_y_putText h1 (by rw [ch_len_p]; omega) (fun a2 h2 => ?_)
  rw [show (l ++ [97 + nI (t % 8)] ++ [49 + nI (t / 8)]) = l ++ ch_sqL t from by rw [List.append_assoc]; rfl] at h2 ⊢
  refine pk_eq p 0 (fun e => ?_) (fun e => ch_y_kindLetter hp ?_)
  · have hx : ch_proL p = [] := by unfold ch_proL; rw [if_pos e]
    rw [hx, List.append_nil] at hb
    exact ch_y_comp391 hB hP hs ht hp hck hct hnb hnt hT hq hb h2 h
  · have hx : ch_proL p = [61, nI (ch_lt_ p)] := by unfold ch_proL; rw [if_neg e]
    rw [hx] at hb
    refine ch_y_putText h2 (by omega) (fun a3 h3 => ?_)
    refine ch_y_putText h3 (by rw [ch_len_p]; omega) (fun a4 h4 => ?_)
    rw [show (l ++ ch_sqL t ++ [61] ++ [nI (ch_lt_ p)]) = l ++ ch_sqL t ++ [61, nI (ch_lt_ p)] from by rw [List.append_assoc (l ++ ch_sqL t)]; rfl] at h4 ⊢
    exact ch_y_comp391 hB hP hs ht hp hck hct hnb hnt hT hq hb h4 h
theorem ch_y_comp208 {post : SY → Prop} {B : Nat → Nat} {sd rt ep s t p x ck ct nb nt cf : Nat} (hB : ch_BY a_men 0 B) (hP : ch_POS B sd rt ep) (hs : s < 64) (ht : t < 64) (hp : p < 8) (hck : ck < 100000) (hct : ct < 100000) (hnb : nb < 100000) (hnt : nt < 100000) (hT : ch_TP B sd rt ep s t p x) (hq : ∀ q, ch_K1 (ch_AF B sd s t p x) sd q → ¬ ch_AT (ch_AF B sd s t p x) q (1 - sd)) (n6 : x ≠ 6) (n7 : x ≠ 7) (hk : B s % 8 ≠ 1) (hcf : cf < 2) (hcf' : cf = 1 ↔ (x = 5 ∨ B t ≠ 0)) (hX : ch_TX a_text [nI (ch_lt_ (B s % 8))]) (h : ∀ l a m, ch_BY m 0 B → ch_SPL B sd rt ep s t p x l → ch_TX a l → post (nI sd, nI rt, ch_epI ep, nI ck, nI nb, f_lineLen, f_outLen, nI ct, nI nt, f_strict, nI l.length, f_newSide, f_newRights, f_newEp, f_newClock, f_newNumber, m, a_line, a_out, a, a_cut)) : ∃ n, wY_compose_208 post (nI (512 * s + 8 * t + p)) (nI s) (nI t) (nI cf) n 0 0 0 0 (nI sd) (nI rt) (ch_epI ep) (nI ck) (nI nb) f_lineLen f_outLen (nI ct) (nI nt) f_strict 1 f_newSide f_newRights f_newEp f_newClock f_newNumber a_men a_line a_out a_text a_cut := by
  have hV : ch_VB B := hP.1
  have hvs := ch_VB_lt hV hs
  refine ⟨65, ?_⟩
  refine ch_fn (σ := (Nat → Int32) × Nat × Nat × Nat) (fun n q z => wY_compose_208 post (nI (512 * s + 8 * t + p)) (nI s) (nI t) (nI cf) n (nI q.2.1) (nI q.2.2.1) (nI q.2.2.2) z (nI sd) (nI rt) (ch_epI ep) (nI ck) (nI nb) f_lineLen f_outLen (nI ct) (nI nt) f_strict 1 f_newSide f_newRights f_newEp f_newClock f_newNumber q.1 a_line a_out a_text a_cut) (fun i q => ch_BY q.1 0 B ∧ q.2.1 < 2 ∧ q.2.2.1 < 2 ∧ q.2.2.2 < 2 ∧ (q.2.1 = 1 ↔ ch_OY B sd rt ep s t ch_T1 i) ∧ (q.2.2.1 = 1 ↔ ch_OY B sd rt ep s t (ch_T2 s) i) ∧ (q.2.2.2 = 1 ↔ ch_OY B sd rt ep s t (ch_T3 s) i)) 64 ?_ ?_ 64 0 (a_men, 0, 0, 0) rfl ⟨hB, show 0 < 2 by omega, show 0 < 2 by omega, show 0 < 2 by omega, ⟨fun w => absurd w (show ¬ 0 = 1 by omega), fun w => absurd w ch_OY_0⟩, ⟨fun w => absurd w (show ¬ 0 = 1 by omega), fun w => absurd w ch_OY_0⟩, ⟨fun w => absurd w (show ¬ 0 = 1 by omega), fun w => absurd w ch_OY_0⟩⟩
  · rintro n ⟨m, a, b, c⟩ ⟨ch_hm, ha, hb, hc, wa, wb, wc⟩
    dsimp only at ch_hm ha hb hc wa wb wc ⊢
    have fin : ∀ (o : List Int32) (at' : Nat → Int32), ch_ORL B sd rt ep s t o → ch_TX at' ([nI (ch_lt_ (B s % 8))] ++ o) → wY_compose_359 post (nI (512 * s + 8 * t + p)) (nI t) (nI cf) (nI sd) (nI rt) (ch_epI ep) (nI ck) (nI nb) f_lineLen f_outLen (nI ct) (nI nt) f_strict (nI ([nI (ch_lt_ (B s % 8))] ++ o).length) f_newSide f_newRights f_newEp f_newClock f_newNumber m a_line a_out at' a_cut := by
      intro o at' ho hat
      exact ch_y_comp359 ch_hm hP hs ht hp hck hct hnb hnt hT hq hcf hcf' (Or.inr (Or.inr (Or.inr ⟨n6, n7, hk, o, ho, rfl⟩))) hat h
    refine br_t (by decide) (pk_eq a 0 (fun z1 => ?_) (fun z1 => pk_eq b 0 (fun z2 => ?_) (fun z2 => pk_eq c 0 (fun z3 => ?_) (fun z3 => ?_))))
    · exact fin [] a_text (Or.inl ⟨fun w => by have := wa.mpr w; omega, rfl⟩) hX
    · rw [ch_nI_a7 (by omega)]
      exact ch_y_putText (l := [nI (ch_lt_ (B s % 8))]) hX (by show 1 < 16; omega) (fun a' ha' => fin _ a' (Or.inr (Or.inl ⟨wa.mp (by omega), fun w => by have := wb.mpr w; omega, rfl⟩)) ha')
    · rw [ch_nI_r3 (by omega)]
      exact ch_y_putText (l := [nI (ch_lt_ (B s % 8))]) hX (by show 1 < 16; omega) (fun a' ha' => fin _ a' (Or.inr (Or.inr (Or.inl ⟨wa.mp (by omega), wb.mp (by omega), fun w => by have := wc.mpr w; omega, rfl⟩))) ha')
    · rw [ch_nI_a7 (by omega), ch_nI_r3 (by omega)]
      refine ch_y_putText (l := [nI (ch_lt_ (B s % 8))]) hX (by show 1 < 16; omega) (fun a1 h1 => ?_)
      exact ch_y_putText (l := [nI (ch_lt_ (B s % 8)), 97 + nI (s % 8)]) h1 (by show 2 < 16; omega) (fun a' ha' => fin [97 + nI (s % 8), 49 + nI (s / 8)] a' (Or.inr (Or.inr (Or.inr ⟨wa.mp (by omega), wb.mp (by omega), wc.mp (by omega), rfl⟩))) ha')
  · rintro n i ⟨m, a, b, c⟩ hi ⟨ch_hm, ha, hb, hc, wa, wb, wc⟩ ih
    dsimp only at ch_hm ha hb hc wa wb wc ⊢
    have hvi := ch_VB_lt hV hi
    have s1 := @ch_OY_s B sd rt ep s t i ch_T1
    have s2 := @ch_OY_s B sd rt ep s t i (ch_T2 s)
    have s3 := @ch_OY_s B sd rt ep s t i (ch_T3 s)
    have skip : ∀ m', ch_BY m' 0 B → ¬ (i ≠ s ∧ B i = B s ∧ ch_LC B sd rt ep (512 * i + 8 * t)) → wY_compose_208 post (nI (512 * s + 8 * t + p)) (nI s) (nI t) (nI cf) n (nI a) (nI b) (nI c) (nI (i + 1)) (nI sd) (nI rt) (ch_epI ep) (nI ck) (nI nb) f_lineLen f_outLen (nI ct) (nI nt) f_strict 1 f_newSide f_newRights f_newEp f_newClock f_newNumber m' a_line a_out a_text a_cut := by
      intro m' hm' w
      refine ih (m', a, b, c) ⟨hm', ha, hb, hc, ?_, ?_, ?_⟩
      · rw [s1, wa]; exact ⟨Or.inl, fun z => z.elim id (fun y => absurd y.1 w)⟩
      · rw [s2, wb]; exact ⟨Or.inl, fun z => z.elim id (fun y => absurd y.1 w)⟩
      · rw [s3, wc]; exact ⟨Or.inl, fun z => z.elim id (fun y => absurd y.1 w)⟩
    refine pk_le 64 i (fun e => by omega) (fun _ => pk_eq i s (fun g2 => nm_r (nI_1 i) (skip m ch_hm (fun w => w.1 g2))) (fun g2 => ⟨vp_in_nI (by omega) (by omega), vp_in_nI (by omega) (by omega), ?_⟩))
    rw [ch_by0 ch_hm hi, ch_by0 ch_hm hs]
    refine pk_eq (B i) (B s) (fun g3 => ?_) (fun g3 => nm_r (nI_1 i) (skip m ch_hm (fun w => g3 w.2.1)))
    have ec : 512 * nI i + 8 * nI t = nI (512 * i + 8 * t) := by
      rw [ch_nI_m8, show (512 : Int32) * nI i = nI (512 * i) from pk_mul 512 i, nI_add]
    rw [ec]
    refine ch_y_isLegalc ch_hm hP (by omega) (fun hl m' hm' => br_f (by decide) ?_) (fun hl m' hm' => br_t rfl (nm_r (nI_1 i) (skip m' (ch_EQ6_B hm' ch_hm) (fun w => hl w.2.2))))
    have hM : i ≠ s ∧ B i = B s ∧ ch_LC B sd rt ep (512 * i + 8 * t) := ⟨g2, g3, hl⟩
    have fin : ∀ b' : Nat, b' < 2 → (b' = 1 ↔ (b = 1 ∨ i % 8 = s % 8)) → wY_compose_277 post (wY_compose_208 post (nI (512 * s + 8 * t + p)) (nI s) (nI t) (nI cf) n) (nI (512 * s + 8 * t + p)) (nI s) (nI t) (nI cf) 1 (nI b') (nI c) (nI i) (nI sd) (nI rt) (ch_epI ep) (nI ck) (nI nb) f_lineLen f_outLen (nI ct) (nI nt) f_strict 1 f_newSide f_newRights f_newEp f_newClock f_newNumber m' a_line a_out a_text a_cut := by
      intro b' hb' wb'
      have go : ∀ c' : Nat, c' < 2 → (c' = 1 ↔ (c = 1 ∨ i / 8 = s / 8)) → wY_compose_208 post (nI (512 * s + 8 * t + p)) (nI s) (nI t) (nI cf) n 1 (nI b') (nI c') (nI (i + 1)) (nI sd) (nI rt) (ch_epI ep) (nI ck) (nI nb) f_lineLen f_outLen (nI ct) (nI nt) f_strict 1 f_newSide f_newRights f_newEp f_newClock f_newNumber m' a_line a_out a_text a_cut := by
        intro c' hc' wc'
        refine ih (m', 1, b', c') ⟨ch_EQ6_B hm' ch_hm, show 1 < 2 by omega, hb', hc', ?_, ?_, ?_⟩
        · rw [s1]; exact ⟨fun _ => Or.inr ⟨hM, trivial⟩, fun _ => rfl⟩
        · rw [s2, wb', wb]; exact ⟨fun z => z.elim Or.inl (fun y => Or.inr ⟨hM, y⟩), fun z => z.elim Or.inl (fun y => Or.inr y.2)⟩
        · rw [s3, wc', wc]; exact ⟨fun z => z.elim Or.inl (fun y => Or.inr ⟨hM, y⟩), fun z => z.elim Or.inl (fun y => Or.inr y.2)⟩
      unfold wY_compose_277
      rw [ch_nI_r3 (by omega), ch_nI_r3 (by omega)]
      exact pk_eq (i / 8) (s / 8) (fun e => nm_r (nI_1 i) (go 1 (by omega) (by omega))) (fun e => nm_r (nI_1 i) (go c hc (by omega)))
    rw [ch_nI_a7 (s := i) (by omega), ch_nI_a7 (s := s) (by omega)]
    exact pk_eq (i % 8) (s % 8) (fun g5 => fin 1 (by omega) (by omega)) (fun g5 => fin b hb (by omega))
theorem ch_y_isCaptureF {post : Int32 → Prop} {B : Nat → Nat} {sd rt ep s t p x : Nat} (hB : ch_BY a_men 0 B) (hV : ch_VB B) (hE : ch_EG B sd ep) (hs : s < 64) (ht : t < 64) (hp : p < 8) (hsd : sd < 2) (hrt : rt < 16) (hep : ep ≤ 64) (hT : ch_TP B sd rt ep s t p x) (h : ∀ cf : Nat, cf < 2 → (cf = 1 ↔ (x = 5 ∨ B t ≠ 0)) → post (nI cf)) : wpY_isCapture post (nI sd, nI rt, ch_epI ep, f_clock, f_number, f_lineLen, f_outLen, f_clockTop, f_numberTop, f_strict, f_textLen, f_newSide, f_newRights, f_newEp, f_newClock, f_newNumber, a_men, a_line, a_out, a_text, a_cut) (nI (512 * s + 8 * t + p)) :=
  ch_y_isCapture hB hV hE hs ht hp hsd hrt hep hT (fun c => h 1 (by omega) ⟨fun _ => c, fun _ => rfl⟩) (fun c => h 0 (by omega) ⟨fun w => by omega, fun w => absurd w c⟩)
theorem ch_y_compose {post : SY → Prop} {B : Nat → Nat} {sd rt ep s t p x ck ct nb nt : Nat} (hB : ch_BY a_men 0 B) (hP : ch_POS B sd rt ep) (hs : s < 64) (ht : t < 64) (hp : p < 8) (hck : ck < 100000) (hct : ct < 100000) (hnb : nb < 100000) (hnt : nt < 100000) (hT : ch_TP B sd rt ep s t p x) (hq : ∀ q, ch_K1 (ch_AF B sd s t p x) sd q → ¬ ch_AT (ch_AF B sd s t p x) q (1 - sd)) (h : ∀ l a m, ch_BY m 0 B → ch_SPL B sd rt ep s t p x l → ch_TX a l → post (nI sd, nI rt, ch_epI ep, nI ck, nI nb, f_lineLen, f_outLen, nI ct, nI nt, f_strict, nI l.length, f_newSide, f_newRights, f_newEp, f_newClock, f_newNumber, m, a_line, a_out, a, a_cut)) : wpY_compose post (nI sd, nI rt, ch_epI ep, nI ck, nI nb, f_lineLen, f_outLen, nI ct, nI nt, f_strict, f_textLen, f_newSide, f_newRights, f_newEp, f_newClock, f_newNumber, a_men, a_line, a_out, a_text, a_cut) (nI (512 * s + 8 * t + p)) := by
  have hP' := hP
  obtain ⟨hV, hsd, hrt, hep, _, _, hpw, hR, hE, hA, hcn⟩ := hP
  have hvs := ch_VB_lt hV hs
  have r := ch_TP_r hT
  unfold wpY_compose
  refine nm_r (e' := nI s) (by rw [ch_nI_r9 (by omega), ch_nI_a63 (by omega)]; congr 1; omega) (nm_r (e' := nI t) (by rw [ch_nI_r3 (by omega), ch_nI_a63 (by omega)]; congr 1; omega) (nm_r (e' := nI p) (by rw [ch_nI_a7 (by omega)]; congr 1; omega) ⟨vp_in_nI (by omega) (by omega), nm_r (e' := nI (B s % 8)) (by rw [ch_by0 hB hs, ch_nI_a7 (by omega)]) ?_⟩))
  refine ch_y_moveType hB hV hs ht hp hsd hrt hep (fun x' hT' => ?_) (fun w => absurd hT (w x))
  obtain rfl := ch_TP_u hE hs ht hsd hT' hT
  refine ch_y_isCaptureF hB hV hE hs ht hp hsd hrt hep hT (fun cf hcf hcf' => ?_)
  refine pk_eq x' 6 (fun e6 => ch_y_comp65 hB hP' hs ht hp hck hct hnb hnt hT hq (Or.inl e6) h) (fun e6 => pk_eq x' 7 (fun e7 => ch_y_comp65 hB hP' hs ht hp hck hct hnb hnt hT hq (Or.inr e7) h) (fun e7 => pk_eq (B s % 8) 1 (fun ek => pk_eq cf 0 (fun ec => ?_) (fun ec => ?_)) (fun ek => ch_y_kindLetter (by omega) ?_)))
  · have hx : ch_capS x' (B t) s = [] := by unfold ch_capS; rw [if_neg (fun w => by have := hcf'.mpr w; omega)]
    exact ch_y_comp133 (l := []) hB hP' hs ht hp hck hct hnb hnt hT hq (Or.inr (Or.inr (Or.inl ⟨e6, e7, ek, by rw [hx]⟩))) (ch_TX_0 _) h
  · have hx : ch_capS x' (B t) s = [97 + nI (s % 8), 120] := by unfold ch_capS; rw [if_pos (hcf'.mp (by omega))]
    rw [ch_nI_a7 (by omega)]
    refine ch_y_putText (l := []) (ch_TX_0 _) (by decide) (fun a1 h1 => ?_)
    refine ch_y_putText (l := [97 + nI (s % 8)]) h1 (by show 1 < 16; omega) (fun a2 h2 => ?_)
    exact ch_y_comp133 (l := [97 + nI (s % 8), 120]) hB hP' hs ht hp hck hct hnb hnt hT hq (Or.inr (Or.inr (Or.inl ⟨e6, e7, ek, by rw [hx]⟩))) h2 h
  · refine ch_y_putText (l := []) (ch_TX_0 _) (by decide) (fun a1 h1 => ?_)
    exact ch_y_comp208 hB hP' hs ht hp hck hct hnb hnt hT hq e6 e7 ek hcf hcf' h1 h
end
end
section
/-! printing a move -/
def ch_wo (ao : Nat → Int32) (l : List Int32) : Nat → Nat → Int32
  | 0 => ao
  | i + 1 => upd (ch_wo ao l i) i (l.getD i 0)
section
variable {f_clockTop f_numberTop f_strict f_side f_rights f_passant f_clock f_number f_lineLen f_outLen f_moveTotal f_movesKnown f_savedSide f_savedRights f_savedPassant f_savedClock f_savedNumber f_spellLen f_at f_end f_writtenMark f_writtenCastling f_writtenPromotion f_writtenTarget f_writtenCapture f_writtenRank f_writtenFile f_writtenKind : Int32} {a_board a_line a_out a_moves a_savedBoard a_spell : Nat → Int32}
theorem ch_x_pm22 {post : Int32 → SX → Prop} {l : List Int32} {ao : Nat → Int32} (hT : ch_TX a_spell l) (hl : l.length ≤ 7) (h : post (nI l.length) (f_clockTop, f_numberTop, f_strict, f_side, f_rights, f_passant, f_clock, f_number, f_lineLen, nI l.length, f_moveTotal, f_movesKnown, f_savedSide, f_savedRights, f_savedPassant, f_savedClock, f_savedNumber, nI l.length, f_at, f_end, f_writtenMark, f_writtenCastling, f_writtenPromotion, f_writtenTarget, f_writtenCapture, f_writtenRank, f_writtenFile, f_writtenKind, a_board, a_line, ch_wo ao l l.length, a_moves, a_savedBoard, a_spell)) : ∃ n, wX_printMove_22 post n 0 f_clockTop f_numberTop f_strict f_side f_rights f_passant f_clock f_number f_lineLen 0 f_moveTotal f_movesKnown f_savedSide f_savedRights f_savedPassant f_savedClock f_savedNumber (nI l.length) f_at f_end f_writtenMark f_writtenCastling f_writtenPromotion f_writtenTarget f_writtenCapture f_writtenRank f_writtenFile f_writtenKind a_board a_line ao a_moves a_savedBoard a_spell := by
  refine ⟨l.length + 1, ?_⟩
  refine ch_fn (σ := Nat) (fun n q z => wX_printMove_22 post n z f_clockTop f_numberTop f_strict f_side f_rights f_passant f_clock f_number f_lineLen (nI q) f_moveTotal f_movesKnown f_savedSide f_savedRights f_savedPassant f_savedClock f_savedNumber (nI l.length) f_at f_end f_writtenMark f_writtenCastling f_writtenPromotion f_writtenTarget f_writtenCapture f_writtenRank f_writtenFile f_writtenKind a_board a_line (ch_wo ao l q) a_moves a_savedBoard a_spell) (fun i q => q = i) l.length ?_ ?_ l.length 0 0 (by omega) rfl
  · rintro n q rfl
    exact br_t (Int32.le_refl _) h
  · rintro n i q hi rfl ih
    refine br_f (nI_ge hi (by omega)) ⟨vp_in_nI (by omega) (by omega), ?_⟩
    rw [nI_clamp (by omega), hT q hi]
    refine ch_x_putOut (by omega) (nm_r (nI_1 q) ?_)
    have := ih (q + 1) rfl
    unfold ch_pn ch_pu
    rw [if_pos (by omega), if_pos (by omega)]
    exact this
end
section
variable {f_side f_rights f_ep f_clock f_number f_lineLen f_outLen f_clockTop f_numberTop f_strict f_textLen f_newSide f_newRights f_newEp f_newClock f_newNumber : Int32} {a_men a_line a_out a_text a_cut : Nat → Int32}
theorem ch_y_pm19 {post : Int32 → SY → Prop} {l : List Int32} (hT : ch_TX a_text l) (hl : l.length ≤ 7) (h : post (nI l.length) (f_side, f_rights, f_ep, f_clock, f_number, f_lineLen, nI l.length, f_clockTop, f_numberTop, f_strict, nI l.length, f_newSide, f_newRights, f_newEp, f_newClock, f_newNumber, a_men, a_line, ch_wo a_out l l.length, a_text, a_cut)) : ∃ n, wY_printMove_19 post f_side f_rights f_ep f_clock f_number f_lineLen f_outLen f_clockTop f_numberTop f_strict (nI l.length) f_newSide f_newRights f_newEp f_newClock f_newNumber n 0 a_men a_line a_out a_text a_cut := by
  refine ⟨l.length + 1, ?_⟩
  refine ch_fn (σ := Nat) (fun n q z => wY_printMove_19 post f_side f_rights f_ep f_clock f_number f_lineLen f_outLen f_clockTop f_numberTop f_strict (nI l.length) f_newSide f_newRights f_newEp f_newClock f_newNumber n z a_men a_line (ch_wo a_out l q) a_text a_cut) (fun i q => q = i) l.length ?_ ?_ l.length 0 0 (by omega) rfl
  · rintro n q rfl
    exact br_t (Int32.le_refl _) h
  · rintro n i q hi rfl ih
    refine br_f (nI_ge hi (by omega)) ⟨vp_in_nI (by omega) (by omega), ?_⟩
    rw [nI_clamp (by omega), hT q hi]
    exact ⟨vp_in_nI (by omega) (by omega), nm_e (nm_r (nI_1 q) (ih (q + 1) rfl))⟩
end

theorem i_vc_printMove {k : Nat} {u : SX} {v : SY} (I : i_Rel k u v) (hk : k + 4 ≤ 2051) (v1 : Int32) : wpX_printMove (fun r u' => wpY_printMove (fun r' v' => r' = r ∧ i_Rel (k + 4) u' v') v v1) u v1 := by
  refine ch_rl_el (P := fun u v => wpX_printMove (fun r u' => wpY_printMove (fun r' v' => r' = r ∧ i_Rel (k + 4) u' v') v v1) u v1) ?_ I
  intro B sd rt ep ck ct nb nt st ll ol f_moveTotal f_movesKnown f_savedSide f_savedRights f_savedPassant f_savedClock f_savedNumber f_spellLen f_at f_end f_writtenMark f_writtenCastling f_writtenPromotion f_writtenTarget f_writtenCapture f_writtenRank f_writtenFile f_writtenKind a_board a_line a_out a_moves a_savedBoard a_spell f_textLen f_newSide f_newRights f_newEp f_newClock f_newNumber a_men a_text a_cut hF
  obtain ⟨h1, h2, h3, h4, h5, h6, h7, h8, h9⟩ := hF
  unfold wpX_printMove
  refine ch_x_isLegal h1 h3 h4 (fun c mv hc hl e ch_hm => br_f (by decide) ?_) (fun hn mv ch_hm => br_t rfl ?_)
  · subst e
    have hl' := hl
    obtain ⟨x, hT, hq⟩ := hl'
    have ec := ch_cd_c hc
    have ax : ∀ post : SX → Prop, (∀ l a s1 s2 s3 s4 s5 sb, ch_SPL B sd rt ep (c / 512) (c / 8 % 64) (c % 8) x l → ch_TX a l → post (nI ct, nI nt, nI st, nI sd, nI rt, ch_epI ep, nI ck, nI nb, nI ll, nI ol, nI (ch_cn (ch_LC B sd rt ep) 32768), 1, s1, s2, s3, s4, s5, nI l.length, f_at, f_end, f_writtenMark, f_writtenCastling, f_writtenPromotion, f_writtenTarget, f_writtenCapture, f_writtenRank, f_writtenFile, f_writtenKind, a_board, a_line, a_out, mv, sb, a)) → wpX_spellMove post (nI ct, nI nt, nI st, nI sd, nI rt, ch_epI ep, nI ck, nI nb, nI ll, nI ol, nI (ch_cn (ch_LC B sd rt ep) 32768), 1, f_savedSide, f_savedRights, f_savedPassant, f_savedClock, f_savedNumber, f_spellLen, f_at, f_end, f_writtenMark, f_writtenCastling, f_writtenPromotion, f_writtenTarget, f_writtenCapture, f_writtenRank, f_writtenFile, f_writtenKind, a_board, a_line, a_out, mv, a_savedBoard, a_spell) (nI c) := by
      intro post hp
      have : wpX_spellMove post (nI ct, nI nt, nI st, nI sd, nI rt, ch_epI ep, nI ck, nI nb, nI ll, nI ol, nI (ch_cn (ch_LC B sd rt ep) 32768), 1, f_savedSide, f_savedRights, f_savedPassant, f_savedClock, f_savedNumber, f_spellLen, f_at, f_end, f_writtenMark, f_writtenCastling, f_writtenPromotion, f_writtenTarget, f_writtenCapture, f_writtenRank, f_writtenFile, f_writtenKind, a_board, a_line, a_out, mv, a_savedBoard, a_spell) (nI (512 * (c / 512) + 8 * (c / 8 % 64) + c % 8)) := ch_x_spellMove h1 h3 (by omega) (by omega) (by omega) (by omega) (by omega) (by omega) (by omega) ch_hm hT hq hp
      rw [ec] at this
      exact this
    have ay : ∀ (post : SY → Prop) (m : Nat → Int32), ch_BY m 0 B → (∀ l a m', ch_BY m' 0 B → ch_SPL B sd rt ep (c / 512) (c / 8 % 64) (c % 8) x l → ch_TX a l → post (nI sd, nI rt, ch_epI ep, nI ck, nI nb, nI ll, nI ol, nI ct, nI nt, nI st, nI l.length, f_newSide, f_newRights, f_newEp, f_newClock, f_newNumber, m', a_line, a_out, a, a_cut)) → wpY_compose post (nI sd, nI rt, ch_epI ep, nI ck, nI nb, nI ll, nI ol, nI ct, nI nt, nI st, f_textLen, f_newSide, f_newRights, f_newEp, f_newClock, f_newNumber, m, a_line, a_out, a_text, a_cut) (nI c) := by
      intro post m hm0 hp
      have : wpY_compose post (nI sd, nI rt, ch_epI ep, nI ck, nI nb, nI ll, nI ol, nI ct, nI nt, nI st, f_textLen, f_newSide, f_newRights, f_newEp, f_newClock, f_newNumber, m, a_line, a_out, a_text, a_cut) (nI (512 * (c / 512) + 8 * (c / 8 % 64) + c % 8)) := ch_y_compose hm0 h3 (by omega) (by omega) (by omega) (by omega) (by omega) (by omega) (by omega) hT hq hp
      rw [ec] at this
      exact this
    refine ax _ (fun l a s1 s2 s3 s4 s5 sb hS ha => ?_)
    have hl7 := ch_SPL_l hS
    refine ch_x_pm22 ha hl7 ?_
    unfold wpY_printMove
    refine ch_y_isLegal_w h2 h3 (fun c' hc' hl' e' m hm' => br_f (by decide) ?_) (fun hn => absurd rfl (hn c hc hl))
    refine ay _ m (ch_EQ6_B hm' h2) (fun l' a' m' hm2 hS' ha' => ?_)
    obtain rfl := ch_SPL_u hS' hS
    refine ch_y_pm19 ha' hl7 ?_
    refine ⟨rfl, ?_⟩
    exact ch_rl_mk ⟨h1, hm2, h3, ch_CA_k ch_hm, h5, h6, h7, h8, by omega⟩
  · unfold wpY_printMove
    refine ch_y_isLegal_w h2 h3 (fun c' hc' hl' e' => absurd e' (hn c' hc' hl')) (fun _ m hm' => br_t rfl ⟨rfl, ch_rl_mk ⟨h1, ch_EQ6_B hm' h2, h3, ch_CA_k ch_hm, h5, h6, h7, h8, h9⟩⟩)
end
section
/-! taking a move's text apart, side by side -/
def ch_klt (c : Int32) : Int32 := if c = 66 then 3 else if c = 75 then 6 else if c = 78 then 2 else if c = 80 then 1 else if c = 81 then 5 else if c = 82 then 4 else 0
section
variable {f_clockTop f_numberTop f_strict f_side f_rights f_passant f_clock f_number f_lineLen f_outLen f_moveTotal f_movesKnown f_savedSide f_savedRights f_savedPassant f_savedClock f_savedNumber f_spellLen f_at f_end f_writtenMark f_writtenCastling f_writtenPromotion f_writtenTarget f_writtenCapture f_writtenRank f_writtenFile f_writtenKind : Int32} {a_board a_line a_out a_moves a_savedBoard a_spell : Nat → Int32}
theorem ch_x_kindOfLetter {post : Int32 → Prop} {c : Int32} (h : post (ch_klt c)) : wpX_kindOfLetter post (f_clockTop, f_numberTop, f_strict, f_side, f_rights, f_passant, f_clock, f_number, f_lineLen, f_outLen, f_moveTotal, f_movesKnown, f_savedSide, f_savedRights, f_savedPassant, f_savedClock, f_savedNumber, f_spellLen, f_at, f_end, f_writtenMark, f_writtenCastling, f_writtenPromotion, f_writtenTarget, f_writtenCapture, f_writtenRank, f_writtenFile, f_writtenKind, a_board, a_line, a_out, a_moves, a_savedBoard, a_spell) c := by
  unfold ch_klt at h
  by_cases c66 : c = 66
  · rw [if_pos c66] at h; subst c66
    exact br_f (by decide) (br_f (by decide) (br_t rfl h))
  rw [if_neg c66] at h
  by_cases c75 : c = 75
  · rw [if_pos c75] at h; subst c75
    exact br_f (by decide) (br_f (by decide) (br_f (by decide) (br_f (by decide) (br_f (by decide) (br_f (by decide) (br_f (by decide) (br_f (by decide) (br_f (by decide) (br_f (by decide) (br_f (by decide) (br_t rfl h)))))))))))
  rw [if_neg c75] at h
  by_cases c78 : c = 78
  · rw [if_pos c78] at h; subst c78
    exact br_f (by decide) (br_f (by decide) (br_f (by decide) (br_f (by decide) (br_f (by decide) (br_f (by decide) (br_f (by decide) (br_f (by decide) (br_f (by decide) (br_f (by decide) (br_f (by decide) (br_f (by decide) (br_f (by decide) (br_f (by decide) (br_t rfl h))))))))))))))
  rw [if_neg c78] at h
  by_cases c80 : c = 80
  · rw [if_pos c80] at h; subst c80
    exact br_f (by decide) (br_f (by decide) (br_f (by decide) (br_f (by decide) (br_f (by decide) (br_f (by decide) (br_f (by decide) (br_f (by decide) (br_f (by decide) (br_f (by decide) (br_f (by decide) (br_f (by decide) (br_f (by decide) (br_f (by decide) (br_f (by decide) (br_f (by decide) (br_t rfl h))))))))))))))))
  rw [if_neg c80] at h
  by_cases c81 : c = 81
  · rw [if_pos c81] at h; subst c81
    exact br_f (by decide) (br_f (by decide) (br_f (by decide) (br_f (by decide) (br_f (by decide) (br_f (by decide) (br_f (by decide) (br_f (by decide) (br_f (by decide) (br_f (by decide) (br_f (by decide) (br_f (by decide) (br_f (by decide) (br_f (by decide) (br_f (by decide) (br_f (by decide) (br_f (by decide) (br_t rfl h)))))))))))))))))
  rw [if_neg c81] at h
  by_cases c82 : c = 82
  · rw [if_pos c82] at h; subst c82
    exact br_f (by decide) (br_f (by decide) (br_f (by decide) (br_f (by decide) (br_f (by decide) (br_f (by decide) (br_f (by decide) (br_f (by decide) (br_f (by decide) (br_f (by decide) (br_f (by decide) (br_f (by decide) (br_f (by decide) (br_f (by decide) (br_f (by decide) (br_f (by decide) (br_f (by decide) (br_f (by decide) (br_t rfl h))))))))))))))))))
  rw [if_neg c82] at h
  have z := h
  exact br_c (fun _ => z) (fun _ => br_c (fun _ => z) (fun _ => br_f c66 (br_c (fun _ => z) (fun _ => br_c (fun _ => z) (fun _ => br_c (fun _ => z) (fun _ => br_c (fun _ => z) (fun _ => br_c (fun _ => z) (fun _ => br_c (fun _ => z) (fun _ => br_c (fun _ => z) (fun _ => br_c (fun _ => z) (fun _ => br_f c75 (br_c (fun _ => z) (fun _ => br_c (fun _ => z) (fun _ => br_f c78 (br_c (fun _ => z) (fun _ => br_f c80 (br_f c81 (br_f c82 trivial))))))))))))))))))
theorem ch_x_last {post : Int32 → Prop} {e : Nat} (he : e ≤ 96) (h0 : e = 0 → post 0) (h1 : 0 < e → post (a_line (e - 1))) : wpX_last post (f_clockTop, f_numberTop, f_strict, f_side, f_rights, f_passant, f_clock, f_number, f_lineLen, f_outLen, f_moveTotal, f_movesKnown, f_savedSide, f_savedRights, f_savedPassant, f_savedClock, f_savedNumber, f_spellLen, f_at, nI e, f_writtenMark, f_writtenCastling, f_writtenPromotion, f_writtenTarget, f_writtenCapture, f_writtenRank, f_writtenFile, f_writtenKind, a_board, a_line, a_out, a_moves, a_savedBoard, a_spell) := by
  refine pk_le e 0 (fun z => h0 (by omega)) (fun z => ?_)
  rw [show nI e - 1 = nI (e - 1) from pk_sub (b := 1) (by omega), nI_clamp (by omega)]
  exact ⟨vp_in_nI (by omega) (by omega), h1 z⟩
end
theorem ch_kl_0 : ch_klt 0 = 0 := by decide
section
variable {B : Nat → Nat} {sd rt ep ck ct nb nt st ll ol : Nat} {f_moveTotal f_movesKnown f_savedSide f_savedRights f_savedPassant f_savedClock f_savedNumber f_spellLen f_at f_end f_writtenMark f_writtenCastling f_writtenPromotion f_writtenTarget f_writtenCapture f_writtenRank f_writtenFile f_writtenKind : Int32} {a_board a_line a_out a_moves a_savedBoard a_spell : Nat → Int32} {f_textLen f_newSide f_newRights f_newEp f_newClock f_newNumber : Int32} {a_men a_text a_cut : Nat → Int32}

theorem ch_e_1 {e : Nat} (h : 0 < e) : nI e - 1 = nI (e - 1) := pk_sub (b := 1) h
theorem ch_e_2 {e : Nat} (h : 2 ≤ e) : nI e - 2 = nI (e - 2) := pk_sub (b := 2) h
/-- the last step of the reference: the kind -/
theorem ch_y_478 {post : Int32 → SY → Prop} {e : Nat} {x2 x3 x4 x5 x6 x7 x8 x9 : Int32} (he : 0 < e) (he2 : e ≤ 96) (h0 : ch_klt (a_line (e - 1)) < 2 → wY_readMove_559 post (nI e) x2 x3 x4 x5 x6 x7 x8 x9 (nI sd) (nI rt) (ch_epI ep) (nI ck) (nI nb) (nI ll) (nI ol) (nI ct) (nI nt) (nI st) f_textLen f_newSide f_newRights f_newEp f_newClock f_newNumber a_men a_line a_out a_text a_cut) (h1 : ¬ ch_klt (a_line (e - 1)) < 2 → wY_readMove_559 post (nI (e - 1)) x2 x3 x4 x5 x6 x7 x8 (ch_klt (a_line (e - 1))) (nI sd) (nI rt) (ch_epI ep) (nI ck) (nI nb) (nI ll) (nI ol) (nI ct) (nI nt) (nI st) f_textLen f_newSide f_newRights f_newEp f_newClock f_newNumber a_men a_line a_out a_text a_cut) : wY_readMove_478 post (nI e) x2 x3 x4 x5 x6 x7 x8 x9 (nI sd) (nI rt) (ch_epI ep) (nI ck) (nI nb) (nI ll) (nI ol) (nI ct) (nI nt) (nI st) f_textLen f_newSide f_newRights f_newEp f_newClock f_newNumber a_men a_line a_out a_text a_cut := by
  have p0 : ¬ nI e ≤ (0 : Int32) := nI_ge (a := 0) he (by omega)
  refine br_f p0 ?_
  rw [ch_e_1 he, nI_clamp (by omega)]
  refine ⟨vp_in_nI (by omega) (by omega), nm_e ?_⟩
  generalize a_line (e - 1) = c at *
  have nz : ∀ x11 : Int32, ¬ x11 = 0 → ch_klt c = x11 → ¬ x11 < 2 → wY_readMove_546 post (nI e) x2 x3 x4 x5 x6 x7 x8 x9 x11 (nI sd) (nI rt) (ch_epI ep) (nI ck) (nI nb) (nI ll) (nI ol) (nI ct) (nI nt) (nI st) f_textLen f_newSide f_newRights f_newEp f_newClock f_newNumber a_men a_line a_out a_text a_cut := by
    intro x11 h2 h3 h4
    subst h3
    exact br_f h2 (nm_r (ch_e_1 he) (h1 h4))
  by_cases c78 : c = 78
  · subst c78
    exact br_t rfl (br_f (by decide) (br_f (by decide) (br_f (by decide) (br_f (by decide) (nz 2 (by decide) (by decide) (by decide))))))
  by_cases c66 : c = 66
  · subst c66
    exact br_f (by decide) (br_t rfl (br_f (by decide) (br_f (by decide) (br_f (by decide) (nz 3 (by decide) (by decide) (by decide))))))
  by_cases c82 : c = 82
  · subst c82
    exact br_f (by decide) (br_f (by decide) (br_t rfl (br_f (by decide) (br_f (by decide) (nz 4 (by decide) (by decide) (by decide))))))
  by_cases c81 : c = 81
  · subst c81
    exact br_f (by decide) (br_f (by decide) (br_f (by decide) (br_t rfl (br_f (by decide) (nz 5 (by decide) (by decide) (by decide))))))
  by_cases c75 : c = 75
  · subst c75
    exact br_f (by decide) (br_f (by decide) (br_f (by decide) (br_f (by decide) (br_t rfl (nz 6 (by decide) (by decide) (by decide))))))
  have k0 : ch_klt c < 2 := by
    unfold ch_klt
    rw [if_neg c66, if_neg c75, if_neg c78]
    split
    · decide
    · first | decide | (rw [if_neg c81, if_neg c82]; decide)
  exact br_f c78 (br_f c66 (br_f c82 (br_f c81 (br_f c75 (br_t rfl (h0 k0))))))
theorem ch_pm_kind {e : Nat} (he : e ≤ 96) : ∃ (e' : Nat) (kd : Int32), e' ≤ 96 ∧ (∀ post : SX → Prop, post (nI ct, nI nt, nI st, nI sd, nI rt, ch_epI ep, nI ck, nI nb, nI ll, nI ol, f_moveTotal, f_movesKnown, f_savedSide, f_savedRights, f_savedPassant, f_savedClock, f_savedNumber, f_spellLen, f_at, nI e', f_writtenMark, f_writtenCastling, f_writtenPromotion, f_writtenTarget, f_writtenCapture, f_writtenRank, f_writtenFile, kd, a_board, a_line, a_out, a_moves, a_savedBoard, a_spell) → wX_takeOrigin_96 post (nI ct) (nI nt) (nI st) (nI sd) (nI rt) (ch_epI ep) (nI ck) (nI nb) (nI ll) (nI ol) f_moveTotal f_movesKnown f_savedSide f_savedRights f_savedPassant f_savedClock f_savedNumber f_spellLen f_at (nI e) f_writtenMark f_writtenCastling f_writtenPromotion f_writtenTarget f_writtenCapture f_writtenRank f_writtenFile f_writtenKind a_board a_line a_out a_moves a_savedBoard a_spell) ∧ (∀ (post : Int32 → SY → Prop) x2 x3 x4 x5 x6 x7 x8, wY_readMove_559 post (nI e') x2 x3 x4 x5 x6 x7 x8 kd (nI sd) (nI rt) (ch_epI ep) (nI ck) (nI nb) (nI ll) (nI ol) (nI ct) (nI nt) (nI st) f_textLen f_newSide f_newRights f_newEp f_newClock f_newNumber a_men a_line a_out a_text a_cut → wY_readMove_478 post (nI e) x2 x3 x4 x5 x6 x7 x8 f_writtenKind (nI sd) (nI rt) (ch_epI ep) (nI ck) (nI nb) (nI ll) (nI ol) (nI ct) (nI nt) (nI st) f_textLen f_newSide f_newRights f_newEp f_newClock f_newNumber a_men a_line a_out a_text a_cut) := by
  by_cases z : e = 0
  · subst z
    refine ⟨0, f_writtenKind, by omega, fun post h => ?_, fun post x2 x3 x4 x5 x6 x7 x8 h => br_t (by decide) h⟩
    unfold wX_takeOrigin_96
    refine ch_x_last (by omega) (fun _ => ?_) (fun w => by omega)
    refine ch_x_kindOfLetter ?_
    rw [ch_kl_0]
    exact br_t (by decide) h
  · by_cases k : ch_klt (a_line (e - 1)) < 2
    · refine ⟨e, f_writtenKind, he, fun post h => ?_, fun post x2 x3 x4 x5 x6 x7 x8 h => ch_y_478 (by omega) he (fun _ => h) (fun w => absurd k w)⟩
      unfold wX_takeOrigin_96
      refine ch_x_last he (fun w => absurd w z) (fun _ => ?_)
      exact ch_x_kindOfLetter (br_t k h)
    · refine ⟨e - 1, ch_klt (a_line (e - 1)), by omega, fun post h => ?_, fun post x2 x3 x4 x5 x6 x7 x8 h => ch_y_478 (by omega) he (fun w => absurd w k) (fun _ => h)⟩
      unfold wX_takeOrigin_96
      refine ch_x_last he (fun w => absurd w z) (fun _ => ?_)
      exact ch_x_kindOfLetter (br_f k (nm_r (ch_e_1 (by omega)) h))
theorem ch_pm_file {e : Nat} (he : e ≤ 96) : ∃ (e' : Nat) (fl : Int32), e' ≤ 96 ∧ (∀ post : SX → Prop, wX_takeOrigin_96 post (nI ct) (nI nt) (nI st) (nI sd) (nI rt) (ch_epI ep) (nI ck) (nI nb) (nI ll) (nI ol) f_moveTotal f_movesKnown f_savedSide f_savedRights f_savedPassant f_savedClock f_savedNumber f_spellLen f_at (nI e') f_writtenMark f_writtenCastling f_writtenPromotion f_writtenTarget f_writtenCapture f_writtenRank fl f_writtenKind a_board a_line a_out a_moves a_savedBoard a_spell → wX_takeOrigin_61 post (nI ct) (nI nt) (nI st) (nI sd) (nI rt) (ch_epI ep) (nI ck) (nI nb) (nI ll) (nI ol) f_moveTotal f_movesKnown f_savedSide f_savedRights f_savedPassant f_savedClock f_savedNumber f_spellLen f_at (nI e) f_writtenMark f_writtenCastling f_writtenPromotion f_writtenTarget f_writtenCapture f_writtenRank f_writtenFile f_writtenKind a_board a_line a_out a_moves a_savedBoard a_spell) ∧ (∀ (post : Int32 → SY → Prop) x2 x3 x4 x5 x6 x7 x9, wY_readMove_478 post (nI e') x2 x3 x4 x5 x6 x7 fl x9 (nI sd) (nI rt) (ch_epI ep) (nI ck) (nI nb) (nI ll) (nI ol) (nI ct) (nI nt) (nI st) f_textLen f_newSide f_newRights f_newEp f_newClock f_newNumber a_men a_line a_out a_text a_cut → wY_readMove_431 post (nI e) x2 x3 x4 x5 x6 x7 f_writtenFile x9 (nI sd) (nI rt) (ch_epI ep) (nI ck) (nI nb) (nI ll) (nI ol) (nI ct) (nI nt) (nI st) f_textLen f_newSide f_newRights f_newEp f_newClock f_newNumber a_men a_line a_out a_text a_cut) := by
  by_cases z : e = 0
  · subst z
    refine ⟨0, f_writtenFile, by omega, fun post h => ?_, fun post x2 x3 x4 x5 x6 x7 x9 h => br_t (by decide) h⟩
    unfold wX_takeOrigin_61
    exact ch_x_last (by omega) (fun _ => br_t (by decide) h) (fun w => by omega)
  · have p0 : ¬ nI e ≤ (0 : Int32) := nI_ge (a := 0) (by omega) (by omega)
    have vv : vp_in (nI (e - 1)) 96 := vp_in_nI (by omega) (by omega)
    by_cases c1 : a_line (e - 1) < 97
    · refine ⟨e, f_writtenFile, he, fun post h => ?_, fun post x2 x3 x4 x5 x6 x7 x9 h => br_f p0 ?_⟩
      · unfold wX_takeOrigin_61
        exact ch_x_last he (fun w => absurd w z) (fun _ => br_t c1 h)
      · rw [ch_e_1 (by omega), nI_clamp (by omega)]
        exact ⟨vv, br_t c1 h⟩
    · by_cases c2 : 104 < a_line (e - 1)
      · refine ⟨e, f_writtenFile, he, fun post h => ?_, fun post x2 x3 x4 x5 x6 x7 x9 h => br_f p0 ?_⟩
        · unfold wX_takeOrigin_61
          exact ch_x_last he (fun w => absurd w z) (fun _ => br_f c1 (br_t c2 h))
        · rw [ch_e_1 (by omega), nI_clamp (by omega)]
          exact ⟨vv, br_f c1 ⟨vv, br_t c2 h⟩⟩
      · refine ⟨e - 1, a_line (e - 1) - 97, by omega, fun post h => ?_, fun post x2 x3 x4 x5 x6 x7 x9 h => br_f p0 ?_⟩
        · unfold wX_takeOrigin_61
          exact ch_x_last he (fun w => absurd w z) (fun _ => br_f c1 (br_f c2 (nm_e (nm_r (ch_e_1 (by omega)) h))))
        · rw [ch_e_1 (by omega), nI_clamp (by omega)]
          exact ⟨vv, br_f c1 ⟨vv, br_f c2 ⟨vv, nm_e (nm_e h)⟩⟩⟩
theorem ch_pm_rank {e : Nat} (he : e ≤ 96) : ∃ (e' : Nat) (rk : Int32), e' ≤ 96 ∧ (∀ post : SX → Prop, wX_takeOrigin_61 post (nI ct) (nI nt) (nI st) (nI sd) (nI rt) (ch_epI ep) (nI ck) (nI nb) (nI ll) (nI ol) f_moveTotal f_movesKnown f_savedSide f_savedRights f_savedPassant f_savedClock f_savedNumber f_spellLen f_at (nI e') f_writtenMark f_writtenCastling f_writtenPromotion f_writtenTarget f_writtenCapture rk f_writtenFile f_writtenKind a_board a_line a_out a_moves a_savedBoard a_spell → wX_takeOrigin_26 post (nI ct) (nI nt) (nI st) (nI sd) (nI rt) (ch_epI ep) (nI ck) (nI nb) (nI ll) (nI ol) f_moveTotal f_movesKnown f_savedSide f_savedRights f_savedPassant f_savedClock f_savedNumber f_spellLen f_at (nI e) f_writtenMark f_writtenCastling f_writtenPromotion f_writtenTarget f_writtenCapture f_writtenRank f_writtenFile f_writtenKind a_board a_line a_out a_moves a_savedBoard a_spell) ∧ (∀ (post : Int32 → SY → Prop) x2 x3 x4 x5 x6 x8 x9, wY_readMove_431 post (nI e') x2 x3 x4 x5 x6 rk x8 x9 (nI sd) (nI rt) (ch_epI ep) (nI ck) (nI nb) (nI ll) (nI ol) (nI ct) (nI nt) (nI st) f_textLen f_newSide f_newRights f_newEp f_newClock f_newNumber a_men a_line a_out a_text a_cut → wY_readMove_384 post (nI e) x2 x3 x4 x5 x6 f_writtenRank x8 x9 (nI sd) (nI rt) (ch_epI ep) (nI ck) (nI nb) (nI ll) (nI ol) (nI ct) (nI nt) (nI st) f_textLen f_newSide f_newRights f_newEp f_newClock f_newNumber a_men a_line a_out a_text a_cut) := by
  by_cases z : e = 0
  · subst z
    refine ⟨0, f_writtenRank, by omega, fun post h => ?_, fun post x2 x3 x4 x5 x6 x8 x9 h => br_t (by decide) h⟩
    unfold wX_takeOrigin_26
    exact ch_x_last (by omega) (fun _ => br_t (by decide) h) (fun w => by omega)
  · have p0 : ¬ nI e ≤ (0 : Int32) := nI_ge (a := 0) (by omega) (by omega)
    have vv : vp_in (nI (e - 1)) 96 := vp_in_nI (by omega) (by omega)
    by_cases c1 : a_line (e - 1) < 49
    · refine ⟨e, f_writtenRank, he, fun post h => ?_, fun post x2 x3 x4 x5 x6 x8 x9 h => br_f p0 ?_⟩
      · unfold wX_takeOrigin_26
        exact ch_x_last he (fun w => absurd w z) (fun _ => br_t c1 h)
      · rw [ch_e_1 (by omega), nI_clamp (by omega)]
        exact ⟨vv, br_t c1 h⟩
    · by_cases c2 : 56 < a_line (e - 1)
      · refine ⟨e, f_writtenRank, he, fun post h => ?_, fun post x2 x3 x4 x5 x6 x8 x9 h => br_f p0 ?_⟩
        · unfold wX_takeOrigin_26
          exact ch_x_last he (fun w => absurd w z) (fun _ => br_f c1 (br_t c2 h))
        · rw [ch_e_1 (by omega), nI_clamp (by omega)]
          exact ⟨vv, br_f c1 ⟨vv, br_t c2 h⟩⟩
      · refine ⟨e - 1, a_line (e - 1) - 49, by omega, fun post h => ?_, fun post x2 x3 x4 x5 x6 x8 x9 h => br_f p0 ?_⟩
        · unfold wX_takeOrigin_26
          exact ch_x_last he (fun w => absurd w z) (fun _ => br_f c1 (br_f c2 (nm_e (nm_r (ch_e_1 (by omega)) h))))
        · rw [ch_e_1 (by omega), nI_clamp (by omega)]
          exact ⟨vv, br_f c1 ⟨vv, br_f c2 ⟨vv, nm_e (nm_e h)⟩⟩⟩
end
end
section
/-! taking a move's text apart: target, promotion, castling, mark -/
section
variable {f_clockTop f_numberTop f_strict f_side f_rights f_passant f_clock f_number f_lineLen f_outLen f_moveTotal f_movesKnown f_savedSide f_savedRights f_savedPassant f_savedClock f_savedNumber f_spellLen f_at f_end f_writtenMark f_writtenCastling f_writtenPromotion f_writtenTarget f_writtenCapture f_writtenRank f_writtenFile f_writtenKind : Int32} {a_board a_line a_out a_moves a_savedBoard a_spell : Nat → Int32}
/-- the castling text as the component reads it -/
def ch_CTX (l : Nat → Int32) (e : Nat) : Prop := ∀ i, i < e → l i = if i % 2 = 0 then 79 else 45
theorem ch_x_ct20 {post : Int32 → Prop} {e : Nat} (he : e = 3 ∨ e = 5) (h1 : ch_CTX a_line e → post (if e = 3 then 1 else 2)) (h0 : ¬ ch_CTX a_line e → post 0) : ∃ n, wX_castlingText_20 post f_clockTop f_numberTop f_strict f_side f_rights f_passant f_clock f_number f_lineLen f_outLen f_moveTotal f_movesKnown f_savedSide f_savedRights f_savedPassant f_savedClock f_savedNumber f_spellLen f_at (nI e) f_writtenMark f_writtenCastling f_writtenPromotion f_writtenTarget f_writtenCapture f_writtenRank f_writtenFile f_writtenKind a_board a_line a_out a_moves a_savedBoard a_spell n 0 := by
  refine ⟨e + 1, ?_⟩
  refine ch_fn (σ := Unit) (fun n _ z => wX_castlingText_20 post f_clockTop f_numberTop f_strict f_side f_rights f_passant f_clock f_number f_lineLen f_outLen f_moveTotal f_movesKnown f_savedSide f_savedRights f_savedPassant f_savedClock f_savedNumber f_spellLen f_at (nI e) f_writtenMark f_writtenCastling f_writtenPromotion f_writtenTarget f_writtenCapture f_writtenRank f_writtenFile f_writtenKind a_board a_line a_out a_moves a_savedBoard a_spell n z) (fun i _ => ∀ j, j < i → a_line j = if j % 2 = 0 then 79 else 45) e ?_ ?_ e 0 () (by omega) (fun j hj => by omega)
  · intro n _ hn
    have h := h1 hn
    refine br_t (Int32.le_refl _) (pk_eq e 3 (fun z => ?_) (fun z => ?_))
    · rw [if_pos z] at h; exact h
    · rw [if_neg z] at h; exact h
  · intro n i _ hi hn ih
    have st : ∀ z : Int32, z = (if i % 2 = 0 then 79 else 45) → wX_castlingText_41 post (wX_castlingText_20 post f_clockTop f_numberTop f_strict f_side f_rights f_passant f_clock f_number f_lineLen f_outLen f_moveTotal f_movesKnown f_savedSide f_savedRights f_savedPassant f_savedClock f_savedNumber f_spellLen f_at (nI e) f_writtenMark f_writtenCastling f_writtenPromotion f_writtenTarget f_writtenCapture f_writtenRank f_writtenFile f_writtenKind a_board a_line a_out a_moves a_savedBoard a_spell n) (nI i) z f_clockTop f_numberTop f_strict f_side f_rights f_passant f_clock f_number f_lineLen f_outLen f_moveTotal f_movesKnown f_savedSide f_savedRights f_savedPassant f_savedClock f_savedNumber f_spellLen f_at (nI e) f_writtenMark f_writtenCastling f_writtenPromotion f_writtenTarget f_writtenCapture f_writtenRank f_writtenFile f_writtenKind a_board a_line a_out a_moves a_savedBoard a_spell := by
      intro z ez
      unfold wX_castlingText_41
      rw [nI_clamp (by omega)]
      refine ⟨vp_in_nI (by omega) (by omega), br_c (fun c => nm_r (nI_1 i) (ih () (fun j hj => ?_))) (fun c => h0 (fun w => c (by rw [ez]; exact w i hi)))⟩
      by_cases e2 : j = i
      · rw [e2, c, ez]
      · exact hn j (by omega)
    refine br_f (nI_ge hi (by omega)) ?_
    rw [ch_nI_a1 (by omega)]
    exact pk_eq (i % 2) 0 (fun z => st 79 (by rw [if_pos z])) (fun z => st 45 (by rw [if_neg z]))
theorem ch_x_castlingText {post : Int32 → Prop} {e : Nat} (he : e ≤ 96) (h3 : e = 3 → ch_CTX a_line 3 → post 1) (h5 : e = 5 → ch_CTX a_line 5 → post 2) (h0 : ¬ (e = 3 ∧ ch_CTX a_line 3) → ¬ (e = 5 ∧ ch_CTX a_line 5) → post 0) : wpX_castlingText post (f_clockTop, f_numberTop, f_strict, f_side, f_rights, f_passant, f_clock, f_number, f_lineLen, f_outLen, f_moveTotal, f_movesKnown, f_savedSide, f_savedRights, f_savedPassant, f_savedClock, f_savedNumber, f_spellLen, f_at, nI e, f_writtenMark, f_writtenCastling, f_writtenPromotion, f_writtenTarget, f_writtenCapture, f_writtenRank, f_writtenFile, f_writtenKind, a_board, a_line, a_out, a_moves, a_savedBoard, a_spell) := by
  refine pk_eq e 3 (fun z => ch_x_ct20 (Or.inl z) (fun w => ?_) (fun w => ?_)) (fun z => pk_eq e 5 (fun z2 => ch_x_ct20 (Or.inr z2) (fun w => ?_) (fun w => ?_)) (fun z2 => h0 (fun w => z w.1) (fun w => z2 w.1)))
  · rw [if_pos z]; exact h3 z (z ▸ w)
  · exact h0 (fun y => w (z ▸ y.2)) (fun y => by omega)
  · rw [if_neg (by omega)]; exact h5 z2 (z2 ▸ w)
  · exact h0 (fun y => z y.1) (fun y => w (z2 ▸ y.2))
end
section
variable {B : Nat → Nat} {sd rt ep ck ct nb nt st ll ol : Nat} {f_moveTotal f_movesKnown f_savedSide f_savedRights f_savedPassant f_savedClock f_savedNumber f_spellLen f_at f_end f_writtenMark f_writtenCastling f_writtenPromotion f_writtenTarget f_writtenCapture f_writtenRank f_writtenFile f_writtenKind : Int32} {a_board a_line a_out a_moves a_savedBoard a_spell : Nat → Int32} {f_textLen f_newSide f_newRights f_newEp f_newClock f_newNumber : Int32} {a_men a_text a_cut : Nat → Int32}

theorem ch_pm_origin {e : Nat} (he : e ≤ 96) : ∃ (e' : Nat) (cp rk fl kd : Int32), e' ≤ 96 ∧ (∀ post : SX → Prop, post (nI ct, nI nt, nI st, nI sd, nI rt, ch_epI ep, nI ck, nI nb, nI ll, nI ol, f_moveTotal, f_movesKnown, f_savedSide, f_savedRights, f_savedPassant, f_savedClock, f_savedNumber, f_spellLen, f_at, nI e', f_writtenMark, f_writtenCastling, f_writtenPromotion, f_writtenTarget, cp, rk, fl, kd, a_board, a_line, a_out, a_moves, a_savedBoard, a_spell) → wpX_takeOrigin post (nI ct, nI nt, nI st, nI sd, nI rt, ch_epI ep, nI ck, nI nb, nI ll, nI ol, f_moveTotal, f_movesKnown, f_savedSide, f_savedRights, f_savedPassant, f_savedClock, f_savedNumber, f_spellLen, f_at, nI e, f_writtenMark, f_writtenCastling, f_writtenPromotion, f_writtenTarget, f_writtenCapture, f_writtenRank, f_writtenFile, f_writtenKind, a_board, a_line, a_out, a_moves, a_savedBoard, a_spell)) ∧ (∀ (post : Int32 → SY → Prop) x2 x3 x4 x5, wY_readMove_559 post (nI e') x2 x3 x4 x5 cp rk fl kd (nI sd) (nI rt) (ch_epI ep) (nI ck) (nI nb) (nI ll) (nI ol) (nI ct) (nI nt) (nI st) f_textLen f_newSide f_newRights f_newEp f_newClock f_newNumber a_men a_line a_out a_text a_cut → ((nI e ≤ 0 → wY_readMove_384 post (nI e) x2 x3 x4 x5 f_writtenCapture f_writtenRank f_writtenFile f_writtenKind (nI sd) (nI rt) (ch_epI ep) (nI ck) (nI nb) (nI ll) (nI ol) (nI ct) (nI nt) (nI st) f_textLen f_newSide f_newRights f_newEp f_newClock f_newNumber a_men a_line a_out a_text a_cut) ∧ (¬ nI e ≤ 0 → (vp_in (nI e - 1) 96 ∧ ((a_line (nI e - 1).toNatClampNeg = 120 → ∀ x1 : Int32, x1 = nI e - 1 → wY_readMove_384 post x1 x2 x3 x4 x5 1 f_writtenRank f_writtenFile f_writtenKind (nI sd) (nI rt) (ch_epI ep) (nI ck) (nI nb) (nI ll) (nI ol) (nI ct) (nI nt) (nI st) f_textLen f_newSide f_newRights f_newEp f_newClock f_newNumber a_men a_line a_out a_text a_cut) ∧ (¬ a_line (nI e - 1).toNatClampNeg = 120 → wY_readMove_384 post (nI e) x2 x3 x4 x5 f_writtenCapture f_writtenRank f_writtenFile f_writtenKind (nI sd) (nI rt) (ch_epI ep) (nI ck) (nI nb) (nI ll) (nI ol) (nI ct) (nI nt) (nI st) f_textLen f_newSide f_newRights f_newEp f_newClock f_newNumber a_men a_line a_out a_text a_cut)))))) := by
  have tl : ∀ (e1 : Nat) (cp : Int32), e1 ≤ 96 → ∃ (e' : Nat) (rk fl kd : Int32), e' ≤ 96 ∧ (∀ post : SX → Prop, post (nI ct, nI nt, nI st, nI sd, nI rt, ch_epI ep, nI ck, nI nb, nI ll, nI ol, f_moveTotal, f_movesKnown, f_savedSide, f_savedRights, f_savedPassant, f_savedClock, f_savedNumber, f_spellLen, f_at, nI e', f_writtenMark, f_writtenCastling, f_writtenPromotion, f_writtenTarget, cp, rk, fl, kd, a_board, a_line, a_out, a_moves, a_savedBoard, a_spell) → wX_takeOrigin_26 post (nI ct) (nI nt) (nI st) (nI sd) (nI rt) (ch_epI ep) (nI ck) (nI nb) (nI ll) (nI ol) f_moveTotal f_movesKnown f_savedSide f_savedRights f_savedPassant f_savedClock f_savedNumber f_spellLen f_at (nI e1) f_writtenMark f_writtenCastling f_writtenPromotion f_writtenTarget cp f_writtenRank f_writtenFile f_writtenKind a_board a_line a_out a_moves a_savedBoard a_spell) ∧ (∀ (post : Int32 → SY → Prop) x2 x3 x4 x5, wY_readMove_559 post (nI e') x2 x3 x4 x5 cp rk fl kd (nI sd) (nI rt) (ch_epI ep) (nI ck) (nI nb) (nI ll) (nI ol) (nI ct) (nI nt) (nI st) f_textLen f_newSide f_newRights f_newEp f_newClock f_newNumber a_men a_line a_out a_text a_cut → wY_readMove_384 post (nI e1) x2 x3 x4 x5 cp f_writtenRank f_writtenFile f_writtenKind (nI sd) (nI rt) (ch_epI ep) (nI ck) (nI nb) (nI ll) (nI ol) (nI ct) (nI nt) (nI st) f_textLen f_newSide f_newRights f_newEp f_newClock f_newNumber a_men a_line a_out a_text a_cut) := by
    intro e1 cp h1
    obtain ⟨e2, rk, h2, aX, aY⟩ := ch_pm_rank h1
    obtain ⟨e3, fl, h3, bX, bY⟩ := ch_pm_file h2
    obtain ⟨e4, kd, h4, cX, cY⟩ := ch_pm_kind h3
    exact ⟨e4, rk, fl, kd, h4, fun post h => aX post (bX post (cX post h)), fun post x2 x3 x4 x5 h => aY post _ _ _ _ _ _ _ (bY post _ _ _ _ _ _ _ (cY post _ _ _ _ _ _ _ h))⟩
  by_cases z : e = 0
  · subst z
    obtain ⟨e', rk, fl, kd, h', aX, aY⟩ := tl 0 f_writtenCapture (by omega)
    refine ⟨e', f_writtenCapture, rk, fl, kd, h', fun post h => ?_, fun post x2 x3 x4 x5 h => br_t (by decide) (aY post x2 x3 x4 x5 h)⟩
    unfold wpX_takeOrigin
    exact ch_x_last (by omega) (fun _ => br_f (by decide) (aX post h)) (fun w => by omega)
  · have p0 : ¬ nI e ≤ (0 : Int32) := nI_ge (a := 0) (by omega) (by omega)
    have vv : vp_in (nI (e - 1)) 96 := vp_in_nI (by omega) (by omega)
    by_cases c : a_line (e - 1) = 120
    · obtain ⟨e', rk, fl, kd, h', aX, aY⟩ := tl (e - 1) 1 (by omega)
      refine ⟨e', 1, rk, fl, kd, h', fun post h => ?_, fun post x2 x3 x4 x5 h => br_f p0 ?_⟩
      · unfold wpX_takeOrigin
        exact ch_x_last he (fun w => absurd w z) (fun _ => br_t c (nm_r (ch_e_1 (by omega)) (aX post h)))
      · rw [ch_e_1 (by omega), nI_clamp (by omega)]
        exact ⟨vv, br_t c (nm_e (aY post x2 x3 x4 x5 h))⟩
    · obtain ⟨e', rk, fl, kd, h', aX, aY⟩ := tl e f_writtenCapture he
      refine ⟨e', f_writtenCapture, rk, fl, kd, h', fun post h => ?_, fun post x2 x3 x4 x5 h => br_f p0 ?_⟩
      · unfold wpX_takeOrigin
        exact ch_x_last he (fun w => absurd w z) (fun _ => br_f c (aX post h))
      · rw [ch_e_1 (by omega), nI_clamp (by omega)]
        exact ⟨vv, br_f c (aY post x2 x3 x4 x5 h)⟩
/-- target and origin: bad, or the parts -/
theorem ch_pm_target {e : Nat} (he : e ≤ 96) : ((∀ post : Int32 → SX → Prop, post 0 (nI ct, nI nt, nI st, nI sd, nI rt, ch_epI ep, nI ck, nI nb, nI ll, nI ol, f_moveTotal, f_movesKnown, f_savedSide, f_savedRights, f_savedPassant, f_savedClock, f_savedNumber, f_spellLen, f_at, nI e, f_writtenMark, f_writtenCastling, f_writtenPromotion, f_writtenTarget, f_writtenCapture, f_writtenRank, f_writtenFile, f_writtenKind, a_board, a_line, a_out, a_moves, a_savedBoard, a_spell) → wpX_takeTarget post (nI ct, nI nt, nI st, nI sd, nI rt, ch_epI ep, nI ck, nI nb, nI ll, nI ol, f_moveTotal, f_movesKnown, f_savedSide, f_savedRights, f_savedPassant, f_savedClock, f_savedNumber, f_spellLen, f_at, nI e, f_writtenMark, f_writtenCastling, f_writtenPromotion, f_writtenTarget, f_writtenCapture, f_writtenRank, f_writtenFile, f_writtenKind, a_board, a_line, a_out, a_moves, a_savedBoard, a_spell)) ∧ (∀ (post : Int32 → SY → Prop) x2 x3 x4, post (-3) (nI sd, nI rt, ch_epI ep, nI ck, nI nb, nI ll, nI ol, nI ct, nI nt, nI st, f_textLen, f_newSide, f_newRights, f_newEp, f_newClock, f_newNumber, a_men, a_line, a_out, a_text, a_cut) → wY_readMove_265 post (nI e) x2 x3 x4 f_writtenCapture f_writtenRank f_writtenFile f_writtenKind (nI sd) (nI rt) (ch_epI ep) (nI ck) (nI nb) (nI ll) (nI ol) (nI ct) (nI nt) (nI st) f_textLen f_newSide f_newRights f_newEp f_newClock f_newNumber a_men a_line a_out a_text a_cut)) ∨ (∃ (e1 e' : Nat) (tg cp rk fl kd : Int32), e' ≤ 96 ∧ (∀ post : Int32 → SX → Prop, post 1 (nI ct, nI nt, nI st, nI sd, nI rt, ch_epI ep, nI ck, nI nb, nI ll, nI ol, f_moveTotal, f_movesKnown, f_savedSide, f_savedRights, f_savedPassant, f_savedClock, f_savedNumber, f_spellLen, f_at, nI e1, f_writtenMark, f_writtenCastling, f_writtenPromotion, tg, f_writtenCapture, f_writtenRank, f_writtenFile, f_writtenKind, a_board, a_line, a_out, a_moves, a_savedBoard, a_spell) → wpX_takeTarget post (nI ct, nI nt, nI st, nI sd, nI rt, ch_epI ep, nI ck, nI nb, nI ll, nI ol, f_moveTotal, f_movesKnown, f_savedSide, f_savedRights, f_savedPassant, f_savedClock, f_savedNumber, f_spellLen, f_at, nI e, f_writtenMark, f_writtenCastling, f_writtenPromotion, f_writtenTarget, f_writtenCapture, f_writtenRank, f_writtenFile, f_writtenKind, a_board, a_line, a_out, a_moves, a_savedBoard, a_spell)) ∧ (∀ post : SX → Prop, post (nI ct, nI nt, nI st, nI sd, nI rt, ch_epI ep, nI ck, nI nb, nI ll, nI ol, f_moveTotal, f_movesKnown, f_savedSide, f_savedRights, f_savedPassant, f_savedClock, f_savedNumber, f_spellLen, f_at, nI e', f_writtenMark, f_writtenCastling, f_writtenPromotion, tg, cp, rk, fl, kd, a_board, a_line, a_out, a_moves, a_savedBoard, a_spell) → wpX_takeOrigin post (nI ct, nI nt, nI st, nI sd, nI rt, ch_epI ep, nI ck, nI nb, nI ll, nI ol, f_moveTotal, f_movesKnown, f_savedSide, f_savedRights, f_savedPassant, f_savedClock, f_savedNumber, f_spellLen, f_at, nI e1, f_writtenMark, f_writtenCastling, f_writtenPromotion, tg, f_writtenCapture, f_writtenRank, f_writtenFile, f_writtenKind, a_board, a_line, a_out, a_moves, a_savedBoard, a_spell)) ∧ (∀ (post : Int32 → SY → Prop) x2 x3 x4, wY_readMove_559 post (nI e') x2 x3 x4 tg cp rk fl kd (nI sd) (nI rt) (ch_epI ep) (nI ck) (nI nb) (nI ll) (nI ol) (nI ct) (nI nt) (nI st) f_textLen f_newSide f_newRights f_newEp f_newClock f_newNumber a_men a_line a_out a_text a_cut → wY_readMove_265 post (nI e) x2 x3 x4 f_writtenCapture f_writtenRank f_writtenFile f_writtenKind (nI sd) (nI rt) (ch_epI ep) (nI ck) (nI nb) (nI ll) (nI ol) (nI ct) (nI nt) (nI st) f_textLen f_newSide f_newRights f_newEp f_newClock f_newNumber a_men a_line a_out a_text a_cut)) := by
  by_cases z : 2 ≤ e
  · have b2 : (2 : Int32) ≤ nI e := nI_le (a := 2) z (by omega)
    have v1 : vp_in (nI (e - 1)) 96 := vp_in_nI (by omega) (by omega)
    have v2 : vp_in (nI (e - 2)) 96 := vp_in_nI (by omega) (by omega)
    have k1 : nI e - 1 = nI (e - 1) := ch_e_1 (by omega)
    have k2 : nI e - 2 = nI (e - 2) := ch_e_2 z
    have q1 : (nI (e - 1)).toNatClampNeg = e - 1 := nI_clamp (by omega)
    have q2 : (nI (e - 2)).toNatClampNeg = e - 2 := nI_clamp (by omega)
    by_cases c1 : a_line (e - 2) < 97
    · refine Or.inl ⟨fun post h => br_t b2 ?_, fun post x2 x3 x4 h => br_t b2 ?_⟩
      · rw [k1, k2, q1, q2]; exact ⟨v2, nm_e ⟨v1, nm_e (br_t c1 h)⟩⟩
      · rw [k1, k2, q1, q2]; exact ⟨v2, br_t c1 h⟩
    by_cases c2 : 104 < a_line (e - 2)
    · refine Or.inl ⟨fun post h => br_t b2 ?_, fun post x2 x3 x4 h => br_t b2 ?_⟩
      · rw [k1, k2, q1, q2]; exact ⟨v2, nm_e ⟨v1, nm_e (br_f c1 (br_t c2 h))⟩⟩
      · rw [k1, k2, q1, q2]; exact ⟨v2, br_f c1 ⟨v2, br_t c2 h⟩⟩
    by_cases c3 : a_line (e - 1) < 49
    · refine Or.inl ⟨fun post h => br_t b2 ?_, fun post x2 x3 x4 h => br_t b2 ?_⟩
      · rw [k1, k2, q1, q2]; exact ⟨v2, nm_e ⟨v1, nm_e (br_f c1 (br_f c2 (br_t c3 h)))⟩⟩
      · rw [k1, k2, q1, q2]; exact ⟨v2, br_f c1 ⟨v2, br_f c2 ⟨v1, br_t c3 h⟩⟩⟩
    by_cases c4 : a_line (e - 1) ≤ 56
    · obtain ⟨e', cp, rk, fl, kd, h', oX, oY⟩ := ch_pm_origin (show e - 2 ≤ 96 by omega)
      refine Or.inr ⟨e - 2, e', (8 * (a_line (e - 1) - 49)) + (a_line (e - 2) - 97), cp, rk, fl, kd, h', fun post h => br_t b2 ?_, fun post h => oX post h, fun post x2 x3 x4 h => br_t b2 ?_⟩
      · rw [k1, k2, q1, q2]; exact ⟨v2, nm_e ⟨v1, nm_e (br_f c1 (br_f c2 (br_f c3 (br_t c4 (nm_e (nm_e h))))))⟩⟩
      · rw [k1, k2, q1, q2]; exact ⟨v2, br_f c1 ⟨v2, br_f c2 ⟨v1, br_f c3 ⟨v1, br_t c4 ⟨v1, v2, nm_e (nm_e (oY post x2 x3 x4 _ h))⟩⟩⟩⟩⟩
    · refine Or.inl ⟨fun post h => br_t b2 ?_, fun post x2 x3 x4 h => br_t b2 ?_⟩
      · rw [k1, k2, q1, q2]; exact ⟨v2, nm_e ⟨v1, nm_e (br_f c1 (br_f c2 (br_f c3 (br_f c4 h))))⟩⟩
      · rw [k1, k2, q1, q2]; exact ⟨v2, br_f c1 ⟨v2, br_f c2 ⟨v1, br_f c3 ⟨v1, br_f c4 h⟩⟩⟩⟩
  · have b2 : ¬ (2 : Int32) ≤ nI e := nI_ge (b := 2) (by omega) (by omega)
    exact Or.inl ⟨fun post h => br_f b2 h, fun post x2 x3 x4 h => br_f b2 h⟩
theorem ch_pm_promo {e : Nat} (he : e ≤ 96) : ((∀ post : Int32 → SX → Prop, post 0 (nI ct, nI nt, nI st, nI sd, nI rt, ch_epI ep, nI ck, nI nb, nI ll, nI ol, f_moveTotal, f_movesKnown, f_savedSide, f_savedRights, f_savedPassant, f_savedClock, f_savedNumber, f_spellLen, f_at, nI e, f_writtenMark, f_writtenCastling, f_writtenPromotion, f_writtenTarget, f_writtenCapture, f_writtenRank, f_writtenFile, f_writtenKind, a_board, a_line, a_out, a_moves, a_savedBoard, a_spell) → wpX_takePromotion post (nI ct, nI nt, nI st, nI sd, nI rt, ch_epI ep, nI ck, nI nb, nI ll, nI ol, f_moveTotal, f_movesKnown, f_savedSide, f_savedRights, f_savedPassant, f_savedClock, f_savedNumber, f_spellLen, f_at, nI e, f_writtenMark, f_writtenCastling, f_writtenPromotion, f_writtenTarget, f_writtenCapture, f_writtenRank, f_writtenFile, f_writtenKind, a_board, a_line, a_out, a_moves, a_savedBoard, a_spell)) ∧ (∀ (post : Int32 → SY → Prop) x2 x5 x6 x7 x8 x9, post (-3) (nI sd, nI rt, ch_epI ep, nI ck, nI nb, nI ll, nI ol, nI ct, nI nt, nI st, f_textLen, f_newSide, f_newRights, f_newEp, f_newClock, f_newNumber, a_men, a_line, a_out, a_text, a_cut) → wY_readMove_174 post (nI e) x2 0 f_writtenPromotion x5 x6 x7 x8 x9 (nI sd) (nI rt) (ch_epI ep) (nI ck) (nI nb) (nI ll) (nI ol) (nI ct) (nI nt) (nI st) f_textLen f_newSide f_newRights f_newEp f_newClock f_newNumber a_men a_line a_out a_text a_cut)) ∨ (∃ (e' : Nat) (pr : Int32), e' ≤ 96 ∧ (∀ post : Int32 → SX → Prop, post 1 (nI ct, nI nt, nI st, nI sd, nI rt, ch_epI ep, nI ck, nI nb, nI ll, nI ol, f_moveTotal, f_movesKnown, f_savedSide, f_savedRights, f_savedPassant, f_savedClock, f_savedNumber, f_spellLen, f_at, nI e', f_writtenMark, f_writtenCastling, pr, f_writtenTarget, f_writtenCapture, f_writtenRank, f_writtenFile, f_writtenKind, a_board, a_line, a_out, a_moves, a_savedBoard, a_spell) → wpX_takePromotion post (nI ct, nI nt, nI st, nI sd, nI rt, ch_epI ep, nI ck, nI nb, nI ll, nI ol, f_moveTotal, f_movesKnown, f_savedSide, f_savedRights, f_savedPassant, f_savedClock, f_savedNumber, f_spellLen, f_at, nI e, f_writtenMark, f_writtenCastling, f_writtenPromotion, f_writtenTarget, f_writtenCapture, f_writtenRank, f_writtenFile, f_writtenKind, a_board, a_line, a_out, a_moves, a_savedBoard, a_spell)) ∧ (∀ (post : Int32 → SY → Prop) x2 x5 x6 x7 x8 x9, wY_readMove_265 post (nI e') x2 0 pr x6 x7 x8 x9 (nI sd) (nI rt) (ch_epI ep) (nI ck) (nI nb) (nI ll) (nI ol) (nI ct) (nI nt) (nI st) f_textLen f_newSide f_newRights f_newEp f_newClock f_newNumber a_men a_line a_out a_text a_cut → wY_readMove_174 post (nI e) x2 0 f_writtenPromotion x5 x6 x7 x8 x9 (nI sd) (nI rt) (ch_epI ep) (nI ck) (nI nb) (nI ll) (nI ol) (nI ct) (nI nt) (nI st) f_textLen f_newSide f_newRights f_newEp f_newClock f_newNumber a_men a_line a_out a_text a_cut)) := by
  by_cases z : e < 2
  · have b2 : nI e < (2 : Int32) := nI_lt (b := 2) z (by omega)
    exact Or.inr ⟨e, f_writtenPromotion, he, fun post h => br_t b2 h, fun post x2 x5 x6 x7 x8 x9 h => br_t rfl (br_t b2 h)⟩
  · have b2 : ¬ nI e < (2 : Int32) := nI_nlt (b := 2) (by omega) (by omega)
    have v1 : vp_in (nI (e - 1)) 96 := vp_in_nI (by omega) (by omega)
    have v2 : vp_in (nI (e - 2)) 96 := vp_in_nI (by omega) (by omega)
    have k1 : nI e - 1 = nI (e - 1) := ch_e_1 (by omega)
    have k2 : nI e - 2 = nI (e - 2) := ch_e_2 (by omega)
    have q1 : (nI (e - 1)).toNatClampNeg = e - 1 := nI_clamp (by omega)
    have q2 : (nI (e - 2)).toNatClampNeg = e - 2 := nI_clamp (by omega)
    by_cases c : a_line (e - 2) = 61
    · have ok : ∀ pr : Int32, ch_klt (a_line (e - 1)) = pr → ¬ pr < 2 → pr ≤ 5 → ∀ post : Int32 → SX → Prop, post 1 (nI ct, nI nt, nI st, nI sd, nI rt, ch_epI ep, nI ck, nI nb, nI ll, nI ol, f_moveTotal, f_movesKnown, f_savedSide, f_savedRights, f_savedPassant, f_savedClock, f_savedNumber, f_spellLen, f_at, nI (e - 2), f_writtenMark, f_writtenCastling, pr, f_writtenTarget, f_writtenCapture, f_writtenRank, f_writtenFile, f_writtenKind, a_board, a_line, a_out, a_moves, a_savedBoard, a_spell) → wpX_takePromotion post (nI ct, nI nt, nI st, nI sd, nI rt, ch_epI ep, nI ck, nI nb, nI ll, nI ol, f_moveTotal, f_movesKnown, f_savedSide, f_savedRights, f_savedPassant, f_savedClock, f_savedNumber, f_spellLen, f_at, nI e, f_writtenMark, f_writtenCastling, f_writtenPromotion, f_writtenTarget, f_writtenCapture, f_writtenRank, f_writtenFile, f_writtenKind, a_board, a_line, a_out, a_moves, a_savedBoard, a_spell) := by
        intro pr hp h2 h5 post h
        subst hp
        refine br_f b2 ?_
        rw [k1, k2, q1, q2]
        exact ⟨v2, br_t c ⟨v1, ch_x_kindOfLetter (br_f h2 (br_t h5 (nm_e h)))⟩⟩
      by_cases c78 : a_line (e - 1) = 78
      · refine Or.inr ⟨e - 2, 2, by omega, ok 2 (by rw [c78]; decide) (by decide) (by decide), fun post x2 x5 x6 x7 x8 x9 h => br_t rfl (br_f b2 ?_)⟩
        rw [k1, k2, q1, q2]
        exact ⟨v2, br_t c ⟨v1, nm_e (br_t c78 (nm_r k2 h))⟩⟩
      by_cases c66 : a_line (e - 1) = 66
      · refine Or.inr ⟨e - 2, 3, by omega, ok 3 (by rw [c66]; decide) (by decide) (by decide), fun post x2 x5 x6 x7 x8 x9 h => br_t rfl (br_f b2 ?_)⟩
        rw [k1, k2, q1, q2]
        exact ⟨v2, br_t c ⟨v1, nm_e (br_f c78 (br_t c66 (nm_r k2 h)))⟩⟩
      by_cases c82 : a_line (e - 1) = 82
      · refine Or.inr ⟨e - 2, 4, by omega, ok 4 (by rw [c82]; decide) (by decide) (by decide), fun post x2 x5 x6 x7 x8 x9 h => br_t rfl (br_f b2 ?_)⟩
        rw [k1, k2, q1, q2]
        exact ⟨v2, br_t c ⟨v1, nm_e (br_f c78 (br_f c66 (br_t c82 (nm_r k2 h))))⟩⟩
      by_cases c81 : a_line (e - 1) = 81
      · refine Or.inr ⟨e - 2, 5, by omega, ok 5 (by rw [c81]; decide) (by decide) (by decide), fun post x2 x5 x6 x7 x8 x9 h => br_t rfl (br_f b2 ?_)⟩
        rw [k1, k2, q1, q2]
        exact ⟨v2, br_t c ⟨v1, nm_e (br_f c78 (br_f c66 (br_f c82 (br_t c81 (nm_r k2 h)))))⟩⟩
      refine Or.inl ⟨fun post h => br_f b2 ?_, fun post x2 x5 x6 x7 x8 x9 h => br_t rfl (br_f b2 ?_)⟩
      · rw [k1, k2, q1, q2]
        refine ⟨v2, br_t c ⟨v1, ch_x_kindOfLetter ?_⟩⟩
        by_cases c75 : a_line (e - 1) = 75
        · rw [c75]
          exact br_f (by decide) (br_f (by decide) h)
        · have k0 : ch_klt (a_line (e - 1)) < 2 := by
            unfold ch_klt
            rw [if_neg c66, if_neg c75, if_neg c78]
            by_cases c80 : a_line (e - 1) = 80
            · rw [if_pos c80]; decide
            · rw [if_neg c80, if_neg c81, if_neg c82]; decide
          exact br_t k0 h
      · rw [k1, k2, q1, q2]
        exact ⟨v2, br_t c ⟨v1, nm_e (br_f c78 (br_f c66 (br_f c82 (br_f c81 h))))⟩⟩
    · refine Or.inr ⟨e, f_writtenPromotion, he, fun post h => br_f b2 ?_, fun post x2 x5 x6 x7 x8 x9 h => br_t rfl (br_f b2 ?_)⟩
      · rw [k2, q2]; exact ⟨v2, br_f c h⟩
      · rw [k2, q2]; exact ⟨v2, br_f c h⟩
theorem ch_ctx3 {l : Nat → Int32} : ch_CTX l 3 ↔ (l 0 = 79 ∧ l 1 = 45 ∧ l 2 = 79) := by
  constructor
  · intro h
    exact ⟨h 0 (by omega), h 1 (by omega), h 2 (by omega)⟩
  · rintro ⟨h0, h1, h2⟩ i hi
    have : i = 0 ∨ i = 1 ∨ i = 2 := by omega
    rcases this with rfl | rfl | rfl
    · exact h0
    · exact h1
    · exact h2
theorem ch_ctx5 {l : Nat → Int32} : ch_CTX l 5 ↔ (l 0 = 79 ∧ l 1 = 45 ∧ l 2 = 79 ∧ l 3 = 45 ∧ l 4 = 79) := by
  constructor
  · intro h
    exact ⟨h 0 (by omega), h 1 (by omega), h 2 (by omega), h 3 (by omega), h 4 (by omega)⟩
  · rintro ⟨h0, h1, h2, h3, h4⟩ i hi
    have : i = 0 ∨ i = 1 ∨ i = 2 ∨ i = 3 ∨ i = 4 := by omega
    rcases this with rfl | rfl | rfl | rfl | rfl
    · exact h0
    · exact h1
    · exact h2
    · exact h3
    · exact h4
theorem ch_y_111 {post : Int32 → SY → Prop} {e : Nat} {x2 x3 x4 x5 x6 x7 x8 x9 : Int32} (he : e ≤ 96) (h5 : e = 5 → ch_CTX a_line 5 → wY_readMove_174 post (nI e) x2 7 x4 x5 x6 x7 x8 x9 (nI sd) (nI rt) (ch_epI ep) (nI ck) (nI nb) (nI ll) (nI ol) (nI ct) (nI nt) (nI st) f_textLen f_newSide f_newRights f_newEp f_newClock f_newNumber a_men a_line a_out a_text a_cut) (h0 : ¬ (e = 5 ∧ ch_CTX a_line 5) → wY_readMove_174 post (nI e) x2 x3 x4 x5 x6 x7 x8 x9 (nI sd) (nI rt) (ch_epI ep) (nI ck) (nI nb) (nI ll) (nI ol) (nI ct) (nI nt) (nI st) f_textLen f_newSide f_newRights f_newEp f_newClock f_newNumber a_men a_line a_out a_text a_cut) : wY_readMove_111 post (nI e) x2 x3 x4 x5 x6 x7 x8 x9 (nI sd) (nI rt) (ch_epI ep) (nI ck) (nI nb) (nI ll) (nI ol) (nI ct) (nI nt) (nI st) f_textLen f_newSide f_newRights f_newEp f_newClock f_newNumber a_men a_line a_out a_text a_cut := by
  have c5 := @ch_ctx5 a_line
  refine pk_eq e 5 (fun z => br_c (fun d0 => br_c (fun d1 => br_c (fun d2 => br_c (fun d3 => br_c (fun d4 => h5 z (c5.mpr ⟨d0, d1, d2, d3, d4⟩)) (fun d => h0 (fun w => d (c5.mp w.2).2.2.2.2))) (fun d => h0 (fun w => d (c5.mp w.2).2.2.2.1))) (fun d => h0 (fun w => d (c5.mp w.2).2.2.1))) (fun d => h0 (fun w => d (c5.mp w.2).2.1))) (fun d => h0 (fun w => d (c5.mp w.2).1))) (fun z => h0 (fun w => z w.1))
theorem ch_y_70 {post : Int32 → SY → Prop} {e : Nat} {x2 x4 x5 x6 x7 x8 x9 : Int32} (he : e ≤ 96) (h3 : e = 3 → ch_CTX a_line 3 → wY_readMove_174 post (nI e) x2 6 x4 x5 x6 x7 x8 x9 (nI sd) (nI rt) (ch_epI ep) (nI ck) (nI nb) (nI ll) (nI ol) (nI ct) (nI nt) (nI st) f_textLen f_newSide f_newRights f_newEp f_newClock f_newNumber a_men a_line a_out a_text a_cut) (h5 : e = 5 → ch_CTX a_line 5 → wY_readMove_174 post (nI e) x2 7 x4 x5 x6 x7 x8 x9 (nI sd) (nI rt) (ch_epI ep) (nI ck) (nI nb) (nI ll) (nI ol) (nI ct) (nI nt) (nI st) f_textLen f_newSide f_newRights f_newEp f_newClock f_newNumber a_men a_line a_out a_text a_cut) (h0 : ¬ (e = 3 ∧ ch_CTX a_line 3) → ¬ (e = 5 ∧ ch_CTX a_line 5) → wY_readMove_174 post (nI e) x2 0 x4 x5 x6 x7 x8 x9 (nI sd) (nI rt) (ch_epI ep) (nI ck) (nI nb) (nI ll) (nI ol) (nI ct) (nI nt) (nI st) f_textLen f_newSide f_newRights f_newEp f_newClock f_newNumber a_men a_line a_out a_text a_cut) : wY_readMove_70 post (nI e) x2 0 x4 x5 x6 x7 x8 x9 (nI sd) (nI rt) (ch_epI ep) (nI ck) (nI nb) (nI ll) (nI ol) (nI ct) (nI nt) (nI st) f_textLen f_newSide f_newRights f_newEp f_newClock f_newNumber a_men a_line a_out a_text a_cut := by
  have c3 := @ch_ctx3 a_line
  have no : ¬ (e = 3 ∧ ch_CTX a_line 3) → wY_readMove_111 post (nI e) x2 0 x4 x5 x6 x7 x8 x9 (nI sd) (nI rt) (ch_epI ep) (nI ck) (nI nb) (nI ll) (nI ol) (nI ct) (nI nt) (nI st) f_textLen f_newSide f_newRights f_newEp f_newClock f_newNumber a_men a_line a_out a_text a_cut := fun w => ch_y_111 he h5 (h0 w)
  refine pk_eq e 3 (fun z => br_c (fun d0 => br_c (fun d1 => br_c (fun d2 => ch_y_111 he (fun w => by omega) (fun _ => h3 z (c3.mpr ⟨d0, d1, d2⟩))) (fun d => no (fun w => d (c3.mp w.2).2.2))) (fun d => no (fun w => d (c3.mp w.2).2.1))) (fun d => no (fun w => d (c3.mp w.2).1))) (fun z => no (fun w => z w.1))
theorem ch_pm_mark (hll : ll ≤ 96) : ∃ (e : Nat) (mk : Int32), e ≤ 96 ∧ (∀ post : Int32 → SX → Prop, wX_parseMove_80 post (nI ct) (nI nt) (nI st) (nI sd) (nI rt) (ch_epI ep) (nI ck) (nI nb) (nI ll) (nI ol) f_moveTotal f_movesKnown f_savedSide f_savedRights f_savedPassant f_savedClock f_savedNumber f_spellLen f_at (nI e) mk 0 0 (-1) 0 (-1) (-1) 1 a_board a_line a_out a_moves a_savedBoard a_spell → wpX_parseMove post (nI ct, nI nt, nI st, nI sd, nI rt, ch_epI ep, nI ck, nI nb, nI ll, nI ol, f_moveTotal, f_movesKnown, f_savedSide, f_savedRights, f_savedPassant, f_savedClock, f_savedNumber, f_spellLen, f_at, f_end, f_writtenMark, f_writtenCastling, f_writtenPromotion, f_writtenTarget, f_writtenCapture, f_writtenRank, f_writtenFile, f_writtenKind, a_board, a_line, a_out, a_moves, a_savedBoard, a_spell)) ∧ (∀ post : Int32 → SY → Prop, wY_readMove_70 post (nI e) mk 0 0 (-1) 0 (-1) (-1) 1 (nI sd) (nI rt) (ch_epI ep) (nI ck) (nI nb) (nI ll) (nI ol) (nI ct) (nI nt) (nI st) f_textLen f_newSide f_newRights f_newEp f_newClock f_newNumber a_men a_line a_out a_text a_cut → wpY_readMove post (nI sd, nI rt, ch_epI ep, nI ck, nI nb, nI ll, nI ol, nI ct, nI nt, nI st, f_textLen, f_newSide, f_newRights, f_newEp, f_newClock, f_newNumber, a_men, a_line, a_out, a_text, a_cut)) := by
  by_cases z : ll = 0
  · subst z
    refine ⟨0, 0, by omega, fun post h => ?_, fun post h => br_t (by decide) h⟩
    unfold wpX_parseMove
    exact ch_x_last (by omega) (fun _ => br_f (by decide) (br_f (by decide) h)) (fun w => by omega)
  · have p0 : ¬ nI ll ≤ (0 : Int32) := nI_ge (a := 0) (by omega) (by omega)
    have vv : vp_in (nI (ll - 1)) 96 := vp_in_nI (by omega) (by omega)
    have k1 : nI ll - 1 = nI (ll - 1) := ch_e_1 (by omega)
    have q1 : (nI (ll - 1)).toNatClampNeg = ll - 1 := nI_clamp (by omega)
    by_cases c1 : a_line (ll - 1) = 43
    · refine ⟨ll - 1, a_line (ll - 1), by omega, fun post h => ?_, fun post h => br_f p0 ?_⟩
      · unfold wpX_parseMove
        exact ch_x_last hll (fun w => absurd w z) (fun _ => br_t c1 (nm_r k1 h))
      · unfold wY_readMove_57
        rw [k1, q1]
        exact ⟨vv, br_t c1 ⟨vv, nm_e (nm_e h)⟩⟩
    · by_cases c2 : a_line (ll - 1) = 35
      · refine ⟨ll - 1, a_line (ll - 1), by omega, fun post h => ?_, fun post h => br_f p0 ?_⟩
        · unfold wpX_parseMove
          exact ch_x_last hll (fun w => absurd w z) (fun _ => br_f c1 (br_t c2 (nm_r k1 h)))
        · unfold wY_readMove_57
          rw [k1, q1]
          exact ⟨vv, br_f c1 ⟨vv, br_t c2 ⟨vv, nm_e (nm_e h)⟩⟩⟩
      · refine ⟨ll, 0, hll, fun post h => ?_, fun post h => br_f p0 ?_⟩
        · unfold wpX_parseMove
          exact ch_x_last hll (fun w => absurd w z) (fun _ => br_f c1 (br_f c2 h))
        · rw [k1, q1]
          exact ⟨vv, br_f c1 ⟨vv, br_f c2 h⟩⟩
/-- the castling code of the reference -/
def ch_yc (cs : Nat) : Nat := if cs = 0 then 0 else 5 + cs
/-- the whole text: bad, or the same parts -/
theorem ch_pm_parse (hll : ll ≤ 96) : ((∀ post : Int32 → SX → Prop, (∀ e w1 w2 w3 w4 w5 w6 w7 w8, post (-3) (nI ct, nI nt, nI st, nI sd, nI rt, ch_epI ep, nI ck, nI nb, nI ll, nI ol, f_moveTotal, f_movesKnown, f_savedSide, f_savedRights, f_savedPassant, f_savedClock, f_savedNumber, f_spellLen, f_at, e, w1, w2, w3, w4, w5, w6, w7, w8, a_board, a_line, a_out, a_moves, a_savedBoard, a_spell)) → wpX_parseMove post (nI ct, nI nt, nI st, nI sd, nI rt, ch_epI ep, nI ck, nI nb, nI ll, nI ol, f_moveTotal, f_movesKnown, f_savedSide, f_savedRights, f_savedPassant, f_savedClock, f_savedNumber, f_spellLen, f_at, f_end, f_writtenMark, f_writtenCastling, f_writtenPromotion, f_writtenTarget, f_writtenCapture, f_writtenRank, f_writtenFile, f_writtenKind, a_board, a_line, a_out, a_moves, a_savedBoard, a_spell)) ∧ (∀ post : Int32 → SY → Prop, post (-3) (nI sd, nI rt, ch_epI ep, nI ck, nI nb, nI ll, nI ol, nI ct, nI nt, nI st, f_textLen, f_newSide, f_newRights, f_newEp, f_newClock, f_newNumber, a_men, a_line, a_out, a_text, a_cut) → wpY_readMove post (nI sd, nI rt, ch_epI ep, nI ck, nI nb, nI ll, nI ol, nI ct, nI nt, nI st, f_textLen, f_newSide, f_newRights, f_newEp, f_newClock, f_newNumber, a_men, a_line, a_out, a_text, a_cut))) ∨ (∃ (e cs : Nat) (mk pr tg cp rk fl kd : Int32), cs < 3 ∧ (∀ post : Int32 → SX → Prop, post 0 (nI ct, nI nt, nI st, nI sd, nI rt, ch_epI ep, nI ck, nI nb, nI ll, nI ol, f_moveTotal, f_movesKnown, f_savedSide, f_savedRights, f_savedPassant, f_savedClock, f_savedNumber, f_spellLen, f_at, nI e, mk, nI cs, pr, tg, cp, rk, fl, kd, a_board, a_line, a_out, a_moves, a_savedBoard, a_spell) → wpX_parseMove post (nI ct, nI nt, nI st, nI sd, nI rt, ch_epI ep, nI ck, nI nb, nI ll, nI ol, f_moveTotal, f_movesKnown, f_savedSide, f_savedRights, f_savedPassant, f_savedClock, f_savedNumber, f_spellLen, f_at, f_end, f_writtenMark, f_writtenCastling, f_writtenPromotion, f_writtenTarget, f_writtenCapture, f_writtenRank, f_writtenFile, f_writtenKind, a_board, a_line, a_out, a_moves, a_savedBoard, a_spell)) ∧ (∀ post : Int32 → SY → Prop, (∃ n575, wY_readMove_575 post mk (nI (ch_yc cs)) pr tg cp rk fl kd n575 0 0 0 (nI sd) (nI rt) (ch_epI ep) (nI ck) (nI nb) (nI ll) (nI ol) (nI ct) (nI nt) (nI st) f_textLen f_newSide f_newRights f_newEp f_newClock f_newNumber a_men a_line a_out a_text a_cut) → wpY_readMove post (nI sd, nI rt, ch_epI ep, nI ck, nI nb, nI ll, nI ol, nI ct, nI nt, nI st, f_textLen, f_newSide, f_newRights, f_newEp, f_newClock, f_newNumber, a_men, a_line, a_out, a_text, a_cut))) := by
  obtain ⟨e, mk, he, mX, mY⟩ := ch_pm_mark hll
  by_cases z3 : e = 3 ∧ ch_CTX a_line 3
  · refine Or.inr ⟨e, 1, mk, 0, -1, 0, -1, -1, 1, by omega, fun post h => mX post ?_, fun post h => mY post ?_⟩
    · unfold wX_parseMove_80
      exact ch_x_castlingText he (fun _ _ => br_f (by decide) h) (fun w _ => by omega) (fun w _ => absurd z3 w)
    · exact ch_y_70 he (fun _ _ => br_f (by decide) h) (fun w _ => by omega) (fun w _ => absurd z3 w)
  by_cases z5 : e = 5 ∧ ch_CTX a_line 5
  · refine Or.inr ⟨e, 2, mk, 0, -1, 0, -1, -1, 1, by omega, fun post h => mX post ?_, fun post h => mY post ?_⟩
    · unfold wX_parseMove_80
      exact ch_x_castlingText he (fun w _ => by omega) (fun _ _ => br_f (by decide) h) (fun _ w => absurd z5 w)
    · exact ch_y_70 he (fun w _ => by omega) (fun _ _ => br_f (by decide) h) (fun _ w => absurd z5 w)
  have cX : ∀ post : Int32 → Prop, post 0 → wpX_castlingText post (nI ct, nI nt, nI st, nI sd, nI rt, ch_epI ep, nI ck, nI nb, nI ll, nI ol, f_moveTotal, f_movesKnown, f_savedSide, f_savedRights, f_savedPassant, f_savedClock, f_savedNumber, f_spellLen, f_at, nI e, mk, 0, 0, (-1), 0, (-1), (-1), 1, a_board, a_line, a_out, a_moves, a_savedBoard, a_spell) := fun post h => ch_x_castlingText he (fun a b => absurd ⟨a, b⟩ z3) (fun a b => absurd ⟨a, b⟩ z5) (fun _ _ => h)
  have cY : ∀ post : Int32 → SY → Prop, wY_readMove_174 post (nI e) mk 0 0 (-1) 0 (-1) (-1) 1 (nI sd) (nI rt) (ch_epI ep) (nI ck) (nI nb) (nI ll) (nI ol) (nI ct) (nI nt) (nI st) f_textLen f_newSide f_newRights f_newEp f_newClock f_newNumber a_men a_line a_out a_text a_cut → wY_readMove_70 post (nI e) mk 0 0 (-1) 0 (-1) (-1) 1 (nI sd) (nI rt) (ch_epI ep) (nI ck) (nI nb) (nI ll) (nI ol) (nI ct) (nI nt) (nI st) f_textLen f_newSide f_newRights f_newEp f_newClock f_newNumber a_men a_line a_out a_text a_cut := fun post h => ch_y_70 he (fun a b => absurd ⟨a, b⟩ z3) (fun a b => absurd ⟨a, b⟩ z5) (fun _ _ => h)
  rcases ch_pm_promo he with ⟨pX, pY⟩ | ⟨e2, pr, he2, pX, pY⟩
  · refine Or.inl ⟨fun post h => mX post ?_, fun post h => mY post (cY post (pY post _ _ _ _ _ _ h))⟩
    unfold wX_parseMove_80
    refine cX _ (br_t rfl ?_)
    refine pX _ (br_t rfl ?_)
    exact h _ _ _ _ _ _ _ _ _
  rcases ch_pm_target he2 with ⟨tX, tY⟩ | ⟨e3, e4, tg, cp, rk, fl, kd, he4, tX, oX, tY⟩
  · refine Or.inl ⟨fun post h => mX post ?_, fun post h => mY post (cY post (pY post _ _ _ _ _ _ (tY post _ _ _ h)))⟩
    unfold wX_parseMove_80
    refine cX _ (br_t rfl ?_)
    refine pX _ (br_f (by decide) ?_)
    refine tX _ (br_t rfl ?_)
    exact h _ _ _ _ _ _ _ _ _
  by_cases z4 : e4 = 0
  · refine Or.inr ⟨e4, 0, mk, pr, tg, cp, rk, fl, kd, by omega, fun post h => mX post ?_, fun post h => mY post (cY post (pY post _ _ _ _ _ _ (tY post _ _ _ ?_)))⟩
    · unfold wX_parseMove_80
      refine cX _ (br_t rfl ?_)
      refine pX _ (br_f (by decide) ?_)
      refine tX _ (br_f (by decide) ?_)
      refine oX _ (br_t (by rw [z4]; rfl) ?_)
      exact h
    · exact br_t (by rw [z4]; rfl) h
  · have n4 : ¬ nI e4 = 0 := nI_ne0 (by omega) (by omega)
    refine Or.inl ⟨fun post h => mX post ?_, fun post h => mY post (cY post (pY post _ _ _ _ _ _ (tY post _ _ _ (br_f n4 h))))⟩
    unfold wX_parseMove_80
    refine cX _ (br_t rfl ?_)
    refine pX _ (br_f (by decide) ?_)
    refine tX _ (br_f (by decide) ?_)
    refine oX _ (br_f n4 ?_)
    exact h _ _ _ _ _ _ _ _ _
end
end
section
/-! which legal moves fit the written parts -/
def ch_PTS (B : Nat → Nat) (s t p x : Nat) (pr tg cp rk fl kd : Int32) : Prop := nI (B s % 8) = kd ∧ nI t = tg ∧ nI p = pr ∧ (rk < 0 ∨ nI (s / 8) = rk) ∧ (fl < 0 ∨ nI (s % 8) = fl) ∧ (cp = 0 ∨ (x = 5 ∨ B t ≠ 0))
def ch_FT (B : Nat → Nat) (sd rt ep cs : Nat) (mk pr tg cp rk fl kd : Int32) (s t p x : Nat) : Prop := ((cs ≠ 0 ∧ x = 5 + cs) ∨ (cs = 0 ∧ x ≠ 6 ∧ x ≠ 7 ∧ ch_PTS B s t p x pr tg cp rk fl kd)) ∧ (mk = 0 ∨ ch_MK B sd rt ep s t p x mk)
section
variable {f_clockTop f_numberTop f_strict f_side f_rights f_passant f_clock f_number f_lineLen f_outLen f_moveTotal f_movesKnown f_savedSide f_savedRights f_savedPassant f_savedClock f_savedNumber f_spellLen f_at f_end f_writtenMark f_writtenCastling f_writtenPromotion f_writtenTarget f_writtenCapture f_writtenRank f_writtenFile f_writtenKind : Int32} {a_board a_line a_out a_moves a_savedBoard a_spell : Nat → Int32}



theorem ch_x_fitsParts {post : Int32 → Prop} {B : Nat → Nat} {sd rt ep s t p x : Nat} {pr tg cp rk fl kd : Int32} (hB : ch_BX a_board B) (hV : ch_VB B) (hE : ch_EG B sd ep) (hs : s < 64) (ht : t < 64) (hsd : sd < 2) (hep : ep ≤ 64) (hT : ch_TP B sd rt ep s t p x) (h1 : ch_PTS B s t p x pr tg cp rk fl kd → post 1) (h0 : ¬ ch_PTS B s t p x pr tg cp rk fl kd → post 0) : wpX_fitsParts post (f_clockTop, f_numberTop, f_strict, nI sd, nI rt, ch_epI ep, f_clock, f_number, f_lineLen, f_outLen, f_moveTotal, f_movesKnown, f_savedSide, f_savedRights, f_savedPassant, f_savedClock, f_savedNumber, f_spellLen, f_at, f_end, f_writtenMark, f_writtenCastling, pr, tg, cp, rk, fl, kd, a_board, a_line, a_out, a_moves, a_savedBoard, a_spell) (nI s) (nI t) (nI p) := by
  have hvs := ch_VB_lt hV hs
  unfold wpX_fitsParts
  dsimp only
  rw [ch_bx hB hs, ch_nI_a7 (by omega), ch_nI_r3 (by omega)]
  have h73 : nI (B s % 8) = kd → nI t = tg → nI p = pr → (rk < 0 ∨ nI (s / 8) = rk) → (fl < 0 ∨ nI (s % 8) = fl) → wX_fitsParts_73 post (nI s) (nI t) f_clockTop f_numberTop f_strict (nI sd) (nI rt) (ch_epI ep) f_clock f_number f_lineLen f_outLen f_moveTotal f_movesKnown f_savedSide f_savedRights f_savedPassant f_savedClock f_savedNumber f_spellLen f_at f_end f_writtenMark f_writtenCastling pr tg cp rk fl kd a_board a_line a_out a_moves a_savedBoard a_spell := by
    intro a1 a2 a3 a4 a5
    unfold wX_fitsParts_73
    refine br_c (fun c => h1 ⟨a1, a2, a3, a4, a5, Or.inl c⟩) (fun c => ?_)
    exact ch_x_isCapture hB hV hE hs ht hsd hep hT (fun w => br_f (by decide) (h1 ⟨a1, a2, a3, a4, a5, Or.inr w⟩)) (fun w => br_t rfl (h0 (fun z => z.2.2.2.2.2.elim c w)))
  have h53 : nI (B s % 8) = kd → nI t = tg → nI p = pr → (rk < 0 ∨ nI (s / 8) = rk) → wX_fitsParts_53 post (nI s) (nI t) f_clockTop f_numberTop f_strict (nI sd) (nI rt) (ch_epI ep) f_clock f_number f_lineLen f_outLen f_moveTotal f_movesKnown f_savedSide f_savedRights f_savedPassant f_savedClock f_savedNumber f_spellLen f_at f_end f_writtenMark f_writtenCastling pr tg cp rk fl kd a_board a_line a_out a_moves a_savedBoard a_spell := by
    intro a1 a2 a3 a4
    unfold wX_fitsParts_53
    rw [ch_nI_a7 (by omega)]
    exact br_c (fun c => h73 a1 a2 a3 a4 (Or.inl c)) (fun c => br_c (fun c2 => h73 a1 a2 a3 a4 (Or.inr c2)) (fun c2 => h0 (fun z => z.2.2.2.2.1.elim c c2)))
  exact ⟨vp_in_nI hs (by omega), br_c (fun a1 => br_c (fun a2 => br_c (fun a3 => br_c (fun c => h53 a1 a2 a3 (Or.inl c)) (fun c => br_c (fun c2 => h53 a1 a2 a3 (Or.inr c2)) (fun c2 => h0 (fun z => z.2.2.2.1.elim c c2)))) (fun a3 => h0 (fun z => a3 z.2.2.1))) (fun a2 => h0 (fun z => a2 z.2.1))) (fun a1 => h0 (fun z => a1 z.1))⟩
theorem ch_x_fits {post : Int32 → SX → Prop} {B : Nat → Nat} {sd rt ep s t p x cs ck ct nb nt : Nat} {mk pr tg cp rk fl kd : Int32} (hB : ch_BX a_board B) (hP : ch_POS B sd rt ep) (hs : s < 64) (ht : t < 64) (hp : p < 8) (hck : ck < 100000) (hct : ct < 100000) (hnb : nb < 100000) (hnt : nt < 100000) (hcs : cs < 3) (hT : ch_TP B sd rt ep s t p x) (hq : ∀ q, ch_K1 (ch_AF B sd s t p x) sd q → ¬ ch_AT (ch_AF B sd s t p x) q (1 - sd)) (h1 : ch_FT B sd rt ep cs mk pr tg cp rk fl kd s t p x → ∀ s1 s2 s3 s4 s5 sb, post 1 (nI ct, nI nt, f_strict, nI sd, nI rt, ch_epI ep, nI ck, nI nb, f_lineLen, f_outLen, f_moveTotal, f_movesKnown, s1, s2, s3, s4, s5, f_spellLen, f_at, f_end, mk, nI cs, pr, tg, cp, rk, fl, kd, a_board, a_line, a_out, a_moves, sb, a_spell)) (h0 : ¬ ch_FT B sd rt ep cs mk pr tg cp rk fl kd s t p x → ∀ s1 s2 s3 s4 s5 sb, post 0 (nI ct, nI nt, f_strict, nI sd, nI rt, ch_epI ep, nI ck, nI nb, f_lineLen, f_outLen, f_moveTotal, f_movesKnown, s1, s2, s3, s4, s5, f_spellLen, f_at, f_end, mk, nI cs, pr, tg, cp, rk, fl, kd, a_board, a_line, a_out, a_moves, sb, a_spell)) : wpX_fits post (nI ct, nI nt, f_strict, nI sd, nI rt, ch_epI ep, nI ck, nI nb, f_lineLen, f_outLen, f_moveTotal, f_movesKnown, f_savedSide, f_savedRights, f_savedPassant, f_savedClock, f_savedNumber, f_spellLen, f_at, f_end, mk, nI cs, pr, tg, cp, rk, fl, kd, a_board, a_line, a_out, a_moves, a_savedBoard, a_spell) (nI (512 * s + 8 * t + p)) := by
  have hP' := hP
  obtain ⟨hV, hsd, hrt, hep, _, _, hpw, hR, hE, hA, hcn⟩ := hP
  have g := ch_TP_g hE hs ht hsd hT
  have hh := ch_hm_c hsd
  have h81 : ((cs ≠ 0 ∧ x = 5 + cs) ∨ (cs = 0 ∧ x ≠ 6 ∧ x ≠ 7 ∧ ch_PTS B s t p x pr tg cp rk fl kd)) → wX_fits_81 post (nI (512 * s + 8 * t + p)) (nI ct) (nI nt) f_strict (nI sd) (nI rt) (ch_epI ep) (nI ck) (nI nb) f_lineLen f_outLen f_moveTotal f_movesKnown f_savedSide f_savedRights f_savedPassant f_savedClock f_savedNumber f_spellLen f_at f_end mk (nI cs) pr tg cp rk fl kd a_board a_line a_out a_moves a_savedBoard a_spell := by
    intro hc
    unfold wX_fits_81
    refine br_c (fun c => h1 ⟨hc, Or.inl c⟩ _ _ _ _ _ _) (fun c => ?_)
    refine ch_x_markOf hB hP' hs ht hp hck hct hnb hnt hT hq (fun r s1 s2 s3 s4 s5 sb hr => br_c (fun c2 => ?_) (fun c2 => ?_))
    · exact h1 ⟨hc, Or.inr (c2 ▸ hr)⟩ s1 s2 s3 s4 s5 sb
    · exact h0 (fun w => w.2.elim c (fun z => c2 (ch_MK_u hr z))) s1 s2 s3 s4 s5 sb
  unfold wpX_fits
  refine nm_r (e' := nI s) (by rw [ch_nI_r9 (by omega), ch_nI_a63 (by omega)]; congr 1; omega) (nm_r (e' := nI t) (by rw [ch_nI_r3 (by omega), ch_nI_a63 (by omega)]; congr 1; omega) ?_)
  rw [ch_nI_a7 (s := 512 * s + 8 * t + p) (by omega), show (512 * s + 8 * t + p) % 8 = p from by omega]
  refine ch_x_cas hB hV hs ht hsd hE hT (fun k hk => ?_)
  have nok : ¬ ((cs ≠ 0 ∧ x = 5 + cs) ∨ (cs = 0 ∧ x ≠ 6 ∧ x ≠ 7 ∧ ch_PTS B s t p x pr tg cp rk fl kd)) → post 0 (nI ct, nI nt, f_strict, nI sd, nI rt, ch_epI ep, nI ck, nI nb, f_lineLen, f_outLen, f_moveTotal, f_movesKnown, f_savedSide, f_savedRights, f_savedPassant, f_savedClock, f_savedNumber, f_spellLen, f_at, f_end, mk, nI cs, pr, tg, cp, rk, fl, kd, a_board, a_line, a_out, a_moves, a_savedBoard, a_spell) := fun w => h0 (fun z => w z.1) _ _ _ _ _ _
  refine pk_eq cs 0 (fun e0 => ?_) (fun e0 => ?_)
  · rcases hk with ⟨rfl, n6, n7⟩ | ⟨rfl, c67⟩
    · refine br_t rfl ?_
      exact ch_x_fitsParts hB hV hE hs ht hsd hep hT (fun w => br_f (by decide) (h81 (Or.inr ⟨e0, n6, n7, w⟩))) (fun w => br_t rfl (nok (fun z => z.elim (fun y => y.1 e0) (fun y => w y.2.2.2))))
    · exact br_f (by decide) (nok (fun z => z.elim (fun y => y.1 e0) (fun y => c67.elim y.2.1 y.2.2.1)))
  · have h40 : ∀ z : Nat, z < 3 → ((x = 6 ∨ x = 7) → x = 5 + z) → wX_fits_40 post (nI (512 * s + 8 * t + p)) (nI k) (nI z) (nI ct) (nI nt) f_strict (nI sd) (nI rt) (ch_epI ep) (nI ck) (nI nb) f_lineLen f_outLen f_moveTotal f_movesKnown f_savedSide f_savedRights f_savedPassant f_savedClock f_savedNumber f_spellLen f_at f_end mk (nI cs) pr tg cp rk fl kd a_board a_line a_out a_moves a_savedBoard a_spell := by
      intro z hz hxz
      clear g
      rcases hk with ⟨rfl, n6, n7⟩ | ⟨rfl, c67⟩
      · exact br_t rfl (nok (fun y => y.elim (fun w => by omega) (fun w => e0 w.1)))
      · have xz := hxz c67
        exact br_f (by decide) (pk_eq z cs (fun e => h81 (Or.inl ⟨e0, by omega⟩)) (fun e => nok (fun y => y.elim (fun w => by omega) (fun w => e0 w.1))))
    refine pk_le t s (fun e => h40 2 (by omega) (fun w => ?_)) (fun e => h40 1 (by omega) (fun w => ?_))
    · rcases w with w | w
      · have z := g.2.2.2.2.2.1 w; clear g; omega
      · clear g; omega
    · rcases w with w | w
      · clear g; omega
      · have z := g.2.2.2.2.2.2.1 w; clear g; omega
end
section
variable {f_side f_rights f_ep f_clock f_number f_lineLen f_outLen f_clockTop f_numberTop f_strict f_textLen f_newSide f_newRights f_newEp f_newClock f_newNumber : Int32} {a_men a_line a_out a_text a_cut : Nat → Int32}

theorem ch_y_787 {post : Int32 → SY → Prop} {n f c : Nat} {mk x3 pr tg cp rk fl kd x10 x11 : Int32} (hf : f < 2) (h1 : f = 1 → wY_readMove_575 post mk x3 pr tg cp rk fl kd n (x10 + 1) (nI c) (nI (c + 1)) f_side f_rights f_ep f_clock f_number f_lineLen f_outLen f_clockTop f_numberTop f_strict f_textLen f_newSide f_newRights f_newEp f_newClock f_newNumber a_men a_line a_out a_text a_cut) (h0 : f ≠ 1 → wY_readMove_575 post mk x3 pr tg cp rk fl kd n x10 x11 (nI (c + 1)) f_side f_rights f_ep f_clock f_number f_lineLen f_outLen f_clockTop f_numberTop f_strict f_textLen f_newSide f_newRights f_newEp f_newClock f_newNumber a_men a_line a_out a_text a_cut) : wY_readMove_787 post (wY_readMove_575 post mk x3 pr tg cp rk fl kd n) mk x3 pr tg cp rk fl kd x10 x11 (nI c) (nI f) f_side f_rights f_ep f_clock f_number f_lineLen f_outLen f_clockTop f_numberTop f_strict f_textLen f_newSide f_newRights f_newEp f_newClock f_newNumber a_men a_line a_out a_text a_cut := by
  refine pk_eq f 0 (fun e => nm_r (nI_1 c) (h0 (by omega))) (fun e => nm_e (nm_r (nI_1 c) (h1 (by omega))))
theorem ch_y_757 {post : Int32 → SY → Prop} {B : Nat → Nat} {sd rt ep s t p x n f ck ct nb nt : Nat} {mk x3 pr tg cp rk fl kd x10 x11 : Int32} (hB : ch_BY a_men 0 B) (hP : ch_POS B sd rt ep) (hs : s < 64) (ht : t < 64) (hp : p < 8) (hck : ck < 100000) (hct : ct < 100000) (hnb : nb < 100000) (hnt : nt < 100000) (hT : ch_TP B sd rt ep s t p x) (hq : ∀ q, ch_K1 (ch_AF B sd s t p x) sd q → ¬ ch_AT (ch_AF B sd s t p x) q (1 - sd)) (hf : f < 2) (h1 : f = 1 → (mk = 0 ∨ ch_MK B sd rt ep s t p x mk) → ∀ m, ch_BY m 0 B → wY_readMove_575 post mk x3 pr tg cp rk fl kd n (x10 + 1) (nI (512 * s + 8 * t + p)) (nI (512 * s + 8 * t + p + 1)) (nI sd) (nI rt) (ch_epI ep) (nI ck) (nI nb) f_lineLen f_outLen (nI ct) (nI nt) f_strict f_textLen f_newSide f_newRights f_newEp f_newClock f_newNumber m a_line a_out a_text a_cut) (h0 : ¬ (f = 1 ∧ (mk = 0 ∨ ch_MK B sd rt ep s t p x mk)) → ∀ m, ch_BY m 0 B → wY_readMove_575 post mk x3 pr tg cp rk fl kd n x10 x11 (nI (512 * s + 8 * t + p + 1)) (nI sd) (nI rt) (ch_epI ep) (nI ck) (nI nb) f_lineLen f_outLen (nI ct) (nI nt) f_strict f_textLen f_newSide f_newRights f_newEp f_newClock f_newNumber m a_line a_out a_text a_cut) : wY_readMove_757 post (wY_readMove_575 post mk x3 pr tg cp rk fl kd n) mk x3 pr tg cp rk fl kd x10 x11 (nI (512 * s + 8 * t + p)) (nI f) (nI sd) (nI rt) (ch_epI ep) (nI ck) (nI nb) f_lineLen f_outLen (nI ct) (nI nt) f_strict f_textLen f_newSide f_newRights f_newEp f_newClock f_newNumber a_men a_line a_out a_text a_cut := by
  unfold wY_readMove_757
  refine pk_eq f 0 (fun e => ch_y_787 hf (fun w => by omega) (fun _ => h0 (fun w => by omega) _ hB)) (fun e => br_c (fun c => ch_y_787 hf (fun w => h1 w (Or.inl c) _ hB) (fun w => absurd (by omega) w)) (fun c => ?_))
  have e1 : f = 1 := by omega
  refine ch_y_markOf hB hP hs ht hp hck hct hnb hnt hT hq (fun r m ch_hm hr => br_c (fun c2 => ?_) (fun c2 => ?_))
  · exact ch_y_787 (f := 1) (by omega) (fun _ => h1 e1 (Or.inr (c2 ▸ hr)) m ch_hm) (fun w => absurd rfl w)
  · exact ch_y_787 (f := 0) (by omega) (fun w => by omega) (fun _ => h0 (fun w => w.2.elim c (fun z => c2 (ch_MK_u hr z))) m ch_hm)
theorem ch_y_744 {post : Int32 → SY → Prop} {J} {f cf : Nat} {x2 x3 x4 x5 x6 x7 x8 x9 x10 x11 x12 : Int32} (hf : f < 2) (hcf : cf < 2) (h : ∀ f', f' < 2 → (f' = 1 ↔ (f = 1 ∧ (x6 = 0 ∨ cf = 1))) → wY_readMove_757 post J x2 x3 x4 x5 x6 x7 x8 x9 x10 x11 x12 (nI f') f_side f_rights f_ep f_clock f_number f_lineLen f_outLen f_clockTop f_numberTop f_strict f_textLen f_newSide f_newRights f_newEp f_newClock f_newNumber a_men a_line a_out a_text a_cut) : wY_readMove_744 post J x2 x3 x4 x5 x6 x7 x8 x9 x10 x11 x12 (nI f) (nI cf) f_side f_rights f_ep f_clock f_number f_lineLen f_outLen f_clockTop f_numberTop f_strict f_textLen f_newSide f_newRights f_newEp f_newClock f_newNumber a_men a_line a_out a_text a_cut :=
  br_c (fun c => h f hf ⟨fun w => ⟨w, Or.inl c⟩, fun w => w.1⟩) (fun c => pk_eq cf 0 (fun e => h 0 (by omega) ⟨fun w => by omega, fun w => w.2.elim (fun z => absurd z c) (fun z => by omega)⟩) (fun e => h f hf ⟨fun w => ⟨w, Or.inr (by omega)⟩, fun w => w.1⟩))
theorem ch_y_726 {post : Int32 → SY → Prop} {J} {f cf s : Nat} {x2 x3 x4 x5 x6 x7 x8 x9 x10 x11 x12 : Int32} (hs : s < 64) (hf : f < 2) (h : ∀ f', f' < 2 → (f' = 1 ↔ (f = 1 ∧ (x8 < 0 ∨ nI (s % 8) = x8))) → wY_readMove_744 post J x2 x3 x4 x5 x6 x7 x8 x9 x10 x11 x12 (nI f') (nI cf) f_side f_rights f_ep f_clock f_number f_lineLen f_outLen f_clockTop f_numberTop f_strict f_textLen f_newSide f_newRights f_newEp f_newClock f_newNumber a_men a_line a_out a_text a_cut) : wY_readMove_726 post J x2 x3 x4 x5 x6 x7 x8 x9 x10 x11 x12 (nI f) (nI s) (nI cf) f_side f_rights f_ep f_clock f_number f_lineLen f_outLen f_clockTop f_numberTop f_strict f_textLen f_newSide f_newRights f_newEp f_newClock f_newNumber a_men a_line a_out a_text a_cut := by
  unfold wY_readMove_726
  rw [ch_nI_a7 (by omega)]
  exact br_c (fun c => h f hf ⟨fun w => ⟨w, Or.inl c⟩, fun w => w.1⟩) (fun c => br_c (fun c2 => h f hf ⟨fun w => ⟨w, Or.inr c2⟩, fun w => w.1⟩) (fun c2 => h 0 (by omega) ⟨fun w => by omega, fun w => w.2.elim (fun z => absurd z c) (fun z => absurd z c2)⟩))
theorem ch_y_709 {post : Int32 → SY → Prop} {J} {f cf s : Nat} {x2 x3 x4 x5 x6 x7 x8 x9 x10 x11 x12 : Int32} (hs : s < 64) (hf : f < 2) (h : ∀ f', f' < 2 → (f' = 1 ↔ (f = 1 ∧ (x7 < 0 ∨ nI (s / 8) = x7))) → wY_readMove_726 post J x2 x3 x4 x5 x6 x7 x8 x9 x10 x11 x12 (nI f') (nI s) (nI cf) f_side f_rights f_ep f_clock f_number f_lineLen f_outLen f_clockTop f_numberTop f_strict f_textLen f_newSide f_newRights f_newEp f_newClock f_newNumber a_men a_line a_out a_text a_cut) : wY_readMove_709 post J x2 x3 x4 x5 x6 x7 x8 x9 x10 x11 x12 (nI f) (nI s) (nI cf) f_side f_rights f_ep f_clock f_number f_lineLen f_outLen f_clockTop f_numberTop f_strict f_textLen f_newSide f_newRights f_newEp f_newClock f_newNumber a_men a_line a_out a_text a_cut := by
  unfold wY_readMove_709
  rw [ch_nI_r3 (by omega)]
  exact br_c (fun c => h f hf ⟨fun w => ⟨w, Or.inl c⟩, fun w => w.1⟩) (fun c => br_c (fun c2 => h f hf ⟨fun w => ⟨w, Or.inr c2⟩, fun w => w.1⟩) (fun c2 => h 0 (by omega) ⟨fun w => by omega, fun w => w.2.elim (fun z => absurd z c) (fun z => absurd z c2)⟩))
theorem ch_y_692 {post : Int32 → SY → Prop} {J} {f cf s t p : Nat} {x2 x3 x4 x5 x6 x7 x8 x9 x10 x11 x12 : Int32} (hf : f < 2) (h : ∀ f', f' < 2 → (f' = 1 ↔ (f = 1 ∧ nI t = x5 ∧ nI p = x4)) → wY_readMove_709 post J x2 x3 x4 x5 x6 x7 x8 x9 x10 x11 x12 (nI f') (nI s) (nI cf) f_side f_rights f_ep f_clock f_number f_lineLen f_outLen f_clockTop f_numberTop f_strict f_textLen f_newSide f_newRights f_newEp f_newClock f_newNumber a_men a_line a_out a_text a_cut) : wY_readMove_692 post J x2 x3 x4 x5 x6 x7 x8 x9 x10 x11 x12 (nI f) (nI s) (nI t) (nI p) (nI cf) f_side f_rights f_ep f_clock f_number f_lineLen f_outLen f_clockTop f_numberTop f_strict f_textLen f_newSide f_newRights f_newEp f_newClock f_newNumber a_men a_line a_out a_text a_cut :=
  br_c (fun c => br_c (fun c2 => h f hf ⟨fun w => ⟨w, c, c2⟩, fun w => w.1⟩) (fun c2 => h 0 (by omega) ⟨fun w => by omega, fun w => absurd w.2.2 c2⟩)) (fun c => h 0 (by omega) ⟨fun w => by omega, fun w => absurd w.2.1 c⟩)
theorem ch_y_674 {post : Int32 → SY → Prop} {J} {B : Nat → Nat} {f cf s t p : Nat} {x2 x3 x4 x5 x6 x7 x8 x9 x10 x11 x12 : Int32} (hB : ch_BY a_men 0 B) (hV : ch_VB B) (hs : s < 64) (hf : f < 2) (h : ∀ f', f' < 2 → (f' = 1 ↔ (f = 1 ∧ nI (B s % 8) = x9)) → wY_readMove_692 post J x2 x3 x4 x5 x6 x7 x8 x9 x10 x11 x12 (nI f') (nI s) (nI t) (nI p) (nI cf) f_side f_rights f_ep f_clock f_number f_lineLen f_outLen f_clockTop f_numberTop f_strict f_textLen f_newSide f_newRights f_newEp f_newClock f_newNumber a_men a_line a_out a_text a_cut) : wY_readMove_674 post J x2 x3 x4 x5 x6 x7 x8 x9 x10 x11 x12 (nI f) (nI s) (nI t) (nI p) (nI cf) f_side f_rights f_ep f_clock f_number f_lineLen f_outLen f_clockTop f_numberTop f_strict f_textLen f_newSide f_newRights f_newEp f_newClock f_newNumber a_men a_line a_out a_text a_cut := by
  have hvs := ch_VB_lt hV hs
  unfold wY_readMove_674
  rw [ch_by0 hB hs, ch_nI_a7 (by omega)]
  exact ⟨vp_in_nI (by omega) (by omega), br_c (fun c => h f hf ⟨fun w => ⟨w, c⟩, fun w => w.1⟩) (fun c => h 0 (by omega) ⟨fun w => by omega, fun w => absurd w.2 c⟩)⟩
end
end
section
/-! the search for the written move -/
def ch_GC (B : Nat → Nat) (sd rt ep cs : Nat) (mk pr tg cp rk fl kd : Int32) (c : Nat) : Prop := ∃ x, ch_TP B sd rt ep (c / 512) (c / 8 % 64) (c % 8) x ∧ (∀ q, ch_K1 (ch_AF B sd (c / 512) (c / 8 % 64) (c % 8) x) sd q → ¬ ch_AT (ch_AF B sd (c / 512) (c / 8 % 64) (c % 8) x) q (1 - sd)) ∧ ch_FT B sd rt ep cs mk pr tg cp rk fl kd (c / 512) (c / 8 % 64) (c % 8) x
theorem ch_GC_L {B : Nat → Nat} {sd rt ep cs : Nat} {mk pr tg cp rk fl kd : Int32} {c : Nat} (h : ch_GC B sd rt ep cs mk pr tg cp rk fl kd c) : ch_LC B sd rt ep c := by
  obtain ⟨x, a, b, _⟩ := h
  exact ⟨x, a, b⟩
theorem ch_GC_x {B : Nat → Nat} {sd rt ep cs : Nat} {mk pr tg cp rk fl kd : Int32} {c x : Nat} (hP : ch_POS B sd rt ep) (hc : c < 32768) (hT : ch_TP B sd rt ep (c / 512) (c / 8 % 64) (c % 8) x) (hq : ∀ q, ch_K1 (ch_AF B sd (c / 512) (c / 8 % 64) (c % 8) x) sd q → ¬ ch_AT (ch_AF B sd (c / 512) (c / 8 % 64) (c % 8) x) q (1 - sd)) : ch_GC B sd rt ep cs mk pr tg cp rk fl kd c ↔ ch_FT B sd rt ep cs mk pr tg cp rk fl kd (c / 512) (c / 8 % 64) (c % 8) x := by
  constructor
  · rintro ⟨y, a, _, b⟩
    obtain rfl := ch_TP_u hP.2.2.2.2.2.2.2.2.1 (by omega) (by omega) hP.2.1 a hT
    exact b
  · intro h; exact ⟨x, hT, hq, h⟩
theorem ch_cn_gap {P : Nat → Prop} {a b : Nat} (h : ch_cn P a = ch_cn P b) : ∀ j, a ≤ j → j < b → ¬ P j := by
  intro j h1 h2 hp
  have := ch_cn_le2 (P := P) h1
  have := ch_cn_lt2 h2 hp
  omega
def ch_FD (G : Nat → Prop) (init : Int32) (d : Nat) (f : Int32) : Prop := (ch_cn G d = 0 ∧ f = init) ∨ (∃ g, g < d ∧ G g ∧ ch_cn G g + 1 = ch_cn G d ∧ f = nI g)
theorem ch_FD_0 {G : Nat → Prop} {i : Int32} : ch_FD G i 0 i := Or.inl ⟨rfl, rfl⟩
theorem ch_FD_y {G : Nat → Prop} {i : Int32} {d : Nat} (h : G d) : ch_FD G i (d + 1) (nI d) := Or.inr ⟨d, by omega, h, by rw [ch_cn_s, ch_b01_t h], rfl⟩
theorem ch_FD_k {G : Nat → Prop} {i f : Int32} {d n : Nat} (h : ch_FD G i d f) (hn : ∀ j, j < n → ¬ G (d + j)) : ch_FD G i (d + n) f := by
  have e := ch_cn_skip (P := G) (a := d) (n := n) hn
  rcases h with ⟨a, b⟩ | ⟨g, a, b, c, k⟩
  · exact Or.inl ⟨by rw [e]; exact a, b⟩
  · exact Or.inr ⟨g, by omega, b, by rw [e]; exact c, k⟩
def ch_EQL (ln : Nat → Int32) (ll : Nat) (l : List Int32) : Prop := ll = l.length ∧ ∀ i, i < l.length → ln i = l.getD i 0
/-- the answer of a read move -/
def ch_RES (B : Nat → Nat) (sd rt ep cs : Nat) (mk pr tg cp rk fl kd : Int32) (ln : Nat → Int32) (ll st : Nat) (r : Int32) : Prop :=
  (ch_cn (ch_GC B sd rt ep cs mk pr tg cp rk fl kd) 32768 = 0 ∧ r = -4) ∨ (1 < ch_cn (ch_GC B sd rt ep cs mk pr tg cp rk fl kd) 32768 ∧ r = -5) ∨
  (ch_cn (ch_GC B sd rt ep cs mk pr tg cp rk fl kd) 32768 = 1 ∧ ∃ g x, g < 32768 ∧ ch_TP B sd rt ep (g / 512) (g / 8 % 64) (g % 8) x ∧ ch_GC B sd rt ep cs mk pr tg cp rk fl kd g ∧ ((st ≠ 1 ∧ r = nI g) ∨ (st = 1 ∧ ∃ l, ch_SPL B sd rt ep (g / 512) (g / 8 % 64) (g % 8) x l ∧ ((ch_EQL ln ll l ∧ r = nI g) ∨ (¬ ch_EQL ln ll l ∧ r = -6)))))
theorem ch_RES_u {B : Nat → Nat} {sd rt ep cs : Nat} {mk pr tg cp rk fl kd : Int32} {ln : Nat → Int32} {ll st : Nat} {r r' : Int32} (hP : ch_POS B sd rt ep) (h : ch_RES B sd rt ep cs mk pr tg cp rk fl kd ln ll st r) (h' : ch_RES B sd rt ep cs mk pr tg cp rk fl kd ln ll st r') : r = r' := by
  rcases h with ⟨a, e⟩ | ⟨a, e⟩ | ⟨a, g, x, hg, hT, hG, h⟩ <;> rcases h' with ⟨a', e'⟩ | ⟨a', e'⟩ | ⟨a', g', x', hg', hT', hG', h'⟩ <;> try omega
  · rw [e, e']
  · rw [e, e']
  · have gg : g = g' := by
      rcases Nat.lt_trichotomy g g' with z | z | z
      · have := ch_cn_lt2 z hG
        have := ch_cn_lt2 hg' hG'
        omega
      · exact z
      · have := ch_cn_lt2 z hG'
        have := ch_cn_lt2 hg hG
        omega
    subst gg
    obtain rfl := ch_TP_u hP.2.2.2.2.2.2.2.2.1 (by omega) (by omega) hP.2.1 hT hT'
    rcases h with ⟨s1, e⟩ | ⟨s1, l, hl, h⟩ <;> rcases h' with ⟨s1', e'⟩ | ⟨s1', l', hl', h'⟩ <;> try omega
    · rw [e, e']
    · obtain rfl := ch_SPL_u hl hl'
      rcases h with ⟨q, e⟩ | ⟨q, e⟩ <;> rcases h' with ⟨q', e'⟩ | ⟨q', e'⟩
      · rw [e, e']
      · exact absurd q q'
      · exact absurd q' q
      · rw [e, e']
theorem ch_RES_c {B : Nat → Nat} {sd rt ep cs : Nat} {mk pr tg cp rk fl kd : Int32} {ln : Nat → Int32} {ll st : Nat} {r : Int32} (h : ch_RES B sd rt ep cs mk pr tg cp rk fl kd ln ll st r) : r < 0 ∨ ∃ g, g < 32768 ∧ ch_LC B sd rt ep g ∧ r = nI g := by
  rcases h with ⟨_, e⟩ | ⟨_, e⟩ | ⟨_, g, x, hg, hT, hG, ⟨_, e⟩ | ⟨_, l, hl, ⟨_, e⟩ | ⟨_, e⟩⟩⟩
  · rw [e]; exact Or.inl (by decide)
  · rw [e]; exact Or.inl (by decide)
  · exact Or.inr ⟨g, hg, ch_GC_L hG, e⟩
  · exact Or.inr ⟨g, hg, ch_GC_L hG, e⟩
  · rw [e]; exact Or.inl (by decide)
section
variable {f_clockTop f_numberTop f_strict f_side f_rights f_passant f_clock f_number f_lineLen f_outLen f_moveTotal f_movesKnown f_savedSide f_savedRights f_savedPassant f_savedClock f_savedNumber f_spellLen f_at f_end f_writtenMark f_writtenCastling f_writtenPromotion f_writtenTarget f_writtenCapture f_writtenRank f_writtenFile f_writtenKind : Int32} {a_board a_line a_out a_moves a_savedBoard a_spell : Nat → Int32}
theorem ch_x_lineIsSpelling {post : Int32 → Prop} {l : List Int32} {ll : Nat} (hll : ll ≤ 96) (hT : ch_TX a_spell l) (hl : l.length ≤ 7) (h1 : ch_EQL a_line ll l → post 1) (h0 : ¬ ch_EQL a_line ll l → post 0) : wpX_lineIsSpelling post (f_clockTop, f_numberTop, f_strict, f_side, f_rights, f_passant, f_clock, f_number, nI ll, f_outLen, f_moveTotal, f_movesKnown, f_savedSide, f_savedRights, f_savedPassant, f_savedClock, f_savedNumber, nI l.length, f_at, f_end, f_writtenMark, f_writtenCastling, f_writtenPromotion, f_writtenTarget, f_writtenCapture, f_writtenRank, f_writtenFile, f_writtenKind, a_board, a_line, a_out, a_moves, a_savedBoard, a_spell) := by
  refine pk_eq ll l.length (fun e => ⟨l.length + 1, ?_⟩) (fun e => h0 (fun w => e w.1))
  refine ch_fn (σ := Unit) (fun n _ z => wX_lineIsSpelling_15 post f_clockTop f_numberTop f_strict f_side f_rights f_passant f_clock f_number (nI ll) f_outLen f_moveTotal f_movesKnown f_savedSide f_savedRights f_savedPassant f_savedClock f_savedNumber (nI l.length) f_at f_end f_writtenMark f_writtenCastling f_writtenPromotion f_writtenTarget f_writtenCapture f_writtenRank f_writtenFile f_writtenKind a_board a_line a_out a_moves a_savedBoard a_spell n z) (fun i _ => ∀ j, j < i → a_line j = l.getD j 0) l.length ?_ ?_ l.length 0 () (by omega) (fun j hj => by omega)
  · intro n _ hn
    exact br_t (Int32.le_refl _) (h1 ⟨e, hn⟩)
  · intro n i _ hi hn ih
    refine br_f (nI_ge hi (by omega)) ⟨vp_in_nI (by omega) (by omega), vp_in_nI (by omega) (by omega), ?_⟩
    rw [nI_clamp (by omega), hT i hi]
    refine br_c (fun c => nm_r (nI_1 i) (ih () (fun j hj => ?_))) (fun c => h0 (fun w => c (w.2 i hi)))
    by_cases z : j = i
    · rw [z]; exact c
    · exact hn j (by omega)




theorem ch_x_match {post : Int32 → SX → Prop} {B : Nat → Nat} {sd rt ep cs ck ct nb nt ll st N : Nat} {mv : Nat → Int32} {mk pr tg cp rk fl kd : Int32} (hN : ch_cn (ch_LC B sd rt ep) 32768 = N) (hB : ch_BX a_board B) (hP : ch_POS B sd rt ep) (hck : ck < 100000) (hct : ct < 100000) (hnb : nb < 100000) (hnt : nt < 100000) (hll : ll ≤ 96) (hst : st < 2) (hcs : cs < 3) (ch_hm : ch_CM B sd rt ep mv 32768) (h : ∀ r s1 s2 s3 s4 s5 sb f_spellLen a_spell, ch_RES B sd rt ep cs mk pr tg cp rk fl kd a_line ll st r → post r (nI ct, nI nt, nI st, nI sd, nI rt, ch_epI ep, nI ck, nI nb, nI ll, f_outLen, nI N, 1, s1, s2, s3, s4, s5, f_spellLen, f_at, f_end, mk, nI cs, pr, tg, cp, rk, fl, kd, a_board, a_line, a_out, mv, sb, a_spell)) : ∃ n, wX_readMove_22 post n (-1) 0 0 (nI ct) (nI nt) (nI st) (nI sd) (nI rt) (ch_epI ep) (nI ck) (nI nb) (nI ll) f_outLen (nI N) 1 f_savedSide f_savedRights f_savedPassant f_savedClock f_savedNumber f_spellLen f_at f_end mk (nI cs) pr tg cp rk fl kd a_board a_line a_out mv a_savedBoard a_spell := by
  have h512 := ch_LC_512 hP
  generalize hG : ch_GC B sd rt ep cs mk pr tg cp rk fl kd = G at h
  have hGL : ∀ c, G c → ch_LC B sd rt ep c := fun c w => ch_GC_L (hG ▸ w)
  refine ⟨N + 1, ?_⟩
  refine ch_fn (σ := Int32 × Nat × Int32 × Int32 × Int32 × Int32 × Int32 × (Nat → Int32)) (fun n q z => wX_readMove_22 post n q.1 (nI q.2.1) z (nI ct) (nI nt) (nI st) (nI sd) (nI rt) (ch_epI ep) (nI ck) (nI nb) (nI ll) f_outLen (nI N) 1 q.2.2.1 q.2.2.2.1 q.2.2.2.2.1 q.2.2.2.2.2.1 q.2.2.2.2.2.2.1 f_spellLen f_at f_end mk (nI cs) pr tg cp rk fl kd a_board a_line a_out mv q.2.2.2.2.2.2.2 a_spell) (fun i q => ∃ d, d ≤ 32768 ∧ ch_cn (ch_LC B sd rt ep) d = i ∧ q.2.1 = ch_cn G d ∧ ch_FD G (-1) d q.1) N ?_ ?_ N 0 (-1, 0, f_savedSide, f_savedRights, f_savedPassant, f_savedClock, f_savedNumber, a_savedBoard) (by omega) ⟨0, by omega, rfl, rfl, ch_FD_0⟩
  · rintro n ⟨f, cnt, s1, s2, s3, s4, s5, sb⟩ ⟨d, hd, hcd, ec, hf⟩
    dsimp only at ec hf ⊢
    have gap := ch_cn_gap (hcd.trans hN.symm)
    have ng : ∀ j, j < 32768 - d → ¬ G (d + j) := fun j hj w => gap (d + j) (by omega) (by omega) (hGL _ w)
    have hf2 := ch_FD_k hf ng
    have ec2 := ch_cn_skip (P := G) ng
    rw [show d + (32768 - d) = 32768 from by omega] at hf2 ec2
    rw [ec, ← ec2]
    have hle : ch_cn G 32768 ≤ ch_cn (ch_LC B sd rt ep) 32768 := ch_cn_mono (fun k _ w => hGL k w)
    refine br_t (Int32.le_refl _) (pk_eq (ch_cn G 32768) 0 (fun e => ?_) (fun e => pk_le (ch_cn G 32768) 1 (fun e2 => ?_) (fun e2 => ?_)))
    · exact h (-4) _ _ _ _ _ _ _ _ (Or.inl ⟨by rw [hG]; exact e, rfl⟩)
    · rcases hf2 with ⟨z, _⟩ | ⟨g, hg, hGg, hcg, rfl⟩
      · exact absurd z e
      · have hGg' : ch_GC B sd rt ep cs mk pr tg cp rk fl kd g := hG ▸ hGg
        obtain ⟨x, hT, hq, hFT⟩ := hGg'
        have one : ch_cn (ch_GC B sd rt ep cs mk pr tg cp rk fl kd) 32768 = 1 := by rw [hG]; omega
        refine pk_eq st 1 (fun e3 => ?_) (fun e3 => ?_)
        · have sp : ∀ Q : SX → Prop, (∀ l a s1 s2 s3 s4 s5 sb, ch_SPL B sd rt ep (g / 512) (g / 8 % 64) (g % 8) x l → ch_TX a l → Q (nI ct, nI nt, nI st, nI sd, nI rt, ch_epI ep, nI ck, nI nb, nI ll, f_outLen, nI N, 1, s1, s2, s3, s4, s5, nI l.length, f_at, f_end, mk, nI cs, pr, tg, cp, rk, fl, kd, a_board, a_line, a_out, mv, sb, a)) → wpX_spellMove Q (nI ct, nI nt, nI st, nI sd, nI rt, ch_epI ep, nI ck, nI nb, nI ll, f_outLen, nI N, 1, s1, s2, s3, s4, s5, f_spellLen, f_at, f_end, mk, nI cs, pr, tg, cp, rk, fl, kd, a_board, a_line, a_out, mv, sb, a_spell) (nI g) := by
            intro Q hQ
            subst hN
            have : wpX_spellMove Q (nI ct, nI nt, nI st, nI sd, nI rt, ch_epI ep, nI ck, nI nb, nI ll, f_outLen, nI (ch_cn (ch_LC B sd rt ep) 32768), 1, s1, s2, s3, s4, s5, f_spellLen, f_at, f_end, mk, nI cs, pr, tg, cp, rk, fl, kd, a_board, a_line, a_out, mv, sb, a_spell) (nI (512 * (g / 512) + 8 * (g / 8 % 64) + g % 8)) := ch_x_spellMove hB hP (by omega) (by omega) (by omega) hck hct hnb hnt ch_hm hT hq hQ
            rw [ch_cd_c hg] at this
            exact this
          refine sp _ (fun l a s1 s2 s3 s4 s5 sb hl ha => ?_)
          refine ch_x_lineIsSpelling hll ha (ch_SPL_l hl) (fun w => br_f (by decide) ?_) (fun w => br_t rfl ?_)
          · exact h (nI g) _ _ _ _ _ _ _ _ (Or.inr (Or.inr ⟨one, g, x, hg, hT, hG ▸ hGg, Or.inr ⟨e3, l, hl, Or.inl ⟨w, rfl⟩⟩⟩))
          · exact h (-6) _ _ _ _ _ _ _ _ (Or.inr (Or.inr ⟨one, g, x, hg, hT, hG ▸ hGg, Or.inr ⟨e3, l, hl, Or.inr ⟨w, rfl⟩⟩⟩))
        · exact h (nI g) _ _ _ _ _ _ _ _ (Or.inr (Or.inr ⟨one, g, x, hg, hT, hG ▸ hGg, Or.inl ⟨e3, rfl⟩⟩))
    · exact h (-5) _ _ _ _ _ _ _ _ (Or.inr (Or.inl ⟨by rw [hG]; exact e2, rfl⟩))
  · rintro n i ⟨f, cnt, s1, s2, s3, s4, s5, sb⟩ hi ⟨d, hd, hcd, ec, hf⟩ ih
    dsimp only at ec hf ⊢
    obtain ⟨c, hc, hl, hcc⟩ := ch_cn_sur (show i < ch_cn (ch_LC B sd rt ep) 32768 by rw [hN]; exact hi)
    have hdc : d ≤ c := by
      rcases Nat.lt_or_ge c d with z | z
      · have := ch_cn_lt2 z hl; omega
      · exact z
    have gap := ch_cn_gap (P := ch_LC B sd rt ep) (a := d) (b := c) (by omega)
    have ng : ∀ j, j < c - d → ¬ G (d + j) := fun j hj w => gap (d + j) (by omega) (by omega) (hGL _ w)
    have hf2 := ch_FD_k hf ng
    have ec2 := ch_cn_skip (P := G) ng
    rw [show d + (c - d) = c from by omega] at hf2 ec2
    have em : mv (nI i).toNatClampNeg = nI c := by rw [nI_clamp (by omega), ← hcc]; exact ch_hm c hc hl
    have hl2 := hl
    obtain ⟨x, hT, hq⟩ := hl2
    have gx := ch_GC_x (cs := cs) (mk := mk) (pr := pr) (tg := tg) (cp := cp) (rk := rk) (fl := fl) (kd := kd) hP hc hT hq
    rw [hG] at gx
    have ft : ∀ Q : Int32 → SX → Prop, (G c → ∀ s1 s2 s3 s4 s5 sb, Q 1 (nI ct, nI nt, nI st, nI sd, nI rt, ch_epI ep, nI ck, nI nb, nI ll, f_outLen, nI N, 1, s1, s2, s3, s4, s5, f_spellLen, f_at, f_end, mk, nI cs, pr, tg, cp, rk, fl, kd, a_board, a_line, a_out, mv, sb, a_spell)) → (¬ G c → ∀ s1 s2 s3 s4 s5 sb, Q 0 (nI ct, nI nt, nI st, nI sd, nI rt, ch_epI ep, nI ck, nI nb, nI ll, f_outLen, nI N, 1, s1, s2, s3, s4, s5, f_spellLen, f_at, f_end, mk, nI cs, pr, tg, cp, rk, fl, kd, a_board, a_line, a_out, mv, sb, a_spell)) → wpX_fits Q (nI ct, nI nt, nI st, nI sd, nI rt, ch_epI ep, nI ck, nI nb, nI ll, f_outLen, nI N, 1, s1, s2, s3, s4, s5, f_spellLen, f_at, f_end, mk, nI cs, pr, tg, cp, rk, fl, kd, a_board, a_line, a_out, mv, sb, a_spell) (nI c) := by
      intro Q q1 q0
      have : wpX_fits Q (nI ct, nI nt, nI st, nI sd, nI rt, ch_epI ep, nI ck, nI nb, nI ll, f_outLen, nI N, 1, s1, s2, s3, s4, s5, f_spellLen, f_at, f_end, mk, nI cs, pr, tg, cp, rk, fl, kd, a_board, a_line, a_out, mv, sb, a_spell) (nI (512 * (c / 512) + 8 * (c / 8 % 64) + c % 8)) := ch_x_fits hB hP (by omega) (by omega) (by omega) hck hct hnb hnt hcs hT hq (fun w => q1 (gx.mpr w)) (fun w => q0 (fun z => w (gx.mp z)))
      rw [ch_cd_c hc] at this
      exact this
    refine br_f (nI_ge hi (by omega)) ⟨vp_in_nI (by omega) (by omega), ?_⟩
    rw [em]
    refine ft _ (fun w t1 t2 t3 t4 t5 tb => br_f (by decide) ⟨vp_in_nI (by omega) (by omega), nm_r em (nm_r (nI_1 cnt) (nm_r (nI_1 i) ?_))⟩) (fun w t1 t2 t3 t4 t5 tb => br_t rfl (nm_r (nI_1 i) ?_))
    · exact ih (nI c, cnt + 1, t1, t2, t3, t4, t5, tb) ⟨c + 1, by omega, by rw [ch_cn_s, ch_b01_t hl, hcc], show cnt + 1 = _ by rw [ch_cn_s, ch_b01_t w, ec2, ← ec], ch_FD_y w⟩
    · refine ih (f, cnt, t1, t2, t3, t4, t5, tb) ⟨c + 1, by omega, by rw [ch_cn_s, ch_b01_t hl, hcc], show cnt = _ by rw [ch_cn_s, ch_b01_f w, ec2, ← ec]; rfl, ?_⟩
      have n1 : ∀ j, j < 1 → ¬ G (c + j) := by
        intro j hj z
        obtain rfl : j = 0 := by omega
        exact w z
      exact ch_FD_k (n := 1) hf2 n1
end
end
section
/-! the reference's search; reading and playing a line -/
section
variable {f_side f_rights f_ep f_clock f_number f_lineLen f_outLen f_clockTop f_numberTop f_strict f_textLen f_newSide f_newRights f_newEp f_newClock f_newNumber : Int32} {a_men a_line a_out a_text a_cut : Nat → Int32}

theorem ch_y_856 {post : Int32 → SY → Prop} {l : List Int32} {g : Int32} {ll : Nat} (e : ll = l.length) (hll : ll ≤ 96) (hT : ch_TX a_text l) (hl : l.length ≤ 7) (h1 : ch_EQL a_line ll l → post g (f_side, f_rights, f_ep, f_clock, f_number, nI ll, f_outLen, f_clockTop, f_numberTop, f_strict, nI l.length, f_newSide, f_newRights, f_newEp, f_newClock, f_newNumber, a_men, a_line, a_out, a_text, a_cut)) (h0 : ¬ ch_EQL a_line ll l → post (-6) (f_side, f_rights, f_ep, f_clock, f_number, nI ll, f_outLen, f_clockTop, f_numberTop, f_strict, nI l.length, f_newSide, f_newRights, f_newEp, f_newClock, f_newNumber, a_men, a_line, a_out, a_text, a_cut)) : ∃ n, wY_readMove_856 post g f_side f_rights f_ep f_clock f_number (nI ll) f_outLen f_clockTop f_numberTop f_strict (nI l.length) f_newSide f_newRights f_newEp f_newClock f_newNumber a_men a_line a_out a_text a_cut n 0 := by
  refine ⟨l.length + 1, ?_⟩
  refine ch_fn (σ := Unit) (fun n _ z => wY_readMove_856 post g f_side f_rights f_ep f_clock f_number (nI ll) f_outLen f_clockTop f_numberTop f_strict (nI l.length) f_newSide f_newRights f_newEp f_newClock f_newNumber a_men a_line a_out a_text a_cut n z) (fun i _ => ∀ j, j < i → a_line j = l.getD j 0) l.length ?_ ?_ l.length 0 () (by omega) (fun j hj => by omega)
  · intro n _ hn
    exact br_t (Int32.le_refl _) (h1 ⟨e, hn⟩)
  · intro n i _ hi hn ih
    refine br_f (nI_ge hi (by omega)) ⟨vp_in_nI (by omega) (by omega), vp_in_nI (by omega) (by omega), ?_⟩
    rw [nI_clamp (by omega), hT i hi]
    refine br_c (fun c => nm_r (nI_1 i) (ih () (fun j hj => ?_))) (fun c => h0 (fun w => c (w.2 i hi).symm))
    by_cases z : j = i
    · rw [z]; exact c.symm
    · exact hn j (by omega)
theorem ch_y_match {post : Int32 → SY → Prop} {B : Nat → Nat} {sd rt ep cs ck ct nb nt ll st : Nat} {mk pr tg cp rk fl kd : Int32} (hB : ch_BY a_men 0 B) (hP : ch_POS B sd rt ep) (hck : ck < 100000) (hct : ct < 100000) (hnb : nb < 100000) (hnt : nt < 100000) (hll : ll ≤ 96) (hst : st < 2) (hcs : cs < 3) (h : ∀ r m f_textLen a_text, ch_BY m 0 B → ch_RES B sd rt ep cs mk pr tg cp rk fl kd a_line ll st r → post r (nI sd, nI rt, ch_epI ep, nI ck, nI nb, nI ll, f_outLen, nI ct, nI nt, nI st, f_textLen, f_newSide, f_newRights, f_newEp, f_newClock, f_newNumber, m, a_line, a_out, a_text, a_cut)) : ∃ n, wY_readMove_575 post mk (nI (ch_yc cs)) pr tg cp rk fl kd n 0 0 0 (nI sd) (nI rt) (ch_epI ep) (nI ck) (nI nb) (nI ll) f_outLen (nI ct) (nI nt) (nI st) f_textLen f_newSide f_newRights f_newEp f_newClock f_newNumber a_men a_line a_out a_text a_cut := by
  have h512 := ch_LC_512 hP
  have hV : ch_VB B := hP.1
  have hsd := hP.2.1
  have hrt := hP.2.2.1
  have hep := hP.2.2.2.1
  have hE : ch_EG B sd ep := hP.2.2.2.2.2.2.2.2.1
  generalize hG : ch_GC B sd rt ep cs mk pr tg cp rk fl kd = G at h
  have hGL : ∀ c, G c → ch_LC B sd rt ep c := fun c w => ch_GC_L (hG ▸ w)
  have hle : ∀ c, c ≤ 32768 → ch_cn G c ≤ 512 := fun c hc => Nat.le_trans (ch_cn_le2 hc) (Nat.le_trans (ch_cn_mono (fun k _ w => hGL k w)) h512)
  refine ⟨32768 + 1, ?_⟩
  refine ch_fn (σ := (Nat → Int32) × Nat × Int32) (fun n q z => wY_readMove_575 post mk (nI (ch_yc cs)) pr tg cp rk fl kd n (nI q.2.1) q.2.2 z (nI sd) (nI rt) (ch_epI ep) (nI ck) (nI nb) (nI ll) f_outLen (nI ct) (nI nt) (nI st) f_textLen f_newSide f_newRights f_newEp f_newClock f_newNumber q.1 a_line a_out a_text a_cut) (fun i q => ch_BY q.1 0 B ∧ q.2.1 = ch_cn G i ∧ ch_FD G 0 i q.2.2) 32768 ?_ ?_ 32768 0 (a_men, 0, 0) rfl ⟨hB, rfl, ch_FD_0⟩
  · rintro n ⟨m, cnt, f⟩ ⟨ch_hm, ec, hf⟩
    dsimp only at ch_hm ec hf ⊢
    rw [ec]
    have hl5 := hle 32768 (by omega)
    refine br_t (by decide) (pk_eq (ch_cn G 32768) 0 (fun e => ?_) (fun e => pk_le (ch_cn G 32768) 1 (fun e2 => ?_) (fun e2 => ?_)))
    · exact h (-4) m _ _ ch_hm (Or.inl ⟨by rw [hG]; exact e, rfl⟩)
    · rcases hf with ⟨z, _⟩ | ⟨g, hg, hGg, hcg, rfl⟩
      · exact absurd z e
      · have hGg' : ch_GC B sd rt ep cs mk pr tg cp rk fl kd g := hG ▸ hGg
        obtain ⟨x, hT, hq, hFT⟩ := hGg'
        have one : ch_cn (ch_GC B sd rt ep cs mk pr tg cp rk fl kd) 32768 = 1 := by rw [hG]; omega
        refine pk_eq st 1 (fun e3 => ?_) (fun e3 => ?_)
        · have sp : ∀ Q : SY → Prop, (∀ l a m', ch_BY m' 0 B → ch_SPL B sd rt ep (g / 512) (g / 8 % 64) (g % 8) x l → ch_TX a l → Q (nI sd, nI rt, ch_epI ep, nI ck, nI nb, nI ll, f_outLen, nI ct, nI nt, nI st, nI l.length, f_newSide, f_newRights, f_newEp, f_newClock, f_newNumber, m', a_line, a_out, a, a_cut)) → wpY_compose Q (nI sd, nI rt, ch_epI ep, nI ck, nI nb, nI ll, f_outLen, nI ct, nI nt, nI st, f_textLen, f_newSide, f_newRights, f_newEp, f_newClock, f_newNumber, m, a_line, a_out, a_text, a_cut) (nI g) := by
            intro Q hQ
            have : wpY_compose Q (nI sd, nI rt, ch_epI ep, nI ck, nI nb, nI ll, f_outLen, nI ct, nI nt, nI st, f_textLen, f_newSide, f_newRights, f_newEp, f_newClock, f_newNumber, m, a_line, a_out, a_text, a_cut) (nI (512 * (g / 512) + 8 * (g / 8 % 64) + g % 8)) := ch_y_compose ch_hm hP (by omega) (by omega) (by omega) hck hct hnb hnt hT hq hQ
            rw [ch_cd_c hg] at this
            exact this
          refine sp _ (fun l a m' hm' hl ha => ?_)
          have hl7 := ch_SPL_l hl
          refine pk_eq l.length ll (fun e4 => ?_) (fun e4 => ?_)
          · refine ch_y_856 e4.symm hll ha hl7 (fun w => ?_) (fun w => ?_)
            · exact h (nI g) m' _ _ hm' (Or.inr (Or.inr ⟨one, g, x, hg, hT, hG ▸ hGg, Or.inr ⟨e3, l, hl, Or.inl ⟨w, rfl⟩⟩⟩))
            · exact h (-6) m' _ _ hm' (Or.inr (Or.inr ⟨one, g, x, hg, hT, hG ▸ hGg, Or.inr ⟨e3, l, hl, Or.inr ⟨w, rfl⟩⟩⟩))
          · exact h (-6) m' _ _ hm' (Or.inr (Or.inr ⟨one, g, x, hg, hT, hG ▸ hGg, Or.inr ⟨e3, l, hl, Or.inr ⟨fun w => e4 w.1.symm, rfl⟩⟩⟩))
        · exact h (nI g) m _ _ ch_hm (Or.inr (Or.inr ⟨one, g, x, hg, hT, hG ▸ hGg, Or.inl ⟨e3, rfl⟩⟩))
    · exact h (-5) m _ _ ch_hm (Or.inr (Or.inl ⟨by rw [hG]; exact e2, rfl⟩))
  · rintro n c ⟨m, cnt, f⟩ hc ⟨ch_hm, ec, hf⟩ ih
    dsimp only at ch_hm ec hf ⊢
    have no : ¬ G c → ∀ m', ch_BY m' 0 B → wY_readMove_575 post mk (nI (ch_yc cs)) pr tg cp rk fl kd n (nI cnt) f (nI (c + 1)) (nI sd) (nI rt) (ch_epI ep) (nI ck) (nI nb) (nI ll) f_outLen (nI ct) (nI nt) (nI st) f_textLen f_newSide f_newRights f_newEp f_newClock f_newNumber m' a_line a_out a_text a_cut := by
      intro w m' hm'
      refine ih (m', cnt, f) ⟨hm', show cnt = _ by rw [ch_cn_s, ch_b01_f w, ← ec]; rfl, ?_⟩
      have n1 : ∀ j, j < 1 → ¬ G (c + j) := by
        intro j hj z
        obtain rfl : j = 0 := by omega
        exact w z
      exact ch_FD_k (n := 1) hf n1
    have yes : G c → ∀ m', ch_BY m' 0 B → wY_readMove_575 post mk (nI (ch_yc cs)) pr tg cp rk fl kd n (nI cnt + 1) (nI c) (nI (c + 1)) (nI sd) (nI rt) (ch_epI ep) (nI ck) (nI nb) (nI ll) f_outLen (nI ct) (nI nt) (nI st) f_textLen f_newSide f_newRights f_newEp f_newClock f_newNumber m' a_line a_out a_text a_cut := by
      intro w m' hm'
      rw [nI_1]
      exact ih (m', cnt + 1, nI c) ⟨hm', show cnt + 1 = _ by rw [ch_cn_s, ch_b01_t w, ← ec], ch_FD_y w⟩
    refine pk_le 32768 c (fun e => by omega) (fun _ => ch_y_isLegalc ch_hm hP hc (fun hl m' hm' => br_f (by decide) ?_) (fun hl m' hm' => br_t rfl (nm_r (nI_1 c) (no (fun w => hl (hGL c w)) m' (ch_EQ6_B hm' ch_hm)))))
    have hm2 := ch_EQ6_B hm' ch_hm
    have hl2 := hl
    obtain ⟨x, hT, hq⟩ := hl2
    have gx := ch_GC_x (cs := cs) (mk := mk) (pr := pr) (tg := tg) (cp := cp) (rk := rk) (fl := fl) (kd := kd) hP hc hT hq
    rw [hG] at gx
    have r7 := ch_TP_r hT
    have h757 : ∀ fg : Nat, fg < 2 → (fg = 1 ↔ ((cs ≠ 0 ∧ x = 5 + cs) ∨ (cs = 0 ∧ x ≠ 6 ∧ x ≠ 7 ∧ ch_PTS B (c / 512) (c / 8 % 64) (c % 8) x pr tg cp rk fl kd))) → wY_readMove_757 post (wY_readMove_575 post mk (nI (ch_yc cs)) pr tg cp rk fl kd n) mk (nI (ch_yc cs)) pr tg cp rk fl kd (nI cnt) f (nI c) (nI fg) (nI sd) (nI rt) (ch_epI ep) (nI ck) (nI nb) (nI ll) f_outLen (nI ct) (nI nt) (nI st) f_textLen f_newSide f_newRights f_newEp f_newClock f_newNumber m' a_line a_out a_text a_cut := by
      intro fg hfg hh
      have : wY_readMove_757 post (wY_readMove_575 post mk (nI (ch_yc cs)) pr tg cp rk fl kd n) mk (nI (ch_yc cs)) pr tg cp rk fl kd (nI cnt) f (nI (512 * (c / 512) + 8 * (c / 8 % 64) + c % 8)) (nI fg) (nI sd) (nI rt) (ch_epI ep) (nI ck) (nI nb) (nI ll) f_outLen (nI ct) (nI nt) (nI st) f_textLen f_newSide f_newRights f_newEp f_newClock f_newNumber m' a_line a_out a_text a_cut := by
        refine ch_y_757 hm2 hP (by omega) (by omega) (by omega) hck hct hnb hnt hT hq hfg (fun w w2 m3 hm3 => ?_) (fun w m3 hm3 => ?_)
        · rw [ch_cd_c hc]
          exact yes (gx.mpr ⟨hh.mp w, w2⟩) m3 hm3
        · rw [ch_cd_c hc]
          exact no (fun z => w ⟨hh.mpr (gx.mp z).1, (gx.mp z).2⟩) m3 hm3
      rw [ch_cd_c hc] at this
      exact this
    refine nm_r (e' := nI (c / 512)) (by rw [ch_nI_r9 (by omega), ch_nI_a63 (by omega)]; congr 1; omega) (nm_r (e' := nI (c / 8 % 64)) (by rw [ch_nI_r3 (by omega), ch_nI_a63 (by omega)]) (nm_r (e' := nI (c % 8)) (by rw [ch_nI_a7 (by omega)]) ?_))
    have mt : ∀ Q : Int32 → Prop, Q (nI x) → wpY_moveType Q (nI sd, nI rt, ch_epI ep, nI ck, nI nb, nI ll, f_outLen, nI ct, nI nt, nI st, f_textLen, f_newSide, f_newRights, f_newEp, f_newClock, f_newNumber, m', a_line, a_out, a_text, a_cut) (nI c) := by
      intro Q hQ
      have : wpY_moveType Q (nI sd, nI rt, ch_epI ep, nI ck, nI nb, nI ll, f_outLen, nI ct, nI nt, nI st, f_textLen, f_newSide, f_newRights, f_newEp, f_newClock, f_newNumber, m', a_line, a_out, a_text, a_cut) (nI (512 * (c / 512) + 8 * (c / 8 % 64) + c % 8)) := ch_y_moveType hm2 hV (by omega) (by omega) (by omega) hsd hrt hep (fun y hT' => by obtain rfl := ch_TP_u hE (by omega) (by omega) hsd hT' hT; exact hQ) (fun w => absurd hT (w x))
      rw [ch_cd_c hc] at this
      exact this
    refine mt _ ?_
    have hyc : ch_yc cs < 8 := by unfold ch_yc; split <;> omega
    refine pk_eq (ch_yc cs) 0 (fun e0 => ?_) (fun e0 => ?_)
    · have cs0 : cs = 0 := by unfold ch_yc at e0; split at e0 <;> omega
      have ic : ∀ Q : Int32 → Prop, (∀ cf : Nat, cf < 2 → (cf = 1 ↔ (x = 5 ∨ B (c / 8 % 64) ≠ 0)) → Q (nI cf)) → wpY_isCapture Q (nI sd, nI rt, ch_epI ep, nI ck, nI nb, nI ll, f_outLen, nI ct, nI nt, nI st, f_textLen, f_newSide, f_newRights, f_newEp, f_newClock, f_newNumber, m', a_line, a_out, a_text, a_cut) (nI c) := by
        intro Q hQ
        have : wpY_isCapture Q (nI sd, nI rt, ch_epI ep, nI ck, nI nb, nI ll, f_outLen, nI ct, nI nt, nI st, f_textLen, f_newSide, f_newRights, f_newEp, f_newClock, f_newNumber, m', a_line, a_out, a_text, a_cut) (nI (512 * (c / 512) + 8 * (c / 8 % 64) + c % 8)) := ch_y_isCaptureF hm2 hV hE (by omega) (by omega) (by omega) hsd hrt hep hT hQ
        rw [ch_cd_c hc] at this
        exact this
      refine ic _ (fun cf hcf hcf' => ?_)
      have chain : ∀ f0 : Nat, f0 < 2 → (f0 = 1 ↔ (x ≠ 6 ∧ x ≠ 7)) → wY_readMove_674 post (wY_readMove_575 post mk (nI (ch_yc cs)) pr tg cp rk fl kd n) mk (nI (ch_yc cs)) pr tg cp rk fl kd (nI cnt) f (nI c) (nI f0) (nI (c / 512)) (nI (c / 8 % 64)) (nI (c % 8)) (nI cf) (nI sd) (nI rt) (ch_epI ep) (nI ck) (nI nb) (nI ll) f_outLen (nI ct) (nI nt) (nI st) f_textLen f_newSide f_newRights f_newEp f_newClock f_newNumber m' a_line a_out a_text a_cut := by
        intro f0 hf0 w0
        refine ch_y_674 hm2 hV (by omega) hf0 (fun f1 hf1 w1 => ?_)
        refine ch_y_692 hf1 (fun f2 hf2 w2 => ?_)
        refine ch_y_709 (by omega) hf2 (fun f3 hf3 w3 => ?_)
        refine ch_y_726 (by omega) hf3 (fun f4 hf4 w4 => ?_)
        refine ch_y_744 hf4 hcf (fun f5 hf5 w5 => ?_)
        refine h757 f5 hf5 ?_
        rw [w5, w4, w3, w2, w1, w0, hcf']
        constructor
        · rintro ⟨⟨⟨⟨⟨⟨z1, z2⟩, z3⟩, z4, z5⟩, z6⟩, z7⟩, z8⟩
          exact Or.inr ⟨cs0, z1, z2, z3, z4, z5, z6, z7, z8⟩
        · rintro (z | ⟨_, z1, z2, z3, z4, z5, z6, z7, z8⟩)
          · exact absurd cs0 z.1
          · exact ⟨⟨⟨⟨⟨⟨z1, z2⟩, z3⟩, z4, z5⟩, z6⟩, z7⟩, z8⟩
      refine pk_eq x 6 (fun e6 => chain 0 (by omega) (by omega)) (fun e6 => pk_eq x 7 (fun e7 => chain 0 (by omega) (by omega)) (fun e7 => chain 1 (by omega) (by omega)))
    · have ycs : cs ≠ 0 ∧ ch_yc cs = 5 + cs := by
        by_cases z : cs = 0
        · exact absurd (by unfold ch_yc; rw [if_pos z]) e0
        · exact ⟨z, by unfold ch_yc; rw [if_neg z]⟩
      refine pk_eq x (ch_yc cs) (fun e1 => ?_) (fun e1 => ?_)
      · exact h757 1 (by omega) ⟨fun _ => Or.inl ⟨ycs.1, by omega⟩, fun _ => rfl⟩
      · exact h757 0 (by omega) ⟨fun w => by omega, fun w => w.elim (fun z => by omega) (fun z => absurd z.1 ycs.1)⟩
end
end
section
/-! reading and playing a line -/
section
variable {B : Nat → Nat} {sd rt ep ck ct nb nt st ll ol : Nat} {f_moveTotal f_movesKnown f_savedSide f_savedRights f_savedPassant f_savedClock f_savedNumber f_spellLen f_at f_end f_writtenMark f_writtenCastling f_writtenPromotion f_writtenTarget f_writtenCapture f_writtenRank f_writtenFile f_writtenKind : Int32} {a_board a_line a_out a_moves a_savedBoard a_spell : Nat → Int32} {f_textLen f_newSide f_newRights f_newEp f_newClock f_newNumber : Int32} {a_men a_text a_cut : Nat → Int32}

theorem ch_rd_move (hF : ch_FA B sd rt ep ck ct nb nt st ll ol f_movesKnown f_moveTotal a_board a_moves a_men) : ∃ RR : Int32 → Prop, (∀ r r', RR r → RR r' → r = r') ∧ (∀ r, RR r → (r < 0 ∨ ∃ g, g < 32768 ∧ ch_LC B sd rt ep g ∧ r = nI g)) ∧ (∀ post : Int32 → SX → Prop, (∀ r ch_kn to mv s1 s2 s3 s4 s5 sb f_spellLen f_end f_writtenMark f_writtenCastling f_writtenPromotion f_writtenTarget f_writtenCapture f_writtenRank f_writtenFile f_writtenKind a_spell, RR r → ch_CA B sd rt ep ch_kn to mv → post r (nI ct, nI nt, nI st, nI sd, nI rt, ch_epI ep, nI ck, nI nb, nI ll, nI ol, to, ch_kn, s1, s2, s3, s4, s5, f_spellLen, f_at, f_end, f_writtenMark, f_writtenCastling, f_writtenPromotion, f_writtenTarget, f_writtenCapture, f_writtenRank, f_writtenFile, f_writtenKind, a_board, a_line, a_out, mv, sb, a_spell)) → wpX_readMove post (nI ct, nI nt, nI st, nI sd, nI rt, ch_epI ep, nI ck, nI nb, nI ll, nI ol, f_moveTotal, f_movesKnown, f_savedSide, f_savedRights, f_savedPassant, f_savedClock, f_savedNumber, f_spellLen, f_at, f_end, f_writtenMark, f_writtenCastling, f_writtenPromotion, f_writtenTarget, f_writtenCapture, f_writtenRank, f_writtenFile, f_writtenKind, a_board, a_line, a_out, a_moves, a_savedBoard, a_spell)) ∧ (∀ post : Int32 → SY → Prop, (∀ r m f_textLen a_text, RR r → ch_BY m 0 B → post r (nI sd, nI rt, ch_epI ep, nI ck, nI nb, nI ll, nI ol, nI ct, nI nt, nI st, f_textLen, f_newSide, f_newRights, f_newEp, f_newClock, f_newNumber, m, a_line, a_out, a_text, a_cut)) → wpY_readMove post (nI sd, nI rt, ch_epI ep, nI ck, nI nb, nI ll, nI ol, nI ct, nI nt, nI st, f_textLen, f_newSide, f_newRights, f_newEp, f_newClock, f_newNumber, a_men, a_line, a_out, a_text, a_cut)) := by
  obtain ⟨h1, h2, h3, h4, h5, h6, h7, h8, h9⟩ := hF
  rcases ch_pm_parse h8 with ⟨pX, pY⟩ | ⟨e, cs, mk, pr, tg, cp, rk, fl, kd, hcs, pX, pY⟩
  · refine ⟨fun r => r = -3, fun r r' a b => a.trans b.symm, fun r a => Or.inl (by rw [a]; decide), fun post h => ?_, fun post h => pY post (h _ _ _ _ rfl h2)⟩
    unfold wpX_readMove
    refine pX _ (fun e w1 w2 w3 w4 w5 w6 w7 w8 => br_f (by decide) ?_)
    exact h _ _ _ _ _ _ _ _ _ _ _ _ _ _ _ _ _ _ _ _ _ rfl h4
  · refine ⟨ch_RES B sd rt ep cs mk pr tg cp rk fl kd a_line ll st, fun r r' a b => ch_RES_u h3 a b, fun r a => ch_RES_c a, fun post h => ?_, fun post h => ?_⟩
    · unfold wpX_readMove
      refine pX _ (br_t rfl ?_)
      refine ch_x_ensureMoves h1 h3 h4 (fun mv ch_hm => ?_)
      refine ch_x_match rfl h1 h3 (by omega) (by omega) (by omega) (by omega) h8 h7 hcs ch_hm (fun r s1 s2 s3 s4 s5 sb sl sp hr => ?_)
      exact h _ _ _ _ _ _ _ _ _ _ _ _ _ _ _ _ _ _ _ _ _ hr (ch_CA_k ch_hm)
    · refine pY post ?_
      exact ch_y_match h2 h3 (by omega) (by omega) (by omega) (by omega) h8 h7 hcs (fun r m tl tx ch_hm hr => h _ _ _ _ hr ch_hm)
end
theorem i_vc_readMove {k : Nat} {u : SX} {v : SY} (I : i_Rel k u v) (hk : k + 4 ≤ 2051) : wpX_readMove (fun r u' => wpY_readMove (fun r' v' => r' = r ∧ i_Rel (k + 4) u' v') v) u := by
  refine ch_rl_el (P := fun u v => wpX_readMove (fun r u' => wpY_readMove (fun r' v' => r' = r ∧ i_Rel (k + 4) u' v') v) u) ?_ I
  intro B sd rt ep ck ct nb nt st ll ol f_moveTotal f_movesKnown f_savedSide f_savedRights f_savedPassant f_savedClock f_savedNumber f_spellLen f_at f_end f_writtenMark f_writtenCastling f_writtenPromotion f_writtenTarget f_writtenCapture f_writtenRank f_writtenFile f_writtenKind a_board a_line a_out a_moves a_savedBoard a_spell f_textLen f_newSide f_newRights f_newEp f_newClock f_newNumber a_men a_text a_cut hF
  obtain ⟨RR, hu, hc, hX, hY⟩ := ch_rd_move hF
  obtain ⟨h1, h2, h3, h4, h5⟩ := hF
  refine hX _ (fun r ch_kn to mv s1 s2 s3 s4 s5 sb q1 q2 q3 q4 q5 q6 q7 q8 q9 q10 q11 hr hca => ?_)
  refine hY _ (fun r' m tl tx hr' ch_hm => ?_)
  exact ⟨hu _ _ hr' hr, ch_rl_mk ⟨h1, ch_hm, h3, hca, h5⟩⟩
theorem i_vc_playLine {k : Nat} {u : SX} {v : SY} (I : i_Rel k u v) (hk : k + 4 ≤ 2051) : wpX_playLine (fun r u' => wpY_playLine (fun r' v' => r' = r ∧ i_Rel (k + 4) u' v') v) u := by
  refine ch_rl_el (P := fun u v => wpX_playLine (fun r u' => wpY_playLine (fun r' v' => r' = r ∧ i_Rel (k + 4) u' v') v) u) ?_ I
  intro B sd rt ep ck ct nb nt st ll ol f_moveTotal f_movesKnown f_savedSide f_savedRights f_savedPassant f_savedClock f_savedNumber f_spellLen f_at f_end f_writtenMark f_writtenCastling f_writtenPromotion f_writtenTarget f_writtenCapture f_writtenRank f_writtenFile f_writtenKind a_board a_line a_out a_moves a_savedBoard a_spell f_textLen f_newSide f_newRights f_newEp f_newClock f_newNumber a_men a_text a_cut hF
  obtain ⟨RR, hu, hc, hX, hY⟩ := ch_rd_move hF
  obtain ⟨h1, h2, h3, h4, h5, h6, h7, h8, h9⟩ := hF
  unfold wpX_playLine
  refine hX _ (fun r ch_kn to mv s1 s2 s3 s4 s5 sb q1 q2 q3 q4 q5 q6 q7 q8 q9 q10 q11 hr hca => ?_)
  rcases hc r hr with hneg | ⟨c, hcb, hl, rfl⟩
  · have n0 : ¬ (0 : Int32) ≤ r := Int32.not_le.mpr hneg
    refine br_f n0 ?_
    unfold wpY_playLine
    refine hY _ (fun r' m tl tx hr' ch_hm => ?_)
    obtain rfl := hu _ _ hr' hr
    exact br_f n0 ⟨rfl, ch_rl_mk ⟨h1, ch_hm, h3, hca, h5, h6, h7, h8, h9⟩⟩
  · have p0 : (0 : Int32) ≤ nI c := nI_pos' (by omega)
    have hl' := hl
    obtain ⟨x, hT, hq⟩ := hl'
    have hPk := ch_POS_k h3 (by omega) (by omega) hT hq
    have ec := ch_cd_c hcb
    have ax : ∀ post : SX → Prop, (∀ ab, ch_BX ab (ch_AF B sd (c / 512) (c / 8 % 64) (c % 8) x) → ch_HI ab a_board → post (nI ct, nI nt, nI st, nI (1 - sd), nI (ch_nrt rt (c / 512) (c / 8 % 64)), ch_epI (ch_nep sd (c / 512) x), nI (ch_nck B (c / 512) (c / 8 % 64) x ck ct), nI (ch_nnb sd nb nt), nI ll, nI ol, to, ch_kn, s1, s2, s3, s4, s5, q1, f_at, q2, q3, q4, q5, q6, q7, q8, q9, q10, ab, a_line, a_out, mv, sb, q11)) → wpX_advance post (nI ct, nI nt, nI st, nI sd, nI rt, ch_epI ep, nI ck, nI nb, nI ll, nI ol, to, ch_kn, s1, s2, s3, s4, s5, q1, f_at, q2, q3, q4, q5, q6, q7, q8, q9, q10, a_board, a_line, a_out, mv, sb, q11) (nI c) := by
      intro post hp
      have := ch_x_advance h1 h3 (by omega) (by omega) (by omega) (by omega) (by omega) (by omega) (by omega) hT hp
      rw [ec] at this
      exact this
    refine br_t p0 ?_
    refine ax _ (fun ab hab _ => ?_)
    unfold wpY_playLine
    refine hY _ (fun r' m tl tx hr' ch_hm => ?_)
    have er := hu _ _ hr' hr
    subst er
    have ay : ∀ post : SY → Prop, (∀ m', ch_BY m' 0 (ch_AF B sd (c / 512) (c / 8 % 64) (c % 8) x) → ch_H8 m' m → post (nI (1 - sd), nI (ch_nrt rt (c / 512) (c / 8 % 64)), ch_epI (ch_nep sd (c / 512) x), nI (ch_nck B (c / 512) (c / 8 % 64) x ck ct), nI (ch_nnb sd nb nt), nI ll, nI ol, nI ct, nI nt, nI st, tl, f_newSide, f_newRights, f_newEp, f_newClock, f_newNumber, m', a_line, a_out, tx, a_cut)) → wpY_carryOut post (nI sd, nI rt, ch_epI ep, nI ck, nI nb, nI ll, nI ol, nI ct, nI nt, nI st, tl, f_newSide, f_newRights, f_newEp, f_newClock, f_newNumber, m, a_line, a_out, tx, a_cut) (nI c) := by
      intro post hp
      have := ch_y_carryOut ch_hm h3 (by omega) (by omega) (by omega) (by omega) (by omega) (by omega) (by omega) hT hp
      rw [ec] at this
      exact this
    refine br_t p0 ?_
    refine ay _ (fun m' hm' _ => ⟨rfl, ?_⟩)
    exact ch_rl_mk (ll := 0) ⟨hab, hm', hPk, Or.inl rfl, ⟨ch_nck_l h5.1, h5.2⟩, ⟨ch_nnb_l h6.1, h6.2⟩, h7, by omega, h9⟩
end
section
/-! the soundness of a read position: the component -/
noncomputable def ch_cq (B : Nat → Nat) (m : Nat) : Nat := ch_cn (fun i => B i = m) 64
theorem ch_cq_l (B : Nat → Nat) (m : Nat) : ch_cq B m ≤ 64 := ch_cn_le _ _
noncomputable def ch_nd (B : Nat → Nat) (c : Nat) : Nat := ch_cq B (8 * c + 1) + (ch_cq B (8 * c + 2) - 2) + (ch_cq B (8 * c + 3) - 2) + (ch_cq B (8 * c + 4) - 2) + (ch_cq B (8 * c + 5) - 1)
def ch_PP (B : Nat → Nat) : Prop := ∀ i, i < 8 → B i % 8 ≠ 1 ∧ B (56 + i) % 8 ≠ 1
noncomputable def ch_ci (P : Prop) (a b : Int32) : Int32 := @ite Int32 P (Classical.propDecidable P) a b
theorem ch_ci_t {P : Prop} {a b : Int32} (h : P) : ch_ci P a b = a := by unfold ch_ci; rw [if_pos h]
theorem ch_ci_f {P : Prop} {a b : Int32} (h : ¬ P) : ch_ci P a b = b := by unfold ch_ci; rw [if_neg h]
noncomputable def ch_chk (B : Nat → Nat) (sd rt ep ck ct nb nt : Nat) : Int32 :=
  ch_ci (ct < ck ∨ nb = 0 ∨ nt < nb) (-7) (ch_ci (¬ (ch_cq B 6 = 1 ∧ ch_cq B 14 = 1)) (-8) (ch_ci (¬ ch_PP B) (-9) (ch_ci (¬ (ch_nd B 0 ≤ 8 ∧ ch_nd B 1 ≤ 8)) (-10) (ch_ci (¬ ch_RG B rt) (-11) (ch_ci (¬ ch_EG B sd ep) (-12) (ch_ci (∃ q, ch_K1 B (1 - sd) q ∧ ch_AT B q sd) (-13) 0))))))
theorem ch_cn_1 {P : Nat → Prop} : ∀ {N : Nat}, ch_cn P N = 1 → ∃ q, q < N ∧ P q ∧ ∀ j, j < N → P j → j = q := by
  intro N h
  obtain ⟨q, hq, hp, hc⟩ := ch_cn_sur (show 0 < ch_cn P N by omega)
  refine ⟨q, hq, hp, fun j hj hpj => ?_⟩
  have := ch_cn_lt2 hj hpj
  exact ch_cn_inj hpj hp (by omega)
theorem ch_cq_K {B : Nat → Nat} {c : Nat} (h : ch_cq B (8 * c + 6) = 1) : ∃ q, ch_K1 B c q := by
  obtain ⟨q, hq, hp, hu⟩ := ch_cn_1 h
  exact ⟨q, hq, hp, hu⟩
theorem ch_K_cq {B : Nat → Nat} (h6 : ch_cq B 6 = 1) (h14 : ch_cq B 14 = 1) {c : Nat} (hc : c < 2) : ∃ q, ch_K1 B c q := by
  have e : c = 0 ∨ c = 1 := by omega
  rcases e with rfl | rfl
  · exact ch_cq_K h6
  · exact ch_cq_K h14
theorem ch_cn_le_or {P Q : Nat → Prop} : ∀ N, ch_cn (fun i => P i ∨ Q i) N ≤ ch_cn P N + ch_cn Q N
  | 0 => Nat.le_refl _
  | N + 1 => by
    have h := ch_cn_le_or (P := P) (Q := Q) N
    show ch_cn _ N + ch_b01 (P N ∨ Q N) ≤ (ch_cn P N + ch_b01 (P N)) + (ch_cn Q N + ch_b01 (Q N))
    have : ch_b01 (P N ∨ Q N) ≤ ch_b01 (P N) + ch_b01 (Q N) := by
      by_cases p : P N
      · rw [ch_b01_t p]; have := ch_b01_le (P N ∨ Q N); omega
      · have : ch_b01 (P N ∨ Q N) ≤ ch_b01 (Q N) := ch_b01_mono (fun z => z.elim (fun y => absurd y p) id)
        omega
    omega
/-- at most sixteen men of a colour -/
theorem ch_cq_16 {B : Nat → Nat} {c : Nat} (hV : ch_VB B) (hc : c < 2) (hk : ch_cq B (8 * c + 6) = 1) (hn : ch_nd B c ≤ 8) : ch_cn (fun i => ch_ow B c i) 64 ≤ 16 := by
  have m := ch_cn_mono (P := fun i => ch_ow B c i) (Q := fun i => B i = 8 * c + 6 ∨ B i = 8 * c + 1 ∨ B i = 8 * c + 2 ∨ B i = 8 * c + 3 ∨ B i = 8 * c + 4 ∨ B i = 8 * c + 5) (N := 64) (fun i hi w => by
    have := hV i hi
    unfold ch_VM at this
    unfold ch_ow at w
    omega)
  have a1 := ch_cn_le_or (P := fun i => B i = 8 * c + 6) (Q := fun i => B i = 8 * c + 1 ∨ B i = 8 * c + 2 ∨ B i = 8 * c + 3 ∨ B i = 8 * c + 4 ∨ B i = 8 * c + 5) 64
  have a2 := ch_cn_le_or (P := fun i => B i = 8 * c + 1) (Q := fun i => B i = 8 * c + 2 ∨ B i = 8 * c + 3 ∨ B i = 8 * c + 4 ∨ B i = 8 * c + 5) 64
  have a3 := ch_cn_le_or (P := fun i => B i = 8 * c + 2) (Q := fun i => B i = 8 * c + 3 ∨ B i = 8 * c + 4 ∨ B i = 8 * c + 5) 64
  have a4 := ch_cn_le_or (P := fun i => B i = 8 * c + 3) (Q := fun i => B i = 8 * c + 4 ∨ B i = 8 * c + 5) 64
  have a5 := ch_cn_le_or (P := fun i => B i = 8 * c + 4) (Q := fun i => B i = 8 * c + 5) 64
  unfold ch_nd ch_cq at hn
  unfold ch_cq at hk
  omega
/-- a sound text gives a position -/
theorem ch_chk_0 {B : Nat → Nat} {sd rt ep ck ct nb nt : Nat} (hV : ch_VB B) (hsd : sd < 2) (hrt : rt < 16) (hep : ep ≤ 64) (h : ch_chk B sd rt ep ck ct nb nt = 0) : ch_POS B sd rt ep ∧ ck ≤ ct ∧ nb ≤ nt := by
  unfold ch_chk at h
  by_cases c1 : ct < ck ∨ nb = 0 ∨ nt < nb
  · rw [ch_ci_t c1] at h; exact absurd h (by decide)
  rw [ch_ci_f c1] at h
  by_cases c2 : ch_cq B 6 = 1 ∧ ch_cq B 14 = 1
  · rw [ch_ci_f (fun z => z c2)] at h
    by_cases c3 : ch_PP B
    · rw [ch_ci_f (fun z => z c3)] at h
      by_cases c4 : ch_nd B 0 ≤ 8 ∧ ch_nd B 1 ≤ 8
      · rw [ch_ci_f (fun z => z c4)] at h
        by_cases c5 : ch_RG B rt
        · rw [ch_ci_f (fun z => z c5)] at h
          by_cases c6 : ch_EG B sd ep
          · rw [ch_ci_f (fun z => z c6)] at h
            by_cases c7 : ∃ q, ch_K1 B (1 - sd) q ∧ ch_AT B q sd
            · rw [ch_ci_t c7] at h; exact absurd h (by decide)
            · refine ⟨⟨hV, hsd, hrt, hep, ch_K_cq c2.1 c2.2 (by omega), ch_K_cq c2.1 c2.2 (by omega), ?_, c5, c6, fun q hq ha => c7 ⟨q, hq, ha⟩, ?_⟩, by omega, by omega⟩
              · intro i hi ch_hm
                by_cases z : i / 8 = 0
                · exact absurd ch_hm (c3 i (by omega)).1
                · by_cases z7 : i / 8 = 7
                  · have := (c3 (i - 56) (by omega)).2
                    rw [show 56 + (i - 56) = i from by omega] at this
                    exact absurd ch_hm this
                  · omega
              · intro c hc
                have e : c = 0 ∨ c = 1 := by omega
                rcases e with rfl | rfl
                · exact ch_cq_16 hV (by omega) c2.1 c4.1
                · exact ch_cq_16 hV (by omega) c2.2 c4.2
          · rw [ch_ci_t c6] at h; exact absurd h (by decide)
        · rw [ch_ci_t c5] at h; exact absurd h (by decide)
      · rw [ch_ci_t c4] at h; exact absurd h (by decide)
    · rw [ch_ci_t c3] at h; exact absurd h (by decide)
  · rw [ch_ci_t c2] at h; exact absurd h (by decide)
section
variable {f_clockTop f_numberTop f_strict f_side f_rights f_passant f_clock f_number f_lineLen f_outLen f_moveTotal f_movesKnown f_savedSide f_savedRights f_savedPassant f_savedClock f_savedNumber f_spellLen f_at f_end f_writtenMark f_writtenCastling f_writtenPromotion f_writtenTarget f_writtenCapture f_writtenRank f_writtenFile f_writtenKind : Int32} {a_board a_line a_out a_moves a_savedBoard a_spell : Nat → Int32}
theorem ch_x_countMen {post : Int32 → Prop} {B : Nat → Nat} {m : Nat} (hB : ch_BX a_board B) (hV : ch_VB B) (ch_hm : m < 16) (h : post (nI (ch_cq B m))) : wpX_countMen post (f_clockTop, f_numberTop, f_strict, f_side, f_rights, f_passant, f_clock, f_number, f_lineLen, f_outLen, f_moveTotal, f_movesKnown, f_savedSide, f_savedRights, f_savedPassant, f_savedClock, f_savedNumber, f_spellLen, f_at, f_end, f_writtenMark, f_writtenCastling, f_writtenPromotion, f_writtenTarget, f_writtenCapture, f_writtenRank, f_writtenFile, f_writtenKind, a_board, a_line, a_out, a_moves, a_savedBoard, a_spell) (nI m) := by
  refine ⟨65, ?_⟩
  refine ch_fn (σ := Nat) (fun n q z => wX_countMen_4 post (nI m) f_clockTop f_numberTop f_strict f_side f_rights f_passant f_clock f_number f_lineLen f_outLen f_moveTotal f_movesKnown f_savedSide f_savedRights f_savedPassant f_savedClock f_savedNumber f_spellLen f_at f_end f_writtenMark f_writtenCastling f_writtenPromotion f_writtenTarget f_writtenCapture f_writtenRank f_writtenFile f_writtenKind a_board a_line a_out a_moves a_savedBoard a_spell n (nI q) z) (fun i q => q = ch_cn (fun j => B j = m) i) 64 ?_ ?_ 64 0 0 rfl rfl
  · rintro n q rfl
    exact br_t (by decide) h
  · rintro n i q hi rfl ih
    have hv := ch_VB_lt hV hi
    refine pk_le 64 i (fun e => by omega) (fun _ => ⟨vp_in_nI hi (by omega), pk_eq (B i) m (fun e => nm_r (nI_1 _) (nm_r (nI_1 i) ?_)) (fun e => nm_r (nI_1 i) ?_) (ch_bx hB hi) rfl⟩)
    · exact ih _ (by rw [ch_cn_s, ch_b01_t e])
    · exact ih _ (by rw [ch_cn_s, ch_b01_f e]; rfl)
theorem ch_x_pawnsInPlace {post : Int32 → Prop} {B : Nat → Nat} (hB : ch_BX a_board B) (hV : ch_VB B) (h1 : ch_PP B → post 1) (h0 : ¬ ch_PP B → post 0) : wpX_pawnsInPlace post (f_clockTop, f_numberTop, f_strict, f_side, f_rights, f_passant, f_clock, f_number, f_lineLen, f_outLen, f_moveTotal, f_movesKnown, f_savedSide, f_savedRights, f_savedPassant, f_savedClock, f_savedNumber, f_spellLen, f_at, f_end, f_writtenMark, f_writtenCastling, f_writtenPromotion, f_writtenTarget, f_writtenCapture, f_writtenRank, f_writtenFile, f_writtenKind, a_board, a_line, a_out, a_moves, a_savedBoard, a_spell) := by
  refine ⟨9, ?_⟩
  refine ch_fn (σ := Unit) (fun n _ z => wX_pawnsInPlace_2 post f_clockTop f_numberTop f_strict f_side f_rights f_passant f_clock f_number f_lineLen f_outLen f_moveTotal f_movesKnown f_savedSide f_savedRights f_savedPassant f_savedClock f_savedNumber f_spellLen f_at f_end f_writtenMark f_writtenCastling f_writtenPromotion f_writtenTarget f_writtenCapture f_writtenRank f_writtenFile f_writtenKind a_board a_line a_out a_moves a_savedBoard a_spell n z) (fun i _ => ∀ j, j < i → B j % 8 ≠ 1 ∧ B (56 + j) % 8 ≠ 1) 8 ?_ ?_ 8 0 () rfl (fun j hj => by omega)
  · intro n _ hn
    exact br_t (by decide) (h1 hn)
  · intro n i _ hi hn ih
    have hv := ch_VB_lt hV (i := i) (by omega)
    have hv2 := ch_VB_lt hV (i := 56 + i) (by omega)
    refine pk_le 8 i (fun e => by omega) (fun _ => ⟨vp_in_nI (by omega) (by omega), ?_⟩)
    rw [show (56 : Int32) + nI i = nI (56 + i) from nI_add 56 i, ch_bx hB (i := i) (by omega), ch_bx hB (i := 56 + i) (by omega), ch_nI_a7 (by omega), ch_nI_a7 (by omega)]
    refine pk_eq (B i % 8) 1 (fun e => h0 (fun w => (w i hi).1 e)) (fun e => ⟨vp_in_nI (by omega) (by omega), pk_eq (B (56 + i) % 8) 1 (fun e2 => h0 (fun w => (w i hi).2 e2)) (fun e2 => nm_r (nI_1 i) (ih () (fun j hj => ?_)))⟩)
    by_cases z : j = i
    · subst z; exact ⟨e, e2⟩
    · exact hn j (by omega)
theorem ch_x_pn28 {post : Int32 → Prop} {B : Nat → Nat} {J : Int32 → Int32 → Prop} {c a kk us : Nat} (hB : ch_BX a_board B) (hV : ch_VB B) (hc : c < 2) (hk : kk < 8) (hus : us < 3) (h : J (nI (a + (ch_cq B (8 * c + kk) - us))) (nI (kk + 1))) : wX_pawnsNeeded_28 post J (nI c) (nI a) (nI kk) (nI us) f_clockTop f_numberTop f_strict f_side f_rights f_passant f_clock f_number f_lineLen f_outLen f_moveTotal f_movesKnown f_savedSide f_savedRights f_savedPassant f_savedClock f_savedNumber f_spellLen f_at f_end f_writtenMark f_writtenCastling f_writtenPromotion f_writtenTarget f_writtenCapture f_writtenRank f_writtenFile f_writtenKind a_board a_line a_out a_moves a_savedBoard a_spell := by
  have hq := ch_cq_l B (8 * c + kk)
  unfold wX_pawnsNeeded_28
  rw [ch_nI_8c]
  refine ch_x_countMen hB hV (by omega) ?_
  refine pk_le (ch_cq B (8 * c + kk)) us (fun e => nm_r (nI_1 kk) ?_) (fun e => nm_r (e' := nI (a + (ch_cq B (8 * c + kk) - us))) ?_ (nm_r (nI_1 kk) h))
  · rw [show a + (ch_cq B (8 * c + kk) - us) = a from by omega] at h
    exact h
  · rw [pk_sub (by omega), nI_add]
theorem ch_x_pawnsNeeded {post : Int32 → Prop} {B : Nat → Nat} {c : Nat} (hB : ch_BX a_board B) (hV : ch_VB B) (hc : c < 2) (h : post (nI (ch_nd B c))) : wpX_pawnsNeeded post (f_clockTop, f_numberTop, f_strict, f_side, f_rights, f_passant, f_clock, f_number, f_lineLen, f_outLen, f_moveTotal, f_movesKnown, f_savedSide, f_savedRights, f_savedPassant, f_savedClock, f_savedNumber, f_spellLen, f_at, f_end, f_writtenMark, f_writtenCastling, f_writtenPromotion, f_writtenTarget, f_writtenCapture, f_writtenRank, f_writtenFile, f_writtenKind, a_board, a_line, a_out, a_moves, a_savedBoard, a_spell) (nI c) := by
  unfold wpX_pawnsNeeded
  rw [show (8 : Int32) * nI c + 1 = nI (8 * c + 1) from ch_nI_8c c 1]
  refine ch_x_countMen hB hV (by omega) ⟨5, ?_⟩
  refine br_f (by decide) (br_f (by decide) ?_)
  refine ch_x_pn28 (kk := 2) (us := 2) hB hV hc (by omega) (by omega) ?_
  refine br_f (by decide) (br_f (by decide) ?_)
  refine ch_x_pn28 (kk := 3) (us := 2) hB hV hc (by omega) (by omega) ?_
  refine br_f (by decide) (br_f (by decide) ?_)
  refine ch_x_pn28 (kk := 4) (us := 2) hB hV hc (by omega) (by omega) ?_
  refine br_f (by decide) (br_t (by decide) ?_)
  refine ch_x_pn28 (kk := 5) (us := 1) hB hV hc (by omega) (by omega) ?_
  exact br_t (by decide) h
theorem ch_x_rightsInPlace {post : Int32 → Prop} {B : Nat → Nat} {rt : Nat} (hB : ch_BX a_board B) (hV : ch_VB B) (hrt : rt < 16) (h1 : ch_RG B rt → post 1) (h0 : ¬ ch_RG B rt → post 0) : wpX_rightsInPlace post (f_clockTop, f_numberTop, f_strict, f_side, nI rt, f_passant, f_clock, f_number, f_lineLen, f_outLen, f_moveTotal, f_movesKnown, f_savedSide, f_savedRights, f_savedPassant, f_savedClock, f_savedNumber, f_spellLen, f_at, f_end, f_writtenMark, f_writtenCastling, f_writtenPromotion, f_writtenTarget, f_writtenCapture, f_writtenRank, f_writtenFile, f_writtenKind, a_board, a_line, a_out, a_moves, a_savedBoard, a_spell) := by
  have one : ∀ (m w b co ks rk : Nat), w < 4 → nI rt &&& ((1 : Int32) <<< (nI w &&& 31)) = nI b → b < 16 → nI w >>> ((1 : Int32) &&& 31) = nI co → co < 2 → (nI w &&& 1 = 0 ∧ rk = 56 * co + 7 ∨ ¬ nI w &&& 1 = 0 ∧ rk = 56 * co) → ((b ≠ 0 ∧ ¬ (B (56 * co + 4) = 8 * co + 6 ∧ B rk = 8 * co + 4)) → post 0) → ((b ≠ 0 → B (56 * co + 4) = 8 * co + 6 ∧ B rk = 8 * co + 4) → wX_rightsInPlace_2 post f_clockTop f_numberTop f_strict f_side (nI rt) f_passant f_clock f_number f_lineLen f_outLen f_moveTotal f_movesKnown f_savedSide f_savedRights f_savedPassant f_savedClock f_savedNumber f_spellLen f_at f_end f_writtenMark f_writtenCastling f_writtenPromotion f_writtenTarget f_writtenCapture f_writtenRank f_writtenFile f_writtenKind a_board a_line a_out a_moves a_savedBoard a_spell m (nI (w + 1))) → wX_rightsInPlace_2 post f_clockTop f_numberTop f_strict f_side (nI rt) f_passant f_clock f_number f_lineLen f_outLen f_moveTotal f_movesKnown f_savedSide f_savedRights f_savedPassant f_savedClock f_savedNumber f_spellLen f_at f_end f_writtenMark f_writtenCastling f_writtenPromotion f_writtenTarget f_writtenCapture f_writtenRank f_writtenFile f_writtenKind a_board a_line a_out a_moves a_savedBoard a_spell (m + 1) (nI w) := by
    intro m w b co ks rk hw hb hb2 hco hco2 hrk no yes
    have v1 := ch_VB_lt hV (i := 56 * co + 4) (by omega)
    have v2 := ch_VB_lt hV (i := rk) (by omega)
    refine pk_le 4 w (fun e => by omega) (fun _ => ?_)
    rw [hb, hco]
    have h41 : b ≠ 0 → wX_rightsInPlace_41 post (wX_rightsInPlace_2 post f_clockTop f_numberTop f_strict f_side (nI rt) f_passant f_clock f_number f_lineLen f_outLen f_moveTotal f_movesKnown f_savedSide f_savedRights f_savedPassant f_savedClock f_savedNumber f_spellLen f_at f_end f_writtenMark f_writtenCastling f_writtenPromotion f_writtenTarget f_writtenCapture f_writtenRank f_writtenFile f_writtenKind a_board a_line a_out a_moves a_savedBoard a_spell m) (nI w) (nI co) (nI (56 * co)) (nI rk) f_clockTop f_numberTop f_strict f_side (nI rt) f_passant f_clock f_number f_lineLen f_outLen f_moveTotal f_movesKnown f_savedSide f_savedRights f_savedPassant f_savedClock f_savedNumber f_spellLen f_at f_end f_writtenMark f_writtenCastling f_writtenPromotion f_writtenTarget f_writtenCapture f_writtenRank f_writtenFile f_writtenKind a_board a_line a_out a_moves a_savedBoard a_spell := by
      intro e
      unfold wX_rightsInPlace_41
      rw [show nI (56 * co) + 4 = nI (56 * co + 4) from nI_add _ 4, ch_bx hB (i := 56 * co + 4) (by omega), ch_bx hB (i := rk) (by omega), show (8 : Int32) * nI co + 6 = nI (8 * co + 6) from ch_nI_8c co 6, show (8 : Int32) * nI co + 4 = nI (8 * co + 4) from ch_nI_8c co 4]
      exact ⟨vp_in_nI (by omega) (by omega), pk_eq (B (56 * co + 4)) (8 * co + 6) (fun e1 => ⟨vp_in_nI (by omega) (by omega), pk_eq (B rk) (8 * co + 4) (fun e2 => nm_r (nI_1 w) (yes (fun _ => ⟨e1, e2⟩))) (fun e2 => no ⟨e, fun z => e2 z.2⟩)⟩) (fun e1 => no ⟨e, fun z => e1 z.1⟩)⟩
    refine pk_eq b 0 (fun e => nm_r (nI_1 w) (yes (fun z => absurd e z))) (fun e => nm_e (nm_r (e' := nI (56 * co)) (pk_mul 56 co) ?_))
    rcases hrk with ⟨z, rfl⟩ | ⟨z, rfl⟩
    · refine br_t z ?_
      rw [show nI (56 * co) + 7 = nI (56 * co + 7) from nI_add _ 7]
      exact h41 e
    · exact br_f z (h41 e)
  refine ⟨5, ?_⟩
  refine one 4 0 _ 0 0 7 (by omega) (ch_sw0 rt hrt) (by omega) (by decide) (by omega) (Or.inl ⟨by decide, rfl⟩) (fun z => h0 (fun w => z.2 (w.1 (by omega)))) (fun z1 => ?_)
  refine one 3 1 _ 0 0 0 (by omega) (ch_sw1 rt hrt) (by omega) (by decide) (by omega) (Or.inr ⟨by decide, rfl⟩) (fun z => h0 (fun w => z.2 (w.2.1 (by omega)))) (fun z2 => ?_)
  refine one 2 2 _ 1 0 63 (by omega) (ch_sw2 rt hrt) (by omega) (by decide) (by omega) (Or.inl ⟨by decide, rfl⟩) (fun z => h0 (fun w => z.2 (w.2.2.1 (by omega)))) (fun z3 => ?_)
  refine one 1 3 _ 1 0 56 (by omega) (ch_sw3 rt hrt) (by omega) (by decide) (by omega) (Or.inr ⟨by decide, rfl⟩) (fun z => h0 (fun w => z.2 (w.2.2.2 (by omega)))) (fun z4 => ?_)
  exact br_t (by decide) (h1 ⟨fun w => z1 (by omega), fun w => z2 (by omega), fun w => z3 (by omega), fun w => z4 (by omega)⟩)
theorem ch_x_passantInPlace {post : Int32 → Prop} {B : Nat → Nat} {sd ep : Nat} (hB : ch_BX a_board B) (hV : ch_VB B) (hsd : sd < 2) (hep : ep ≤ 64) (h1 : ch_EG B sd ep → post 1) (h0 : ¬ ch_EG B sd ep → post 0) : wpX_passantInPlace post (f_clockTop, f_numberTop, f_strict, nI sd, f_rights, ch_epI ep, f_clock, f_number, f_lineLen, f_outLen, f_moveTotal, f_movesKnown, f_savedSide, f_savedRights, f_savedPassant, f_savedClock, f_savedNumber, f_spellLen, f_at, f_end, f_writtenMark, f_writtenCastling, f_writtenPromotion, f_writtenTarget, f_writtenCapture, f_writtenRank, f_writtenFile, f_writtenKind, a_board, a_line, a_out, a_moves, a_savedBoard, a_spell) := by
  by_cases c : ep < 64
  · have v0 := ch_VB_lt hV c
    unfold wpX_passantInPlace
    dsimp only
    rw [ch_epI_s c, ch_nI_r3 (by omega)]
    refine br_t (nI_pos' (by omega)) (nm_e (pk_eq sd 0 (fun e0 => ?_) (fun e0 => ?_)))
    · refine pk_eq (ep / 8) 5 (fun e5 => ?_) (fun e5 => h0 (fun w => by have := w c; omega))
      have v1 := ch_VB_lt hV (i := ep + 8) (by omega)
      have v2 := ch_VB_lt hV (i := ep - 8) (by omega)
      rw [show nI ep + 8 = nI (ep + 8) from nI_add ep 8, show nI ep - 8 = nI (ep - 8) from pk_sub (b := 8) (by omega)]
      refine ⟨vp_in_nI c (by omega), pk_eq (B ep) 0 (fun a1 => ⟨vp_in_nI (by omega) (by omega), pk_eq (B (ep + 8)) 0 (fun a2 => ⟨vp_in_nI (by omega) (by omega), pk_eq (B (ep - 8)) 9 (fun a3 => h1 (fun _ => Or.inl ⟨e0, e5, a1, a2, a3⟩)) (fun a3 => h0 (fun w => by have := w c; omega)) (ch_bx hB (by omega)) rfl⟩) (fun a2 => h0 (fun w => by have := w c; omega)) (ch_bx hB (by omega)) rfl⟩) (fun a1 => h0 (fun w => by have := w c; omega)) (ch_bx hB c) rfl⟩
    · refine pk_eq (ep / 8) 2 (fun e5 => ?_) (fun e5 => h0 (fun w => by have := w c; omega))
      have v1 := ch_VB_lt hV (i := ep + 8) (by omega)
      have v2 := ch_VB_lt hV (i := ep - 8) (by omega)
      rw [show nI ep + 8 = nI (ep + 8) from nI_add ep 8, show nI ep - 8 = nI (ep - 8) from pk_sub (b := 8) (by omega)]
      refine ⟨vp_in_nI c (by omega), pk_eq (B ep) 0 (fun a1 => ⟨vp_in_nI (by omega) (by omega), pk_eq (B (ep - 8)) 0 (fun a2 => ⟨vp_in_nI (by omega) (by omega), pk_eq (B (ep + 8)) 1 (fun a3 => h1 (fun _ => Or.inr ⟨by omega, e5, a1, a2, a3⟩)) (fun a3 => h0 (fun w => by have := w c; omega)) (ch_bx hB (by omega)) rfl⟩) (fun a2 => h0 (fun w => by have := w c; omega)) (ch_bx hB (by omega)) rfl⟩) (fun a1 => h0 (fun w => by have := w c; omega)) (ch_bx hB c) rfl⟩
  · unfold wpX_passantInPlace
    dsimp only
    rw [ch_epI_n c]
    exact br_f (by decide) (h1 (fun w => absurd w c))
theorem ch_x_checkPosition {post : Int32 → Prop} {B : Nat → Nat} {sd rt ep ck ct nb nt : Nat} (hB : ch_BX a_board B) (hV : ch_VB B) (hsd : sd < 2) (hrt : rt < 16) (hep : ep ≤ 64) (hck : ck < 100000) (hct : ct < 100000) (hnb : nb < 100000) (hnt : nt < 100000) (h : post (ch_chk B sd rt ep ck ct nb nt)) : wpX_checkPosition post (nI ct, nI nt, f_strict, nI sd, nI rt, ch_epI ep, nI ck, nI nb, f_lineLen, f_outLen, f_moveTotal, f_movesKnown, f_savedSide, f_savedRights, f_savedPassant, f_savedClock, f_savedNumber, f_spellLen, f_at, f_end, f_writtenMark, f_writtenCastling, f_writtenPromotion, f_writtenTarget, f_writtenCapture, f_writtenRank, f_writtenFile, f_writtenKind, a_board, a_line, a_out, a_moves, a_savedBoard, a_spell) := by
  unfold ch_chk at h
  have q6 := ch_cq_l B 6
  have q14 := ch_cq_l B 14
  refine pk_lt ct ck (fun c => ?_) (fun c1 => pk_eq nb 0 (fun c => ?_) (fun c2 => pk_le nb nt (fun c3 => ?_) (fun c => ?_)))
  · rw [ch_ci_t (Or.inl c)] at h; exact h
  · rw [ch_ci_t (Or.inr (Or.inl c))] at h; exact h
  · rw [ch_ci_f (by omega)] at h
    refine ch_x_countMen (m := 6) hB hV (by omega) (pk_eq (ch_cq B 6) 1 (fun k6 => ?_) (fun c => ?_))
    · refine ch_x_countMen (m := 14) hB hV (by omega) (pk_eq (ch_cq B 14) 1 (fun k14 => ?_) (fun c => ?_))
      · rw [ch_ci_f (fun z => z ⟨k6, k14⟩)] at h
        refine ch_x_pawnsInPlace hB hV (fun p => br_f (by decide) ?_) (fun p => br_t rfl ?_)
        · rw [ch_ci_f (fun z => z p)] at h
          have l0 : ch_nd B 0 ≤ 400 := by unfold ch_nd; have := ch_cq_l B (8 * 0 + 1); have := ch_cq_l B (8 * 0 + 2); have := ch_cq_l B (8 * 0 + 3); have := ch_cq_l B (8 * 0 + 4); have := ch_cq_l B (8 * 0 + 5); omega
          have l1 : ch_nd B 1 ≤ 400 := by unfold ch_nd; have := ch_cq_l B (8 * 1 + 1); have := ch_cq_l B (8 * 1 + 2); have := ch_cq_l B (8 * 1 + 3); have := ch_cq_l B (8 * 1 + 4); have := ch_cq_l B (8 * 1 + 5); omega
          refine ch_x_pawnsNeeded (c := 0) hB hV (by omega) (pk_lt 8 (ch_nd B 0) (fun c => ?_) (fun n0 => ?_))
          · rw [ch_ci_t (by omega)] at h; exact h
          · refine ch_x_pawnsNeeded (c := 1) hB hV (by omega) (pk_le (ch_nd B 1) 8 (fun n1 => ?_) (fun c => ?_))
            · rw [ch_ci_f (fun z => z ⟨n0, n1⟩)] at h
              refine ch_x_rightsInPlace hB hV hrt (fun g => br_f (by decide) ?_) (fun g => br_t rfl ?_)
              · rw [ch_ci_f (fun z => z g)] at h
                refine ch_x_passantInPlace hB hV hsd hep (fun e => br_f (by decide) ?_) (fun e => br_t rfl ?_)
                · rw [ch_ci_f (fun z => z e)] at h
                  obtain ⟨q, hq⟩ := ch_K_cq k6 k14 (c := 1 - sd) (by omega)
                  rw [ch_side_f sd hsd]
                  refine ch_x_kingSquare hB hV (by omega) hq ?_
                  refine ch_x_isAttacked hB hV hq.1 hsd (fun a => br_f (by decide) ?_) (fun a => br_t rfl ?_)
                  · rw [ch_ci_t ⟨q, hq, a⟩] at h; exact h
                  · rw [ch_ci_f (fun ⟨q', hq', a'⟩ => a (ch_K1_u hq' hq ▸ a'))] at h; exact h
                · rw [ch_ci_t e] at h; exact h
              · rw [ch_ci_t g] at h; exact h
            · rw [ch_ci_t (by omega)] at h; exact h
        · rw [ch_ci_t p] at h; exact h
      · rw [ch_ci_t (fun z => c z.2)] at h; exact h
    · rw [ch_ci_t (fun z => c z.1)] at h; exact h
  · rw [ch_ci_t (Or.inr (Or.inr c))] at h; exact h
end
end
section
/-! the soundness of a read position: the reference -/
theorem ch_i192 (k : Nat) : (192 : Int32) + nI k = nI (192 + k) := nI_add 192 k
theorem ch_i248 (k : Nat) : (248 : Int32) + nI k = nI (248 + k) := nI_add 248 k
theorem ch_b192 {a : Nat → Int32} {B : Nat → Nat} (h : ch_BY a 192 B) {i : Nat} (hi : i < 64) : a (nI (192 + i)).toNatClampNeg = nI (B i) := by
  rw [nI_clamp (by omega)]; exact h i hi
section
variable {f_side f_rights f_ep f_clock f_number f_lineLen f_outLen f_clockTop f_numberTop f_strict f_textLen f_newSide f_newRights f_newEp f_newClock f_newNumber : Int32} {a_men a_line a_out a_text a_cut : Nat → Int32}
theorem ch_y_countMen {post : Int32 → Prop} {B : Nat → Nat} {m : Nat} (hB : ch_BY a_men 192 B) (hV : ch_VB B) (ch_hm : m < 16) (h : post (nI (ch_cq B m))) : wpY_countMen post (f_side, f_rights, f_ep, f_clock, f_number, f_lineLen, f_outLen, f_clockTop, f_numberTop, f_strict, f_textLen, f_newSide, f_newRights, f_newEp, f_newClock, f_newNumber, a_men, a_line, a_out, a_text, a_cut) (nI m) := by
  refine ⟨65, ?_⟩
  refine ch_fn (σ := Nat) (fun n q z => wY_countMen_4 post (nI m) f_side f_rights f_ep f_clock f_number f_lineLen f_outLen f_clockTop f_numberTop f_strict f_textLen f_newSide f_newRights f_newEp f_newClock f_newNumber a_men a_line a_out a_text a_cut n (nI q) z) (fun i q => q = ch_cn (fun j => B j = m) i) 64 ?_ ?_ 64 0 0 rfl rfl
  · rintro n q rfl
    exact br_t (by decide) h
  · rintro n i q hi rfl ih
    have hv := ch_VB_lt hV hi
    refine pk_le 64 i (fun e => by omega) (fun _ => ?_)
    rw [ch_i192]
    refine ⟨vp_in_nI (by omega) (by omega), pk_eq (B i) m (fun e => nm_r (nI_1 _) (nm_r (nI_1 i) ?_)) (fun e => nm_r (nI_1 i) ?_) (ch_b192 hB hi) rfl⟩
    · exact ih _ (by rw [ch_cn_s, ch_b01_t e])
    · exact ih _ (by rw [ch_cn_s, ch_b01_f e]; rfl)
theorem ch_y_rp590 {post : Int32 → SY → Prop} {B : Nat → Nat} {sd rt ep ck ct nb nt kq : Nat} (hB : ch_BY a_men 192 B) (hV : ch_VB B) (hsd : sd < 2) (hK : ch_K1 B (1 - sd) kq) (h0 : ¬ ch_AT B kq sd → ∀ m, ch_BY m 0 B → post 0 (nI sd, nI rt, ch_epI ep, nI ck, nI nb, 0, f_outLen, nI ct, nI nt, f_strict, f_textLen, nI sd, nI rt, ch_epI ep, nI ck, nI nb, m, a_line, a_out, a_text, a_cut)) (h1 : ch_AT B kq sd → post (-13) (f_side, f_rights, f_ep, f_clock, f_number, f_lineLen, f_outLen, nI ct, nI nt, f_strict, f_textLen, nI sd, nI rt, ch_epI ep, nI ck, nI nb, a_men, a_line, a_out, a_text, a_cut)) : wY_readPosition_590 post f_side f_rights f_ep f_clock f_number f_lineLen f_outLen (nI ct) (nI nt) f_strict f_textLen (nI sd) (nI rt) (ch_epI ep) (nI ck) (nI nb) a_men a_line a_out a_text a_cut := by
  unfold wY_readPosition_590
  rw [ch_side_f sd hsd]
  refine ch_y_findKing (bs := 192) hB (by omega) hV (by omega) hK ?_
  refine ch_y_attackedOn (bs := 192) hB (by omega) hV hK.1 hsd (fun a => br_f (by decide) (h1 a)) (fun a => br_t rfl ⟨65, ?_⟩)
  refine ch_fn (σ := Nat → Int32) (fun n m z => wY_readPosition_631 post f_side f_rights f_ep f_clock f_number f_lineLen f_outLen (nI ct) (nI nt) f_strict f_textLen (nI sd) (nI rt) (ch_epI ep) (nI ck) (nI nb) n z m a_line a_out a_text a_cut) (fun i m => (∀ j, 64 ≤ j → m j = a_men j) ∧ ∀ j, j < i → m j = nI (B j)) 64 ?_ ?_ 64 0 a_men rfl ⟨fun _ _ => rfl, fun j hj => by omega⟩
  · rintro n m ⟨m1, m2⟩
    exact br_t (by decide) (h0 a m (fun i hi => by rw [Nat.zero_add]; exact m2 i hi))
  · rintro n i m hi ⟨m1, m2⟩ ih
    refine pk_le 64 i (fun e => by omega) (fun _ => ?_)
    rw [ch_i192, nI_clamp (n := 192 + i) (by omega), nI_clamp (n := i) (by omega)]
    refine ⟨vp_in_nI (by omega) (by omega), vp_in_nI (by omega) (by omega), nm_e (nm_r (nI_1 i) (ih _ ⟨fun j hj => ?_, fun j hj => ?_⟩))⟩
    · rw [ch_u_f (by omega)]; exact m1 j hj
    · by_cases e : j = i
      · rw [ch_u_t e, m1 _ (by omega), e]; exact hB i hi
      · rw [ch_u_f e]; exact m2 j (by omega)
theorem ch_y_rp443 {post : Int32 → SY → Prop} {B : Nat → Nat} {sd rt ep ck ct nb nt : Nat} (hB : ch_BY a_men 192 B) (hV : ch_VB B) (hsd : sd < 2) (hep : ep ≤ 64) (h : ch_EG B sd ep → wY_readPosition_590 post f_side f_rights f_ep f_clock f_number f_lineLen f_outLen (nI ct) (nI nt) f_strict f_textLen (nI sd) (nI rt) (ch_epI ep) (nI ck) (nI nb) a_men a_line a_out a_text a_cut) (h0 : ¬ ch_EG B sd ep → post (-12) (f_side, f_rights, f_ep, f_clock, f_number, f_lineLen, f_outLen, nI ct, nI nt, f_strict, f_textLen, nI sd, nI rt, ch_epI ep, nI ck, nI nb, a_men, a_line, a_out, a_text, a_cut)) : wY_readPosition_443 post f_side f_rights f_ep f_clock f_number f_lineLen f_outLen (nI ct) (nI nt) f_strict f_textLen (nI sd) (nI rt) (ch_epI ep) (nI ck) (nI nb) a_men a_line a_out a_text a_cut := by
  unfold wY_readPosition_443
  by_cases c : ep < 64
  · have v0 := ch_VB_lt hV c
    rw [ch_epI_s c, ch_nI_r3 (by omega), ch_i192]
    have h' : ch_EG B sd ep → wY_readPosition_590 post f_side f_rights f_ep f_clock f_number f_lineLen f_outLen (nI ct) (nI nt) f_strict f_textLen (nI sd) (nI rt) (nI ep) (nI ck) (nI nb) a_men a_line a_out a_text a_cut := by rw [ch_epI_s c] at h; exact h
    have h0' : ¬ ch_EG B sd ep → post (-12) (f_side, f_rights, f_ep, f_clock, f_number, f_lineLen, f_outLen, nI ct, nI nt, f_strict, f_textLen, nI sd, nI rt, nI ep, nI ck, nI nb, a_men, a_line, a_out, a_text, a_cut) := by rw [ch_epI_s c] at h0; exact h0
    refine br_f (nI_pos (by omega)) (pk_eq sd 0 (fun e0 => ?_) (fun e0 => ?_))
    · refine pk_eq (ep / 8) 5 (fun e5 => ?_) (fun e5 => h0' (fun w => by have := w c; omega))
      have v1 := ch_VB_lt hV (i := ep + 8) (by omega)
      have v2 := ch_VB_lt hV (i := ep - 8) (by omega)
      rw [show nI (192 + ep) + 8 = nI (192 + (ep + 8)) from nI_add (192 + ep) 8, show nI (192 + ep) - 8 = nI (192 + (ep - 8)) from (pk_sub (b := 8) (by omega)).trans (congrArg nI (by omega))]
      refine ⟨vp_in_nI (by omega) (by omega), pk_eq (B ep) 0 (fun a1 => ⟨vp_in_nI (by omega) (by omega), pk_eq (B (ep + 8)) 0 (fun a2 => ⟨vp_in_nI (by omega) (by omega), pk_eq (B (ep - 8)) 9 (fun a3 => h' (fun _ => Or.inl ⟨e0, e5, a1, a2, a3⟩)) (fun a3 => h0' (fun w => by have := w c; omega)) (ch_b192 hB (by omega)) rfl⟩) (fun a2 => h0' (fun w => by have := w c; omega)) (ch_b192 hB (by omega)) rfl⟩) (fun a1 => h0' (fun w => by have := w c; omega)) (ch_b192 hB c) rfl⟩
    · refine pk_eq (ep / 8) 2 (fun e5 => ?_) (fun e5 => h0' (fun w => by have := w c; omega))
      have v1 := ch_VB_lt hV (i := ep + 8) (by omega)
      have v2 := ch_VB_lt hV (i := ep - 8) (by omega)
      rw [show nI (192 + ep) + 8 = nI (192 + (ep + 8)) from nI_add (192 + ep) 8, show nI (192 + ep) - 8 = nI (192 + (ep - 8)) from (pk_sub (b := 8) (by omega)).trans (congrArg nI (by omega))]
      refine ⟨vp_in_nI (by omega) (by omega), pk_eq (B ep) 0 (fun a1 => ⟨vp_in_nI (by omega) (by omega), pk_eq (B (ep - 8)) 0 (fun a2 => ⟨vp_in_nI (by omega) (by omega), pk_eq (B (ep + 8)) 1 (fun a3 => h' (fun _ => Or.inr ⟨by omega, e5, a1, a2, a3⟩)) (fun a3 => h0' (fun w => by have := w c; omega)) (ch_b192 hB (by omega)) rfl⟩) (fun a2 => h0' (fun w => by have := w c; omega)) (ch_b192 hB (by omega)) rfl⟩) (fun a1 => h0' (fun w => by have := w c; omega)) (ch_b192 hB c) rfl⟩
  · have h' : ch_EG B sd ep → wY_readPosition_590 post f_side f_rights f_ep f_clock f_number f_lineLen f_outLen (nI ct) (nI nt) f_strict f_textLen (nI sd) (nI rt) (-1) (nI ck) (nI nb) a_men a_line a_out a_text a_cut := by rw [ch_epI_n c] at h; exact h
    rw [ch_epI_n c]
    exact br_t (by decide) (h' (fun w => absurd w c))
/-- one right -/
theorem ch_rg_b {A : Prop} {C : Prop} {x y : Int32} {b p q u v : Nat} (hb2 : b < 16) (hx : x = nI p) (hy : y = nI q) (hp : p < 16) (hq : q < 16) (hu : u < 16) (hv : v < 16) (yes : (b ≠ 0 → p = u ∧ q = v) → A) (no : (b ≠ 0 ∧ ¬ (p = u ∧ q = v)) → C) : (nI b = 0 → A) ∧ (¬ nI b = 0 → ((x = nI u → ((y = nI v → A) ∧ (¬ y = nI v → C))) ∧ (¬ x = nI u → C))) :=
  pk_eq b 0 (fun e => yes (fun z => absurd e z)) (fun e => pk_eq p u (fun e1 => pk_eq q v (fun e2 => yes (fun _ => ⟨e1, e2⟩)) (fun e2 => no ⟨e, fun z => e2 z.2⟩) hy rfl) (fun e1 => no ⟨e, fun z => e1 z.1⟩) hx rfl)
theorem ch_y_rpR {post : Int32 → SY → Prop} {B : Nat → Nat} {sd rt ep ck ct nb nt : Nat} (hB : ch_BY a_men 192 B) (hV : ch_VB B) (hrt : rt < 16) (h : ch_RG B rt → wY_readPosition_443 post f_side f_rights f_ep f_clock f_number f_lineLen f_outLen (nI ct) (nI nt) f_strict f_textLen (nI sd) (nI rt) (ch_epI ep) (nI ck) (nI nb) a_men a_line a_out a_text a_cut) (h0 : ¬ ch_RG B rt → post (-11) (f_side, f_rights, f_ep, f_clock, f_number, f_lineLen, f_outLen, nI ct, nI nt, f_strict, f_textLen, nI sd, nI rt, ch_epI ep, nI ck, nI nb, a_men, a_line, a_out, a_text, a_cut)) : (((nI rt &&& 1) = 0 → (wY_readPosition_329 post f_side f_rights f_ep f_clock f_number f_lineLen f_outLen (nI ct) (nI nt) f_strict f_textLen (nI sd) (nI rt) (ch_epI ep) (nI ck) (nI nb) a_men a_line a_out a_text a_cut)) ∧ (¬ (nI rt &&& 1) = 0 → ((((a_men 196) = 6 → ((((a_men 199) = 4 → (wY_readPosition_329 post f_side f_rights f_ep f_clock f_number f_lineLen f_outLen (nI ct) (nI nt) f_strict f_textLen (nI sd) (nI rt) (ch_epI ep) (nI ck) (nI nb) a_men a_line a_out a_text a_cut)) ∧ (¬ (a_men 199) = 4 → (post (-11) (f_side, f_rights, f_ep, f_clock, f_number, f_lineLen, f_outLen, nI ct, nI nt, f_strict, f_textLen, nI sd, nI rt, ch_epI ep, nI ck, nI nb, a_men, a_line, a_out, a_text, a_cut)))))) ∧ (¬ (a_men 196) = 6 → (post (-11) (f_side, f_rights, f_ep, f_clock, f_number, f_lineLen, f_outLen, nI ct, nI nt, f_strict, f_textLen, nI sd, nI rt, ch_epI ep, nI ck, nI nb, a_men, a_line, a_out, a_text, a_cut))))))) := by
  have g : ∀ i, i < 64 → B i < 16 := fun i hi => by have := ch_VB_lt hV hi; omega
  rw [ch_ra1 rt hrt]
  refine ch_rg_b (p := B 4) (q := B 7) (u := 6) (v := 4) (by omega) (hB 4 (by omega)) (hB 7 (by omega)) (g 4 (by omega)) (g 7 (by omega)) (by omega) (by omega) (fun z1 => ?_) (fun z => h0 (fun w => z.2 (w.1 (by omega))))
  unfold wY_readPosition_329
  rw [ch_ra2 rt hrt]
  refine ch_rg_b (p := B 4) (q := B 0) (u := 6) (v := 4) (by omega) (hB 4 (by omega)) (hB 0 (by omega)) (g 4 (by omega)) (g 0 (by omega)) (by omega) (by omega) (fun z2 => ?_) (fun z => h0 (fun w => z.2 (w.2.1 (by omega))))
  unfold wY_readPosition_366
  rw [ch_ra4 rt hrt]
  refine ch_rg_b (p := B 60) (q := B 63) (u := 14) (v := 12) (by omega) (hB 60 (by omega)) (hB 63 (by omega)) (g 60 (by omega)) (g 63 (by omega)) (by omega) (by omega) (fun z3 => ?_) (fun z => h0 (fun w => z.2 (w.2.2.1 (by omega))))
  unfold wY_readPosition_404
  rw [ch_ra8 rt hrt]
  refine ch_rg_b (p := B 60) (q := B 56) (u := 14) (v := 12) (by omega) (hB 60 (by omega)) (hB 56 (by omega)) (g 60 (by omega)) (g 56 (by omega)) (by omega) (by omega) (fun z4 => ?_) (fun z => h0 (fun w => z.2 (w.2.2.2 (by omega))))
  exact h ⟨fun w => z1 (by omega), fun w => z2 (by omega), fun w => z3 (by omega), fun w => z4 (by omega)⟩
theorem ch_nd_l (B : Nat → Nat) (c : Nat) : ch_nd B c ≤ 400 := by
  unfold ch_nd; have := ch_cq_l B (8 * c + 1); have := ch_cq_l B (8 * c + 2); have := ch_cq_l B (8 * c + 3); have := ch_cq_l B (8 * c + 4); have := ch_cq_l B (8 * c + 5); omega
theorem ch_y_sub {A : Int32 → Prop} {a q u : Nat} (ha : a < 1000) (hq : q < 1000) (hu : u < 1000) (h : A (nI (a + (q - u)))) : (nI q ≤ nI u → A (nI a)) ∧ (¬ nI q ≤ nI u → ∀ y : Int32, y = (nI a + nI q) - nI u → A y) := by
  refine pk_le q u (fun e => ?_) (fun e => nm_r (e' := nI (a + (q - u))) ?_ h)
  · rw [show a + (q - u) = a from by omega] at h; exact h
  · rw [nI_add, pk_sub (by omega)]; congr 1; omega
/-- the men of one colour -/
theorem ch_y_rpM {post : Int32 → SY → Prop} {B : Nat → Nat} {c n sd rt ep ck ct nb nt : Nat} (hB : ch_BY a_men 192 B) (hV : ch_VB B) (hc : c < 2) (h : ch_nd B c ≤ 8 → wY_readPosition_145 post f_side f_rights f_ep f_clock f_number f_lineLen f_outLen (nI ct) (nI nt) f_strict f_textLen (nI sd) (nI rt) (ch_epI ep) (nI ck) (nI nb) a_men a_line a_out a_text a_cut n (nI (c + 1))) (h0 : ¬ ch_nd B c ≤ 8 → post (-10) (f_side, f_rights, f_ep, f_clock, f_number, f_lineLen, f_outLen, nI ct, nI nt, f_strict, f_textLen, nI sd, nI rt, ch_epI ep, nI ck, nI nb, a_men, a_line, a_out, a_text, a_cut)) : wY_readPosition_145 post f_side f_rights f_ep f_clock f_number f_lineLen f_outLen (nI ct) (nI nt) f_strict f_textLen (nI sd) (nI rt) (ch_epI ep) (nI ck) (nI nb) a_men a_line a_out a_text a_cut (n + 1) (nI c) := by
  have q1 := ch_cq_l B (8 * c + 1)
  have q2 := ch_cq_l B (8 * c + 2)
  have q3 := ch_cq_l B (8 * c + 3)
  have q4 := ch_cq_l B (8 * c + 4)
  have q5 := ch_cq_l B (8 * c + 5)
  refine pk_le 2 c (fun e => by omega) (fun _ => ?_)
  rw [show (8 : Int32) * nI c + 1 = nI (8 * c + 1) from ch_nI_8c c 1, show (8 : Int32) * nI c + 2 = nI (8 * c + 2) from ch_nI_8c c 2, show (8 : Int32) * nI c + 3 = nI (8 * c + 3) from ch_nI_8c c 3, show (8 : Int32) * nI c + 4 = nI (8 * c + 4) from ch_nI_8c c 4, show (8 : Int32) * nI c + 5 = nI (8 * c + 5) from ch_nI_8c c 5]
  refine ch_y_countMen hB hV (by omega) ?_
  refine ch_y_countMen hB hV (by omega) ?_
  refine ch_y_countMen hB hV (by omega) ?_
  refine ch_y_countMen hB hV (by omega) ?_
  refine ch_y_countMen hB hV (by omega) ?_
  have h276 : ∀ a : Nat, a = ch_nd B c → wY_readPosition_276 post (wY_readPosition_145 post f_side f_rights f_ep f_clock f_number f_lineLen f_outLen (nI ct) (nI nt) f_strict f_textLen (nI sd) (nI rt) (ch_epI ep) (nI ck) (nI nb) a_men a_line a_out a_text a_cut n) (nI c) (nI a) f_side f_rights f_ep f_clock f_number f_lineLen f_outLen (nI ct) (nI nt) f_strict f_textLen (nI sd) (nI rt) (ch_epI ep) (nI ck) (nI nb) a_men a_line a_out a_text a_cut := by
    intro a ea
    subst ea
    have := ch_nd_l B c
    exact pk_le (ch_nd B c) 8 (fun e => nm_r (nI_1 c) (h e)) (fun e => h0 (by omega))
  refine ch_y_sub (u := 1) (A := fun z => wY_readPosition_231 post (wY_readPosition_145 post f_side f_rights f_ep f_clock f_number f_lineLen f_outLen (nI ct) (nI nt) f_strict f_textLen (nI sd) (nI rt) (ch_epI ep) (nI ck) (nI nb) a_men a_line a_out a_text a_cut n) (nI c) z (nI (ch_cq B (8 * c + 4))) (nI (ch_cq B (8 * c + 3))) (nI (ch_cq B (8 * c + 2))) f_side f_rights f_ep f_clock f_number f_lineLen f_outLen (nI ct) (nI nt) f_strict f_textLen (nI sd) (nI rt) (ch_epI ep) (nI ck) (nI nb) a_men a_line a_out a_text a_cut) (by omega) (by omega) (by omega) ?_
  refine ch_y_sub (u := 2) (A := fun z => wY_readPosition_246 post (wY_readPosition_145 post f_side f_rights f_ep f_clock f_number f_lineLen f_outLen (nI ct) (nI nt) f_strict f_textLen (nI sd) (nI rt) (ch_epI ep) (nI ck) (nI nb) a_men a_line a_out a_text a_cut n) (nI c) z (nI (ch_cq B (8 * c + 3))) (nI (ch_cq B (8 * c + 2))) f_side f_rights f_ep f_clock f_number f_lineLen f_outLen (nI ct) (nI nt) f_strict f_textLen (nI sd) (nI rt) (ch_epI ep) (nI ck) (nI nb) a_men a_line a_out a_text a_cut) (by omega) (by omega) (by omega) ?_
  refine ch_y_sub (u := 2) (A := fun z => wY_readPosition_261 post (wY_readPosition_145 post f_side f_rights f_ep f_clock f_number f_lineLen f_outLen (nI ct) (nI nt) f_strict f_textLen (nI sd) (nI rt) (ch_epI ep) (nI ck) (nI nb) a_men a_line a_out a_text a_cut n) (nI c) z (nI (ch_cq B (8 * c + 2))) f_side f_rights f_ep f_clock f_number f_lineLen f_outLen (nI ct) (nI nt) f_strict f_textLen (nI sd) (nI rt) (ch_epI ep) (nI ck) (nI nb) a_men a_line a_out a_text a_cut) (by omega) (by omega) (by omega) ?_
  refine ch_y_sub (u := 2) (A := fun z => wY_readPosition_276 post (wY_readPosition_145 post f_side f_rights f_ep f_clock f_number f_lineLen f_outLen (nI ct) (nI nt) f_strict f_textLen (nI sd) (nI rt) (ch_epI ep) (nI ck) (nI nb) a_men a_line a_out a_text a_cut n) (nI c) z f_side f_rights f_ep f_clock f_number f_lineLen f_outLen (nI ct) (nI nt) f_strict f_textLen (nI sd) (nI rt) (ch_epI ep) (nI ck) (nI nb) a_men a_line a_out a_text a_cut) (by omega) (by omega) (by omega) ?_
  exact h276 _ (by unfold ch_nd; omega)
theorem ch_y_check {post : Int32 → SY → Prop} {B : Nat → Nat} {sd rt ep ck ct nb nt : Nat} (hB : ch_BY a_men 192 B) (hV : ch_VB B) (hsd : sd < 2) (hrt : rt < 16) (hep : ep ≤ 64) (hck : ck < 100000) (hct : ct < 100000) (hnb : nb < 100000) (hnt : nt < 100000) (hok : ch_chk B sd rt ep ck ct nb nt = 0 → ∀ m, ch_BY m 0 B → post 0 (nI sd, nI rt, ch_epI ep, nI ck, nI nb, 0, f_outLen, nI ct, nI nt, f_strict, f_textLen, nI sd, nI rt, ch_epI ep, nI ck, nI nb, m, a_line, a_out, a_text, a_cut)) (h : ch_chk B sd rt ep ck ct nb nt ≠ 0 → post (ch_chk B sd rt ep ck ct nb nt) (f_side, f_rights, f_ep, f_clock, f_number, f_lineLen, f_outLen, nI ct, nI nt, f_strict, f_textLen, nI sd, nI rt, ch_epI ep, nI ck, nI nb, a_men, a_line, a_out, a_text, a_cut)) : (nI ct < nI ck → post (-7) (f_side, f_rights, f_ep, f_clock, f_number, f_lineLen, f_outLen, nI ct, nI nt, f_strict, f_textLen, nI sd, nI rt, ch_epI ep, nI ck, nI nb, a_men, a_line, a_out, a_text, a_cut)) ∧ (¬ nI ct < nI ck → ((nI nb = 0 → post (-7) (f_side, f_rights, f_ep, f_clock, f_number, f_lineLen, f_outLen, nI ct, nI nt, f_strict, f_textLen, nI sd, nI rt, ch_epI ep, nI ck, nI nb, a_men, a_line, a_out, a_text, a_cut)) ∧ (¬ nI nb = 0 → ((nI nb ≤ nI nt → wpY_countMen (fun r_27 => wpY_countMen (fun r_49 => ((r_27 = 1 → ((r_49 = 1 → ∃ n74 : Nat, wY_readPosition_74 post f_side f_rights f_ep f_clock f_number f_lineLen f_outLen (nI ct) (nI nt) f_strict f_textLen (nI sd) (nI rt) (ch_epI ep) (nI ck) (nI nb) a_men a_line a_out a_text a_cut n74 0) ∧ (¬ r_49 = 1 → post (-8) (f_side, f_rights, f_ep, f_clock, f_number, f_lineLen, f_outLen, nI ct, nI nt, f_strict, f_textLen, nI sd, nI rt, ch_epI ep, nI ck, nI nb, a_men, a_line, a_out, a_text, a_cut)))) ∧ (¬ r_27 = 1 → post (-8) (f_side, f_rights, f_ep, f_clock, f_number, f_lineLen, f_outLen, nI ct, nI nt, f_strict, f_textLen, nI sd, nI rt, ch_epI ep, nI ck, nI nb, a_men, a_line, a_out, a_text, a_cut)))) (f_side, f_rights, f_ep, f_clock, f_number, f_lineLen, f_outLen, nI ct, nI nt, f_strict, f_textLen, nI sd, nI rt, ch_epI ep, nI ck, nI nb, a_men, a_line, a_out, a_text, a_cut) 14) (f_side, f_rights, f_ep, f_clock, f_number, f_lineLen, f_outLen, nI ct, nI nt, f_strict, f_textLen, nI sd, nI rt, ch_epI ep, nI ck, nI nb, a_men, a_line, a_out, a_text, a_cut) 6) ∧ (¬ nI nb ≤ nI nt → post (-7) (f_side, f_rights, f_ep, f_clock, f_number, f_lineLen, f_outLen, nI ct, nI nt, f_strict, f_textLen, nI sd, nI rt, ch_epI ep, nI ck, nI nb, a_men, a_line, a_out, a_text, a_cut)))))) := by
  unfold ch_chk at h hok
  have q6 := ch_cq_l B 6
  have q14 := ch_cq_l B 14
  refine pk_lt ct ck (fun c => ?_) (fun c1 => pk_eq nb 0 (fun c => ?_) (fun c2 => pk_le nb nt (fun c3 => ?_) (fun c => ?_)))
  · rw [ch_ci_t (Or.inl c)] at h; exact h (by decide)
  · rw [ch_ci_t (Or.inr (Or.inl c))] at h; exact h (by decide)
  · rw [ch_ci_f (by omega)] at h hok
    refine ch_y_countMen (m := 6) hB hV (by omega) ?_
    refine ch_y_countMen (m := 14) hB hV (by omega) ?_
    refine pk_eq (ch_cq B 6) 1 (fun k6 => pk_eq (ch_cq B 14) 1 (fun k14 => ⟨9, ?_⟩) (fun c => ?_)) (fun c => ?_)
    · rw [ch_ci_f (fun z => z ⟨k6, k14⟩)] at h hok
      have p1 : ∀ i, i < 64 → (B i % 8 = 1 ↔ (B i = 1 ∨ B i = 9)) := fun i hi => by have := hV i hi; unfold ch_VM at this; omega
      refine ch_fn (σ := Unit) (fun n _ z => wY_readPosition_74 post f_side f_rights f_ep f_clock f_number f_lineLen f_outLen (nI ct) (nI nt) f_strict f_textLen (nI sd) (nI rt) (ch_epI ep) (nI ck) (nI nb) a_men a_line a_out a_text a_cut n z) (fun i _ => ∀ j, j < i → B j % 8 ≠ 1 ∧ B (56 + j) % 8 ≠ 1) 8 ?_ ?_ 8 0 () rfl (fun j hj => by omega)
      · intro n _ hn
        have hpp : ch_PP B := hn
        rw [ch_ci_f (fun z => z hpp)] at h hok
        refine br_t (by decide) ⟨3, ?_⟩
        refine ch_y_rpM (c := 0) hB hV (by omega) (fun n0 => ?_) (fun n0 => ?_)
        · refine ch_y_rpM (c := 1) hB hV (by omega) (fun n1 => ?_) (fun n1 => ?_)
          · rw [ch_ci_f (fun z => z ⟨n0, n1⟩)] at h hok
            refine br_t (by decide) (ch_y_rpR hB hV hrt (fun g => ?_) (fun g => ?_))
            · rw [ch_ci_f (fun z => z g)] at h hok
              refine ch_y_rp443 hB hV hsd hep (fun e => ?_) (fun e => ?_)
              · rw [ch_ci_f (fun z => z e)] at h hok
                obtain ⟨q, hq⟩ := ch_K_cq k6 k14 (c := 1 - sd) (by omega)
                refine ch_y_rp590 hB hV hsd hq (fun a m ch_hm => ?_) (fun a => ?_)
                · exact hok (ch_ci_f (fun ⟨q', hq', a'⟩ => a (ch_K1_u hq' hq ▸ a'))) m ch_hm
                · rw [ch_ci_t ⟨q, hq, a⟩] at h; exact h (by decide)
              · rw [ch_ci_t e] at h; exact h (by decide)
            · rw [ch_ci_t g] at h; exact h (by decide)
          · rw [ch_ci_t (fun z => n1 z.2)] at h; exact h (by decide)
        · rw [ch_ci_t (fun z => n0 z.1)] at h; exact h (by decide)
      · intro n i _ hi hn ih
        have v1 := ch_VB_lt hV (i := i) (by omega)
        have v2 := ch_VB_lt hV (i := 56 + i) (by omega)
        have no : ¬ (B i % 8 ≠ 1 ∧ B (56 + i) % 8 ≠ 1) → post (-9) (f_side, f_rights, f_ep, f_clock, f_number, f_lineLen, f_outLen, nI ct, nI nt, f_strict, f_textLen, nI sd, nI rt, ch_epI ep, nI ck, nI nb, a_men, a_line, a_out, a_text, a_cut) := by
          intro w
          rw [ch_ci_t (fun z : ch_PP B => w (z i hi))] at h
          exact h (by decide)
        have a1 := p1 i (by omega)
        have a2 := p1 (56 + i) (by omega)
        refine pk_le 8 i (fun e => by omega) (fun _ => ?_)
        rw [ch_i192, ch_i248, show 248 + i = 192 + (56 + i) from by omega]
        refine ⟨vp_in_nI (by omega) (by omega), nm_r (ch_b192 hB (by omega)) ⟨vp_in_nI (by omega) (by omega), nm_r (ch_b192 hB (by omega)) ?_⟩⟩
        refine pk_eq (B i) 1 (fun e => no (fun w => w.1 (a1.mpr (Or.inl e)))) (fun e1 => pk_eq (B i) 9 (fun e => no (fun w => w.1 (a1.mpr (Or.inr e)))) (fun e2 => pk_eq (B (56 + i)) 1 (fun e => no (fun w => w.2 (a2.mpr (Or.inl e)))) (fun e3 => pk_eq (B (56 + i)) 9 (fun e => no (fun w => w.2 (a2.mpr (Or.inr e)))) (fun e4 => nm_r (nI_1 i) (ih () (fun j hj => ?_))))))
        by_cases z : j = i
        · subst z
          exact ⟨fun w => (a1.mp w).elim e1 e2, fun w => (a2.mp w).elim e3 e4⟩
        · exact hn j (by omega)
    · rw [ch_ci_t (fun z => c z.2)] at h; exact h (by decide)
    · rw [ch_ci_t (fun z => c z.1)] at h; exact h (by decide)
  · rw [ch_ci_t (Or.inr (Or.inr c))] at h; exact h (by decide)
end
end
section
/-! the position text, purely -/
def ch_DG (c : Int32) : Prop := ¬ c < 49 ∧ ¬ 56 < c
def ch_dv (c : Int32) : Nat := (c - 48).toNatClampNeg
theorem ch_DG_v {c : Int32} (h : ch_DG c) : c - 48 = nI (ch_dv c) ∧ 1 ≤ ch_dv c ∧ ch_dv c ≤ 8 ∧ c ≠ 32 ∧ c ≠ 47 := by
  obtain ⟨h1, h2⟩ := h
  have p : ¬ c < 0 := fun z => h1 (Int32.lt_trans z (by decide))
  obtain ⟨j, hj, rfl⟩ := nI_of p
  have a1 : ¬ j < 49 := fun z => h1 ((nI_ltI (b := 49) hj (by omega)).mpr z)
  have a2 : ¬ 56 < j := fun z => h2 ((nI_ltI (a := 56) (by omega) hj).mpr z)
  have e : nI j - 48 = nI (j - 48) := pk_sub (b := 48) (by omega)
  unfold ch_dv
  rw [e, nI_clamp (by omega)]
  refine ⟨rfl, by omega, by omega, fun z => ?_, fun z => ?_⟩
  · have := (nI_eq (b := 32) hj (by omega)).mp z; omega
  · have := (nI_eq (b := 47) hj (by omega)).mp z; omega
def ch_lm (c : Int32) : Nat := if c = 80 then 1 else if c = 78 then 2 else if c = 66 then 3 else if c = 82 then 4 else if c = 81 then 5 else if c = 75 then 6 else if c = 112 then 9 else if c = 110 then 10 else if c = 98 then 11 else if c = 114 then 12 else if c = 113 then 13 else if c = 107 then 14 else 0
theorem ch_lm_v (c : Int32) : ch_VM (ch_lm c) := by
  unfold ch_lm ch_VM
  repeat' split
  all_goals omega
theorem ch_lm_32 : ch_lm 32 = 0 := by decide
theorem ch_lm_47 : ch_lm 47 = 0 := by decide
def ch_pt (B : Nat → Nat) (i v : Nat) : Nat → Nat := fun j => if j = i then v else B j
/-- one rank from file f on: m characters, then the file is 8 -/
def ch_RK (ln : Nat → Int32) : Nat → Nat → Nat → Nat → Nat → (Nat → Nat) → (Nat → Nat) → Prop
  | 0, _, _, f, _, B, B1 => f = 8 ∧ B1 = B
  | m + 1, k, r, f, ad, B, B1 => f < 8 ∧ ((ch_DG (ln k) ∧ ad = 0 ∧ f + ch_dv (ln k) ≤ 8 ∧ ch_RK ln m (k + 1) r (f + ch_dv (ln k)) 1 B B1) ∨ (¬ ch_DG (ln k) ∧ ch_lm (ln k) ≠ 0 ∧ ch_RK ln m (k + 1) r (f + 1) 0 (ch_pt B (8 * r + f) (ch_lm (ln k))) B1))
/-- the placement as the reference reads it -/
def ch_PLS (ln : Nat → Int32) : Nat → Nat → Nat → Nat → Nat → (Nat → Nat) → (Nat → Nat) → Prop
  | 0, _, r, f, _, B, B' => r = 0 ∧ f = 8 ∧ B' = B
  | m + 1, k, r, f, ad, B, B' => (ln k = 47 ∧ f = 8 ∧ r ≠ 0 ∧ ch_PLS ln m (k + 1) (r - 1) 0 0 B B') ∨ (ln k ≠ 47 ∧ ch_DG (ln k) ∧ ad = 0 ∧ f + ch_dv (ln k) ≤ 8 ∧ ch_PLS ln m (k + 1) r (f + ch_dv (ln k)) 1 B B') ∨ (ln k ≠ 47 ∧ ¬ ch_DG (ln k) ∧ ch_lm (ln k) ≠ 0 ∧ f ≤ 7 ∧ ch_PLS ln m (k + 1) r (f + 1) 0 (ch_pt B (8 * r + f) (ch_lm (ln k))) B')
theorem ch_PLS_d {ln : Nat → Int32} : ∀ {m m' k r f ad : Nat} {B B1 B2 : Nat → Nat}, ch_PLS ln m k r f ad B B1 → ch_PLS ln m' k r f ad B B2 → m = m' ∧ B1 = B2
  | 0, 0, k, r, f, ad, B, B1, B2, h, h' => ⟨rfl, h.2.2.trans h'.2.2.symm⟩
  | 0, m' + 1, k, r, f, ad, B, B1, B2, h, h' => by
    obtain ⟨h1, h2, _⟩ := h
    rcases h' with ⟨_, _, h3, _⟩ | ⟨_, hd, _, h3, _⟩ | ⟨_, _, _, h3, _⟩
    · exact absurd h1 h3
    · have := ch_DG_v hd; omega
    · omega
  | m + 1, 0, k, r, f, ad, B, B1, B2, h, h' => by
    obtain ⟨h1, h2, _⟩ := h'
    rcases h with ⟨_, _, h3, _⟩ | ⟨_, hd, _, h3, _⟩ | ⟨_, _, _, h3, _⟩
    · exact absurd h1 h3
    · have := ch_DG_v hd; omega
    · omega
  | m + 1, m' + 1, k, r, f, ad, B, B1, B2, h, h' => by
    rcases h with ⟨a, _, _, h⟩ | ⟨a, b, _, _, h⟩ | ⟨a, b, _, _, h⟩ <;> rcases h' with ⟨a', _, _, h'⟩ | ⟨a', b', _, _, h'⟩ | ⟨a', b', _, _, h'⟩
    · have := ch_PLS_d h h'; exact ⟨by omega, this.2⟩
    · exact absurd a a'
    · exact absurd a a'
    · exact absurd a' a
    · have := ch_PLS_d h h'; exact ⟨by omega, this.2⟩
    · exact absurd b b'
    · exact absurd a' a
    · exact absurd b' b
    · have := ch_PLS_d h h'; exact ⟨by omega, this.2⟩
theorem ch_PLS_ns {ln : Nat → Int32} : ∀ {m k r f ad : Nat} {B B1 : Nat → Nat}, ch_PLS ln m k r f ad B B1 → ∀ j, k ≤ j → j < k + m → ln j ≠ 32
  | 0, k, r, f, ad, B, B1, h, j, h1, h2 => by omega
  | m + 1, k, r, f, ad, B, B1, h, j, h1, h2 => by
    by_cases e : j = k
    · subst e
      rcases h with ⟨a, _⟩ | ⟨_, b, _⟩ | ⟨_, _, c, _⟩
      · rw [a]; decide
      · exact (ch_DG_v b).2.2.2.1
      · intro z; rw [z, ch_lm_32] at c; exact c rfl
    · rcases h with ⟨_, _, _, h⟩ | ⟨_, _, _, _, h⟩ | ⟨_, _, _, _, h⟩
      · exact ch_PLS_ns h j (by omega) (by omega)
      · exact ch_PLS_ns h j (by omega) (by omega)
      · exact ch_PLS_ns h j (by omega) (by omega)
theorem ch_pt_V {B : Nat → Nat} {i v : Nat} (h : ch_VB B) (hv : ch_VM v) : ch_VB (ch_pt B i v) := by
  intro j hj
  unfold ch_pt
  split
  · exact hv
  · exact h j hj
theorem ch_PLS_V {ln : Nat → Int32} : ∀ {m k r f ad : Nat} {B B1 : Nat → Nat}, ch_VB B → ch_PLS ln m k r f ad B B1 → ch_VB B1
  | 0, k, r, f, ad, B, B1, hV, h => by rw [h.2.2]; exact hV
  | m + 1, k, r, f, ad, B, B1, hV, h => by
    rcases h with ⟨_, _, _, h⟩ | ⟨_, _, _, _, h⟩ | ⟨_, _, _, _, h⟩
    · exact ch_PLS_V hV h
    · exact ch_PLS_V hV h
    · exact ch_PLS_V (ch_pt_V hV (ch_lm_v _)) h
theorem ch_RK_d {ln : Nat → Int32} : ∀ {m m' k r f ad : Nat} {B B1 B2 : Nat → Nat}, ch_RK ln m k r f ad B B1 → ch_RK ln m' k r f ad B B2 → m = m' ∧ B1 = B2
  | 0, 0, k, r, f, ad, B, B1, B2, h, h' => ⟨rfl, h.2.trans h'.2.symm⟩
  | 0, m' + 1, k, r, f, ad, B, B1, B2, h, h' => by
    have := h.1; have := h'.1; omega
  | m + 1, 0, k, r, f, ad, B, B1, B2, h, h' => by
    have := h.1; have := h'.1; omega
  | m + 1, m' + 1, k, r, f, ad, B, B1, B2, h, h' => by
    rcases h.2 with ⟨a, _, _, h⟩ | ⟨a, _, h⟩ <;> rcases h'.2 with ⟨a', _, _, h'⟩ | ⟨a', _, h'⟩
    · have := ch_RK_d h h'; exact ⟨by omega, this.2⟩
    · exact absurd a a'
    · exact absurd a' a
    · have := ch_RK_d h h'; exact ⟨by omega, this.2⟩
/-- the placement by ranks -/
theorem ch_PLS_RK {ln : Nat → Int32} : ∀ {m k r f ad : Nat} {B B' : Nat → Nat}, ch_PLS ln m k r f ad B B' → ∃ m1 B1, ch_RK ln m1 k r f ad B B1 ∧ ((r = 0 ∧ m = m1 ∧ B' = B1) ∨ (r ≠ 0 ∧ ∃ m2, m = m1 + 1 + m2 ∧ ln (k + m1) = 47 ∧ ch_PLS ln m2 (k + m1 + 1) (r - 1) 0 0 B1 B'))
  | 0, k, r, f, ad, B, B', h => ⟨0, B, ⟨h.2.1, rfl⟩, Or.inl ⟨h.1, rfl, h.2.2⟩⟩
  | m + 1, k, r, f, ad, B, B', h => by
    rcases h with ⟨a, b, c, h⟩ | ⟨a, b, c, d, h⟩ | ⟨a, b, c, d, h⟩
    · exact ⟨0, B, ⟨b, rfl⟩, Or.inr ⟨c, m, by omega, a, h⟩⟩
    · obtain ⟨m1, B1, h1, h2⟩ := ch_PLS_RK h
      have hd := ch_DG_v b
      refine ⟨m1 + 1, B1, ⟨by omega, Or.inl ⟨b, c, d, h1⟩⟩, ?_⟩
      rcases h2 with ⟨e1, e2, e3⟩ | ⟨e1, m2, e2, e3, e4⟩
      · exact Or.inl ⟨e1, by omega, e3⟩
      · refine Or.inr ⟨e1, m2, by omega, ?_, ?_⟩
        · rw [show k + (m1 + 1) = k + 1 + m1 from by omega]; exact e3
        · rw [show k + (m1 + 1) + 1 = k + 1 + m1 + 1 from by omega]; exact e4
    · obtain ⟨m1, B1, h1, h2⟩ := ch_PLS_RK h
      refine ⟨m1 + 1, B1, ⟨by omega, Or.inr ⟨b, c, h1⟩⟩, ?_⟩
      rcases h2 with ⟨e1, e2, e3⟩ | ⟨e1, m2, e2, e3, e4⟩
      · exact Or.inl ⟨e1, by omega, e3⟩
      · refine Or.inr ⟨e1, m2, by omega, ?_, ?_⟩
        · rw [show k + (m1 + 1) = k + 1 + m1 from by omega]; exact e3
        · rw [show k + (m1 + 1) + 1 = k + 1 + m1 + 1 from by omega]; exact e4
theorem ch_RK_PLS {ln : Nat → Int32} : ∀ {m1 k r f ad : Nat} {B B1 B' : Nat → Nat}, ch_RK ln m1 k r f ad B B1 → ((r = 0 ∧ B' = B1 → ch_PLS ln m1 k r f ad B B') ∧ (∀ m2, r ≠ 0 → ln (k + m1) = 47 → ch_PLS ln m2 (k + m1 + 1) (r - 1) 0 0 B1 B' → ch_PLS ln (m1 + 1 + m2) k r f ad B B'))
  | 0, k, r, f, ad, B, B1, B', h => by
    obtain ⟨rfl, rfl⟩ := h
    refine ⟨fun z => ⟨z.1, rfl, z.2⟩, fun m2 a b c => ?_⟩
    rw [show 0 + 1 + m2 = m2 + 1 from by omega]
    exact Or.inl ⟨b, rfl, a, c⟩
  | m1 + 1, k, r, f, ad, B, B1, B', h => by
    obtain ⟨h8, h⟩ := h
    rcases h with ⟨b, c, d, h⟩ | ⟨b, c, h⟩
    · obtain ⟨i1, i2⟩ := ch_RK_PLS (B' := B') h
      have hd := ch_DG_v b
      refine ⟨fun z => Or.inr (Or.inl ⟨hd.2.2.2.2, b, c, d, i1 z⟩), fun m2 a e g => ?_⟩
      rw [show m1 + 1 + 1 + m2 = (m1 + 1 + m2) + 1 from by omega]
      rw [show k + (m1 + 1) = k + 1 + m1 from by omega] at e
      rw [show k + (m1 + 1) + 1 = k + 1 + m1 + 1 from by omega] at g
      exact Or.inr (Or.inl ⟨hd.2.2.2.2, b, c, d, i2 m2 a e g⟩)
    · obtain ⟨i1, i2⟩ := ch_RK_PLS (B' := B') h
      have n47 : ln k ≠ 47 := fun z => c (by rw [z, ch_lm_47])
      refine ⟨fun z => Or.inr (Or.inr ⟨n47, b, c, by omega, i1 z⟩), fun m2 a e g => ?_⟩
      rw [show m1 + 1 + 1 + m2 = (m1 + 1 + m2) + 1 from by omega]
      rw [show k + (m1 + 1) = k + 1 + m1 from by omega] at e
      rw [show k + (m1 + 1) + 1 = k + 1 + m1 + 1 from by omega] at g
      exact Or.inr (Or.inr ⟨n47, b, c, by omega, i2 m2 a e g⟩)
/-- the other fields of the text -/
def ch_SDS (ln : Nat → Int32) (i j sd : Nat) : Prop := j = i + 1 ∧ ((ln i = 119 ∧ sd = 0) ∨ (ln i = 98 ∧ sd = 1))
def ch_rl_ (w : Nat) : Int32 := if w = 0 then 75 else if w = 1 then 81 else if w = 2 then 107 else 113
/-- castling letters from number w on -/
def ch_RGT (ln : Nat → Int32) (j : Nat) : Nat → Nat → Nat → Nat → Nat → Prop
  | 0, _, k, r, v => k = j ∧ v = r
  | d + 1, w, k, r, v => (k < j ∧ ln k = ch_rl_ w ∧ ch_RGT ln j d (w + 1) (k + 1) (r + 2 ^ w) v) ∨ (¬ (k < j ∧ ln k = ch_rl_ w) ∧ ch_RGT ln j d (w + 1) k r v)
def ch_RTS (ln : Nat → Int32) (i j v : Nat) : Prop := (j = i + 1 ∧ ln i = 45 ∧ v = 0) ∨ (ln i ≠ 45 ∧ i < j ∧ ch_RGT ln j 4 0 i 0 v)
def ch_EPS (ln : Nat → Int32) (i j ep : Nat) : Prop := (j = i + 1 ∧ ln i = 45 ∧ ep = 64) ∨ (j = i + 2 ∧ ∃ a b : Nat, a < 8 ∧ b < 8 ∧ ln i = nI (97 + a) ∧ ln (i + 1) = nI (49 + b) ∧ ep = 8 * b + a)
def ch_D9 (c : Int32) : Prop := ¬ c < 48 ∧ c ≤ 57
def ch_d9 (c : Int32) : Nat := (c - 48).toNatClampNeg
def ch_vl (ln : Nat → Int32) (i : Nat) : Nat → Nat
  | 0 => 0
  | m + 1 => 10 * ch_vl ln i m + ch_d9 (ln (i + m))
def ch_NMS (ln : Nat → Int32) (i j v : Nat) : Prop := i < j ∧ j ≤ i + 4 ∧ (∀ k, i ≤ k → k < j → ch_D9 (ln k)) ∧ (ln i = 48 → j = i + 1) ∧ v = ch_vl ln i (j - i)
theorem ch_D9_v {c : Int32} (h : ch_D9 c) : c - 48 = nI (ch_d9 c) ∧ ch_d9 c ≤ 9 ∧ c ≠ 32 := by
  obtain ⟨h1, h2⟩ := h
  have p : ¬ c < 0 := fun z => h1 (Int32.lt_trans z (by decide))
  obtain ⟨j, hj, rfl⟩ := nI_of p
  have a1 : ¬ j < 48 := fun z => h1 ((nI_ltI (b := 48) hj (by omega)).mpr z)
  have a2 : j ≤ 57 := (nI_leI hj (b := 57) (by omega)).mp h2
  have e : nI j - 48 = nI (j - 48) := pk_sub (b := 48) (by omega)
  unfold ch_d9
  rw [e, nI_clamp (by omega)]
  refine ⟨rfl, by omega, fun z => ?_⟩
  have := (nI_eq (b := 32) hj (by omega)).mp z; omega
theorem ch_vl_l {ln : Nat → Int32} {i : Nat} : ∀ m, m ≤ 4 → (∀ k, i ≤ k → k < i + m → ch_D9 (ln k)) → ch_vl ln i m < 10 ^ m
  | 0, _, _ => by show 0 < 1; omega
  | m + 1, ch_hm, h => by
    have a := ch_vl_l m (by omega) (fun k h1 h2 => h k h1 (by omega))
    have b := (ch_D9_v (h (i + m) (by omega) (by omega))).2.1
    show 10 * ch_vl ln i m + ch_d9 (ln (i + m)) < 10 ^ (m + 1)
    rw [Nat.pow_succ]
    omega
theorem ch_NMS_ns {ln : Nat → Int32} {i j v : Nat} (h : ch_NMS ln i j v) : ∀ k, i ≤ k → k < j → ln k ≠ 32 := fun k h1 h2 => (ch_D9_v (h.2.2.1 k h1 h2)).2.2
theorem ch_NMS_l {ln : Nat → Int32} {i j v : Nat} (h : ch_NMS ln i j v) : v < 10000 := by
  obtain ⟨h1, h2, h3, h4, rfl⟩ := h
  have := ch_vl_l (ln := ln) (i := i) (j - i) (by omega) (fun k a b => h3 k a (by omega))
  have : 10 ^ (j - i) ≤ 10 ^ 4 := Nat.pow_le_pow_right (by omega) (by omega)
  omega
theorem ch_SDS_ns {ln : Nat → Int32} {i j v : Nat} (h : ch_SDS ln i j v) : ∀ k, i ≤ k → k < j → ln k ≠ 32 := by
  intro k h1 h2
  obtain ⟨e, h⟩ := h
  obtain rfl : k = i := by omega
  rcases h with ⟨h, _⟩ | ⟨h, _⟩ <;> rw [h] <;> decide
theorem ch_EPS_ns {ln : Nat → Int32} {i j v : Nat} (h : ch_EPS ln i j v) : ∀ k, i ≤ k → k < j → ln k ≠ 32 := by
  intro k h1 h2
  rcases h with ⟨e, h, _⟩ | ⟨e, a, b, ha, hb, h3, h4, _⟩
  · obtain rfl : k = i := by omega
    rw [h]; decide
  · by_cases z : k = i
    · rw [z, h3]; intro w; have := (nI_eq (b := 32) (by omega) (by omega)).mp w; omega
    · obtain rfl : k = i + 1 := by omega
      rw [h4]; intro w; have := (nI_eq (b := 32) (by omega) (by omega)).mp w; omega
theorem ch_EPS_l {ln : Nat → Int32} {i j v : Nat} (h : ch_EPS ln i j v) : v ≤ 64 := by
  rcases h with ⟨_, _, e⟩ | ⟨_, a, b, ha, hb, _, _, e⟩ <;> omega
theorem ch_RGT_ns {ln : Nat → Int32} {j : Nat} : ∀ {d w k r v : Nat}, w + d = 4 → ch_RGT ln j d w k r v → (k ≤ j ∧ (∀ q, k ≤ q → q < j → ln q ≠ 32) ∧ r ≤ v ∧ v + 2 ^ w ≤ r + 16)
  | 0, w, k, r, v, hw, h => by
    obtain ⟨rfl, rfl⟩ := h
    obtain rfl : w = 4 := by omega
    exact ⟨Nat.le_refl _, fun q h1 h2 => by omega, Nat.le_refl _, Nat.le_refl _⟩
  | d + 1, w, k, r, v, hw, h => by
    have hp : 2 ^ (w + 1) = 2 * 2 ^ w := by rw [Nat.pow_succ]; omega
    rcases h with ⟨h1, h2, h⟩ | ⟨_, h⟩
    · obtain ⟨a, b, c, e⟩ := ch_RGT_ns (by omega) h
      refine ⟨by omega, fun q q1 q2 => ?_, by omega, by omega⟩
      by_cases z : q = k
      · rw [z, h2]
        unfold ch_rl_
        have : w = 0 ∨ w = 1 ∨ w = 2 ∨ w = 3 := by omega
        rcases this with rfl | rfl | rfl | rfl <;> decide
      · exact b q (by omega) q2
    · obtain ⟨a, b, c, e⟩ := ch_RGT_ns (by omega) h
      exact ⟨a, b, c, by omega⟩
theorem ch_RTS_ns {ln : Nat → Int32} {i j v : Nat} (h : ch_RTS ln i j v) : (∀ k, i ≤ k → k < j → ln k ≠ 32) ∧ v < 16 ∧ i < j := by
  rcases h with ⟨e, h, hv⟩ | ⟨_, h1, h⟩
  · refine ⟨fun k h1 h2 => ?_, by omega, by omega⟩
    obtain rfl : k = i := by omega
    rw [h]; decide
  · obtain ⟨a, b, c, e⟩ := ch_RGT_ns (w := 0) (by omega) h
    exact ⟨b, by have : 2 ^ 0 = 1 := rfl; omega, h1⟩
theorem ch_RGT_u {ln : Nat → Int32} {j : Nat} : ∀ {d w k r v v' : Nat}, ch_RGT ln j d w k r v → ch_RGT ln j d w k r v' → v = v'
  | 0, w, k, r, v, v', h, h' => h.2.trans h'.2.symm
  | d + 1, w, k, r, v, v', h, h' => by
    rcases h with ⟨a, b, h⟩ | ⟨a, h⟩ <;> rcases h' with ⟨a', b', h'⟩ | ⟨a', h'⟩
    · exact ch_RGT_u h h'
    · exact absurd ⟨a, b⟩ a'
    · exact absurd ⟨a', b'⟩ a
    · exact ch_RGT_u h h'
def ch_Q4 (ln : Nat → Int32) (n i ck nb : Nat) : Prop := ∃ a, ch_NMS ln i a ck ∧ a < n ∧ ln a = 32 ∧ ch_NMS ln (a + 1) n nb
def ch_Q3 (ln : Nat → Int32) (n i ep ck nb : Nat) : Prop := ∃ a, ch_EPS ln i a ep ∧ a < n ∧ ln a = 32 ∧ ch_Q4 ln n (a + 1) ck nb
def ch_Q2 (ln : Nat → Int32) (n i rt ep ck nb : Nat) : Prop := ∃ a, ch_RTS ln i a rt ∧ a < n ∧ ln a = 32 ∧ ch_Q3 ln n (a + 1) ep ck nb
def ch_Q1 (ln : Nat → Int32) (n i sd rt ep ck nb : Nat) : Prop := ∃ a, ch_SDS ln i a sd ∧ a < n ∧ ln a = 32 ∧ ch_Q2 ln n (a + 1) rt ep ck nb
def ch_PF (ln : Nat → Int32) (n : Nat) (B : Nat → Nat) (sd rt ep ck nb : Nat) : Prop := ∃ a, ch_PLS ln a 0 7 0 0 (fun _ => 0) B ∧ a < n ∧ ln a = 32 ∧ ch_Q1 ln n (a + 1) sd rt ep ck nb
end
section
/-! the component reads the placement -/
def ch_CV (a : Nat → Int32) (B : Nat → Nat) (r f : Nat) : Prop := ∀ i, i < 64 → (r < i / 8 ∨ (i / 8 = r ∧ i % 8 < f)) → a i = nI (B i)
def ch_ZB (B : Nat → Nat) (r f : Nat) : Prop := ∀ i, i < 64 → (i / 8 < r ∨ (i / 8 = r ∧ f ≤ i % 8)) → B i = 0
theorem ch_HI_u {m a : Nat → Int32} {i : Nat} {v : Int32} (h : ch_HI m a) (hi : i < 64) : ch_HI (upd m i v) a := fun j hj => by rw [ch_u_f (by omega)]; exact h j hj
section
variable {f_clockTop f_numberTop f_strict f_side f_rights f_passant f_clock f_number f_lineLen f_outLen f_moveTotal f_movesKnown f_savedSide f_savedRights f_savedPassant f_savedClock f_savedNumber f_spellLen f_at f_end f_writtenMark f_writtenCastling f_writtenPromotion f_writtenTarget f_writtenCapture f_writtenRank f_writtenFile f_writtenKind : Int32} {a_board a_line a_out a_moves a_savedBoard a_spell : Nat → Int32}
theorem ch_x_here {post : Int32 → Prop} {k n : Nat} (hn : n ≤ 96) (hk : k < 1000) (h0 : n ≤ k → post 0) (h1 : k < n → post (a_line k)) : wpX_here post (f_clockTop, f_numberTop, f_strict, f_side, f_rights, f_passant, f_clock, f_number, nI n, f_outLen, f_moveTotal, f_movesKnown, f_savedSide, f_savedRights, f_savedPassant, f_savedClock, f_savedNumber, f_spellLen, nI k, f_end, f_writtenMark, f_writtenCastling, f_writtenPromotion, f_writtenTarget, f_writtenCapture, f_writtenRank, f_writtenFile, f_writtenKind, a_board, a_line, a_out, a_moves, a_savedBoard, a_spell) := by
  refine pk_le n k (fun e => h0 e) (fun e => ?_)
  rw [nI_clamp (by omega)]
  exact ⟨vp_in_nI (by omega) (by omega), h1 e⟩
theorem ch_x_take {post : Int32 → SX → Prop} {k n : Nat} {c : Int32} (hn : n ≤ 96) (hk : k < 1000) (h1 : k < n → a_line k = c → post 1 (f_clockTop, f_numberTop, f_strict, f_side, f_rights, f_passant, f_clock, f_number, nI n, f_outLen, f_moveTotal, f_movesKnown, f_savedSide, f_savedRights, f_savedPassant, f_savedClock, f_savedNumber, f_spellLen, nI (k + 1), f_end, f_writtenMark, f_writtenCastling, f_writtenPromotion, f_writtenTarget, f_writtenCapture, f_writtenRank, f_writtenFile, f_writtenKind, a_board, a_line, a_out, a_moves, a_savedBoard, a_spell)) (h0 : ¬ (k < n ∧ a_line k = c) → post 0 (f_clockTop, f_numberTop, f_strict, f_side, f_rights, f_passant, f_clock, f_number, nI n, f_outLen, f_moveTotal, f_movesKnown, f_savedSide, f_savedRights, f_savedPassant, f_savedClock, f_savedNumber, f_spellLen, nI k, f_end, f_writtenMark, f_writtenCastling, f_writtenPromotion, f_writtenTarget, f_writtenCapture, f_writtenRank, f_writtenFile, f_writtenKind, a_board, a_line, a_out, a_moves, a_savedBoard, a_spell)) : wpX_take post (f_clockTop, f_numberTop, f_strict, f_side, f_rights, f_passant, f_clock, f_number, nI n, f_outLen, f_moveTotal, f_movesKnown, f_savedSide, f_savedRights, f_savedPassant, f_savedClock, f_savedNumber, f_spellLen, nI k, f_end, f_writtenMark, f_writtenCastling, f_writtenPromotion, f_writtenTarget, f_writtenCapture, f_writtenRank, f_writtenFile, f_writtenKind, a_board, a_line, a_out, a_moves, a_savedBoard, a_spell) c := by
  refine pk_le n k (fun e => h0 (fun w => by omega)) (fun e => ?_)
  rw [nI_clamp (by omega)]
  exact ⟨vp_in_nI (by omega) (by omega), br_c (fun z => nm_r (nI_1 k) (h1 e z)) (fun z => h0 (fun w => z w.2))⟩
theorem ch_sub32 {c : Int32} {a b : Int32} (e : c - 32 = a) (h : a + 32 = b) : c = b := by
  rw [← h, ← e, Int32.sub_add_cancel]
theorem ch_x_manOfLetter {post : Int32 → Prop} {c : Int32} (h : post (nI (ch_lm c))) : wpX_manOfLetter post (f_clockTop, f_numberTop, f_strict, f_side, f_rights, f_passant, f_clock, f_number, f_lineLen, f_outLen, f_moveTotal, f_movesKnown, f_savedSide, f_savedRights, f_savedPassant, f_savedClock, f_savedNumber, f_spellLen, f_at, f_end, f_writtenMark, f_writtenCastling, f_writtenPromotion, f_writtenTarget, f_writtenCapture, f_writtenRank, f_writtenFile, f_writtenKind, a_board, a_line, a_out, a_moves, a_savedBoard, a_spell) c := by
  by_cases c80 : c = 80
  · subst c80; exact br_t (by decide) (ch_x_kindOfLetter h)
  by_cases c78 : c = 78
  · subst c78; exact br_t (by decide) (ch_x_kindOfLetter h)
  by_cases c66 : c = 66
  · subst c66; exact br_t (by decide) (ch_x_kindOfLetter h)
  by_cases c82 : c = 82
  · subst c82; exact br_t (by decide) (ch_x_kindOfLetter h)
  by_cases c81 : c = 81
  · subst c81; exact br_t (by decide) (ch_x_kindOfLetter h)
  by_cases c75 : c = 75
  · subst c75; exact br_t (by decide) (ch_x_kindOfLetter h)
  by_cases c112 : c = 112
  · subst c112; exact br_f (by decide) (br_f (by decide) (ch_x_kindOfLetter (br_f (by decide) h)))
  by_cases c110 : c = 110
  · subst c110; exact br_f (by decide) (br_f (by decide) (ch_x_kindOfLetter (br_f (by decide) h)))
  by_cases c98 : c = 98
  · subst c98; exact br_f (by decide) (br_f (by decide) (ch_x_kindOfLetter (br_f (by decide) h)))
  by_cases c114 : c = 114
  · subst c114; exact br_f (by decide) (br_f (by decide) (ch_x_kindOfLetter (br_f (by decide) h)))
  by_cases c113 : c = 113
  · subst c113; exact br_f (by decide) (br_f (by decide) (ch_x_kindOfLetter (br_f (by decide) h)))
  by_cases c107 : c = 107
  · subst c107; exact br_f (by decide) (br_f (by decide) (ch_x_kindOfLetter (br_f (by decide) h)))
  have e : ch_lm c = 0 := by
    unfold ch_lm
    rw [if_neg c80, if_neg c78, if_neg c66, if_neg c82, if_neg c81, if_neg c75, if_neg c112, if_neg c110, if_neg c98, if_neg c114, if_neg c113, if_neg c107]
  rw [e] at h
  have k0 : ch_klt c = 0 := by
    unfold ch_klt
    rw [if_neg c66, if_neg c75, if_neg c78, if_neg c80, if_neg c81, if_neg c82]
  have k1 : ch_klt (c - 32) = 0 := by
    unfold ch_klt
    rw [if_neg (fun z => c98 (ch_sub32 z (by decide))), if_neg (fun z => c107 (ch_sub32 z (by decide))), if_neg (fun z => c110 (ch_sub32 z (by decide))), if_neg (fun z => c112 (ch_sub32 z (by decide))), if_neg (fun z => c113 (ch_sub32 z (by decide))), if_neg (fun z => c114 (ch_sub32 z (by decide)))]
  have f34 : wX_manOfLetter_34 post c f_clockTop f_numberTop f_strict f_side f_rights f_passant f_clock f_number f_lineLen f_outLen f_moveTotal f_movesKnown f_savedSide f_savedRights f_savedPassant f_savedClock f_savedNumber f_spellLen f_at f_end f_writtenMark f_writtenCastling f_writtenPromotion f_writtenTarget f_writtenCapture f_writtenRank f_writtenFile f_writtenKind a_board a_line a_out a_moves a_savedBoard a_spell := by
    unfold wX_manOfLetter_34
    refine ch_x_kindOfLetter ?_
    rw [k0]; exact h
  refine br_c (fun _ => f34) (fun _ => br_c (fun _ => f34) (fun _ => ch_x_kindOfLetter ?_))
  rw [k1]
  exact br_t rfl h
theorem ch_x_rank7 {post : Int32 → SX → Prop} {r n : Nat} (hn : n ≤ 96) (hr : r < 8) : ∀ (fu f ad tn k : Nat) (B : Nat → Nat) (ab : Nat → Int32), f ≤ 8 → ad < 2 → tn ≤ f → 9 ≤ fu + tn → k ≤ n → ch_CV ab B r f → ch_ZB B r f → ch_VB B → ch_HI ab a_board → (∀ m B1 ab1, ch_RK a_line m k r f ad B B1 → k + m ≤ n → ch_CV ab1 B1 r 8 → ch_ZB B1 r 8 → ch_VB B1 → ch_HI ab1 a_board → post 1 (f_clockTop, f_numberTop, f_strict, f_side, f_rights, f_passant, f_clock, f_number, nI n, f_outLen, f_moveTotal, f_movesKnown, f_savedSide, f_savedRights, f_savedPassant, f_savedClock, f_savedNumber, f_spellLen, nI (k + m), f_end, f_writtenMark, f_writtenCastling, f_writtenPromotion, f_writtenTarget, f_writtenCapture, f_writtenRank, f_writtenFile, f_writtenKind, ab1, a_line, a_out, a_moves, a_savedBoard, a_spell)) → ((∀ m B1, k + m ≤ n → ¬ ch_RK a_line m k r f ad B B1) → ∀ at' ab1, ch_HI ab1 a_board → post 0 (f_clockTop, f_numberTop, f_strict, f_side, f_rights, f_passant, f_clock, f_number, nI n, f_outLen, f_moveTotal, f_movesKnown, f_savedSide, f_savedRights, f_savedPassant, f_savedClock, f_savedNumber, f_spellLen, at', f_end, f_writtenMark, f_writtenCastling, f_writtenPromotion, f_writtenTarget, f_writtenCapture, f_writtenRank, f_writtenFile, f_writtenKind, ab1, a_line, a_out, a_moves, a_savedBoard, a_spell)) → wX_parseRank_7 post (nI r) f_clockTop f_numberTop f_strict f_side f_rights f_passant f_clock f_number (nI n) f_outLen f_moveTotal f_movesKnown f_savedSide f_savedRights f_savedPassant f_savedClock f_savedNumber f_spellLen f_end f_writtenMark f_writtenCastling f_writtenPromotion f_writtenTarget f_writtenCapture f_writtenRank f_writtenFile f_writtenKind fu (nI f) (nI ad) (nI tn) (nI k) ab a_line a_out a_moves a_savedBoard a_spell := by
  intro fu
  induction fu with
  | zero => intro f ad tn k B ab h1 h2 h3 h4; omega
  | succ fu ih =>
    intro f ad tn k B ab hf had htn hfu hk hC hZ hV hH hok hbad
    have fin : f = 8 → wX_parseRank_152 post (nI f) f_clockTop f_numberTop f_strict f_side f_rights f_passant f_clock f_number (nI n) f_outLen f_moveTotal f_movesKnown f_savedSide f_savedRights f_savedPassant f_savedClock f_savedNumber f_spellLen (nI k) f_end f_writtenMark f_writtenCastling f_writtenPromotion f_writtenTarget f_writtenCapture f_writtenRank f_writtenFile f_writtenKind ab a_line a_out a_moves a_savedBoard a_spell := by
      intro e
      subst e
      exact br_t rfl (hok 0 B ab ⟨rfl, rfl⟩ (by omega) hC hZ hV hH)
    refine pk_le 8 tn (fun e => fin (by omega)) (fun e1 => pk_le 8 f (fun e => fin (by omega)) (fun e2 => ?_))
    have bad0 : (∀ m B1, k + m ≤ n → m ≠ 0 → ¬ ch_RK a_line m k r f ad B B1) → post 0 (f_clockTop, f_numberTop, f_strict, f_side, f_rights, f_passant, f_clock, f_number, nI n, f_outLen, f_moveTotal, f_movesKnown, f_savedSide, f_savedRights, f_savedPassant, f_savedClock, f_savedNumber, f_spellLen, nI k, f_end, f_writtenMark, f_writtenCastling, f_writtenPromotion, f_writtenTarget, f_writtenCapture, f_writtenRank, f_writtenFile, f_writtenKind, ab, a_line, a_out, a_moves, a_savedBoard, a_spell) := by
      intro w
      refine hbad (fun m B1 h1 h2 => ?_) _ ab hH
      by_cases z : m = 0
      · subst z; have := h2.1; omega
      · exact w m B1 h1 z h2
    refine ch_x_here hn (by omega) (fun e3 => ?_) (fun e3 => ?_)
    · refine br_t (by decide) ?_
      unfold wX_parseRank_103
      refine ch_x_manOfLetter (br_t (by decide) (bad0 (fun m B1 h1 h2 _ => by omega)))
    · have let103 : ¬ ch_DG (a_line k) → wX_parseRank_103 post (wX_parseRank_7 post (nI r) f_clockTop f_numberTop f_strict f_side f_rights f_passant f_clock f_number (nI n) f_outLen f_moveTotal f_movesKnown f_savedSide f_savedRights f_savedPassant f_savedClock f_savedNumber f_spellLen f_end f_writtenMark f_writtenCastling f_writtenPromotion f_writtenTarget f_writtenCapture f_writtenRank f_writtenFile f_writtenKind fu) (nI r) (nI f) (nI tn) (a_line k) f_clockTop f_numberTop f_strict f_side f_rights f_passant f_clock f_number (nI n) f_outLen f_moveTotal f_movesKnown f_savedSide f_savedRights f_savedPassant f_savedClock f_savedNumber f_spellLen (nI k) f_end f_writtenMark f_writtenCastling f_writtenPromotion f_writtenTarget f_writtenCapture f_writtenRank f_writtenFile f_writtenKind ab a_line a_out a_moves a_savedBoard a_spell := by
        intro hd
        have hvl := ch_lm_v (a_line k)
        have hl15 : ch_lm (a_line k) < 16 := by unfold ch_VM at hvl; omega
        unfold wX_parseRank_103
        refine ch_x_manOfLetter (pk_eq (ch_lm (a_line k)) 0 (fun z => bad0 (fun m B1 h1 h2 h3 => ?_)) (fun z => ?_))
        · obtain ⟨m', rfl⟩ : ∃ m', m = m' + 1 := ⟨m - 1, by omega⟩
          rcases h3.2 with ⟨w, _⟩ | ⟨_, w, _⟩
          · exact hd w
          · exact w z
        · rw [ch_nI_8c, nI_clamp (by omega)]
          refine ⟨vp_in_nI (by omega) (by omega), nm_e (nm_r (nI_1 f) (nm_r (nI_1 k) (nm_r (nI_1 tn) ?_)))⟩
          refine ih (f + 1) 0 (tn + 1) (k + 1) (ch_pt B (8 * r + f) (ch_lm (a_line k))) _ (by omega) (by omega) (by omega) (by omega) (by omega) ?_ ?_ (ch_pt_V hV hvl) (ch_HI_u hH (by omega)) ?_ ?_
          · intro i hi w
            unfold ch_pt
            by_cases z2 : i = 8 * r + f
            · rw [ch_u_t z2, if_pos z2]
            · rw [ch_u_f z2, if_neg z2]; exact hC i hi (by omega)
          · intro i hi w
            unfold ch_pt
            rw [if_neg (by omega)]
            exact hZ i hi (by omega)
          · intro m B1 ab1 a1 a2 a3 a4 a5 a6
            have := hok (m + 1) B1 ab1 ⟨by omega, Or.inr ⟨hd, z, a1⟩⟩ (by omega) a3 a4 a5 a6
            rw [show k + (m + 1) = k + 1 + m from by omega] at this
            exact this
          · intro w at' ab1 h1
            refine hbad (fun m B1 h2 h3 => ?_) at' ab1 h1
            by_cases z3 : m = 0
            · subst z3; have := h3.1; omega
            · obtain ⟨m', rfl⟩ : ∃ m', m = m' + 1 := ⟨m - 1, by omega⟩
              rcases h3.2 with ⟨w2, _⟩ | ⟨_, _, w2⟩
              · exact hd w2
              · exact w m' B1 (by omega) w2
      refine br_c (fun c1 => let103 (fun w => w.1 c1)) (fun c1 => br_c (fun c2 => let103 (fun w => w.2 c2)) (fun c2 => ?_))
      have hd : ch_DG (a_line k) := ⟨c1, c2⟩
      obtain ⟨d1, d2, d3, _, _⟩ := ch_DG_v hd
      refine nm_r d1 (pk_eq ad 0 (fun z0 => ?_) (fun z0 => bad0 (fun m B1 h1 h2 h3 => ?_)))
      · rw [nI_add]
        refine pk_le (f + ch_dv (a_line k)) 8 (fun z1 => ⟨ch_dv (a_line k) + 1, ?_⟩) (fun z1 => bad0 (fun m B1 h1 h2 h3 => ?_))
        · refine ch_fn (σ := Nat → Int32) (fun q m z => wX_parseRank_65 post (wX_parseRank_7 post (nI r) f_clockTop f_numberTop f_strict f_side f_rights f_passant f_clock f_number (nI n) f_outLen f_moveTotal f_movesKnown f_savedSide f_savedRights f_savedPassant f_savedClock f_savedNumber f_spellLen f_end f_writtenMark f_writtenCastling f_writtenPromotion f_writtenTarget f_writtenCapture f_writtenRank f_writtenFile f_writtenKind fu) (nI r) (nI f) (nI tn) (nI (ch_dv (a_line k))) f_clockTop f_numberTop f_strict f_side f_rights f_passant f_clock f_number (nI n) f_outLen f_moveTotal f_movesKnown f_savedSide f_savedRights f_savedPassant f_savedClock f_savedNumber f_spellLen (nI k) f_end f_writtenMark f_writtenCastling f_writtenPromotion f_writtenTarget f_writtenCapture f_writtenRank f_writtenFile f_writtenKind q z m a_line a_out a_moves a_savedBoard a_spell) (fun i m => ch_CV m B r (f + i) ∧ ch_HI m a_board) (ch_dv (a_line k)) ?_ ?_ (ch_dv (a_line k)) 0 ab (by omega) ⟨hC, hH⟩
          · rintro q m ⟨mC, mH⟩
            refine br_t (Int32.le_refl _) (nm_r (nI_add f _) (nm_r (nI_1 k) (nm_r (nI_1 tn) ?_)))
            refine ih (f + ch_dv (a_line k)) 1 (tn + 1) (k + 1) B m (by omega) (by omega) (by omega) (by omega) (by omega) mC ?_ hV mH ?_ ?_
            · intro i hi w
              exact hZ i hi (by omega)
            · intro m' B1 ab1 a1 a2 a3 a4 a5 a6
              have := hok (m' + 1) B1 ab1 ⟨by omega, Or.inl ⟨hd, z0, z1, a1⟩⟩ (by omega) a3 a4 a5 a6
              rw [show k + (m' + 1) = k + 1 + m' from by omega] at this
              exact this
            · intro w at' ab1 h1
              refine hbad (fun m' B1 h2 h3 => ?_) at' ab1 h1
              by_cases z3 : m' = 0
              · subst z3; have := h3.1; omega
              · obtain ⟨m'', rfl⟩ : ∃ m'', m' = m'' + 1 := ⟨m' - 1, by omega⟩
                rcases h3.2 with ⟨_, _, _, w2⟩ | ⟨w2, _⟩
                · exact w m'' B1 (by omega) w2
                · exact w2 hd
          · rintro q i m hi ⟨mC, mH⟩ ih2
            refine br_f (nI_ge hi (by omega)) ?_
            rw [ch_nI_8c, nI_add, nI_clamp (by omega)]
            refine ⟨vp_in_nI (by omega) (by omega), nm_e (nm_r (nI_1 i) (ih2 _ ⟨fun j hj w => ?_, ch_HI_u mH (by omega)⟩))⟩
            by_cases z2 : j = 8 * r + f + i
            · rw [ch_u_t z2, hZ j hj (by omega)]; rfl
            · rw [ch_u_f z2]; exact mC j hj (by omega)
        · obtain ⟨m', rfl⟩ : ∃ m', m = m' + 1 := ⟨m - 1, by omega⟩
          rcases h3.2 with ⟨_, _, w, _⟩ | ⟨w, _⟩
          · omega
          · exact w hd
      · obtain ⟨m', rfl⟩ : ∃ m', m = m' + 1 := ⟨m - 1, by omega⟩
        rcases h3.2 with ⟨_, w, _⟩ | ⟨w, _⟩
        · exact z0 w
        · exact w hd
theorem ch_x_place3 {post : Int32 → SX → Prop} {n : Nat} (hn : n ≤ 96) : ∀ (d k : Nat) (B : Nat → Nat) (ab a0 : Nat → Int32), d < 8 → k ≤ n → ch_CV ab B d 0 → ch_ZB B d 0 → ch_VB B → ch_HI ab a0 → (∀ m B' ab1, ch_PLS a_line m k d 0 0 B B' → k + m ≤ n → ch_BX ab1 B' → ch_HI ab1 a0 → post 1 (f_clockTop, f_numberTop, f_strict, f_side, f_rights, f_passant, f_clock, f_number, nI n, f_outLen, f_moveTotal, f_movesKnown, f_savedSide, f_savedRights, f_savedPassant, f_savedClock, f_savedNumber, f_spellLen, nI (k + m), f_end, f_writtenMark, f_writtenCastling, f_writtenPromotion, f_writtenTarget, f_writtenCapture, f_writtenRank, f_writtenFile, f_writtenKind, ab1, a_line, a_out, a_moves, a_savedBoard, a_spell)) → ((∀ m B', k + m ≤ n → ¬ ch_PLS a_line m k d 0 0 B B') → ∀ at' ab1, ch_HI ab1 a0 → post 0 (f_clockTop, f_numberTop, f_strict, f_side, f_rights, f_passant, f_clock, f_number, nI n, f_outLen, f_moveTotal, f_movesKnown, f_savedSide, f_savedRights, f_savedPassant, f_savedClock, f_savedNumber, f_spellLen, at', f_end, f_writtenMark, f_writtenCastling, f_writtenPromotion, f_writtenTarget, f_writtenCapture, f_writtenRank, f_writtenFile, f_writtenKind, ab1, a_line, a_out, a_moves, a_savedBoard, a_spell)) → wX_parsePlacement_3 post (d + 2) (nI d) f_clockTop f_numberTop f_strict f_side f_rights f_passant f_clock f_number (nI n) f_outLen f_moveTotal f_movesKnown f_savedSide f_savedRights f_savedPassant f_savedClock f_savedNumber f_spellLen (nI k) f_end f_writtenMark f_writtenCastling f_writtenPromotion f_writtenTarget f_writtenCapture f_writtenRank f_writtenFile f_writtenKind ab a_line a_out a_moves a_savedBoard a_spell := by
  intro d
  induction d with
  | zero =>
    intro k B ab a0 hd hk hC hZ hV hH hok hbad
    refine br_f (by decide) ⟨9, ?_⟩
    refine ch_x_rank7 (a_board := ab) hn (by omega) 9 0 0 0 k B ab (by omega) (by omega) (by omega) (by omega) hk hC hZ hV (fun _ _ => rfl) (fun m B1 ab1 h1 h2 h3 h4 h5 h6 => br_f (by decide) (br_t (by decide) (nm_r (e' := -1) (by decide) (br_t (by decide) ?_)))) (fun w at' ab1 h1 => br_t rfl (hbad (fun m B' h2 h3 => ?_) at' ab1 (fun i hi => (h1 i hi).trans (hH i hi))))
    · exact hok m B1 ab1 ((ch_RK_PLS h1).1 ⟨rfl, rfl⟩) h2 (fun i hi => h3 i hi (by omega)) (fun i hi => (h6 i hi).trans (hH i hi))
    · obtain ⟨m1, B1, h4, h5⟩ := ch_PLS_RK h3
      rcases h5 with ⟨_, e, _⟩ | ⟨e, _⟩
      · exact w m1 B1 (by omega) h4
      · exact absurd rfl e
  | succ d ih =>
    intro k B ab a0 hd hk hC hZ hV hH hok hbad
    refine br_f (nI_pos (by omega)) ⟨9, ?_⟩
    refine ch_x_rank7 (a_board := ab) hn (by omega) 9 0 0 0 k B ab (by omega) (by omega) (by omega) (by omega) hk hC hZ hV (fun _ _ => rfl) (fun m B1 ab1 h1 h2 h3 h4 h5 h6 => br_f (by decide) (br_f (nI_ge (a := 0) (by omega) (by omega)) ?_)) (fun w at' ab1 h1 => br_t rfl (hbad (fun m B' h2 h3 => ?_) at' ab1 (fun i hi => (h1 i hi).trans (hH i hi))))
    · have hH1 : ch_HI ab1 a0 := fun i hi => (h6 i hi).trans (hH i hi)
      refine ch_x_take hn (by omega) (fun t1 t2 => br_f (by decide) (nm_r (e' := nI d) (pk_m1 d) ?_)) (fun t => br_t rfl (hbad (fun m2 B' h7 h8 => ?_) _ ab1 hH1))
      · refine ih (k + m + 1) B1 ab1 a0 (by omega) (by omega) (fun i hi w => h3 i hi (by omega)) (fun i hi w => h4 i hi (by omega)) h5 hH1 (fun m2 B' ab2 h7 h8 h9 h10 => ?_) (fun w at' ab2 h7 => ?_)
        · have := hok (m + 1 + m2) B' ab2 ((ch_RK_PLS h1).2 m2 (by omega) t2 h7) (by omega) h9 h10
          rw [show k + (m + 1 + m2) = k + m + 1 + m2 from by omega] at this
          exact this
        · refine hbad (fun m2 B' h8 h9 => ?_) at' ab2 h7
          obtain ⟨m1, B2, g1, g2⟩ := ch_PLS_RK h9
          rcases g2 with ⟨e, _⟩ | ⟨_, m3, e1, e2, e3⟩
          · omega
          · have p1 := (ch_RK_PLS (B' := B') g1).2 m3 (by omega) e2 e3
            have dd := ch_RK_d g1 h1
            obtain ⟨rfl, rfl⟩ := dd
            exact w m3 B' (by omega) e3
      · obtain ⟨m1, B2, g1, g2⟩ := ch_PLS_RK h8
        rcases g2 with ⟨e, _⟩ | ⟨_, m3, e1, e2, e3⟩
        · omega
        · obtain ⟨rfl, rfl⟩ := ch_RK_d g1 h1
          exact t ⟨by omega, e2⟩
    · obtain ⟨m1, B1, h4, h5⟩ := ch_PLS_RK h3
      rcases h5 with ⟨e, _⟩ | ⟨_, m3, e1, e2, e3⟩
      · omega
      · exact w m1 B1 (by omega) h4
theorem ch_x_parsePlacement {post : Int32 → SX → Prop} {n : Nat} (hn : n ≤ 96) (hok : ∀ m B' ab1, ch_PLS a_line m 0 7 0 0 (fun _ => 0) B' → m ≤ n → ch_VB B' → ch_BX ab1 B' → ch_HI ab1 a_board → post 1 (f_clockTop, f_numberTop, f_strict, f_side, f_rights, f_passant, f_clock, f_number, nI n, f_outLen, f_moveTotal, f_movesKnown, f_savedSide, f_savedRights, f_savedPassant, f_savedClock, f_savedNumber, f_spellLen, nI m, f_end, f_writtenMark, f_writtenCastling, f_writtenPromotion, f_writtenTarget, f_writtenCapture, f_writtenRank, f_writtenFile, f_writtenKind, ab1, a_line, a_out, a_moves, a_savedBoard, a_spell)) (hbad : (∀ m B', m ≤ n → ¬ ch_PLS a_line m 0 7 0 0 (fun _ => 0) B') → ∀ at' ab1, ch_HI ab1 a_board → post 0 (f_clockTop, f_numberTop, f_strict, f_side, f_rights, f_passant, f_clock, f_number, nI n, f_outLen, f_moveTotal, f_movesKnown, f_savedSide, f_savedRights, f_savedPassant, f_savedClock, f_savedNumber, f_spellLen, at', f_end, f_writtenMark, f_writtenCastling, f_writtenPromotion, f_writtenTarget, f_writtenCapture, f_writtenRank, f_writtenFile, f_writtenKind, ab1, a_line, a_out, a_moves, a_savedBoard, a_spell)) : wpX_parsePlacement post (f_clockTop, f_numberTop, f_strict, f_side, f_rights, f_passant, f_clock, f_number, nI n, f_outLen, f_moveTotal, f_movesKnown, f_savedSide, f_savedRights, f_savedPassant, f_savedClock, f_savedNumber, f_spellLen, 0, f_end, f_writtenMark, f_writtenCastling, f_writtenPromotion, f_writtenTarget, f_writtenCapture, f_writtenRank, f_writtenFile, f_writtenKind, a_board, a_line, a_out, a_moves, a_savedBoard, a_spell) := by
  have v0 : ch_VB (fun _ => 0) := fun i hi => Or.inl rfl
  refine ⟨9, ?_⟩
  refine ch_x_place3 hn 7 0 (fun _ => 0) a_board a_board (by omega) (by omega) (fun i hi w => by omega) (fun i hi w => rfl) v0 (fun _ _ => rfl) (fun m B' ab1 h1 h2 h3 h4 => ?_) (fun w at' ab1 h1 => ?_)
  · rw [Nat.zero_add] at h2 ⊢
    exact hok m B' ab1 h1 h2 (ch_PLS_V v0 h1) h3 h4
  · exact hbad (fun m B' h2 h3 => w m B' (by omega) h3) at' ab1 h1
end
end
section
/-! the component reads the other fields of the text -/
/-- the letters that the component takes -/
def ch_XG (ln : Nat → Int32) (n : Nat) : Nat → Nat → Nat → Nat → Nat → Nat → Prop
  | 0, _, k, r, j, v => j = k ∧ v = r
  | d + 1, w, k, r, j, v => (k < n ∧ ln k = ch_rl_ w ∧ ch_XG ln n d (w + 1) (k + 1) (r + 2 ^ w) j v) ∨ (¬ (k < n ∧ ln k = ch_rl_ w) ∧ ch_XG ln n d (w + 1) k r j v)
theorem ch_XG_R {ln : Nat → Int32} {n : Nat} : ∀ {d w k r j v : Nat}, k ≤ n → ch_XG ln n d w k r j v → k ≤ j ∧ j ≤ n ∧ ch_RGT ln j d w k r v
  | 0, w, k, r, j, v, hk, h => by
    obtain ⟨rfl, rfl⟩ := h
    exact ⟨Nat.le_refl _, hk, rfl, rfl⟩
  | d + 1, w, k, r, j, v, hk, h => by
    rcases h with ⟨a, b, h⟩ | ⟨a, h⟩
    · obtain ⟨h1, h2, h3⟩ := ch_XG_R (by omega) h
      exact ⟨by omega, h2, Or.inl ⟨by omega, b, h3⟩⟩
    · obtain ⟨h1, h2, h3⟩ := ch_XG_R hk h
      exact ⟨h1, h2, Or.inr ⟨fun z => a ⟨by omega, z.2⟩, h3⟩⟩
theorem ch_rl_32 {w : Nat} : ch_rl_ w ≠ 32 := by
  unfold ch_rl_
  repeat' split
  all_goals decide
theorem ch_R_XG {ln : Nat → Int32} {n j' : Nat} (hj : j' < n) (h32 : ln j' = 32) : ∀ {d w k r j v v' : Nat}, w + d = 4 → ch_XG ln n d w k r j v → ch_RGT ln j' d w k r v' → j = j' ∧ v = v'
  | 0, w, k, r, j, v, v', _, h, h' => ⟨h.1.trans h'.1, h.2.trans h'.2.symm⟩
  | d + 1, w, k, r, j, v, v', hw, h, h' => by
    have hk := (ch_RGT_ns hw h').1
    rcases h with ⟨a, b, h⟩ | ⟨a, h⟩ <;> rcases h' with ⟨a', b', h'⟩ | ⟨a', h'⟩
    · exact ch_R_XG hj h32 (by omega) h h'
    · refine absurd ⟨?_, b⟩ a'
      rcases Nat.lt_or_ge k j' with z | z
      · exact z
      · obtain rfl : k = j' := by omega
        rw [h32] at b; exact absurd b.symm ch_rl_32
    · exact absurd ⟨by omega, b'⟩ a
    · exact ch_R_XG hj h32 (by omega) h h'
theorem ch_RGT_e {ln : Nat → Int32} {j : Nat} : ∀ {d w k r v : Nat}, ch_RGT ln j d w k r v → ((k = j → v = r) ∧ (k < j → r < v))
  | 0, w, k, r, v, h => ⟨fun _ => h.2, fun z => by have := h.1; omega⟩
  | d + 1, w, k, r, v, h => by
    have hp : 0 < 2 ^ w := Nat.two_pow_pos w
    rcases h with ⟨a, b, h⟩ | ⟨a, h⟩
    · have := ch_RGT_e h
      refine ⟨fun z => by omega, fun _ => ?_⟩
      rcases Nat.lt_or_ge (k + 1) j with z | z
      · have := this.2 z; omega
      · rcases Nat.lt_or_ge j (k + 1) with y | y
        · omega
        · have := this.1 (by omega); omega
    · exact ch_RGT_e h
theorem ch_or_w : ∀ w, w < 4 → ∀ r, r < 16 → r < 2 ^ w → nI r ||| ((1 : Int32) <<< (nI w &&& 31)) = nI (r + 2 ^ w) := by decide +kernel
theorem ch_rlX : ∀ w, w < 4 → ((nI w &&& 1 = 0 ∧ ((2 ≤ nI w ∧ ch_rl_ w = 75 + 32) ∨ (¬ 2 ≤ nI w ∧ ch_rl_ w = 75))) ∨ (¬ nI w &&& 1 = 0 ∧ ((2 ≤ nI w ∧ ch_rl_ w = 81 + 32) ∨ (¬ 2 ≤ nI w ∧ ch_rl_ w = 81)))) := by decide +kernel
theorem ch_SDS_u {ln : Nat → Int32} {i j j' v v' : Nat} (h : ch_SDS ln i j v) (h' : ch_SDS ln i j' v') : j = j' ∧ v = v' := by
  obtain ⟨a, b⟩ := h
  obtain ⟨a', b'⟩ := h'
  refine ⟨by omega, ?_⟩
  rcases b with ⟨b, c⟩ | ⟨b, c⟩ <;> rcases b' with ⟨b', c'⟩ | ⟨b', c'⟩
  · omega
  · rw [b] at b'; exact absurd b' (by decide)
  · rw [b] at b'; exact absurd b' (by decide)
  · omega
theorem ch_EPS_u {ln : Nat → Int32} {i j j' v v' : Nat} (h : ch_EPS ln i j v) (h' : ch_EPS ln i j' v') : j = j' ∧ v = v' := by
  rcases h with ⟨a, b, c⟩ | ⟨a, x, y, hx, hy, b, c, d⟩ <;> rcases h' with ⟨a', b', c'⟩ | ⟨a', x', y', hx', hy', b', c', d'⟩
  · exact ⟨by omega, by omega⟩
  · rw [b] at b'; have := (nI_eq (a := 45) (by omega) (by omega)).mp b'; omega
  · rw [b'] at b; have := (nI_eq (a := 45) (by omega) (by omega)).mp b; omega
  · have e1 := (nI_eq (by omega) (by omega)).mp (b.symm.trans b')
    have e2 := (nI_eq (by omega) (by omega)).mp (c.symm.trans c')
    exact ⟨by omega, by omega⟩
section
variable {f_clockTop f_numberTop f_strict f_side f_rights f_passant f_clock f_number f_lineLen f_outLen f_moveTotal f_movesKnown f_savedSide f_savedRights f_savedPassant f_savedClock f_savedNumber f_spellLen f_at f_end f_writtenMark f_writtenCastling f_writtenPromotion f_writtenTarget f_writtenCapture f_writtenRank f_writtenFile f_writtenKind : Int32} {a_board a_line a_out a_moves a_savedBoard a_spell : Nat → Int32}
theorem ch_x_parseSide {post : Int32 → SX → Prop} {k n : Nat} (hn : n ≤ 96) (hk : k < 1000) (hok : ∀ sd, ch_SDS a_line k (k + 1) sd → k < n → post 1 (f_clockTop, f_numberTop, f_strict, nI sd, f_rights, f_passant, f_clock, f_number, nI n, f_outLen, f_moveTotal, f_movesKnown, f_savedSide, f_savedRights, f_savedPassant, f_savedClock, f_savedNumber, f_spellLen, nI (k + 1), f_end, f_writtenMark, f_writtenCastling, f_writtenPromotion, f_writtenTarget, f_writtenCapture, f_writtenRank, f_writtenFile, f_writtenKind, a_board, a_line, a_out, a_moves, a_savedBoard, a_spell)) (hbad : (∀ j sd, k < n → ¬ ch_SDS a_line k j sd) → ∀ s at', post 0 (f_clockTop, f_numberTop, f_strict, s, f_rights, f_passant, f_clock, f_number, nI n, f_outLen, f_moveTotal, f_movesKnown, f_savedSide, f_savedRights, f_savedPassant, f_savedClock, f_savedNumber, f_spellLen, at', f_end, f_writtenMark, f_writtenCastling, f_writtenPromotion, f_writtenTarget, f_writtenCapture, f_writtenRank, f_writtenFile, f_writtenKind, a_board, a_line, a_out, a_moves, a_savedBoard, a_spell)) : wpX_parseSide post (f_clockTop, f_numberTop, f_strict, f_side, f_rights, f_passant, f_clock, f_number, nI n, f_outLen, f_moveTotal, f_movesKnown, f_savedSide, f_savedRights, f_savedPassant, f_savedClock, f_savedNumber, f_spellLen, nI k, f_end, f_writtenMark, f_writtenCastling, f_writtenPromotion, f_writtenTarget, f_writtenCapture, f_writtenRank, f_writtenFile, f_writtenKind, a_board, a_line, a_out, a_moves, a_savedBoard, a_spell) := by
  unfold wpX_parseSide
  refine ch_x_take hn hk (fun a b => br_f (by decide) (hok 0 ⟨rfl, Or.inl ⟨b, rfl⟩⟩ a)) (fun a => br_t rfl ?_)
  refine ch_x_take hn hk (fun b c => ⟨ch_nar1, hok 1 ⟨rfl, Or.inr ⟨c, rfl⟩⟩ b⟩) (fun b => ⟨ch_nar0, hbad (fun j sd z w => ?_) _ _⟩)
  rcases w.2 with ⟨w, _⟩ | ⟨w, _⟩
  · exact a ⟨z, w⟩
  · exact b ⟨z, w⟩
theorem ch_x_rightLetter {post : Int32 → Prop} {w : Nat} (hw : w < 4) (h : post (ch_rl_ w)) : wpX_rightLetter post (f_clockTop, f_numberTop, f_strict, f_side, f_rights, f_passant, f_clock, f_number, f_lineLen, f_outLen, f_moveTotal, f_movesKnown, f_savedSide, f_savedRights, f_savedPassant, f_savedClock, f_savedNumber, f_spellLen, f_at, f_end, f_writtenMark, f_writtenCastling, f_writtenPromotion, f_writtenTarget, f_writtenCapture, f_writtenRank, f_writtenFile, f_writtenKind, a_board, a_line, a_out, a_moves, a_savedBoard, a_spell) (nI w) := by
  rcases ch_rlX w hw with ⟨a, ⟨b, c⟩ | ⟨b, c⟩⟩ | ⟨a, ⟨b, c⟩ | ⟨b, c⟩⟩
  · rw [c] at h; exact br_t a (br_t b h)
  · rw [c] at h; exact br_t a (br_f b h)
  · rw [c] at h; exact br_f a (br_t b h)
  · rw [c] at h; exact br_f a (br_f b h)
theorem ch_x_rights18 {post : Int32 → SX → Prop} {n : Nat} (hn : n ≤ 96) : ∀ (d w k r : Nat), w + d = 4 → r < 2 ^ w → k ≤ n → (∀ j v, ch_XG a_line n d w k r j v → v < 16 → post (if v = 0 then 0 else 1) (f_clockTop, f_numberTop, f_strict, f_side, nI v, f_passant, f_clock, f_number, nI n, f_outLen, f_moveTotal, f_movesKnown, f_savedSide, f_savedRights, f_savedPassant, f_savedClock, f_savedNumber, f_spellLen, nI j, f_end, f_writtenMark, f_writtenCastling, f_writtenPromotion, f_writtenTarget, f_writtenCapture, f_writtenRank, f_writtenFile, f_writtenKind, a_board, a_line, a_out, a_moves, a_savedBoard, a_spell)) → wX_parseRights_18 post (d + 1) (nI w) f_clockTop f_numberTop f_strict f_side (nI r) f_passant f_clock f_number (nI n) f_outLen f_moveTotal f_movesKnown f_savedSide f_savedRights f_savedPassant f_savedClock f_savedNumber f_spellLen (nI k) f_end f_writtenMark f_writtenCastling f_writtenPromotion f_writtenTarget f_writtenCapture f_writtenRank f_writtenFile f_writtenKind a_board a_line a_out a_moves a_savedBoard a_spell := by
  intro d
  induction d with
  | zero =>
    intro w k r hw hr hk h
    obtain rfl : w = 4 := by omega
    have := h k r ⟨rfl, rfl⟩ hr
    have hr16 : r < 16 := hr
    refine br_t (by decide) (pk_eq r 0 (fun e => ?_) (fun e => ?_))
    · rw [if_pos e] at this; exact this
    · rw [if_neg e] at this; exact this
  | succ d ih =>
    intro w k r hw hr hk h
    have hp : 2 ^ (w + 1) = 2 * 2 ^ w := by rw [Nat.pow_succ]; omega
    have h16 : 2 ^ w ≤ 8 := by
      have : 2 ^ w ≤ 2 ^ 3 := Nat.pow_le_pow_right (by omega) (by omega)
      omega
    refine pk_le 4 w (fun e => by omega) (fun _ => ch_x_rightLetter (by omega) ?_)
    refine ch_x_take hn (by omega) (fun a b => br_f (by decide) (nm_r (ch_or_w w (by omega) r (by omega) hr) (nm_r (nI_1 w) ?_))) (fun a => br_t rfl (nm_r (nI_1 w) ?_))
    · exact ih (w + 1) (k + 1) (r + 2 ^ w) (by omega) (by omega) (by omega) (fun j v hx hv => h j v (Or.inl ⟨a, b, hx⟩) hv)
    · exact ih (w + 1) k r (by omega) (by omega) hk (fun j v hx hv => h j v (Or.inr ⟨a, hx⟩) hv)
theorem ch_x_parseRights {post : Int32 → SX → Prop} {k n : Nat} (hn : n ≤ 96) (hk : k ≤ n) (h : ∀ (r j v : Nat), r < 2 → j ≤ n → v < 16 → (r = 1 → ch_RTS a_line k j v) → (∀ j' v', ch_RTS a_line k j' v' → j' < n → a_line j' = 32 → r = 1 ∧ j = j' ∧ v = v') → post (nI r) (f_clockTop, f_numberTop, f_strict, f_side, nI v, f_passant, f_clock, f_number, nI n, f_outLen, f_moveTotal, f_movesKnown, f_savedSide, f_savedRights, f_savedPassant, f_savedClock, f_savedNumber, f_spellLen, nI j, f_end, f_writtenMark, f_writtenCastling, f_writtenPromotion, f_writtenTarget, f_writtenCapture, f_writtenRank, f_writtenFile, f_writtenKind, a_board, a_line, a_out, a_moves, a_savedBoard, a_spell)) : wpX_parseRights post (f_clockTop, f_numberTop, f_strict, f_side, f_rights, f_passant, f_clock, f_number, nI n, f_outLen, f_moveTotal, f_movesKnown, f_savedSide, f_savedRights, f_savedPassant, f_savedClock, f_savedNumber, f_spellLen, nI k, f_end, f_writtenMark, f_writtenCastling, f_writtenPromotion, f_writtenTarget, f_writtenCapture, f_writtenRank, f_writtenFile, f_writtenKind, a_board, a_line, a_out, a_moves, a_savedBoard, a_spell) := by
  unfold wpX_parseRights
  refine ch_x_take hn (by omega) (fun a b => br_f (by decide) ?_) (fun a => br_t rfl ⟨5, ?_⟩)
  · refine h 1 (k + 1) 0 (by omega) (by omega) (by omega) (fun _ => Or.inl ⟨rfl, b, rfl⟩) (fun j' v' w w1 w2 => ?_)
    rcases w with ⟨e, _, e2⟩ | ⟨e, _⟩
    · exact ⟨rfl, by omega, by omega⟩
    · exact absurd b e
  · refine ch_x_rights18 hn 4 0 k 0 rfl (by decide) hk (fun j v hx hv => ?_)
    obtain ⟨h1, h2, h3⟩ := ch_XG_R hk hx
    have h4 := ch_RGT_e h3
    have key : ∀ r : Nat, r < 2 → (r = 1 ↔ v ≠ 0) → post (nI r) (f_clockTop, f_numberTop, f_strict, f_side, nI v, f_passant, f_clock, f_number, nI n, f_outLen, f_moveTotal, f_movesKnown, f_savedSide, f_savedRights, f_savedPassant, f_savedClock, f_savedNumber, f_spellLen, nI j, f_end, f_writtenMark, f_writtenCastling, f_writtenPromotion, f_writtenTarget, f_writtenCapture, f_writtenRank, f_writtenFile, f_writtenKind, a_board, a_line, a_out, a_moves, a_savedBoard, a_spell) := by
      intro r hr hrv
      refine h r j v hr h2 hv (fun e => Or.inr ⟨fun z => ?_, ?_, h3⟩) (fun j' v' w w1 w2 => ?_)
      · have nz := hrv.mp e
        have kj : k < j := by
          rcases Nat.lt_or_ge k j with y | y
          · exact y
          · exact absurd (h4.1 (by omega)) nz
        exact a ⟨by omega, z⟩
      · have nz := hrv.mp e
        rcases Nat.lt_or_ge k j with y | y
        · exact y
        · exact absurd (h4.1 (by omega)) nz
      · rcases w with ⟨e, e2, _⟩ | ⟨_, e, e2⟩
        · exact absurd ⟨by omega, e2⟩ a
        · obtain ⟨x1, x2⟩ := ch_R_XG w1 w2 (w := 0) (by omega) hx e2
          have := (ch_RGT_e e2).2 e
          exact ⟨hrv.mpr (by omega), x1, x2⟩
    by_cases z : v = 0
    · rw [if_pos z]; exact key 0 (by omega) ⟨fun w => by omega, fun w => absurd z w⟩
    · rw [if_neg z]; exact key 1 (by omega) ⟨fun _ => z, fun _ => rfl⟩
theorem ch_x_parsePassant {post : Int32 → SX → Prop} {k n : Nat} (hn : n ≤ 96) (hk : k ≤ n) (hok : ∀ j ep, ch_EPS a_line k j ep → j ≤ n → post 1 (f_clockTop, f_numberTop, f_strict, f_side, f_rights, ch_epI ep, f_clock, f_number, nI n, f_outLen, f_moveTotal, f_movesKnown, f_savedSide, f_savedRights, f_savedPassant, f_savedClock, f_savedNumber, f_spellLen, nI j, f_end, f_writtenMark, f_writtenCastling, f_writtenPromotion, f_writtenTarget, f_writtenCapture, f_writtenRank, f_writtenFile, f_writtenKind, a_board, a_line, a_out, a_moves, a_savedBoard, a_spell)) (hbad : (∀ j ep, j ≤ n → ¬ ch_EPS a_line k j ep) → ∀ p at', post 0 (f_clockTop, f_numberTop, f_strict, f_side, f_rights, p, f_clock, f_number, nI n, f_outLen, f_moveTotal, f_movesKnown, f_savedSide, f_savedRights, f_savedPassant, f_savedClock, f_savedNumber, f_spellLen, at', f_end, f_writtenMark, f_writtenCastling, f_writtenPromotion, f_writtenTarget, f_writtenCapture, f_writtenRank, f_writtenFile, f_writtenKind, a_board, a_line, a_out, a_moves, a_savedBoard, a_spell)) : wpX_parsePassant post (f_clockTop, f_numberTop, f_strict, f_side, f_rights, f_passant, f_clock, f_number, nI n, f_outLen, f_moveTotal, f_movesKnown, f_savedSide, f_savedRights, f_savedPassant, f_savedClock, f_savedNumber, f_spellLen, nI k, f_end, f_writtenMark, f_writtenCastling, f_writtenPromotion, f_writtenTarget, f_writtenCapture, f_writtenRank, f_writtenFile, f_writtenKind, a_board, a_line, a_out, a_moves, a_savedBoard, a_spell) := by
  unfold wpX_parsePassant
  refine ch_x_take hn (by omega) (fun a b => br_f (by decide) ?_) (fun a => br_t rfl ?_)
  · have := hok (k + 1) 64 (Or.inl ⟨rfl, b, rfl⟩) (by omega)
    rw [ch_epI_n (by omega)] at this
    exact this
  · refine ch_x_here hn (by omega) (fun b => br_t (by decide) (hbad (fun j ep h1 h2 => ?_) _ _)) (fun b => br_c (fun c => hbad (fun j ep h1 h2 => ?_) _ _) (fun c => br_c (fun c2 => nm_r (nI_1 k) ?_) (fun c2 => hbad (fun j ep h1 h2 => ?_) _ _)))
    · rcases h2 with ⟨e, _⟩ | ⟨e, _⟩ <;> omega
    · rcases h2 with ⟨_, e, _⟩ | ⟨_, x, y, hx, hy, e, _⟩
      · exact a ⟨b, e⟩
      · rw [e] at c; exact nI_nlt (b := 97) (by omega) (by omega) c
    · obtain ⟨x, hx, ex⟩ : ∃ x : Nat, x < 8 ∧ a_line k = nI (97 + x) := by
        have p : ¬ a_line k < 0 := fun z => c (Int32.lt_trans z (by decide))
        obtain ⟨j, hj, ej⟩ := nI_of p
        rw [ej] at c c2
        have q1 : ¬ j < 97 := fun z => c ((nI_ltI (b := 97) hj (by omega)).mpr z)
        have q2 : j ≤ 104 := (nI_leI (b := 104) hj (by omega)).mp c2
        exact ⟨j - 97, by omega, by rw [ej]; congr 1; omega⟩
      refine ch_x_here hn (by omega) (fun d => br_t (by decide) (hbad (fun j ep h1 h2 => ?_) _ _)) (fun d => br_c (fun d1 => hbad (fun j ep h1 h2 => ?_) _ _) (fun d1 => br_c (fun d2 => nm_r (nI_1 (k + 1)) ?_) (fun d2 => hbad (fun j ep h1 h2 => ?_) _ _)))
      · rcases h2 with ⟨_, e, _⟩ | ⟨e, _⟩
        · exact a ⟨b, e⟩
        · omega
      · rcases h2 with ⟨_, e, _⟩ | ⟨_, x', y, hx', hy, _, e, _⟩
        · exact a ⟨b, e⟩
        · rw [e] at d1; exact nI_nlt (b := 49) (by omega) (by omega) d1
      · obtain ⟨y, hy, ey⟩ : ∃ y : Nat, y < 8 ∧ a_line (k + 1) = nI (49 + y) := by
          have p : ¬ a_line (k + 1) < 0 := fun z => d1 (Int32.lt_trans z (by decide))
          obtain ⟨j, hj, ej⟩ := nI_of p
          rw [ej] at d1 d2
          have q1 : ¬ j < 49 := fun z => d1 ((nI_ltI (b := 49) hj (by omega)).mpr z)
          have q2 : j ≤ 56 := (nI_leI (b := 56) hj (by omega)).mp d2
          exact ⟨j - 49, by omega, by rw [ej]; congr 1; omega⟩
        have ev : (8 * (a_line (k + 1) - 49)) + (a_line k - 97) = nI (8 * y + x) := by
          rw [ex, ey, show nI (49 + y) - 49 = nI y from (pk_sub (a := 49 + y) (b := 49) (by omega)).trans (congrArg nI (by omega)), show nI (97 + x) - 97 = nI x from (pk_sub (a := 97 + x) (b := 97) (by omega)).trans (congrArg nI (by omega)), ch_nI_8c]
        refine nm_r ev ?_
        have := hok (k + 2) (8 * y + x) (Or.inr ⟨rfl, x, y, hx, hy, ex, ey, rfl⟩) (by omega)
        rw [ch_epI_s (by omega)] at this
        exact this
      · rcases h2 with ⟨_, e, _⟩ | ⟨_, x', y, hx', hy, _, e, _⟩
        · exact a ⟨b, e⟩
        · rw [e] at d2; exact d2 (nI_le (b := 56) (by omega) (by omega))
    · rcases h2 with ⟨_, e, _⟩ | ⟨_, x, y, hx, hy, e, _⟩
      · exact a ⟨b, e⟩
      · rw [e] at c2; exact c2 (nI_le (b := 104) (by omega) (by omega))
theorem ch_x_num82 {post : Int32 → SX → Prop} {v m : Nat} {first r : Int32} (ch_hm : m ≤ 4) (h : (m = 0 ∧ r = -1) ∨ (m = 1 ∧ r = nI v) ∨ (1 < m ∧ first = 48 ∧ r = -1) ∨ (1 < m ∧ ¬ first = 48 ∧ r = nI v)) (hp : post r (f_clockTop, f_numberTop, f_strict, f_side, f_rights, f_passant, f_clock, f_number, f_lineLen, f_outLen, f_moveTotal, f_movesKnown, f_savedSide, f_savedRights, f_savedPassant, f_savedClock, f_savedNumber, f_spellLen, f_at, f_end, f_writtenMark, f_writtenCastling, f_writtenPromotion, f_writtenTarget, f_writtenCapture, f_writtenRank, f_writtenFile, f_writtenKind, a_board, a_line, a_out, a_moves, a_savedBoard, a_spell)) : wX_parseNumber_82 post first (nI v) (nI m) f_clockTop f_numberTop f_strict f_side f_rights f_passant f_clock f_number f_lineLen f_outLen f_moveTotal f_movesKnown f_savedSide f_savedRights f_savedPassant f_savedClock f_savedNumber f_spellLen f_at f_end f_writtenMark f_writtenCastling f_writtenPromotion f_writtenTarget f_writtenCapture f_writtenRank f_writtenFile f_writtenKind a_board a_line a_out a_moves a_savedBoard a_spell := by
  refine pk_eq m 0 (fun e => ?_) (fun e => pk_le m 1 (fun e2 => ?_) (fun e2 => br_c (fun c => ?_) (fun c => ?_)))
  · rcases h with ⟨_, rfl⟩ | ⟨a, _⟩ | ⟨a, _⟩ | ⟨a, _⟩
    · exact hp
    all_goals omega
  · rcases h with ⟨a, _⟩ | ⟨_, rfl⟩ | ⟨a, _⟩ | ⟨a, _⟩
    · omega
    · exact hp
    all_goals omega
  · rcases h with ⟨a, _⟩ | ⟨a, _⟩ | ⟨_, _, rfl⟩ | ⟨_, b, _⟩
    · omega
    · omega
    · exact hp
    · exact absurd c b
  · rcases h with ⟨a, _⟩ | ⟨a, _⟩ | ⟨_, b, _⟩ | ⟨_, _, rfl⟩
    · omega
    · omega
    · exact absurd b c
    · exact hp
/-- how many digits the component reads -/
def ch_ND (ln : Nat → Int32) (n k m : Nat) : Prop := m ≤ 4 ∧ k + m ≤ n ∧ (∀ q, k ≤ q → q < k + m → ch_D9 (ln q)) ∧ (m = 4 ∨ n ≤ k + m ∨ ¬ ch_D9 (ln (k + m)))
theorem ch_x_num15 {post : Int32 → SX → Prop} {k n : Nat} {first : Int32} (hn : n ≤ 96) (hk : k ≤ n) : ∀ (fu m : Nat), m ≤ 4 → 6 ≤ fu + m → k + m ≤ n → (∀ q, k ≤ q → q < k + m → ch_D9 (a_line q)) → (∀ m', ch_ND a_line n k m' → wX_parseNumber_82 post first (nI (ch_vl a_line k m')) (nI m') f_clockTop f_numberTop f_strict f_side f_rights f_passant f_clock f_number (nI n) f_outLen f_moveTotal f_movesKnown f_savedSide f_savedRights f_savedPassant f_savedClock f_savedNumber f_spellLen (nI (k + m')) f_end f_writtenMark f_writtenCastling f_writtenPromotion f_writtenTarget f_writtenCapture f_writtenRank f_writtenFile f_writtenKind a_board a_line a_out a_moves a_savedBoard a_spell) → wX_parseNumber_15 post first f_clockTop f_numberTop f_strict f_side f_rights f_passant f_clock f_number (nI n) f_outLen f_moveTotal f_movesKnown f_savedSide f_savedRights f_savedPassant f_savedClock f_savedNumber f_spellLen f_end f_writtenMark f_writtenCastling f_writtenPromotion f_writtenTarget f_writtenCapture f_writtenRank f_writtenFile f_writtenKind a_board a_line a_out a_moves a_savedBoard a_spell fu (nI (ch_vl a_line k m)) (nI m) 1 (nI m) (nI (k + m)) := by
  intro fu
  induction fu with
  | zero => intro m h1 h2; omega
  | succ fu ih =>
    intro m ch_hm hfu hkm hd h
    refine pk_le 4 m (fun e => h m ⟨ch_hm, hkm, hd, Or.inl (by omega)⟩) (fun e => br_f (by decide) ?_)
    obtain ⟨fu', rfl⟩ : ∃ f', fu = f' + 1 := ⟨fu - 1, by omega⟩
    have stop : (n ≤ k + m ∨ ¬ ch_D9 (a_line (k + m))) → wX_parseNumber_15 post first f_clockTop f_numberTop f_strict f_side f_rights f_passant f_clock f_number (nI n) f_outLen f_moveTotal f_movesKnown f_savedSide f_savedRights f_savedPassant f_savedClock f_savedNumber f_spellLen f_end f_writtenMark f_writtenCastling f_writtenPromotion f_writtenTarget f_writtenCapture f_writtenRank f_writtenFile f_writtenKind a_board a_line a_out a_moves a_savedBoard a_spell (fu' + 1) (nI (ch_vl a_line k m)) (nI m) 0 (nI (m + 1)) (nI (k + m)) := by
      intro w
      have h82 := h m ⟨ch_hm, hkm, hd, Or.inr w⟩
      exact br_c (fun _ => h82) (fun _ => br_t rfl h82)
    refine ch_x_here hn (by omega) (fun a => br_t (by decide) (nm_r (nI_1 m) (stop (Or.inl a)))) (fun a => br_c (fun c => nm_r (nI_1 m) (stop (Or.inr (fun w => w.1 c)))) (fun c => br_c (fun c2 => nm_r (nI_1 m) (stop (Or.inr (fun w => Int32.not_lt.mpr w.2 c2)))) (fun c2 => ?_)))
    have d9c : ch_D9 (a_line (k + m)) := ⟨c, Int32.not_lt.mp c2⟩
    have hv := ch_D9_v d9c
    have ev : (10 * nI (ch_vl a_line k m)) + (a_line (k + m) - 48) = nI (ch_vl a_line k (m + 1)) := by
      rw [hv.1, show (10 : Int32) * nI (ch_vl a_line k m) = nI (10 * ch_vl a_line k m) from pk_mul 10 _, nI_add]; rfl
    refine nm_r ev (nm_r (nI_1 m) (nm_r (nI_1 (k + m)) (nm_r (nI_1 m) ?_)))
    refine ih (m + 1) (by omega) (by omega) (by omega) (fun q q1 q2 => ?_) h
    by_cases z : q = k + m
    · rw [z]; exact d9c
    · exact hd q q1 (by omega)
theorem ch_x_parseNumber {post : Int32 → SX → Prop} {k n : Nat} (hn : n ≤ 96) (hk : k ≤ n) (h : ∀ (r : Int32) (j : Nat), j ≤ n → (¬ r < 0 → ∃ v, r = nI v ∧ ch_NMS a_line k j v) → (∀ j' v', ch_NMS a_line k j' v' → j' ≤ n → (j' = n ∨ a_line j' = 32) → r = nI v' ∧ j = j') → post r (f_clockTop, f_numberTop, f_strict, f_side, f_rights, f_passant, f_clock, f_number, nI n, f_outLen, f_moveTotal, f_movesKnown, f_savedSide, f_savedRights, f_savedPassant, f_savedClock, f_savedNumber, f_spellLen, nI j, f_end, f_writtenMark, f_writtenCastling, f_writtenPromotion, f_writtenTarget, f_writtenCapture, f_writtenRank, f_writtenFile, f_writtenKind, a_board, a_line, a_out, a_moves, a_savedBoard, a_spell)) : wpX_parseNumber post (f_clockTop, f_numberTop, f_strict, f_side, f_rights, f_passant, f_clock, f_number, nI n, f_outLen, f_moveTotal, f_movesKnown, f_savedSide, f_savedRights, f_savedPassant, f_savedClock, f_savedNumber, f_spellLen, nI k, f_end, f_writtenMark, f_writtenCastling, f_writtenPromotion, f_writtenTarget, f_writtenCapture, f_writtenRank, f_writtenFile, f_writtenKind, a_board, a_line, a_out, a_moves, a_savedBoard, a_spell) := by
  have go : ∀ first : Int32, (k < n → first = a_line k) → ∃ q, wX_parseNumber_15 post first f_clockTop f_numberTop f_strict f_side f_rights f_passant f_clock f_number (nI n) f_outLen f_moveTotal f_movesKnown f_savedSide f_savedRights f_savedPassant f_savedClock f_savedNumber f_spellLen f_end f_writtenMark f_writtenCastling f_writtenPromotion f_writtenTarget f_writtenCapture f_writtenRank f_writtenFile f_writtenKind a_board a_line a_out a_moves a_savedBoard a_spell q 0 0 1 0 (nI k) := by
    intro first hf
    refine ⟨6, ?_⟩
    refine ch_x_num15 hn hk 6 0 (by omega) (by omega) (by omega) (fun q a b => by omega) (fun m ⟨m1, m2, m3, m4⟩ => ?_)
    have F2 : ∀ (r : Int32), ((m = 0 ∧ r = -1) ∨ (m = 1 ∧ r = nI (ch_vl a_line k m)) ∨ (1 < m ∧ first = 48 ∧ r = -1) ∨ (1 < m ∧ ¬ first = 48 ∧ r = nI (ch_vl a_line k m))) → ∀ j' v', ch_NMS a_line k j' v' → j' ≤ n → (j' = n ∨ a_line j' = 32) → r = nI v' ∧ k + m = j' := by
      intro r hr j' v' ⟨n1, n2, n3, n4, n5⟩ n6 n7
      have em : k + m = j' := by
        rcases Nat.lt_trichotomy (k + m) j' with z | z | z
        · rcases m4 with y | y | y
          · omega
          · omega
          · exact absurd (n3 (k + m) (by omega) z) y
        · exact z
        · have := m3 j' (by omega) z
          rcases n7 with y | y
          · omega
          · exact absurd y (ch_D9_v this).2.2
      have e2 : j' - k = m := by omega
      rw [e2] at n5
      rcases hr with ⟨a, b⟩ | ⟨a, b⟩ | ⟨a, b, c⟩ | ⟨a, b, c⟩
      · omega
      · exact ⟨by rw [b, n5], em⟩
      · have := n4 (by rw [← hf (by omega)]; exact b); omega
      · exact ⟨by rw [c, n5], em⟩
    have F1 : ∀ (r : Int32), ((m = 0 ∧ r = -1) ∨ (m = 1 ∧ r = nI (ch_vl a_line k m)) ∨ (1 < m ∧ first = 48 ∧ r = -1) ∨ (1 < m ∧ ¬ first = 48 ∧ r = nI (ch_vl a_line k m))) → ¬ r < 0 → ∃ v, r = nI v ∧ ch_NMS a_line k (k + m) v := by
      intro r hr hneg
      rcases hr with ⟨a, b⟩ | ⟨a, b⟩ | ⟨a, b, c⟩ | ⟨a, b, c⟩
      · rw [b] at hneg; exact absurd (by decide) hneg
      · exact ⟨_, b, by omega, by omega, m3, fun _ => by omega, by rw [show k + m - k = m from by omega]⟩
      · rw [c] at hneg; exact absurd (by decide) hneg
      · exact ⟨_, c, by omega, by omega, m3, fun z => absurd (by rw [hf (by omega)]; exact z) b, by rw [show k + m - k = m from by omega]⟩
    have all : ∀ r : Int32, ((m = 0 ∧ r = -1) ∨ (m = 1 ∧ r = nI (ch_vl a_line k m)) ∨ (1 < m ∧ first = 48 ∧ r = -1) ∨ (1 < m ∧ ¬ first = 48 ∧ r = nI (ch_vl a_line k m))) → wX_parseNumber_82 post first (nI (ch_vl a_line k m)) (nI m) f_clockTop f_numberTop f_strict f_side f_rights f_passant f_clock f_number (nI n) f_outLen f_moveTotal f_movesKnown f_savedSide f_savedRights f_savedPassant f_savedClock f_savedNumber f_spellLen (nI (k + m)) f_end f_writtenMark f_writtenCastling f_writtenPromotion f_writtenTarget f_writtenCapture f_writtenRank f_writtenFile f_writtenKind a_board a_line a_out a_moves a_savedBoard a_spell := fun r hr => ch_x_num82 m1 hr (h r (k + m) m2 (F1 r hr) (F2 r hr))
    by_cases z0 : m = 0
    · exact all (-1) (Or.inl ⟨z0, rfl⟩)
    · by_cases z1 : m = 1
      · exact all _ (Or.inr (Or.inl ⟨z1, rfl⟩))
      · by_cases z2 : first = 48
        · exact all (-1) (Or.inr (Or.inr (Or.inl ⟨by omega, z2, rfl⟩)))
        · exact all _ (Or.inr (Or.inr (Or.inr ⟨by omega, z2, rfl⟩)))
  unfold wpX_parseNumber
  exact ch_x_here hn (by omega) (fun a => go 0 (fun z => by omega)) (fun a => go (a_line k) (fun _ => rfl))
end
end
section
/-! the component reads the whole text of a position -/
section
variable {f_clockTop f_numberTop f_strict f_side f_rights f_passant f_clock f_number f_lineLen f_outLen f_moveTotal f_movesKnown f_savedSide f_savedRights f_savedPassant f_savedClock f_savedNumber f_spellLen f_at f_end f_writtenMark f_writtenCastling f_writtenPromotion f_writtenTarget f_writtenCapture f_writtenRank f_writtenFile f_writtenKind : Int32} {a_board a_line a_out a_moves a_savedBoard a_spell : Nat → Int32}
theorem ch_x_parsePosition {post : Int32 → SX → Prop} {n : Nat} (hn : n ≤ 96) (hok : ∀ B sd rt ep ck nb ab at', ch_PF a_line n B sd rt ep ck nb → ch_VB B → sd < 2 → rt < 16 → ep ≤ 64 → ck < 10000 → nb < 10000 → ch_BX ab B → ch_HI ab a_board → post 1 (f_clockTop, f_numberTop, f_strict, nI sd, nI rt, ch_epI ep, nI ck, nI nb, nI n, f_outLen, f_moveTotal, f_movesKnown, f_savedSide, f_savedRights, f_savedPassant, f_savedClock, f_savedNumber, f_spellLen, at', f_end, f_writtenMark, f_writtenCastling, f_writtenPromotion, f_writtenTarget, f_writtenCapture, f_writtenRank, f_writtenFile, f_writtenKind, ab, a_line, a_out, a_moves, a_savedBoard, a_spell)) (hbad : (∀ B sd rt ep ck nb, ¬ ch_PF a_line n B sd rt ep ck nb) → ∀ s1 ch_r1 p1 c1 n1 at' ab, ch_HI ab a_board → post 0 (f_clockTop, f_numberTop, f_strict, s1, ch_r1, p1, c1, n1, nI n, f_outLen, f_moveTotal, f_movesKnown, f_savedSide, f_savedRights, f_savedPassant, f_savedClock, f_savedNumber, f_spellLen, at', f_end, f_writtenMark, f_writtenCastling, f_writtenPromotion, f_writtenTarget, f_writtenCapture, f_writtenRank, f_writtenFile, f_writtenKind, ab, a_line, a_out, a_moves, a_savedBoard, a_spell)) : wpX_parsePosition post (f_clockTop, f_numberTop, f_strict, f_side, f_rights, f_passant, f_clock, f_number, nI n, f_outLen, f_moveTotal, f_movesKnown, f_savedSide, f_savedRights, f_savedPassant, f_savedClock, f_savedNumber, f_spellLen, f_at, f_end, f_writtenMark, f_writtenCastling, f_writtenPromotion, f_writtenTarget, f_writtenCapture, f_writtenRank, f_writtenFile, f_writtenKind, a_board, a_line, a_out, a_moves, a_savedBoard, a_spell) := by
  unfold wpX_parsePosition
  refine ch_x_parsePlacement hn (fun m B ab h1 h2 h3 h4 h5 => br_f (by decide) ?_) (fun w at' ab h => br_t rfl (hbad (fun B sd rt ep ck nb ⟨a, p, q, _⟩ => w a B (by omega) p) _ _ _ _ _ at' ab h))
  have A1 : (∀ sd rt ep ck nb, m < n → a_line m = 32 → ¬ ch_Q1 a_line n (m + 1) sd rt ep ck nb) → ∀ s1 ch_r1 p1 c1 n1 at', post 0 (f_clockTop, f_numberTop, f_strict, s1, ch_r1, p1, c1, n1, nI n, f_outLen, f_moveTotal, f_movesKnown, f_savedSide, f_savedRights, f_savedPassant, f_savedClock, f_savedNumber, f_spellLen, at', f_end, f_writtenMark, f_writtenCastling, f_writtenPromotion, f_writtenTarget, f_writtenCapture, f_writtenRank, f_writtenFile, f_writtenKind, ab, a_line, a_out, a_moves, a_savedBoard, a_spell) := by
    intro w s1 ch_r1 p1 c1 n1 at'
    refine hbad (fun B' sd rt ep ck nb ⟨a, p, q, r, s⟩ => ?_) s1 ch_r1 p1 c1 n1 at' ab h5
    obtain ⟨rfl, rfl⟩ := ch_PLS_d p h1
    exact w sd rt ep ck nb q r s
  refine ch_x_take hn (by omega) (fun t1 t2 => br_f (by decide) ?_) (fun t => br_t rfl (A1 (fun sd rt ep ck nb z1 z2 _ => t ⟨z1, z2⟩) _ _ _ _ _ _))
  refine ch_x_parseSide hn (by omega) (fun sd e1 e2 => br_f (by decide) ?_) (fun w s at' => br_t rfl (A1 (fun sd rt ep ck nb _ _ ⟨a, q, r, _⟩ => w a sd (by have := q.1; omega) q) _ _ _ _ _ _))
  have A2 : (∀ rt ep ck nb, m + 1 + 1 < n → a_line (m + 1 + 1) = 32 → ¬ ch_Q2 a_line n (m + 1 + 1 + 1) rt ep ck nb) → ∀ ch_r1 p1 c1 n1 at', post 0 (f_clockTop, f_numberTop, f_strict, nI sd, ch_r1, p1, c1, n1, nI n, f_outLen, f_moveTotal, f_movesKnown, f_savedSide, f_savedRights, f_savedPassant, f_savedClock, f_savedNumber, f_spellLen, at', f_end, f_writtenMark, f_writtenCastling, f_writtenPromotion, f_writtenTarget, f_writtenCapture, f_writtenRank, f_writtenFile, f_writtenKind, ab, a_line, a_out, a_moves, a_savedBoard, a_spell) := by
    intro w ch_r1 p1 c1 n1 at'
    refine A1 (fun sd' rt ep ck nb _ _ ⟨a, q, r, s, u⟩ => ?_) _ ch_r1 p1 c1 n1 at'
    obtain ⟨rfl, rfl⟩ := ch_SDS_u q e1
    exact w rt ep ck nb r s u
  refine ch_x_take hn (by omega) (fun t3 t4 => br_f (by decide) ?_) (fun t => br_t rfl (A2 (fun rt ep ck nb z1 z2 _ => t ⟨z1, z2⟩) _ _ _ _ _))
  refine ch_x_parseRights hn (by omega) (fun r j rt hr hj hrt hp hq => ?_)
  have hr' : r = 0 ∨ r = 1 := by omega
  rcases hr' with rfl | rfl
  · refine br_t rfl (A2 (fun rt ep ck nb _ _ ⟨a, q, r, s, _⟩ => ?_) _ _ _ _ _)
    have := (hq a rt q r s).1
    omega
  refine br_f (by decide) ?_
  have g0 := hp rfl
  have A3 : (∀ ep ck nb, j < n → a_line j = 32 → ¬ ch_Q3 a_line n (j + 1) ep ck nb) → ∀ p1 c1 n1 at', post 0 (f_clockTop, f_numberTop, f_strict, nI sd, nI rt, p1, c1, n1, nI n, f_outLen, f_moveTotal, f_movesKnown, f_savedSide, f_savedRights, f_savedPassant, f_savedClock, f_savedNumber, f_spellLen, at', f_end, f_writtenMark, f_writtenCastling, f_writtenPromotion, f_writtenTarget, f_writtenCapture, f_writtenRank, f_writtenFile, f_writtenKind, ab, a_line, a_out, a_moves, a_savedBoard, a_spell) := by
    intro w p1 c1 n1 at'
    refine A2 (fun rt' ep ck nb _ _ ⟨a, q, r, s, u⟩ => ?_) _ p1 c1 n1 at'
    obtain ⟨_, e3, e4⟩ := hq a rt' q r s
    subst e3 e4
    exact w ep ck nb r s u
  refine ch_x_take hn (by omega) (fun t5 t6 => br_f (by decide) ?_) (fun t => br_t rfl (A3 (fun ep ck nb z1 z2 _ => t ⟨z1, z2⟩) _ _ _ _))
  refine ch_x_parsePassant hn (by omega) (fun j2 ep g1 g2 => br_f (by decide) ?_) (fun w p at' => br_t rfl (A3 (fun ep ck nb _ _ ⟨a, q, r, _⟩ => w a ep (by omega) q) _ _ _ _))
  have A4 : (∀ ck nb, j2 < n → a_line j2 = 32 → ¬ ch_Q4 a_line n (j2 + 1) ck nb) → ∀ c1 n1 at', post 0 (f_clockTop, f_numberTop, f_strict, nI sd, nI rt, ch_epI ep, c1, n1, nI n, f_outLen, f_moveTotal, f_movesKnown, f_savedSide, f_savedRights, f_savedPassant, f_savedClock, f_savedNumber, f_spellLen, at', f_end, f_writtenMark, f_writtenCastling, f_writtenPromotion, f_writtenTarget, f_writtenCapture, f_writtenRank, f_writtenFile, f_writtenKind, ab, a_line, a_out, a_moves, a_savedBoard, a_spell) := by
    intro w c1 n1 at'
    refine A3 (fun ep' ck nb _ _ ⟨a, q, r, s, u⟩ => ?_) _ c1 n1 at'
    obtain ⟨e3, e4⟩ := ch_EPS_u q g1
    subst e3
    exact w ck nb r s u
  refine ch_x_take hn (by omega) (fun t7 t8 => br_f (by decide) ?_) (fun t => br_t rfl (A4 (fun ck nb z1 z2 _ => t ⟨z1, z2⟩) _ _ _))
  refine ch_x_parseNumber hn (by omega) (fun ch_r1 j3 k1 hF hG => br_c (fun c => A4 (fun ck nb _ _ ⟨a, q, r, s, u⟩ => ?_) _ _ _) (fun c => ?_))
  · have hl := ch_NMS_l q
    rw [(hG a ck q (by omega) (Or.inr s)).1] at c
    exact nI_pos (by omega) c
  obtain ⟨ck, rfl, hN⟩ := hF c
  have A5 : (∀ nb, j3 < n → a_line j3 = 32 → ¬ ch_NMS a_line (j3 + 1) n nb) → ∀ n1 at', post 0 (f_clockTop, f_numberTop, f_strict, nI sd, nI rt, ch_epI ep, nI ck, n1, nI n, f_outLen, f_moveTotal, f_movesKnown, f_savedSide, f_savedRights, f_savedPassant, f_savedClock, f_savedNumber, f_spellLen, at', f_end, f_writtenMark, f_writtenCastling, f_writtenPromotion, f_writtenTarget, f_writtenCapture, f_writtenRank, f_writtenFile, f_writtenKind, ab, a_line, a_out, a_moves, a_savedBoard, a_spell) := by
    intro w n1 at'
    refine A4 (fun ck' nb _ _ ⟨a, q, r, s, u⟩ => ?_) _ n1 at'
    obtain ⟨_, e3⟩ := hG a ck' q (by omega) (Or.inr s)
    subst e3
    exact w nb r s u
  refine ch_x_take hn (by omega) (fun t9 t10 => br_f (by decide) ?_) (fun t => br_t rfl (A5 (fun nb z1 z2 _ => t ⟨z1, z2⟩) _ _))
  refine ch_x_parseNumber hn (by omega) (fun ch_r2 j4 k2 hF2 hG2 => br_c (fun c2 => A5 (fun nb _ _ q => ?_) _ _) (fun c2 => ?_))
  · have hl := ch_NMS_l q
    rw [(hG2 n nb q (by omega) (Or.inl rfl)).1] at c2
    exact nI_pos (by omega) c2
  obtain ⟨nb, rfl, hN2⟩ := hF2 c2
  refine pk_eq j4 n (fun e => ?_) (fun e => A5 (fun nb' _ _ q => e (hG2 n nb' q (by omega) (Or.inl rfl)).2) _ _)
  subst e
  have hsd : sd < 2 := by rcases e1.2 with ⟨_, z⟩ | ⟨_, z⟩ <;> omega
  exact hok B sd rt ep ck nb ab _ ⟨m, h1, t1, t2, _, e1, t3, t4, _, g0, t5, t6, _, g1, t7, t8, _, hN, t9, t10, hN2⟩ h3 hsd hrt (ch_EPS_l g1) (ch_NMS_l hN) (ch_NMS_l hN2) h4 h5
end
end
section
/-! the reference reads the pieces of the text -/
theorem ch_RGT_end {ln : Nat → Int32} {j : Nat} : ∀ (d w r : Nat), ch_RGT ln j d w j r r
  | 0, _, _ => ⟨rfl, rfl⟩
  | d + 1, w, r => Or.inr ⟨fun z => by have := z.1; omega, ch_RGT_end d (w + 1) r⟩
theorem ch_rl_inj : ∀ w, w < 4 → ∀ w', w' < 4 → ch_rl_ w = ch_rl_ w' → w = w' := by decide
theorem ch_RGT_some {ln : Nat → Int32} {j : Nat} : ∀ {d w k r v : Nat}, ch_RGT ln j d w k r v → k < j → ∃ e, e < d ∧ ln k = ch_rl_ (w + e) ∧ ch_RGT ln j (d - e - 1) (w + e + 1) (k + 1) (r + 2 ^ (w + e)) v
  | 0, w, k, r, v, h, hk => by have := h.1; omega
  | d + 1, w, k, r, v, h, hk => by
    rcases h with ⟨_, a, h⟩ | ⟨_, h⟩
    · exact ⟨0, by omega, a, h⟩
    · obtain ⟨e, h1, h2, h3⟩ := ch_RGT_some h hk
      refine ⟨e + 1, by omega, ?_, ?_⟩
      · rw [show w + (e + 1) = w + 1 + e from by omega]; exact h2
      · rw [show w + (e + 1) = w + 1 + e from by omega, show d + 1 - (e + 1) - 1 = d - e - 1 from by omega]; exact h3
theorem ch_RGT_back {ln : Nat → Int32} {j : Nat} : ∀ {e d w k r v : Nat}, w + e < 4 → k < j → ln k = ch_rl_ (w + e) → ch_RGT ln j d (w + e + 1) (k + 1) (r + 2 ^ (w + e)) v → ch_RGT ln j (d + e + 1) w k r v
  | 0, d, w, k, r, v, hw, hk, h, h' => Or.inl ⟨hk, h, h'⟩
  | e + 1, d, w, k, r, v, hw, hk, h, h' => by
    refine Or.inr ⟨fun z => ?_, ?_⟩
    · have := ch_rl_inj w (by omega) (w + (e + 1)) (by omega) (z.2.symm.trans h); omega
    · rw [show w + (e + 1) = w + 1 + e from by omega] at h h'
      exact ch_RGT_back (by omega) hk h h'
theorem ch_pw_lt : ∀ w, w < 5 → ∀ w', w' < 4 → ((2 ^ w / 2 < 2 ^ w' ↔ w ≤ w') ∧ 2 ^ w / 2 ≤ 8 ∧ 2 ^ w' ≤ 8 ∧ 2 ^ (w' + 1) / 2 = 2 ^ w') := by decide
section
variable {f_side f_rights f_ep f_clock f_number f_lineLen f_outLen f_clockTop f_numberTop f_strict f_textLen f_newSide f_newRights f_newEp f_newClock f_newNumber : Int32} {a_men a_line a_out a_text a_cut : Nat → Int32}
theorem ch_y_letterMan {post : Int32 → Prop} {c : Int32} (h : post (nI (ch_lm c))) : wpY_letterMan post (f_side, f_rights, f_ep, f_clock, f_number, f_lineLen, f_outLen, f_clockTop, f_numberTop, f_strict, f_textLen, f_newSide, f_newRights, f_newEp, f_newClock, f_newNumber, a_men, a_line, a_out, a_text, a_cut) c := by
  have key : ∀ v, v = nI (ch_lm c) → post v := fun v e => e ▸ h
  by_cases c80 : c = 80
  · subst c80; exact br_t (by decide) (br_t rfl (key _ (by decide)))
  by_cases c78 : c = 78
  · subst c78; exact br_t (by decide) (br_f (by decide) (br_t rfl (key _ (by decide))))
  by_cases c66 : c = 66
  · subst c66; exact br_t (by decide) (br_f (by decide) (br_f (by decide) (br_t rfl (key _ (by decide)))))
  by_cases c82 : c = 82
  · subst c82; exact br_t (by decide) (br_f (by decide) (br_f (by decide) (br_f (by decide) (br_t rfl (key _ (by decide))))))
  by_cases c81 : c = 81
  · subst c81; exact br_t (by decide) (br_f (by decide) (br_f (by decide) (br_f (by decide) (br_f (by decide) (br_t rfl (key _ (by decide)))))))
  by_cases c75 : c = 75
  · subst c75; exact br_t (by decide) (br_f (by decide) (br_f (by decide) (br_f (by decide) (br_f (by decide) (br_f (by decide) (br_t rfl (key _ (by decide))))))))
  by_cases c112 : c = 112
  · subst c112; exact br_f (by decide) (br_f (by decide) (nm_r (e' := 80) (by decide) (br_t rfl (key _ (by decide)))))
  by_cases c110 : c = 110
  · subst c110; exact br_f (by decide) (br_f (by decide) (nm_r (e' := 78) (by decide) (br_f (by decide) (br_t rfl (key _ (by decide))))))
  by_cases c98 : c = 98
  · subst c98; exact br_f (by decide) (br_f (by decide) (nm_r (e' := 66) (by decide) (br_f (by decide) (br_f (by decide) (br_t rfl (key _ (by decide)))))))
  by_cases c114 : c = 114
  · subst c114; exact br_f (by decide) (br_f (by decide) (nm_r (e' := 82) (by decide) (br_f (by decide) (br_f (by decide) (br_f (by decide) (br_t rfl (key _ (by decide))))))))
  by_cases c113 : c = 113
  · subst c113; exact br_f (by decide) (br_f (by decide) (nm_r (e' := 81) (by decide) (br_f (by decide) (br_f (by decide) (br_f (by decide) (br_f (by decide) (br_t rfl (key _ (by decide)))))))))
  by_cases c107 : c = 107
  · subst c107; exact br_f (by decide) (br_f (by decide) (nm_r (e' := 75) (by decide) (br_f (by decide) (br_f (by decide) (br_f (by decide) (br_f (by decide) (br_f (by decide) (br_t rfl (key _ (by decide))))))))))
  have e : ch_lm c = 0 := by
    unfold ch_lm
    rw [if_neg c80, if_neg c78, if_neg c66, if_neg c82, if_neg c81, if_neg c75, if_neg c112, if_neg c110, if_neg c98, if_neg c114, if_neg c113, if_neg c107]
  rw [e] at h
  have f0 : wY_letterMan_23 post 0 c f_side f_rights f_ep f_clock f_number f_lineLen f_outLen f_clockTop f_numberTop f_strict f_textLen f_newSide f_newRights f_newEp f_newClock f_newNumber a_men a_line a_out a_text a_cut := br_f c80 (br_f c78 (br_f c66 (br_f c82 (br_f c81 (br_f c75 h)))))
  refine br_c (fun _ => f0) (fun _ => br_c (fun _ => f0) (fun _ => nm_e ?_))
  exact br_f (fun z => c112 (ch_sub32 z (by decide))) (br_f (fun z => c110 (ch_sub32 z (by decide))) (br_f (fun z => c98 (ch_sub32 z (by decide))) (br_f (fun z => c114 (ch_sub32 z (by decide))) (br_f (fun z => c113 (ch_sub32 z (by decide))) (br_f (fun z => c107 (ch_sub32 z (by decide))) h)))))
theorem ch_y_readNumber {post : Int32 → Prop} {i j n : Nat} (hn : n ≤ 96) (hij : i ≤ j) (hj : j ≤ n) (hok : ∀ v, ch_NMS a_line i j v → post (nI v)) (hbad : (∀ v, ¬ ch_NMS a_line i j v) → post (-1)) : wpY_readNumber post (f_side, f_rights, f_ep, f_clock, f_number, nI n, f_outLen, f_clockTop, f_numberTop, f_strict, f_textLen, f_newSide, f_newRights, f_newEp, f_newClock, f_newNumber, a_men, a_line, a_out, a_text, a_cut) (nI i) (nI j) := by
  have go : i < j → j ≤ i + 4 → (a_line i = 48 → j = i + 1) → ∃ q, wY_readNumber_53 post (nI j) f_side f_rights f_ep f_clock f_number (nI n) f_outLen f_clockTop f_numberTop f_strict f_textLen f_newSide f_newRights f_newEp f_newClock f_newNumber a_men a_line a_out a_text a_cut q 0 (nI i) := by
    intro h1 h2 h3
    refine ⟨j - i + 1, ?_⟩
    have L : ∀ (d m : Nat), m + d = j - i → (∀ k, i ≤ k → k < i + m → ch_D9 (a_line k)) → wY_readNumber_53 post (nI j) f_side f_rights f_ep f_clock f_number (nI n) f_outLen f_clockTop f_numberTop f_strict f_textLen f_newSide f_newRights f_newEp f_newClock f_newNumber a_men a_line a_out a_text a_cut (d + 1) (nI (ch_vl a_line i m)) (nI (i + m)) := by
      intro d
      induction d with
      | zero =>
        intro m ch_hm hd
        refine pk_le j (i + m) (fun e => ?_) (fun e => by omega)
        exact hok (ch_vl a_line i m) ⟨h1, h2, fun k a b => hd k a (by omega), h3, by rw [show j - i = m from by omega]⟩
      | succ d ih =>
        intro m ch_hm hd
        refine pk_le j (i + m) (fun e => by omega) (fun e => ?_)
        rw [nI_clamp (by omega)]
        refine ⟨vp_in_nI (by omega) (by omega), nm_e (br_c (fun c => hbad (fun v w => (w.2.2.1 (i + m) (by omega) (by omega)).1 c)) (fun c => br_c (fun c2 => ?_) (fun c2 => hbad (fun v w => c2 (w.2.2.1 (i + m) (by omega) (by omega)).2))))⟩
        have d9c : ch_D9 (a_line (i + m)) := ⟨c, c2⟩
        have ev : (10 * nI (ch_vl a_line i m)) + (a_line (i + m) - 48) = nI (ch_vl a_line i (m + 1)) := by
          rw [(ch_D9_v d9c).1, show (10 : Int32) * nI (ch_vl a_line i m) = nI (10 * ch_vl a_line i m) from pk_mul 10 _, nI_add]; rfl
        refine nm_r ev (nm_r (nI_1 (i + m)) (ih (m + 1) (by omega) (fun k a b => ?_)))
        by_cases z : k = i + m
        · rw [z]; exact d9c
        · exact hd k a (by omega)
    exact L (j - i) 0 (by omega) (fun k a b => by omega)
  refine br_f (nI_pos (by omega)) (pk_lt n j (fun e => by omega) (fun _ => ?_))
  rw [pk_sub hij, nI_clamp (n := i) (by omega)]
  refine pk_lt (j - i) 1 (fun e => hbad (fun v w => by have := w.1; omega)) (fun e1 => pk_le (j - i) 4 (fun e2 => ⟨vp_in_nI (by omega) (by omega), ?_⟩) (fun e2 => hbad (fun v w => by have := w.2.1; omega)))
  exact br_c (fun c => pk_eq (j - i) 1 (fun e3 => go (by omega) (by omega) (fun _ => by omega)) (fun e3 => hbad (fun v w => by have := w.2.2.2.1 c; omega))) (fun c => go (by omega) (by omega) (fun z => absurd z c))
theorem ch_y_rr49 {post : Int32 → Prop} {j n : Nat} (hn : n ≤ 96) (hj : j ≤ n) : ∀ (q k w d r : Nat), j - k < q → k ≤ j → w + d = 4 → (∀ v, ch_RGT a_line j d w k r v → post (nI v)) → ((∀ v, ¬ ch_RGT a_line j d w k r v) → post (-1)) → wY_readRights_49 post (nI j) f_side f_rights f_ep f_clock f_number (nI n) f_outLen f_clockTop f_numberTop f_strict f_textLen f_newSide f_newRights f_newEp f_newClock f_newNumber a_men a_line a_out a_text a_cut q (nI (2 ^ w / 2)) (nI r) (nI k) := by
  intro q
  induction q with
  | zero => intro k w d r h; omega
  | succ q ih =>
    intro k w d r hq hk hw hok hbad
    refine pk_le j k (fun e => ?_) (fun e => ?_)
    · obtain rfl : k = j := by omega
      exact hok r (ch_RGT_end d w r)
    · rw [nI_clamp (by omega)]
      refine ⟨vp_in_nI (by omega) (by omega), nm_e ?_⟩
      have key : ∀ b : Int32, ((∃ w', w' < 4 ∧ a_line k = ch_rl_ w' ∧ b = nI (2 ^ w')) ∨ ((∀ w', w' < 4 → a_line k ≠ ch_rl_ w') ∧ b = 0)) → wY_readRights_108 post (wY_readRights_49 post (nI j) f_side f_rights f_ep f_clock f_number (nI n) f_outLen f_clockTop f_numberTop f_strict f_textLen f_newSide f_newRights f_newEp f_newClock f_newNumber a_men a_line a_out a_text a_cut q) (nI j) (nI (2 ^ w / 2)) (nI r) (nI k) b f_side f_rights f_ep f_clock f_number (nI n) f_outLen f_clockTop f_numberTop f_strict f_textLen f_newSide f_newRights f_newEp f_newClock f_newNumber a_men a_line a_out a_text a_cut := by
        intro b hb
        rcases hb with ⟨w', hw', e1, rfl⟩ | ⟨hno, rfl⟩
        · obtain ⟨p1, p2, p3, p4⟩ := ch_pw_lt w (by omega) w' hw'
          refine pk_lt (2 ^ w / 2) (2 ^ w') (fun z => nm_r (nI_add _ _) (nm_r (nI_1 k) ?_)) (fun z => hbad (fun v hv => ?_))
          · have hww := p1.mp z
            have := ih (k + 1) (w' + 1) (3 - w') (r + 2 ^ w') (by omega) (by omega) (by omega) (fun v hv => hok v ?_) (fun hv => hbad (fun v hv' => hv v ?_))
            · rw [p4] at this; exact this
            · have := ch_RGT_back (e := w' - w) (d := 3 - w') (w := w) (k := k) (r := r) (v := v) (ln := a_line) (j := j) (by omega) (by omega) (by rw [show w + (w' - w) = w' from by omega]; exact e1) (by rw [show w + (w' - w) = w' from by omega]; exact hv)
              rw [show 3 - w' + (w' - w) + 1 = d from by omega] at this
              exact this
            · obtain ⟨e2, q1, q2, q3⟩ := ch_RGT_some hv' (by omega)
              have := ch_rl_inj w' hw' (w + e2) (by omega) (e1.symm.trans q2)
              rw [← this, show d - e2 - 1 = 3 - w' from by omega] at q3
              exact q3
          · obtain ⟨e2, q1, q2, q3⟩ := ch_RGT_some hv (by omega)
            have := ch_rl_inj w' hw' (w + e2) (by omega) (e1.symm.trans q2)
            exact absurd (p1.mpr (by omega)) (Nat.not_lt.mpr z)
        · obtain ⟨p1, p2, p3, p4⟩ := ch_pw_lt w (by omega) 0 (by omega)
          refine br_f (nI_pos (by omega)) (hbad (fun v hv => ?_))
          obtain ⟨e2, q1, q2, q3⟩ := ch_RGT_some hv (by omega)
          exact hno (w + e2) (by omega) q2
      refine br_c (fun c => ?_) (fun c75 => ?_)
      · exact br_f (by rw [c]; decide) (br_f (by rw [c]; decide) (br_f (by rw [c]; decide) (key 1 (Or.inl ⟨0, by omega, c, rfl⟩))))
      · refine br_c (fun c => ?_) (fun c81 => ?_)
        · exact br_f (by rw [c]; decide) (br_f (by rw [c]; decide) (key 2 (Or.inl ⟨1, by omega, c, rfl⟩)))
        · refine br_c (fun c => ?_) (fun c107 => ?_)
          · exact br_f (by rw [c]; decide) (key 4 (Or.inl ⟨2, by omega, c, rfl⟩))
          · refine br_c (fun c => ?_) (fun c113 => ?_)
            · exact key 8 (Or.inl ⟨3, by omega, c, rfl⟩)
            · refine key 0 (Or.inr ⟨fun w' hw' z => ?_, rfl⟩)
              have : w' = 0 ∨ w' = 1 ∨ w' = 2 ∨ w' = 3 := by omega
              rcases this with rfl | rfl | rfl | rfl
              · exact c75 z
              · exact c81 z
              · exact c107 z
              · exact c113 z
theorem ch_y_readRights {post : Int32 → Prop} {i j n : Nat} (hn : n ≤ 96) (hij : i ≤ j) (hj : j ≤ n) (hok : ∀ v, ch_RTS a_line i j v → post (nI v)) (hbad : (∀ v, ¬ ch_RTS a_line i j v) → post (-1)) : wpY_readRights post (f_side, f_rights, f_ep, f_clock, f_number, nI n, f_outLen, f_clockTop, f_numberTop, f_strict, f_textLen, f_newSide, f_newRights, f_newEp, f_newClock, f_newNumber, a_men, a_line, a_out, a_text, a_cut) (nI i) (nI j) := by
  have go : i < j → ¬ (j = i + 1 ∧ a_line i = 45) → ∃ q, wY_readRights_49 post (nI j) f_side f_rights f_ep f_clock f_number (nI n) f_outLen f_clockTop f_numberTop f_strict f_textLen f_newSide f_newRights f_newEp f_newClock f_newNumber a_men a_line a_out a_text a_cut q 0 0 (nI i) := by
    intro h1 h2
    refine ⟨j - i + 1, ?_⟩
    refine ch_y_rr49 hn hj (j - i + 1) i 0 4 0 (by omega) (by omega) (by omega) (fun v hv => hok v ?_) (fun w => hbad (fun v hv => ?_))
    · refine Or.inr ⟨fun z => ?_, h1, hv⟩
      obtain ⟨e, e1, e2, e3⟩ := ch_RGT_some hv h1
      rw [z, Nat.zero_add] at e2
      have : e = 0 ∨ e = 1 ∨ e = 2 ∨ e = 3 := by omega
      rcases this with rfl | rfl | rfl | rfl <;> exact absurd e2 (by decide)
    · rcases hv with ⟨a, b, _⟩ | ⟨_, _, hv⟩
      · exact h2 ⟨a, b⟩
      · exact w v hv
  refine br_f (nI_pos (by omega)) (pk_lt n j (fun e => by omega) (fun _ => ?_))
  rw [pk_sub hij, nI_clamp (n := i) (by omega)]
  refine pk_le 1 (j - i) (fun e1 => pk_eq (j - i) 1 (fun e2 => ⟨vp_in_nI (by omega) (by omega), br_c (fun c => hok 0 (Or.inl ⟨by omega, c, rfl⟩)) (fun c => go (by omega) (fun z => c z.2))⟩) (fun e2 => go (by omega) (fun z => by omega))) (fun e1 => hbad (fun v w => ?_))
  have := (ch_RTS_ns w).2.2
  omega
theorem ch_y_place36 {post : Int32 → SY → Prop} {t : Nat} (ht : t ≤ 96) : ∀ (d k r f ad : Nat) (B : Nat → Nat) (m : Nat → Int32), k + d = t → r < 8 → f ≤ 8 → ad < 2 → ch_BY m 192 B → (∀ i, i < 192 → m i = a_men i) → (∀ B' m', ch_PLS a_line d k r f ad B B' → ch_BY m' 192 B' → (∀ i, i < 192 → m' i = a_men i) → post 1 (f_side, f_rights, f_ep, f_clock, f_number, f_lineLen, f_outLen, f_clockTop, f_numberTop, f_strict, f_textLen, f_newSide, f_newRights, f_newEp, f_newClock, f_newNumber, m', a_line, a_out, a_text, a_cut)) → ((∀ B', ¬ ch_PLS a_line d k r f ad B B') → ∀ m', (∀ i, i < 192 → m' i = a_men i) → post 0 (f_side, f_rights, f_ep, f_clock, f_number, f_lineLen, f_outLen, f_clockTop, f_numberTop, f_strict, f_textLen, f_newSide, f_newRights, f_newEp, f_newClock, f_newNumber, m', a_line, a_out, a_text, a_cut)) → wY_readPlacement_36 post (nI t) f_side f_rights f_ep f_clock f_number f_lineLen f_outLen f_clockTop f_numberTop f_strict f_textLen f_newSide f_newRights f_newEp f_newClock f_newNumber (d + 1) (nI r) (nI f) (nI ad) (nI k) m a_line a_out a_text a_cut := by
  intro d
  induction d with
  | zero =>
    intro k r f ad B m hk hr hf had hB ch_hm hok hbad
    refine pk_le t k (fun e => pk_eq r 0 (fun e0 => pk_eq f 8 (fun e8 => ?_) (fun e8 => ?_)) (fun e0 => ?_)) (fun e => by omega)
    · exact hok B m ⟨e0, e8, rfl⟩ hB ch_hm
    · exact hbad (fun B' w => e8 w.2.1) m ch_hm
    · exact hbad (fun B' w => e0 w.1) m ch_hm
  | succ d ih =>
    intro k r f ad B m hk hr hf had hB ch_hm hok hbad
    refine pk_le t k (fun e => by omega) (fun _ => pk_le 96 k (fun e => by omega) (fun _ => ?_))
    rw [nI_clamp (n := k) (by omega)]
    refine ⟨vp_in_nI (by omega) (by omega), nm_e (br_c (fun c47 => ?_) (fun c47 => ?_))⟩
    · refine pk_eq f 8 (fun e8 => pk_eq r 0 (fun e0 => ?_) (fun e0 => nm_r (e' := nI (r - 1)) (pk_sub (b := 1) (by omega)) (nm_r (nI_1 k) ?_))) (fun e8 => ?_)
      · refine hbad (fun B' w => ?_) m ch_hm
        rcases w with ⟨_, _, z, _⟩ | ⟨z, _⟩ | ⟨z, _⟩
        · exact z e0
        · exact z c47
        · exact z c47
      · refine ih (k + 1) (r - 1) 0 0 B m (by omega) (by omega) (by omega) (by omega) hB ch_hm (fun B' m' h => hok B' m' (Or.inl ⟨c47, e8, e0, h⟩)) (fun w => hbad (fun B' h => ?_))
        rcases h with ⟨_, _, _, z⟩ | ⟨z, _⟩ | ⟨z, _⟩
        · exact w B' z
        · exact z c47
        · exact z c47
      · refine hbad (fun B' w => ?_) m ch_hm
        rcases w with ⟨_, z, _⟩ | ⟨z, _⟩ | ⟨z, _⟩
        · exact e8 z
        · exact z c47
        · exact z c47
    · have let132 : ¬ ch_DG (a_line k) → wY_readPlacement_132 post (wY_readPlacement_36 post (nI t) f_side f_rights f_ep f_clock f_number f_lineLen f_outLen f_clockTop f_numberTop f_strict f_textLen f_newSide f_newRights f_newEp f_newClock f_newNumber (d + 1)) (nI t) (nI r) (nI f) (nI k) (a_line k) f_side f_rights f_ep f_clock f_number f_lineLen f_outLen f_clockTop f_numberTop f_strict f_textLen f_newSide f_newRights f_newEp f_newClock f_newNumber m a_line a_out a_text a_cut := by
        intro hd
        have hvl := ch_lm_v (a_line k)
        have hl15 : ch_lm (a_line k) < 16 := by unfold ch_VM at hvl; omega
        unfold wY_readPlacement_132
        refine ch_y_letterMan (pk_eq (ch_lm (a_line k)) 0 (fun z => hbad (fun B' w => ?_) m ch_hm) (fun z => pk_le f 7 (fun e7 => ?_) (fun e7 => hbad (fun B' w => ?_) m ch_hm)))
        · rcases w with ⟨y, _⟩ | ⟨_, y, _⟩ | ⟨_, _, y, _⟩
          · exact c47 y
          · exact hd y
          · exact y z
        · have ei : ((192 : Int32) + 8 * nI r) + nI f = nI (192 + (8 * r + f)) := by
            rw [show (8 : Int32) * nI r = nI (8 * r) from pk_mul 8 r, ch_i192, nI_add, Nat.add_assoc]
          rw [ei, nI_clamp (by omega)]
          refine ⟨vp_in_nI (by omega) (by omega), nm_e (nm_r (nI_1 f) (nm_r (nI_1 k) ?_))⟩
          refine ih (k + 1) r (f + 1) 0 (ch_pt B (8 * r + f) (ch_lm (a_line k))) _ (by omega) hr (by omega) (by omega) ?_ ?_ (fun B' m' h => hok B' m' (Or.inr (Or.inr ⟨c47, hd, z, e7, h⟩))) (fun w => hbad (fun B' h => ?_))
          · intro i hi
            unfold ch_pt
            by_cases z2 : i = 8 * r + f
            · rw [ch_u_t (by omega), if_pos z2]
            · rw [ch_u_f (by omega), if_neg z2]; exact hB i hi
          · intro i hi
            rw [ch_u_f (by omega)]; exact ch_hm i hi
          · rcases h with ⟨y, _⟩ | ⟨_, y, _⟩ | ⟨_, _, _, _, y⟩
            · exact c47 y
            · exact hd y
            · exact w B' y
        · rcases w with ⟨y, _⟩ | ⟨_, y, _⟩ | ⟨_, _, _, y, _⟩
          · exact c47 y
          · exact hd y
          · omega
      refine br_c (fun c1 => let132 (fun w => w.1 c1)) (fun c1 => br_c (fun c2 => let132 (fun w => w.2 c2)) (fun c2 => ?_))
      have hd : ch_DG (a_line k) := ⟨c1, c2⟩
      obtain ⟨d1, d2, d3, _, _⟩ := ch_DG_v hd
      refine pk_eq ad 0 (fun z0 => nm_r (e' := nI (f + ch_dv (a_line k))) (by rw [d1, nI_add]) (pk_le (f + ch_dv (a_line k)) 8 (fun z1 => nm_r (nI_1 k) ?_) (fun z1 => hbad (fun B' w => ?_) m ch_hm))) (fun z0 => hbad (fun B' w => ?_) m ch_hm)
      · refine ih (k + 1) r (f + ch_dv (a_line k)) 1 B m (by omega) hr (by omega) (by omega) hB ch_hm (fun B' m' h => hok B' m' (Or.inr (Or.inl ⟨c47, hd, z0, z1, h⟩))) (fun w => hbad (fun B' h => ?_))
        rcases h with ⟨y, _⟩ | ⟨_, _, _, _, y⟩ | ⟨_, y, _⟩
        · exact c47 y
        · exact w B' y
        · exact y hd
      · rcases w with ⟨y, _⟩ | ⟨_, _, _, y, _⟩ | ⟨_, y, _⟩
        · exact c47 y
        · omega
        · exact y hd
      · rcases w with ⟨y, _⟩ | ⟨_, _, y, _⟩ | ⟨_, y, _⟩
        · exact c47 y
        · exact z0 y
        · exact y hd
theorem ch_y_readPlacement {post : Int32 → SY → Prop} {t : Nat} (ht : t ≤ 96) (hok : ∀ B' m', ch_PLS a_line t 0 7 0 0 (fun _ => 0) B' → ch_BY m' 192 B' → (∀ i, i < 192 → m' i = a_men i) → post 1 (f_side, f_rights, f_ep, f_clock, f_number, f_lineLen, f_outLen, f_clockTop, f_numberTop, f_strict, f_textLen, f_newSide, f_newRights, f_newEp, f_newClock, f_newNumber, m', a_line, a_out, a_text, a_cut)) (hbad : (∀ B', ¬ ch_PLS a_line t 0 7 0 0 (fun _ => 0) B') → ∀ m', (∀ i, i < 192 → m' i = a_men i) → post 0 (f_side, f_rights, f_ep, f_clock, f_number, f_lineLen, f_outLen, f_clockTop, f_numberTop, f_strict, f_textLen, f_newSide, f_newRights, f_newEp, f_newClock, f_newNumber, m', a_line, a_out, a_text, a_cut)) : wpY_readPlacement post (f_side, f_rights, f_ep, f_clock, f_number, f_lineLen, f_outLen, f_clockTop, f_numberTop, f_strict, f_textLen, f_newSide, f_newRights, f_newEp, f_newClock, f_newNumber, a_men, a_line, a_out, a_text, a_cut) (nI t) := by
  refine ⟨65, ?_⟩
  refine ch_fn (σ := Nat → Int32) (fun q m z => wY_readPlacement_2 post (nI t) f_side f_rights f_ep f_clock f_number f_lineLen f_outLen f_clockTop f_numberTop f_strict f_textLen f_newSide f_newRights f_newEp f_newClock f_newNumber q z m a_line a_out a_text a_cut) (fun i m => (∀ j, j < 192 → m j = a_men j) ∧ ∀ j, j < i → m (192 + j) = nI 0) 64 ?_ ?_ 64 0 a_men rfl ⟨fun _ _ => rfl, fun j hj => by omega⟩
  · rintro q m ⟨m1, m2⟩
    exact br_t (by decide) ⟨t + 1, ch_y_place36 ht t 0 7 0 0 (fun _ => 0) m (by omega) (by omega) (by omega) (by omega) m2 m1 hok hbad⟩
  · rintro q i m hi ⟨m1, m2⟩ ih
    refine pk_le 64 i (fun e => by omega) (fun _ => ?_)
    rw [ch_i192, nI_clamp (n := 192 + i) (by omega)]
    refine ⟨vp_in_nI (by omega) (by omega), nm_e (nm_r (nI_1 i) (ih _ ⟨fun j hj => ?_, fun j hj => ?_⟩))⟩
    · rw [ch_u_f (by omega)]; exact m1 j hj
    · by_cases e : j = i
      · rw [ch_u_t (by omega)]; rfl
      · rw [ch_u_f (by omega)]; exact m2 j (by omega)
end
end
section
/-! the reference cuts the text at its blanks -/
noncomputable def ch_sc (ln : Nat → Int32) (k : Nat) : Nat := ch_cn (fun q => ln q = 32) k
theorem ch_sc_ns {ln : Nat → Int32} {i j : Nat} (hij : i ≤ j) (h : ∀ k, i ≤ k → k < j → ln k ≠ 32) : ch_sc ln j = ch_sc ln i := by
  have := ch_cn_skip (P := fun q => ln q = 32) (a := i) (n := j - i) (fun k hk => h (i + k) (by omega) (by omega))
  rw [show i + (j - i) = j from by omega] at this
  exact this
theorem ch_sc_1 {ln : Nat → Int32} {k : Nat} (h : ln k = 32) : ch_sc ln (k + 1) = ch_sc ln k + 1 := by
  unfold ch_sc; rw [ch_cn_s, ch_b01_t h]
theorem ch_sc_0 {ln : Nat → Int32} {k : Nat} (h : ln k ≠ 32) : ch_sc ln (k + 1) = ch_sc ln k := by
  unfold ch_sc; rw [ch_cn_s, ch_b01_f h]; rfl
theorem ch_sc_o {ln : Nat → Int32} {a b : Nat} (h : ch_sc ln a < ch_sc ln b) : a < b := by
  rcases Nat.lt_or_ge a b with z | z
  · exact z
  · have : ch_sc ln b ≤ ch_sc ln a := ch_cn_le2 z
    omega
def ch_PCU (ln : Nat → Int32) (n p1 p2 p3 p4 p5 : Nat) (B : Nat → Nat) (sd rt ep ck nb : Nat) : Prop := ch_PLS ln p1 0 7 0 0 (fun _ => 0) B ∧ ch_SDS ln (p1 + 1) p2 sd ∧ ch_RTS ln (p2 + 1) p3 rt ∧ ch_EPS ln (p3 + 1) p4 ep ∧ ch_NMS ln (p4 + 1) p5 ck ∧ ch_NMS ln (p5 + 1) n nb
def ch_CUT (ln : Nat → Int32) (n p1 p2 p3 p4 p5 : Nat) : Prop := (ln p1 = 32 ∧ ln p2 = 32 ∧ ln p3 = 32 ∧ ln p4 = 32 ∧ ln p5 = 32) ∧ ch_sc ln p1 = 0 ∧ ch_sc ln p2 = 1 ∧ ch_sc ln p3 = 2 ∧ ch_sc ln p4 = 3 ∧ ch_sc ln p5 = 4 ∧ ch_sc ln n = 5
theorem ch_CUT_o {ln : Nat → Int32} {n p1 p2 p3 p4 p5 : Nat} (h : ch_CUT ln n p1 p2 p3 p4 p5) : p1 < p2 ∧ p2 < p3 ∧ p3 < p4 ∧ p4 < p5 ∧ p5 < n := by
  obtain ⟨_, a, b, c, d, e, f⟩ := h
  exact ⟨ch_sc_o (ln := ln) (by omega), ch_sc_o (ln := ln) (by omega), ch_sc_o (ln := ln) (by omega), ch_sc_o (ln := ln) (by omega), ch_sc_o (ln := ln) (by omega)⟩
theorem ch_CUT_u {ln : Nat → Int32} {n p1 p2 p3 p4 p5 q1 q2 q3 q4 q5 : Nat} (h : ch_CUT ln n p1 p2 p3 p4 p5) (h' : ch_CUT ln n q1 q2 q3 q4 q5) : p1 = q1 ∧ p2 = q2 ∧ p3 = q3 ∧ p4 = q4 ∧ p5 = q5 := by
  obtain ⟨⟨s1, s2, s3, s4, s5⟩, a, b, c, d, e, f⟩ := h
  obtain ⟨⟨s1', s2', s3', s4', s5'⟩, a', b', c', d', e', f'⟩ := h'
  exact ⟨ch_cn_inj (P := fun q => ln q = 32) s1 s1' (a.trans a'.symm), ch_cn_inj (P := fun q => ln q = 32) s2 s2' (b.trans b'.symm), ch_cn_inj (P := fun q => ln q = 32) s3 s3' (c.trans c'.symm), ch_cn_inj (P := fun q => ln q = 32) s4 s4' (d.trans d'.symm), ch_cn_inj (P := fun q => ln q = 32) s5 s5' (e.trans e'.symm)⟩
theorem ch_PF_PCU {ln : Nat → Int32} {n : Nat} {B : Nat → Nat} {sd rt ep ck nb : Nat} (h : ch_PF ln n B sd rt ep ck nb) : ∃ p1 p2 p3 p4 p5, ch_CUT ln n p1 p2 p3 p4 p5 ∧ ch_PCU ln n p1 p2 p3 p4 p5 B sd rt ep ck nb := by
  obtain ⟨p1, hP, l1, s1, p2, hS, l2, s2, p3, hR, l3, s3, p4, hE, l4, s4, p5, hN, l5, s5, hM⟩ := h
  have c0 : ch_sc ln 0 = 0 := rfl
  have c1 := ch_sc_ns (ln := ln) (i := 0) (j := p1) (by omega) (fun k a b => ch_PLS_ns hP k a (by omega))
  have d1 := ch_sc_1 s1
  have c2 := ch_sc_ns (ln := ln) (i := p1 + 1) (j := p2) (by have := hS.1; omega) (ch_SDS_ns hS)
  have d2 := ch_sc_1 s2
  have c3 := ch_sc_ns (ln := ln) (i := p2 + 1) (j := p3) (by have := (ch_RTS_ns hR).2.2; omega) (ch_RTS_ns hR).1
  have d3 := ch_sc_1 s3
  have c4 := ch_sc_ns (ln := ln) (i := p3 + 1) (j := p4) (by rcases hE with ⟨z, _⟩ | ⟨z, _⟩ <;> omega) (ch_EPS_ns hE)
  have d4 := ch_sc_1 s4
  have c5 := ch_sc_ns (ln := ln) (i := p4 + 1) (j := p5) (by have := hN.1; omega) (ch_NMS_ns hN)
  have d5 := ch_sc_1 s5
  have c6 := ch_sc_ns (ln := ln) (i := p5 + 1) (j := n) (by have := hM.1; omega) (ch_NMS_ns hM)
  exact ⟨p1, p2, p3, p4, p5, ⟨⟨s1, s2, s3, s4, s5⟩, by omega, by omega, by omega, by omega, by omega, by omega⟩, hP, hS, hR, hE, hN, hM⟩
theorem ch_PCU_PF {ln : Nat → Int32} {n p1 p2 p3 p4 p5 : Nat} {B : Nat → Nat} {sd rt ep ck nb : Nat} (c : ch_CUT ln n p1 p2 p3 p4 p5) (h : ch_PCU ln n p1 p2 p3 p4 p5 B sd rt ep ck nb) : ch_PF ln n B sd rt ep ck nb := by
  have o := ch_CUT_o c
  obtain ⟨⟨s1, s2, s3, s4, s5⟩, _⟩ := c
  obtain ⟨hP, hS, hR, hE, hN, hM⟩ := h
  exact ⟨p1, hP, by omega, s1, p2, hS, by omega, s2, p3, hR, by omega, s3, p4, hE, by omega, s4, p5, hN, by omega, s5, hM⟩
theorem ch_PF_C {ln : Nat → Int32} {n p1 p2 p3 p4 p5 : Nat} {B : Nat → Nat} {sd rt ep ck nb : Nat} (c : ch_CUT ln n p1 p2 p3 p4 p5) (h : ch_PF ln n B sd rt ep ck nb) : ch_PCU ln n p1 p2 p3 p4 p5 B sd rt ep ck nb := by
  obtain ⟨q1, q2, q3, q4, q5, c', h'⟩ := ch_PF_PCU h
  obtain ⟨rfl, rfl, rfl, rfl, rfl⟩ := ch_CUT_u c' c
  exact h'
theorem ch_RTS_u {ln : Nat → Int32} {i j v v' : Nat} (h : ch_RTS ln i j v) (h' : ch_RTS ln i j v') : v = v' := by
  rcases h with ⟨_, a, b⟩ | ⟨a, _, b⟩ <;> rcases h' with ⟨_, a', b'⟩ | ⟨a', _, b'⟩
  · omega
  · exact absurd a a'
  · exact absurd a' a
  · exact ch_RGT_u b b'
theorem ch_PF_u {ln : Nat → Int32} {n : Nat} {B B' : Nat → Nat} {sd rt ep ck nb sd' rt' ep' ck' nb' : Nat} (h : ch_PF ln n B sd rt ep ck nb) (h' : ch_PF ln n B' sd' rt' ep' ck' nb') : B = B' ∧ sd = sd' ∧ rt = rt' ∧ ep = ep' ∧ ck = ck' ∧ nb = nb' := by
  obtain ⟨q1, q2, q3, q4, q5, c, hP, hS, hR, hE, hN, hM⟩ := ch_PF_PCU h
  obtain ⟨hP', hS', hR', hE', hN', hM'⟩ := ch_PF_C c h'
  exact ⟨(ch_PLS_d hP hP').2, (ch_SDS_u hS hS').2, ch_RTS_u hR hR', (ch_EPS_u hE hE').2, hN.2.2.2.2.trans hN'.2.2.2.2.symm, hM.2.2.2.2.trans hM'.2.2.2.2.symm⟩
section
variable {f_side f_rights f_ep f_clock f_number f_lineLen f_outLen f_clockTop f_numberTop f_strict f_textLen f_newSide f_newRights f_newEp f_newClock f_newNumber : Int32} {a_men a_line a_out a_text a_cut : Nat → Int32}
theorem ch_y_rf299 {post : Int32 → SY → Prop} {n p4 p5 : Nat} (hn : n ≤ 96) (h4 : a_cut 4 = nI p4) (h5 : a_cut 5 = nI p5) (h6 : a_cut 6 = nI n) (o1 : p4 < p5) (o2 : p5 < n) (hok : ∀ ck nb, ch_NMS a_line (p4 + 1) p5 ck → ch_NMS a_line (p5 + 1) n nb → post 1 (f_side, f_rights, f_ep, f_clock, f_number, nI n, f_outLen, f_clockTop, f_numberTop, f_strict, f_textLen, f_newSide, f_newRights, f_newEp, nI ck, nI nb, a_men, a_line, a_out, a_text, a_cut)) (hbad : (∀ ck nb, ch_NMS a_line (p4 + 1) p5 ck → ¬ ch_NMS a_line (p5 + 1) n nb) → ∀ c1 n1, post 0 (f_side, f_rights, f_ep, f_clock, f_number, nI n, f_outLen, f_clockTop, f_numberTop, f_strict, f_textLen, f_newSide, f_newRights, f_newEp, c1, n1, a_men, a_line, a_out, a_text, a_cut)) : wY_readForm_299 post f_side f_rights f_ep f_clock f_number (nI n) f_outLen f_clockTop f_numberTop f_strict f_textLen f_newSide f_newRights f_newEp f_newClock f_newNumber a_men a_line a_out a_text a_cut := by
  unfold wY_readForm_299
  rw [h4, h5, h6, nI_1 p4, nI_1 p5]
  refine ch_y_readNumber hn (by omega) (by omega) (fun ck g => br_t (nI_le (a := 0) (by omega) (by have := ch_NMS_l g; omega)) ?_) (fun w => br_f (by decide) (hbad (fun ck nb h _ => w ck h) _ _))
  exact ch_y_readNumber hn (by omega) (by omega) (fun nb g2 => br_f (nI_pos (by have := ch_NMS_l g2; omega)) (hok ck nb g g2)) (fun w => br_t (by decide) (hbad (fun ck' nb _ h => w nb h) _ _))
theorem ch_y_rf145 {post : Int32 → SY → Prop} {n p2 p3 p4 p5 : Nat} (hn : n ≤ 96) (h2 : a_cut 2 = nI p2) (h3 : a_cut 3 = nI p3) (h4 : a_cut 4 = nI p4) (h5 : a_cut 5 = nI p5) (h6 : a_cut 6 = nI n) (o : p2 < p3 ∧ p3 < p4 ∧ p4 < p5 ∧ p5 < n) (hok : ∀ rt ep ck nb, ch_RTS a_line (p2 + 1) p3 rt → ch_EPS a_line (p3 + 1) p4 ep → ch_NMS a_line (p4 + 1) p5 ck → ch_NMS a_line (p5 + 1) n nb → post 1 (f_side, f_rights, f_ep, f_clock, f_number, nI n, f_outLen, f_clockTop, f_numberTop, f_strict, f_textLen, f_newSide, nI rt, ch_epI ep, nI ck, nI nb, a_men, a_line, a_out, a_text, a_cut)) (hbad : (∀ rt ep ck nb, ch_RTS a_line (p2 + 1) p3 rt → ch_EPS a_line (p3 + 1) p4 ep → ch_NMS a_line (p4 + 1) p5 ck → ¬ ch_NMS a_line (p5 + 1) n nb) → ∀ ch_r1 e1 c1 n1, post 0 (f_side, f_rights, f_ep, f_clock, f_number, nI n, f_outLen, f_clockTop, f_numberTop, f_strict, f_textLen, f_newSide, ch_r1, e1, c1, n1, a_men, a_line, a_out, a_text, a_cut)) : wY_readForm_145 post f_side f_rights f_ep f_clock f_number (nI n) f_outLen f_clockTop f_numberTop f_strict f_textLen f_newSide f_newRights f_newEp f_newClock f_newNumber a_men a_line a_out a_text a_cut := by
  unfold wY_readForm_145
  rw [h2, h3, h4, nI_1 p2, nI_1 p3]
  refine ch_y_readRights hn (by omega) (by omega) (fun rt g => br_t (nI_le (a := 0) (by omega) (by have := (ch_RTS_ns g).2.1; omega)) (nm_e (nm_r (e' := nI (p4 - (p3 + 1))) (pk_sub (by omega)) ?_))) (fun w => br_f (by decide) (hbad (fun rt ep ck nb h _ _ _ => w rt h) _ _ _ _))
  have A : (∀ ep ck nb, ch_EPS a_line (p3 + 1) p4 ep → ch_NMS a_line (p4 + 1) p5 ck → ¬ ch_NMS a_line (p5 + 1) n nb) → ∀ e1 c1 n1, post 0 (f_side, f_rights, f_ep, f_clock, f_number, nI n, f_outLen, f_clockTop, f_numberTop, f_strict, f_textLen, f_newSide, nI rt, e1, c1, n1, a_men, a_line, a_out, a_text, a_cut) := fun w e1 c1 n1 => hbad (fun rt ep ck nb _ h a b => w ep ck nb h a b) _ e1 c1 n1
  have go : ∀ ep, ch_EPS a_line (p3 + 1) p4 ep → wY_readForm_299 post f_side f_rights f_ep f_clock f_number (nI n) f_outLen f_clockTop f_numberTop f_strict f_textLen f_newSide (nI rt) (ch_epI ep) f_newClock f_newNumber a_men a_line a_out a_text a_cut := fun ep ge => ch_y_rf299 hn h4 h5 h6 (by omega) (by omega) (fun ck nb a b => hok rt ep ck nb g ge a b) (fun w c1 n1 => A (fun ep' ck nb _ a b => w ck nb a b) _ c1 n1)
  rw [nI_1 (p3 + 1), nI_clamp (n := p3 + 1) (by omega), nI_clamp (n := p3 + 1 + 1) (by omega)]
  refine pk_eq (p4 - (p3 + 1)) 1 (fun e1 => ⟨vp_in_nI (by omega) (by omega), br_c (fun c => ?_) (fun c => A (fun ep ck nb h _ _ => ?_) _ _ _)⟩) (fun e1 => pk_eq (p4 - (p3 + 1)) 2 (fun e2 => ⟨vp_in_nI (by omega) (by omega), nm_e ⟨vp_in_nI (by omega) (by omega), nm_e ?_⟩⟩) (fun e2 => A (fun ep ck nb h _ _ => ?_) _ _ _))
  · have := go 64 (Or.inl ⟨by omega, c, rfl⟩)
    rw [ch_epI_n (by omega)] at this
    exact this
  · rcases h with ⟨_, z, _⟩ | ⟨z, _⟩
    · exact c z
    · omega
  · refine br_c (fun c => A (fun ep ck nb h _ _ => ?_) _ _ _) (fun c => br_c (fun c2 => A (fun ep ck nb h _ _ => ?_) _ _ _) (fun c2 => br_c (fun d1 => A (fun ep ck nb h _ _ => ?_) _ _ _) (fun d1 => br_c (fun d2 => ?_) (fun d2 => A (fun ep ck nb h _ _ => ?_) _ _ _))))
    · rcases h with ⟨z, _⟩ | ⟨_, x, y, hx, hy, e, _⟩
      · omega
      · rw [e] at c; exact nI_nlt (b := 97) (by omega) (by omega) c
    · rcases h with ⟨z, _⟩ | ⟨_, x, y, hx, hy, e, _⟩
      · omega
      · rw [e] at c2; exact nI_nlt (a := 104) (by omega) (by omega) c2
    · rcases h with ⟨z, _⟩ | ⟨_, x, y, hx, hy, _, e, _⟩
      · omega
      · rw [e] at d1; exact nI_nlt (b := 49) (by omega) (by omega) d1
    · obtain ⟨x, hx, ex⟩ : ∃ x : Nat, x < 8 ∧ a_line (p3 + 1) = nI (97 + x) := by
        have p : ¬ a_line (p3 + 1) < 0 := fun z => c (Int32.lt_trans z (by decide))
        obtain ⟨j, hj, ej⟩ := nI_of p
        rw [ej] at c c2
        have q1 : ¬ j < 97 := fun z => c ((nI_ltI (b := 97) hj (by omega)).mpr z)
        have q2 : ¬ 104 < j := fun z => c2 ((nI_ltI (a := 104) (by omega) hj).mpr z)
        exact ⟨j - 97, by omega, by rw [ej]; congr 1; omega⟩
      obtain ⟨y, hy, ey⟩ : ∃ y : Nat, y < 8 ∧ a_line (p3 + 1 + 1) = nI (49 + y) := by
        have p : ¬ a_line (p3 + 1 + 1) < 0 := fun z => d1 (Int32.lt_trans z (by decide))
        obtain ⟨j, hj, ej⟩ := nI_of p
        rw [ej] at d1 d2
        have q1 : ¬ j < 49 := fun z => d1 ((nI_ltI (b := 49) hj (by omega)).mpr z)
        have q2 : j ≤ 56 := (nI_leI (b := 56) hj (by omega)).mp d2
        exact ⟨j - 49, by omega, by rw [ej]; congr 1; omega⟩
      have ev : (8 * (a_line (p3 + 1 + 1) - 49)) + (a_line (p3 + 1) - 97) = nI (8 * y + x) := by
        rw [ex, ey, show nI (49 + y) - 49 = nI y from (pk_sub (a := 49 + y) (b := 49) (by omega)).trans (congrArg nI (by omega)), show nI (97 + x) - 97 = nI x from (pk_sub (a := 97 + x) (b := 97) (by omega)).trans (congrArg nI (by omega)), ch_nI_8c]
      have := go (8 * y + x) (Or.inr ⟨by omega, x, y, hx, hy, ex, ey, rfl⟩)
      rw [ch_epI_s (by omega)] at this
      exact nm_r ev this
    · rcases h with ⟨z, _⟩ | ⟨_, x, y, hx, hy, _, e, _⟩
      · omega
      · rw [e] at d2; exact d2 (nI_le (b := 56) (by omega) (by omega))
  · rcases h with ⟨z, _⟩ | ⟨z, _⟩ <;> omega
theorem ch_y_rf4 {post : Int32 → SY → Prop} {n : Nat} (hn : n ≤ 96) (hok : ∀ B sd rt ep ck nb m cut, ch_PF a_line n B sd rt ep ck nb → ch_BY m 192 B → (∀ i, i < 192 → m i = a_men i) → post 1 (f_side, f_rights, f_ep, f_clock, f_number, nI n, f_outLen, f_clockTop, f_numberTop, f_strict, f_textLen, nI sd, nI rt, ch_epI ep, nI ck, nI nb, m, a_line, a_out, a_text, cut)) (hbad : (∀ B sd rt ep ck nb, ¬ ch_PF a_line n B sd rt ep ck nb) → ∀ s1 ch_r1 e1 c1 n1 m cut, (∀ i, i < 192 → m i = a_men i) → post 0 (f_side, f_rights, f_ep, f_clock, f_number, nI n, f_outLen, f_clockTop, f_numberTop, f_strict, f_textLen, s1, ch_r1, e1, c1, n1, m, a_line, a_out, a_text, cut)) : ∀ (d k c : Nat) (cut : Nat → Int32), k + d = n → ch_sc a_line k = c → c ≤ 5 → (∀ j, j < c → ∃ q, a_line q = 32 ∧ ch_sc a_line q = j ∧ cut (j + 1) = nI q) → wY_readForm_4 post f_side f_rights f_ep f_clock f_number (nI n) f_outLen f_clockTop f_numberTop f_strict f_textLen f_newSide f_newRights f_newEp f_newClock f_newNumber (d + 1) (nI c) (nI k) a_men a_line a_out a_text cut := by
  intro d
  induction d with
  | zero =>
    intro k c cut hk hs hc hq
    obtain rfl : k = n := by omega
    refine pk_le k k (fun _ => pk_eq c 5 (fun e5 cut' ec => ?_) (fun e5 => hbad (fun B sd rt ep ck nb h => ?_) _ _ _ _ _ a_men cut (fun _ _ => rfl))) (fun e => by omega)
    · subst e5
      obtain ⟨p1, s1, c1, g1⟩ := hq 0 (by omega)
      obtain ⟨p2, s2, c2, g2⟩ := hq 1 (by omega)
      obtain ⟨p3, s3, c3, g3⟩ := hq 2 (by omega)
      obtain ⟨p4, s4, c4, g4⟩ := hq 3 (by omega)
      obtain ⟨p5, s5, c5, g5⟩ := hq 4 (by omega)
      have ct : ch_CUT a_line k p1 p2 p3 p4 p5 := ⟨⟨s1, s2, s3, s4, s5⟩, c1, c2, c3, c4, c5, hs⟩
      have o := ch_CUT_o ct
      have k1 : cut' 1 = nI p1 := by rw [ec, ch_u_f (by omega)]; exact g1
      have k2 : cut' 2 = nI p2 := by rw [ec, ch_u_f (by omega)]; exact g2
      have k3 : cut' 3 = nI p3 := by rw [ec, ch_u_f (by omega)]; exact g3
      have k4 : cut' 4 = nI p4 := by rw [ec, ch_u_f (by omega)]; exact g4
      have k5 : cut' 5 = nI p5 := by rw [ec, ch_u_f (by omega)]; exact g5
      have k6 : cut' 6 = nI k := by rw [ec, ch_u_t rfl]
      rw [k1]
      refine ch_y_readPlacement (by omega) (fun B m hB hb ch_hm => br_f (by decide) (nm_r (e' := nI (p1 + 1)) (by rw [k1, nI_1]) ?_)) (fun w m ch_hm => br_t rfl (hbad (fun B sd rt ep ck nb h => w B (ch_PF_C ct h).1) _ _ _ _ _ m cut' ch_hm))
      have A : (∀ sd rt ep ck nb, ch_SDS a_line (p1 + 1) p2 sd → ch_RTS a_line (p2 + 1) p3 rt → ch_EPS a_line (p3 + 1) p4 ep → ch_NMS a_line (p4 + 1) p5 ck → ¬ ch_NMS a_line (p5 + 1) k nb) → ∀ s1 ch_r1 e1 c1 n1, post 0 (f_side, f_rights, f_ep, f_clock, f_number, nI k, f_outLen, f_clockTop, f_numberTop, f_strict, f_textLen, s1, ch_r1, e1, c1, n1, m, a_line, a_out, a_text, cut') := by
        intro w s1 ch_r1 e1 c1 n1
        refine hbad (fun B sd rt ep ck nb h => ?_) _ _ _ _ _ m cut' ch_hm
        obtain ⟨_, z1, z2, z3, z4, z5⟩ := ch_PF_C ct h
        exact w sd rt ep ck nb z1 z2 z3 z4 z5
      have go : ∀ sd, ch_SDS a_line (p1 + 1) p2 sd → wY_readForm_145 post f_side f_rights f_ep f_clock f_number (nI k) f_outLen f_clockTop f_numberTop f_strict f_textLen (nI sd) f_newRights f_newEp f_newClock f_newNumber m a_line a_out a_text cut' := fun sd hS => ch_y_rf145 hn k2 k3 k4 k5 k6 ⟨by omega, by omega, by omega, by omega⟩ (fun rt ep ck nb z2 z3 z4 z5 => hok B sd rt ep ck nb m cut' (ch_PCU_PF ct ⟨hB, hS, z2, z3, z4, z5⟩) hb ch_hm) (fun w ch_r1 e1 c1 n1 => A (fun sd rt ep ck nb _ z2 z3 z4 z5 => w rt ep ck nb z2 z3 z4 z5) _ ch_r1 e1 c1 n1)
      rw [k2, pk_sub (by omega), nI_clamp (n := p1 + 1) (by omega)]
      refine pk_eq (p2 - (p1 + 1)) 1 (fun e1 => ⟨vp_in_nI (by omega) (by omega), br_c (fun z => go 0 ⟨by omega, Or.inl ⟨z, rfl⟩⟩) (fun z => ⟨vp_in_nI (by omega) (by omega), br_c (fun z2 => go 1 ⟨by omega, Or.inr ⟨z2, rfl⟩⟩) (fun z2 => A (fun sd rt ep ck nb h _ _ _ _ => ?_) _ _ _ _ _)⟩)⟩) (fun e1 => A (fun sd rt ep ck nb h _ _ _ _ => ?_) _ _ _ _ _)
      · rcases h.2 with ⟨y, _⟩ | ⟨y, _⟩
        · exact z y
        · exact z2 y
      · have := h.1; omega
    · obtain ⟨p1, p2, p3, p4, p5, ct, _⟩ := ch_PF_PCU h
      exact e5 (hs.symm.trans ct.2.2.2.2.2.2)
  | succ d ih =>
    intro k c cut hk hs hc hq
    refine pk_le n k (fun e => by omega) (fun _ => ?_)
    rw [nI_clamp (n := k) (by omega)]
    refine ⟨vp_in_nI (by omega) (by omega), br_c (fun c32 => nm_r (nI_1 c) (pk_le (c + 1) 5 (fun e => ⟨vp_in_nI (by omega) (by omega), ?_⟩) (fun e => hbad (fun B sd rt ep ck nb h => ?_) _ _ _ _ _ a_men cut (fun _ _ => rfl)))) (fun c32 => nm_r (nI_1 k) (ih (k + 1) c cut (by omega) ?_ hc hq))⟩
    · rw [nI_clamp (n := c + 1) (by omega)]
      refine nm_e (nm_r (nI_1 k) (ih (k + 1) (c + 1) _ (by omega) ?_ e (fun j hj => ?_)))
      · rw [ch_sc_1 c32, hs]
      · by_cases z : j = c
        · exact ⟨k, c32, by omega, by rw [ch_u_t (by omega)]⟩
        · obtain ⟨q, q1, q2, q3⟩ := hq j (by omega)
          exact ⟨q, q1, q2, by rw [ch_u_f (by omega)]; exact q3⟩
    · obtain ⟨p1, p2, p3, p4, p5, ct, _⟩ := ch_PF_PCU h
      have h5 := ct.2.2.2.2.2.2
      have h6 := ch_sc_1 c32
      have h7 : ch_sc a_line (k + 1) ≤ ch_sc a_line n := ch_cn_le2 (by omega)
      omega
    · rw [ch_sc_0 c32, hs]
theorem ch_y_readForm {post : Int32 → SY → Prop} {n : Nat} (hn : n ≤ 96) (hok : ∀ B sd rt ep ck nb m cut, ch_PF a_line n B sd rt ep ck nb → ch_BY m 192 B → (∀ i, i < 192 → m i = a_men i) → post 1 (f_side, f_rights, f_ep, f_clock, f_number, nI n, f_outLen, f_clockTop, f_numberTop, f_strict, f_textLen, nI sd, nI rt, ch_epI ep, nI ck, nI nb, m, a_line, a_out, a_text, cut)) (hbad : (∀ B sd rt ep ck nb, ¬ ch_PF a_line n B sd rt ep ck nb) → ∀ s1 ch_r1 e1 c1 n1 m cut, (∀ i, i < 192 → m i = a_men i) → post 0 (f_side, f_rights, f_ep, f_clock, f_number, nI n, f_outLen, f_clockTop, f_numberTop, f_strict, f_textLen, s1, ch_r1, e1, c1, n1, m, a_line, a_out, a_text, cut)) : wpY_readForm post (f_side, f_rights, f_ep, f_clock, f_number, nI n, f_outLen, f_clockTop, f_numberTop, f_strict, f_textLen, f_newSide, f_newRights, f_newEp, f_newClock, f_newNumber, a_men, a_line, a_out, a_text, a_cut) :=
  ⟨n + 1, ch_y_rf4 hn hok hbad n 0 0 a_cut (by omega) rfl (by omega) (fun j hj => by omega)⟩
end
end
section
/-! reading a position -/
theorem i_vc_readPosition {k : Nat} {u : SX} {v : SY} (I : i_Rel k u v) (hk : k + 4 ≤ 2051) : wpX_readPosition (fun r u' => wpY_readPosition (fun r' v' => r' = r ∧ i_Rel (k + 4) u' v') v) u := by
  refine ch_rl_el (P := fun u v => wpX_readPosition (fun r u' => wpY_readPosition (fun r' v' => r' = r ∧ i_Rel (k + 4) u' v') v) u) ?_ I
  intro B sd rt ep ck ct nb nt st ll ol f_moveTotal f_movesKnown f_savedSide f_savedRights f_savedPassant f_savedClock f_savedNumber f_spellLen f_at f_end f_writtenMark f_writtenCastling f_writtenPromotion f_writtenTarget f_writtenCapture f_writtenRank f_writtenFile f_writtenKind a_board a_line a_out a_moves a_savedBoard a_spell f_textLen f_newSide f_newRights f_newEp f_newClock f_newNumber a_men a_text a_cut hF
  obtain ⟨h1, h2, h3, h4, h5, h6, h7, h8, h9⟩ := hF
  unfold wpX_readPosition
  refine ch_x_save (fun sb hsb => ?_)
  refine ch_x_parsePosition h8 (fun B1 sd1 rt1 ep1 ck1 nb1 ab at' hPF hV hsd hrt hep hck hnb hab hhi => br_f (by decide) ?_) (fun hno s1 ch_r1 p1 c1 n1 at' ab hhi => br_t rfl ?_)
  · refine ch_x_checkPosition hab hV hsd hrt hep (by omega) (by omega) (by omega) (by omega) ?_
    unfold wX_readPosition_19
    refine br_c (fun z => ?_) (fun z => ?_)
    · obtain ⟨hPOS, hc1, hc2⟩ := ch_chk_0 hV hsd hrt hep z
      unfold wpY_readPosition
      refine ch_y_readForm h8 (fun B2 sd2 rt2 ep2 ck2 nb2 m cut hPF2 hb ch_hm => br_f (by decide) ?_) (fun hno _ _ _ _ _ _ _ _ => absurd hPF (hno _ _ _ _ _ _))
      obtain ⟨rfl, rfl, rfl, rfl, rfl, rfl⟩ := ch_PF_u hPF hPF2
      refine ch_y_check (post := fun r' v' => r' = 0 ∧ i_Rel (k + 4) _ v') hb hV hsd hrt hep (by omega) (by omega) (by omega) (by omega) (fun _ m' hm' => ⟨rfl, ch_rl_mk (ll := 0) ⟨hab, hm', hPOS, Or.inl rfl, ⟨hc1, h5.2⟩, ⟨hc2, h6.2⟩, h7, by omega, h9⟩⟩) (fun w => absurd z w)
    · refine ch_x_restore (fun ab2 e1 e2 => ?_)
      have hab2 : ch_BX ab2 B := fun i hi => by rw [e1 i hi, hsb i hi]; exact h1 i hi
      unfold wpY_readPosition
      refine ch_y_readForm h8 (fun B2 sd2 rt2 ep2 ck2 nb2 m cut hPF2 hb ch_hm => br_f (by decide) ?_) (fun hno _ _ _ _ _ _ _ _ => absurd hPF (hno _ _ _ _ _ _))
      obtain ⟨rfl, rfl, rfl, rfl, rfl, rfl⟩ := ch_PF_u hPF hPF2
      have hm2 : ch_BY m 0 B := fun i hi => by rw [ch_hm _ (by omega)]; exact h2 i hi
      refine ch_y_check (post := fun r' v' => r' = ch_chk B1 sd1 rt1 ep1 ck1 ct nb1 nt ∧ i_Rel (k + 4) _ v') hb hV hsd hrt hep (by omega) (by omega) (by omega) (by omega) (fun w => absurd w z) (fun _ => ⟨rfl, ch_rl_mk ⟨hab2, hm2, h3, h4, h5, h6, h7, h8, h9⟩⟩)
  · unfold wX_readPosition_19
    refine br_f (by decide) ?_
    refine ch_x_restore (fun ab2 e1 e2 => ?_)
    have hab2 : ch_BX ab2 B := fun i hi => by rw [e1 i hi, hsb i hi]; exact h1 i hi
    unfold wpY_readPosition
    refine ch_y_readForm h8 (fun B2 sd2 rt2 ep2 ck2 nb2 m cut hPF2 hb ch_hm => absurd hPF2 (hno _ _ _ _ _ _)) (fun _ _ _ _ _ _ m cut ch_hm => br_t rfl ⟨rfl, ?_⟩)
    have hm2 : ch_BY m 0 B := fun i hi => by rw [ch_hm _ (by omega)]; exact h2 i hi
    exact ch_rl_mk ⟨hab2, hm2, h3, h4, h5, h6, h7, h8, h9⟩
end
