section
/-! pure rows to paste: stores, nI and lN arithmetic, masks, shifts, narrowing, branches by naturals (pk_le, pk_lt, pk_eq), loops (lp1 .. lp16: the measure of the state; rp1 ..: recursion), negatives. Take what you need -/
theorem pk_us {f : Nat → Int32} {k : Nat} {x : Int32} : upd f k x k = x := if_pos rfl
theorem pk_un {f : Nat → Int32} {k j : Nat} {x : Int32} (h : j ≠ k) : upd f k x j = f j := if_neg h
theorem pk_uLs {f : Nat → Int64} {k : Nat} {x : Int64} : vp_updL f k x k = x := if_pos rfl
theorem pk_uLn {f : Nat → Int64} {k j : Nat} {x : Int64} (h : j ≠ k) : vp_updL f k x j = f j := if_neg h
theorem pk_sub {a b : Nat} (h : b ≤ a) : nI a - nI b = nI (a - b) := by
  obtain ⟨c, rfl⟩ : ∃ c, a = c + b := ⟨a - b, by omega⟩
  rw [← nI_add, Int32.add_sub_cancel, Nat.add_sub_cancel]
theorem pk_m1 (n : Nat) : nI (n + 1) + (-1) = nI n := by
  rw [← nI_1, Int32.add_assoc, show (1 : Int32) + (-1) = 0 from rfl, Int32.add_zero]
theorem pk_mul (a b : Nat) : nI a * nI b = nI (a * b) := (Int32.ofNat_mul a b).symm
theorem pk_div {a d : Nat} (ha : a < 2 ^ 31) (h0 : 0 < d) (hd : d < 2 ^ 31) : nI a / nI d = nI (a / d) := by
  apply Int32.toInt_inj.mp
  rw [lg_idiv_nonneg (by rw [nI_toInt ha]; omega) (by rw [nI_toInt hd]; omega), nI_toInt ha, nI_toInt hd, nI_toInt (Nat.lt_of_le_of_lt (Nat.div_le_self a d) ha)]
  first | rfl | exact (Int.natCast_ediv _ _).symm
theorem pk_rem {a d : Nat} (ha : a < 2 ^ 31) (h0 : 0 < d) (hd : d < 2 ^ 31) : nI a - nI a / nI d * nI d = nI (a % d) := by
  rw [pk_div ha h0 hd, pk_mul, pk_sub (Nat.div_mul_le_self a d)]
  exact congrArg nI (by have := Nat.div_add_mod' a d; omega)
theorem pk_sub_toInt {a b : Nat} (ha : a < 2 ^ 30) (hb : b < 2 ^ 30) : (nI a - nI b).toInt = (a : Int) - b := by
  rw [Int32.toInt_sub, nI_toInt (by omega), nI_toInt (by omega)]
  exact Int.bmod_eq_of_le (by omega) (by omega)
theorem pk_sneg {a b : Nat} (hb : b < 2 ^ 30) (h : a < b) : nI a - nI b < 0 := by
  rw [Int32.lt_iff_toInt_lt, pk_sub_toInt (by omega) hb, show (0 : Int32).toInt = 0 from by decide]
  omega
theorem pk_ix (x : Int32) {n : Nat} (hn : n < 2 ^ 31) : x < 0 ∨ nI n ≤ x ∨ ∃ j : Nat, j < n ∧ x = nI j := by
  by_cases h : x < 0
  · exact Or.inl h
  · obtain ⟨j, hj, rfl⟩ := nI_of h
    by_cases h2 : j < n
    · exact Or.inr (Or.inr ⟨j, h2, rfl⟩)
    · exact Or.inr (Or.inl (nI_le (by omega) hj))
theorem pk_le {x y : Int32} {A B : Prop} (a b : Nat) (f : a ≤ b → A) (g : b < a → B) (hx : x = nI a := by rfl) (hy : y = nI b := by rfl) (ha : a < 2 ^ 31 := by omega) (hb : b < 2 ^ 31 := by omega) : (x ≤ y → A) ∧ (¬ x ≤ y → B) := by
  subst hx hy
  rw [nI_leI ha hb]
  exact ⟨f, fun z => g (by omega)⟩
theorem pk_lt {x y : Int32} {A B : Prop} (a b : Nat) (f : a < b → A) (g : b ≤ a → B) (hx : x = nI a := by rfl) (hy : y = nI b := by rfl) (ha : a < 2 ^ 31 := by omega) (hb : b < 2 ^ 31 := by omega) : (x < y → A) ∧ (¬ x < y → B) := by
  subst hx hy
  rw [nI_ltI ha hb]
  exact ⟨f, fun z => g (by omega)⟩
theorem pk_eq {x y : Int32} {A B : Prop} (a b : Nat) (f : a = b → A) (g : a ≠ b → B) (hx : x = nI a := by rfl) (hy : y = nI b := by rfl) (ha : a < 2 ^ 31 := by omega) (hb : b < 2 ^ 31 := by omega) : (x = y → A) ∧ (¬ x = y → B) := by
  subst hx hy
  rw [nI_eq ha hb]
  exact ⟨f, g⟩
theorem pk_in {x : Int32} (n N : Nat) (h : n < N) (hx : x = nI n := by rfl) (hN : N < 2 ^ 31 := by omega) : vp_in x N := by
  subst hx
  exact vp_in_nI h hN
theorem pk_cl {x : Int32} (n : Nat) (hx : x = nI n := by rfl) (h : n < 2 ^ 31 := by omega) : x.toNatClampNeg = n := by
  subst hx
  exact nI_clamp h
theorem pk_tn {n : Nat} (h : n < 2 ^ 32) : (nI n).toBitVec.toNat = n := Nat.mod_eq_of_lt h
theorem pk_and (x : Int32) {m : Int32} (k : Nat) (hm : m.toBitVec.toNat = 2 ^ k - 1) : x &&& m = nI (x.toBitVec.toNat % 2 ^ k) := by
  apply Int32.toBitVec_inj.mp
  apply BitVec.eq_of_toNat_eq
  rw [Int32.toBitVec_and, BitVec.toNat_and, hm, Nat.and_two_pow_sub_one_eq_mod]
  show _ = (BitVec.ofNat 32 _).toNat
  rw [BitVec.toNat_ofNat]
  exact (Nat.mod_eq_of_lt (Nat.lt_of_le_of_lt (Nat.mod_le _ _) x.toBitVec.isLt)).symm
theorem pk_andN {n : Nat} (h : n < 2 ^ 32) {m : Int32} (k : Nat) (hm : m.toBitVec.toNat = 2 ^ k - 1) : nI n &&& m = nI (n % 2 ^ k) := by
  rw [pk_and _ k hm, pk_tn h]
theorem pk_andE (x : Int32) {m : Int32} (k : Nat) (hm : m.toBitVec.toNat = 2 ^ k - 1) : ∃ j : Nat, j < 2 ^ k ∧ x &&& m = nI j := ⟨_, Nat.mod_lt _ (Nat.two_pow_pos k), pk_and x k hm⟩
theorem pk_andIn (x : Int32) {m : Int32} (k : Nat) (hm : m.toBitVec.toNat = 2 ^ k - 1) (hk : k ≤ 30) : vp_in (x &&& m) (2 ^ k) := by
  obtain ⟨j, hj, e⟩ := pk_andE x k hm
  rw [e]
  exact vp_in_nI hj (Nat.lt_of_le_of_lt (Nat.pow_le_pow_right (by decide) hk) (by decide))
theorem pk_shl (a s : Int32) (k : Nat) (hs : (s.toBitVec.smod 32).toNat = k) : (a <<< s).toBitVec.toNat = a.toBitVec.toNat * 2 ^ k % 2 ^ 32 := by
  show (a.toBitVec <<< (s.toBitVec.smod 32).toNat).toNat = _
  rw [hs, BitVec.toNat_shiftLeft, Nat.shiftLeft_eq]
theorem pk_shlN {n : Nat} (s : Int32) (k : Nat) (hs : (s.toBitVec.smod 32).toNat = k) (h : n * 2 ^ k < 2 ^ 32) : nI n <<< s = nI (n * 2 ^ k) := by
  apply Int32.toBitVec_inj.mp
  apply BitVec.eq_of_toNat_eq
  have hn : n < 2 ^ 32 := Nat.lt_of_le_of_lt (Nat.le_mul_of_pos_right n (Nat.two_pow_pos k)) h
  rw [pk_shl _ _ k hs, pk_tn hn, pk_tn h, Nat.mod_eq_of_lt h]
theorem pk_shr (a s : Int32) (k : Nat) (hs : (s.toBitVec.smod 32).toNat = k) : (a >>> s).toInt = a.toInt >>> k := by
  show (a.toBitVec.sshiftRight (s.toBitVec.smod 32).toNat).toInt = _
  rw [hs, BitVec.toInt_sshiftRight]
  rfl
theorem pk_shrN {n : Nat} (h : n < 2 ^ 31) (s : Int32) (k : Nat) (hs : (s.toBitVec.smod 32).toNat = k) : nI n >>> s = nI (n / 2 ^ k) := by
  apply Int32.toInt_inj.mp
  have h2 : n / 2 ^ k ≤ n := Nat.div_le_self _ _
  rw [pk_shr _ _ k hs, nI_toInt h, nI_toInt (by omega), Int.shiftRight_eq_div_pow]
  rfl
theorem pk_ushr (x s : Int32) (k : Nat) (hs : ((s.toUInt32 &&& Int32.toUInt32 31).toBitVec % 32).toNat = k) : (x.toUInt32 >>> (s.toUInt32 &&& Int32.toUInt32 31)).toInt32.toBitVec.toNat = x.toBitVec.toNat / 2 ^ k := by
  have e : (x.toUInt32 >>> (s.toUInt32 &&& Int32.toUInt32 31)).toInt32.toBitVec = x.toBitVec >>> k := by
    rw [← hs]
    exact UInt32.toBitVec_shiftRight _ _
  rw [e, BitVec.toNat_ushiftRight, Nat.shiftRight_eq_div_pow]
theorem pk_ushrN {n : Nat} (hn : n < 2 ^ 32) (s : Int32) (k : Nat) (hs : ((s.toUInt32 &&& Int32.toUInt32 31).toBitVec % 32).toNat = k) : ((nI n).toUInt32 >>> (s.toUInt32 &&& Int32.toUInt32 31)).toInt32 = nI (n / 2 ^ k) := by
  apply Int32.toBitVec_inj.mp
  apply BitVec.eq_of_toNat_eq
  rw [pk_ushr _ s k hs, pk_tn hn, pk_tn (Nat.lt_of_le_of_lt (Nat.div_le_self _ _) hn)]
theorem pk_nb (z : Int32) : narrow .byte (.int z.toInt8.toInt32) = .int z.toInt8.toInt32 := congrArg Value.int (by simp)
theorem pk_ns (z : Int32) : narrow .short (.int z.toInt16.toInt32) = .int z.toInt16.toInt32 := congrArg Value.int (by simp)
theorem pk_fb (r : Int32) : fits .byte (.int r.toInt8.toInt32) = true := by
  have ⟨a, b⟩ := lg_i2b_range r
  have h1 : (-128 : Int32).toInt = -128 := by decide
  have h2 : (127 : Int32).toInt = 127 := by decide
  simp only [fits, Bool.and_eq_true, decide_eq_true_eq, Int32.le_iff_toInt_le, h1, h2]
  omega
theorem pk_fs (r : Int32) : fits .short (.int r.toInt16.toInt32) = true := by
  have ⟨a, b⟩ := lg_i2s_range r
  have h1 : (-32768 : Int32).toInt = -32768 := by decide
  have h2 : (32767 : Int32).toInt = 32767 := by decide
  simp only [fits, Bool.and_eq_true, decide_eq_true_eq, Int32.le_iff_toInt_le, h1, h2]
  omega
theorem pk_charN {q : Nat} (hq : q < 65536) : narrow .char (.int (nI q)) = .int (nI q) ∧ fits .char (.int (nI q)) = true := by
  constructor
  · have e : (nI q).toUInt32.toUInt16.toUInt32.toInt32 = nI q := by
      apply Int32.toBitVec_inj.mp
      apply BitVec.eq_of_toNat_eq
      show (nI q).toUInt32.toUInt16.toUInt32.toNat = q % 2 ^ 32
      rw [UInt16.toNat_toUInt32, UInt32.toNat_toUInt16, show (nI q).toUInt32.toNat = q % 2 ^ 32 from rfl]
      omega
    exact congrArg Value.int e
  · have a : (0 : Int32) ≤ nI q := nI_pos' (by omega)
    have b : nI q ≤ 65535 := nI_le (b := 65535) (by omega) (by decide)
    show (decide ((0 : Int32) ≤ nI q) && decide (nI q ≤ 65535)) = true
    rw [decide_eq_true a, decide_eq_true b]
    rfl
theorem pk_char (x : Int32) : (x.toUInt32 % 65536).toInt32 = nI (x.toBitVec.toNat % 65536) := by
  apply Int32.toBitVec_inj.mp
  apply BitVec.eq_of_toNat_eq
  rw [pk_tn (by omega)]
  show (x.toUInt32 % 65536).toNat = _
  rw [UInt32.toNat_mod]
  rfl
theorem pk_nc (x : Int32) : narrow .char (.int (x.toUInt32 % 65536).toInt32) = .int (x.toUInt32 % 65536).toInt32 := by
  rw [pk_char]
  exact (pk_charN (Nat.mod_lt _ (by decide))).1
theorem pk_fc (x : Int32) : fits .char (.int (x.toUInt32 % 65536).toInt32) = true := by
  rw [pk_char]
  exact (pk_charN (Nat.mod_lt _ (by decide))).2
theorem pk_vb (z : Int32) : vp_nar .byte z.toInt8.toInt32 = z.toInt8.toInt32 := by rw [vp_nar_byte]; simp
theorem pk_vs (z : Int32) : vp_nar .short z.toInt16.toInt32 = z.toInt16.toInt32 := by rw [vp_nar_short]; simp
theorem pk_vc (z : Int32) : vp_nar .char (z.toUInt32 % 65536).toInt32 = (z.toUInt32 % 65536).toInt32 := Value.int.inj (pk_nc z)
theorem pk_lT {n : Nat} (h : n < 2 ^ 63) : (lN n).toInt = (n : Int) := lg_ofNat_toInt h
theorem pk_lLT {a b : Nat} (ha : a < 2 ^ 63) (hb : b < 2 ^ 63) : lN a < lN b ↔ a < b := by
  rw [Int64.lt_iff_toInt_lt, pk_lT ha, pk_lT hb]; omega
theorem pk_lLE {a b : Nat} (ha : a < 2 ^ 63) (hb : b < 2 ^ 63) : lN a ≤ lN b ↔ a ≤ b := by
  rw [Int64.le_iff_toInt_le, pk_lT ha, pk_lT hb]; omega
theorem pk_lEQ {a b : Nat} (ha : a < 2 ^ 63) (hb : b < 2 ^ 63) : lN a = lN b ↔ a = b := by
  rw [← Int64.toInt_inj, pk_lT ha, pk_lT hb]; omega
theorem pk_lOf {x : Int64} (h : ¬ x < 0) : ∃ k : Nat, k < 2 ^ 63 ∧ x = lN k := by
  rw [Int64.lt_iff_toInt_lt] at h
  have h0 : (0 : Int64).toInt = 0 := by decide
  have hx := Int64.toInt_lt x
  refine ⟨x.toInt.toNat, by omega, Int64.toInt_inj.mp ?_⟩
  rw [pk_lT (by omega)]
  omega
theorem pk_lDiv {a b : Nat} (ha : a < 2 ^ 63) (h0 : 0 < b) (hb : b < 2 ^ 63) : lN a / lN b = lN (a / b) := by
  apply Int64.toInt_inj.mp
  rw [lg_ldiv_nonneg (by rw [pk_lT ha]; omega) (by rw [pk_lT hb]; omega), pk_lT ha, pk_lT hb, pk_lT (Nat.lt_of_le_of_lt (Nat.div_le_self a b) ha)]
  rfl
theorem pk_lRem {a b : Nat} (ha : a < 2 ^ 63) (h0 : 0 < b) (hb : b < 2 ^ 63) : lN a - lN a / lN b * lN b = lN (a % b) := by
  rw [pk_lDiv ha h0 hb, lN_mul, lN_sub (Nat.div_mul_le_self a b)]
  exact congrArg lN (by have := Nat.div_add_mod' a b; omega)
theorem pk_loop {σ : Type} (W : Nat → Nat → σ → Prop) (I : Nat → σ → Prop) (e i0 : Nat) (s : σ) (hi : i0 ≤ e) (h0 : I i0 s) (hx : ∀ n s, I e s → W (n + 1) e s)
    (hs : ∀ n i s, i < e → I i s → (∀ s', I (i + 1) s' → W n (i + 1) s') → W (n + 1) i s) : ∃ n, W n i0 s :=
  ⟨e + 1, loop_i W I e hx hs (e + 1) i0 s hi (by omega) h0⟩
theorem pk_loopD {σ : Type} (W : Nat → Nat → σ → Prop) (I : Nat → σ → Prop) (hx : ∀ n s, I 0 s → W (n + 1) 0 s)
    (hs : ∀ n i s, I (i + 1) s → (∀ s', I i s' → W n i s') → W (n + 1) (i + 1) s) : ∀ (e : Nat) (s : σ), I e s → W (e + 1) e s := by
  intro e
  induction e with
  | zero => exact fun s h => hx 0 s h
  | succ e ih => exact fun s h => hs (e + 1) e s h (fun s' h' => ih s' h')
theorem lp1 {A1 : Type} (W : Nat → A1 → Prop) (I : A1 → Prop) (μ : A1 → Nat) (hs : ∀ (n : Nat) (a1 : A1), I a1 → (∀ (b1 : A1), I b1 → μ b1 < μ a1 → W n b1) → W (n + 1) a1) (a1 : A1) (h : I a1) : ∃ n, W n a1 :=
  loop_m (σ := A1) (fun n s => W n s) (fun s => I s) (fun s => μ s) (fun n s hI hk => hs n s hI (fun b1 h9 hm => hk b1 h9 hm)) a1 h
theorem lp2 {A1 A2 : Type} (W : Nat → A1 → A2 → Prop) (I : A1 → A2 → Prop) (μ : A1 → A2 → Nat) (hs : ∀ (n : Nat) (a1 : A1) (a2 : A2), I a1 a2 → (∀ (b1 : A1) (b2 : A2), I b1 b2 → μ b1 b2 < μ a1 a2 → W n b1 b2) → W (n + 1) a1 a2) (a1 : A1) (a2 : A2) (h : I a1 a2) : ∃ n, W n a1 a2 :=
  loop_m (σ := A1 × A2) (fun n s => W n s.1 s.2) (fun s => I s.1 s.2) (fun s => μ s.1 s.2) (fun n s hI hk => hs n s.1 s.2 hI (fun b1 b2 h9 hm => hk (b1, b2) h9 hm)) (a1, a2) h
theorem lp3 {A1 A2 A3 : Type} (W : Nat → A1 → A2 → A3 → Prop) (I : A1 → A2 → A3 → Prop) (μ : A1 → A2 → A3 → Nat) (hs : ∀ (n : Nat) (a1 : A1) (a2 : A2) (a3 : A3), I a1 a2 a3 → (∀ (b1 : A1) (b2 : A2) (b3 : A3), I b1 b2 b3 → μ b1 b2 b3 < μ a1 a2 a3 → W n b1 b2 b3) → W (n + 1) a1 a2 a3) (a1 : A1) (a2 : A2) (a3 : A3) (h : I a1 a2 a3) : ∃ n, W n a1 a2 a3 :=
  loop_m (σ := A1 × A2 × A3) (fun n s => W n s.1 s.2.1 s.2.2) (fun s => I s.1 s.2.1 s.2.2) (fun s => μ s.1 s.2.1 s.2.2) (fun n s hI hk => hs n s.1 s.2.1 s.2.2 hI (fun b1 b2 b3 h9 hm => hk (b1, b2, b3) h9 hm)) (a1, a2, a3) h
theorem lp4 {A1 A2 A3 A4 : Type} (W : Nat → A1 → A2 → A3 → A4 → Prop) (I : A1 → A2 → A3 → A4 → Prop) (μ : A1 → A2 → A3 → A4 → Nat) (hs : ∀ (n : Nat) (a1 : A1) (a2 : A2) (a3 : A3) (a4 : A4), I a1 a2 a3 a4 → (∀ (b1 : A1) (b2 : A2) (b3 : A3) (b4 : A4), I b1 b2 b3 b4 → μ b1 b2 b3 b4 < μ a1 a2 a3 a4 → W n b1 b2 b3 b4) → W (n + 1) a1 a2 a3 a4) (a1 : A1) (a2 : A2) (a3 : A3) (a4 : A4) (h : I a1 a2 a3 a4) : ∃ n, W n a1 a2 a3 a4 :=
  loop_m (σ := A1 × A2 × A3 × A4) (fun n s => W n s.1 s.2.1 s.2.2.1 s.2.2.2) (fun s => I s.1 s.2.1 s.2.2.1 s.2.2.2) (fun s => μ s.1 s.2.1 s.2.2.1 s.2.2.2) (fun n s hI hk => hs n s.1 s.2.1 s.2.2.1 s.2.2.2 hI (fun b1 b2 b3 b4 h9 hm => hk (b1, b2, b3, b4) h9 hm)) (a1, a2, a3, a4) h
theorem lp5 {A1 A2 A3 A4 A5 : Type} (W : Nat → A1 → A2 → A3 → A4 → A5 → Prop) (I : A1 → A2 → A3 → A4 → A5 → Prop) (μ : A1 → A2 → A3 → A4 → A5 → Nat) (hs : ∀ (n : Nat) (a1 : A1) (a2 : A2) (a3 : A3) (a4 : A4) (a5 : A5), I a1 a2 a3 a4 a5 → (∀ (b1 : A1) (b2 : A2) (b3 : A3) (b4 : A4) (b5 : A5), I b1 b2 b3 b4 b5 → μ b1 b2 b3 b4 b5 < μ a1 a2 a3 a4 a5 → W n b1 b2 b3 b4 b5) → W (n + 1) a1 a2 a3 a4 a5) (a1 : A1) (a2 : A2) (a3 : A3) (a4 : A4) (a5 : A5) (h : I a1 a2 a3 a4 a5) : ∃ n, W n a1 a2 a3 a4 a5 :=
  loop_m (σ := A1 × A2 × A3 × A4 × A5) (fun n s => W n s.1 s.2.1 s.2.2.1 s.2.2.2.1 s.2.2.2.2) (fun s => I s.1 s.2.1 s.2.2.1 s.2.2.2.1 s.2.2.2.2) (fun s => μ s.1 s.2.1 s.2.2.1 s.2.2.2.1 s.2.2.2.2) (fun n s hI hk => hs n s.1 s.2.1 s.2.2.1 s.2.2.2.1 s.2.2.2.2 hI (fun b1 b2 b3 b4 b5 h9 hm => hk (b1, b2, b3, b4, b5) h9 hm)) (a1, a2, a3, a4, a5) h
theorem lp6 {A1 A2 A3 A4 A5 A6 : Type} (W : Nat → A1 → A2 → A3 → A4 → A5 → A6 → Prop) (I : A1 → A2 → A3 → A4 → A5 → A6 → Prop) (μ : A1 → A2 → A3 → A4 → A5 → A6 → Nat) (hs : ∀ (n : Nat) (a1 : A1) (a2 : A2) (a3 : A3) (a4 : A4) (a5 : A5) (a6 : A6), I a1 a2 a3 a4 a5 a6 → (∀ (b1 : A1) (b2 : A2) (b3 : A3) (b4 : A4) (b5 : A5) (b6 : A6), I b1 b2 b3 b4 b5 b6 → μ b1 b2 b3 b4 b5 b6 < μ a1 a2 a3 a4 a5 a6 → W n b1 b2 b3 b4 b5 b6) → W (n + 1) a1 a2 a3 a4 a5 a6) (a1 : A1) (a2 : A2) (a3 : A3) (a4 : A4) (a5 : A5) (a6 : A6) (h : I a1 a2 a3 a4 a5 a6) : ∃ n, W n a1 a2 a3 a4 a5 a6 :=
  loop_m (σ := A1 × A2 × A3 × A4 × A5 × A6) (fun n s => W n s.1 s.2.1 s.2.2.1 s.2.2.2.1 s.2.2.2.2.1 s.2.2.2.2.2) (fun s => I s.1 s.2.1 s.2.2.1 s.2.2.2.1 s.2.2.2.2.1 s.2.2.2.2.2) (fun s => μ s.1 s.2.1 s.2.2.1 s.2.2.2.1 s.2.2.2.2.1 s.2.2.2.2.2) (fun n s hI hk => hs n s.1 s.2.1 s.2.2.1 s.2.2.2.1 s.2.2.2.2.1 s.2.2.2.2.2 hI (fun b1 b2 b3 b4 b5 b6 h9 hm => hk (b1, b2, b3, b4, b5, b6) h9 hm)) (a1, a2, a3, a4, a5, a6) h
theorem lp7 {A1 A2 A3 A4 A5 A6 A7 : Type} (W : Nat → A1 → A2 → A3 → A4 → A5 → A6 → A7 → Prop) (I : A1 → A2 → A3 → A4 → A5 → A6 → A7 → Prop) (μ : A1 → A2 → A3 → A4 → A5 → A6 → A7 → Nat) (hs : ∀ (n : Nat) (a1 : A1) (a2 : A2) (a3 : A3) (a4 : A4) (a5 : A5) (a6 : A6) (a7 : A7), I a1 a2 a3 a4 a5 a6 a7 → (∀ (b1 : A1) (b2 : A2) (b3 : A3) (b4 : A4) (b5 : A5) (b6 : A6) (b7 : A7), I b1 b2 b3 b4 b5 b6 b7 → μ b1 b2 b3 b4 b5 b6 b7 < μ a1 a2 a3 a4 a5 a6 a7 → W n b1 b2 b3 b4 b5 b6 b7) → W (n + 1) a1 a2 a3 a4 a5 a6 a7) (a1 : A1) (a2 : A2) (a3 : A3) (a4 : A4) (a5 : A5) (a6 : A6) (a7 : A7) (h : I a1 a2 a3 a4 a5 a6 a7) : ∃ n, W n a1 a2 a3 a4 a5 a6 a7 :=
  loop_m (σ := A1 × A2 × A3 × A4 × A5 × A6 × A7) (fun n s => W n s.1 s.2.1 s.2.2.1 s.2.2.2.1 s.2.2.2.2.1 s.2.2.2.2.2.1 s.2.2.2.2.2.2) (fun s => I s.1 s.2.1 s.2.2.1 s.2.2.2.1 s.2.2.2.2.1 s.2.2.2.2.2.1 s.2.2.2.2.2.2) (fun s => μ s.1 s.2.1 s.2.2.1 s.2.2.2.1 s.2.2.2.2.1 s.2.2.2.2.2.1 s.2.2.2.2.2.2) (fun n s hI hk => hs n s.1 s.2.1 s.2.2.1 s.2.2.2.1 s.2.2.2.2.1 s.2.2.2.2.2.1 s.2.2.2.2.2.2 hI (fun b1 b2 b3 b4 b5 b6 b7 h9 hm => hk (b1, b2, b3, b4, b5, b6, b7) h9 hm)) (a1, a2, a3, a4, a5, a6, a7) h
theorem lp8 {A1 A2 A3 A4 A5 A6 A7 A8 : Type} (W : Nat → A1 → A2 → A3 → A4 → A5 → A6 → A7 → A8 → Prop) (I : A1 → A2 → A3 → A4 → A5 → A6 → A7 → A8 → Prop) (μ : A1 → A2 → A3 → A4 → A5 → A6 → A7 → A8 → Nat) (hs : ∀ (n : Nat) (a1 : A1) (a2 : A2) (a3 : A3) (a4 : A4) (a5 : A5) (a6 : A6) (a7 : A7) (a8 : A8), I a1 a2 a3 a4 a5 a6 a7 a8 → (∀ (b1 : A1) (b2 : A2) (b3 : A3) (b4 : A4) (b5 : A5) (b6 : A6) (b7 : A7) (b8 : A8), I b1 b2 b3 b4 b5 b6 b7 b8 → μ b1 b2 b3 b4 b5 b6 b7 b8 < μ a1 a2 a3 a4 a5 a6 a7 a8 → W n b1 b2 b3 b4 b5 b6 b7 b8) → W (n + 1) a1 a2 a3 a4 a5 a6 a7 a8) (a1 : A1) (a2 : A2) (a3 : A3) (a4 : A4) (a5 : A5) (a6 : A6) (a7 : A7) (a8 : A8) (h : I a1 a2 a3 a4 a5 a6 a7 a8) : ∃ n, W n a1 a2 a3 a4 a5 a6 a7 a8 :=
  loop_m (σ := A1 × A2 × A3 × A4 × A5 × A6 × A7 × A8) (fun n s => W n s.1 s.2.1 s.2.2.1 s.2.2.2.1 s.2.2.2.2.1 s.2.2.2.2.2.1 s.2.2.2.2.2.2.1 s.2.2.2.2.2.2.2) (fun s => I s.1 s.2.1 s.2.2.1 s.2.2.2.1 s.2.2.2.2.1 s.2.2.2.2.2.1 s.2.2.2.2.2.2.1 s.2.2.2.2.2.2.2) (fun s => μ s.1 s.2.1 s.2.2.1 s.2.2.2.1 s.2.2.2.2.1 s.2.2.2.2.2.1 s.2.2.2.2.2.2.1 s.2.2.2.2.2.2.2) (fun n s hI hk => hs n s.1 s.2.1 s.2.2.1 s.2.2.2.1 s.2.2.2.2.1 s.2.2.2.2.2.1 s.2.2.2.2.2.2.1 s.2.2.2.2.2.2.2 hI (fun b1 b2 b3 b4 b5 b6 b7 b8 h9 hm => hk (b1, b2, b3, b4, b5, b6, b7, b8) h9 hm)) (a1, a2, a3, a4, a5, a6, a7, a8) h
theorem lp9 {A1 A2 A3 A4 A5 A6 A7 A8 A9 : Type} (W : Nat → A1 → A2 → A3 → A4 → A5 → A6 → A7 → A8 → A9 → Prop) (I : A1 → A2 → A3 → A4 → A5 → A6 → A7 → A8 → A9 → Prop) (μ : A1 → A2 → A3 → A4 → A5 → A6 → A7 → A8 → A9 → Nat) (hs : ∀ (n : Nat) (a1 : A1) (a2 : A2) (a3 : A3) (a4 : A4) (a5 : A5) (a6 : A6) (a7 : A7) (a8 : A8) (a9 : A9), I a1 a2 a3 a4 a5 a6 a7 a8 a9 → (∀ (b1 : A1) (b2 : A2) (b3 : A3) (b4 : A4) (b5 : A5) (b6 : A6) (b7 : A7) (b8 : A8) (b9 : A9), I b1 b2 b3 b4 b5 b6 b7 b8 b9 → μ b1 b2 b3 b4 b5 b6 b7 b8 b9 < μ a1 a2 a3 a4 a5 a6 a7 a8 a9 → W n b1 b2 b3 b4 b5 b6 b7 b8 b9) → W (n + 1) a1 a2 a3 a4 a5 a6 a7 a8 a9) (a1 : A1) (a2 : A2) (a3 : A3) (a4 : A4) (a5 : A5) (a6 : A6) (a7 : A7) (a8 : A8) (a9 : A9) (h : I a1 a2 a3 a4 a5 a6 a7 a8 a9) : ∃ n, W n a1 a2 a3 a4 a5 a6 a7 a8 a9 :=
  loop_m (σ := A1 × A2 × A3 × A4 × A5 × A6 × A7 × A8 × A9) (fun n s => W n s.1 s.2.1 s.2.2.1 s.2.2.2.1 s.2.2.2.2.1 s.2.2.2.2.2.1 s.2.2.2.2.2.2.1 s.2.2.2.2.2.2.2.1 s.2.2.2.2.2.2.2.2) (fun s => I s.1 s.2.1 s.2.2.1 s.2.2.2.1 s.2.2.2.2.1 s.2.2.2.2.2.1 s.2.2.2.2.2.2.1 s.2.2.2.2.2.2.2.1 s.2.2.2.2.2.2.2.2) (fun s => μ s.1 s.2.1 s.2.2.1 s.2.2.2.1 s.2.2.2.2.1 s.2.2.2.2.2.1 s.2.2.2.2.2.2.1 s.2.2.2.2.2.2.2.1 s.2.2.2.2.2.2.2.2) (fun n s hI hk => hs n s.1 s.2.1 s.2.2.1 s.2.2.2.1 s.2.2.2.2.1 s.2.2.2.2.2.1 s.2.2.2.2.2.2.1 s.2.2.2.2.2.2.2.1 s.2.2.2.2.2.2.2.2 hI (fun b1 b2 b3 b4 b5 b6 b7 b8 b9 h9 hm => hk (b1, b2, b3, b4, b5, b6, b7, b8, b9) h9 hm)) (a1, a2, a3, a4, a5, a6, a7, a8, a9) h
theorem lp10 {A1 A2 A3 A4 A5 A6 A7 A8 A9 A10 : Type} (W : Nat → A1 → A2 → A3 → A4 → A5 → A6 → A7 → A8 → A9 → A10 → Prop) (I : A1 → A2 → A3 → A4 → A5 → A6 → A7 → A8 → A9 → A10 → Prop) (μ : A1 → A2 → A3 → A4 → A5 → A6 → A7 → A8 → A9 → A10 → Nat) (hs : ∀ (n : Nat) (a1 : A1) (a2 : A2) (a3 : A3) (a4 : A4) (a5 : A5) (a6 : A6) (a7 : A7) (a8 : A8) (a9 : A9) (a10 : A10), I a1 a2 a3 a4 a5 a6 a7 a8 a9 a10 → (∀ (b1 : A1) (b2 : A2) (b3 : A3) (b4 : A4) (b5 : A5) (b6 : A6) (b7 : A7) (b8 : A8) (b9 : A9) (b10 : A10), I b1 b2 b3 b4 b5 b6 b7 b8 b9 b10 → μ b1 b2 b3 b4 b5 b6 b7 b8 b9 b10 < μ a1 a2 a3 a4 a5 a6 a7 a8 a9 a10 → W n b1 b2 b3 b4 b5 b6 b7 b8 b9 b10) → W (n + 1) a1 a2 a3 a4 a5 a6 a7 a8 a9 a10) (a1 : A1) (a2 : A2) (a3 : A3) (a4 : A4) (a5 : A5) (a6 : A6) (a7 : A7) (a8 : A8) (a9 : A9) (a10 : A10) (h : I a1 a2 a3 a4 a5 a6 a7 a8 a9 a10) : ∃ n, W n a1 a2 a3 a4 a5 a6 a7 a8 a9 a10 :=
  loop_m (σ := A1 × A2 × A3 × A4 × A5 × A6 × A7 × A8 × A9 × A10) (fun n s => W n s.1 s.2.1 s.2.2.1 s.2.2.2.1 s.2.2.2.2.1 s.2.2.2.2.2.1 s.2.2.2.2.2.2.1 s.2.2.2.2.2.2.2.1 s.2.2.2.2.2.2.2.2.1 s.2.2.2.2.2.2.2.2.2) (fun s => I s.1 s.2.1 s.2.2.1 s.2.2.2.1 s.2.2.2.2.1 s.2.2.2.2.2.1 s.2.2.2.2.2.2.1 s.2.2.2.2.2.2.2.1 s.2.2.2.2.2.2.2.2.1 s.2.2.2.2.2.2.2.2.2) (fun s => μ s.1 s.2.1 s.2.2.1 s.2.2.2.1 s.2.2.2.2.1 s.2.2.2.2.2.1 s.2.2.2.2.2.2.1 s.2.2.2.2.2.2.2.1 s.2.2.2.2.2.2.2.2.1 s.2.2.2.2.2.2.2.2.2) (fun n s hI hk => hs n s.1 s.2.1 s.2.2.1 s.2.2.2.1 s.2.2.2.2.1 s.2.2.2.2.2.1 s.2.2.2.2.2.2.1 s.2.2.2.2.2.2.2.1 s.2.2.2.2.2.2.2.2.1 s.2.2.2.2.2.2.2.2.2 hI (fun b1 b2 b3 b4 b5 b6 b7 b8 b9 b10 h9 hm => hk (b1, b2, b3, b4, b5, b6, b7, b8, b9, b10) h9 hm)) (a1, a2, a3, a4, a5, a6, a7, a8, a9, a10) h
theorem lp11 {A1 A2 A3 A4 A5 A6 A7 A8 A9 A10 A11 : Type} (W : Nat → A1 → A2 → A3 → A4 → A5 → A6 → A7 → A8 → A9 → A10 → A11 → Prop) (I : A1 → A2 → A3 → A4 → A5 → A6 → A7 → A8 → A9 → A10 → A11 → Prop) (μ : A1 → A2 → A3 → A4 → A5 → A6 → A7 → A8 → A9 → A10 → A11 → Nat) (hs : ∀ (n : Nat) (a1 : A1) (a2 : A2) (a3 : A3) (a4 : A4) (a5 : A5) (a6 : A6) (a7 : A7) (a8 : A8) (a9 : A9) (a10 : A10) (a11 : A11), I a1 a2 a3 a4 a5 a6 a7 a8 a9 a10 a11 → (∀ (b1 : A1) (b2 : A2) (b3 : A3) (b4 : A4) (b5 : A5) (b6 : A6) (b7 : A7) (b8 : A8) (b9 : A9) (b10 : A10) (b11 : A11), I b1 b2 b3 b4 b5 b6 b7 b8 b9 b10 b11 → μ b1 b2 b3 b4 b5 b6 b7 b8 b9 b10 b11 < μ a1 a2 a3 a4 a5 a6 a7 a8 a9 a10 a11 → W n b1 b2 b3 b4 b5 b6 b7 b8 b9 b10 b11) → W (n + 1) a1 a2 a3 a4 a5 a6 a7 a8 a9 a10 a11) (a1 : A1) (a2 : A2) (a3 : A3) (a4 : A4) (a5 : A5) (a6 : A6) (a7 : A7) (a8 : A8) (a9 : A9) (a10 : A10) (a11 : A11) (h : I a1 a2 a3 a4 a5 a6 a7 a8 a9 a10 a11) : ∃ n, W n a1 a2 a3 a4 a5 a6 a7 a8 a9 a10 a11 :=
  loop_m (σ := A1 × A2 × A3 × A4 × A5 × A6 × A7 × A8 × A9 × A10 × A11) (fun n s => W n s.1 s.2.1 s.2.2.1 s.2.2.2.1 s.2.2.2.2.1 s.2.2.2.2.2.1 s.2.2.2.2.2.2.1 s.2.2.2.2.2.2.2.1 s.2.2.2.2.2.2.2.2.1 s.2.2.2.2.2.2.2.2.2.1 s.2.2.2.2.2.2.2.2.2.2) (fun s => I s.1 s.2.1 s.2.2.1 s.2.2.2.1 s.2.2.2.2.1 s.2.2.2.2.2.1 s.2.2.2.2.2.2.1 s.2.2.2.2.2.2.2.1 s.2.2.2.2.2.2.2.2.1 s.2.2.2.2.2.2.2.2.2.1 s.2.2.2.2.2.2.2.2.2.2) (fun s => μ s.1 s.2.1 s.2.2.1 s.2.2.2.1 s.2.2.2.2.1 s.2.2.2.2.2.1 s.2.2.2.2.2.2.1 s.2.2.2.2.2.2.2.1 s.2.2.2.2.2.2.2.2.1 s.2.2.2.2.2.2.2.2.2.1 s.2.2.2.2.2.2.2.2.2.2) (fun n s hI hk => hs n s.1 s.2.1 s.2.2.1 s.2.2.2.1 s.2.2.2.2.1 s.2.2.2.2.2.1 s.2.2.2.2.2.2.1 s.2.2.2.2.2.2.2.1 s.2.2.2.2.2.2.2.2.1 s.2.2.2.2.2.2.2.2.2.1 s.2.2.2.2.2.2.2.2.2.2 hI (fun b1 b2 b3 b4 b5 b6 b7 b8 b9 b10 b11 h9 hm => hk (b1, b2, b3, b4, b5, b6, b7, b8, b9, b10, b11) h9 hm)) (a1, a2, a3, a4, a5, a6, a7, a8, a9, a10, a11) h
theorem lp12 {A1 A2 A3 A4 A5 A6 A7 A8 A9 A10 A11 A12 : Type} (W : Nat → A1 → A2 → A3 → A4 → A5 → A6 → A7 → A8 → A9 → A10 → A11 → A12 → Prop) (I : A1 → A2 → A3 → A4 → A5 → A6 → A7 → A8 → A9 → A10 → A11 → A12 → Prop) (μ : A1 → A2 → A3 → A4 → A5 → A6 → A7 → A8 → A9 → A10 → A11 → A12 → Nat) (hs : ∀ (n : Nat) (a1 : A1) (a2 : A2) (a3 : A3) (a4 : A4) (a5 : A5) (a6 : A6) (a7 : A7) (a8 : A8) (a9 : A9) (a10 : A10) (a11 : A11) (a12 : A12), I a1 a2 a3 a4 a5 a6 a7 a8 a9 a10 a11 a12 → (∀ (b1 : A1) (b2 : A2) (b3 : A3) (b4 : A4) (b5 : A5) (b6 : A6) (b7 : A7) (b8 : A8) (b9 : A9) (b10 : A10) (b11 : A11) (b12 : A12), I b1 b2 b3 b4 b5 b6 b7 b8 b9 b10 b11 b12 → μ b1 b2 b3 b4 b5 b6 b7 b8 b9 b10 b11 b12 < μ a1 a2 a3 a4 a5 a6 a7 a8 a9 a10 a11 a12 → W n b1 b2 b3 b4 b5 b6 b7 b8 b9 b10 b11 b12) → W (n + 1) a1 a2 a3 a4 a5 a6 a7 a8 a9 a10 a11 a12) (a1 : A1) (a2 : A2) (a3 : A3) (a4 : A4) (a5 : A5) (a6 : A6) (a7 : A7) (a8 : A8) (a9 : A9) (a10 : A10) (a11 : A11) (a12 : A12) (h : I a1 a2 a3 a4 a5 a6 a7 a8 a9 a10 a11 a12) : ∃ n, W n a1 a2 a3 a4 a5 a6 a7 a8 a9 a10 a11 a12 :=
  loop_m (σ := A1 × A2 × A3 × A4 × A5 × A6 × A7 × A8 × A9 × A10 × A11 × A12) (fun n s => W n s.1 s.2.1 s.2.2.1 s.2.2.2.1 s.2.2.2.2.1 s.2.2.2.2.2.1 s.2.2.2.2.2.2.1 s.2.2.2.2.2.2.2.1 s.2.2.2.2.2.2.2.2.1 s.2.2.2.2.2.2.2.2.2.1 s.2.2.2.2.2.2.2.2.2.2.1 s.2.2.2.2.2.2.2.2.2.2.2) (fun s => I s.1 s.2.1 s.2.2.1 s.2.2.2.1 s.2.2.2.2.1 s.2.2.2.2.2.1 s.2.2.2.2.2.2.1 s.2.2.2.2.2.2.2.1 s.2.2.2.2.2.2.2.2.1 s.2.2.2.2.2.2.2.2.2.1 s.2.2.2.2.2.2.2.2.2.2.1 s.2.2.2.2.2.2.2.2.2.2.2) (fun s => μ s.1 s.2.1 s.2.2.1 s.2.2.2.1 s.2.2.2.2.1 s.2.2.2.2.2.1 s.2.2.2.2.2.2.1 s.2.2.2.2.2.2.2.1 s.2.2.2.2.2.2.2.2.1 s.2.2.2.2.2.2.2.2.2.1 s.2.2.2.2.2.2.2.2.2.2.1 s.2.2.2.2.2.2.2.2.2.2.2) (fun n s hI hk => hs n s.1 s.2.1 s.2.2.1 s.2.2.2.1 s.2.2.2.2.1 s.2.2.2.2.2.1 s.2.2.2.2.2.2.1 s.2.2.2.2.2.2.2.1 s.2.2.2.2.2.2.2.2.1 s.2.2.2.2.2.2.2.2.2.1 s.2.2.2.2.2.2.2.2.2.2.1 s.2.2.2.2.2.2.2.2.2.2.2 hI (fun b1 b2 b3 b4 b5 b6 b7 b8 b9 b10 b11 b12 h9 hm => hk (b1, b2, b3, b4, b5, b6, b7, b8, b9, b10, b11, b12) h9 hm)) (a1, a2, a3, a4, a5, a6, a7, a8, a9, a10, a11, a12) h
theorem lp13 {A1 A2 A3 A4 A5 A6 A7 A8 A9 A10 A11 A12 A13 : Type} (W : Nat → A1 → A2 → A3 → A4 → A5 → A6 → A7 → A8 → A9 → A10 → A11 → A12 → A13 → Prop) (I : A1 → A2 → A3 → A4 → A5 → A6 → A7 → A8 → A9 → A10 → A11 → A12 → A13 → Prop) (μ : A1 → A2 → A3 → A4 → A5 → A6 → A7 → A8 → A9 → A10 → A11 → A12 → A13 → Nat) (hs : ∀ (n : Nat) (a1 : A1) (a2 : A2) (a3 : A3) (a4 : A4) (a5 : A5) (a6 : A6) (a7 : A7) (a8 : A8) (a9 : A9) (a10 : A10) (a11 : A11) (a12 : A12) (a13 : A13), I a1 a2 a3 a4 a5 a6 a7 a8 a9 a10 a11 a12 a13 → (∀ (b1 : A1) (b2 : A2) (b3 : A3) (b4 : A4) (b5 : A5) (b6 : A6) (b7 : A7) (b8 : A8) (b9 : A9) (b10 : A10) (b11 : A11) (b12 : A12) (b13 : A13), I b1 b2 b3 b4 b5 b6 b7 b8 b9 b10 b11 b12 b13 → μ b1 b2 b3 b4 b5 b6 b7 b8 b9 b10 b11 b12 b13 < μ a1 a2 a3 a4 a5 a6 a7 a8 a9 a10 a11 a12 a13 → W n b1 b2 b3 b4 b5 b6 b7 b8 b9 b10 b11 b12 b13) → W (n + 1) a1 a2 a3 a4 a5 a6 a7 a8 a9 a10 a11 a12 a13) (a1 : A1) (a2 : A2) (a3 : A3) (a4 : A4) (a5 : A5) (a6 : A6) (a7 : A7) (a8 : A8) (a9 : A9) (a10 : A10) (a11 : A11) (a12 : A12) (a13 : A13) (h : I a1 a2 a3 a4 a5 a6 a7 a8 a9 a10 a11 a12 a13) : ∃ n, W n a1 a2 a3 a4 a5 a6 a7 a8 a9 a10 a11 a12 a13 :=
  loop_m (σ := A1 × A2 × A3 × A4 × A5 × A6 × A7 × A8 × A9 × A10 × A11 × A12 × A13) (fun n s => W n s.1 s.2.1 s.2.2.1 s.2.2.2.1 s.2.2.2.2.1 s.2.2.2.2.2.1 s.2.2.2.2.2.2.1 s.2.2.2.2.2.2.2.1 s.2.2.2.2.2.2.2.2.1 s.2.2.2.2.2.2.2.2.2.1 s.2.2.2.2.2.2.2.2.2.2.1 s.2.2.2.2.2.2.2.2.2.2.2.1 s.2.2.2.2.2.2.2.2.2.2.2.2) (fun s => I s.1 s.2.1 s.2.2.1 s.2.2.2.1 s.2.2.2.2.1 s.2.2.2.2.2.1 s.2.2.2.2.2.2.1 s.2.2.2.2.2.2.2.1 s.2.2.2.2.2.2.2.2.1 s.2.2.2.2.2.2.2.2.2.1 s.2.2.2.2.2.2.2.2.2.2.1 s.2.2.2.2.2.2.2.2.2.2.2.1 s.2.2.2.2.2.2.2.2.2.2.2.2) (fun s => μ s.1 s.2.1 s.2.2.1 s.2.2.2.1 s.2.2.2.2.1 s.2.2.2.2.2.1 s.2.2.2.2.2.2.1 s.2.2.2.2.2.2.2.1 s.2.2.2.2.2.2.2.2.1 s.2.2.2.2.2.2.2.2.2.1 s.2.2.2.2.2.2.2.2.2.2.1 s.2.2.2.2.2.2.2.2.2.2.2.1 s.2.2.2.2.2.2.2.2.2.2.2.2) (fun n s hI hk => hs n s.1 s.2.1 s.2.2.1 s.2.2.2.1 s.2.2.2.2.1 s.2.2.2.2.2.1 s.2.2.2.2.2.2.1 s.2.2.2.2.2.2.2.1 s.2.2.2.2.2.2.2.2.1 s.2.2.2.2.2.2.2.2.2.1 s.2.2.2.2.2.2.2.2.2.2.1 s.2.2.2.2.2.2.2.2.2.2.2.1 s.2.2.2.2.2.2.2.2.2.2.2.2 hI (fun b1 b2 b3 b4 b5 b6 b7 b8 b9 b10 b11 b12 b13 h9 hm => hk (b1, b2, b3, b4, b5, b6, b7, b8, b9, b10, b11, b12, b13) h9 hm)) (a1, a2, a3, a4, a5, a6, a7, a8, a9, a10, a11, a12, a13) h
theorem lp14 {A1 A2 A3 A4 A5 A6 A7 A8 A9 A10 A11 A12 A13 A14 : Type} (W : Nat → A1 → A2 → A3 → A4 → A5 → A6 → A7 → A8 → A9 → A10 → A11 → A12 → A13 → A14 → Prop) (I : A1 → A2 → A3 → A4 → A5 → A6 → A7 → A8 → A9 → A10 → A11 → A12 → A13 → A14 → Prop) (μ : A1 → A2 → A3 → A4 → A5 → A6 → A7 → A8 → A9 → A10 → A11 → A12 → A13 → A14 → Nat) (hs : ∀ (n : Nat) (a1 : A1) (a2 : A2) (a3 : A3) (a4 : A4) (a5 : A5) (a6 : A6) (a7 : A7) (a8 : A8) (a9 : A9) (a10 : A10) (a11 : A11) (a12 : A12) (a13 : A13) (a14 : A14), I a1 a2 a3 a4 a5 a6 a7 a8 a9 a10 a11 a12 a13 a14 → (∀ (b1 : A1) (b2 : A2) (b3 : A3) (b4 : A4) (b5 : A5) (b6 : A6) (b7 : A7) (b8 : A8) (b9 : A9) (b10 : A10) (b11 : A11) (b12 : A12) (b13 : A13) (b14 : A14), I b1 b2 b3 b4 b5 b6 b7 b8 b9 b10 b11 b12 b13 b14 → μ b1 b2 b3 b4 b5 b6 b7 b8 b9 b10 b11 b12 b13 b14 < μ a1 a2 a3 a4 a5 a6 a7 a8 a9 a10 a11 a12 a13 a14 → W n b1 b2 b3 b4 b5 b6 b7 b8 b9 b10 b11 b12 b13 b14) → W (n + 1) a1 a2 a3 a4 a5 a6 a7 a8 a9 a10 a11 a12 a13 a14) (a1 : A1) (a2 : A2) (a3 : A3) (a4 : A4) (a5 : A5) (a6 : A6) (a7 : A7) (a8 : A8) (a9 : A9) (a10 : A10) (a11 : A11) (a12 : A12) (a13 : A13) (a14 : A14) (h : I a1 a2 a3 a4 a5 a6 a7 a8 a9 a10 a11 a12 a13 a14) : ∃ n, W n a1 a2 a3 a4 a5 a6 a7 a8 a9 a10 a11 a12 a13 a14 :=
  loop_m (σ := A1 × A2 × A3 × A4 × A5 × A6 × A7 × A8 × A9 × A10 × A11 × A12 × A13 × A14) (fun n s => W n s.1 s.2.1 s.2.2.1 s.2.2.2.1 s.2.2.2.2.1 s.2.2.2.2.2.1 s.2.2.2.2.2.2.1 s.2.2.2.2.2.2.2.1 s.2.2.2.2.2.2.2.2.1 s.2.2.2.2.2.2.2.2.2.1 s.2.2.2.2.2.2.2.2.2.2.1 s.2.2.2.2.2.2.2.2.2.2.2.1 s.2.2.2.2.2.2.2.2.2.2.2.2.1 s.2.2.2.2.2.2.2.2.2.2.2.2.2) (fun s => I s.1 s.2.1 s.2.2.1 s.2.2.2.1 s.2.2.2.2.1 s.2.2.2.2.2.1 s.2.2.2.2.2.2.1 s.2.2.2.2.2.2.2.1 s.2.2.2.2.2.2.2.2.1 s.2.2.2.2.2.2.2.2.2.1 s.2.2.2.2.2.2.2.2.2.2.1 s.2.2.2.2.2.2.2.2.2.2.2.1 s.2.2.2.2.2.2.2.2.2.2.2.2.1 s.2.2.2.2.2.2.2.2.2.2.2.2.2) (fun s => μ s.1 s.2.1 s.2.2.1 s.2.2.2.1 s.2.2.2.2.1 s.2.2.2.2.2.1 s.2.2.2.2.2.2.1 s.2.2.2.2.2.2.2.1 s.2.2.2.2.2.2.2.2.1 s.2.2.2.2.2.2.2.2.2.1 s.2.2.2.2.2.2.2.2.2.2.1 s.2.2.2.2.2.2.2.2.2.2.2.1 s.2.2.2.2.2.2.2.2.2.2.2.2.1 s.2.2.2.2.2.2.2.2.2.2.2.2.2) (fun n s hI hk => hs n s.1 s.2.1 s.2.2.1 s.2.2.2.1 s.2.2.2.2.1 s.2.2.2.2.2.1 s.2.2.2.2.2.2.1 s.2.2.2.2.2.2.2.1 s.2.2.2.2.2.2.2.2.1 s.2.2.2.2.2.2.2.2.2.1 s.2.2.2.2.2.2.2.2.2.2.1 s.2.2.2.2.2.2.2.2.2.2.2.1 s.2.2.2.2.2.2.2.2.2.2.2.2.1 s.2.2.2.2.2.2.2.2.2.2.2.2.2 hI (fun b1 b2 b3 b4 b5 b6 b7 b8 b9 b10 b11 b12 b13 b14 h9 hm => hk (b1, b2, b3, b4, b5, b6, b7, b8, b9, b10, b11, b12, b13, b14) h9 hm)) (a1, a2, a3, a4, a5, a6, a7, a8, a9, a10, a11, a12, a13, a14) h
theorem lp15 {A1 A2 A3 A4 A5 A6 A7 A8 A9 A10 A11 A12 A13 A14 A15 : Type} (W : Nat → A1 → A2 → A3 → A4 → A5 → A6 → A7 → A8 → A9 → A10 → A11 → A12 → A13 → A14 → A15 → Prop) (I : A1 → A2 → A3 → A4 → A5 → A6 → A7 → A8 → A9 → A10 → A11 → A12 → A13 → A14 → A15 → Prop) (μ : A1 → A2 → A3 → A4 → A5 → A6 → A7 → A8 → A9 → A10 → A11 → A12 → A13 → A14 → A15 → Nat) (hs : ∀ (n : Nat) (a1 : A1) (a2 : A2) (a3 : A3) (a4 : A4) (a5 : A5) (a6 : A6) (a7 : A7) (a8 : A8) (a9 : A9) (a10 : A10) (a11 : A11) (a12 : A12) (a13 : A13) (a14 : A14) (a15 : A15), I a1 a2 a3 a4 a5 a6 a7 a8 a9 a10 a11 a12 a13 a14 a15 → (∀ (b1 : A1) (b2 : A2) (b3 : A3) (b4 : A4) (b5 : A5) (b6 : A6) (b7 : A7) (b8 : A8) (b9 : A9) (b10 : A10) (b11 : A11) (b12 : A12) (b13 : A13) (b14 : A14) (b15 : A15), I b1 b2 b3 b4 b5 b6 b7 b8 b9 b10 b11 b12 b13 b14 b15 → μ b1 b2 b3 b4 b5 b6 b7 b8 b9 b10 b11 b12 b13 b14 b15 < μ a1 a2 a3 a4 a5 a6 a7 a8 a9 a10 a11 a12 a13 a14 a15 → W n b1 b2 b3 b4 b5 b6 b7 b8 b9 b10 b11 b12 b13 b14 b15) → W (n + 1) a1 a2 a3 a4 a5 a6 a7 a8 a9 a10 a11 a12 a13 a14 a15) (a1 : A1) (a2 : A2) (a3 : A3) (a4 : A4) (a5 : A5) (a6 : A6) (a7 : A7) (a8 : A8) (a9 : A9) (a10 : A10) (a11 : A11) (a12 : A12) (a13 : A13) (a14 : A14) (a15 : A15) (h : I a1 a2 a3 a4 a5 a6 a7 a8 a9 a10 a11 a12 a13 a14 a15) : ∃ n, W n a1 a2 a3 a4 a5 a6 a7 a8 a9 a10 a11 a12 a13 a14 a15 :=
  loop_m (σ := A1 × A2 × A3 × A4 × A5 × A6 × A7 × A8 × A9 × A10 × A11 × A12 × A13 × A14 × A15) (fun n s => W n s.1 s.2.1 s.2.2.1 s.2.2.2.1 s.2.2.2.2.1 s.2.2.2.2.2.1 s.2.2.2.2.2.2.1 s.2.2.2.2.2.2.2.1 s.2.2.2.2.2.2.2.2.1 s.2.2.2.2.2.2.2.2.2.1 s.2.2.2.2.2.2.2.2.2.2.1 s.2.2.2.2.2.2.2.2.2.2.2.1 s.2.2.2.2.2.2.2.2.2.2.2.2.1 s.2.2.2.2.2.2.2.2.2.2.2.2.2.1 s.2.2.2.2.2.2.2.2.2.2.2.2.2.2) (fun s => I s.1 s.2.1 s.2.2.1 s.2.2.2.1 s.2.2.2.2.1 s.2.2.2.2.2.1 s.2.2.2.2.2.2.1 s.2.2.2.2.2.2.2.1 s.2.2.2.2.2.2.2.2.1 s.2.2.2.2.2.2.2.2.2.1 s.2.2.2.2.2.2.2.2.2.2.1 s.2.2.2.2.2.2.2.2.2.2.2.1 s.2.2.2.2.2.2.2.2.2.2.2.2.1 s.2.2.2.2.2.2.2.2.2.2.2.2.2.1 s.2.2.2.2.2.2.2.2.2.2.2.2.2.2) (fun s => μ s.1 s.2.1 s.2.2.1 s.2.2.2.1 s.2.2.2.2.1 s.2.2.2.2.2.1 s.2.2.2.2.2.2.1 s.2.2.2.2.2.2.2.1 s.2.2.2.2.2.2.2.2.1 s.2.2.2.2.2.2.2.2.2.1 s.2.2.2.2.2.2.2.2.2.2.1 s.2.2.2.2.2.2.2.2.2.2.2.1 s.2.2.2.2.2.2.2.2.2.2.2.2.1 s.2.2.2.2.2.2.2.2.2.2.2.2.2.1 s.2.2.2.2.2.2.2.2.2.2.2.2.2.2) (fun n s hI hk => hs n s.1 s.2.1 s.2.2.1 s.2.2.2.1 s.2.2.2.2.1 s.2.2.2.2.2.1 s.2.2.2.2.2.2.1 s.2.2.2.2.2.2.2.1 s.2.2.2.2.2.2.2.2.1 s.2.2.2.2.2.2.2.2.2.1 s.2.2.2.2.2.2.2.2.2.2.1 s.2.2.2.2.2.2.2.2.2.2.2.1 s.2.2.2.2.2.2.2.2.2.2.2.2.1 s.2.2.2.2.2.2.2.2.2.2.2.2.2.1 s.2.2.2.2.2.2.2.2.2.2.2.2.2.2 hI (fun b1 b2 b3 b4 b5 b6 b7 b8 b9 b10 b11 b12 b13 b14 b15 h9 hm => hk (b1, b2, b3, b4, b5, b6, b7, b8, b9, b10, b11, b12, b13, b14, b15) h9 hm)) (a1, a2, a3, a4, a5, a6, a7, a8, a9, a10, a11, a12, a13, a14, a15) h
theorem lp16 {A1 A2 A3 A4 A5 A6 A7 A8 A9 A10 A11 A12 A13 A14 A15 A16 : Type} (W : Nat → A1 → A2 → A3 → A4 → A5 → A6 → A7 → A8 → A9 → A10 → A11 → A12 → A13 → A14 → A15 → A16 → Prop) (I : A1 → A2 → A3 → A4 → A5 → A6 → A7 → A8 → A9 → A10 → A11 → A12 → A13 → A14 → A15 → A16 → Prop) (μ : A1 → A2 → A3 → A4 → A5 → A6 → A7 → A8 → A9 → A10 → A11 → A12 → A13 → A14 → A15 → A16 → Nat) (hs : ∀ (n : Nat) (a1 : A1) (a2 : A2) (a3 : A3) (a4 : A4) (a5 : A5) (a6 : A6) (a7 : A7) (a8 : A8) (a9 : A9) (a10 : A10) (a11 : A11) (a12 : A12) (a13 : A13) (a14 : A14) (a15 : A15) (a16 : A16), I a1 a2 a3 a4 a5 a6 a7 a8 a9 a10 a11 a12 a13 a14 a15 a16 → (∀ (b1 : A1) (b2 : A2) (b3 : A3) (b4 : A4) (b5 : A5) (b6 : A6) (b7 : A7) (b8 : A8) (b9 : A9) (b10 : A10) (b11 : A11) (b12 : A12) (b13 : A13) (b14 : A14) (b15 : A15) (b16 : A16), I b1 b2 b3 b4 b5 b6 b7 b8 b9 b10 b11 b12 b13 b14 b15 b16 → μ b1 b2 b3 b4 b5 b6 b7 b8 b9 b10 b11 b12 b13 b14 b15 b16 < μ a1 a2 a3 a4 a5 a6 a7 a8 a9 a10 a11 a12 a13 a14 a15 a16 → W n b1 b2 b3 b4 b5 b6 b7 b8 b9 b10 b11 b12 b13 b14 b15 b16) → W (n + 1) a1 a2 a3 a4 a5 a6 a7 a8 a9 a10 a11 a12 a13 a14 a15 a16) (a1 : A1) (a2 : A2) (a3 : A3) (a4 : A4) (a5 : A5) (a6 : A6) (a7 : A7) (a8 : A8) (a9 : A9) (a10 : A10) (a11 : A11) (a12 : A12) (a13 : A13) (a14 : A14) (a15 : A15) (a16 : A16) (h : I a1 a2 a3 a4 a5 a6 a7 a8 a9 a10 a11 a12 a13 a14 a15 a16) : ∃ n, W n a1 a2 a3 a4 a5 a6 a7 a8 a9 a10 a11 a12 a13 a14 a15 a16 :=
  loop_m (σ := A1 × A2 × A3 × A4 × A5 × A6 × A7 × A8 × A9 × A10 × A11 × A12 × A13 × A14 × A15 × A16) (fun n s => W n s.1 s.2.1 s.2.2.1 s.2.2.2.1 s.2.2.2.2.1 s.2.2.2.2.2.1 s.2.2.2.2.2.2.1 s.2.2.2.2.2.2.2.1 s.2.2.2.2.2.2.2.2.1 s.2.2.2.2.2.2.2.2.2.1 s.2.2.2.2.2.2.2.2.2.2.1 s.2.2.2.2.2.2.2.2.2.2.2.1 s.2.2.2.2.2.2.2.2.2.2.2.2.1 s.2.2.2.2.2.2.2.2.2.2.2.2.2.1 s.2.2.2.2.2.2.2.2.2.2.2.2.2.2.1 s.2.2.2.2.2.2.2.2.2.2.2.2.2.2.2) (fun s => I s.1 s.2.1 s.2.2.1 s.2.2.2.1 s.2.2.2.2.1 s.2.2.2.2.2.1 s.2.2.2.2.2.2.1 s.2.2.2.2.2.2.2.1 s.2.2.2.2.2.2.2.2.1 s.2.2.2.2.2.2.2.2.2.1 s.2.2.2.2.2.2.2.2.2.2.1 s.2.2.2.2.2.2.2.2.2.2.2.1 s.2.2.2.2.2.2.2.2.2.2.2.2.1 s.2.2.2.2.2.2.2.2.2.2.2.2.2.1 s.2.2.2.2.2.2.2.2.2.2.2.2.2.2.1 s.2.2.2.2.2.2.2.2.2.2.2.2.2.2.2) (fun s => μ s.1 s.2.1 s.2.2.1 s.2.2.2.1 s.2.2.2.2.1 s.2.2.2.2.2.1 s.2.2.2.2.2.2.1 s.2.2.2.2.2.2.2.1 s.2.2.2.2.2.2.2.2.1 s.2.2.2.2.2.2.2.2.2.1 s.2.2.2.2.2.2.2.2.2.2.1 s.2.2.2.2.2.2.2.2.2.2.2.1 s.2.2.2.2.2.2.2.2.2.2.2.2.1 s.2.2.2.2.2.2.2.2.2.2.2.2.2.1 s.2.2.2.2.2.2.2.2.2.2.2.2.2.2.1 s.2.2.2.2.2.2.2.2.2.2.2.2.2.2.2) (fun n s hI hk => hs n s.1 s.2.1 s.2.2.1 s.2.2.2.1 s.2.2.2.2.1 s.2.2.2.2.2.1 s.2.2.2.2.2.2.1 s.2.2.2.2.2.2.2.1 s.2.2.2.2.2.2.2.2.1 s.2.2.2.2.2.2.2.2.2.1 s.2.2.2.2.2.2.2.2.2.2.1 s.2.2.2.2.2.2.2.2.2.2.2.1 s.2.2.2.2.2.2.2.2.2.2.2.2.1 s.2.2.2.2.2.2.2.2.2.2.2.2.2.1 s.2.2.2.2.2.2.2.2.2.2.2.2.2.2.1 s.2.2.2.2.2.2.2.2.2.2.2.2.2.2.2 hI (fun b1 b2 b3 b4 b5 b6 b7 b8 b9 b10 b11 b12 b13 b14 b15 b16 h9 hm => hk (b1, b2, b3, b4, b5, b6, b7, b8, b9, b10, b11, b12, b13, b14, b15, b16) h9 hm)) (a1, a2, a3, a4, a5, a6, a7, a8, a9, a10, a11, a12, a13, a14, a15, a16) h
theorem pk_least (P : Nat → Prop) (h : ∃ k, P k) : ∃ k, P k ∧ ∀ j, j < k → ¬ P j := by
  obtain ⟨k, hk⟩ := h
  induction k using Nat.strongRecOn with
  | ind k ih =>
    by_cases e : ∃ j, j < k ∧ P j
    · obtain ⟨j, hj, pj⟩ := e
      exact ih j hj pj
    · exact ⟨k, hk, fun j hj pj => e ⟨j, hj, pj⟩⟩
theorem rp1 {ρ A1 : Type} (W : Nat → (ρ → Prop) → A1 → Prop) (ok : A1 → Prop) (μ : A1 → Nat) (val : A1 → ρ)
    (hs : ∀ (d : Nat) (post : ρ → Prop) (a1 : A1), ok a1 → post (val a1) → (∀ (post' : ρ → Prop) (b1 : A1), ok b1 → μ b1 < μ a1 → post' (val b1) → W d post' b1) → W (d + 1) post a1) :
    ∀ (d : Nat) (post : ρ → Prop) (a1 : A1), ok a1 → μ a1 < d → post (val a1) → W d post a1 := by
  intro d
  induction d with
  | zero => intro post a1 _ h; omega
  | succ d ih =>
    intro post a1 ho hm hp
    exact hs d post a1 ho hp (fun post' b1 ho' hm' hp' => ih post' b1 ho' (by omega) hp')
theorem rp2 {ρ A1 A2 : Type} (W : Nat → (ρ → Prop) → A1 → A2 → Prop) (ok : A1 → A2 → Prop) (μ : A1 → A2 → Nat) (val : A1 → A2 → ρ)
    (hs : ∀ (d : Nat) (post : ρ → Prop) (a1 : A1) (a2 : A2), ok a1 a2 → post (val a1 a2) → (∀ (post' : ρ → Prop) (b1 : A1) (b2 : A2), ok b1 b2 → μ b1 b2 < μ a1 a2 → post' (val b1 b2) → W d post' b1 b2) → W (d + 1) post a1 a2) :
    ∀ (d : Nat) (post : ρ → Prop) (a1 : A1) (a2 : A2), ok a1 a2 → μ a1 a2 < d → post (val a1 a2) → W d post a1 a2 := by
  intro d
  induction d with
  | zero => intro post a1 a2 _ h; omega
  | succ d ih =>
    intro post a1 a2 ho hm hp
    exact hs d post a1 a2 ho hp (fun post' b1 b2 ho' hm' hp' => ih post' b1 b2 ho' (by omega) hp')
theorem rp3 {ρ A1 A2 A3 : Type} (W : Nat → (ρ → Prop) → A1 → A2 → A3 → Prop) (ok : A1 → A2 → A3 → Prop) (μ : A1 → A2 → A3 → Nat) (val : A1 → A2 → A3 → ρ)
    (hs : ∀ (d : Nat) (post : ρ → Prop) (a1 : A1) (a2 : A2) (a3 : A3), ok a1 a2 a3 → post (val a1 a2 a3) → (∀ (post' : ρ → Prop) (b1 : A1) (b2 : A2) (b3 : A3), ok b1 b2 b3 → μ b1 b2 b3 < μ a1 a2 a3 → post' (val b1 b2 b3) → W d post' b1 b2 b3) → W (d + 1) post a1 a2 a3) :
    ∀ (d : Nat) (post : ρ → Prop) (a1 : A1) (a2 : A2) (a3 : A3), ok a1 a2 a3 → μ a1 a2 a3 < d → post (val a1 a2 a3) → W d post a1 a2 a3 := by
  intro d
  induction d with
  | zero => intro post a1 a2 a3 _ h; omega
  | succ d ih =>
    intro post a1 a2 a3 ho hm hp
    exact hs d post a1 a2 a3 ho hp (fun post' b1 b2 b3 ho' hm' hp' => ih post' b1 b2 b3 ho' (by omega) hp')
theorem rp4 {ρ A1 A2 A3 A4 : Type} (W : Nat → (ρ → Prop) → A1 → A2 → A3 → A4 → Prop) (ok : A1 → A2 → A3 → A4 → Prop) (μ : A1 → A2 → A3 → A4 → Nat) (val : A1 → A2 → A3 → A4 → ρ)
    (hs : ∀ (d : Nat) (post : ρ → Prop) (a1 : A1) (a2 : A2) (a3 : A3) (a4 : A4), ok a1 a2 a3 a4 → post (val a1 a2 a3 a4) → (∀ (post' : ρ → Prop) (b1 : A1) (b2 : A2) (b3 : A3) (b4 : A4), ok b1 b2 b3 b4 → μ b1 b2 b3 b4 < μ a1 a2 a3 a4 → post' (val b1 b2 b3 b4) → W d post' b1 b2 b3 b4) → W (d + 1) post a1 a2 a3 a4) :
    ∀ (d : Nat) (post : ρ → Prop) (a1 : A1) (a2 : A2) (a3 : A3) (a4 : A4), ok a1 a2 a3 a4 → μ a1 a2 a3 a4 < d → post (val a1 a2 a3 a4) → W d post a1 a2 a3 a4 := by
  intro d
  induction d with
  | zero => intro post a1 a2 a3 a4 _ h; omega
  | succ d ih =>
    intro post a1 a2 a3 a4 ho hm hp
    exact hs d post a1 a2 a3 a4 ho hp (fun post' b1 b2 b3 b4 ho' hm' hp' => ih post' b1 b2 b3 b4 ho' (by omega) hp')
theorem rp5 {ρ A1 A2 A3 A4 A5 : Type} (W : Nat → (ρ → Prop) → A1 → A2 → A3 → A4 → A5 → Prop) (ok : A1 → A2 → A3 → A4 → A5 → Prop) (μ : A1 → A2 → A3 → A4 → A5 → Nat) (val : A1 → A2 → A3 → A4 → A5 → ρ)
    (hs : ∀ (d : Nat) (post : ρ → Prop) (a1 : A1) (a2 : A2) (a3 : A3) (a4 : A4) (a5 : A5), ok a1 a2 a3 a4 a5 → post (val a1 a2 a3 a4 a5) → (∀ (post' : ρ → Prop) (b1 : A1) (b2 : A2) (b3 : A3) (b4 : A4) (b5 : A5), ok b1 b2 b3 b4 b5 → μ b1 b2 b3 b4 b5 < μ a1 a2 a3 a4 a5 → post' (val b1 b2 b3 b4 b5) → W d post' b1 b2 b3 b4 b5) → W (d + 1) post a1 a2 a3 a4 a5) :
    ∀ (d : Nat) (post : ρ → Prop) (a1 : A1) (a2 : A2) (a3 : A3) (a4 : A4) (a5 : A5), ok a1 a2 a3 a4 a5 → μ a1 a2 a3 a4 a5 < d → post (val a1 a2 a3 a4 a5) → W d post a1 a2 a3 a4 a5 := by
  intro d
  induction d with
  | zero => intro post a1 a2 a3 a4 a5 _ h; omega
  | succ d ih =>
    intro post a1 a2 a3 a4 a5 ho hm hp
    exact hs d post a1 a2 a3 a4 a5 ho hp (fun post' b1 b2 b3 b4 b5 ho' hm' hp' => ih post' b1 b2 b3 b4 b5 ho' (by omega) hp')
theorem rp6 {ρ A1 A2 A3 A4 A5 A6 : Type} (W : Nat → (ρ → Prop) → A1 → A2 → A3 → A4 → A5 → A6 → Prop) (ok : A1 → A2 → A3 → A4 → A5 → A6 → Prop) (μ : A1 → A2 → A3 → A4 → A5 → A6 → Nat) (val : A1 → A2 → A3 → A4 → A5 → A6 → ρ)
    (hs : ∀ (d : Nat) (post : ρ → Prop) (a1 : A1) (a2 : A2) (a3 : A3) (a4 : A4) (a5 : A5) (a6 : A6), ok a1 a2 a3 a4 a5 a6 → post (val a1 a2 a3 a4 a5 a6) → (∀ (post' : ρ → Prop) (b1 : A1) (b2 : A2) (b3 : A3) (b4 : A4) (b5 : A5) (b6 : A6), ok b1 b2 b3 b4 b5 b6 → μ b1 b2 b3 b4 b5 b6 < μ a1 a2 a3 a4 a5 a6 → post' (val b1 b2 b3 b4 b5 b6) → W d post' b1 b2 b3 b4 b5 b6) → W (d + 1) post a1 a2 a3 a4 a5 a6) :
    ∀ (d : Nat) (post : ρ → Prop) (a1 : A1) (a2 : A2) (a3 : A3) (a4 : A4) (a5 : A5) (a6 : A6), ok a1 a2 a3 a4 a5 a6 → μ a1 a2 a3 a4 a5 a6 < d → post (val a1 a2 a3 a4 a5 a6) → W d post a1 a2 a3 a4 a5 a6 := by
  intro d
  induction d with
  | zero => intro post a1 a2 a3 a4 a5 a6 _ h; omega
  | succ d ih =>
    intro post a1 a2 a3 a4 a5 a6 ho hm hp
    exact hs d post a1 a2 a3 a4 a5 a6 ho hp (fun post' b1 b2 b3 b4 b5 b6 ho' hm' hp' => ih post' b1 b2 b3 b4 b5 b6 ho' (by omega) hp')
theorem rec_p {σ ρ : Type} (W : Nat → (ρ → Prop) → σ → Prop) (ok : σ → Prop) (μ : σ → Nat) (val : σ → ρ)
    (hs : ∀ d s post, ok s → post (val s) → (∀ s' post', ok s' → μ s' < μ s → post' (val s') → W d post' s') → W (d + 1) post s) :
    ∀ d s post, ok s → μ s < d → post (val s) → W d post s := by
  intro d
  induction d with
  | zero => intro s post _ h; omega
  | succ d ih =>
    intro s post ho hm hp
    exact hs d s post ho hp (fun s' post' ho' hm' hp' => ih s' post' ho' (by omega) hp')
theorem rec_q {σ ρ : Type} (W : Nat → (ρ → Prop) → σ → Prop) (ok : σ → Prop) (μ : σ → Nat) (Q : σ → ρ → Prop)
    (hs : ∀ d s post, ok s → (∀ r, Q s r → post r) → (∀ s' post', ok s' → μ s' < μ s → (∀ r, Q s' r → post' r) → W d post' s') → W (d + 1) post s) :
    ∀ d s post, ok s → μ s < d → (∀ r, Q s r → post r) → W d post s := by
  intro d
  induction d with
  | zero => intro s post _ h; omega
  | succ d ih =>
    intro s post ho hm hp
    exact hs d s post ho hp (fun s' post' ho' hm' hp' => ih s' post' ho' (by omega) hp')
def bx_sum (f : Nat → Int32) : Nat → Int32
  | 0 => 0
  | n + 1 => bx_sum f n + f n
theorem ek_u {A : Prop} {B : Nat → Prop} {k N : Nat} (hk : k < N) (h : B k) : (some k = none → A) ∧ (∀ y : Nat, some k = some y → (y < N ∧ B y)) :=
  ⟨fun z => absurd z (Option.some_ne_none k), fun _ e => (by cases e; exact ⟨hk, h⟩)⟩
theorem ek_nu {A : Prop} {B : Nat → Prop} (h : A) : ((none : Option Nat) = none → A) ∧ (∀ y : Nat, (none : Option Nat) = some y → B y) :=
  ⟨fun _ => h, fun _ e => (by cases e)⟩
theorem ek_if {c d A B : Prop} (e : c ↔ d) (f : d → A) (g : ¬ d → B) : (c → A) ∧ (¬ c → B) :=
  ⟨fun z => f (e.mp z), fun z => g (fun y => z (e.mpr y))⟩
theorem ek_v {α : Sort _} {P : α → Prop} {a b : α} (e : a = b) (h : P b) : P a := e ▸ h
theorem co_some {x : Option Nat} {A : Prop} {B : Nat → Prop} (i : Nat) (h : B i) (hx : x = some i := by rfl) : (x = none → A) ∧ (∀ y : Nat, x = some y → B y) := by
  subst hx
  exact ⟨fun e => (nomatch e), fun y e => Option.some.inj e ▸ h⟩
theorem co_none {x : Option Nat} {A : Prop} {B : Nat → Prop} (h : A) (hx : x = none := by rfl) : (x = none → A) ∧ (∀ y : Nat, x = some y → B y) := by
  subst hx
  exact ⟨fun _ => h, fun y e => (nomatch e)⟩
theorem co_any {x : Option Nat} {A : Prop} {B : Nat → Prop} (hn : x = none → A) (hs : ∀ i : Nat, x = some i → B i) : (x = none → A) ∧ (∀ y : Nat, x = some y → B y) := ⟨hn, hs⟩
theorem co_2 {P : Nat → Prop} (h0 : P 0) (h1 : P 1) {i : Nat} (hi : i < 2) : P i :=
  match i, hi with
  | 0, _ => h0
  | 1, _ => h1
theorem co_3 {P : Nat → Prop} (h0 : P 0) (h1 : P 1) (h2 : P 2) {i : Nat} (hi : i < 3) : P i :=
  match i, hi with
  | 0, _ => h0
  | 1, _ => h1
  | 2, _ => h2
theorem co_4 {P : Nat → Prop} (h0 : P 0) (h1 : P 1) (h2 : P 2) (h3 : P 3) {i : Nat} (hi : i < 4) : P i :=
  match i, hi with
  | 0, _ => h0
  | 1, _ => h1
  | 2, _ => h2
  | 3, _ => h3
theorem co_dec {N : Nat} {P : Nat → Prop} [DecidablePred P] (h : (List.range N).all (fun i => decide (P i)) = true) {i : Nat} (hi : i < N) : P i := by
  have := List.all_eq_true.mp h i (List.mem_range.mpr hi)
  exact of_decide_eq_true this
theorem co_tab {α : Type} {l : List α} {d : α} {P : α → Prop} (h : ∀ a, a ∈ l → P a) {i : Nat} (hi : i < l.length) : P (l.getD i d) := by
  rw [List.getD_eq_getElem?_getD, List.getElem?_eq_getElem hi]
  exact h _ (List.getElem_mem hi)
theorem pk_mu {x : Int32} {L : Nat} (h0 : ¬ x < 0) (h : ¬ nI L ≤ x) (hL : L < 2 ^ 31) : ∃ j : Nat, j < L ∧ x = nI j ∧ x + 1 = nI (j + 1) ∧ x.toNatClampNeg = j ∧ L - (x + 1).toNatClampNeg < L - x.toNatClampNeg := by
  obtain ⟨j, hj, rfl⟩ := nI_of h0
  have hl : j < L := Nat.not_le.mp fun q => h (nI_le q hj)
  refine ⟨j, hl, rfl, nI_1 j, nI_clamp hj, ?_⟩
  rw [nI_1, nI_clamp (by omega), nI_clamp hj]
  omega
theorem op_s {α : Type} {r : Option α} {A : Prop} {B : α → Prop} {y : α} (h : r = some y) (b : B y) : (r = none → A) ∧ ∀ z, r = some z → B z :=
  ⟨fun e => (by rw [h] at e; cases e), fun z e => (by rw [h] at e; cases e; exact b)⟩
def l_holds {α : Type} (a : Nat → Option Nat) (LP : List Nat) (p : Nat → α) (c : Nat) (b : Nat → α) : Prop :=
  ∀ j, j < c → ∃ y, a j = some y ∧ y ∈ LP ∧ p y = b j
theorem l_holds_0 {α : Type} {a : Nat → Option Nat} {LP : List Nat} {p b : Nat → α} : l_holds a LP p 0 b := fun j h => absurd h (Nat.not_lt_zero j)
theorem l_in_new (LP : List Nat) (q : Nat) : q ∈ LP ++ [q] := List.mem_append.mpr (Or.inr (List.mem_singleton.mpr rfl))
def l_sum (b : Nat → Int32) : Nat → Int32
  | 0 => 0
  | k + 1 => l_sum b k + b k
theorem sb_shr0 (x : Int32) : x >>> ((0 : Int32) &&& 31) = x := by
  rw [show ((0 : Int32) &&& 31) = 0 by decide]
  simp
theorem sb_shl0 (x : Int32) : x <<< ((0 : Int32) &&& 31) = x := by
  rw [show ((0 : Int32) &&& 31) = 0 by decide]
  simp
theorem sb_cl0 : (0 : Int32).toNatClampNeg = 0 := by decide
theorem sb_m1 {p : Nat} (h : 0 < p) : nI p + (-1) = nI (p - 1) := by
  obtain ⟨q, rfl⟩ : ∃ q, p = q + 1 := ⟨p - 1, by omega⟩
  exact pk_m1 q
def sb_b (c : Nat) : Int32 := (nI c).toInt8.toInt32
theorem sb_byte : ∀ c, c < 256 → sb_b c &&& 255 = nI c ∧ ((nI c).toUInt32 % 65536).toInt32 = nI c ∧ nI c ≤ 255 := by decide +kernel
def sb_Fit (a : Nat → Int32) : Prop := ∀ j, fits .byte (.int (a j)) = true
def sb_Lat (t : Nat → Nat) (n : Nat) (a : Nat → Int32) : Prop := ∀ j, j < n → t j < 256 ∧ a j = sb_b (t j)
theorem sb_fitB (c : Nat) : fits .byte (.int (sb_b c)) = true := pk_fb _
theorem sb_fit0 : sb_Fit (fun _ => 0) := fun _ => by
  show fits .byte (.int 0) = true
  decide
theorem sb_fitU {a : Nat → Int32} {k : Nat} {x : Int32} (h : sb_Fit a) (hx : fits .byte (.int x) = true) : sb_Fit (upd a k x) := by
  intro j
  by_cases e : j = k
  · subst e
    rw [pk_us]
    exact hx
  · rw [pk_un e]
    exact h j
def sb_cat (t : Nat → Nat) (n : Nat) (s : Nat → Nat) : Nat → Nat := fun j => if j < n then t j else s (j - n)
theorem sb_cat_lo {t s : Nat → Nat} {n j : Nat} (h : j < n) : sb_cat t n s j = t j := if_pos h
theorem sb_cat_hi {t s : Nat → Nat} {n j : Nat} : sb_cat t n s (n + j) = s j := by
  show (if n + j < n then t (n + j) else s (n + j - n)) = s j
  rw [if_neg (by omega), Nat.add_sub_cancel_left]
theorem sb_latPut {t s : Nat → Nat} {n w : Nat} {a a' : Nat → Int32} (h : sb_Lat t n a) (hk : ∀ j, j < n → a' j = a j) (hs : ∀ i, i < w → s i < 256 ∧ a' (n + i) = sb_b (s i)) : sb_Lat (sb_cat t n s) (n + w) a' := by
  intro j hj
  by_cases e : j < n
  · rw [sb_cat_lo e, hk j e]
    exact h j e
  · obtain ⟨i, rfl⟩ : ∃ i, j = n + i := ⟨j - n, by omega⟩
    rw [sb_cat_hi]
    exact hs i (by omega)
theorem sb_latKeep {t : Nat → Nat} {n : Nat} {a a' : Nat → Int32} (h : sb_Lat t n a) (hk : ∀ j, j < n → a' j = a j) : sb_Lat t n a' := fun j hj => by
  rw [hk j hj]
  exact h j hj
def sb_cap (q m : Nat) : Nat := if q ≤ m then m else if 2 * m + 2 < q then q else 2 * m + 2
def sb_Room (q m mc ms : Nat) : Prop := q ≤ m ∨ (1 ≤ mc ∧ sb_cap q m ≤ ms ∧ sb_cap q m ≤ 65536)
theorem sb_cap_ge (q m : Nat) : q ≤ sb_cap q m := by
  unfold sb_cap
  split
  · omega
  · split <;> omega
theorem sb_cap_gem (q m : Nat) : m ≤ sb_cap q m := by
  unfold sb_cap
  split
  · omega
  · split <;> omega
theorem sb_cap_le {q m mc ms : Nat} (hm : m ≤ 65536) (hr : sb_Room q m mc ms) : sb_cap q m ≤ 65536 := by
  rcases hr with h | h
  · rw [sb_cap, if_pos h]
    exact hm
  · exact h.2.2
theorem sb_at {P : Int32 → Prop} {x y : Int32} (e : x = y) (h : P y) : P x := e ▸ h
def sb_dg (w : Nat) : Nat := if w < 10 then 1 else if w < 100 then 2 else if w < 1000 then 3 else if w < 10000 then 4 else if w < 100000 then 5 else if w < 1000000 then 6 else if w < 10000000 then 7 else if w < 100000000 then 8 else if w < 1000000000 then 9 else 10
def sb_dec (v : Nat) : Nat → Nat := fun i => 48 + v / 10 ^ (sb_dg v - 1 - i) % 10
theorem sb_dg_in (w : Nat) : 1 ≤ sb_dg w ∧ sb_dg w ≤ 10 := by
  unfold sb_dg
  constructor <;> (repeat' split) <;> omega
theorem sb_dg100 {w : Nat} (h : 100 ≤ w) (hw : w < 2 ^ 31) : sb_dg w = sb_dg (w / 100) + 2 := by
  rw [sb_dg, sb_dg, if_neg (show ¬ w < 10 by omega), if_neg (show ¬ w < 100 by omega)]
  by_cases h3 : w < 1000
  · rw [if_pos h3, if_pos (show w / 100 < 10 by omega)]
  rw [if_neg h3, if_neg (show ¬ w / 100 < 10 by omega)]
  by_cases h4 : w < 10000
  · rw [if_pos h4, if_pos (show w / 100 < 100 by omega)]
  rw [if_neg h4, if_neg (show ¬ w / 100 < 100 by omega)]
  by_cases h5 : w < 100000
  · rw [if_pos h5, if_pos (show w / 100 < 1000 by omega)]
  rw [if_neg h5, if_neg (show ¬ w / 100 < 1000 by omega)]
  by_cases h6 : w < 1000000
  · rw [if_pos h6, if_pos (show w / 100 < 10000 by omega)]
  rw [if_neg h6, if_neg (show ¬ w / 100 < 10000 by omega)]
  by_cases h7 : w < 10000000
  · rw [if_pos h7, if_pos (show w / 100 < 100000 by omega)]
  rw [if_neg h7, if_neg (show ¬ w / 100 < 100000 by omega)]
  by_cases h8 : w < 100000000
  · rw [if_pos h8, if_pos (show w / 100 < 1000000 by omega)]
  rw [if_neg h8, if_neg (show ¬ w / 100 < 1000000 by omega)]
  by_cases h9 : w < 1000000000
  · rw [if_pos h9, if_pos (show w / 100 < 10000000 by omega)]
  rw [if_neg h9, if_neg (show ¬ w / 100 < 10000000 by omega)]
  rw [if_pos (show w / 100 < 100000000 by omega)]
theorem sb_negT {w : Nat} (h : w < 2 ^ 31) : (-nI w).toInt = -(w : Int) := by
  rw [Int32.toInt_neg, nI_toInt h]
  exact Int.bmod_eq_of_le (by omega) (by omega)
theorem sb_nle {a b : Nat} (ha : a < 2 ^ 31) (hb : b < 2 ^ 31) : -nI a ≤ -nI b ↔ b ≤ a := by
  rw [Int32.le_iff_toInt_le, sb_negT ha, sb_negT hb]
  omega
theorem sb_nlt {a b : Nat} (ha : a < 2 ^ 31) (hb : b < 2 ^ 31) : -nI a < -nI b ↔ b < a := by
  rw [Int32.lt_iff_toInt_lt, sb_negT ha, sb_negT hb]
  omega
theorem sb_cmp {A B : Prop} {x : Int32} (v c : Nat) (f : c ≤ v → A) (g : v < c → B) (hv : v < 2 ^ 31) (hx : x = -nI c := by rfl) (hc : c < 2 ^ 31 := by omega) : (-nI v ≤ x → A) ∧ (¬ -nI v ≤ x → B) := by
  subst hx
  rw [sb_nle hv hc]
  exact ⟨f, fun z => g (by omega)⟩
theorem sb_ndiv {w : Nat} (hw : w < 2 ^ 31) : (-nI w) / 100 = -nI (w / 100) := by
  apply Int32.toInt_inj.mp
  have h100 : (100 : Int32).toInt = 100 := by decide
  rw [Int32.toInt_div, sb_negT hw, h100, sb_negT (by omega), Int.neg_tdiv, Int.tdiv_eq_ediv_of_nonneg (by omega), Int.bmod_eq_of_le (by omega) (by omega)]
  omega
theorem sb_nrem {w : Nat} (hw : w < 2 ^ 31) : (-nI (w / 100)) * 100 - (-nI w) = nI (w % 100) := by
  have h := pk_rem (a := w) (d := 100) hw (by decide) (by decide)
  rw [pk_div hw (by decide) (by decide)] at h
  rw [← h]
  show (-nI (w / 100)) * nI 100 - (-nI w) = nI w - nI (w / 100) * nI 100
  rw [Int32.neg_mul, Int32.sub_neg, Int32.add_comm, ← Int32.sub_eq_add_neg]
/-! rows on bits, shifts and unsigned numbers, to paste: each family out of a closed proof of our own, whole with what it rests on; each by itself clean at Lean in its own claim (generation 39, form 5). Take a family whole -/
/-! ===== Int32 by its bits: bt x i ===== -/
def bt (x : Int32) (i : Nat) : Bool := x.toBitVec.getLsbD i
theorem b_ext {x y : Int32} (h : ∀ i, i < 32 → bt x i = bt y i) : x = y := Int32.toBitVec_inj.mp (BitVec.eq_of_getLsbD_eq (fun i hi => h i hi))
theorem b_or (x y : Int32) (i : Nat) : bt (x ||| y) i = (bt x i || bt y i) := by unfold bt; rw [Int32.toBitVec_or, BitVec.getLsbD_or]
theorem b_and (x y : Int32) (i : Nat) : bt (x &&& y) i = (bt x i && bt y i) := by unfold bt; rw [Int32.toBitVec_and, BitVec.getLsbD_and]
theorem b_xor (x y : Int32) (i : Nat) : bt (x ^^^ y) i = (bt x i ^^ bt y i) := by unfold bt; rw [Int32.toBitVec_xor, BitVec.getLsbD_xor]
theorem b_big {x : Int32} {i : Nat} (h : 32 ≤ i) : bt x i = false := BitVec.getLsbD_of_ge _ _ h
theorem b_255 (i : Nat) : bt 255 i = decide (i < 8) := by
  rcases Nat.lt_or_ge i 32 with h | h
  · exact (by decide +kernel : ∀ i, i < 32 → bt 255 i = decide (i < 8)) i h
  · rw [b_big h, decide_eq_false (by omega)]
theorem b_65535 (i : Nat) : bt 65535 i = decide (i < 16) := by
  rcases Nat.lt_or_ge i 32 with h | h
  · exact (by decide +kernel : ∀ i, i < 32 → bt 65535 i = decide (i < 16)) i h
  · rw [b_big h, decide_eq_false (by omega)]
theorem b_m1 : ∀ i, i < 32 → bt (-1) i = true := by decide +kernel
theorem b_0 (i : Nat) : bt 0 i = false := BitVec.getLsbD_zero
theorem s_l : ∀ n, n < 32 → ((nI n &&& 31).toBitVec.smod 32).toNat = n := by decide +kernel
theorem s_u : ∀ n, n < 32 → (((nI n).toUInt32 &&& Int32.toUInt32 31).toBitVec % 32).toNat = n := by decide +kernel
theorem b_shl (n : Nat) (hn : n < 32) (x : Int32) {i : Nat} (hi : i < 32) : bt (x <<< (nI n &&& 31)) i = (decide (n ≤ i) && bt x (i - n)) := by
  unfold bt
  rw [Int32.toBitVec_shiftLeft]
  show (x.toBitVec <<< ((nI n &&& 31).toBitVec.smod 32).toNat).getLsbD i = _
  rw [s_l n hn, BitVec.getLsbD_shiftLeft]
  rcases Nat.lt_or_ge i n with h | h
  · simp [h, Nat.not_le.mpr h]
  · simp [hi, h, Nat.not_lt.mpr h]
theorem b_ushr (n : Nat) (hn : n < 32) (x : Int32) (i : Nat) : bt ((x.toUInt32 >>> ((nI n).toUInt32 &&& Int32.toUInt32 31)).toInt32) i = bt x (n + i) := by
  show (x.toUInt32 >>> ((nI n).toUInt32 &&& Int32.toUInt32 31)).toBitVec.getLsbD i = x.toUInt32.toBitVec.getLsbD (n + i)
  rw [UInt32.toBitVec_shiftRight]
  show (x.toUInt32.toBitVec >>> (((nI n).toUInt32 &&& Int32.toUInt32 31).toBitVec % 32).toNat).getLsbD i = _
  rw [s_u n hn, BitVec.getLsbD_ushiftRight]
theorem b_sshr (n : Nat) (hn : n < 32) (x : Int32) {i : Nat} (hi : i < 32) : bt (x >>> (nI n &&& 31)) i = if n + i < 32 then bt x (n + i) else bt x 31 := by
  unfold bt
  rw [Int32.toBitVec_shiftRight]
  show (x.toBitVec.sshiftRight ((nI n &&& 31).toBitVec.smod 32).toNat).getLsbD i = _
  rw [s_l n hn, BitVec.getLsbD_sshiftRight, BitVec.msb_eq_getLsbD_last]
  simp [hi]
theorem b_shl8 (x : Int32) {i : Nat} (hi : i < 32) : bt (x <<< ((8 : Int32) &&& 31)) i = (decide (8 ≤ i) && bt x (i - 8)) := b_shl 8 (by omega) x hi
theorem b_shl16 (x : Int32) {i : Nat} (hi : i < 32) : bt (x <<< ((16 : Int32) &&& 31)) i = (decide (16 ≤ i) && bt x (i - 16)) := b_shl 16 (by omega) x hi
theorem b_shl24 (x : Int32) {i : Nat} (hi : i < 32) : bt (x <<< ((24 : Int32) &&& 31)) i = (decide (24 ≤ i) && bt x (i - 24)) := b_shl 24 (by omega) x hi
theorem b_sshr8 (x : Int32) {i : Nat} (hi : i < 32) : bt (x >>> ((8 : Int32) &&& 31)) i = if 8 + i < 32 then bt x (8 + i) else bt x 31 := b_sshr 8 (by omega) x hi
/-! ===== nI under and, xor, >>>, one bit, 65535 ===== -/
theorem nx_and (a b : Nat) : nI a &&& nI b = nI (a &&& b) := by
  apply Int32.toBitVec_inj.1
  show BitVec.ofNat 32 a &&& BitVec.ofNat 32 b = BitVec.ofNat 32 (a &&& b)
  apply BitVec.eq_of_getLsbD_eq
  intro i hi
  simp [hi]
theorem nx_xor (a b : Nat) : nI a ^^^ nI b = nI (a ^^^ b) := by
  apply Int32.toBitVec_inj.1
  show BitVec.ofNat 32 a ^^^ BitVec.ofNat 32 b = BitVec.ofNat 32 (a ^^^ b)
  apply BitVec.eq_of_getLsbD_eq
  intro i hi
  simp [hi]
theorem nx_cnt : ∀ j : Fin 32, (UInt32.ofNat j.val &&& Int32.toUInt32 31).toNat % 32 = j.val := by decide +kernel
theorem nx_ush {k j : Nat} (hk : k < 65536) (hj : j < 32) : ((nI k).toUInt32 >>> ((nI j).toUInt32 &&& Int32.toUInt32 31)).toInt32 = nI (k >>> j) := by
  have hs : k >>> j ≤ k := by
    rw [Nat.shiftRight_eq_div_pow]
    exact Nat.div_le_self _ _
  have e2 : UInt32.ofNat k >>> (UInt32.ofNat j &&& Int32.toUInt32 31) = UInt32.ofNat (k >>> j) := by
    apply UInt32.toNat_inj.1
    have h1 : (UInt32.ofNat k).toNat = k := Nat.mod_eq_of_lt (by omega)
    have h2 : (UInt32.ofNat (k >>> j)).toNat = k >>> j := Nat.mod_eq_of_lt (by omega)
    rw [UInt32.toNat_shiftRight, nx_cnt ⟨j, hj⟩, h1, h2]
  show (UInt32.ofNat k >>> (UInt32.ofNat j &&& Int32.toUInt32 31)).toInt32 = _
  rw [e2]
  rfl
theorem nx_bit {k j : Nat} (hk : k < 65536) (hj : j < 16) : (((nI k).toUInt32 >>> ((nI j).toUInt32 &&& Int32.toUInt32 31)).toInt32 &&& 1) = 0 ↔ k.testBit j = false := by
  rw [nx_ush hk (by omega)]
  show nI (k >>> j) &&& nI 1 = 0 ↔ _
  rw [nx_and, Nat.and_one_is_mod, ← nI_0, nI_eq (by omega) (by omega), Nat.testBit_eq_decide_div_mod_eq, Nat.shiftRight_eq_div_pow, decide_eq_false_iff_not]
  generalize k / 2 ^ j = z
  omega
theorem nx_mod (k : Nat) : nI k &&& 65535 = nI (k % 65536) := by
  show nI k &&& nI 65535 = _
  rw [nx_and, show (65535 : Nat) = 2 ^ 16 - 1 from rfl, Nat.and_two_pow_sub_one_eq_mod]
theorem nx_m16 {k : Nat} (h : k < 65536) : nI k &&& 65535 = nI k := by rw [nx_mod, Nat.mod_eq_of_lt h]
theorem nx_mask (x : Int32) : ∃ k, k < 65536 ∧ x &&& 65535 = nI k := by
  have e : x = nI x.toBitVec.toNat := by
    apply Int32.toBitVec_inj.1
    show x.toBitVec = BitVec.ofNat 32 x.toBitVec.toNat
    simp
  refine ⟨x.toBitVec.toNat % 65536, Nat.mod_lt _ (by omega), ?_⟩
  rw [← nx_mod, ← e]
/-! ===== Int32 as a set of bits: test, set ===== -/
def nf_M (m : Int32) : Nat := 4294967296 - m.toBitVec.toNat
theorem nf_sh : ∀ l, l < 32 → ((1 : Int32) <<< (nI l &&& 31)).toBitVec = BitVec.twoPow 32 l := by decide +kernel
theorem nf_sl : ∀ l, l < 32 → (((nI l).toUInt32 &&& Int32.toUInt32 31).toBitVec % 32).toNat = l := by decide +kernel
theorem nf_tp : ∀ l, l < 32 → BitVec.twoPow 32 l ≠ 0#32 := by decide +kernel
theorem nf_bit (m : Int32) (l : Nat) (hl : l < 32) : ((m.toUInt32 >>> ((nI l).toUInt32 &&& Int32.toUInt32 31)).toInt32 &&& 1) = 0 ↔ (m &&& ((1 : Int32) <<< (nI l &&& 31))) = 0 := by
  have e : ((m.toUInt32 >>> ((nI l).toUInt32 &&& Int32.toUInt32 31)).toInt32).toBitVec = m.toBitVec >>> l := by
    show m.toBitVec >>> (((nI l).toUInt32 &&& Int32.toUInt32 31).toBitVec % 32) = m.toBitVec >>> l
    rw [BitVec.ushiftRight_eq', nf_sl l hl]
  rw [← Int32.toBitVec_inj, ← Int32.toBitVec_inj, Int32.toBitVec_and, Int32.toBitVec_and, nf_sh l hl, e, BitVec.and_twoPow]
  show (m.toBitVec >>> l &&& 1#32) = 0#32 ↔ _ = 0#32
  rw [BitVec.and_one_eq_setWidth_ofBool_getLsbD, BitVec.getLsbD_ushiftRight, Nat.add_zero]
  cases hb : m.toBitVec.getLsbD l
  · exact ⟨fun _ => by simp, fun _ => by decide⟩
  · exact ⟨fun z => absurd z (by decide), fun z => absurd ((if_pos rfl).symm.trans z) (nf_tp l hl)⟩
theorem nf_gr (m k : Int32) (h : m &&& k = 0) (hk : k ≠ 0) : nf_M (m ||| k) < nf_M m := by
  have hm := m.toBitVec.isLt
  have hm' := (m ||| k).toBitVec.isLt
  have h1 : m.toBitVec.toNat ≤ (m ||| k).toBitVec.toNat := by
    rw [Int32.toBitVec_or, BitVec.toNat_or]
    exact Nat.left_le_or
  have h2 : m.toBitVec.toNat ≠ (m ||| k).toBitVec.toNat := by
    intro e
    have e2 : m = m ||| k := Int32.toBitVec_inj.mp (BitVec.eq_of_toNat_eq e)
    apply hk
    apply Int32.toBitVec_inj.mp
    show k.toBitVec = 0#32
    apply BitVec.eq_of_getLsbD_eq
    intro i hi
    have a : m.toBitVec.getLsbD i = (m.toBitVec.getLsbD i || k.toBitVec.getLsbD i) := by rw [← BitVec.getLsbD_or, ← Int32.toBitVec_or, ← e2]
    have b : (m.toBitVec.getLsbD i && k.toBitVec.getLsbD i) = false := by
      rw [← BitVec.getLsbD_and, ← Int32.toBitVec_and, h]
      exact BitVec.getLsbD_zero
    rw [BitVec.getLsbD_zero]
    revert a b
    cases m.toBitVec.getLsbD i <;> cases k.toBitVec.getLsbD i <;> simp
  unfold nf_M
  omega
/-! ===== a byte read unsigned ===== -/
theorem bp_b (x : Int32) : x.toInt8.toInt32 &&& 255 = x &&& 255 := by
  apply Int32.toBitVec_inj.mp
  rw [Int32.toBitVec_and, Int32.toBitVec_and, Int8.toBitVec_toInt32, Int32.toBitVec_toInt8]
  apply BitVec.eq_of_getLsbD_eq
  intro i hi
  rw [BitVec.getLsbD_and, BitVec.getLsbD_and]
  have hm : ∀ i < 32, 8 ≤ i → (255 : Int32).toBitVec.getLsbD i = false := by decide
  rcases Nat.lt_or_ge i 8 with z | z
  · rw [BitVec.getLsbD_signExtend, BitVec.getLsbD_signExtend, if_pos z, if_pos hi]
    simp only [z, hi, decide_true, Bool.true_and]
  · rw [hm i hi z]; simp
/-! ===== the char cast and 65535 ===== -/
theorem em_w (v : Int32) : ∃ w : Nat, w < 65536 ∧ (v.toUInt32 % 65536).toInt32 = nI w ∧ v &&& 65535 = nI w := by
  have hr := lw_u16_r v
  have h0 : (0 : Int32).toInt = 0 := by decide
  obtain ⟨w, h1, h2⟩ := nI_of (x := lw_u16 v) (by rw [Int32.lt_iff_toInt_lt]; omega)
  have h3 : (v.toUInt32 % 65536).toInt32 = nI w := h2
  rw [h2, nI_toInt h1] at hr
  exact ⟨w, by omega, h3, by rw [← lg_i2c_mask, ← lg_i2c_nf, h3]⟩
/-! ===== Int64 as a set of bits: test, set, clear ===== -/
theorem ts_nf {x : Bool} (h : ¬ x = false) : x = true := by cases x <;> first | rfl | exact absurd rfl h
theorem ts_nt {x : Bool} (h : ¬ x = true) : x = false := by cases x <;> first | rfl | exact absurd rfl h
theorem ts_bit {w : Int64} {s : UInt64} {j : Nat} (hj : j < 64) (hs : s.toNat = j) : ((w.toUInt64 >>> s).toInt64 &&& 1) = 0 ↔ w.toBitVec.getLsbD j = false := by
  have e : (w.toUInt64 >>> s).toInt64.toBitVec = w.toBitVec >>> j := by
    apply BitVec.eq_of_toNat_eq
    show (w.toUInt64 >>> s).toNat = _
    rw [UInt64.toNat_shiftRight, hs, Nat.mod_eq_of_lt hj, BitVec.toNat_ushiftRight]
    rfl
  rw [← Int64.toBitVec_inj, Int64.toBitVec_and, e]
  show w.toBitVec >>> j &&& 1#64 = 0#64 ↔ _
  constructor
  · intro h
    have t := congrArg (fun x => x.getLsbD 0) h
    simpa using t
  · intro h
    apply BitVec.eq_of_getLsbD_eq
    intro i hi
    cases i with
    | zero => simp [h]
    | succ i => simp
theorem ts_or {w m : Int64} {j : Nat} (hj : j < 64) (hm : m.toBitVec = BitVec.twoPow 64 j) : (w ||| m) = w ↔ w.toBitVec.getLsbD j = true := by
  rw [← Int64.toBitVec_inj, Int64.toBitVec_or, hm]
  constructor
  · intro h
    have t := congrArg (fun x => x.getLsbD j) h
    simp only [BitVec.getLsbD_or, BitVec.getLsbD_twoPow] at t
    simpa [hj] using t.symm
  · intro h
    apply BitVec.eq_of_getLsbD_eq
    intro i hi
    rw [BitVec.getLsbD_or, BitVec.getLsbD_twoPow]
    by_cases e : j = i
    · subst e; rw [h, Bool.true_or]
    · simp [e]
theorem ts_and {w m : Int64} {j : Nat} (hj : j < 64) (hm : m.toBitVec = BitVec.twoPow 64 j) : (w &&& (m ^^^ (-1))) = w ↔ w.toBitVec.getLsbD j = false := by
  have ha : (-1 : Int64).toBitVec = BitVec.allOnes 64 := by decide
  rw [← Int64.toBitVec_inj, Int64.toBitVec_and, Int64.toBitVec_xor, hm, ha]
  constructor
  · intro h
    have t := congrArg (fun x => x.getLsbD j) h
    simp only [BitVec.getLsbD_and, BitVec.getLsbD_xor, BitVec.getLsbD_twoPow, BitVec.getLsbD_allOnes] at t
    simpa [hj] using t.symm
  · intro h
    apply BitVec.eq_of_getLsbD_eq
    intro i hi
    rw [BitVec.getLsbD_and, BitVec.getLsbD_xor, BitVec.getLsbD_twoPow, BitVec.getLsbD_allOnes]
    by_cases e : j = i
    · subst e; rw [h, Bool.false_and]
    · simp [e, hi]
/-! ===== lN n to 2^64: shifts, and, or, masks, one bit ===== -/
theorem wb_tb (n : Nat) : (lN n).toBitVec = BitVec.ofNat 64 n := rfl
theorem wb_inj {a b : Int64} (h : a.toBitVec = b.toBitVec) : a = b := Int64.toBitVec_inj.mp h
theorem wb_tn {n : Nat} (h : n < 2 ^ 64) : (lN n).toBitVec.toNat = n := by rw [wb_tb, BitVec.toNat_ofNat, Nat.mod_eq_of_lt h]
theorem wb_of (x : Int64) : ∃ n, n < 2 ^ 64 ∧ x = lN n := ⟨x.toBitVec.toNat, x.toBitVec.isLt, wb_inj (by rw [wb_tb]; simp)⟩
theorem wb_of32 (x : Int32) : ∃ n, n < 2 ^ 32 ∧ x = nI n := ⟨x.toBitVec.toNat, x.toBitVec.isLt, Int32.toBitVec_inj.mp (by show _ = BitVec.ofNat 32 _; simp)⟩
theorem wb_c : ∀ k, k < 64 → ((nI k).toInt64 &&& 63) = lN k := by decide +kernel
theorem wb_cu : ∀ k, k < 64 → ((nI k).toInt64.toUInt64 &&& Int64.toUInt64 63) = UInt64.ofNat k := by decide +kernel
theorem wb_sm : ∀ k, k < 64 → (BitVec.ofNat 64 k).smod 64 = BitVec.ofNat 64 k := by decide +kernel
theorem wb_pw {a b : Nat} (h : a ≤ b) : 2 ^ b = 2 ^ a * 2 ^ (b - a) := by rw [← Nat.pow_add]; congr 1; omega
theorem wb_lt2 {a b : Nat} (h : a < b) : 2 ^ a < 2 ^ b := Nat.pow_lt_pow_right (by decide) h
theorem wb_mod (n : Nat) : lN n = lN (n % 2 ^ 64) := wb_inj (by rw [wb_tb, wb_tb]; apply BitVec.eq_of_toNat_eq; rw [BitVec.toNat_ofNat, BitVec.toNat_ofNat, Nat.mod_mod])
theorem wb_shr {n k : Nat} (hn : n < 2 ^ 64) (hk : k < 64) : ((lN n).toUInt64 >>> ((nI k).toInt64.toUInt64 &&& Int64.toUInt64 63)).toInt64 = lN (n / 2 ^ k) := by
  rw [wb_cu k hk]
  apply wb_inj
  apply BitVec.eq_of_toNat_eq
  show ((lN n).toUInt64 >>> UInt64.ofNat k).toNat = (BitVec.ofNat 64 _).toNat
  have h1 : (UInt64.ofNat k).toNat = k := by
    show (BitVec.ofNat 64 k).toNat = k
    rw [BitVec.toNat_ofNat, Nat.mod_eq_of_lt (by omega)]
  have h2 : (lN n).toUInt64.toNat = n := wb_tn hn
  rw [UInt64.toNat_shiftRight, h1, h2, Nat.mod_eq_of_lt hk, Nat.shiftRight_eq_div_pow, BitVec.toNat_ofNat, Nat.mod_eq_of_lt (Nat.lt_of_le_of_lt (Nat.div_le_self _ _) hn)]
theorem wb_shl (n : Nat) {k : Nat} (hk : k < 64) : lN n <<< ((nI k).toInt64 &&& 63) = lN (n * 2 ^ k) := by
  rw [wb_c k hk]
  apply wb_inj
  rw [Int64.toBitVec_shiftLeft, wb_tb, wb_tb, wb_tb, wb_sm k hk]
  apply BitVec.eq_of_toNat_eq
  rw [BitVec.shiftLeft_eq', BitVec.toNat_shiftLeft, BitVec.toNat_ofNat, BitVec.toNat_ofNat, BitVec.toNat_ofNat, Nat.mod_eq_of_lt (show k < 2 ^ 64 by omega), Nat.shiftLeft_eq, Nat.mul_mod, Nat.mod_mod, ← Nat.mul_mod]
theorem wb_and {a b : Nat} (ha : a < 2 ^ 64) (hb : b < 2 ^ 64) : lN a &&& lN b = lN (a &&& b) := by
  apply wb_inj
  rw [Int64.toBitVec_and, wb_tb, wb_tb, wb_tb]
  apply BitVec.eq_of_toNat_eq
  rw [BitVec.toNat_and, BitVec.toNat_ofNat, BitVec.toNat_ofNat, BitVec.toNat_ofNat, Nat.mod_eq_of_lt ha, Nat.mod_eq_of_lt hb, Nat.mod_eq_of_lt (Nat.and_lt_two_pow _ hb)]
theorem wb_or {a b : Nat} (ha : a < 2 ^ 64) (hb : b < 2 ^ 64) : lN a ||| lN b = lN (a ||| b) := by
  apply wb_inj
  rw [Int64.toBitVec_or, wb_tb, wb_tb, wb_tb]
  apply BitVec.eq_of_toNat_eq
  rw [BitVec.toNat_or, BitVec.toNat_ofNat, BitVec.toNat_ofNat, BitVec.toNat_ofNat, Nat.mod_eq_of_lt ha, Nat.mod_eq_of_lt hb, Nat.mod_eq_of_lt (Nat.or_lt_two_pow ha hb)]
theorem wb_mask {n k : Nat} (hn : n < 2 ^ 64) (hk : k < 64) : lN n &&& lN (2 ^ k - 1) = lN (n % 2 ^ k) := by
  rw [wb_and hn (by have := wb_lt2 hk; omega), Nat.and_two_pow_sub_one_eq_mod]
theorem wb_a1 {n : Nat} (hn : n < 2 ^ 64) : lN n &&& 1 = lN (n % 2) := wb_mask (k := 1) hn (by decide)
theorem wb_bit {n k : Nat} (hn : n < 2 ^ 64) (hk : k < 64) : ((lN n).toUInt64 >>> ((nI k).toInt64.toUInt64 &&& Int64.toUInt64 63)).toInt64 &&& 1 = lN (n / 2 ^ k % 2) := by
  rw [wb_shr hn hk, wb_a1 (Nat.lt_of_le_of_lt (Nat.div_le_self _ _) hn)]
theorem wb_xor {q k : Nat} (hk : k < 63) (h : 2 ^ k ≤ q) (h2 : q < 2 ^ (k + 1)) : lN q ^^^ lN (2 ^ k) = lN (q - 2 ^ k) := by
  obtain ⟨r, rfl⟩ : ∃ r, q = 2 ^ k + r := ⟨q - 2 ^ k, by omega⟩
  have hr : r < 2 ^ k := by rw [Nat.pow_succ] at h2; omega
  have hx : (2 ^ k + r) ^^^ 2 ^ k = r := by
    apply Nat.eq_of_testBit_eq
    intro i
    rw [Nat.testBit_xor, Nat.testBit_two_pow]
    rcases Nat.lt_trichotomy i k with h | h | h
    · rw [Nat.testBit_two_pow_add_gt h]
      simp [show ¬ k = i by omega]
    · subst h
      rw [Nat.testBit_two_pow_add_eq]
      simp
    · have a1 : 2 ^ (k + 1) ≤ 2 ^ i := Nat.pow_le_pow_right (by decide) h
      rw [Nat.testBit_lt_two_pow (show 2 ^ k + r < 2 ^ i by omega), Nat.testBit_lt_two_pow (show r < 2 ^ i by omega)]
      simp [show ¬ k = i by omega]
  have b1 := wb_lt2 (show k + 1 < 64 by omega)
  have b2 := wb_lt2 (show k < 64 by omega)
  apply wb_inj
  rw [Int64.toBitVec_xor, wb_tb, wb_tb, wb_tb]
  apply BitVec.eq_of_toNat_eq
  rw [BitVec.toNat_xor, BitVec.toNat_ofNat, BitVec.toNat_ofNat, BitVec.toNat_ofNat, Nat.mod_eq_of_lt (by omega : 2 ^ k + r < 2 ^ 64), Nat.mod_eq_of_lt b2, hx, Nat.add_sub_cancel_left, Nat.mod_eq_of_lt (by omega)]
/-! ===== lN: masks, 'or' of parts that don't overlap is a sum ===== -/
theorem u_tn {n : Nat} (h : n < 2 ^ 64) : (UInt64.ofNat n).toNat = n := Nat.mod_eq_of_lt h
theorem g_and {a b c : Nat} (ha : a < 2 ^ 64) (hb : b < 2 ^ 64) (hc : a &&& b = c) : lN a &&& lN b = lN c := by
  subst hc
  have h : UInt64.ofNat a &&& UInt64.ofNat b = UInt64.ofNat (a &&& b) := UInt64.toNat_inj.mp (by rw [UInt64.toNat_and, u_tn ha, u_tn hb, u_tn (Nat.and_lt_two_pow a hb)])
  have h2 := congrArg UInt64.toInt64 h
  exact h2
theorem g_and1 {a : Nat} (ha : a < 2 ^ 64) : lN a &&& 1 = lN (a % 2) := g_and (b := 1) ha (by decide) (Nat.and_two_pow_sub_one_eq_mod a 1)
theorem g_mask {a s p : Nat} (hp : 2 ^ s = p) (hs : s < 64) (ha : a < 2 ^ 64) : lN a &&& lN (p - 1) = lN (a % p) := by
  subst hp
  have := Nat.pow_lt_pow_right (show 1 < 2 by decide) hs
  exact g_and ha (by omega) (Nat.and_two_pow_sub_one_eq_mod a s)
theorem g_or {k p a b : Nat} (hp : 2 ^ k = p) (ha : a < p) (h : b * p + a < 2 ^ 64) : lN (b * p) ||| lN a = lN (b * p + a) := by
  subst hp
  have h1 : b * 2 ^ k ||| a = b * 2 ^ k + a := by rw [← Nat.shiftLeft_eq, Nat.shiftLeft_add_eq_or_of_lt ha]
  have h3 : UInt64.ofNat (b * 2 ^ k) ||| UInt64.ofNat a = UInt64.ofNat (b * 2 ^ k + a) := UInt64.toNat_inj.mp (by rw [UInt64.toNat_or, u_tn (by omega), u_tn (by omega), u_tn h, h1])
  have h2 := congrArg UInt64.toInt64 h3
  exact h2
theorem g_or' {k p a b : Nat} (hp : 2 ^ k = p) (ha : a < p) (h : a + b * p < 2 ^ 64) : lN a ||| lN (b * p) = lN (a + b * p) := by
  rw [Int64.or_comm, g_or hp ha (by omega), Nat.add_comm]
theorem g_ushr {a k p : Nat} {y : UInt64} (hy : y = UInt64.ofNat k) (hk : k < 64) (hp : 2 ^ k = p) (ha : a < 2 ^ 64) : ((lN a).toUInt64 >>> y).toInt64 = lN (a / p) := by
  subst hy hp
  have h : UInt64.ofNat a >>> UInt64.ofNat k = UInt64.ofNat (a / 2 ^ k) := UInt64.toNat_inj.mp (by rw [UInt64.toNat_shiftRight, u_tn ha, u_tn (by omega), u_tn (Nat.lt_of_le_of_lt (Nat.div_le_self _ _) ha), Nat.mod_eq_of_lt hk, Nat.shiftRight_eq_div_pow])
  have h2 := congrArg UInt64.toInt64 h
  exact h2
theorem g_shl {a k p : Nat} {y : Int64} (hy : y.toBitVec.smod 64 = BitVec.ofNat 64 k) (hk : k < 64) (hp : 2 ^ k = p) (ha : a < 2 ^ 64) : lN a <<< y = lN (a * p) := by
  subst hp
  apply Int64.toBitVec_inj.mp
  rw [Int64.toBitVec_shiftLeft, hy]
  apply BitVec.eq_of_toNat_eq
  have hb : (lN a).toBitVec.toNat = a := Nat.mod_eq_of_lt ha
  have hk' : (BitVec.ofNat 64 k).toNat = k := Nat.mod_eq_of_lt (by omega)
  have h : ((lN a).toBitVec <<< BitVec.ofNat 64 k).toNat = (a * 2 ^ k) % 2 ^ 64 := by simp only [BitVec.shiftLeft_eq', BitVec.toNat_shiftLeft, hb, hk', Nat.shiftLeft_eq]
  exact h
/-! ===== lN to 2^62 under >> and >>> ===== -/
theorem pf_lI {a : Nat} (h : a < 2 ^ 63) : (lN a).toInt = (a : Int) := lg_ofNat_toInt h
theorem pf_shr {a d : Nat} {D : Int64} (hD : (D.toBitVec.smod 64).toNat = d) (h : a < 2 ^ 62) : lN a >>> D = lN (a / 2 ^ d) := by
  have hd : a / 2 ^ d ≤ a := Nat.div_le_self _ _
  apply Int64.toInt_inj.mp
  have e : (lN a >>> D).toInt = (lN a).toInt >>> d := by
    rw [← hD]
    exact BitVec.toInt_sshiftRight ..
  rw [e, Int.shiftRight_eq_div_pow, pf_lI (by omega), pf_lI (by omega)]
  rfl
theorem pf_ushr {a d : Nat} {D : UInt64} (hD : D.toNat % 64 = d) (h : a < 2 ^ 62) : ((lN a).toUInt64 >>> D).toInt64 = lN (a / 2 ^ d) := by
  have hd : a / 2 ^ d ≤ a := Nat.div_le_self _ _
  have e : (lN a).toUInt64 >>> D = UInt64.ofNat (a / 2 ^ d) := UInt64.toNat_inj.mp (by
    rw [UInt64.toNat_shiftRight, hD, Nat.shiftRight_eq_div_pow, UInt64.toNat_ofNat']
    show (UInt64.ofNat a).toNat / 2 ^ d = _
    rw [UInt64.toNat_ofNat', Nat.mod_eq_of_lt (by omega), Nat.mod_eq_of_lt (by omega)])
  rw [e]
  rfl
theorem pf_andw (x : Int64) : ∃ m, m < 2 ^ 32 ∧ x &&& 4294967295 = lN m := ⟨x.toBitVec.toNat % 2 ^ 32, Nat.mod_lt _ (by decide), Int64.toBitVec_inj.mp (BitVec.eq_of_toNat_eq (by
  show (x.toBitVec &&& 4294967295#64).toNat = (BitVec.ofNat 64 (x.toBitVec.toNat % 2 ^ 32)).toNat
  rw [BitVec.toNat_and, show (4294967295#64).toNat = 2 ^ 32 - 1 from by decide, Nat.and_two_pow_sub_one_eq_mod, BitVec.toNat_ofNat]
  omega))⟩
/-! ===== Int64 as an unsigned number: uN x ===== -/
def uN (x : Int64) : Nat := x.toUInt64.toNat
theorem uN_lt (x : Int64) : uN x < 18446744073709551616 := x.toUInt64.toNat_lt
theorem uN_inj {x y : Int64} (h : uN x = uN y) : x = y := congrArg UInt64.toInt64 (UInt64.toNat_inj.mp h)
theorem uN_add (x y : Int64) : uN (x + y) = (uN x + uN y) % 18446744073709551616 := by
  show (x.toUInt64 + y.toUInt64).toNat = _
  exact UInt64.toNat_add _ _
theorem uN_mul (x y : Int64) : uN (x * y) = (uN x * uN y) % 18446744073709551616 := by
  show (x.toUInt64 * y.toUInt64).toNat = _
  exact UInt64.toNat_mul _ _
theorem uN_shl (x : Int64) : uN (x <<< ((1 : Int32).toInt64 &&& 63)) = (2 * uN x) % 18446744073709551616 := by
  have h : (((1 : Int32).toInt64 &&& 63).toBitVec.smod 64).toNat = 1 := by decide
  show (x.toBitVec <<< (((1 : Int32).toInt64 &&& 63).toBitVec.smod 64).toNat).toNat = _
  rw [h, BitVec.toNat_shiftLeft, Nat.shiftLeft_eq, Nat.mul_comm]
  rfl
theorem uN_shr (x : Int64) (s : UInt64) : uN (x.toUInt64 >>> s).toInt64 = uN x / 2 ^ (s.toNat % 64) := by
  show (x.toUInt64 >>> s).toNat = _
  rw [UInt64.toNat_shiftRight, Nat.shiftRight_eq_div_pow]
  rfl
theorem uN_s32 (x : Int64) : uN (x.toUInt64 >>> ((32 : Int32).toInt64.toUInt64 &&& Int64.toUInt64 63)).toInt64 = uN x / 4294967296 := by
  have h : ((32 : Int32).toInt64.toUInt64 &&& Int64.toUInt64 63).toNat % 64 = 32 := by decide
  rw [uN_shr, h]
theorem uN_s63 (x : Int64) : uN (x.toUInt64 >>> ((63 : Int32).toInt64.toUInt64 &&& Int64.toUInt64 63)).toInt64 = uN x / 9223372036854775808 := by
  have h : ((63 : Int32).toInt64.toUInt64 &&& Int64.toUInt64 63).toNat % 64 = 63 := by decide
  rw [uN_shr, h]
theorem uN_lo (x : Int64) : uN (x &&& 4294967295) = uN x % 4294967296 := by
  show (x.toUInt64 &&& Int64.toUInt64 4294967295).toNat = _
  rw [UInt64.toNat_and]
  exact Nat.and_two_pow_sub_one_eq_mod _ 32
theorem uN_bit (x : Int64) : (x &&& 1) = 0 ↔ uN x % 2 = 0 := by
  have h : uN (x &&& 1) = uN x % 2 := by
    show (x.toUInt64 &&& Int64.toUInt64 1).toNat = _
    rw [UInt64.toNat_and]
    exact Nat.and_two_pow_sub_one_eq_mod _ 1
  rw [← h]
  exact ⟨fun z => by rw [z]; rfl, fun z => uN_inj (z.trans rfl)⟩
theorem uN_or {x y : Int64} (hy : uN y < 2) : uN ((x <<< ((1 : Int32).toInt64 &&& 63)) ||| y) = (2 * uN x) % 18446744073709551616 + uN y := by
  have h1 : uN ((x <<< ((1 : Int32).toInt64 &&& 63)) ||| y) = uN (x <<< ((1 : Int32).toInt64 &&& 63)) ||| uN y := UInt64.toNat_or _ _
  have h2 : (2 * uN x) % 18446744073709551616 = 2 ^ 1 * (uN x % 9223372036854775808) := by omega
  rw [h1, uN_shl, h2]
  exact (Nat.two_pow_add_eq_or_of_lt (i := 1) hy _).symm
theorem nat_xor {a : Nat} (h : a < 18446744073709551616) : a ^^^ 2 ^ 63 = (a + 9223372036854775808) % 18446744073709551616 := by
  have h1 : (a ^^^ 2 ^ 63) % 2 ^ 63 = a % 2 ^ 63 := by rw [Nat.xor_mod_two_pow, Nat.mod_self, Nat.xor_zero]
  have h2 : (a ^^^ 2 ^ 63) / 2 ^ 63 = (a / 2 ^ 63) ^^^ 1 := by rw [Nat.xor_div_two_pow, Nat.div_self (Nat.two_pow_pos 63)]
  have h3 : a / 2 ^ 63 = 0 ∨ a / 2 ^ 63 = 1 := by omega
  generalize a ^^^ 2 ^ 63 = t at h1 h2
  rcases h3 with h3 | h3
  · rw [h3] at h2
    have h2 : t / 2 ^ 63 = 1 := h2
    omega
  · rw [h3] at h2
    have h2 : t / 2 ^ 63 = 0 := h2
    omega
theorem uN_xor (x : Int64) : uN (x ^^^ (-9223372036854775808)) = (uN x + 9223372036854775808) % 18446744073709551616 := by
  rw [← nat_xor (uN_lt x)]
  exact UInt64.toNat_xor _ _
theorem uN_int (x : Int64) : x.toInt = if 2 * uN x < 18446744073709551616 then (uN x : Int) else (uN x : Int) - 18446744073709551616 := BitVec.toInt_eq_toNat_cond _
theorem uN_le (x y : Int64) : (x ^^^ (-9223372036854775808)) ≤ (y ^^^ (-9223372036854775808)) ↔ uN x ≤ uN y := by
  have hx := uN_lt x
  have hy := uN_lt y
  rw [Int64.le_iff_toInt_le, uN_int, uN_int, uN_xor, uN_xor]
  omega
theorem uN_sk (x : Int64) {k : Nat} (hk : k < 64) : uN (x.toUInt64 >>> ((nI k).toInt64.toUInt64 &&& Int64.toUInt64 63)).toInt64 = uN x / 2 ^ k := by
  have h : ((nI k).toInt64.toUInt64 &&& Int64.toUInt64 63).toNat % 64 = k := by
    rw [nI_l (by omega), UInt64.toNat_and]
    have e : (lN k).toUInt64.toNat = k % 2 ^ 64 := rfl
    have e2 : (Int64.toUInt64 63).toNat = 2 ^ 6 - 1 := by decide
    rw [e, e2, Nat.and_two_pow_sub_one_eq_mod]
    omega
  rw [uN_shr, h]
/-! ===== unsigned comparison by xor with the least ===== -/
theorem lN_bv (n : Nat) : (lN n).toBitVec = BitVec.ofNat 64 n := rfl
theorem lN_nat {n : Nat} (h : n < 2 ^ 64) : (lN n).toBitVec.toNat = n := by rw [lN_bv, BitVec.toNat_ofNat]; exact Nat.mod_eq_of_lt h
theorem lN_xor (a b : Nat) : lN a ^^^ lN b = lN (a ^^^ b) := by
  apply Int64.toBitVec_inj.mp; rw [Int64.toBitVec_xor, lN_bv, lN_bv, lN_bv]; apply BitVec.eq_of_getLsbD_eq; intro i hi; simp [BitVec.getLsbD_ofNat, Nat.testBit_xor, hi]
theorem lN_ti {m : Nat} (h : m < 2 ^ 64) : (lN m).toInt = if m < 2 ^ 63 then (m : Int) else (m : Int) - 2 ^ 64 := by
  have c := BitVec.toInt_eq_toNat_cond (lN m).toBitVec
  rw [lN_nat h] at c
  show (lN m).toBitVec.toInt = _
  rw [c]
  split <;> split <;> omega
theorem xor63 {x : Nat} (h : x < 2 ^ 63) : x ^^^ 2 ^ 63 = 2 ^ 63 + x := by
  apply Nat.eq_of_testBit_eq
  intro i
  rw [Nat.testBit_xor, Nat.testBit_two_pow]
  rcases Nat.lt_trichotomy i 63 with z | z | z
  · rw [Nat.testBit_two_pow_add_gt z, decide_eq_false (by omega)]; simp
  · subst z; rw [Nat.testBit_two_pow_add_eq]; simp
  · have hp : 2 ^ 64 ≤ 2 ^ i := Nat.pow_le_pow_right (by decide) z
    rw [Nat.testBit_lt_two_pow (show x < 2 ^ i by omega), Nat.testBit_lt_two_pow (show 2 ^ 63 + x < 2 ^ i by omega), decide_eq_false (by omega)]; rfl
theorem xorS {a : Nat} (h : a < 2 ^ 64) : (lN a ^^^ (-9223372036854775808)).toInt = (a : Int) - 2 ^ 63 := by
  rw [show (-9223372036854775808 : Int64) = lN (2 ^ 63) from by decide +kernel, lN_xor]
  rcases Nat.lt_or_ge a (2 ^ 63) with z | z
  · rw [xor63 z, lN_ti (by omega), if_neg (by omega)]; omega
  · obtain ⟨x, rfl⟩ : ∃ x, a = 2 ^ 63 + x := ⟨a - 2 ^ 63, by omega⟩
    rw [← xor63 (by omega), Nat.xor_assoc, Nat.xor_self, Nat.xor_zero, lN_ti (by omega), if_pos (by omega), xor63 (by omega)]; omega
theorem ultL {a b : Nat} (ha : a < 2 ^ 64) (hb : b < 2 ^ 64) : ((lN b ^^^ (-9223372036854775808)) ≤ (lN a ^^^ (-9223372036854775808))) ↔ b ≤ a := by
  rw [Int64.le_iff_toInt_le, xorS ha, xorS hb]; omega
/-! ===== Int64 masks of n low bits ===== -/
theorem cr_bits (W U M : BitVec 64) : ((W &&& U) &&& (U &&& (M ^^^ BitVec.allOnes 64))) = 0#64 ↔ (W &&& U) &&& M = W &&& U := by
  constructor
  · intro h
    apply BitVec.eq_of_getLsbD_eq
    intro i hi
    have e := congrArg (fun x => BitVec.getLsbD x i) h
    simp only [BitVec.getLsbD_and, BitVec.getLsbD_xor, BitVec.getLsbD_allOnes, BitVec.getLsbD_zero, hi, decide_true] at e ⊢
    revert e
    cases W.getLsbD i <;> cases U.getLsbD i <;> cases M.getLsbD i <;> decide
  · intro h
    apply BitVec.eq_of_getLsbD_eq
    intro i hi
    have e := congrArg (fun x => BitVec.getLsbD x i) h
    simp only [BitVec.getLsbD_and, BitVec.getLsbD_xor, BitVec.getLsbD_allOnes, BitVec.getLsbD_zero, hi, decide_true] at e ⊢
    revert e
    cases W.getLsbD i <;> cases U.getLsbD i <;> cases M.getLsbD i <;> decide
theorem cr_mask (w U m : Int64) (n : Nat) (hm : m.toBitVec.toNat = 2 ^ n - 1) : ((w &&& U) &&& (U &&& (m ^^^ (-1)))) = 0 ↔ (w &&& U).toBitVec.toNat < 2 ^ n := by
  have e0 : (-1 : Int64).toBitVec = BitVec.allOnes 64 := by decide
  have z0 : (0 : Int64).toBitVec = 0#64 := by decide
  rw [← Int64.toBitVec_inj, z0, Int64.toBitVec_and, Int64.toBitVec_and, Int64.toBitVec_and, Int64.toBitVec_xor, e0, cr_bits]
  generalize w.toBitVec &&& U.toBitVec = T
  rw [← BitVec.toNat_inj, BitVec.toNat_and, hm, Nat.and_two_pow_sub_one_eq_mod]
  constructor
  · intro h
    have t := Nat.mod_lt T.toNat (Nat.two_pow_pos n)
    rw [h] at t
    exact t
  · exact Nat.mod_eq_of_lt
theorem cr_shr (t : Int64) (x : UInt64) (n : Nat) (hx : x.toNat % 64 = n) : (t.toUInt64 >>> x).toInt64 = 0 ↔ t.toBitVec.toNat < 2 ^ n := by
  rw [← Int64.toBitVec_inj, ← BitVec.toNat_inj]
  show (t.toUInt64 >>> x).toNat = 0 ↔ t.toUInt64.toNat < 2 ^ n
  rw [UInt64.toNat_shiftRight, hx, Nat.shiftRight_eq_div_pow]
  constructor
  · intro h
    have d : t.toUInt64.toNat / 2 ^ n < 1 := by
      rw [h]
      decide
    have e := (Nat.div_lt_iff_lt_mul (Nat.two_pow_pos n)).mp d
    rw [Nat.one_mul] at e
    exact e
  · exact Nat.div_eq_of_lt
theorem cr_amt (s : Int64) : ∃ n, n < 64 ∧ s &&& 63 = lN n ∧ (s.toUInt64 &&& Int64.toUInt64 63).toNat % 64 = n := by
  have e : (s.toUInt64 &&& Int64.toUInt64 63).toNat = s.toUInt64.toNat % 2 ^ 6 := by
    rw [UInt64.toNat_and, show (Int64.toUInt64 63).toNat = 2 ^ 6 - 1 from by decide, Nat.and_two_pow_sub_one_eq_mod]
  refine ⟨s.toUInt64.toNat % 2 ^ 6, by omega, ?_, by omega⟩
  rw [← Int64.toBitVec_inj, ← BitVec.toNat_inj]
  show (s.toUInt64 &&& Int64.toUInt64 63).toNat = (BitVec.ofNat 64 (s.toUInt64.toNat % 2 ^ 6)).toNat
  rw [e, BitVec.toNat_ofNat]
  omega
end
section
/-! the pure graph: closed switches cl, ends A B, strengths S, sizes Z -/
/-- the numbers are within -/
def sn_G (A B S Z : Nat → Nat) : Prop :=
  (∀ k, k < 12 → A k < 11 ∧ B k < 11 ∧ 4 ≤ S k ∧ S k ≤ 6) ∧ (∀ n, n < 5 → Z n = 7) ∧ (∀ n, 5 ≤ n → n < 11 → 1 ≤ Z n ∧ Z n ≤ 3)
/-- a closed switch between p and q -/
def sn_On (cl : Nat → Bool) (A B : Nat → Nat) (p q k : Nat) : Prop :=
  ((A k = p ∧ B k = q) ∨ (A k = q ∧ B k = p)) ∧ cl k = true
/-- a closed switch of strength s from p to the store q -/
def sn_E (cl : Nat → Bool) (A B S : Nat → Nat) (p q s : Nat) : Prop :=
  ∃ k, k < 12 ∧ S k = s ∧ 5 ≤ q ∧ sn_On cl A B p q k
def sn_Pre (cl : Nat → Bool) (A B S Z : Nat → Nat) (P : Nat → Nat) : Prop :=
  (∀ n, n < 11 → Z n ≤ P n) ∧ ∀ p q s, sn_E cl A B S p q s → min (P p) s ≤ P q
def sn_LW (cl : Nat → Bool) (A B S Z : Nat → Nat) (w : Nat → Nat) : Prop :=
  sn_Pre cl A B S Z w ∧ ∀ P, sn_Pre cl A B S Z P → ∀ n, n < 11 → w n ≤ P n
def sn_Cl (cl : Nat → Bool) (A B S Z : Nat → Nat) (w : Nat → Nat) (Q : Nat → Nat → Prop) : Prop :=
  (∀ n, n < 11 → w n = Z n → Q n n) ∧ ∀ p q s m, sn_E cl A B S p q s → min (w p) s = w q → Q p m → Q q m
def sn_LR (cl : Nat → Bool) (A B S Z : Nat → Nat) (w : Nat → Nat) (R : Nat → Nat → Prop) : Prop :=
  sn_Cl cl A B S Z w R ∧ ∀ Q, sn_Cl cl A B S Z w Q → ∀ n m, n < 11 → R n m → Q n m
/-- the solution: the least weights, and the sets of roots as bits -/
def sn_Sol (cl : Nat → Bool) (A B S Z : Nat → Nat) (w : Nat → Nat) (rf : Nat → Int32) : Prop :=
  sn_LW cl A B S Z w ∧ (∀ n, n < 11 → ∀ i, bt (rf n) i = true → i < 11) ∧ sn_LR cl A B S Z w (fun n m => bt (rf n) m = true)
section
variable {cl : Nat → Bool} {A B S Z : Nat → Nat}
theorem sn_On_s {p q k : Nat} (h : sn_On cl A B p q k) : sn_On cl A B q p k := ⟨h.1.elim Or.inr Or.inl, h.2⟩
theorem sn_On_lt (g : sn_G A B S Z) {p q k : Nat} (hk : k < 12) (h : sn_On cl A B p q k) : p < 11 ∧ q < 11 := by
  have := g.1 k hk
  rcases h.1 with ⟨a, b⟩ | ⟨a, b⟩ <;> omega
theorem sn_E_lt (g : sn_G A B S Z) {p q s : Nat} (h : sn_E cl A B S p q s) : p < 11 ∧ 5 ≤ q ∧ q < 11 ∧ 4 ≤ s ∧ s ≤ 6 := by
  obtain ⟨k, hk, hs, h5, ho⟩ := h
  have h1 := sn_On_lt g hk ho
  have h2 := g.1 k hk
  omega
theorem sn_pre7 (g : sn_G A B S Z) : sn_Pre cl A B S Z (fun n => if n < 5 then 7 else 6) := by
  refine ⟨fun n hn => ?_, fun p q s h => ?_⟩
  · rcases Nat.lt_or_ge n 5 with z | z
    · have := g.2.1 n z; simp only [z, if_true]; omega
    · have := g.2.2 n z hn; simp only [Nat.not_lt.mpr z, if_false]; omega
  · have := sn_E_lt g h
    have h5 : ¬ q < 5 := by omega
    simp only [h5, if_false]
    omega
theorem sn_LW_b (g : sn_G A B S Z) {w : Nat → Nat} (h : ∀ P, sn_Pre cl A B S Z P → ∀ n, n < 11 → w n ≤ P n) : (∀ n, n < 11 → w n ≤ 7) ∧ (∀ n, 5 ≤ n → n < 11 → w n ≤ 6) := by
  have h1 := h _ (sn_pre7 g)
  refine ⟨fun n hn => ?_, fun n h5 hn => ?_⟩
  · have := h1 n hn
    by_cases z : n < 5
    · simp only [z, if_true] at this; exact this
    · simp only [z, if_false] at this; omega
  · have := h1 n hn
    have z : ¬ n < 5 := by omega
    simp only [z, if_false] at this; exact this
theorem sn_LW_u {w w' : Nat → Nat} (h : sn_LW cl A B S Z w) (h' : sn_LW cl A B S Z w') : ∀ n, n < 11 → w n = w' n :=
  fun n hn => Nat.le_antisymm (h.2 _ h'.1 n hn) (h'.2 _ h.1 n hn)
theorem sn_Cl_t (g : sn_G A B S Z) {w w' : Nat → Nat} (e : ∀ n, n < 11 → w n = w' n) {Q : Nat → Nat → Prop} (h : sn_Cl cl A B S Z w Q) : sn_Cl cl A B S Z w' Q := by
  refine ⟨fun n hn z => h.1 n hn ((e n hn).trans z), fun p q s m he z => h.2 p q s m he ?_⟩
  have := sn_E_lt g he
  rw [e p this.1, e q this.2.2.1]; exact z
theorem sn_LR_u (g : sn_G A B S Z) {w w' : Nat → Nat} (e : ∀ n, n < 11 → w n = w' n) {R R' : Nat → Nat → Prop} (h : sn_LR cl A B S Z w R) (h' : sn_LR cl A B S Z w' R') : ∀ n m, n < 11 → (R n m ↔ R' n m) :=
  fun n m hn => ⟨h.2 _ (sn_Cl_t g (fun n hn => (e n hn).symm) h'.1) n m hn, h'.2 _ (sn_Cl_t g e h.1) n m hn⟩
theorem sn_Sol_u (g : sn_G A B S Z) {w w' : Nat → Nat} {rf rf' : Nat → Int32} (h : sn_Sol cl A B S Z w rf) (h' : sn_Sol cl A B S Z w' rf') : ∀ n, n < 11 → w n = w' n ∧ rf n = rf' n := by
  have e := sn_LW_u h.1 h'.1
  intro n hn
  refine ⟨e n hn, b_ext fun i _ => ?_⟩
  have := sn_LR_u g e h.2.2 h'.2.2 n i hn
  revert this
  cases bt (rf n) i <;> cases bt (rf' n) i <;> simp
/-- there are least weights -/
theorem sn_LW_ex (g : sn_G A B S Z) : ∃ w, sn_LW cl A B S Z w := by
  have hx : ∀ n, ∃ v, (∃ P, sn_Pre cl A B S Z P ∧ P n = v) ∧ ∀ j, j < v → ¬ ∃ P, sn_Pre cl A B S Z P ∧ P n = j :=
    fun n => pk_least (fun v => ∃ P, sn_Pre cl A B S Z P ∧ P n = v) ⟨_, _, sn_pre7 g, rfl⟩
  have hc : ∃ w : Nat → Nat, ∀ n, (∃ P, sn_Pre cl A B S Z P ∧ P n = w n) ∧ ∀ j, j < w n → ¬ ∃ P, sn_Pre cl A B S Z P ∧ P n = j :=
    ⟨fun n => Classical.choose (hx n), fun n => Classical.choose_spec (hx n)⟩
  obtain ⟨w, hw⟩ := hc
  have hl : ∀ P, sn_Pre cl A B S Z P → ∀ n, w n ≤ P n := by
    intro P hP n
    rcases Nat.lt_or_ge (P n) (w n) with z | z
    · exact absurd ⟨P, hP, rfl⟩ ((hw n).2 _ z)
    · exact z
  refine ⟨w, ⟨fun n hn => ?_, fun p q s he => ?_⟩, fun P hP n _ => hl P hP n⟩
  · obtain ⟨P, hP, e⟩ := (hw n).1
    rw [← e]; exact hP.1 n hn
  · obtain ⟨P, hP, e⟩ := (hw q).1
    have h1 := hP.2 p q s he
    have h2 := hl P hP p
    rw [← e]
    omega
theorem sn_LR_ex (w : Nat → Nat) : sn_LR cl A B S Z w (fun n m => ∀ Q, sn_Cl cl A B S Z w Q → Q n m) :=
  ⟨⟨fun n hn z Q hQ => hQ.1 n hn z, fun p q s m he z h Q hQ => hQ.2 p q s m he z (h Q hQ)⟩, fun Q hQ n m _ h => h Q hQ⟩
/-- the roots of a node are nodes -/
theorem sn_LR_lt (g : sn_G A B S Z) {w : Nat → Nat} {R : Nat → Nat → Prop} (h : sn_LR cl A B S Z w R) : ∀ n m, n < 11 → R n m → m < 11 :=
  fun n m hn hr => h.2 (fun _ m => m < 11) ⟨fun n hn _ => hn, fun p q s m _ _ h => h⟩ n m hn hr
/-- each node has a root -/
theorem sn_ne {w : Nat → Nat} {R : Nat → Nat → Prop} (h : sn_LW cl A B S Z w) (hR : sn_Cl cl A B S Z w R) (g : sn_G A B S Z) : ∀ n, n < 11 → ∃ m, R n m := by
  have hb := sn_LW_b g h.2
  have key : ∀ d n, n < 11 → w n + d = 7 → ∃ m, R n m := by
    intro d
    induction d using Nat.strongRecOn with
    | ind d ih =>
      intro n hn hd
      classical
      refine Classical.byContradiction fun hno => ?_
      have hT : ∀ x, (x < 11 ∧ w x = w n ∧ ¬ ∃ m, R x m) → Z x < w n := by
        intro x hx
        have h1 := h.1.1 x hx.1
        rcases Nat.lt_or_ge (Z x) (w n) with z | z
        · exact z
        · exact absurd ⟨x, hR.1 x hx.1 (by omega)⟩ hx.2.2
      have hP : sn_Pre cl A B S Z (fun x => if x < 11 ∧ w x = w n ∧ ¬ ∃ m, R x m then w n - 1 else w x) := by
        refine ⟨fun x hx => ?_, fun p q s he => ?_⟩
        · by_cases c : x < 11 ∧ w x = w n ∧ ¬ ∃ m, R x m
          · have := hT x c
            simp only [c, and_self, not_false_eq_true, if_true]; omega
          · simp only [c, if_false]; exact h.1.1 x hx
        · have hl := sn_E_lt g he
          have hm := h.1.2 p q s he
          dsimp only
          by_cases c : q < 11 ∧ w q = w n ∧ ¬ ∃ m, R q m
          · rw [if_pos c]
            by_cases c' : p < 11 ∧ w p = w n ∧ ¬ ∃ m, R p m
            · rw [if_pos c']; omega
            · rw [if_neg c']
              rcases Nat.lt_or_ge (min (w p) s) (w n) with z | z
              · omega
              · exfalso
                have ht : min (w p) s = w q := by omega
                have hpn : ¬ ∃ m, R p m := fun ⟨m, hm⟩ => c.2.2 ⟨m, hR.2 p q s m he ht hm⟩
                have hwp : w n ≤ w p := by omega
                by_cases e : w p = w n
                · exact c' ⟨hl.1, e, hpn⟩
                · have := hb.1 p hl.1
                  exact hpn (ih (7 - w p) (by omega) p hl.1 (by omega))
          · rw [if_neg c]
            by_cases c' : p < 11 ∧ w p = w n ∧ ¬ ∃ m, R p m
            · rw [if_pos c']; have := c'.2.1; omega
            · rw [if_neg c']; exact hm
      have h1 := h.2 _ hP n hn
      have c : n < 11 ∧ w n = w n ∧ ¬ ∃ m, R n m := ⟨hn, rfl, hno⟩
      have h2 := hT n c
      rw [if_pos c] at h1
      omega
  intro n hn
  have := hb.1 n hn
  exact key (7 - w n) n hn (by omega)
/-- an input has itself as its only root, and the weight 7 -/
theorem sn_inp (g : sn_G A B S Z) {w : Nat → Nat} {R : Nat → Nat → Prop} (h : sn_LW cl A B S Z w) (hR : sn_LR cl A B S Z w R) : ∀ n, n < 5 → w n = 7 ∧ ∀ m, (R n m ↔ m = n) := by
  intro n hn
  have hb := (sn_LW_b g h.2).1 n (by omega)
  have hz := h.1.1 n (by omega)
  have h7 := g.2.1 n hn
  have e : w n = 7 := by omega
  refine ⟨e, fun m => ⟨fun hr => ?_, fun z => z ▸ hR.1.1 n (by omega) (by omega)⟩⟩
  have h1 := hR.2 (fun n m => n < 5 → m = n) ⟨fun n _ _ _ => rfl, fun p q s m he _ _ hq => by have := sn_E_lt g he; omega⟩ n m (by omega) hr
  exact h1 hn
end
end
section
/-! the ways of the reference, the last node first -/
/-- the strongest closed switch between p and q among the first k; 0: none -/
def sn_bw (cl : Nat → Bool) (A B S : Nat → Nat) (p q : Nat) : Nat → Nat
  | 0 => 0
  | k + 1 => if ((A k = p ∧ B k = q) ∨ (A k = q ∧ B k = p)) ∧ cl k = true ∧ sn_bw cl A B S p q k < S k then S k else sn_bw cl A B S p q k
def sn_b (cl : Nat → Bool) (A B S : Nat → Nat) (p q : Nat) : Nat := sn_bw cl A B S p q 12
def sn_Way (cl : Nat → Bool) (A B S : Nat → Nat) : List Nat → Prop
  | [] => False
  | [r] => r < 11
  | q :: p :: l => 5 ≤ q ∧ q < 11 ∧ q ∉ (p :: l) ∧ 0 < sn_b cl A B S p q ∧ sn_Way cl A B S (p :: l)
def sn_up (cl : Nat → Bool) (A B S Z : Nat → Nat) : List Nat → Nat
  | [] => 7
  | [r] => Z r
  | q :: p :: l => min (sn_b cl A B S p q) (sn_up cl A B S Z (p :: l))
def sn_Fi (cl : Nat → Bool) (A B S Z : Nat → Nat) (w : Nat → Nat) : List Nat → Prop
  | [] => True
  | q :: l => sn_Fi cl A B S Z w l ∧ sn_up cl A B S Z (q :: l) = w q
def sn_hd : List Nat → Nat
  | [] => 0
  | q :: _ => q
def sn_rt : List Nat → Nat
  | [] => 0
  | [r] => r
  | _ :: p :: l => sn_rt (p :: l)
/-- the ways that are still to come when l is to be made longer by a node from t on -/
def sn_Pd : List Nat → Nat → List Nat → Prop
  | [], t, z => ∃ x, t ≤ x ∧ [x] <:+ z
  | p :: l, t, z => (∃ x, t ≤ x ∧ (x :: p :: l) <:+ z) ∨ sn_Pd l (p + 1) z
def sn_mu : List Nat → Nat → Nat
  | [], t => (11 - t) * 12 ^ 11
  | p :: l, t => (11 - t) * 12 ^ (11 - (l.length + 1)) + sn_mu l (p + 1)
section
variable {cl : Nat → Bool} {A B S Z : Nat → Nat}
theorem sn_bw_le {p q k : Nat} : ∀ K, k < K → sn_On cl A B p q k → S k ≤ sn_bw cl A B S p q K := by
  intro K
  induction K with
  | zero => intro h; omega
  | succ K ih =>
    intro h ho
    show S k ≤ if ((A K = p ∧ B K = q) ∨ (A K = q ∧ B K = p)) ∧ cl K = true ∧ sn_bw cl A B S p q K < S K then S K else sn_bw cl A B S p q K
    by_cases e : k = K
    · subst e
      by_cases c : sn_bw cl A B S p q k < S k
      · rw [if_pos ⟨ho.1, ho.2, c⟩]; exact Nat.le_refl _
      · rw [if_neg (fun z => c z.2.2)]; omega
    · have := ih (by omega) ho
      by_cases c : ((A K = p ∧ B K = q) ∨ (A K = q ∧ B K = p)) ∧ cl K = true ∧ sn_bw cl A B S p q K < S K
      · rw [if_pos c]; have := c.2.2; omega
      · rw [if_neg c]; exact this
theorem sn_bw_ex {p q : Nat} : ∀ K, sn_bw cl A B S p q K = 0 ∨ ∃ k, k < K ∧ sn_On cl A B p q k ∧ S k = sn_bw cl A B S p q K := by
  intro K
  induction K with
  | zero => exact Or.inl rfl
  | succ K ih =>
    by_cases c : ((A K = p ∧ B K = q) ∨ (A K = q ∧ B K = p)) ∧ cl K = true ∧ sn_bw cl A B S p q K < S K
    · have e : sn_bw cl A B S p q (K + 1) = S K := if_pos c
      rw [e]
      exact Or.inr ⟨K, by omega, ⟨c.1, c.2.1⟩, rfl⟩
    · have e : sn_bw cl A B S p q (K + 1) = sn_bw cl A B S p q K := if_neg c
      rw [e]
      rcases ih with h | ⟨k, hk, h⟩
      · exact Or.inl h
      · exact Or.inr ⟨k, by omega, h⟩
theorem sn_bw_6 (g : sn_G A B S Z) (p q : Nat) : ∀ K, K ≤ 12 → sn_bw cl A B S p q K ≤ 6 := by
  intro K hK
  rcases sn_bw_ex (cl := cl) (A := A) (B := B) (S := S) (p := p) (q := q) K with h | ⟨k, hk, _, e⟩
  · omega
  · have := g.1 k (by omega); omega
theorem sn_b_6 (g : sn_G A B S Z) (p q : Nat) : sn_b cl A B S p q ≤ 6 := sn_bw_6 g p q 12 (Nat.le_refl _)
theorem sn_b_le {p q s : Nat} (h : sn_E cl A B S p q s) : s ≤ sn_b cl A B S p q := by
  obtain ⟨k, hk, hs, _, ho⟩ := h
  rw [← hs]; exact sn_bw_le 12 hk ho
theorem sn_b_E {p q : Nat} (h : 0 < sn_b cl A B S p q) (h5 : 5 ≤ q) : sn_E cl A B S p q (sn_b cl A B S p q) := by
  rcases sn_bw_ex (cl := cl) (A := A) (B := B) (S := S) (p := p) (q := q) 12 with z | ⟨k, hk, ho, e⟩
  · have : sn_b cl A B S p q = 0 := z
    omega
  · exact ⟨k, hk, e, h5, ho⟩
/-- a switch is closed between p and q -/
theorem sn_b_on (g : sn_G A B S Z) {p q : Nat} : 0 < sn_b cl A B S p q ↔ ∃ k, k < 12 ∧ sn_On cl A B p q k := by
  constructor
  · intro h
    rcases sn_bw_ex (cl := cl) (A := A) (B := B) (S := S) (p := p) (q := q) 12 with z | ⟨k, hk, ho, e⟩
    · have : sn_b cl A B S p q = 0 := z
      omega
    · exact ⟨k, hk, ho⟩
  · intro ⟨k, hk, ho⟩
    have h1 : S k ≤ sn_b cl A B S p q := sn_bw_le 12 hk ho
    have := g.1 k hk
    omega
theorem sn_way_ne {z : List Nat} (h : sn_Way cl A B S z) : z ≠ [] := fun e => by subst e; exact h
theorem sn_way_tl {q p : Nat} {l : List Nat} (h : sn_Way cl A B S (q :: p :: l)) : sn_Way cl A B S (p :: l) := h.2.2.2.2
theorem sn_way_suf {x : Nat} {l : List Nat} : ∀ z, sn_Way cl A B S z → (x :: l) <:+ z → sn_Way cl A B S (x :: l)
  | [], h, _ => h.elim
  | [r], h, hs => by
    rcases List.suffix_cons_iff.mp hs with e | e
    · rw [e]; exact h
    · have := List.suffix_nil.mp e; cases this
  | q :: p :: z, h, hs => by
    rcases List.suffix_cons_iff.mp hs with e | e
    · rw [e]; exact h
    · exact sn_way_suf (p :: z) (sn_way_tl h) e
theorem sn_way_nd : ∀ z, sn_Way cl A B S z → z.Nodup ∧ ∀ x, x ∈ z → x < 11
  | [], h => h.elim
  | [r], h => ⟨List.nodup_cons.mpr ⟨by simp, List.nodup_nil⟩, fun x hx => by have e := List.mem_singleton.mp hx; subst e; exact h⟩
  | q :: p :: l, h => by
    have ih := sn_way_nd (p :: l) (sn_way_tl h)
    refine ⟨List.nodup_cons.mpr ⟨h.2.2.1, ih.1⟩, fun x hx => ?_⟩
    rcases List.mem_cons.mp hx with e | e
    · rw [e]; exact h.2.1
    · exact ih.2 x e
theorem sn_way_len {z : List Nat} (h : sn_Way cl A B S z) : z.length ≤ 11 := by
  have h1 := sn_way_nd z h
  have h2 := List.Nodup.length_le_of_subset (l₂ := List.range 11) h1.1 (fun x hx => List.mem_range.mpr (h1.2 x hx))
  rw [List.length_range] at h2
  exact h2
theorem sn_suf_of {q : Nat} {l : List Nat} (h : q ∈ l) : ∃ l2, (q :: l2) <:+ l := by
  obtain ⟨s, t, e⟩ := List.append_of_mem h
  exact ⟨t, s, e.symm⟩
theorem sn_up_suf {x : Nat} {l : List Nat} : ∀ z, (x :: l) <:+ z → sn_up cl A B S Z z ≤ sn_up cl A B S Z (x :: l)
  | [], hs => by have := List.suffix_nil.mp hs; cases this
  | [r], hs => by
    rcases List.suffix_cons_iff.mp hs with e | e
    · rw [e]; exact Nat.le_refl _
    · have := List.suffix_nil.mp e; cases this
  | q :: p :: z, hs => by
    rcases List.suffix_cons_iff.mp hs with e | e
    · rw [e]; exact Nat.le_refl _
    · exact Nat.le_trans (Nat.min_le_right _ _) (sn_up_suf (p :: z) e)
theorem sn_fi_suf {w : Nat → Nat} {x : Nat} {l : List Nat} : ∀ z, sn_Fi cl A B S Z w z → (x :: l) <:+ z → sn_Fi cl A B S Z w (x :: l)
  | [], _, hs => by have := List.suffix_nil.mp hs; cases this
  | q :: z, h, hs => by
    rcases List.suffix_cons_iff.mp hs with e | e
    · rw [e]; exact h
    · exact sn_fi_suf z h.1 e
theorem sn_rt_suf {x : Nat} {l : List Nat} : ∀ z, (x :: l) <:+ z → sn_rt (x :: l) = sn_rt z
  | [], hs => by have := List.suffix_nil.mp hs; cases this
  | [r], hs => by
    rcases List.suffix_cons_iff.mp hs with e | e
    · rw [e]
    · have := List.suffix_nil.mp e; cases this
  | q :: p :: z, hs => by
    rcases List.suffix_cons_iff.mp hs with e | e
    · rw [e]
    · exact sn_rt_suf (p :: z) e
theorem sn_up_7 (g : sn_G A B S Z) : ∀ z, sn_Way cl A B S z → sn_up cl A B S Z z ≤ 7
  | [], h => h.elim
  | [r], h => by
    show Z r ≤ 7
    have h' : r < 11 := h
    rcases Nat.lt_or_ge r 5 with c | c
    · have := g.2.1 r c; omega
    · have := g.2.2 r c h'; omega
  | q :: p :: l, h => Nat.le_trans (Nat.min_le_right _ _) (sn_up_7 g (p :: l) (sn_way_tl h))
theorem sn_way_x {p q s : Nat} {l : List Nat} (g : sn_G A B S Z) (h : sn_Way cl A B S (p :: l)) (he : sn_E cl A B S p q s) (hq : q ∉ p :: l) : sn_Way cl A B S (q :: p :: l) := by
  have h1 := sn_E_lt g he
  have h2 := sn_b_le he
  exact ⟨h1.2.1, h1.2.2.1, hq, by omega, h⟩
theorem sn_up_P {P : Nat → Nat} (hP : sn_Pre cl A B S Z P) : ∀ z, sn_Way cl A B S z → sn_up cl A B S Z z ≤ P (sn_hd z)
  | [], h => h.elim
  | [r], h => hP.1 r h
  | q :: p :: l, h => by
    have ih : sn_up cl A B S Z (p :: l) ≤ P p := sn_up_P hP (p :: l) (sn_way_tl h)
    have h1 := hP.2 p q _ (sn_b_E h.2.2.2.1 h.1)
    show min (sn_b cl A B S p q) (sn_up cl A B S Z (p :: l)) ≤ P q
    omega
/-- the greatest numbers over all ways are the least weights -/
theorem sn_wayLW (g : sn_G A B S Z) {w : Nat → Nat} (h1 : ∀ z, sn_Way cl A B S z → sn_up cl A B S Z z ≤ w (sn_hd z)) (h2 : ∀ n, n < 11 → w n = 0 ∨ ∃ z, sn_Way cl A B S z ∧ sn_hd z = n ∧ sn_up cl A B S Z z = w n) : sn_LW cl A B S Z w := by
  refine ⟨⟨fun n hn => h1 [n] hn, fun p q s he => ?_⟩, fun P hP n hn => ?_⟩
  · have hl := sn_E_lt g he
    rcases h2 p hl.1 with e | ⟨z, hz, hh, hu⟩
    · omega
    · match z, hz, hh, hu with
      | [], hz, _, _ => exact hz.elim
      | x :: l, hz, hh, hu =>
        have e : x = p := hh
        subst e
        by_cases hq : q ∈ x :: l
        · obtain ⟨l2, hs⟩ := sn_suf_of hq
          have a := h1 _ (sn_way_suf _ hz hs)
          have b := sn_up_suf (cl := cl) (A := A) (B := B) (S := S) (Z := Z) _ hs
          have a' : sn_up cl A B S Z (q :: l2) ≤ w q := a
          omega
        · have a : min (sn_b cl A B S x q) (sn_up cl A B S Z (x :: l)) ≤ w q := h1 _ (sn_way_x g hz he hq)
          have b := sn_b_le he
          omega
  · rcases h2 n hn with e | ⟨z, hz, hh, hu⟩
    · omega
    · have := sn_up_P hP z hz
      rw [hh, hu] at this; exact this
theorem sn_fi_Q {w : Nat → Nat} {Q : Nat → Nat → Prop} (hQ : sn_Cl cl A B S Z w Q) : ∀ z, sn_Way cl A B S z → sn_Fi cl A B S Z w z → Q (sn_hd z) (sn_rt z)
  | [], h, _ => h.elim
  | [r], h, hf => hQ.1 r h hf.2.symm
  | q :: p :: l, h, hf => by
    have ih : Q p (sn_rt (p :: l)) := sn_fi_Q hQ (p :: l) (sn_way_tl h) hf.1
    have e1 : sn_up cl A B S Z (p :: l) = w p := hf.1.2
    have e2 : min (sn_b cl A B S p q) (sn_up cl A B S Z (p :: l)) = w q := hf.2
    exact hQ.2 p q _ _ (sn_b_E h.2.2.2.1 h.1) (by omega) ih
/-- the roots of the fine ways are the least roots -/
theorem sn_wayLR (g : sn_G A B S Z) {w : Nat → Nat} (hw : sn_LW cl A B S Z w) {R : Nat → Nat → Prop} (h1 : ∀ z, sn_Way cl A B S z → sn_Fi cl A B S Z w z → R (sn_hd z) (sn_rt z)) (h2 : ∀ n m, n < 11 → R n m → ∃ z, sn_Way cl A B S z ∧ sn_hd z = n ∧ sn_rt z = m ∧ sn_Fi cl A B S Z w z) : sn_LR cl A B S Z w R := by
  refine ⟨⟨fun n hn e => h1 [n] hn ⟨trivial, e.symm⟩, fun p q s m he ht hr => ?_⟩, fun Q hQ n m hn hr => ?_⟩
  · have hl := sn_E_lt g he
    obtain ⟨z, hz, hh, hm, hf⟩ := h2 p m hl.1 hr
    match z, hz, hh, hm, hf with
    | [], hz, _, _, _ => exact hz.elim
    | x :: l, hz, hh, hm, hf =>
      have e : x = p := hh
      subst e
      by_cases hq : q ∈ x :: l
      · obtain ⟨l2, hs⟩ := sn_suf_of hq
        have a := h1 _ (sn_way_suf _ hz hs) (sn_fi_suf _ hf hs)
        rw [sn_rt_suf _ hs, hm] at a
        exact a
      · have hx := sn_way_x g hz he hq
        have b := sn_b_le he
        have c := hw.1.2 x q _ (sn_b_E hx.2.2.2.1 hx.1)
        have e1 : sn_up cl A B S Z (x :: l) = w x := hf.2
        have e2 : sn_up cl A B S Z (q :: x :: l) = w q := by
          show min (sn_b cl A B S x q) (sn_up cl A B S Z (x :: l)) = w q
          omega
        have a := h1 _ hx ⟨hf, e2⟩
        have a' : R q (sn_rt (x :: l)) := a
        rw [hm] at a'; exact a'
  · obtain ⟨z, hz, hh, hm, hf⟩ := h2 n m hn hr
    have := sn_fi_Q hQ z hz hf
    rw [hh, hm] at this; exact this
/-! pending ways -/
theorem sn_suf_rt : ∀ z, sn_Way cl A B S z → [sn_rt z] <:+ z
  | [], h => h.elim
  | [r], _ => List.suffix_refl _
  | q :: p :: l, h => List.suffix_cons_iff.mpr (Or.inr (sn_suf_rt (p :: l) (sn_way_tl h)))
theorem sn_Pd_0 {z : List Nat} (h : sn_Way cl A B S z) : sn_Pd [] 0 z := ⟨_, Nat.zero_le _, sn_suf_rt z h⟩
theorem sn_suf_nx {x : Nat} {l : List Nat} : ∀ z, (x :: l) <:+ z → z = x :: l ∨ ∃ y, (y :: x :: l) <:+ z
  | [], hs => by have := List.suffix_nil.mp hs; cases this
  | y :: z, hs => by
    rcases List.suffix_cons_iff.mp hs with e | e
    · exact Or.inl e.symm
    · rcases sn_suf_nx z e with e2 | ⟨y', e2⟩
      · rw [e2]; exact Or.inr ⟨y, List.suffix_refl _⟩
      · exact Or.inr ⟨y', List.suffix_cons_iff.mpr (Or.inr e2)⟩
/-- l' is the next way, if l is to be made longer from t on -/
def sn_Nx (cl : Nat → Bool) (A B S : Nat → Nat) (l : List Nat) (t : Nat) (l' : List Nat) : Prop :=
  sn_Way cl A B S l' ∧ sn_mu l' 0 < sn_mu l t ∧ ∀ z, sn_Way cl A B S z → sn_Pd l t z → z = l' ∨ sn_Pd l' 0 z
def sn_No (cl : Nat → Bool) (A B S : Nat → Nat) (l : List Nat) (t : Nat) : Prop :=
  ∀ z, sn_Way cl A B S z → ¬ sn_Pd l t z
theorem sn_Pd_f {p t : Nat} {l : List Nat} (hno : ∀ x, t ≤ x → ¬ sn_Way cl A B S (x :: p :: l)) {z : List Nat} (hz : sn_Way cl A B S z) (h : sn_Pd (p :: l) t z) : sn_Pd l (p + 1) z := by
  rcases h with ⟨x, hx, hs⟩ | h
  · exact absurd (sn_way_suf _ hz hs) (hno x hx)
  · exact h
theorem sn_Nx_f {p t : Nat} {l l' : List Nat} (hno : ∀ x, t ≤ x → ¬ sn_Way cl A B S (x :: p :: l)) (h : sn_Nx cl A B S l (p + 1) l') : sn_Nx cl A B S (p :: l) t l' :=
  ⟨h.1, Nat.lt_of_lt_of_le h.2.1 (Nat.le_add_left _ _), fun z hz hp => h.2.2 z hz (sn_Pd_f hno hz hp)⟩
theorem sn_No_f {p t : Nat} {l : List Nat} (hno : ∀ x, t ≤ x → ¬ sn_Way cl A B S (x :: p :: l)) (h : sn_No cl A B S l (p + 1)) : sn_No cl A B S (p :: l) t :=
  fun z hz hp => h z hz (sn_Pd_f hno hz hp)
theorem sn_Pd_h {q t : Nat} {l : List Nat} (hno : ∀ x, t ≤ x → x < q → ¬ sn_Way cl A B S (x :: l)) {z : List Nat} (hz : sn_Way cl A B S z) (h : sn_Pd l t z) : z = q :: l ∨ sn_Pd (q :: l) 0 z := by
  have key : ∀ x, t ≤ x → (x :: l) <:+ z → z = q :: l ∨ (∃ y, (y :: q :: l) <:+ z) ∨ (q + 1 ≤ x) := by
    intro x hx hs
    rcases Nat.lt_trichotomy x q with c | c | c
    · exact absurd (sn_way_suf _ hz hs) (hno x hx c)
    · subst c
      rcases sn_suf_nx _ hs with e | e
      · exact Or.inl e
      · exact Or.inr (Or.inl e)
    · exact Or.inr (Or.inr c)
  cases l with
  | nil =>
    obtain ⟨x, hx, hs⟩ := h
    rcases key x hx hs with e | ⟨y, e⟩ | e
    · exact Or.inl e
    · exact Or.inr (Or.inl ⟨y, Nat.zero_le _, e⟩)
    · exact Or.inr (Or.inr ⟨x, e, hs⟩)
  | cons p l =>
    rcases h with ⟨x, hx, hs⟩ | h
    · rcases key x hx hs with e | ⟨y, e⟩ | e
      · exact Or.inl e
      · exact Or.inr (Or.inl ⟨y, Nat.zero_le _, e⟩)
      · exact Or.inr (Or.inr (Or.inl ⟨x, e, hs⟩))
    · exact Or.inr (Or.inr (Or.inr h))
theorem sn_mu_a (e a b : Nat) (he : 0 < e) (h : a + 1 ≤ b) : 11 * e + a * (12 * e) < b * (12 * e) := by
  have h1 := Nat.mul_le_mul_right (12 * e) h
  rw [Nat.succ_mul] at h1
  generalize a * (12 * e) = x at h1 ⊢
  generalize b * (12 * e) = y at h1 ⊢
  omega
theorem sn_mu_h {q t : Nat} {l : List Nat} (hq : q < 11) (ht : t ≤ q) (hl : l.length ≤ 10) : sn_mu (q :: l) 0 < sn_mu l t := by
  have hp : 12 ^ (11 - l.length) = 12 * 12 ^ (11 - (l.length + 1)) := by
    rw [show 11 - l.length = (11 - (l.length + 1)) + 1 from by omega, Nat.pow_succ, Nat.mul_comm]
  have hk := sn_mu_a (12 ^ (11 - (l.length + 1))) (11 - (q + 1)) (11 - t) (Nat.pow_pos (by decide)) (by omega)
  rw [← hp] at hk
  cases l with
  | nil => exact hk
  | cons p l =>
    show 11 * 12 ^ (11 - ((p :: l).length + 1)) + ((11 - (q + 1)) * 12 ^ (11 - (p :: l).length) + sn_mu l (p + 1)) < (11 - t) * 12 ^ (11 - (p :: l).length) + sn_mu l (p + 1)
    generalize 11 * 12 ^ (11 - ((p :: l).length + 1)) = x at hk ⊢
    generalize (11 - (q + 1)) * 12 ^ (11 - (p :: l).length) = y at hk ⊢
    generalize (11 - t) * 12 ^ (11 - (p :: l).length) = z at hk ⊢
    omega
theorem sn_Nx_h {q t : Nat} {l : List Nat} (hno : ∀ x, t ≤ x → x < q → ¬ sn_Way cl A B S (x :: l)) (ht : t ≤ q) (h : sn_Way cl A B S (q :: l)) : sn_Nx cl A B S l t (q :: l) := by
  refine ⟨h, sn_mu_h ((sn_way_nd _ h).2 q (List.mem_cons_self)) ht ?_, fun z hz hp => sn_Pd_h hno hz hp⟩
  have := sn_way_len h
  rw [List.length_cons] at this
  omega
theorem sn_No_0 {t : Nat} (h : 11 ≤ t) : sn_No cl A B S [] t := by
  intro z hz hp
  obtain ⟨x, hx, hs⟩ := hp
  have : x < 11 := sn_way_suf _ hz hs
  omega
end
end
section
/-! bits and small rows -/
def sn_i : Bool → Int32
  | true => 1
  | false => 0
theorem sn_i0 {b : Bool} : sn_i b = 0 ↔ b = false := by cases b <;> decide
theorem sn_i1 {b : Bool} : sn_i b = 1 ↔ b = true := by cases b <;> decide
theorem sn_bt1 : ∀ i, i < 32 → bt 1 i = decide (i = 0) := by decide +kernel
theorem sn_b1 {r : Nat} (hr : r < 32) (i : Nat) : bt ((1 : Int32) <<< (nI r &&& 31)) i = decide (i = r) := by
  rcases Nat.lt_or_ge i 32 with h | h
  · rw [b_shl r hr 1 h]
    rcases Nat.lt_or_ge i r with z | z
    · rw [decide_eq_false (by omega), decide_eq_false (by omega), Bool.false_and]
    · rw [decide_eq_true z, Bool.true_and, sn_bt1 _ (by omega)]
      by_cases c : i = r
      · rw [decide_eq_true (by omega), decide_eq_true c]
      · rw [decide_eq_false (by omega), decide_eq_false c]
  · rw [b_big h, decide_eq_false (by omega)]
theorem sn_bi (b : Bool) : ∀ i, i < 32 → bt (sn_i b) i = (b && decide (i = 0)) := by
  cases b
  · intro i _; show bt 0 i = _; rw [b_0, Bool.false_and]
  · intro i hi; show bt 1 i = _; rw [sn_bt1 i hi, Bool.true_and]
theorem sn_and1 (y : Int32) : y &&& 1 = sn_i (bt y 0) := by
  apply b_ext
  intro i hi
  rw [b_and, sn_bt1 i hi, sn_bi _ i hi]
  by_cases c : i = 0
  · subst c; rfl
  · rw [decide_eq_false c, Bool.and_false, Bool.and_false]
theorem sn_bit (x : Int32) {m : Nat} (hm : m < 32) : (x >>> (nI m &&& 31)) &&& 1 = sn_i (bt x m) := by
  rw [sn_and1, b_sshr m hm x (by omega), if_pos (by omega), Nat.add_zero]
theorem sn_2047 : ∀ i, i < 32 → bt 2047 i = decide (i < 11) := by decide +kernel
theorem sn_small {x : Int32} (h : ∀ i, bt x i = true → i < 11) : ∃ j : Nat, j < 2048 ∧ x = nI j := by
  have e : x = x &&& 2047 := by
    apply b_ext
    intro i hi
    rw [b_and, sn_2047 i hi]
    have := h i
    cases c : bt x i
    · rfl
    · rw [decide_eq_true (this c)]; rfl
  obtain ⟨j, hj, e2⟩ := pk_andE x (m := 2047) 11 (by decide)
  exact ⟨j, hj, e.trans e2⟩
theorem sn_i2s {j : Nat} (h : j < 2048) : (nI j).toInt16.toInt32 = nI j := lg_i2s_small (by rw [nI_toInt (by omega)]; omega) (by rw [nI_toInt (by omega)]; omega)
theorem sn_i2b {j : Nat} (h : j < 128) : (nI j).toInt8.toInt32 = nI j := lg_i2b_small (by rw [nI_toInt (by omega)]; omega) (by rw [nI_toInt (by omega)]; omega)
theorem sn_short {x : Int32} (h : ∀ i, bt x i = true → i < 11) : vp_nar .short x.toInt16.toInt32 = x := by
  obtain ⟨j, hj, e⟩ := sn_small h
  rw [pk_vs, e, sn_i2s hj]
theorem sn_byte {j : Nat} (h : j < 128) : vp_nar .byte (nI j).toInt8.toInt32 = nI j := by
  rw [pk_vb, sn_i2b h]
theorem sn_byt {j : Nat} (h : j < 128) : vp_nar .byte (nI j) = nI j := by
  rw [vp_nar_byte, sn_i2b h]
/-- the number with the bits of f below n -/
def sn_mk (f : Nat → Bool) : Nat → Int32
  | 0 => 0
  | i + 1 => if f i = true then sn_mk f i ||| ((1 : Int32) <<< (nI i &&& 31)) else sn_mk f i
theorem sn_mk_b (f : Nat → Bool) (i : Nat) : ∀ n, n ≤ 32 → bt (sn_mk f n) i = (decide (i < n) && f i) := by
  intro n
  induction n with
  | zero => intro _; show bt 0 i = _; rw [b_0, decide_eq_false (by omega), Bool.false_and]
  | succ n ih =>
    intro hn
    have h := ih (by omega)
    show bt (if f n = true then sn_mk f n ||| ((1 : Int32) <<< (nI n &&& 31)) else sn_mk f n) i = _
    by_cases c : i = n
    · subst c
      rw [decide_eq_false (by omega), Bool.false_and] at h
      rw [decide_eq_true (by omega), Bool.true_and]
      cases e : f i
      · rw [if_neg (by decide), h]
      · rw [if_pos rfl, b_or, h, sn_b1 (by omega), decide_eq_true rfl]; rfl
    · have e : decide (i < n + 1) = decide (i < n) := by
        by_cases z : i < n
        · rw [decide_eq_true z, decide_eq_true (by omega)]
        · rw [decide_eq_false z, decide_eq_false (by omega)]
      rw [e, ← h]
      cases f n
      · rw [if_neg (by decide)]
      · rw [if_pos rfl, b_or, sn_b1 (by omega), decide_eq_false c, Bool.or_false]
theorem sn_us (f : Nat → Int32) (k : Nat) : upd f k (f k) = f := by
  funext j
  show (if j = k then f k else f j) = f j
  by_cases c : j = k
  · rw [if_pos c, c]
  · rw [if_neg c]
/-- sums of the first n -/
def sn_sum (f : Nat → Nat) : Nat → Nat
  | 0 => 0
  | n + 1 => sn_sum f n + f n
theorem sn_sum_le {f g : Nat → Nat} : ∀ n, (∀ i, i < n → f i ≤ g i) → sn_sum f n ≤ sn_sum g n := by
  intro n
  induction n with
  | zero => intro _; exact Nat.le_refl _
  | succ n ih =>
    intro h
    have h1 := ih (fun i hi => h i (by omega))
    have h2 := h n (by omega)
    show sn_sum f n + f n ≤ sn_sum g n + g n
    omega
theorem sn_sum_lt {f g : Nat → Nat} {j : Nat} : ∀ n, (∀ i, i < n → f i ≤ g i) → j < n → f j < g j → sn_sum f n < sn_sum g n := by
  intro n
  induction n with
  | zero => intro _ h; omega
  | succ n ih =>
    intro h hj hl
    have h2 := h n (by omega)
    show sn_sum f n + f n < sn_sum g n + g n
    by_cases c : j = n
    · subst c
      have h1 := sn_sum_le j (fun i hi => h i (by omega))
      omega
    · have h1 := ih (fun i hi => h i (by omega)) (by omega) hl
      omega
theorem sn_sum_b {f : Nat → Nat} {c : Nat} : ∀ n, (∀ i, i < n → f i ≤ c) → sn_sum f n ≤ n * c := by
  intro n
  induction n with
  | zero => intro _; show 0 ≤ _; omega
  | succ n ih =>
    intro h
    have h1 := ih (fun i hi => h i (by omega))
    have h2 := h n (by omega)
    show sn_sum f n + f n ≤ _
    rw [Nat.succ_mul]
    omega
end
section
/-! the reference's walks: between, onWay, append -/
/-- the reference's arrays show the graph -/
def sn_YG (cl : Nat → Bool) (A B S Z : Nat → Nat) (he si th ea eb wh : Nat → Int32) : Prop :=
  (∀ k, k < 12 → ea k = nI (A k) ∧ eb k = nI (B k) ∧ 4 + wh k / 9 = nI (S k)) ∧ (∀ n, n < 11 → si n = nI (Z n)) ∧
  (∀ k, k < 12 → ∀ (post : Int32 → Prop) (ln : Int32) (wa up fi wy so nx : Nat → Int32), post (sn_i (cl k)) → wpY_isClosed post (ln, he, si, th, ea, eb, wh, wa, up, fi, wy, so, nx) (nI k))
/-- the way's arrays hold the list l -/
def sn_Rp (cl : Nat → Bool) (A B S Z : Nat → Nat) (gf : Prop) (w : Nat → Nat) (wa up fi : Nat → Int32) : List Nat → Prop
  | [] => True
  | q :: l => wa l.length = nI q ∧ up l.length = nI (sn_up cl A B S Z (q :: l)) ∧ (gf → (fi l.length = 0 ↔ ¬ sn_Fi cl A B S Z w (q :: l))) ∧ sn_Rp cl A B S Z gf w wa up fi l
section
variable {cl : Nat → Bool} {A B S Z : Nat → Nat} {ln : Int32} {he si th ea eb wh wa up fi wy so nx : Nat → Int32}
theorem sy_ea (H : sn_YG cl A B S Z he si th ea eb wh) {k : Nat} (hk : k < 12) : ea (nI k).toNatClampNeg = nI (A k) := by
  rw [nI_clamp (by omega)]; exact (H.1 k hk).1
theorem sy_eb (H : sn_YG cl A B S Z he si th ea eb wh) {k : Nat} (hk : k < 12) : eb (nI k).toNatClampNeg = nI (B k) := by
  rw [nI_clamp (by omega)]; exact (H.1 k hk).2.1
theorem sy_s (H : sn_YG cl A B S Z he si th ea eb wh) {k : Nat} (hk : k < 12) : 4 + wh (nI k).toNatClampNeg / 9 = nI (S k) := by
  rw [nI_clamp (by omega)]; exact (H.1 k hk).2.2
theorem sy_z (H : sn_YG cl A B S Z he si th ea eb wh) {n : Nat} (hn : n < 11) : si (nI n).toNatClampNeg = nI (Z n) := by
  rw [nI_clamp (by omega)]; exact H.2.1 n hn
theorem sy_61 (g : sn_G A B S Z) (H : sn_YG cl A B S Z he si th ea eb wh) {k m : Nat} (hk : k < 12) (hm : m ≤ 6) {post : Int32 → Prop} {J : Int32 → Int32 → Prop} {x1 x2 : Int32} (z : Bool)
    (hJ : J (nI (if z = true ∧ cl k = true ∧ m < S k then S k else m)) (nI (k + 1))) : wY_between_61 post J x1 x2 (nI m) (nI k) (sn_i z) ln he si th ea eb wh wa up fi wy so nx := by
  have hs := g.1 k hk
  refine ⟨vp_in_nI hk (by decide), by decide, nm_r (sy_s H hk) ?_⟩
  cases z with
  | false =>
    rw [if_neg (fun h => by cases h.1)] at hJ
    exact br_t rfl (nm_r (nI_1 k) hJ)
  | true =>
    refine br_f (by decide) (H.2.2 k hk _ _ _ _ _ _ _ _ ?_)
    cases hc : cl k with
    | false =>
      rw [hc, if_neg (fun h => by cases h.2.1)] at hJ
      exact br_t rfl (nm_r (nI_1 k) hJ)
    | true =>
      rw [hc] at hJ
      refine br_f (by decide) (pk_le (S k) m (fun h => ?_) (fun h => ?_))
      · rw [if_neg (fun h' => by have := h'.2.2; omega)] at hJ
        exact nm_r (nI_1 k) hJ
      · rw [if_pos ⟨rfl, rfl, h⟩] at hJ
        exact nm_r (nI_1 k) hJ
theorem sy_34 (g : sn_G A B S Z) (H : sn_YG cl A B S Z he si th ea eb wh) {k m p q : Nat} (hp : p < 11) (hq : q < 11) (hk : k < 12) (hm : m ≤ 6) {post : Int32 → Prop} {J : Int32 → Int32 → Prop} (hno : ¬ (A k = p ∧ B k = q))
    (hJ : J (nI (if ((A k = p ∧ B k = q) ∨ (A k = q ∧ B k = p)) ∧ cl k = true ∧ m < S k then S k else m)) (nI (k + 1))) : wY_between_34 post J (nI p) (nI q) (nI m) (nI k) ln he si th ea eb wh wa up fi wy so nx := by
  have ha := g.1 k hk
  have hf : ¬ (A k = q ∧ B k = p) → wY_between_60 post J (nI p) (nI q) (nI m) (nI k) ln he si th ea eb wh wa up fi wy so nx := by
    intro h2
    refine sy_61 g H hk hm false ?_
    rw [if_neg (fun h => by cases h.1)]
    rw [if_neg (fun h => h.1.elim hno h2)] at hJ
    exact hJ
  refine ⟨vp_in_nI hk (by decide), pk_eq (A k) q (fun e1 => ⟨vp_in_nI hk (by decide), pk_eq (B k) p (fun e2 => ?_) (fun e2 => hf (fun h => e2 h.2)) (sy_eb H hk)⟩) (fun e1 => hf (fun h => e1 h.1)) (sy_ea H hk)⟩
  refine sy_61 g H hk hm true ?_
  by_cases c : cl k = true ∧ m < S k
  · rw [if_pos ⟨rfl, c⟩]
    rw [if_pos ⟨Or.inr ⟨e1, e2⟩, c⟩] at hJ
    exact hJ
  · rw [if_neg (fun h => c h.2)]
    rw [if_neg (fun h => c h.2)] at hJ
    exact hJ
theorem sy_b5 (g : sn_G A B S Z) (H : sn_YG cl A B S Z he si th ea eb wh) {p q : Nat} (hp : p < 11) (hq : q < 11) {post : Int32 → Prop} (h : post (nI (sn_b cl A B S p q))) :
    ∀ d k, k + d = 12 → wY_between_5 post (nI p) (nI q) ln he si th ea eb wh wa up fi wy so nx (d + 1) (nI (sn_bw cl A B S p q k)) (nI k) := by
  intro d
  induction d with
  | zero =>
    intro k hk
    have e : k = 12 := by omega
    subst e
    exact pk_le 12 12 (fun _ => h) (fun z => absurd z (by omega))
  | succ d ih =>
    intro k hk
    have hk' : k < 12 := by omega
    have ha := g.1 k hk'
    have hm := sn_bw_6 (cl := cl) g p q k (by omega)
    have hJ := ih (k + 1) (by omega)
    refine pk_le 12 k (fun z => absurd z (by omega)) (fun _ => ⟨vp_in_nI hk' (by decide), pk_eq (A k) p (fun e1 => ⟨vp_in_nI hk' (by decide), pk_eq (B k) q (fun e2 => ?_) (fun e2 => sy_34 g H hp hq hk' hm (fun z => e2 z.2) hJ) (sy_eb H hk')⟩) (fun e1 => sy_34 g H hp hq hk' hm (fun z => e1 z.1) hJ) (sy_ea H hk')⟩)
    refine sy_61 g H hk' hm true ?_
    have e : sn_bw cl A B S p q (k + 1) = if ((A k = p ∧ B k = q) ∨ (A k = q ∧ B k = p)) ∧ cl k = true ∧ sn_bw cl A B S p q k < S k then S k else sn_bw cl A B S p q k := rfl
    rw [e] at hJ
    by_cases c : cl k = true ∧ sn_bw cl A B S p q k < S k
    · rw [if_pos ⟨rfl, c⟩]
      rw [if_pos ⟨Or.inl ⟨e1, e2⟩, c⟩] at hJ
      exact hJ
    · rw [if_neg (fun z => c z.2)]
      rw [if_neg (fun z => c z.2)] at hJ
      exact hJ
theorem sy_between (g : sn_G A B S Z) (H : sn_YG cl A B S Z he si th ea eb wh) {p q : Nat} (hp : p < 11) (hq : q < 11) {post : Int32 → Prop} (h : post (nI (sn_b cl A B S p q))) : wpY_between post (ln, he, si, th, ea, eb, wh, wa, up, fi, wy, so, nx) (nI p) (nI q) :=
  ⟨13, sy_b5 g H hp hq h 12 0 rfl⟩
theorem sy_on1 {t L : Nat} (hL : L ≤ 11) {post : Int32 → Prop} (h : post 1) : ∀ d i, i + d = L → wY_onWay_4 post (nI t) (nI L) he si th ea eb wh wa up fi wy so nx (d + 1) 1 (nI i) := by
  intro d
  induction d with
  | zero =>
    intro i hi
    exact pk_le L i (fun _ => ⟨rfl, h⟩) (fun z => absurd z (by omega))
  | succ d ih =>
    intro i hi
    exact pk_le L i (fun z => absurd z (by omega)) (fun _ => br_f (by decide) (nm_r (nI_1 i) (ih (i + 1) (by omega))))
theorem sy_on0 {t L : Nat} (hL : L ≤ 11) {post : Int32 → Prop} (h0 : (∀ j, j < L → wa j ≠ nI t) → post 0) (h1 : (∃ j, j < L ∧ wa j = nI t) → post 1) : ∀ d i, i + d = L → (∀ j, j < i → wa j ≠ nI t) → wY_onWay_4 post (nI t) (nI L) he si th ea eb wh wa up fi wy so nx (d + 1) 0 (nI i) := by
  intro d
  induction d with
  | zero =>
    intro i hi hn
    have e : i = L := by omega
    subst e
    exact pk_le i i (fun _ => ⟨rfl, h0 hn⟩) (fun z => absurd z (by omega))
  | succ d ih =>
    intro i hi hn
    refine pk_le L i (fun z => absurd z (by omega)) (fun _ => br_t rfl ⟨vp_in_nI (by omega) (by decide), ?_⟩)
    rw [nI_clamp (show i < 2 ^ 31 by omega)]
    refine br_c (fun e => nm_r (nI_1 i) (sy_on1 hL (h1 ⟨i, by omega, e⟩) d (i + 1) (by omega))) (fun e => nm_r (nI_1 i) (ih (i + 1) (by omega) (fun j hj => ?_)))
    by_cases c : j = i
    · subst c; exact e
    · exact hn j (by omega)
theorem sy_onWay {t L : Nat} (hL : L ≤ 11) {post : Int32 → Prop} (h0 : (∀ j, j < L → wa j ≠ nI t) → post 0) (h1 : (∃ j, j < L ∧ wa j = nI t) → post 1) : wpY_onWay post (nI L, he, si, th, ea, eb, wh, wa, up, fi, wy, so, nx) (nI t) :=
  ⟨L + 1, sy_on0 hL h0 h1 L 0 (by omega) (fun j hj => absurd hj (by omega))⟩
/-! the list in the arrays -/
theorem sn_Rp_k {gf : Prop} {w : Nat → Nat} {x y z : Int32} {L : Nat} : ∀ l : List Nat, l.length ≤ L → sn_Rp cl A B S Z gf w wa up fi l → sn_Rp cl A B S Z gf w (upd wa L x) (upd up L y) (upd fi L z) l
  | [], _, _ => trivial
  | q :: l, h, hr => by
    rw [List.length_cons] at h
    have hn : l.length ≠ L := by omega
    refine ⟨?_, ?_, ?_, sn_Rp_k l (by omega) hr.2.2.2⟩
    · rw [pk_un hn]; exact hr.1
    · rw [pk_un hn]; exact hr.2.1
    · rw [pk_un hn]; exact hr.2.2.1
theorem sn_Rp_w {w w' : Nat → Nat} : ∀ l : List Nat, sn_Rp cl A B S Z False w wa up fi l → sn_Rp cl A B S Z False w' wa up fi l
  | [], _ => trivial
  | q :: l, hr => ⟨hr.1, hr.2.1, fun z => z.elim, sn_Rp_w l hr.2.2.2⟩
theorem sn_Rp_m {gf : Prop} {w : Nat → Nat} {t : Nat} (ht : t < 11) : ∀ l : List Nat, (∀ x, x ∈ l → x < 11) → sn_Rp cl A B S Z gf w wa up fi l → ((∃ j, j < l.length ∧ wa j = nI t) ↔ t ∈ l)
  | [], _, _ => by simp
  | q :: l, hx, hr => by
    have ih := sn_Rp_m ht l (fun x h => hx x (List.mem_cons_of_mem _ h)) hr.2.2.2
    have hq := hx q (List.mem_cons_self)
    rw [List.mem_cons, List.length_cons]
    constructor
    · intro ⟨j, hj, e⟩
      by_cases c : j = l.length
      · subst c
        rw [hr.1, nI_eq (by omega) (by omega)] at e
        exact Or.inl e.symm
      · exact Or.inr (ih.mp ⟨j, by omega, e⟩)
    · intro h
      rcases h with e | e
      · subst e
        exact ⟨l.length, by omega, hr.1⟩
      · obtain ⟨j, hj, e⟩ := ih.mpr e
        exact ⟨j, by omega, e⟩
theorem sn_Rp_0 {gf : Prop} {w : Nat → Nat} : ∀ l : List Nat, l ≠ [] → sn_Rp cl A B S Z gf w wa up fi l → wa 0 = nI (sn_rt l)
  | [], h, _ => absurd rfl h
  | [r], _, hr => hr.1
  | q :: p :: l, _, hr => sn_Rp_0 (p :: l) (by simp) hr.2.2.2
end
end
section
/-! the reference's walks: append, extend, advance -/
section
variable {cl : Nat → Bool} {A B S Z : Nat → Nat} {ln : Int32} {he si th ea eb wh wa up fi wy so nx : Nat → Int32}
theorem sy_137 {L : Nat} (hL : L < 11) {post : SY → Prop} (b : Bool) (h : post (nI (L + 1), he, si, th, ea, eb, wh, wa, up, upd fi L (sn_i b), wy, so, nx)) : wY_append_137 post (sn_i b) (nI L) (nI L) he si th ea eb wh wa up fi wy so nx := by
  refine ⟨vp_in_nI hL (by decide), nm_r (e' := upd fi L (sn_i b)) ?_ (nm_r (nI_1 L) h)⟩
  rw [nI_clamp (by omega)]
  cases b <;> rfl
theorem sy_114 {L q : Nat} (hL : L < 11) (hq : q < 11) {post : SY → Prop} (h : ∀ b : Bool, (b = true ↔ up L = wy q) → post (nI (L + 1), he, si, th, ea, eb, wh, wa, up, upd fi L (sn_i b), wy, so, nx)) : wY_append_114 post (nI q) (nI L) (nI L) he si th ea eb wh wa up fi wy so nx := by
  refine ⟨vp_in_nI hL (by decide), vp_in_nI hq (by decide), ?_⟩
  rw [nI_clamp (show L < 2 ^ 31 by omega), nI_clamp (show q < 2 ^ 31 by omega)]
  exact br_c (fun e => sy_137 hL true (h true ⟨fun _ => e, fun _ => rfl⟩)) (fun e => sy_137 hL false (h false ⟨fun z => (by cases z), fun z => absurd z e⟩))
theorem sy_84_0 {q v : Nat} (hq : q < 11) {post : SY → Prop} (h : ∀ b : Bool, (b = true ↔ nI v = wy q) → post (nI 1, he, si, th, ea, eb, wh, wa, upd up 0 (nI v), upd fi 0 (sn_i b), wy, so, nx)) : wY_append_84 post (nI q) (nI v) (nI 0) (nI 0) he si th ea eb wh wa up fi wy so nx := by
  refine ⟨vp_in_nI (by omega) (by decide), nm_r (e' := upd up 0 (nI v)) rfl (br_t rfl (sy_114 (by omega) hq (fun b hb => h b ?_)))⟩
  rw [pk_us] at hb
  exact hb
theorem sy_84_s {q v m : Nat} (hm : m + 1 < 11) (hq : q < 11) {post : SY → Prop} (h : ∀ b : Bool, (b = true ↔ (¬ fi m = 0 ∧ nI v = wy q)) → post (nI (m + 2), he, si, th, ea, eb, wh, wa, upd up (m + 1) (nI v), upd fi (m + 1) (sn_i b), wy, so, nx)) : wY_append_84 post (nI q) (nI v) (nI (m + 1)) (nI (m + 1)) he si th ea eb wh wa up fi wy so nx := by
  refine ⟨vp_in_nI hm (by decide), nm_r (e' := upd up (m + 1) (nI v)) (by rw [nI_clamp (by omega)]) (br_f (nI_ne0 (by omega) (by omega)) ⟨?_, ?_⟩)⟩
  · rw [nI_pred]; exact vp_in_nI (by omega) (by decide)
  · rw [nI_pred, nI_clamp (show m < 2 ^ 31 by omega)]
    refine br_c (fun e => sy_137 hm false (h false ⟨fun z => (by cases z), fun z => absurd e z.1⟩)) (fun e => sy_114 hm hq (fun b hb => h b ?_))
    rw [pk_us] at hb
    exact ⟨fun z => ⟨e, hb.mp z⟩, fun z => hb.mpr z.2⟩
theorem sy_app0 (g : sn_G A B S Z) (H : sn_YG cl A B S Z he si th ea eb wh) {q : Nat} (hq : q < 11) {post : SY → Prop} (h : ∀ b : Bool, (b = true ↔ nI (Z q) = wy q) → post (nI 1, he, si, th, ea, eb, wh, upd wa 0 (nI q), upd up 0 (nI (Z q)), upd fi 0 (sn_i b), wy, so, nx)) : wpY_append post (nI 0, he, si, th, ea, eb, wh, wa, up, fi, wy, so, nx) (nI q) := by
  refine br_t rfl ⟨vp_in_nI hq (by decide), ?_⟩
  rw [sy_z H hq]
  refine br_t rfl ⟨vp_in_nI (by omega) (by decide), nm_r (e' := upd wa 0 (nI q)) rfl ?_⟩
  have h1 := sy_84_0 hq h
  exact ⟨fun _ => h1, fun _ => h1⟩
theorem sy_apps (g : sn_G A B S Z) (H : sn_YG cl A B S Z he si th ea eb wh) {p q u m : Nat} (hp : p < 11) (hq : q < 11) (hm : m + 1 < 11) (hu : u ≤ 7) (hwa : wa m = nI p) (hup : up m = nI u) {post : SY → Prop}
    (h : ∀ b : Bool, (b = true ↔ (¬ fi m = 0 ∧ nI (min (sn_b cl A B S p q) u) = wy q)) → post (nI (m + 2), he, si, th, ea, eb, wh, upd wa (m + 1) (nI q), upd up (m + 1) (nI (min (sn_b cl A B S p q) u)), upd fi (m + 1) (sn_i b), wy, so, nx)) : wpY_append post (nI (m + 1), he, si, th, ea, eb, wh, wa, up, fi, wy, so, nx) (nI q) := by
  have hb6 := sn_b_6 (cl := cl) g p q
  have hne : ¬ nI (m + 1) = 0 := nI_ne0 (by omega) (by omega)
  have hv : vp_in (nI (m + 1) - 1) 11 := by rw [nI_pred]; exact vp_in_nI (by omega) (by decide)
  have e1 : wa (nI (m + 1) - 1).toNatClampNeg = nI p := by rw [nI_pred, nI_clamp (by omega)]; exact hwa
  have e2 : up (nI (m + 1) - 1).toNatClampNeg = nI u := by rw [nI_pred, nI_clamp (by omega)]; exact hup
  refine br_f hne ⟨hv, ?_⟩
  rw [e1]
  refine sy_between g H hp hq (br_f hne ⟨hv, ?_⟩)
  rw [e2]
  refine ⟨vp_in_nI hm (by decide), nm_r (e' := upd wa (m + 1) (nI q)) (by rw [nI_clamp (by omega)]) (pk_le u (sn_b cl A B S p q) (fun c => ?_) (fun c => ?_))⟩
  · rw [Nat.min_eq_right c] at h
    exact sy_84_s hm hq h
  · rw [Nat.min_eq_left (Nat.le_of_lt c)] at h
    exact sy_84_s hm hq h
theorem sy_append (g : sn_G A B S Z) (H : sn_YG cl A B S Z he si th ea eb wh) {gf : Prop} {w : Nat → Nat} (hw : ∀ n, n < 11 → wy n = nI (w n) ∧ w n ≤ 7) {q : Nat} {l : List Nat} (hl : sn_Way cl A B S (q :: l)) (hr : sn_Rp cl A B S Z gf w wa up fi l) {post : SY → Prop}
    (h : ∀ wa' up' fi', sn_Rp cl A B S Z gf w wa' up' fi' (q :: l) → post (nI (l.length + 1), he, si, th, ea, eb, wh, wa', up', fi', wy, so, nx)) : wpY_append post (nI l.length, he, si, th, ea, eb, wh, wa, up, fi, wy, so, nx) (nI q) := by
  have hq : q < 11 := (sn_way_nd _ hl).2 q List.mem_cons_self
  have hwq := hw q hq
  have h7 := sn_up_7 g _ hl
  cases l with
  | nil =>
    refine sy_app0 g H hq (fun b hb => h _ _ _ ⟨pk_us, pk_us, fun _ => ?_, trivial⟩)
    have hz : Z q ≤ 7 := h7
    rw [hwq.1, nI_eq (by omega) (by omega)] at hb
    show upd fi 0 (sn_i b) 0 = 0 ↔ ¬ (True ∧ Z q = w q)
    rw [pk_us, sn_i0]
    cases b
    · exact ⟨fun _ z => (by have := hb.mpr z.2; cases this), fun _ => rfl⟩
    · exact ⟨fun z => by (cases z), fun z => absurd ⟨trivial, hb.mp rfl⟩ z⟩
  | cons p l =>
    have hl' := sn_way_tl hl
    have hp : p < 11 := (sn_way_nd _ hl').2 p List.mem_cons_self
    have hlen := sn_way_len hl
    rw [List.length_cons, List.length_cons] at hlen
    refine sy_apps g H hp hq (by omega) (sn_up_7 g _ hl') hr.1 hr.2.1 (fun b hb => h _ _ _ ⟨pk_us, pk_us, fun gg => ?_, sn_Rp_k (p :: l) (by rw [List.length_cons]; omega) hr⟩)
    have h7' : min (sn_b cl A B S p q) (sn_up cl A B S Z (p :: l)) ≤ 7 := h7
    rw [hwq.1, nI_eq (by omega) (by omega), hr.2.2.1 gg] at hb
    show upd fi (l.length + 1) (sn_i b) (l.length + 1) = 0 ↔ ¬ (sn_Fi cl A B S Z w (p :: l) ∧ min (sn_b cl A B S p q) (sn_up cl A B S Z (p :: l)) = w q)
    rw [pk_us, sn_i0]
    have hb' : b = true ↔ (sn_Fi cl A B S Z w (p :: l) ∧ min (sn_b cl A B S p q) (sn_up cl A B S Z (p :: l)) = w q) :=
      hb.trans ⟨fun z => ⟨Classical.byContradiction z.1, z.2⟩, fun z => ⟨fun y => y z.1, z.2⟩⟩
    cases b
    · exact ⟨fun _ z => (by have := hb'.mpr z; cases this), fun _ => rfl⟩
    · exact ⟨fun z => by (cases z), fun z => absurd (hb'.mp rfl) z⟩
theorem sy_ext11 (g : sn_G A B S Z) (H : sn_YG cl A B S Z he si th ea eb wh) {gf : Prop} {w : Nat → Nat} (hw : ∀ n, n < 11 → wy n = nI (w n) ∧ w n ≤ 7) {p : Nat} {l : List Nat} (hl : sn_Way cl A B S (p :: l)) (hr : sn_Rp cl A B S Z gf w wa up fi (p :: l)) {t0 : Nat} {post : Int32 → SY → Prop}
    (hF : (∀ x, t0 ≤ x → ¬ sn_Way cl A B S (x :: p :: l)) → post 0 (nI (l.length + 1), he, si, th, ea, eb, wh, wa, up, fi, wy, so, nx))
    (hH : ∀ q wa' up' fi', t0 ≤ q → sn_Way cl A B S (q :: p :: l) → (∀ x, t0 ≤ x → x < q → ¬ sn_Way cl A B S (x :: p :: l)) → sn_Rp cl A B S Z gf w wa' up' fi' (q :: p :: l) → post 1 (nI (l.length + 2), he, si, th, ea, eb, wh, wa', up', fi', wy, so, nx)) :
    ∀ d t, 5 ≤ t → t0 ≤ t → t + d = 11 → (∀ x, t0 ≤ x → x < t → ¬ sn_Way cl A B S (x :: p :: l)) → wY_extend_11 post (nI (l.length + 1)) he si th ea eb wh wa up fi wy so nx (d + 1) (nI t) := by
  have hnd := sn_way_nd _ hl
  have hp : p < 11 := hnd.2 p List.mem_cons_self
  have hlen : l.length + 1 ≤ 11 := sn_way_len hl
  have hv : vp_in (nI (l.length + 1) - 1) 11 := by rw [nI_pred]; exact vp_in_nI (by omega) (by decide)
  have e1 : wa (nI (l.length + 1) - 1).toNatClampNeg = nI p := by rw [nI_pred, nI_clamp (by omega)]; exact hr.1
  intro d
  induction d with
  | zero =>
    intro t h5 h0 ht hno
    refine pk_le 11 t (fun _ => hF (fun x hx hwx => ?_)) (fun z => absurd z (by omega))
    have := (sn_way_nd _ hwx).2 x List.mem_cons_self
    exact hno x hx (by omega) hwx
  | succ d ih =>
    intro t h5 h0 ht hno
    have hm := sn_Rp_m (t := t) (by omega) _ hnd.2 hr
    have hb6 := sn_b_6 (cl := cl) g p t
    have step : ¬ sn_Way cl A B S (t :: p :: l) → wY_extend_11 post (nI (l.length + 1)) he si th ea eb wh wa up fi wy so nx (d + 1) (nI (t + 1)) := by
      intro hnt
      refine ih (t + 1) (by omega) (by omega) (by omega) (fun x hx hlt => ?_)
      by_cases c : x = t
      · subst c; exact hnt
      · exact hno x hx (by omega)
    refine pk_le 11 t (fun z => absurd z (by omega)) (fun _ => sy_onWay hlen (fun hn => br_t rfl ⟨hv, ?_⟩) (fun hy => br_f (by decide) (nm_r (nI_1 t) (step (fun z => z.2.2.1 (hm.mp hy))))))
    rw [e1]
    have hnm : t ∉ p :: l := fun z => by
      obtain ⟨j, hj, e⟩ := hm.mpr z
      exact hn j hj e
    refine sy_between g H hp (by omega) (pk_le (sn_b cl A B S p t) 0 (fun c => nm_r (nI_1 t) (step (fun z => by have := z.2.2.2.1; omega))) (fun c => ?_))
    have hway : sn_Way cl A B S (t :: p :: l) := ⟨h5, by omega, hnm, c, hl⟩
    exact sy_append g H hw hway hr (fun wa' up' fi' hr' => hH t wa' up' fi' h0 hway hno hr')
theorem sy_ext (g : sn_G A B S Z) (H : sn_YG cl A B S Z he si th ea eb wh) {gf : Prop} {w : Nat → Nat} (hw : ∀ n, n < 11 → wy n = nI (w n) ∧ w n ≤ 7) {p : Nat} {l : List Nat} (hl : sn_Way cl A B S (p :: l)) (hr : sn_Rp cl A B S Z gf w wa up fi (p :: l)) {t0 : Nat} (ht0 : t0 ≤ 11) {post : Int32 → SY → Prop}
    (hF : (∀ x, t0 ≤ x → ¬ sn_Way cl A B S (x :: p :: l)) → post 0 (nI (l.length + 1), he, si, th, ea, eb, wh, wa, up, fi, wy, so, nx))
    (hH : ∀ q wa' up' fi', t0 ≤ q → sn_Way cl A B S (q :: p :: l) → (∀ x, t0 ≤ x → x < q → ¬ sn_Way cl A B S (x :: p :: l)) → sn_Rp cl A B S Z gf w wa' up' fi' (q :: p :: l) → post 1 (nI (l.length + 2), he, si, th, ea, eb, wh, wa', up', fi', wy, so, nx)) :
    wpY_extend post (nI (l.length + 1), he, si, th, ea, eb, wh, wa, up, fi, wy, so, nx) (nI t0) :=
  pk_le 5 t0 (fun c => ⟨11 - t0 + 1, sy_ext11 g H hw hl hr hF hH (11 - t0) t0 c (Nat.le_refl _) (by omega) (fun x h1 h2 => absurd h1 (by omega))⟩)
    (fun c => ⟨7, sy_ext11 g H hw hl hr hF hH 6 5 (Nat.le_refl _) (by omega) rfl (fun x _ h2 z => by have := z.1; omega)⟩)
/-- what comes when l is given up -/
def sn_NxP (cl : Nat → Bool) (A B S : Nat → Nat) : List Nat → List Nat → Prop
  | [], l' => sn_Nx cl A B S [] 0 l'
  | p :: l, l' => sn_Nx cl A B S l (p + 1) l'
def sn_NoP (cl : Nat → Bool) (A B S : Nat → Nat) : List Nat → Prop
  | [] => sn_No cl A B S [] 0
  | p :: l => sn_No cl A B S l (p + 1)
theorem sy_adv74 (g : sn_G A B S Z) (H : sn_YG cl A B S Z he si th ea eb wh) {gf : Prop} {w : Nat → Nat} (hw : ∀ n, n < 11 → wy n = nI (w n) ∧ w n ≤ 7) {t : Nat} (ht : t ≤ 11) {post : Int32 → SY → Prop}
    (hE : 11 ≤ t → post 0 (nI 0, he, si, th, ea, eb, wh, wa, up, fi, wy, so, nx)) (hN : ∀ wa' up' fi', t < 11 → sn_Rp cl A B S Z gf w wa' up' fi' [t] → post 1 (nI 1, he, si, th, ea, eb, wh, wa', up', fi', wy, so, nx)) : wY_advance_74 post (nI t) ln he si th ea eb wh wa up fi wy so nx := by
  refine pk_le 11 t (fun c => pk_le 11 t (fun _ => hE c) (fun z => absurd z (by omega))) (fun c => ?_)
  have hway : sn_Way cl A B S [t] := c
  exact sy_append g H hw (l := []) hway (gf := gf) trivial (fun wa' up' fi' hr' => pk_le 11 t (fun z => absurd z (by omega)) (fun _ => hN wa' up' fi' c hr'))
theorem sy_adv17 (g : sn_G A B S Z) (H : sn_YG cl A B S Z he si th ea eb wh) {gf : Prop} {w : Nat → Nat} (hw : ∀ n, n < 11 → wy n = nI (w n) ∧ w n ≤ 7) {post : Int32 → SY → Prop} :
    ∀ l : List Nat, (l = [] ∨ sn_Way cl A B S l) → sn_Rp cl A B S Z gf w wa up fi l → (sn_NoP cl A B S l → post 0 (nI 0, he, si, th, ea, eb, wh, wa, up, fi, wy, so, nx)) →
    (∀ l' wa' up' fi', sn_NxP cl A B S l l' → sn_Rp cl A B S Z gf w wa' up' fi' l' → post 1 (nI l'.length, he, si, th, ea, eb, wh, wa', up', fi', wy, so, nx)) → wY_advance_17 post (l.length + 1) (nI l.length) he si th ea eb wh wa up fi wy so nx
  | [], _, _, hE, hN => by
    refine pk_le 0 1 (fun _ => br_t rfl (sy_adv74 g H hw (t := 0) (gf := gf) (by omega) (fun c => absurd c (by omega)) (fun wa' up' fi' c hr' => ?_))) (fun z => absurd z (by omega))
    have hway : sn_Way cl A B S [0] := c
    exact hN [0] wa' up' fi' (sn_Nx_h (fun x _ h => absurd h (by omega)) (Nat.le_refl _) hway) hr'
  | [r], hl, hr, hE, hN => by
    have hr11 : r < 11 := hl.elim (fun z => by cases z) (fun z => z)
    refine pk_le 1 1 (fun _ => br_f (show ¬ nI 1 = 0 by decide) ?_) (fun z => absurd z (by omega))
    have e : wa 0 + 1 = nI (r + 1) := by rw [show wa 0 = nI r from hr.1, nI_1]
    rw [e]
    refine sy_adv74 g H hw (t := r + 1) (gf := gf) (by omega) (fun c => hE (sn_No_0 c)) (fun wa' up' fi' c hr' => ?_)
    have hway : sn_Way cl A B S [r + 1] := c
    exact hN [r + 1] wa' up' fi' (sn_Nx_h (fun x h1 h2 => absurd h1 (by omega)) (Nat.le_refl _) hway) hr'
  | p :: q :: l, hl, hr, hE, hN => by
    have hw1 : sn_Way cl A B S (p :: q :: l) := hl.elim (fun z => by cases z) (fun z => z)
    have hw2 := sn_way_tl hw1
    have hp := (sn_way_nd _ hw1).2 p List.mem_cons_self
    have hlen := sn_way_len hw1
    rw [List.length_cons, List.length_cons] at hlen
    have ih := sy_adv17 g H hw (q :: l) (Or.inr hw2) hr.2.2.2 (post := post)
    refine pk_le (l.length + 2) 1 (fun z => absurd z (by omega)) (fun _ => nm_r (nI_pred (l.length + 1)) ⟨vp_in_nI (by omega) (by decide), ?_⟩)
    have e : wa (nI (l.length + 1)).toNatClampNeg + 1 = nI (p + 1) := by rw [nI_clamp (by omega), show wa (l.length + 1) = nI p from hr.1, nI_1]
    rw [e]
    refine sy_ext g H hw hw2 hr.2.2.2 (by omega) (fun hno => br_t rfl ?_) (fun x wa' up' fi' hx hwx hno hr' => br_f (by decide) ?_)
    · exact ih (fun hn => hE (sn_No_f hno hn)) (fun l' wa' up' fi' hn hr' => hN l' wa' up' fi' (sn_Nx_f hno hn) hr')
    · exact hN (x :: q :: l) wa' up' fi' (sn_Nx_h hno hx hwx) hr'
theorem sy_adv (g : sn_G A B S Z) (H : sn_YG cl A B S Z he si th ea eb wh) {gf : Prop} {w : Nat → Nat} (hw : ∀ n, n < 11 → wy n = nI (w n) ∧ w n ≤ 7) {post : Int32 → SY → Prop} {l : List Nat} (hl : l = [] ∨ sn_Way cl A B S l) (hr : sn_Rp cl A B S Z gf w wa up fi l)
    (hE : sn_No cl A B S l 0 → post 0 (nI 0, he, si, th, ea, eb, wh, wa, up, fi, wy, so, nx))
    (hN : ∀ l' wa' up' fi', sn_Nx cl A B S l 0 l' → sn_Rp cl A B S Z gf w wa' up' fi' l' → post 1 (nI l'.length, he, si, th, ea, eb, wh, wa', up', fi', wy, so, nx)) : wpY_advance post (nI l.length, he, si, th, ea, eb, wh, wa, up, fi, wy, so, nx) := by
  cases l with
  | nil => exact pk_le 0 0 (fun _ => ⟨_, sy_adv17 g H hw [] hl hr hE hN⟩) (fun z => absurd z (by omega))
  | cons p l =>
    have hw1 : sn_Way cl A B S (p :: l) := hl.elim (fun z => by cases z) (fun z => z)
    have hlen := sn_way_len hw1
    rw [List.length_cons] at hlen
    refine pk_le (l.length + 1) 0 (fun z => absurd z (by omega)) (fun _ => sy_ext g H hw hw1 hr (t0 := 0) (by omega) (fun hno => br_t rfl ⟨_, sy_adv17 g H hw (p :: l) hl hr (fun hn => hE (sn_No_f hno hn)) (fun l' wa' up' fi' hn hr' => hN l' wa' up' fi' (sn_Nx_f hno hn) hr')⟩) (fun x wa' up' fi' hx hwx hno hr' => br_f (by decide) (hN (x :: p :: l) wa' up' fi' (sn_Nx_h hno hx hwx) hr')))
end
end
section
/-! the reference's walk: work -/
section
variable {cl : Nat → Bool} {A B S Z : Nat → Nat} {ln : Int32} {he si th ea eb wh wa up fi wy so nx : Nat → Int32}
theorem sn_rt_lt {z : List Nat} (h : sn_Way cl A B S z) : sn_rt z < 11 := sn_way_suf z h (sn_suf_rt z h)
theorem sy_w106 (g : sn_G A B S Z) (H : sn_YG cl A B S Z he si th ea eb wh) {w : Nat → Nat} (hw : ∀ n, n < 11 → wy n = nI (w n) ∧ w n ≤ 7) (hW : sn_LW cl A B S Z w) {post : SY → Prop}
    (hK : ∀ wa up fi so : Nat → Int32, sn_Sol cl A B S Z w so → post (nI 0, he, si, th, ea, eb, wh, wa, up, fi, wy, so, nx)) :
    ∀ (M : Nat) (l : List Nat) (wa up fi so : Nat → Int32), sn_mu l 0 < M → (l = [] ∨ sn_Way cl A B S l) → sn_Rp cl A B S Z True w wa up fi l → (∀ n, n < 11 → ∀ i, bt (so n) i = true → i < 11) →
    (∀ z, sn_Way cl A B S z → sn_Pd l 0 z ∨ (sn_Fi cl A B S Z w z → bt (so (sn_hd z)) (sn_rt z) = true)) →
    (∀ n m, n < 11 → bt (so n) m = true → ∃ z, sn_Way cl A B S z ∧ sn_hd z = n ∧ sn_rt z = m ∧ sn_Fi cl A B S Z w z) → wY_work_106 post M (nI l.length) he si th ea eb wh wa up fi wy so nx := by
  intro M
  induction M with
  | zero => intro l wa up fi so hM; omega
  | succ M ih =>
    intro l wa up fi so hM hl hr hb h1 h2
    rw [wY_work_106]
    refine sy_adv g H hw hl hr (fun hn => br_t rfl (hK wa up fi so ⟨hW, hb, sn_wayLR g hW (fun z hz hf => (h1 z hz).elim (fun c => absurd c (hn z hz)) (fun c => c hf)) h2⟩)) (fun l' wa' up' fi' hn hr' => ?_)
    obtain ⟨hwl, hmu, hpd⟩ := hn
    cases l' with
    | nil => exact hwl.elim
    | cons q l' =>
      have hq : q < 11 := (sn_way_nd _ hwl).2 q List.mem_cons_self
      have hlen := sn_way_len hwl
      have hrt := sn_rt_lt hwl
      rw [List.length_cons] at hlen
      have hv : vp_in (nI (l'.length + 1) - 1) 11 := by rw [nI_pred]; exact vp_in_nI (by omega) (by decide)
      have e1 : wa' (nI (l'.length + 1) - 1).toNatClampNeg = nI q := by rw [nI_pred, nI_clamp (by omega)]; exact hr'.1
      have e3 : fi' (nI (l'.length + 1) - 1).toNatClampNeg = fi' l'.length := by rw [nI_pred, nI_clamp (by omega)]
      have hfi := hr'.2.2.1 trivial
      have hvq : vp_in (nI q) 11 := vp_in_nI hq (by decide)
      have e4 : wa' 0 = nI (sn_rt (q :: l')) := sn_Rp_0 _ (by simp) hr'
      have hqc : (nI q).toNatClampNeg = q := nI_clamp (by omega)
      have hd : ∀ z, sn_Way cl A B S z → sn_Pd l 0 z → z = q :: l' ∨ sn_Pd (q :: l') 0 z := hpd
      refine br_f (by decide) ⟨hv, nm_r e1 ⟨hv, ?_⟩⟩
      refine br_c (fun c => ⟨hvq, hvq, nm_r (e' := so) (by rw [hqc]; exact sn_us _ _) ?_⟩) (fun c => ⟨hvq, hvq, nm_r (e' := upd so q (so q ||| ((1 : Int32) <<< (nI (sn_rt (q :: l')) &&& 31)))) (by rw [hqc, e4]) ?_⟩)
      · have hnf : ¬ sn_Fi cl A B S Z w (q :: l') := hfi.mp (e3.symm.trans c)
        refine ih (q :: l') wa' up' fi' so (by omega) (Or.inr hwl) hr' hb (fun z hz => ?_) h2
        rcases h1 z hz with c1 | c1
        · rcases hd z hz c1 with e | e
          · subst e; exact Or.inr (fun z => absurd z hnf)
          · exact Or.inl e
        · exact Or.inr c1
      · have hf : sn_Fi cl A B S Z w (q :: l') := Classical.byContradiction (fun z => c (e3.trans (hfi.mpr z)))
        have hbq : ∀ i, bt (upd so q (so q ||| ((1 : Int32) <<< (nI (sn_rt (q :: l')) &&& 31))) q) i = (bt (so q) i || decide (i = sn_rt (q :: l'))) := by
          intro i
          rw [pk_us, b_or, sn_b1 (by omega)]
        refine ih (q :: l') wa' up' fi' _ (by omega) (Or.inr hwl) hr' (fun n hn i hi => ?_) (fun z hz => ?_) (fun n m hn hi => ?_)
        · by_cases e : n = q
          · subst e
            rw [hbq, Bool.or_eq_true, decide_eq_true_eq] at hi
            rcases hi with hi | hi
            · exact hb n hn i hi
            · omega
          · rw [pk_un e] at hi; exact hb n hn i hi
        · have mono : ∀ n i, bt (so n) i = true → bt (upd so q (so q ||| ((1 : Int32) <<< (nI (sn_rt (q :: l')) &&& 31))) n) i = true := by
            intro n i hi
            by_cases e : n = q
            · subst e; rw [hbq, hi]; rfl
            · rw [pk_un e]; exact hi
          rcases h1 z hz with c1 | c1
          · rcases hd z hz c1 with e | e
            · subst e
              refine Or.inr (fun _ => ?_)
              show bt (upd so q (so q ||| ((1 : Int32) <<< (nI (sn_rt (q :: l')) &&& 31))) q) (sn_rt (q :: l')) = true
              rw [hbq, decide_eq_true rfl, Bool.or_true]
            · exact Or.inl e
          · exact Or.inr (fun hz' => mono _ _ (c1 hz'))
        · by_cases e : n = q
          · subst e
            rw [hbq, Bool.or_eq_true, decide_eq_true_eq] at hi
            rcases hi with hi | hi
            · exact h2 n m hn hi
            · exact ⟨n :: l', hwl, rfl, hi.symm, hf⟩
          · rw [pk_un e] at hi; exact h2 n m hn hi
theorem sy_w33 (g : sn_G A B S Z) (H : sn_YG cl A B S Z he si th ea eb wh) {post : SY → Prop}
    (hK : ∀ (w : Nat → Nat) (wa up fi wy : Nat → Int32), (∀ n, n < 11 → wy n = nI (w n) ∧ w n ≤ 7) → sn_LW cl A B S Z w → ∃ n, wY_work_106 post n (nI 0) he si th ea eb wh wa up fi wy so nx) :
    ∀ (M : Nat) (l : List Nat) (w : Nat → Nat) (wa up fi wy : Nat → Int32), sn_mu l 0 < M → (l = [] ∨ sn_Way cl A B S l) → sn_Rp cl A B S Z False w wa up fi l → (∀ n, n < 11 → wy n = nI (w n) ∧ w n ≤ 7) →
    (∀ z, sn_Way cl A B S z → sn_Pd l 0 z ∨ sn_up cl A B S Z z ≤ w (sn_hd z)) →
    (∀ n, n < 11 → w n = 0 ∨ ∃ z, sn_Way cl A B S z ∧ sn_hd z = n ∧ sn_up cl A B S Z z = w n) → wY_work_33 post M (nI l.length) he si th ea eb wh wa up fi wy so nx := by
  intro M
  induction M with
  | zero => intro l w wa up fi wy hM; omega
  | succ M ih =>
    intro l w wa up fi wy hM hl hr hw h1 h2
    rw [wY_work_33]
    refine sy_adv g H hw hl hr (fun hn => br_t rfl (hK w wa up fi wy hw (sn_wayLW g (fun z hz => (h1 z hz).elim (fun c => absurd c (hn z hz)) (fun c => c)) h2))) (fun l' wa' up' fi' hn hr' => ?_)
    obtain ⟨hwl, hmu, hpd⟩ := hn
    cases l' with
    | nil => exact hwl.elim
    | cons q l' =>
      have hq : q < 11 := (sn_way_nd _ hwl).2 q List.mem_cons_self
      have hlen := sn_way_len hwl
      have hu7 := sn_up_7 g _ hwl
      have hwq := hw q hq
      rw [List.length_cons] at hlen
      have hv : vp_in (nI (l'.length + 1) - 1) 11 := by rw [nI_pred]; exact vp_in_nI (by omega) (by decide)
      have e1 : wa' (nI (l'.length + 1) - 1).toNatClampNeg = nI q := by rw [nI_pred, nI_clamp (by omega)]; exact hr'.1
      have e2 : up' (nI (l'.length + 1) - 1).toNatClampNeg = nI (sn_up cl A B S Z (q :: l')) := by rw [nI_pred, nI_clamp (by omega)]; exact hr'.2.1
      have hvq : vp_in (nI q) 11 := vp_in_nI hq (by decide)
      have hqc : (nI q).toNatClampNeg = q := nI_clamp (by omega)
      have e5 : wy (nI q).toNatClampNeg = nI (w q) := by rw [hqc]; exact hwq.1
      have hd : ∀ z, sn_Way cl A B S z → sn_Pd l 0 z → z = q :: l' ∨ sn_Pd (q :: l') 0 z := hpd
      refine br_f (by decide) ⟨hv, nm_r e1 ⟨hv, hvq, pk_le (sn_up cl A B S Z (q :: l')) (w q) (fun c => ⟨hvq, hvq, nm_r (e' := wy) (by rw [hqc]; exact sn_us _ _) ?_⟩) (fun c => ⟨hv, hvq, nm_r (e' := upd wy q (nI (sn_up cl A B S Z (q :: l')))) (by rw [hqc]; exact congrArg (upd wy q) e2) ?_⟩) e2 e5⟩⟩
      · refine ih (q :: l') w wa' up' fi' wy (by omega) (Or.inr hwl) hr' hw (fun z hz => ?_) h2
        rcases h1 z hz with c1 | c1
        · rcases hd z hz c1 with e | e
          · subst e; exact Or.inr c
          · exact Or.inl e
        · exact Or.inr c1
      · refine ih (q :: l') (fun n => if n = q then sn_up cl A B S Z (q :: l') else w n) wa' up' fi' _ (by omega) (Or.inr hwl) (sn_Rp_w _ hr') (fun n hn => ?_) (fun z hz => ?_) (fun n hn => ?_)
        · by_cases e : n = q
          · subst e
            rw [pk_us]; rw [if_pos rfl]
            exact ⟨rfl, hu7⟩
          · rw [pk_un e]; rw [if_neg e]
            exact hw n hn
        · rcases h1 z hz with c1 | c1
          · rcases hd z hz c1 with e | e
            · subst e
              refine Or.inr ?_
              show _ ≤ if q = q then sn_up cl A B S Z (q :: l') else w q
              rw [if_pos rfl]; exact Nat.le_refl _
            · exact Or.inl e
          · refine Or.inr (Nat.le_trans c1 ?_)
            by_cases e : sn_hd z = q
            · rw [if_pos e, e]; omega
            · rw [if_neg e]; exact Nat.le_refl _
        · by_cases e : n = q
          · rw [if_pos e]
            exact Or.inr ⟨q :: l', hwl, e.symm, rfl⟩
          · rw [if_neg e]; exact h2 n hn
theorem sy_w2 {post : SY → Prop} (hK : ∀ wy so : Nat → Int32, (∀ n, n < 11 → wy n = 0 ∧ so n = 0) → ∃ n, wY_work_33 post n (nI 0) he si th ea eb wh wa up fi wy so nx) :
    ∀ (d i : Nat) (wy so : Nat → Int32), i + d = 11 → (∀ n, n < i → wy n = 0 ∧ so n = 0) → wY_work_2 post ln (d + 1) (nI i) he si th ea eb wh wa up fi wy so nx := by
  intro d
  induction d with
  | zero =>
    intro i wy so hi h
    have e : i = 11 := by omega
    subst e
    exact pk_le 11 11 (fun _ => hK wy so h) (fun z => absurd z (by omega))
  | succ d ih =>
    intro i wy so hi h
    have hv : vp_in (nI i) 11 := vp_in_nI (by omega) (by decide)
    have hc : (nI i).toNatClampNeg = i := nI_clamp (by omega)
    refine pk_le 11 i (fun z => absurd z (by omega)) (fun _ => ⟨hv, nm_r (e' := upd wy i 0) (by rw [hc]) ⟨hv, nm_r (e' := upd so i 0) (by rw [hc]) (nm_r (nI_1 i) (ih (i + 1) _ _ (by omega) (fun n hn => ?_)))⟩⟩)
    by_cases e : n = i
    · subst e; exact ⟨pk_us, pk_us⟩
    · rw [pk_un e, pk_un e]; exact h n (by omega)
theorem sy_work (g : sn_G A B S Z) (H : sn_YG cl A B S Z he si th ea eb wh) {post : SY → Prop}
    (h : ∀ (wa up fi wy so : Nat → Int32) (w : Nat → Nat), (∀ n, n < 11 → wy n = nI (w n)) → sn_Sol cl A B S Z w so → post (nI 0, he, si, th, ea, eb, wh, wa, up, fi, wy, so, nx)) : wpY_work post (ln, he, si, th, ea, eb, wh, wa, up, fi, wy, so, nx) := by
  refine ⟨12, sy_w2 (fun wy so h0 => ⟨_, sy_w33 g H (fun w wa up fi wy hw hW => ⟨_, sy_w106 g H hw hW (fun wa up fi so hs => h wa up fi wy so w (fun n hn => (hw n hn).1) hs) _ [] wa up fi so (Nat.lt_succ_self _) (Or.inl rfl) trivial (fun n hn i hi => ?_) (fun z hz => Or.inl (sn_Pd_0 hz)) (fun n m hn hi => ?_)⟩) _ [] (fun _ => 0) wa up fi wy (Nat.lt_succ_self _) (Or.inl rfl) trivial (fun n hn => ⟨(h0 n hn).1, Nat.zero_le _⟩) (fun z hz => Or.inl (sn_Pd_0 hz)) (fun n hn => Or.inl rfl)⟩) 11 0 wy so rfl (fun n hn => absurd hn (by omega))⟩
  · rw [(h0 n hn).2, b_0] at hi; cases hi
  · rw [(h0 n hn).2, b_0] at hi; cases hi
end
end
section
/-! the component's walks: through, raise, the weights -/
/-- the component's arrays show the graph -/
def sn_XG (cl : Nat → Bool) (A B S Z : Nat → Nat) (pr : Int32) (ea eb ki ga st he si : Nat → Int32) : Prop :=
  (∀ k, k < 12 → ea k = nI (A k) ∧ eb k = nI (B k) ∧ (cl k = true → st k = nI (S k))) ∧ (∀ n, n < 11 → si n = nI (Z n)) ∧
  (∀ k, k < 12 → ∀ (post : Int32 → Prop) (wx rs af : Nat → Int32), post (sn_i (cl k)) → wpX_isClosed post (pr, ea, eb, ki, ga, st, he, si, wx, rs, af) (nI k))
/-- weights on their way up -/
def sn_IW (cl : Nat → Bool) (A B S Z : Nat → Nat) (w : Nat → Nat) : Prop :=
  (∀ n, n < 11 → Z n ≤ w n) ∧ ∀ P, sn_Pre cl A B S Z P → ∀ n, n < 11 → w n ≤ P n
def sn_nu (w : Nat → Nat) (q v : Nat) : Nat → Nat := fun n => if n = q then v else w n
/-- the switch k raises nothing -/
def sn_at (cl : Nat → Bool) (A B S : Nat → Nat) (w : Nat → Nat) (k : Nat) : Prop :=
  cl k = true → (5 ≤ B k → min (w (A k)) (S k) ≤ w (B k)) ∧ (5 ≤ A k → min (w (B k)) (S k) ≤ w (A k))
def sn_Mw (w0 : Nat → Nat) (x : Int32) (w : Nat → Nat) : Prop := (x = 0 ∧ w = w0) ∨ (x = 1 ∧ sn_sum w0 11 < sn_sum w 11)
section
variable {cl : Nat → Bool} {A B S Z : Nat → Nat} {pr : Int32} {ea eb ki ga st he si wx rs af : Nat → Int32}
theorem sn_nu_s {w : Nat → Nat} {q v : Nat} : sn_nu w q v q = v := if_pos rfl
theorem sn_nu_n {w : Nat → Nat} {q v n : Nat} (h : n ≠ q) : sn_nu w q v n = w n := if_neg h
theorem sn_IW_r {w : Nat → Nat} (h : sn_IW cl A B S Z w) {p q s : Nat} (he : sn_E cl A B S p q s) (hp : p < 11) (hl : w q < min (w p) s) : sn_IW cl A B S Z (sn_nu w q (min (w p) s)) := by
  refine ⟨fun n hn => ?_, fun P hP n hn => ?_⟩
  · have := h.1 n hn
    by_cases e : n = q
    · subst e; rw [sn_nu_s]; omega
    · rw [sn_nu_n e]; exact this
  · by_cases e : n = q
    · subst e
      rw [sn_nu_s]
      have h1 := hP.2 p n s he
      have h2 := h.2 P hP p hp
      omega
    · rw [sn_nu_n e]; exact h.2 P hP n hn
theorem sn_nu_sum {w : Nat → Nat} {q v : Nat} (hq : q < 11) (hl : w q < v) : sn_sum w 11 < sn_sum (sn_nu w q v) 11 := by
  refine sn_sum_lt (j := q) 11 (fun n hn => ?_) hq ?_
  · by_cases e : n = q
    · subst e; rw [sn_nu_s]; omega
    · rw [sn_nu_n e]; exact Nat.le_refl _
  · rw [sn_nu_s]; exact hl
theorem sx_ea (H : sn_XG cl A B S Z pr ea eb ki ga st he si) {k : Nat} (hk : k < 12) : ea (nI k).toNatClampNeg = nI (A k) := by
  rw [nI_clamp (by omega)]; exact (H.1 k hk).1
theorem sx_eb (H : sn_XG cl A B S Z pr ea eb ki ga st he si) {k : Nat} (hk : k < 12) : eb (nI k).toNatClampNeg = nI (B k) := by
  rw [nI_clamp (by omega)]; exact (H.1 k hk).2.1
theorem sx_store {q : Nat} (hq : q < 2 ^ 31) {post : Int32 → Prop} (h0 : ¬ (5 ≤ q ∧ q < 11) → post 0) (h1 : 5 ≤ q → q < 11 → post 1) : wpX_isStore post (nI q) :=
  pk_lt q 5 (fun c => h0 (by omega)) (fun c => pk_le 11 q (fun c' => h0 (by omega)) (fun c' => h1 c c'))
theorem sx_thr {k p q s v : Nat} (hk : k < 12) (hp : p < 11) (hq : q < 11) (hs : st k = nI s) (hs6 : s ≤ 6) (hv : wx p = nI v) (hv7 : v ≤ 7) {post : Int32 → Prop} (h0 : q < 5 → post 0) (h1 : 5 ≤ q → post (nI (min v s))) : wpX_through post (pr, ea, eb, ki, ga, st, he, si, wx, rs, af) (nI k) (nI p) (nI q) := by
  have e1 : st (nI k).toNatClampNeg = nI s := by rw [nI_clamp (by omega)]; exact hs
  have e2 : wx (nI p).toNatClampNeg = nI v := by rw [nI_clamp (by omega)]; exact hv
  unfold wpX_through
  dsimp only
  refine sx_store (by omega) (fun c => br_t rfl (h0 (by omega))) (fun c _ => br_f (by decide) ⟨vp_in_nI hp (by decide), vp_in_nI hk (by decide), ?_⟩)
  have h := h1 c
  refine pk_le s v (fun c' => ⟨vp_in_nI hk (by decide), ?_⟩) (fun c' => ⟨vp_in_nI hp (by decide), ?_⟩) e1 e2
  · rw [e1]; rw [Nat.min_eq_right c'] at h; exact h
  · rw [e2]; rw [Nat.min_eq_left (Nat.le_of_lt c')] at h; exact h
theorem sx_raise {w : Nat → Nat} {k p q s : Nat} (hk : k < 12) (hp : p < 11) (hq : q < 11) (hs : st k = nI s) (hs6 : s ≤ 6) (hw : ∀ n, n < 11 → wx n = nI (w n) ∧ w n ≤ 7) {post : Int32 → SX → Prop}
    (h0 : (5 ≤ q → min (w p) s ≤ w q) → post 0 (pr, ea, eb, ki, ga, st, he, si, wx, rs, af)) (h1 : 5 ≤ q → w q < min (w p) s → post 1 (pr, ea, eb, ki, ga, st, he, si, upd wx q (nI (min (w p) s)), rs, af)) : wpX_raise post (pr, ea, eb, ki, ga, st, he, si, wx, rs, af) (nI k) (nI p) (nI q) := by
  have e : wx (nI q).toNatClampNeg = nI (w q) := by rw [nI_clamp (by omega)]; exact (hw q hq).1
  have h7 := (hw q hq).2
  have hvq : vp_in (nI q) 11 := vp_in_nI hq (by decide)
  unfold wpX_raise
  dsimp only
  refine sx_thr hk hp hq hs hs6 (hw p hp).1 (hw p hp).2 (fun c => ⟨hvq, ?_⟩) (fun c => ⟨hvq, ?_⟩)
  · exact pk_lt (w q) 0 (fun z => absurd z (by omega)) (fun _ => h0 (fun z => absurd z (by omega))) e
  · refine pk_lt (w q) (min (w p) s) (fun z => ⟨hvq, nm_r (e' := upd wx q (nI (min (w p) s))) ?_ (h1 c z)⟩) (fun z => h0 (fun _ => z)) e
    rw [nI_clamp (show q < 2 ^ 31 by omega), sn_byte (by omega)]
theorem sx_rs {w0 w : Nat → Nat} {k p q : Nat} {x1 : Int32} (g : sn_G A B S Z) (H : sn_XG cl A B S Z pr ea eb ki ga st he si) (hk : k < 12) (ho : sn_On cl A B p q k) (hw : ∀ n, n < 11 → wx n = nI (w n) ∧ w n ≤ 7) (hI : sn_IW cl A B S Z w) (hM : sn_Mw w0 x1 w) {post : Int32 → SX → Prop}
    (h : ∀ (r : Int32) (w' : Nat → Nat) (wx' : Nat → Int32), (∀ n, n < 11 → wx' n = nI (w' n) ∧ w' n ≤ 7) → sn_IW cl A B S Z w' → sn_Mw w0 (x1 ||| r) w' → (x1 ||| r = 0 → x1 = 0 ∧ (5 ≤ q → min (w0 p) (S k) ≤ w0 q)) → post r (pr, ea, eb, ki, ga, st, he, si, wx', rs, af)) : wpX_raise post (pr, ea, eb, ki, ga, st, he, si, wx, rs, af) (nI k) (nI p) (nI q) := by
  have hl := sn_On_lt g hk ho
  have hs := g.1 k hk
  refine sx_raise hk hl.1 hl.2 ((H.1 k hk).2.2 ho.2) hs.2.2.2 hw (fun c => ?_) (fun c5 c => ?_)
  · rcases hM with ⟨e, e'⟩ | ⟨e, e'⟩
    · subst e e'
      exact h 0 w wx hw hI (Or.inl ⟨by decide, rfl⟩) (fun _ => ⟨rfl, c⟩)
    · subst e
      exact h 0 w wx hw hI (Or.inr ⟨by decide, e'⟩) (fun z => absurd z (by decide))
  · have hE : sn_E cl A B S p q (S k) := ⟨k, hk, rfl, c5, ho⟩
    have hI' := sn_IW_r hI hE hl.1 c
    have h7 := (sn_LW_b g hI'.2).1
    have hsum := sn_nu_sum hl.2 c
    have hx : x1 ||| 1 = 1 := by
      rcases hM with ⟨e, _⟩ | ⟨e, _⟩ <;> (subst e; decide)
    refine h 1 _ _ (fun n hn => ⟨?_, h7 n hn⟩) hI' (Or.inr ⟨hx, ?_⟩) (fun z => absurd (hx.symm.trans z) (by decide))
    · by_cases e : n = q
      · subst e; rw [pk_us, sn_nu_s]
      · rw [pk_un e, sn_nu_n e]; exact (hw n hn).1
    · rcases hM with ⟨_, e⟩ | ⟨_, e⟩
      · subst e; exact hsum
      · exact Nat.lt_trans e hsum
theorem sx_44 {w0 : Nat → Nat} {r : Nat} (g : sn_G A B S Z) (H : sn_XG cl A B S Z pr ea eb ki ga st he si) {post : SX → Prop} {J : Int32 → Int32 → Int32 → (Nat → Int32) → (Nat → Int32) → (Nat → Int32) → (Nat → Int32) → (Nat → Int32) → (Nat → Int32) → (Nat → Int32) → (Nat → Int32) → (Nat → Int32) → (Nat → Int32) → Prop}
    (hJ : ∀ (x1 : Int32) (w : Nat → Nat) (wx : Nat → Int32), (∀ n, n < 11 → wx n = nI (w n) ∧ w n ≤ 7) → sn_IW cl A B S Z w → sn_Mw w0 x1 w → (x1 = 0 → ∀ j, j < 12 → sn_at cl A B S w0 j) → J x1 (nI (r + 1)) pr ea eb ki ga st he si wx rs af) :
    ∀ (d k : Nat) (x1 : Int32) (w : Nat → Nat) (wx : Nat → Int32), k + d = 12 → (∀ n, n < 11 → wx n = nI (w n) ∧ w n ≤ 7) → sn_IW cl A B S Z w → sn_Mw w0 x1 w → (x1 = 0 → ∀ j, j < k → sn_at cl A B S w0 j) → wX_solve_44 post J (nI r) (d + 1) x1 (nI k) pr ea eb ki ga st he si wx rs af := by
  intro d
  induction d with
  | zero =>
    intro k x1 w wx hk hw hI hM hc
    have e : k = 12 := by omega
    subst e
    exact pk_le 12 12 (fun _ => nm_r (nI_1 r) (hJ x1 w wx hw hI hM hc)) (fun z => absurd z (by omega))
  | succ d ih =>
    intro k x1 w wx hk hw hI hM hc
    have hk' : k < 12 := by omega
    have hv : vp_in (nI k) 12 := vp_in_nI hk' (by decide)
    refine pk_le 12 k (fun z => absurd z (by omega)) (fun _ => H.2.2 k hk' _ _ _ _ ?_)
    cases hcl : cl k with
    | false =>
      refine br_t rfl (nm_r (nI_1 k) (ih (k + 1) x1 w wx (by omega) hw hI hM (fun z j hj => ?_)))
      by_cases e : j = k
      · subst e; intro z'; rw [hcl] at z'; cases z'
      · exact hc z j (by omega)
    | true =>
      refine br_f (by decide) ⟨hv, hv, ?_⟩
      rw [sx_ea H hk', sx_eb H hk']
      refine sx_rs g H hk' (p := A k) (q := B k) ⟨Or.inl ⟨rfl, rfl⟩, hcl⟩ hw hI hM (fun r1 w1 wx1 hw1 hI1 hM1 hc1 => nm_e ⟨hv, hv, ?_⟩)
      rw [sx_ea H hk', sx_eb H hk']
      refine sx_rs g H hk' (p := B k) (q := A k) ⟨Or.inr ⟨rfl, rfl⟩, hcl⟩ hw1 hI1 hM1 (fun r2 w2 wx2 hw2 hI2 hM2 hc2 => nm_e (nm_r (nI_1 k) (ih (k + 1) _ w2 wx2 (by omega) hw2 hI2 hM2 (fun z j hj => ?_))))
      have z1 := hc2 z
      have z2 := hc1 z1.1
      by_cases e : j = k
      · subst e; exact fun _ => ⟨z2.2, z1.2⟩
      · exact hc z2.1 j (by omega)
theorem sn_at_pre {w : Nat → Nat} (hI : sn_IW cl A B S Z w) (h : ∀ j, j < 12 → sn_at cl A B S w j) : sn_LW cl A B S Z w := by
  refine ⟨⟨hI.1, fun p q s he => ?_⟩, hI.2⟩
  obtain ⟨k, hk, hs, h5, ho⟩ := he
  have h1 := h k hk ho.2
  rcases ho.1 with ⟨a, b⟩ | ⟨a, b⟩
  · rw [← hs, ← a, ← b]; exact h1.1 (by omega)
  · rw [← hs, ← a, ← b]; exact h1.2 (by omega)
theorem sn_sum77 {w : Nat → Nat} (h : ∀ n, n < 11 → w n ≤ 7) : sn_sum w 11 ≤ 77 := sn_sum_b (c := 7) 11 h
theorem sn_sum35 (g : sn_G A B S Z) {w : Nat → Nat} (h : ∀ n, n < 11 → Z n ≤ w n) : 35 ≤ sn_sum w 11 := by
  have h0 := h 0 (by omega)
  have h1 := h 1 (by omega)
  have h2 := h 2 (by omega)
  have h3 := h 3 (by omega)
  have h4 := h 4 (by omega)
  have k0 := g.2.1 0 (by omega)
  have k1 := g.2.1 1 (by omega)
  have k2 := g.2.1 2 (by omega)
  have k3 := g.2.1 3 (by omega)
  have k4 := g.2.1 4 (by omega)
  simp only [sn_sum]
  omega
theorem sx_30 (g : sn_G A B S Z) (H : sn_XG cl A B S Z pr ea eb ki ga st he si) {post : SX → Prop}
    (hK : ∀ (w : Nat → Nat) (wx : Nat → Int32), (∀ n, n < 11 → wx n = nI (w n) ∧ w n ≤ 7) → sn_LW cl A B S Z w → ∃ n, wX_solve_112 post pr n (nI 0) ea eb ki ga st he si wx rs af) :
    ∀ (d r : Nat) (x1 : Int32) (w : Nat → Nat) (wx : Nat → Int32), r + d = 64 → (∀ n, n < 11 → wx n = nI (w n) ∧ w n ≤ 7) → sn_IW cl A B S Z w → ((x1 = 0 ∧ sn_LW cl A B S Z w) ∨ (x1 = 1 ∧ r + 35 ≤ sn_sum w 11)) → wX_solve_30 post (d + 1) x1 (nI r) pr ea eb ki ga st he si wx rs af := by
  intro d
  induction d with
  | zero =>
    intro r x1 w wx hr hw hI hM
    have hs := sn_sum77 (fun n hn => (hw n hn).2)
    rcases hM with ⟨_, e⟩ | ⟨_, e⟩
    · exact pk_le 64 r (fun _ => hK w wx hw e) (fun z => absurd z (by omega))
    · omega
  | succ d ih =>
    intro r x1 w wx hr hw hI hM
    refine pk_le 64 r (fun z => absurd z (by omega)) (fun _ => ?_)
    rcases hM with ⟨e, e'⟩ | ⟨e, e'⟩
    · subst e; exact br_t rfl (hK w wx hw e')
    · subst e
      refine br_f (by decide) ⟨13, sx_44 (w0 := w) g H (fun x1 w' wx' hw' hI' hM' hc' => ih (r + 1) x1 w' wx' (by omega) hw' hI' ?_) 12 0 0 w wx rfl hw hI (Or.inl ⟨rfl, rfl⟩) (fun _ j hj => absurd hj (by omega))⟩
      rcases hM' with ⟨z, z'⟩ | ⟨z, z'⟩
      · subst z'; exact Or.inl ⟨z, sn_at_pre hI' (hc' z)⟩
      · exact Or.inr ⟨z, by omega⟩
theorem sx_2 {post : SX → Prop} (H : sn_XG cl A B S Z pr ea eb ki ga st he si) (g : sn_G A B S Z) (hK : ∀ wx : Nat → Int32, (∀ n, n < 11 → wx n = nI (Z n)) → ∃ n, wX_solve_30 post n 1 (nI 0) pr ea eb ki ga st he si wx rs af) :
    ∀ (d i : Nat) (wx : Nat → Int32), i + d = 11 → (∀ n, n < i → wx n = nI (Z n)) → wX_solve_2 post pr (d + 1) (nI i) ea eb ki ga st he si wx rs af := by
  intro d
  induction d with
  | zero =>
    intro i wx hi h
    have e : i = 11 := by omega
    subst e
    exact pk_le 11 11 (fun _ => hK wx h) (fun z => absurd z (by omega))
  | succ d ih =>
    intro i wx hi h
    have hv : vp_in (nI i) 11 := vp_in_nI (by omega) (by decide)
    have hz7 : Z i ≤ 7 := (sn_LW_b (cl := cl) g (w := Z) (fun P hP => hP.1)).1 i (by omega)
    refine pk_le 11 i (fun z => absurd z (by omega)) (fun _ => ⟨hv, hv, nm_r (e' := upd wx i (nI (Z i))) ?_ (nm_r (nI_1 i) (ih (i + 1) _ (by omega) (fun n hn => ?_)))⟩)
    · rw [nI_clamp (show i < 2 ^ 31 by omega), H.2.1 i (by omega), sn_byt (by omega)]
    · by_cases e : n = i
      · subst e; exact pk_us
      · rw [pk_un e]; exact h n (by omega)
end
end
section
/-! the component's walks: handOn, the roots, solve -/
def sn_cnt (x : Int32) : Nat := sn_sum (fun i => if bt x i = true then 1 else 0) 11
def sn_tot (rs : Nat → Int32) : Nat := sn_sum (fun n => sn_cnt (rs n)) 11
/-- roots on their way -/
def sn_IR (cl : Nat → Bool) (A B S Z : Nat → Nat) (w : Nat → Nat) (rs : Nat → Int32) : Prop :=
  (∀ n, n < 11 → ∀ i, bt (rs n) i = true → i < 11) ∧ (∀ n, n < 11 → w n = Z n → bt (rs n) n = true) ∧ ∀ Q, sn_Cl cl A B S Z w Q → ∀ n m, n < 11 → bt (rs n) m = true → Q n m
/-- the switch k hands nothing on -/
def sn_ar (cl : Nat → Bool) (A B S : Nat → Nat) (w : Nat → Nat) (rs : Nat → Int32) (k : Nat) : Prop :=
  cl k = true → (5 ≤ B k → min (w (A k)) (S k) = w (B k) → ∀ m, bt (rs (A k)) m = true → bt (rs (B k)) m = true) ∧ (5 ≤ A k → min (w (B k)) (S k) = w (A k) → ∀ m, bt (rs (B k)) m = true → bt (rs (A k)) m = true)
def sn_Mr (rs0 : Nat → Int32) (x : Int32) (rs : Nat → Int32) : Prop := (x = 0 ∧ rs = rs0) ∨ (x = 1 ∧ sn_tot rs0 < sn_tot rs)
section
variable {cl : Nat → Bool} {A B S Z : Nat → Nat} {pr : Int32} {ea eb ki ga st he si wx rs af : Nat → Int32}
theorem sn_cnt_le {x y : Int32} (h : ∀ i, bt x i = true → bt y i = true) : sn_cnt x ≤ sn_cnt y := by
  refine sn_sum_le 11 (fun i _ => ?_)
  cases c : bt x i
  · rw [if_neg (by decide)]; omega
  · rw [h i c]; exact Nat.le_refl _
theorem sn_cnt_lt {x y : Int32} {j : Nat} (h : ∀ i, bt x i = true → bt y i = true) (hj : j < 11) (h0 : bt x j = false) (h1 : bt y j = true) : sn_cnt x < sn_cnt y := by
  refine sn_sum_lt (j := j) 11 (fun i _ => ?_) hj ?_
  · cases c : bt x i
    · rw [if_neg (by decide)]; omega
    · rw [h i c]; exact Nat.le_refl _
  · rw [h0, h1, if_neg (by decide), if_pos rfl]; omega
theorem sn_cnt_11 (x : Int32) : sn_cnt x ≤ 11 := by
  refine sn_sum_b (c := 1) 11 (fun i _ => ?_)
  by_cases c : bt x i = true
  · rw [if_pos c]; omega
  · rw [if_neg c]; omega
theorem sn_tot_121 (rs : Nat → Int32) : sn_tot rs ≤ 121 := sn_sum_b (c := 11) 11 (fun i _ => sn_cnt_11 _)
theorem sn_tot_lt {rs : Nat → Int32} {q j : Nat} {x : Int32} (hq : q < 11) (h : ∀ i, bt (rs q) i = true → bt x i = true) (hj : j < 11) (h0 : bt (rs q) j = false) (h1 : bt x j = true) : sn_tot rs < sn_tot (upd rs q x) := by
  refine sn_sum_lt (j := q) 11 (fun i _ => ?_) hq ?_
  · by_cases e : i = q
    · subst e; rw [pk_us]; exact sn_cnt_le h
    · rw [pk_un e]; exact Nat.le_refl _
  · rw [pk_us]; exact sn_cnt_lt h hj h0 h1
theorem sn_z0 {x : Int32} : x = 0 ↔ ∀ i, bt x i = false := by
  constructor
  · intro e i; rw [e, b_0]
  · intro h; exact b_ext (fun i _ => by rw [h i, b_0])
theorem sn_mor (x y : Int32) (i : Nat) : bt (x &&& (y ^^^ (-1))) i = (bt x i && !(bt y i)) := by
  rw [b_and, b_xor]
  rcases Nat.lt_or_ge i 32 with h | h
  · rw [b_m1 i h]; cases bt x i <;> cases bt y i <;> rfl
  · rw [b_big h, Bool.false_and, Bool.false_and]
theorem sx_hand {w : Nat → Nat} {k p q s : Nat} (hk : k < 12) (hp : p < 11) (hq : q < 11) (hs : st k = nI s) (hs6 : s ≤ 6) (hw : ∀ n, n < 11 → wx n = nI (w n) ∧ w n ≤ 7) (hw1 : 1 ≤ w q) (hb : ∀ n, n < 11 → ∀ i, bt (rs n) i = true → i < 11) {post : Int32 → SX → Prop}
    (h0 : (5 ≤ q → min (w p) s = w q → ∀ m, bt (rs p) m = true → bt (rs q) m = true) → post 0 (pr, ea, eb, ki, ga, st, he, si, wx, rs, af))
    (h1 : ∀ x : Int32, 5 ≤ q → min (w p) s = w q → (∀ m, bt x m = (bt (rs q) m || bt (rs p) m)) → (∃ m, bt (rs p) m = true ∧ bt (rs q) m = false) → post 1 (pr, ea, eb, ki, ga, st, he, si, wx, upd rs q x, af)) : wpX_handOn post (pr, ea, eb, ki, ga, st, he, si, wx, rs, af) (nI k) (nI p) (nI q) := by
  have hwq := hw q hq
  have e : wx (nI q).toNatClampNeg = nI (w q) := by rw [nI_clamp (by omega)]; exact hwq.1
  have hvq : vp_in (nI q) 11 := vp_in_nI hq (by decide)
  have hqc : (nI q).toNatClampNeg = q := nI_clamp (by omega)
  have hpc : (nI p).toNatClampNeg = p := nI_clamp (by omega)
  refine ⟨vp_in_nI hp (by decide), hvq, nm_r (e' := rs p &&& (rs q ^^^ (-1))) (by rw [hqc, hpc]) (br_c (fun c => h0 (fun _ _ m hm => ?_)) (fun c => ?_))⟩
  · have := sn_z0.mp c m
    rw [sn_mor, hm] at this
    cases z : bt (rs q) m
    · rw [z] at this; cases this
    · rfl
  · refine sx_thr hk hp hq hs hs6 (hw p hp).1 (hw p hp).2 (fun c5 => ⟨hvq, ?_⟩) (fun c5 => ⟨hvq, ?_⟩)
    · exact pk_eq 0 (w q) (fun z => absurd z (by omega)) (fun _ => h0 (fun z => absurd z (by omega))) rfl e
    · refine pk_eq (min (w p) s) (w q) (fun z => ⟨hvq, hvq, nm_r (e' := upd rs q (rs q ||| (rs p &&& (rs q ^^^ (-1))))) ?_ (h1 _ c5 z (fun m => ?_) ?_)⟩) (fun z => h0 (fun _ z' => absurd z' z)) rfl e
      · rw [hqc]
        rw [sn_short]
        intro i hi
        rw [b_or, sn_mor, Bool.or_eq_true, Bool.and_eq_true] at hi
        rcases hi with hi | hi
        · exact hb q hq i hi
        · exact hb p hp i hi.1
      · rw [b_or, sn_mor]; cases bt (rs q) m <;> cases bt (rs p) m <;> rfl
      · refine Classical.byContradiction fun hn => c (sn_z0.mpr fun m => ?_)
        rw [sn_mor]
        cases z1 : bt (rs p) m
        · rfl
        · cases z2 : bt (rs q) m
          · exact absurd ⟨m, z1, z2⟩ hn
          · rfl
theorem sx_hs {w : Nat → Nat} {rs0 : Nat → Int32} {k p q : Nat} {x1 : Int32} (g : sn_G A B S Z) (H : sn_XG cl A B S Z pr ea eb ki ga st he si) (hk : k < 12) (ho : sn_On cl A B p q k) (hw : ∀ n, n < 11 → wx n = nI (w n) ∧ w n ≤ 7) (hw1 : ∀ n, n < 11 → 1 ≤ w n) (hI : sn_IR cl A B S Z w rs) (hM : sn_Mr rs0 x1 rs) {post : Int32 → SX → Prop}
    (h : ∀ (r : Int32) (rs' : Nat → Int32), sn_IR cl A B S Z w rs' → sn_Mr rs0 (x1 ||| r) rs' → (x1 ||| r = 0 → x1 = 0 ∧ (5 ≤ q → min (w p) (S k) = w q → ∀ m, bt (rs0 p) m = true → bt (rs0 q) m = true)) → post r (pr, ea, eb, ki, ga, st, he, si, wx, rs', af)) : wpX_handOn post (pr, ea, eb, ki, ga, st, he, si, wx, rs, af) (nI k) (nI p) (nI q) := by
  have hl := sn_On_lt g hk ho
  have hs := g.1 k hk
  refine sx_hand hk hl.1 hl.2 ((H.1 k hk).2.2 ho.2) hs.2.2.2 hw (hw1 q hl.2) hI.1 (fun c => ?_) (fun x c5 ct hx hm => ?_)
  · rcases hM with ⟨e, e'⟩ | ⟨e, e'⟩
    · subst e e'
      exact h 0 rs hI (Or.inl ⟨by decide, rfl⟩) (fun _ => ⟨rfl, c⟩)
    · subst e
      exact h 0 rs hI (Or.inr ⟨by decide, e'⟩) (fun z => absurd z (by decide))
  · have hE : sn_E cl A B S p q (S k) := ⟨k, hk, rfl, c5, ho⟩
    obtain ⟨m, hm1, hm2⟩ := hm
    have hmo : ∀ i, bt (rs q) i = true → bt x i = true := fun i hi => by rw [hx i, hi]; rfl
    have hsum := sn_tot_lt hl.2 hmo (hI.1 p hl.1 m hm1) hm2 (by rw [hx m, hm1, Bool.or_true])
    have hx1 : x1 ||| 1 = 1 := by
      rcases hM with ⟨e, _⟩ | ⟨e, _⟩ <;> (subst e; decide)
    have hI' : sn_IR cl A B S Z w (upd rs q x) := by
      refine ⟨fun n hn i hi => ?_, fun n hn z => ?_, fun Q hQ n m hn hi => ?_⟩
      · by_cases e : n = q
        · subst e
          rw [pk_us, hx i, Bool.or_eq_true] at hi
          rcases hi with hi | hi
          · exact hI.1 n hn i hi
          · exact hI.1 p hl.1 i hi
        · rw [pk_un e] at hi; exact hI.1 n hn i hi
      · have := hI.2.1 n hn z
        by_cases e : n = q
        · subst e; rw [pk_us]; exact hmo n this
        · rw [pk_un e]; exact this
      · by_cases e : n = q
        · subst e
          rw [pk_us, hx m, Bool.or_eq_true] at hi
          rcases hi with hi | hi
          · exact hI.2.2 Q hQ n m hn hi
          · exact hQ.2 p n _ m hE ct (hI.2.2 Q hQ p m hl.1 hi)
        · rw [pk_un e] at hi; exact hI.2.2 Q hQ n m hn hi
    refine h 1 _ hI' (Or.inr ⟨hx1, ?_⟩) (fun z => absurd (hx1.symm.trans z) (by decide))
    rcases hM with ⟨_, e⟩ | ⟨_, e⟩
    · subst e; exact hsum
    · exact Nat.lt_trans e hsum
theorem sx_19 {w : Nat → Nat} {rs0 : Nat → Int32} {r : Nat} (g : sn_G A B S Z) (H : sn_XG cl A B S Z pr ea eb ki ga st he si) (hw : ∀ n, n < 11 → wx n = nI (w n) ∧ w n ≤ 7) (hw1 : ∀ n, n < 11 → 1 ≤ w n) {post : SX → Prop} {J : Int32 → Int32 → Int32 → (Nat → Int32) → (Nat → Int32) → (Nat → Int32) → (Nat → Int32) → (Nat → Int32) → (Nat → Int32) → (Nat → Int32) → (Nat → Int32) → (Nat → Int32) → (Nat → Int32) → Prop}
    (hJ : ∀ (x1 : Int32) (rs : Nat → Int32), sn_IR cl A B S Z w rs → sn_Mr rs0 x1 rs → (x1 = 0 → ∀ j, j < 12 → sn_ar cl A B S w rs0 j) → J x1 (nI (r + 1)) pr ea eb ki ga st he si wx rs af) :
    ∀ (d k : Nat) (x1 : Int32) (rs : Nat → Int32), k + d = 12 → sn_IR cl A B S Z w rs → sn_Mr rs0 x1 rs → (x1 = 0 → ∀ j, j < k → sn_ar cl A B S w rs0 j) → wX_spreadRoots_19 post J (nI r) (d + 1) x1 (nI k) pr ea eb ki ga st he si wx rs af := by
  intro d
  induction d with
  | zero =>
    intro k x1 rs hk hI hM hc
    have e : k = 12 := by omega
    subst e
    exact pk_le 12 12 (fun _ => nm_r (nI_1 r) (hJ x1 rs hI hM hc)) (fun z => absurd z (by omega))
  | succ d ih =>
    intro k x1 rs hk hI hM hc
    have hk' : k < 12 := by omega
    have hv : vp_in (nI k) 12 := vp_in_nI hk' (by decide)
    refine pk_le 12 k (fun z => absurd z (by omega)) (fun _ => H.2.2 k hk' _ _ _ _ ?_)
    cases hcl : cl k with
    | false =>
      refine br_t rfl (nm_r (nI_1 k) (ih (k + 1) x1 rs (by omega) hI hM (fun z j hj => ?_)))
      by_cases e : j = k
      · subst e; intro z'; rw [hcl] at z'; cases z'
      · exact hc z j (by omega)
    | true =>
      refine br_f (by decide) ⟨hv, hv, ?_⟩
      rw [sx_ea H hk', sx_eb H hk']
      refine sx_hs g H hk' (p := A k) (q := B k) ⟨Or.inl ⟨rfl, rfl⟩, hcl⟩ hw hw1 hI hM (fun r1 rs1 hI1 hM1 hc1 => nm_e ⟨hv, hv, ?_⟩)
      rw [sx_ea H hk', sx_eb H hk']
      refine sx_hs g H hk' (p := B k) (q := A k) ⟨Or.inr ⟨rfl, rfl⟩, hcl⟩ hw hw1 hI1 hM1 (fun r2 rs2 hI2 hM2 hc2 => nm_e (nm_r (nI_1 k) (ih (k + 1) _ rs2 (by omega) hI2 hM2 (fun z j hj => ?_))))
      have z1 := hc2 z
      have z2 := hc1 z1.1
      by_cases e : j = k
      · subst e; exact fun _ => ⟨z2.2, z1.2⟩
      · exact hc z2.1 j (by omega)
theorem sn_ar_lr {w : Nat → Nat} (hW : sn_LW cl A B S Z w) (hI : sn_IR cl A B S Z w rs) (h : ∀ j, j < 12 → sn_ar cl A B S w rs j) : sn_Sol cl A B S Z w rs := by
  refine ⟨hW, hI.1, ⟨hI.2.1, fun p q s m he ht hr => ?_⟩, fun Q hQ n m hn hi => hI.2.2 Q hQ n m hn hi⟩
  obtain ⟨k, hk, hs, h5, ho⟩ := he
  have h1 := h k hk ho.2
  rcases ho.1 with ⟨a, b⟩ | ⟨a, b⟩
  · subst a b hs; exact h1.1 h5 ht m hr
  · subst a b hs; exact h1.2 h5 ht m hr
theorem sx_4 {w : Nat → Nat} (g : sn_G A B S Z) (H : sn_XG cl A B S Z pr ea eb ki ga st he si) (hw : ∀ n, n < 11 → wx n = nI (w n) ∧ w n ≤ 7) (hW : sn_LW cl A B S Z w) (hw1 : ∀ n, n < 11 → 1 ≤ w n) {post : SX → Prop}
    (hK : ∀ rs : Nat → Int32, sn_Sol cl A B S Z w rs → post (pr, ea, eb, ki, ga, st, he, si, wx, rs, af)) :
    ∀ (d r : Nat) (x1 : Int32) (rs : Nat → Int32), r + d = 128 → sn_IR cl A B S Z w rs → ((x1 = 0 ∧ sn_Sol cl A B S Z w rs) ∨ (x1 = 1 ∧ r ≤ sn_tot rs)) → wX_spreadRoots_4 post (d + 1) x1 (nI r) pr ea eb ki ga st he si wx rs af := by
  intro d
  induction d with
  | zero =>
    intro r x1 rs hr hI hM
    have hs := sn_tot_121 rs
    rcases hM with ⟨_, e⟩ | ⟨_, e⟩
    · exact pk_le 128 r (fun _ => hK rs e) (fun z => absurd z (by omega))
    · omega
  | succ d ih =>
    intro r x1 rs hr hI hM
    refine pk_le 128 r (fun z => absurd z (by omega)) (fun _ => ?_)
    rcases hM with ⟨e, e'⟩ | ⟨e, e'⟩
    · subst e; exact br_t rfl (hK rs e')
    · subst e
      refine br_f (by decide) ⟨13, sx_19 (rs0 := rs) g H hw hw1 (fun x1 rs' hI' hM' hc' => ih (r + 1) x1 rs' (by omega) hI' ?_) 12 0 0 rs rfl hI (Or.inl ⟨rfl, rfl⟩) (fun _ j hj => absurd hj (by omega))⟩
      rcases hM' with ⟨z, z'⟩ | ⟨z, z'⟩
      · subst z'; exact Or.inl ⟨z, sn_ar_lr hW hI' (hc' z)⟩
      · exact Or.inr ⟨z, by omega⟩
theorem sx_112 {w : Nat → Nat} (g : sn_G A B S Z) (H : sn_XG cl A B S Z pr ea eb ki ga st he si) (hw : ∀ n, n < 11 → wx n = nI (w n) ∧ w n ≤ 7) (hW : sn_LW cl A B S Z w) {post : SX → Prop}
    (hK : ∀ rs : Nat → Int32, sn_Sol cl A B S Z w rs → post (pr, ea, eb, ki, ga, st, he, si, wx, rs, af)) :
    ∀ (d i : Nat) (rs : Nat → Int32), i + d = 11 → (∀ n, n < i → ∀ m, (bt (rs n) m = true ↔ (m = n ∧ w n = Z n))) → wX_solve_112 post pr (d + 1) (nI i) ea eb ki ga st he si wx rs af := by
  have hz1 : ∀ n, n < 11 → 1 ≤ Z n ∧ Z n ≤ 7 := by
    intro n hn
    rcases Nat.lt_or_ge n 5 with c | c
    · have := g.2.1 n c; omega
    · have := g.2.2 n c hn; omega
  have hw1 : ∀ n, n < 11 → 1 ≤ w n := fun n hn => Nat.le_trans (hz1 n hn).1 (hW.1.1 n hn)
  intro d
  induction d with
  | zero =>
    intro i rs hi h
    have e : i = 11 := by omega
    subst e
    refine pk_le 11 11 (fun _ => ?_) (fun z => absurd z (by omega))
    refine ⟨129, sx_4 (w := w) g H hw hW hw1 (fun rs hs => hK rs hs) 128 0 1 rs rfl ⟨fun n hn i hi => ?_, fun n hn z => (h n hn n).mpr ⟨rfl, z⟩, fun Q hQ n m hn hi => ?_⟩ (Or.inr ⟨rfl, Nat.zero_le _⟩)⟩
    · have := ((h n hn i).mp hi).1; omega
    · have z := (h n hn m).mp hi
      rw [z.1]
      exact hQ.1 n hn z.2
  | succ d ih =>
    intro i rs hi h
    have hv : vp_in (nI i) 11 := vp_in_nI (by omega) (by decide)
    have hc : (nI i).toNatClampNeg = i := nI_clamp (by omega)
    have hwi := hw i (by omega)
    have hzi := hz1 i (by omega)
    have fin : ∀ x : Int32, (∀ m, (bt x m = true ↔ (m = i ∧ w i = Z i))) → wX_solve_112 post pr (d + 1) (nI (i + 1)) ea eb ki ga st he si wx (upd rs i x) af := by
      intro x hx
      refine ih (i + 1) _ (by omega) (fun n hn m => ?_)
      by_cases e : n = i
      · subst e; rw [pk_us]; exact hx m
      · rw [pk_un e]; exact h n (by omega) m
    refine pk_le 11 i (fun z => absurd z (by omega)) (fun _ => ⟨hv, hv, pk_eq (w i) (Z i) (fun z => ⟨hv, nm_r (e' := upd rs i ((1 : Int32) <<< (nI i &&& 31))) ?_ (nm_r (nI_1 i) (fin _ (fun m => ?_)))⟩) (fun z => ⟨hv, nm_r (e' := upd rs i 0) ?_ (nm_r (nI_1 i) (fin _ (fun m => ?_)))⟩) (by rw [hc]; exact hwi.1) (by rw [hc]; exact H.2.1 i (by omega))⟩)
    · rw [hc, sn_short]
      intro j hj
      rw [sn_b1 (by omega), decide_eq_true_eq] at hj
      omega
    · rw [sn_b1 (by omega), decide_eq_true_eq]
      exact ⟨fun e => ⟨e, z⟩, fun e => e.1⟩
    · rw [hc, sn_short]
      intro j hj
      rw [b_0] at hj; cases hj
    · rw [b_0]
      exact ⟨fun e => (by cases e), fun e => absurd e.2 z⟩
theorem sx_solve (g : sn_G A B S Z) (H : sn_XG cl A B S Z pr ea eb ki ga st he si) {post : SX → Prop}
    (h : ∀ (wx rs : Nat → Int32) (w : Nat → Nat), (∀ n, n < 11 → wx n = nI (w n)) → sn_Sol cl A B S Z w rs → post (pr, ea, eb, ki, ga, st, he, si, wx, rs, af)) : wpX_solve post (pr, ea, eb, ki, ga, st, he, si, wx, rs, af) := by
  refine ⟨12, sx_2 H g (fun wx hz => ⟨65, sx_30 g H (fun w wx hw hW => ⟨12, sx_112 g H hw hW (fun rs hs => h wx rs w (fun n hn => (hw n hn).1) hs) 11 0 rs rfl (fun n hn => absurd hn (by omega))⟩) 64 0 1 Z wx rfl (fun n hn => ⟨hz n hn, ?_⟩) ⟨fun n _ => Nat.le_refl _, fun P hP => hP.1⟩ (Or.inr ⟨rfl, ?_⟩)⟩) 11 0 wx rfl (fun n hn => absurd hn (by omega))⟩
  · exact (sn_LW_b (cl := cl) g (w := Z) (fun P hP => hP.1)).1 n hn
  · have := sn_sum35 (w := Z) g (fun n _ => Nat.le_refl _)
    omega
end
end
section
/-! what a node's roots hold: agreed, after -/
def sn_ag (b : Int32) (he : Nat → Int32) : Nat → Int32
  | 0 => -1
  | i + 1 => if bt b i = true then (if sn_ag b he i < 0 ∨ sn_ag b he i = he i then he i else 2) else sn_ag b he i
def sn_V3 (x : Int32) : Prop := x = 0 ∨ x = 1 ∨ x = 2
def sn_zo (v z o : Int32) : Prop := (v = -1 ∧ z = 1 ∧ o = 1) ∨ (v = 0 ∧ z = 1 ∧ o = 0) ∨ (v = 1 ∧ z = 0 ∧ o = 1) ∨ (v = 2 ∧ z = 0 ∧ o = 0)
section
variable {cl : Nat → Bool} {A B S Z : Nat → Nat}
theorem sn_ag_s1 {b : Int32} {he : Nat → Int32} {i : Nat} (h : bt b i = true) : sn_ag b he (i + 1) = if sn_ag b he i < 0 ∨ sn_ag b he i = he i then he i else 2 := if_pos h
theorem sn_ag_s0 {b : Int32} {he : Nat → Int32} {i : Nat} (h : bt b i = false) : sn_ag b he (i + 1) = sn_ag b he i := if_neg (by rw [h]; decide)
theorem sn_ag_v {b : Int32} {he : Nat → Int32} (hh : ∀ n, n < 11 → sn_V3 (he n)) : ∀ i, i ≤ 11 → (∃ m, m < i ∧ bt b m = true) → sn_V3 (sn_ag b he i) := by
  intro i
  induction i with
  | zero => intro _ ⟨m, hm, _⟩; omega
  | succ i ih =>
    intro hi ⟨m, hm, hb⟩
    cases c : bt b i
    · rw [sn_ag_s0 c]
      refine ih (by omega) ⟨m, ?_, hb⟩
      by_cases e : m = i
      · subst e; rw [c] at hb; cases hb
      · omega
    · rw [sn_ag_s1 c]
      by_cases z : sn_ag b he i < 0 ∨ sn_ag b he i = he i
      · rw [if_pos z]; exact hh i (by omega)
      · rw [if_neg z]; exact Or.inr (Or.inr rfl)
theorem sn_ag_1 {b : Int32} {he : Nat → Int32} {n : Nat} (hb : ∀ m, (bt b m = true ↔ m = n)) : ∀ i, sn_ag b he i = if n < i then he n else -1 := by
  intro i
  induction i with
  | zero => rw [if_neg (by omega)]; rfl
  | succ i ih =>
    by_cases e : i = n
    · subst e
      rw [if_neg (by omega)] at ih
      rw [sn_ag_s1 ((hb i).mpr rfl), ih, if_pos (Or.inl (by decide)), if_pos (by omega)]
    · have c : bt b i = false := by
        cases z : bt b i
        · rfl
        · exact absurd ((hb i).mp z) e
      rw [sn_ag_s0 c, ih]
      by_cases z : n < i
      · rw [if_pos z, if_pos (by omega)]
      · rw [if_neg z, if_neg (by omega)]
theorem sn_zo_s {v z o h : Int32} (hv : sn_zo v z o) (hh : sn_V3 h) : sn_zo (if v < 0 ∨ v = h then h else 2) (if ¬ z = 0 ∧ h = 0 then 1 else 0) (if ¬ o = 0 ∧ h = 1 then 1 else 0) := by
  rcases hv with ⟨a, b, c⟩ | ⟨a, b, c⟩ | ⟨a, b, c⟩ | ⟨a, b, c⟩ <;> rcases hh with e | e | e <;> (subst a b c e; unfold sn_zo; decide)
end
section
variable {pr : Int32} {ea eb ki ga st he si wx rs af : Nat → Int32}
theorem sx_ag4 {n : Nat} (hn : n < 11) {post : Int32 → Prop} (h : post (sn_ag (rs n) he 11)) : ∀ d i, i + d = 11 → wX_agreed_4 post (nI n) pr ea eb ki ga st he si wx rs af (d + 1) (sn_ag (rs n) he i) (nI i) := by
  intro d
  induction d with
  | zero =>
    intro i hi
    have e : i = 11 := by omega
    subst e
    exact pk_le 11 11 (fun _ => h) (fun z => absurd z (by omega))
  | succ d ih =>
    intro i hi
    have hJ := ih (i + 1) (by omega)
    refine pk_le 11 i (fun z => absurd z (by omega)) (fun _ => ⟨vp_in_nI hn (by decide), ?_⟩)
    rw [nI_clamp (show n < 2 ^ 31 by omega), sn_bit _ (show i < 32 by omega)]
    cases c : bt (rs n) i
    · rw [sn_ag_s0 c] at hJ
      exact br_t rfl (nm_r (nI_1 i) hJ)
    · rw [sn_ag_s1 c] at hJ
      refine br_f (by decide) ⟨vp_in_nI (by omega) (by decide), nm_r (e' := he i) (by rw [nI_clamp (by omega)]) (br_c (fun z => ?_) (fun z => br_c (fun z' => ?_) (fun z' => ?_)))⟩
      · rw [if_pos (Or.inl z)] at hJ; exact nm_r (nI_1 i) hJ
      · rw [if_pos (Or.inr z')] at hJ; exact nm_r (nI_1 i) hJ
      · rw [if_neg (fun y => y.elim z z')] at hJ; exact nm_r (nI_1 i) hJ
theorem sx_agreed {n : Nat} (hn : n < 11) {post : Int32 → Prop} (h : post (sn_ag (rs n) he 11)) : wpX_agreed post (pr, ea, eb, ki, ga, st, he, si, wx, rs, af) (nI n) :=
  ⟨12, sx_ag4 hn h 11 0 rfl⟩
end
section
variable {ln : Int32} {he si th ea eb wh wa up fi wy so nx : Nat → Int32}
theorem sy_48 {i : Nat} (hi : i < 11) {post : Int32 → Prop} {J : Int32 → Int32 → Int32 → Prop} {x1 o z : Int32} (hJ : J z (if ¬ o = 0 ∧ he i = 1 then 1 else 0) (nI (i + 1))) : wY_after_48 post J x1 o (nI i) z ln he si th ea eb wh wa up fi wy so nx := by
  refine br_c (fun c => ?_) (fun c => ⟨vp_in_nI hi (by decide), ?_⟩)
  · rw [if_neg (fun y => y.1 c)] at hJ; exact nm_r (nI_1 i) hJ
  · rw [nI_clamp (show i < 2 ^ 31 by omega)]
    refine br_c (fun c' => ?_) (fun c' => ?_)
    · rw [if_pos ⟨c, c'⟩] at hJ; exact nm_r (nI_1 i) hJ
    · rw [if_neg (fun y => c' y.2)] at hJ; exact nm_r (nI_1 i) hJ
theorem sy_af7 {n : Nat} (hn : n < 11) (hh : ∀ n, n < 11 → sn_V3 (he n)) {post : Int32 → Prop} (hv : sn_V3 (sn_ag (so n) he 11)) (h : post (sn_ag (so n) he 11)) : ∀ d i z o, i + d = 11 → sn_zo (sn_ag (so n) he i) z o → wY_after_7 post (nI n) ln he si th ea eb wh wa up fi wy so nx (d + 1) z o (nI i) := by
  intro d
  induction d with
  | zero =>
    intro i z o hi hz
    have e : i = 11 := by omega
    subst e
    refine pk_le 11 11 (fun _ => ?_) (fun z => absurd z (by omega))
    generalize sn_ag (so n) he 11 = v at hv h hz
    rcases hz with ⟨a, b, c⟩ | ⟨a, b, c⟩ | ⟨a, b, c⟩ | ⟨a, b, c⟩
    · subst a; exact absurd hv (by unfold sn_V3; decide)
    · subst a b c; exact br_f (by decide) h
    · subst a b c; exact br_t rfl (br_f (by decide) h)
    · subst a b c; exact br_t rfl (br_t rfl h)
  | succ d ih =>
    intro i z o hi hz
    have hi' : i < 11 := by omega
    refine pk_le 11 i (fun z => absurd z (by omega)) (fun _ => ⟨vp_in_nI hn (by decide), ?_⟩)
    rw [nI_clamp (show n < 2 ^ 31 by omega), sn_bit _ (show i < 32 by omega)]
    cases c : bt (so n) i
    · refine br_f (by decide) (nm_r (nI_1 i) (ih (i + 1) z o (by omega) ?_))
      rw [sn_ag_s0 c]; exact hz
    · have hs := sn_zo_s hz (hh i hi')
      rw [← sn_ag_s1 c] at hs
      have hJ := ih (i + 1) _ _ (by omega) hs
      refine br_t rfl (br_c (fun cz => ?_) (fun cz => ⟨vp_in_nI hi' (by decide), ?_⟩))
      · rw [if_neg (fun y => y.1 cz)] at hJ
        exact sy_48 hi' hJ
      · rw [nI_clamp (show i < 2 ^ 31 by omega)]
        refine br_c (fun c' => ?_) (fun c' => ?_)
        · rw [if_pos ⟨cz, c'⟩] at hJ; exact sy_48 hi' hJ
        · rw [if_neg (fun y => c' y.2)] at hJ; exact sy_48 hi' hJ
theorem sy_after {n : Nat} (hn : n < 11) (hh : ∀ n, n < 11 → sn_V3 (he n)) {post : Int32 → Prop} (hv : sn_V3 (sn_ag (so n) he 11)) (h : post (sn_ag (so n) he 11)) : wpY_after post (ln, he, si, th, ea, eb, wh, wa, up, fi, wy, so, nx) (nI n) :=
  ⟨12, sy_af7 hn hh hv h 11 0 1 1 rfl (Or.inl ⟨rfl, rfl, rfl⟩)⟩
end
end
section
/-! closed, switches -/
section
variable {cl : Nat → Bool} {A B S Z : Nat → Nat} {pr : Int32} {ea eb ki ga st he si wx rs af : Nat → Int32}
theorem sn_mk_s1 {f : Nat → Bool} {i : Nat} (h : f i = true) : sn_mk f (i + 1) = sn_mk f i ||| ((1 : Int32) <<< (nI i &&& 31)) := if_pos h
theorem sn_mk_s0 {f : Nat → Bool} {i : Nat} (h : f i = false) : sn_mk f (i + 1) = sn_mk f i := if_neg (by rw [h]; decide)
theorem sn_or0 (x : Int32) : x ||| 0 = x := by
  apply b_ext
  intro i _
  rw [b_or, b_0, Bool.or_false]
theorem sx_cl4 (H : sn_XG cl A B S Z pr ea eb ki ga st he si) {post : Int32 → Prop} (h : post (sn_mk cl 12)) : ∀ d i, i + d = 12 → wX_closed_4 post pr ea eb ki ga st he si wx rs af (d + 1) (sn_mk cl i) (nI i) := by
  intro d
  induction d with
  | zero =>
    intro i hi
    have e : i = 12 := by omega
    subst e
    exact pk_le 12 12 (fun _ => h) (fun z => absurd z (by omega))
  | succ d ih =>
    intro i hi
    have hJ := ih (i + 1) (by omega)
    refine pk_le 12 i (fun z => absurd z (by omega)) (fun _ => H.2.2 i (by omega) _ _ _ _ ?_)
    cases c : cl i
    · rw [sn_mk_s0 c] at hJ
      exact br_t rfl (nm_r (sn_or0 _) (nm_r (nI_1 i) hJ))
    · rw [sn_mk_s1 c] at hJ
      exact br_f (by decide) (nm_e (nm_r (nI_1 i) hJ))
theorem sx_closed (H : sn_XG cl A B S Z pr ea eb ki ga st he si) {post : Int32 → Prop} (h : post (sn_mk cl 12)) : wpX_closed post (pr, ea, eb, ki, ga, st, he, si, wx, rs, af) :=
  ⟨13, sx_cl4 H h 12 0 rfl⟩
end
section
variable {cl : Nat → Bool} {A B S Z : Nat → Nat} {ln : Int32} {he si th ea eb wh wa up fi wy so nx : Nat → Int32}
theorem sy_cl4 (H : sn_YG cl A B S Z he si th ea eb wh) {post : Int32 → Prop} (h : post (sn_mk cl 12)) : ∀ d i, i + d = 12 → wY_closed_4 post ln he si th ea eb wh wa up fi wy so nx (d + 1) (sn_mk cl i) (nI i) := by
  intro d
  induction d with
  | zero =>
    intro i hi
    have e : i = 12 := by omega
    subst e
    exact pk_le 12 12 (fun _ => h) (fun z => absurd z (by omega))
  | succ d ih =>
    intro i hi
    have hJ := ih (i + 1) (by omega)
    refine pk_le 12 i (fun z => absurd z (by omega)) (fun _ => H.2.2 i (by omega) _ _ _ _ _ _ _ _ ?_)
    cases c : cl i
    · rw [sn_mk_s0 c] at hJ
      exact br_t rfl (nm_r (nI_1 i) hJ)
    · rw [sn_mk_s1 c] at hJ
      exact br_f (by decide) (nm_e (nm_r (nI_1 i) hJ))
theorem sy_closed (H : sn_YG cl A B S Z he si th ea eb wh) {post : Int32 → Prop} (h : post (sn_mk cl 12)) : wpY_closed post (ln, he, si, th, ea, eb, wh, wa, up, fi, wy, so, nx) :=
  ⟨13, sy_cl4 H h 12 0 rfl⟩
theorem sy_sw4 {f : Nat → Bool} (hf : ∀ k, k < 12 → th k = sn_i (f k)) {post : Int32 → Prop} (h : post (sn_mk f 12)) : ∀ d i, i + d = 12 → wY_switches_4 post ln he si th ea eb wh wa up fi wy so nx (d + 1) (sn_mk f i) (nI i) := by
  intro d
  induction d with
  | zero =>
    intro i hi
    have e : i = 12 := by omega
    subst e
    exact pk_le 12 12 (fun _ => h) (fun z => absurd z (by omega))
  | succ d ih =>
    intro i hi
    have hJ := ih (i + 1) (by omega)
    refine pk_le 12 i (fun z => absurd z (by omega)) (fun _ => ⟨vp_in_nI (by omega) (by decide), ?_⟩)
    rw [nI_clamp (show i < 2 ^ 31 by omega), hf i (by omega)]
    cases c : f i
    · rw [sn_mk_s0 c] at hJ
      exact br_t rfl (nm_r (nI_1 i) hJ)
    · rw [sn_mk_s1 c] at hJ
      exact br_f (by decide) (nm_e (nm_r (nI_1 i) hJ))
theorem sy_switches {f : Nat → Bool} (hf : ∀ k, k < 12 → th k = sn_i (f k)) {post : Int32 → Prop} (h : post (sn_mk f 12)) : wpY_switches post (ln, he, si, th, ea, eb, wh, wa, up, fi, wy, so, nx) :=
  ⟨13, sy_sw4 hf h 12 0 rfl⟩
end
end
section
/-! the component's spread: the least closed set over a start -/
def sn_o (x : Int32) (b : Nat) (f : Bool) : Int32 := if f = true then x ||| ((1 : Int32) <<< (nI b &&& 31)) else x
def sn_fr (x s : Int32) (a : Nat) : Bool := bt x a && (decide (5 ≤ a) || bt s a)
def sn_SC (cl : Nat → Bool) (A B : Nat → Nat) (s : Int32) (T : Nat → Prop) : Prop := ∀ p q k, k < 12 → sn_On cl A B p q k → (5 ≤ p ∨ bt s p = true) → T p → T q
def sn_IS (cl : Nat → Bool) (A B : Nat → Nat) (s x : Int32) : Prop :=
  (∀ i, bt x i = true → i < 11) ∧ (∀ i, bt s i = true → bt x i = true) ∧ ∀ T : Nat → Prop, (∀ i, bt s i = true → T i) → sn_SC cl A B s T → ∀ i, bt x i = true → T i
def sn_as (cl : Nat → Bool) (A B : Nat → Nat) (s x : Int32) (k : Nat) : Prop :=
  cl k = true → (sn_fr x s (A k) = true → bt x (B k) = true) ∧ (sn_fr x s (B k) = true → bt x (A k) = true)
section
variable {cl : Nat → Bool} {A B S Z : Nat → Nat}
theorem sn_o_b {x : Int32} {b : Nat} (hb : b < 32) (f : Bool) (i : Nat) : bt (sn_o x b f) i = (bt x i || (f && decide (i = b))) := by
  cases f
  · show bt x i = _; rw [Bool.false_and, Bool.or_false]
  · show bt (x ||| ((1 : Int32) <<< (nI b &&& 31))) i = _; rw [b_or, sn_b1 hb, Bool.true_and]
theorem sn_fr_iff {x s : Int32} {a : Nat} : sn_fr x s a = true ↔ (bt x a = true ∧ (5 ≤ a ∨ bt s a = true)) := by
  unfold sn_fr; rw [Bool.and_eq_true, Bool.or_eq_true, decide_eq_true_eq]
theorem sn_cnt_ne {x y : Int32} (h : ∀ i, bt x i = true → bt y i = true) (hy : ∀ i, bt y i = true → i < 11) (hne : y ≠ x) : sn_cnt x < sn_cnt y := by
  by_cases c : ∃ i, bt y i = true ∧ bt x i = false
  · obtain ⟨i, h1, h0⟩ := c
    exact sn_cnt_lt h (hy i h1) h0 h1
  · refine absurd (b_ext fun i _ => ?_) hne
    cases z : bt x i
    · cases z' : bt y i
      · rfl
      · exact absurd ⟨i, z', z⟩ c
    · exact h i z
theorem sn_cnt_all {x : Int32} (hx : ∀ i, bt x i = true → i < 11) (h : 11 ≤ sn_cnt x) : ∀ i, i < 11 → bt x i = true := by
  intro i hi
  cases z : bt x i
  · have h1 := sn_cnt_lt (x := x) (y := 2047) (j := i) (fun j hj => by rw [sn_2047 j (by have := hx j hj; omega), decide_eq_true (hx j hj)]) hi z (by rw [sn_2047 i (by omega), decide_eq_true hi])
    have h2 := sn_cnt_11 2047
    omega
  · rfl
theorem sn_as_SC {s x : Int32} (h : ∀ j, j < 12 → sn_as cl A B s x j) : sn_SC cl A B s (fun i => bt x i = true) := by
  intro p q k hk ho hp hx
  have h1 := h k hk ho.2
  rcases ho.1 with ⟨a, b⟩ | ⟨a, b⟩
  · rw [← b]; exact h1.1 (by rw [a]; exact sn_fr_iff.mpr ⟨hx, hp⟩)
  · rw [← a]; exact h1.2 (by rw [b]; exact sn_fr_iff.mpr ⟨hx, hp⟩)
theorem sn_IS_o (g : sn_G A B S Z) {s x : Int32} {k : Nat} (hk : k < 12) (hc : cl k = true) (h : sn_IS cl A B s x) : sn_IS cl A B s (sn_o (sn_o x (B k) (sn_fr x s (A k))) (A k) (sn_fr x s (B k))) := by
  have hl := g.1 k hk
  have hb : ∀ i, bt (sn_o (sn_o x (B k) (sn_fr x s (A k))) (A k) (sn_fr x s (B k))) i = true ↔ (bt x i = true ∨ (sn_fr x s (A k) = true ∧ i = B k) ∨ (sn_fr x s (B k) = true ∧ i = A k)) := by
    intro i
    rw [sn_o_b (by omega), sn_o_b (by omega), Bool.or_eq_true, Bool.or_eq_true, Bool.and_eq_true, Bool.and_eq_true, decide_eq_true_eq, decide_eq_true_eq, or_assoc]
  refine ⟨fun i hi => ?_, fun i hi => (hb i).mpr (Or.inl (h.2.1 i hi)), fun T hT hS i hi => ?_⟩
  · rcases (hb i).mp hi with z | z | z
    · exact h.1 i z
    · omega
    · omega
  · rcases (hb i).mp hi with z | ⟨z, e⟩ | ⟨z, e⟩
    · exact h.2.2 T hT hS i z
    · have z' := sn_fr_iff.mp z
      subst e
      exact hS (A k) (B k) k hk ⟨Or.inl ⟨rfl, rfl⟩, hc⟩ z'.2 (h.2.2 T hT hS _ z'.1)
    · have z' := sn_fr_iff.mp z
      subst e
      exact hS (B k) (A k) k hk ⟨Or.inr ⟨rfl, rfl⟩, hc⟩ z'.2 (h.2.2 T hT hS _ z'.1)
theorem sn_o_le {x : Int32} {a b : Nat} (ha : a < 32) (hb : b < 32) (f f' : Bool) : ∀ i, bt x i = true → bt (sn_o (sn_o x b f) a f') i = true := by
  intro i hi
  rw [sn_o_b ha, sn_o_b hb, hi]; rfl
end
section
variable {cl : Nat → Bool} {A B S Z : Nat → Nat} {pr : Int32} {ea eb ki ga st he si wx rs af : Nat → Int32}
theorem sx_111 {a b k : Nat} {x s x3 : Int32} (fa fb : Bool) {post : Int32 → Prop} {J4 J13 : Int32 → Int32 → Prop} (hJ : J13 (sn_o (sn_o x b fa) a fb) (nI (k + 1))) : wX_spread_111 post J4 J13 s x x3 (nI k) (nI a) (nI b) (sn_i fa) (sn_i fb) pr ea eb ki ga st he si wx rs af := by
  cases fa with
  | false =>
    refine br_t rfl (nm_r (sn_or0 x) ?_)
    cases fb with
    | false => exact br_t rfl (nm_r (sn_or0 x) (nm_r (nI_1 k) hJ))
    | true => exact br_f (by decide) (nm_e (nm_r (nI_1 k) hJ))
  | true =>
    refine br_f (by decide) (nm_e ?_)
    cases fb with
    | false => exact br_t rfl (nm_r (sn_or0 _) (nm_r (nI_1 k) hJ))
    | true => exact br_f (by decide) (nm_e (nm_r (nI_1 k) hJ))
theorem sx_78 {a b k : Nat} {x s x3 : Int32} (hb : b < 11) (fa : Bool) {post : Int32 → Prop} {J4 J13 : Int32 → Int32 → Prop} (hJ : J13 (sn_o (sn_o x b fa) a (sn_fr x s b)) (nI (k + 1))) : wX_spread_78 post J4 J13 s x x3 (nI k) (nI a) (nI b) (sn_i fa) pr ea eb ki ga st he si wx rs af := by
  have h0 : sn_fr x s b = false → wX_spread_110 post J4 J13 s x x3 (nI k) (nI a) (nI b) (sn_i fa) pr ea eb ki ga st he si wx rs af := fun e => sx_111 fa false (by rw [e] at hJ; exact hJ)
  have h1 : sn_fr x s b = true → wX_spread_106 post J4 J13 s x x3 (nI k) (nI a) (nI b) (sn_i fa) pr ea eb ki ga st he si wx rs af := fun e => sx_111 fa true (by rw [e] at hJ; exact hJ)
  unfold wX_spread_78
  rw [sn_bit x (show b < 32 by omega), sn_bit s (show b < 32 by omega)]
  cases c : bt x b
  · exact br_t rfl (h0 (by unfold sn_fr; rw [c]; rfl))
  · refine br_f (by decide) (sx_store (by omega) (fun z => br_t rfl ?_) (fun z _ => br_f (by decide) (h1 (sn_fr_iff.mpr ⟨c, Or.inl z⟩))))
    cases c' : bt s b
    · refine br_t rfl (h0 ?_)
      unfold sn_fr; rw [c, c', decide_eq_false (by omega)]; rfl
    · exact br_f (by decide) (h1 (sn_fr_iff.mpr ⟨c, Or.inr c'⟩))
theorem sx_13 {s x0 : Int32} {r : Nat} (g : sn_G A B S Z) (H : sn_XG cl A B S Z pr ea eb ki ga st he si) {post : Int32 → Prop} {J : Int32 → Int32 → Prop}
    (hJ : ∀ x, sn_IS cl A B s x → ((x = x0 ∧ ∀ j, j < 12 → sn_as cl A B s x0 j) ∨ sn_cnt x0 < sn_cnt x) → J x (nI (r + 1))) :
    ∀ (d k : Nat) (x : Int32), k + d = 12 → sn_IS cl A B s x → ((x = x0 ∧ ∀ j, j < k → sn_as cl A B s x0 j) ∨ sn_cnt x0 < sn_cnt x) → wX_spread_13 post J s (nI r) pr ea eb ki ga st he si wx rs af (d + 1) x (nI k) := by
  intro d
  induction d with
  | zero =>
    intro k x hk hI hM
    have e : k = 12 := by omega
    subst e
    exact pk_le 12 12 (fun _ => nm_r (nI_1 r) (hJ x hI hM)) (fun z => absurd z (by omega))
  | succ d ih =>
    intro k x hk hI hM
    have hk' : k < 12 := by omega
    have hl := g.1 k hk'
    have hv : vp_in (nI k) 12 := vp_in_nI hk' (by decide)
    refine pk_le 12 k (fun z => absurd z (by omega)) (fun _ => H.2.2 k hk' _ _ _ _ ?_)
    cases hcl : cl k with
    | false =>
      refine br_t rfl (nm_r (nI_1 k) (ih (k + 1) x (by omega) hI ?_))
      rcases hM with ⟨e, z⟩ | z
      · refine Or.inl ⟨e, fun j hj => ?_⟩
        by_cases e' : j = k
        · subst e'; intro z'; rw [hcl] at z'; cases z'
        · exact z j (by omega)
      · exact Or.inr z
    | true =>
      have hI' := sn_IS_o g hk' hcl hI
      have hle := sn_o_le (x := x) (a := A k) (b := B k) (by omega) (by omega) (sn_fr x s (A k)) (sn_fr x s (B k))
      have hJ' := ih (k + 1) _ (by omega) hI' (by
        by_cases e : sn_o (sn_o x (B k) (sn_fr x s (A k))) (A k) (sn_fr x s (B k)) = x
        · rcases hM with ⟨e0, z⟩ | z
          · refine Or.inl ⟨e.trans e0, fun j hj => ?_⟩
            by_cases e' : j = k
            · subst e'
              rw [← e0]
              refine fun _ => ⟨fun hf => ?_, fun hf => ?_⟩
              · rw [← e, sn_o_b (by omega), sn_o_b (by omega), hf, decide_eq_true rfl, Bool.true_and, Bool.or_true, Bool.true_or]
              · rw [← e, sn_o_b (by omega), hf, decide_eq_true rfl, Bool.true_and, Bool.or_true]
            · exact z j (by omega)
          · exact Or.inr (by rw [e]; exact z)
        · have h1 := sn_cnt_ne hle hI'.1 e
          rcases hM with ⟨e0, z⟩ | z
          · subst e0; exact Or.inr h1
          · exact Or.inr (Nat.lt_trans z h1))
      have h0 : sn_fr x s (A k) = false → wX_spread_77 post J (wX_spread_13 post J s (nI r) pr ea eb ki ga st he si wx rs af (d + 1)) s x (nI r) (nI k) (nI (A k)) (nI (B k)) pr ea eb ki ga st he si wx rs af := fun e => sx_78 (by omega) false (by rw [e] at hJ'; exact hJ')
      have h1 : sn_fr x s (A k) = true → wX_spread_73 post J (wX_spread_13 post J s (nI r) pr ea eb ki ga st he si wx rs af (d + 1)) s x (nI r) (nI k) (nI (A k)) (nI (B k)) pr ea eb ki ga st he si wx rs af := fun e => sx_78 (by omega) true (by rw [e] at hJ'; exact hJ')
      refine br_f (by decide) ⟨hv, nm_r (sx_ea H hk') ⟨hv, nm_r (sx_eb H hk') ?_⟩⟩
      rw [sn_bit x (show A k < 32 by omega), sn_bit s (show A k < 32 by omega)]
      cases c : bt x (A k)
      · exact br_t rfl (h0 (by unfold sn_fr; rw [c]; rfl))
      · refine br_f (by decide) (sx_store (by omega) (fun z => br_t rfl ?_) (fun z _ => br_f (by decide) (h1 (sn_fr_iff.mpr ⟨c, Or.inl z⟩))))
        cases c' : bt s (A k)
        · refine br_t rfl (h0 ?_)
          unfold sn_fr; rw [c, c', decide_eq_false (by omega)]; rfl
        · exact br_f (by decide) (h1 (sn_fr_iff.mpr ⟨c, Or.inr c'⟩))
theorem sx_s4 {s : Int32} (g : sn_G A B S Z) (H : sn_XG cl A B S Z pr ea eb ki ga st he si) {post : Int32 → Prop} (hK : ∀ x, sn_IS cl A B s x → sn_SC cl A B s (fun i => bt x i = true) → post x) :
    ∀ (d r : Nat) (x : Int32), r + d = 11 → sn_IS cl A B s x → ((∀ j, j < 12 → sn_as cl A B s x j) ∨ r ≤ sn_cnt x) → wX_spread_4 post s pr ea eb ki ga st he si wx rs af (d + 1) x (nI r) := by
  intro d
  induction d with
  | zero =>
    intro r x hr hI hM
    refine pk_le 11 r (fun _ => hK x hI ?_) (fun z => absurd z (by omega))
    rcases hM with z | z
    · exact sn_as_SC z
    · have ha := sn_cnt_all hI.1 (by omega)
      intro p q k hk ho _ _
      exact ha q (sn_On_lt g hk ho).2
  | succ d ih =>
    intro r x hr hI hM
    refine pk_le 11 r (fun z => absurd z (by omega)) (fun _ => ⟨13, sx_13 (x0 := x) g H (fun x' hI' hM' => ih (r + 1) x' (by omega) hI' ?_) 12 0 x rfl hI (Or.inl ⟨rfl, fun j hj => absurd hj (by omega)⟩)⟩)
    rcases hM' with ⟨e, z⟩ | z
    · subst e; exact Or.inl z
    · rcases hM with y | y
      · have h1 := sn_cnt_le (hI'.2.2 (fun i => bt x i = true) hI.2.1 (sn_as_SC y))
        omega
      · exact Or.inr (by omega)
theorem sx_spread {s : Int32} (g : sn_G A B S Z) (H : sn_XG cl A B S Z pr ea eb ki ga st he si) (hs : ∀ i, bt s i = true → i < 11) {post : Int32 → Prop} (hK : ∀ x, sn_IS cl A B s x → sn_SC cl A B s (fun i => bt x i = true) → post x) : wpX_spread post (pr, ea, eb, ki, ga, st, he, si, wx, rs, af) s :=
  ⟨12, sx_s4 g H hK 11 0 s rfl ⟨hs, fun _ h => h, fun T hT _ => hT⟩ (Or.inr (Nat.zero_le _))⟩
end
end
section
/-! the reference's reach -/
def sn_YC (cl : Nat → Bool) (A B : Nat → Nat) (T : Nat → Prop) : Prop := ∀ p q k, k < 12 → sn_On cl A B p q k → 5 ≤ q → T p → T q
def sn_IY (cl : Nat → Bool) (A B : Nat → Nat) (n : Nat) (x : Int32) : Prop :=
  (∀ i, bt x i = true → i < 11) ∧ bt x n = true ∧ ∀ T : Nat → Prop, T n → sn_YC cl A B T → ∀ i, bt x i = true → T i
def sn_fy (cl : Nat → Bool) (A B S : Nat → Nat) (x : Int32) (c : Nat) : Bool := bt x (c / 11) && (decide (5 ≤ c % 11) && decide (0 < sn_b cl A B S (c / 11) (c % 11)))
def sn_ay (cl : Nat → Bool) (A B S : Nat → Nat) (x : Int32) (c : Nat) : Prop := sn_fy cl A B S x c = true → bt x (c % 11) = true
section
variable {cl : Nat → Bool} {A B S Z : Nat → Nat} {ln : Int32} {he si th ea eb wh wa up fi wy so nx : Nat → Int32}
theorem sn_fy_iff {x : Int32} {c : Nat} : sn_fy cl A B S x c = true ↔ (bt x (c / 11) = true ∧ 5 ≤ c % 11 ∧ 0 < sn_b cl A B S (c / 11) (c % 11)) := by
  unfold sn_fy; rw [Bool.and_eq_true, Bool.and_eq_true, decide_eq_true_eq, decide_eq_true_eq]
theorem sn_ay_YC (g : sn_G A B S Z) {x : Int32} (h : ∀ c, c < 121 → sn_ay cl A B S x c) : sn_YC cl A B (fun i => bt x i = true) := by
  intro p q k hk ho h5 hx
  have hl := sn_On_lt g hk ho
  have e1 : (11 * p + q) / 11 = p := by omega
  have e2 : (11 * p + q) % 11 = q := by omega
  have h1 := h (11 * p + q) (by omega)
  unfold sn_ay at h1
  rw [sn_fy_iff, e1, e2] at h1
  exact h1 ⟨hx, h5, (sn_b_on g).mpr ⟨k, hk, ho⟩⟩
theorem sn_IY_o (g : sn_G A B S Z) {x : Int32} {n c : Nat} (h : sn_IY cl A B n x) : sn_IY cl A B n (sn_o x (c % 11) (sn_fy cl A B S x c)) := by
  have hq : c % 11 < 11 := Nat.mod_lt _ (by omega)
  have hb : ∀ i, bt (sn_o x (c % 11) (sn_fy cl A B S x c)) i = true ↔ (bt x i = true ∨ (sn_fy cl A B S x c = true ∧ i = c % 11)) := by
    intro i
    rw [sn_o_b (by omega), Bool.or_eq_true, Bool.and_eq_true, decide_eq_true_eq]
  refine ⟨fun i hi => ?_, (hb n).mpr (Or.inl h.2.1), fun T hT hS i hi => ?_⟩
  · rcases (hb i).mp hi with z | z
    · exact h.1 i z
    · omega
  · rcases (hb i).mp hi with z | ⟨z, e⟩
    · exact h.2.2 T hT hS i z
    · have z' := sn_fy_iff.mp z
      obtain ⟨k, hk, ho⟩ := (sn_b_on g).mp z'.2.2
      subst e
      exact hS _ _ k hk ho z'.2.1 (h.2.2 T hT hS _ z'.1)
theorem sy_store {q : Nat} (hq : q < 2 ^ 31) {post : Int32 → Prop} (h0 : ¬ (5 ≤ q ∧ q < 11) → post 0) (h1 : 5 ≤ q → q < 11 → post 1) : wpY_store post (ln, he, si, th, ea, eb, wh, wa, up, fi, wy, so, nx) (nI q) :=
  pk_lt q 5 (fun c => h0 (by omega)) (fun c => pk_lt 10 q (fun c' => h0 (by omega)) (fun c' => h1 c (by omega)))
theorem sy_79 {c : Nat} (hc : c < 121) {x x3 : Int32} (z : Bool) {post : Int32 → Prop} {J16 J25 : Int32 → Int32 → Prop} (hJ : J25 (sn_o x (c % 11) z) (nI (c + 1))) : wY_reach_79 post J16 J25 x x3 (nI c) (sn_i z) ln he si th ea eb wh wa up fi wy so nx := by
  cases z with
  | false => exact br_t rfl (nm_r (nI_1 c) hJ)
  | true =>
    have e2 : nI c - nI c / 11 * 11 = nI (c % 11) := pk_rem (d := 11) (by omega) (by decide) (by decide)
    refine br_f (by decide) ⟨by decide, nm_r (e' := x ||| ((1 : Int32) <<< (nI (c % 11) &&& 31))) (by rw [e2]) (nm_r (nI_1 c) hJ)⟩
theorem sy_r25 {n r : Nat} {x0 : Int32} (g : sn_G A B S Z) (H : sn_YG cl A B S Z he si th ea eb wh) {post : Int32 → Prop} {J : Int32 → Int32 → Prop}
    (hJ : ∀ x, sn_IY cl A B n x → ((x = x0 ∧ ∀ j, j < 121 → sn_ay cl A B S x0 j) ∨ sn_cnt x0 < sn_cnt x) → J x (nI (r + 1))) :
    ∀ (d c : Nat) (x : Int32), c + d = 121 → sn_IY cl A B n x → ((x = x0 ∧ ∀ j, j < c → sn_ay cl A B S x0 j) ∨ sn_cnt x0 < sn_cnt x) → wY_reach_25 post J (nI r) ln he si th ea eb wh wa up fi wy so nx (d + 1) x (nI c) := by
  intro d
  induction d with
  | zero =>
    intro c x hc hI hM
    have e : c = 121 := by omega
    subst e
    exact pk_le 121 121 (fun _ => nm_r (nI_1 r) (hJ x hI hM)) (fun z => absurd z (by omega))
  | succ d ih =>
    intro c x hc hI hM
    have hc' : c < 121 := by omega
    have hp : c / 11 < 11 := by omega
    have hq : c % 11 < 11 := by omega
    have hI' := sn_IY_o g (c := c) hI
    have hJ' := ih (c + 1) _ (by omega) hI' (by
      by_cases e : sn_o x (c % 11) (sn_fy cl A B S x c) = x
      · rcases hM with ⟨e0, z⟩ | z
        · refine Or.inl ⟨e.trans e0, fun j hj => ?_⟩
          by_cases e' : j = c
          · subst e'
            rw [← e0]
            intro hf
            rw [← e, sn_o_b (by omega), hf, decide_eq_true rfl, Bool.true_and, Bool.or_true]
          · exact z j (by omega)
        · exact Or.inr (by rw [e]; exact z)
      · have h1 := sn_cnt_ne (fun i hi => by rw [sn_o_b (by omega), hi]; rfl) hI'.1 e
        rcases hM with ⟨e0, z⟩ | z
        · subst e0; exact Or.inr h1
        · exact Or.inr (Nat.lt_trans z h1))
    have h0 : sn_fy cl A B S x c = false → wY_reach_78 post J (wY_reach_25 post J (nI r) ln he si th ea eb wh wa up fi wy so nx (d + 1)) x (nI r) (nI c) ln he si th ea eb wh wa up fi wy so nx := fun e => sy_79 hc' false (by rw [e] at hJ'; exact hJ')
    have h1 : sn_fy cl A B S x c = true → wY_reach_79 post J (wY_reach_25 post J (nI r) ln he si th ea eb wh wa up fi wy so nx (d + 1)) x (nI r) (nI c) 1 ln he si th ea eb wh wa up fi wy so nx := fun e => sy_79 hc' true (by rw [e] at hJ'; exact hJ')
    have e2 : nI c - nI c / 11 * 11 = nI (c % 11) := pk_rem (d := 11) (by omega) (by decide) (by decide)
    have e1 : nI c / 11 = nI (c / 11) := pk_div (d := 11) (by omega) (by decide) (by decide)
    refine pk_le 121 c (fun z => absurd z (by omega)) (fun _ => ⟨by decide, ?_⟩)
    rw [e2, e1, sn_bit x (show c / 11 < 32 by omega)]
    cases b : bt x (c / 11)
    · exact br_f (by decide) (h0 (by unfold sn_fy; rw [b]; rfl))
    · refine br_t rfl ⟨by decide, sy_store (by omega) (fun z => br_t rfl (h0 ?_)) (fun z _ => br_f (by decide) ⟨by decide, by decide, sy_between g H hp hq ?_⟩)⟩
      · unfold sn_fy; rw [decide_eq_false (show ¬ 5 ≤ c % 11 by omega), Bool.false_and, Bool.and_false]
      · have h6 := sn_b_6 (cl := cl) g (c / 11) (c % 11)
        exact pk_le (sn_b cl A B S (c / 11) (c % 11)) 0 (fun y => h0 (by unfold sn_fy; rw [decide_eq_false (show ¬ 0 < sn_b cl A B S (c / 11) (c % 11) by omega), Bool.and_false, Bool.and_false])) (fun y => h1 (sn_fy_iff.mpr ⟨b, z, y⟩))
theorem sy_r16 {n : Nat} (g : sn_G A B S Z) (H : sn_YG cl A B S Z he si th ea eb wh) {post : Int32 → Prop} (hK : ∀ x, sn_IY cl A B n x → sn_YC cl A B (fun i => bt x i = true) → post x) :
    ∀ (d r : Nat) (x : Int32), r + d = 11 → sn_IY cl A B n x → ((∀ j, j < 121 → sn_ay cl A B S x j) ∨ r ≤ sn_cnt x) → wY_reach_16 post ln he si th ea eb wh wa up fi wy so nx (d + 1) x (nI r) := by
  intro d
  induction d with
  | zero =>
    intro r x hr hI hM
    refine pk_le 11 r (fun _ => hK x hI ?_) (fun z => absurd z (by omega))
    rcases hM with z | z
    · exact sn_ay_YC g z
    · have ha := sn_cnt_all hI.1 (by omega)
      intro p q k hk ho _ _
      exact ha q (sn_On_lt g hk ho).2
  | succ d ih =>
    intro r x hr hI hM
    refine pk_le 11 r (fun z => absurd z (by omega)) (fun _ => ⟨122, sy_r25 (x0 := x) g H (fun x' hI' hM' => ih (r + 1) x' (by omega) hI' ?_) 121 0 x rfl hI (Or.inl ⟨rfl, fun j hj => absurd hj (by omega)⟩)⟩)
    rcases hM' with ⟨e, z⟩ | z
    · subst e; exact Or.inl z
    · rcases hM with y | y
      · have h1 := sn_cnt_le (hI'.2.2 (fun i => bt x i = true) hI.2.1 (sn_ay_YC g y))
        omega
      · exact Or.inr (by omega)
theorem sy_node {n : Nat} (hn : n < 11) {post : Int32 → Prop} (h : post 1) : wpY_node post (ln, he, si, th, ea, eb, wh, wa, up, fi, wy, so, nx) (nI n) :=
  br_f (nI_pos (by omega)) (pk_lt 10 n (fun c => absurd c (by omega)) (fun _ => h))
theorem sn_sg {n : Nat} (hn : n < 11) : ∀ i, bt ((1 : Int32) <<< (nI n &&& 31)) i = true → i = n := by
  intro i hi
  rw [sn_b1 (by omega), decide_eq_true_eq] at hi
  exact hi
theorem sy_reach {n : Nat} (hn : n < 11) (g : sn_G A B S Z) (H : sn_YG cl A B S Z he si th ea eb wh) {post : Int32 → Prop} (hK : ∀ x, sn_IY cl A B n x → sn_YC cl A B (fun i => bt x i = true) → post x) : wpY_reach post (ln, he, si, th, ea, eb, wh, wa, up, fi, wy, so, nx) (nI n) := by
  unfold wpY_reach
  dsimp only
  refine sy_node hn (br_f (by decide) (nm_e ⟨12, sy_r16 (n := n) g H hK 11 0 _ rfl ⟨fun i hi => ?_, ?_, fun T hT _ i hi => ?_⟩ (Or.inr (Nat.zero_le _))⟩))
  · have := sn_sg hn i hi; omega
  · rw [sn_b1 (by omega), decide_eq_true_eq]
  · rw [sn_sg hn i hi]; exact hT
end
end
section
/-! shorted, and the two closures compared -/
def sn_YR (cl : Nat → Bool) (A B : Nat → Nat) (n p : Nat) : Prop := ∀ T : Nat → Prop, T n → sn_YC cl A B T → T p
def sn_XR (cl : Nat → Bool) (A B : Nat → Nat) (s : Int32) (p : Nat) : Prop := ∀ T : Nat → Prop, (∀ i, bt s i = true → T i) → sn_SC cl A B s T → T p
def sn_F (cl : Nat → Bool) (A B S : Nat → Nat) (he : Nat → Int32) (n m : Nat) : Prop :=
  he n = 0 ∧ he (m % 5) = 1 ∧ ((5 ≤ m / 5 ∧ sn_YR cl A B n (m / 5)) ∨ m / 5 = n) ∧ 0 < sn_b cl A B S (m / 5) (m % 5)
section
variable {cl : Nat → Bool} {A B S Z : Nat → Nat}
theorem sn_YR_0 {n : Nat} : sn_YR cl A B n n := fun _ h _ => h
theorem sn_YR_c {n : Nat} : sn_YC cl A B (sn_YR cl A B n) := fun p q k hk ho h5 hp T h0 hT => hT p q k hk ho h5 (hp T h0 hT)
theorem sn_XR_0 {s : Int32} {i : Nat} (h : bt s i = true) : sn_XR cl A B s i := fun _ hT _ => hT i h
theorem sn_XR_c {s : Int32} : sn_SC cl A B s (sn_XR cl A B s) := fun p q k hk ho h5 hp T h0 hT => hT p q k hk ho h5 (hp T h0 hT)
theorem sn_IY_R {n : Nat} {x : Int32} (h : sn_IY cl A B n x) (hc : sn_YC cl A B (fun i => bt x i = true)) (i : Nat) : bt x i = true ↔ sn_YR cl A B n i :=
  ⟨fun z T h0 hT => h.2.2 T h0 hT i z, fun z => z (fun i => bt x i = true) h.2.1 hc⟩
theorem sn_IS_R {s x : Int32} (h : sn_IS cl A B s x) (hc : sn_SC cl A B s (fun i => bt x i = true)) (i : Nat) : bt x i = true ↔ sn_XR cl A B s i :=
  ⟨fun z T h0 hT => h.2.2 T h0 hT i z, fun z => z (fun i => bt x i = true) h.2.1 hc⟩
/-- one node's set, of both sides -/
theorem sn_XY {n : Nat} (hn : n < 11) (i : Nat) : (sn_XR cl A B ((1 : Int32) <<< (nI n &&& 31)) i ∧ (5 ≤ i ∨ i = n)) ↔ sn_YR cl A B n i := by
  have hs : bt ((1 : Int32) <<< (nI n &&& 31)) n = true := by rw [sn_b1 (by omega), decide_eq_true_eq]
  constructor
  · intro ⟨h, h5⟩
    refine h (fun i => (5 ≤ i ∨ i = n) → sn_YR cl A B n i) (fun j hj _ => ?_) (fun p q k hk ho hp hT hq => ?_) h5
    · rw [sn_sg hn j hj]; exact sn_YR_0
    · have h1 : sn_YR cl A B n p := hT (hp.imp id (sn_sg hn p))
      rcases hq with hq | hq
      · exact sn_YR_c p q k hk ho hq h1
      · rw [hq]; exact sn_YR_0
  · intro h
    refine h (fun i => sn_XR cl A B ((1 : Int32) <<< (nI n &&& 31)) i ∧ (5 ≤ i ∨ i = n)) ⟨sn_XR_0 hs, Or.inr rfl⟩ (fun p q k hk ho h5 hp => ⟨sn_XR_c p q k hk ho (hp.2.imp id (fun e => by rw [e]; exact hs)) hp.1, Or.inl h5⟩)
theorem sn_YX {s : Int32} {n : Nat} (hs : bt s n = true) {i : Nat} (h : sn_YR cl A B n i) : sn_XR cl A B s i ∧ (5 ≤ i ∨ i = n) := by
  refine h (fun i => sn_XR cl A B s i ∧ (5 ≤ i ∨ i = n)) ⟨sn_XR_0 hs, Or.inr rfl⟩ (fun p q k hk ho h5 hp => ⟨sn_XR_c p q k hk ho (hp.2.imp id (fun e => by rw [e]; exact hs)) hp.1, Or.inl h5⟩)
theorem sn_sh_iff (g : sn_G A B S Z) {he : Nat → Int32} {s : Int32} (hs : ∀ i, (bt s i = true ↔ (i < 5 ∧ he i = 0))) : (∃ q, q < 5 ∧ he q = 1 ∧ sn_XR cl A B s q) ↔ ∃ n m, n < 5 ∧ m < 55 ∧ sn_F cl A B S he n m := by
  constructor
  · intro ⟨q, hq, h1, hr⟩
    refine (hr (fun i => (5 ≤ i → ∃ n, n < 5 ∧ he n = 0 ∧ sn_YR cl A B n i) ∧ (i < 5 → he i = 1 → ∃ n m, n < 5 ∧ m < 55 ∧ sn_F cl A B S he n m)) (fun i hi => ?_) (fun p q k hk ho hp hT => ?_)).2 hq h1
    · have h := (hs i).mp hi
      refine ⟨fun z => absurd h.1 (by omega), fun _ z => ?_⟩
      rw [h.2] at z
      exact absurd z (by decide)
    · have hl := sn_On_lt g hk ho
      have key : ∃ n, n < 5 ∧ he n = 0 ∧ sn_YR cl A B n p ∧ (5 ≤ p ∨ p = n) := by
        rcases hp with z | z
        · obtain ⟨n, a, b, c⟩ := hT.1 z
          exact ⟨n, a, b, c, Or.inl z⟩
        · have h := (hs p).mp z
          exact ⟨p, h.1, h.2, sn_YR_0, Or.inr rfl⟩
      obtain ⟨n, hn, h0, hy, hc⟩ := key
      refine ⟨fun h5 => ⟨n, hn, h0, sn_YR_c p q k hk ho h5 hy⟩, fun hq h1 => ⟨n, 5 * p + q, hn, by omega, ?_⟩⟩
      have e1 : (5 * p + q) / 5 = p := by omega
      have e2 : (5 * p + q) % 5 = q := by omega
      unfold sn_F
      rw [e1, e2]
      exact ⟨h0, h1, hc.imp (fun z => ⟨z, hy⟩) id, (sn_b_on g).mpr ⟨k, hk, ho⟩⟩
  · intro ⟨n, m, hn, hm, h0, h1, hc, hb⟩
    have hsn : bt s n = true := (hs n).mpr ⟨hn, h0⟩
    obtain ⟨k, hk, ho⟩ := (sn_b_on g).mp hb
    refine ⟨m % 5, by omega, h1, ?_⟩
    rcases hc with ⟨z, hy⟩ | z
    · exact sn_XR_c _ _ k hk ho (Or.inl z) (sn_YX hsn hy).1
    · rw [z] at ho
      exact sn_XR_c _ _ k hk ho (Or.inr hsn) (sn_XR_0 hsn)
theorem sn_m32 : ∀ i, i < 32 → bt (-32) i = decide (5 ≤ i) := by decide +kernel
theorem sn_2016 : ∀ i, i < 32 → bt 2016 i = decide (5 ≤ i ∧ i < 11) := by decide +kernel
end
section
variable {cl : Nat → Bool} {A B S Z : Nat → Nat} {pr : Int32} {ea eb ki ga st he si wx rs af : Nat → Int32}
theorem sx_28 {i : Nat} (hi : i < 5) {post : Int32 → Prop} {J6 : Int32 → Int32 → Int32 → Prop} {z0 z1 y : Int32} (e : z1 ||| z0 = y) (hJ : J6 y (sn_mk (fun n => decide (he n = 1)) (i + 1)) (nI (i + 1))) : wX_shorted_28 post J6 (sn_mk (fun n => decide (he n = 1)) i) (nI i) z0 z1 pr ea eb ki ga st he si wx rs af := by
  refine nm_r e ⟨vp_in_nI (by omega) (by decide), ?_⟩
  rw [nI_clamp (show i < 2 ^ 31 by omega)]
  refine br_c (fun c => ?_) (fun c => ?_)
  · rw [sn_mk_s1 (f := fun n => decide (he n = 1)) (decide_eq_true c)] at hJ
    exact nm_e (nm_r (nI_1 i) hJ)
  · rw [sn_mk_s0 (f := fun n => decide (he n = 1)) (decide_eq_false c)] at hJ
    exact nm_r (sn_or0 _) (nm_r (nI_1 i) hJ)
theorem sx_sh6 {post : Int32 → Prop} (hK : wpX_spread (fun r => (r &&& sn_mk (fun n => decide (he n = 1)) 5 = 0 → post 0) ∧ (¬ r &&& sn_mk (fun n => decide (he n = 1)) 5 = 0 → post 1)) (pr, ea, eb, ki, ga, st, he, si, wx, rs, af) (sn_mk (fun n => decide (he n = 0)) 5)) : ∀ d i, i + d = 5 → wX_shorted_6 post pr ea eb ki ga st he si wx rs af (d + 1) (sn_mk (fun n => decide (he n = 0)) i) (sn_mk (fun n => decide (he n = 1)) i) (nI i) := by
  intro d
  induction d with
  | zero =>
    intro i hi
    have e : i = 5 := by omega
    subst e
    exact pk_le 5 5 (fun _ => hK) (fun z => absurd z (by omega))
  | succ d ih =>
    intro i hi
    have hJ := ih (i + 1) (by omega)
    refine pk_le 5 i (fun z => absurd z (by omega)) (fun _ => ⟨vp_in_nI (by omega) (by decide), ?_⟩)
    rw [nI_clamp (show i < 2 ^ 31 by omega)]
    refine br_c (fun c => sx_28 (by omega) ?_ hJ) (fun c => sx_28 (by omega) ?_ hJ)
    · exact (sn_mk_s1 (f := fun n => decide (he n = 0)) (decide_eq_true c)).symm
    · rw [sn_or0]
      exact (sn_mk_s0 (f := fun n => decide (he n = 0)) (decide_eq_false c)).symm
theorem sx_shorted (g : sn_G A B S Z) (H : sn_XG cl A B S Z pr ea eb ki ga st he si) {post : Int32 → Prop} (h0 : (¬ ∃ n m, n < 5 ∧ m < 55 ∧ sn_F cl A B S he n m) → post 0) (h1 : (∃ n m, n < 5 ∧ m < 55 ∧ sn_F cl A B S he n m) → post 1) : wpX_shorted post (pr, ea, eb, ki, ga, st, he, si, wx, rs, af) := by
  have hs : ∀ i, (bt (sn_mk (fun n => decide (he n = 0)) 5) i = true ↔ (i < 5 ∧ he i = 0)) := by
    intro i
    rw [sn_mk_b _ _ 5 (by omega), Bool.and_eq_true, decide_eq_true_eq, decide_eq_true_eq]
  have hh : ∀ i, (bt (sn_mk (fun n => decide (he n = 1)) 5) i = true ↔ (i < 5 ∧ he i = 1)) := by
    intro i
    rw [sn_mk_b _ _ 5 (by omega), Bool.and_eq_true, decide_eq_true_eq, decide_eq_true_eq]
  refine ⟨6, sx_sh6 (sx_spread g H (fun i hi => by have := ((hs i).mp hi).1; omega) (fun x hI hS => ?_)) 5 0 rfl⟩
  have hx := sn_IS_R hI hS
  have hiff := sn_sh_iff (cl := cl) g hs
  refine br_c (fun c => h0 (fun z => ?_)) (fun c => h1 (hiff.mp ?_))
  · obtain ⟨q, hq, h1, hr⟩ := hiff.mpr z
    have := sn_z0.mp c q
    rw [b_and, (hx q).mpr hr, (hh q).mpr ⟨hq, h1⟩] at this
    cases this
  · refine Classical.byContradiction fun hn => c (sn_z0.mpr fun i => ?_)
    rw [b_and]
    cases z1 : bt x i
    · rfl
    · cases z2 : bt (sn_mk (fun n => decide (he n = 1)) 5) i
      · rfl
      · exact absurd ⟨i, ((hh i).mp z2).1, ((hh i).mp z2).2, (hx i).mp z1⟩ hn
end
section
variable {cl : Nat → Bool} {A B S Z : Nat → Nat} {ln : Int32} {he si th ea eb wh wa up fi wy so nx : Nat → Int32}
theorem sy_59 {n m : Nat} (hm : m < 55) (g : sn_G A B S Z) (H : sn_YG cl A B S Z he si th ea eb wh) {x3 : Int32} (f z : Bool) {post : Int32 → Prop} {J4 J25 : Int32 → Int32 → Prop}
    (hJ : J25 (sn_i (f || (z && (bt x3 (m / 5) && decide (0 < sn_b cl A B S (m / 5) (m % 5)))))) (nI (m + 1))) : wY_shorted_59 post J4 J25 (sn_i f) (nI n) x3 (nI m) (sn_i z) ln he si th ea eb wh wa up fi wy so nx := by
  have e2 : nI m - nI m / 5 * 5 = nI (m % 5) := pk_rem (d := 5) (by omega) (by decide) (by decide)
  have e1 : nI m / 5 = nI (m / 5) := pk_div (d := 5) (by omega) (by decide) (by decide)
  cases f with
  | true => exact br_f (by decide) (nm_r (nI_1 m) hJ)
  | false =>
    refine br_t rfl ?_
    cases z with
    | false => exact br_t rfl (nm_r (nI_1 m) hJ)
    | true =>
      refine br_f (by decide) ⟨by decide, ?_⟩
      rw [e2, e1, sn_bit x3 (show m / 5 < 32 by omega)]
      cases c : bt x3 (m / 5)
      · rw [c] at hJ
        exact br_f (by decide) (nm_r (nI_1 m) hJ)
      · rw [c] at hJ
        have h6 := sn_b_6 (cl := cl) g (m / 5) (m % 5)
        refine br_t rfl ⟨by decide, by decide, sy_between g H (by omega) (by omega) (pk_le (sn_b cl A B S (m / 5) (m % 5)) 0 (fun y => ?_) (fun y => ?_))⟩
        · rw [decide_eq_false (show ¬ 0 < sn_b cl A B S (m / 5) (m % 5) by omega)] at hJ
          exact nm_r (nI_1 m) hJ
        · rw [decide_eq_true y] at hJ
          exact nm_r (nI_1 m) hJ
theorem sy_sh25 {n : Nat} (hn : n < 5) (g : sn_G A B S Z) (H : sn_YG cl A B S Z he si th ea eb wh) {x3 : Int32} (hx : ∀ p, p < 11 → (bt x3 p = true ↔ ((5 ≤ p ∧ sn_YR cl A B n p) ∨ p = n))) {post : Int32 → Prop} {J4 : Int32 → Int32 → Prop}
    (hJ : ∀ f : Bool, (f = true → ∃ n m, n < 5 ∧ m < 55 ∧ sn_F cl A B S he n m) → (f = false → ∀ n' m, n' < n + 1 → m < 55 → ¬ sn_F cl A B S he n' m) → J4 (sn_i f) (nI (n + 1))) :
    ∀ (d m : Nat) (f : Bool), m + d = 55 → (f = true → ∃ n m, n < 5 ∧ m < 55 ∧ sn_F cl A B S he n m) → (f = false → (∀ n' m, n' < n → m < 55 → ¬ sn_F cl A B S he n' m) ∧ ∀ m', m' < m → ¬ sn_F cl A B S he n m') → wY_shorted_25 post J4 (nI n) x3 ln he si th ea eb wh wa up fi wy so nx (d + 1) (sn_i f) (nI m) := by
  intro d
  induction d with
  | zero =>
    intro m f hm hf1 hf0
    have e : m = 55 := by omega
    subst e
    refine pk_le 55 55 (fun _ => nm_r (nI_1 n) (hJ f hf1 (fun z n' m hn' hm' => ?_))) (fun z => absurd z (by omega))
    by_cases c : n' = n
    · subst c; exact (hf0 z).2 m hm'
    · exact (hf0 z).1 n' m (by omega) hm'
  | succ d ih =>
    intro m f hm hf1 hf0
    have hm' : m < 55 := by omega
    have e2 : nI m - nI m / 5 * 5 = nI (m % 5) := pk_rem (d := 5) (by omega) (by decide) (by decide)
    have hFx : sn_F cl A B S he n m ↔ (he n = 0 ∧ he (m % 5) = 1) ∧ (bt x3 (m / 5) = true ∧ 0 < sn_b cl A B S (m / 5) (m % 5)) := by
      unfold sn_F
      rw [hx (m / 5) (by omega)]
      exact ⟨fun z => ⟨⟨z.1, z.2.1⟩, z.2.2.1, z.2.2.2⟩, fun z => ⟨z.1.1, z.1.2, z.2.1, z.2.2⟩⟩
    have step : ∀ z : Bool, (z = true ↔ (he n = 0 ∧ he (m % 5) = 1)) → wY_shorted_59 post J4 (wY_shorted_25 post J4 (nI n) x3 ln he si th ea eb wh wa up fi wy so nx (d + 1)) (sn_i f) (nI n) x3 (nI m) (sn_i z) ln he si th ea eb wh wa up fi wy so nx := by
      intro z hz
      have hb : (z && (bt x3 (m / 5) && decide (0 < sn_b cl A B S (m / 5) (m % 5)))) = true ↔ sn_F cl A B S he n m := by
        rw [hFx, Bool.and_eq_true, Bool.and_eq_true, decide_eq_true_eq, hz]
      refine sy_59 hm' g H f z (ih (m + 1) _ (by omega) (fun y => ?_) (fun y => ?_))
      · rw [Bool.or_eq_true] at y
        rcases y with y | y
        · exact hf1 y
        · exact ⟨n, m, hn, hm', hb.mp y⟩
      · rw [Bool.or_eq_false_iff] at y
        have h := hf0 y.1
        refine ⟨h.1, fun m' hlt hF => ?_⟩
        by_cases c : m' = m
        · subst c
          rw [hb.mpr hF] at y
          cases y.2
        · exact h.2 m' (by omega) hF
    refine pk_le 55 m (fun z => absurd z (by omega)) (fun _ => ⟨vp_in_nI (by omega) (by decide), ?_⟩)
    rw [nI_clamp (show n < 2 ^ 31 by omega)]
    refine br_c (fun c => ⟨by decide, ?_⟩) (fun c => step false ⟨fun z => (by cases z), fun z => absurd z.1 c⟩)
    rw [e2, nI_clamp (show m % 5 < 2 ^ 31 by omega)]
    exact ⟨vp_in_nI (by omega) (by decide), br_c (fun c' => step true ⟨fun _ => ⟨c, c'⟩, fun _ => rfl⟩) (fun c' => step false ⟨fun z => (by cases z), fun z => absurd z.2 c'⟩)⟩
theorem sy_sh4 (g : sn_G A B S Z) (H : sn_YG cl A B S Z he si th ea eb wh) {post : Int32 → Prop} (h0 : (¬ ∃ n m, n < 5 ∧ m < 55 ∧ sn_F cl A B S he n m) → post 0) (h1 : (∃ n m, n < 5 ∧ m < 55 ∧ sn_F cl A B S he n m) → post 1) :
    ∀ (d n : Nat) (f : Bool), n + d = 5 → (f = true → ∃ n m, n < 5 ∧ m < 55 ∧ sn_F cl A B S he n m) → (f = false → ∀ n' m, n' < n → m < 55 → ¬ sn_F cl A B S he n' m) → wY_shorted_4 post ln he si th ea eb wh wa up fi wy so nx (d + 1) (sn_i f) (nI n) := by
  intro d
  induction d with
  | zero =>
    intro n f hn hf1 hf0
    have e : n = 5 := by omega
    subst e
    refine pk_le 5 5 (fun _ => ?_) (fun z => absurd z (by omega))
    cases f with
    | true => exact ⟨rfl, h1 (hf1 rfl)⟩
    | false => exact ⟨rfl, h0 (fun ⟨n, m, a, b, c⟩ => hf0 rfl n m a b c)⟩
  | succ d ih =>
    intro n f hn hf1 hf0
    refine pk_le 5 n (fun z => absurd z (by omega)) (fun _ => sy_reach (by omega) g H (fun x hI hc => nm_e ⟨56, sy_sh25 (by omega) g H (fun p hp => ?_) (fun f hf1 hf0 => ih (n + 1) f (by omega) hf1 hf0) 55 0 f rfl hf1 (fun z => ⟨hf0 z, fun m' hm' => absurd hm' (by omega)⟩)⟩))
    rw [b_or, b_and, sn_b1 (by omega), sn_m32 p (by omega), Bool.or_eq_true, Bool.and_eq_true, decide_eq_true_eq, decide_eq_true_eq, sn_IY_R hI hc]
    exact ⟨fun z => z.imp (fun y => ⟨y.2, y.1⟩) id, fun z => z.imp (fun y => ⟨y.2, y.1⟩) id⟩
theorem sy_shorted (g : sn_G A B S Z) (H : sn_YG cl A B S Z he si th ea eb wh) {post : Int32 → Prop} (h0 : (¬ ∃ n m, n < 5 ∧ m < 55 ∧ sn_F cl A B S he n m) → post 0) (h1 : (∃ n m, n < 5 ∧ m < 55 ∧ sn_F cl A B S he n m) → post 1) : wpY_shorted post (ln, he, si, th, ea, eb, wh, wa, up, fi, wy, so, nx) :=
  ⟨6, sy_sh4 g H h0 h1 5 0 false rfl (fun z => (by cases z)) (fun _ n' m h => absurd h (by omega))⟩
end
end
section
/-! the relation -/
def sn_Cfg (pr : Int32) (ea eb ki ga st he si th wh : Nat → Int32) : Prop :=
  (∀ k, k < 12 → (∃ a, a < 11 ∧ ea k = nI a) ∧ (∃ b, b < 11 ∧ eb k = nI b) ∧ (∃ w, w < 27 ∧ wh k = nI w) ∧ th k = sn_i (bt pr k) ∧
    (bt pr k = true → ki k = wh k - wh k / 3 * 3 ∧ ga k = (wh k / 3 - wh k / 3 / 3 * 3) + 2 ∧ st k = wh k / 9 + 4)) ∧
  (∀ k, 12 ≤ k → bt pr k = false) ∧ (∀ n, n < 11 → sn_V3 (he n) ∧ (n < 5 → he n = 0 ∨ he n = 1)) ∧ (∀ n, n < 5 → si n = 7) ∧ (∀ n, 5 ≤ n → n < 11 → si n = 1 ∨ si n = 2 ∨ si n = 3)
def i_Rel (_ : Nat) (u : SX) (v : SY) : Prop :=
  match u, v with
  | (pr, ea, eb, ki, ga, st, he, si, wx, rs, af), (ln, he', si', th, ea', eb', wh, wa, up, fi, wy, so, nx) => he' = he ∧ si' = si ∧ ea' = ea ∧ eb' = eb ∧ sn_Cfg pr ea eb ki ga st he si th wh
theorem i_up {k : Nat} {u : SX} {v : SY} (h : i_Rel k u v) : i_Rel (k + 4) u v := h
theorem sn_el {k : Nat} {u : SX} {v : SY} {P : SX → SY → Prop} (I : i_Rel k u v)
    (h : ∀ (pr : Int32) (ea eb ki ga st he si wx rs af : Nat → Int32) (ln : Int32) (th wh wa up fi wy so nx : Nat → Int32), sn_Cfg pr ea eb ki ga st he si th wh → P (pr, ea, eb, ki, ga, st, he, si, wx, rs, af) (ln, he, si, th, ea, eb, wh, wa, up, fi, wy, so, nx)) : P u v := by
  obtain ⟨pr, ea, eb, ki, ga, st, he, si, wx, rs, af⟩ := u
  obtain ⟨ln, he', si', th, ea', eb', wh, wa, up, fi, wy, so, nx⟩ := v
  obtain ⟨e1, e2, e3, e4, hc⟩ := I
  subst e1 e2 e3 e4
  exact h _ _ _ _ _ _ _ _ _ _ _ _ _ _ _ _ _ _ _ _ hc
def sn_clo (pr : Int32) (he wh : Nat → Int32) (k : Nat) : Bool :=
  bt pr k && (decide (wh k - wh k / 3 * 3 = 2) || decide (he (2 + (wh k / 3 - wh k / 3 / 3 * 3)).toNatClampNeg = 1 - (wh k - wh k / 3 * 3)))
section
variable {pr : Int32} {ea eb ki ga st he si wx rs af : Nat → Int32} {ln : Int32} {th wh wa up fi wy so nx : Nat → Int32}
theorem sn_rel {k : Nat} (h : sn_Cfg pr ea eb ki ga st he si th wh) : i_Rel k (pr, ea, eb, ki, ga, st, he, si, wx, rs, af) (ln, he, si, th, ea, eb, wh, wa, up, fi, wy, so, nx) := ⟨rfl, rfl, rfl, rfl, h⟩
theorem sn_w3 {w : Nat} (hw : w < 27) : nI w - nI w / 3 * 3 = nI (w % 3) := pk_rem (d := 3) (by omega) (by decide) (by decide)
theorem sn_wd3 {w : Nat} (hw : w < 27) : nI w / 3 = nI (w / 3) := pk_div (d := 3) (by omega) (by decide) (by decide)
theorem sn_w33 {w : Nat} (hw : w < 27) : nI w / 3 - nI w / 3 / 3 * 3 = nI (w / 3 % 3) := by
  rw [sn_wd3 hw]; exact pk_rem (d := 3) (by omega) (by decide) (by decide)
theorem sn_w9 {w : Nat} (hw : w < 27) : nI w / 9 = nI (w / 9) := pk_div (d := 9) (by omega) (by decide) (by decide)
theorem sx_has {k : Nat} (hk : k < 2 ^ 31) {post : Int32 → Prop} (h0 : ¬ (k < 12 ∧ bt pr k = true) → post 0) (h1 : k < 12 → bt pr k = true → post 1) : wpX_has post (pr, ea, eb, ki, ga, st, he, si, wx, rs, af) (nI k) := by
  refine br_f (nI_pos hk) (pk_le 12 k (fun c => h0 (fun z => by omega)) (fun c => ?_))
  rw [sn_bit pr (show k < 32 by omega)]
  cases b : bt pr k
  · exact br_t rfl (h0 (fun z => by rw [b] at z; cases z.2))
  · exact br_f (by decide) (h1 c b)
theorem sx_isCl (h : sn_Cfg pr ea eb ki ga st he si th wh) {k : Nat} (hk : k < 12) {post : Int32 → Prop} (hp : post (sn_i (sn_clo pr he wh k))) : wpX_isClosed post (pr, ea, eb, ki, ga, st, he, si, wx, rs, af) (nI k) := by
  obtain ⟨_, _, ⟨w, hw, ew⟩, _, hb⟩ := h.1 k hk
  have hv : vp_in (nI k) 12 := vp_in_nI hk (by decide)
  have hc : (nI k).toNatClampNeg = k := nI_clamp (by omega)
  unfold wpX_isClosed
  dsimp only
  refine sx_has (by omega) (fun c => br_t rfl ?_) (fun _ c => br_f (by decide) ⟨hv, ?_⟩)
  · have e : sn_clo pr he wh k = false := by
      unfold sn_clo
      cases b : bt pr k
      · rfl
      · exact absurd ⟨hk, b⟩ c
    rw [e] at hp; exact hp
  · obtain ⟨e1, e2, _⟩ := hb c
    rw [hc, e1, e2]
    unfold sn_clo at hp
    rw [c, Bool.true_and] at hp
    have eg : wh k / 3 - wh k / 3 / 3 * 3 + 2 = nI (w / 3 % 3 + 2) := by rw [ew, sn_w33 hw]; exact nI_add _ 2
    have eg' : 2 + (wh k / 3 - wh k / 3 / 3 * 3) = nI (w / 3 % 3 + 2) := by rw [ew, sn_w33 hw, Nat.add_comm]; exact nI_add 2 _
    rw [eg'] at hp
    rw [eg]
    refine br_c (fun c1 => ?_) (fun c1 => ⟨hv, vp_in_nI (by omega) (by decide), hv, br_c (fun c2 => ?_) (fun c2 => ?_)⟩)
    · rw [decide_eq_true c1] at hp; exact hp
    · rw [decide_eq_false c1, decide_eq_true c2] at hp; exact hp
    · rw [decide_eq_false c1, decide_eq_false c2] at hp; exact hp
theorem sy_isCl (h : sn_Cfg pr ea eb ki ga st he si th wh) {k : Nat} (hk : k < 12) {post : Int32 → Prop} (hp : post (sn_i (sn_clo pr he wh k))) : wpY_isClosed post (ln, he, si, th, ea, eb, wh, wa, up, fi, wy, so, nx) (nI k) := by
  obtain ⟨_, _, ⟨w, hw, ew⟩, ht, _⟩ := h.1 k hk
  have hv : vp_in (nI k) 12 := vp_in_nI hk (by decide)
  have hc : (nI k).toNatClampNeg = k := nI_clamp (by omega)
  have eg' : 2 + (wh k / 3 - wh k / 3 / 3 * 3) = nI (w / 3 % 3 + 2) := by rw [ew, sn_w33 hw, Nat.add_comm]; exact nI_add 2 _
  unfold sn_clo at hp
  rw [eg'] at hp
  refine ⟨hv, by decide, nm_r (e' := wh k - wh k / 3 * 3) (by rw [hc]) ⟨hv, by decide, by decide, nm_r (e' := nI (w / 3 % 3 + 2)) (by rw [hc]; exact eg') ⟨hv, ?_⟩⟩⟩
  rw [hc, ht]
  cases b : bt pr k
  · rw [b] at hp
    exact br_t rfl hp
  · rw [b, Bool.true_and] at hp
    refine br_f (by decide) (br_c (fun c1 => ?_) (fun c1 => ⟨vp_in_nI (by omega) (by decide), br_c (fun c2 => ?_) (fun c2 => ?_)⟩))
    · rw [decide_eq_true c1] at hp; exact hp
    · rw [decide_eq_false c1, decide_eq_true c2] at hp; exact hp
    · rw [decide_eq_false c1, decide_eq_false c2] at hp; exact hp
/-- the graph that both sides show -/
theorem sn_cfg (h : sn_Cfg pr ea eb ki ga st he si th wh) : ∃ (cl : Nat → Bool) (A B S Z : Nat → Nat), sn_G A B S Z ∧ sn_XG cl A B S Z pr ea eb ki ga st he si ∧ sn_YG cl A B S Z he si th ea eb wh := by
  have hs5 : ∀ n, n < 5 → si n = nI 7 := h.2.2.2.1
  have hs : ∀ n, 5 ≤ n → n < 11 → ∃ z, 1 ≤ z ∧ z ≤ 3 ∧ si n = nI z := by
    intro n h5 hn
    rcases h.2.2.2.2 n h5 hn with e | e | e
    · exact ⟨1, by omega, by omega, e⟩
    · exact ⟨2, by omega, by omega, e⟩
    · exact ⟨3, by omega, by omega, e⟩
  have hz5 : ∀ n, n < 5 → (si n).toNatClampNeg = 7 := fun n hn => by rw [hs5 n hn]; exact nI_clamp (by omega)
  have hz : ∀ n, 5 ≤ n → n < 11 → 1 ≤ (si n).toNatClampNeg ∧ (si n).toNatClampNeg ≤ 3 ∧ si n = nI (si n).toNatClampNeg := by
    intro n h5 hn
    obtain ⟨z, a, b, e⟩ := hs n h5 hn
    rw [e, nI_clamp (by omega)]
    exact ⟨a, b, rfl⟩
  have hk : ∀ k, k < 12 → ∃ a b w, a < 11 ∧ b < 11 ∧ w < 27 ∧ ea k = nI a ∧ eb k = nI b ∧ wh k = nI w := by
    intro k hk
    obtain ⟨⟨a, ha, ea'⟩, ⟨b, hb, eb'⟩, ⟨w, hw, ew⟩, _⟩ := h.1 k hk
    exact ⟨a, b, w, ha, hb, hw, ea', eb', ew⟩
  refine ⟨sn_clo pr he wh, fun k => (ea k).toNatClampNeg, fun k => (eb k).toNatClampNeg, fun k => (4 + wh k / 9).toNatClampNeg, fun n => (si n).toNatClampNeg, ⟨fun k hk' => ?_, hz5, fun n h5 hn => ⟨(hz n h5 hn).1, (hz n h5 hn).2.1⟩⟩, ⟨fun k hk' => ?_, fun n hn => ?_, fun k hk' post wx rs af hp => sx_isCl h hk' hp⟩, ⟨fun k hk' => ?_, fun n hn => ?_, fun k hk' post ln wa up fi wy so nx hp => sy_isCl h hk' hp⟩⟩
  · obtain ⟨a, b, w, ha, hb, hw, e1, e2, e3⟩ := hk k hk'
    have e4 : 4 + wh k / 9 = nI (4 + w / 9) := by rw [e3, sn_w9 hw]; exact nI_add 4 _
    dsimp only
    rw [e1, e2, e4, nI_clamp (by omega), nI_clamp (by omega), nI_clamp (by omega)]
    omega
  · obtain ⟨a, b, w, ha, hb, hw, e1, e2, e3⟩ := hk k hk'
    have e4 : 4 + wh k / 9 = nI (4 + w / 9) := by rw [e3, sn_w9 hw]; exact nI_add 4 _
    dsimp only
    refine ⟨?_, ?_, fun hc => ?_⟩
    · rw [e1, nI_clamp (by omega)]
    · rw [e2, nI_clamp (by omega)]
    · have hb' : bt pr k = true := by
        unfold sn_clo at hc
        rw [Bool.and_eq_true] at hc
        exact hc.1
      rw [((h.1 k hk').2.2.2.2 hb').2.2, e4, nI_clamp (by omega), e3, sn_w9 hw, Nat.add_comm]
      exact nI_add _ 4
  · dsimp only
    rcases Nat.lt_or_ge n 5 with c | c
    · rw [hz5 n c]; exact hs5 n c
    · exact (hz n c hn).2.2
  · obtain ⟨a, b, w, ha, hb, hw, e1, e2, e3⟩ := hk k hk'
    have e4 : 4 + wh k / 9 = nI (4 + w / 9) := by rw [e3, sn_w9 hw]; exact nI_add 4 _
    dsimp only
    rw [e4, e1, e2, nI_clamp (by omega), nI_clamp (by omega), nI_clamp (by omega)]
    exact ⟨rfl, rfl, rfl⟩
  · dsimp only
    rcases Nat.lt_or_ge n 5 with c | c
    · rw [hz5 n c]; exact hs5 n c
    · exact (hz n c hn).2.2
end
end
section
/-! would, settle, unknowns: both sides' answers out of the solution -/
section
variable {cl : Nat → Bool} {A B S Z : Nat → Nat}
theorem sn_Sol_ex (g : sn_G A B S Z) : ∃ w rf, sn_Sol cl A B S Z w rf := by
  obtain ⟨w, hw⟩ := sn_LW_ex (cl := cl) g
  have hR := sn_LR_ex (cl := cl) (A := A) (B := B) (S := S) (Z := Z) w
  have hlt := sn_LR_lt g hR
  generalize (fun n m => ∀ Q, sn_Cl cl A B S Z w Q → Q n m) = R at hR hlt
  classical
  have hb : ∀ n m, bt (sn_mk (fun m => decide (R n m)) 11) m = true ↔ (m < 11 ∧ R n m) := by
    intro n m
    rw [sn_mk_b _ _ 11 (by omega), Bool.and_eq_true, decide_eq_true_eq, decide_eq_true_eq]
  refine ⟨w, fun n => sn_mk (fun m => decide (R n m)) 11, hw, fun n hn i hi => ((hb n i).mp hi).1, ⟨fun n hn e => (hb n n).mpr ⟨hn, hR.1.1 n hn e⟩, fun p q s m he ht hp => ?_⟩, fun Q hQ n m hn h => hR.2 Q hQ n m hn ((hb n m).mp h).2⟩
  have h := (hb p m).mp hp
  exact (hb q m).mpr ⟨h.1, hR.1.2 p q s m he ht h.2⟩
theorem sn_Sol_v (g : sn_G A B S Z) {w : Nat → Nat} {rf he : Nat → Int32} (h : sn_Sol cl A B S Z w rf) (hh : ∀ n, n < 11 → sn_V3 (he n)) : ∀ n, n < 11 → sn_V3 (sn_ag (rf n) he 11) := by
  intro n hn
  obtain ⟨m, hm⟩ := sn_ne h.1 h.2.2.1 g n hn
  exact sn_ag_v hh 11 (Nat.le_refl _) ⟨m, h.2.1 n hn m hm, hm⟩
theorem sn_Sol_i (g : sn_G A B S Z) {w : Nat → Nat} {rf he : Nat → Int32} (h : sn_Sol cl A B S Z w rf) : ∀ n, n < 5 → sn_ag (rf n) he 11 = he n := by
  intro n hn
  rw [sn_ag_1 (sn_inp g h.1 h.2.2 n hn).2 11, if_pos (by omega)]
theorem sn_V3b {x : Int32} (h : sn_V3 x) : vp_nar .byte x = x ∧ vp_nar .byte x.toInt8.toInt32 = x := by
  rcases h with e | e | e <;> subst e
  · exact ⟨sn_byt (j := 0) (by omega), sn_byte (j := 0) (by omega)⟩
  · exact ⟨sn_byt (j := 1) (by omega), sn_byte (j := 1) (by omega)⟩
  · exact ⟨sn_byt (j := 2) (by omega), sn_byte (j := 2) (by omega)⟩
/-- the held values when those below i are new -/
def sn_hm (f he : Nat → Int32) (i : Nat) : Nat → Int32 := fun j => if j < i then f j else he j
/-- how many of those below i are other -/
def sn_ch (f he : Nat → Int32) : Nat → Int32
  | 0 => 0
  | i + 1 => if f i = he i then sn_ch f he i else sn_ch f he i + 1
theorem sn_hm_s (f he : Nat → Int32) (i : Nat) : upd (sn_hm f he i) i (f i) = sn_hm f he (i + 1) := by
  funext j
  show (if j = i then f i else if j < i then f j else he j) = if j < i + 1 then f j else he j
  by_cases c : j = i
  · rw [if_pos c, if_pos (by omega), c]
  · rw [if_neg c]
    by_cases z : j < i
    · rw [if_pos z, if_pos (by omega)]
    · rw [if_neg z, if_neg (by omega)]
theorem sn_hm_i (f he : Nat → Int32) (i : Nat) : sn_hm f he i i = he i := if_neg (Nat.lt_irrefl i)
theorem sn_hm_e {f he : Nat → Int32} {i : Nat} (h : ∀ n, n < i → f n = he n) : sn_hm f he i = he := by
  funext j
  show (if j < i then f j else he j) = he j
  by_cases z : j < i
  · rw [if_pos z]; exact h j z
  · rw [if_neg z]
theorem sn_ch_e {f he : Nat → Int32} : ∀ i, (∀ n, n < i → f n = he n) → sn_ch f he i = 0 := by
  intro i
  induction i with
  | zero => intro _; rfl
  | succ i ih => intro h; exact (if_pos (h i (by omega))).trans (ih (fun n hn => h n (by omega)))
def sn_uk (f : Nat → Int32) : Nat → Int32
  | 0 => 0
  | i + 1 => if f (5 + i) = 2 then sn_uk f i + 1 else sn_uk f i
theorem sn_bad {x : Int32} (h : nI 11 ≤ x) : ¬ x < 0 ∧ (11 : Int32) ≤ x ∧ (10 : Int32) < x := by
  have h11 : (11 : Int32) ≤ x := h
  have e11 : (11 : Int32).toInt = 11 := by decide
  have e10 : (10 : Int32).toInt = 10 := by decide
  have e0 : (0 : Int32).toInt = 0 := by decide
  rw [Int32.le_iff_toInt_le, e11] at h11
  refine ⟨fun z => ?_, h, ?_⟩
  · rw [Int32.lt_iff_toInt_lt, e0] at z; omega
  · rw [Int32.lt_iff_toInt_lt, e10]; omega
end
section
variable {cl : Nat → Bool} {A B S Z : Nat → Nat} {pr : Int32} {ea eb ki ga st he si wx rs af : Nat → Int32}
theorem sx_node {n : Nat} (hn : n < 11) {post : Int32 → Prop} (h : post 1) : wpX_isNode post (nI n) :=
  br_f (nI_pos (by omega)) (pk_le 11 n (fun c => absurd c (by omega)) (fun _ => h))
theorem sx_nodeB {x : Int32} (hx : x < 0 ∨ nI 11 ≤ x) {post : Int32 → Prop} (h : post 0) : wpX_isNode post x := by
  rcases hx with z | z
  · exact br_t z h
  · exact br_f (sn_bad z).1 (br_t (sn_bad z).2.1 h)
/-- solve, at a given solution -/
theorem sx_sol (g : sn_G A B S Z) (H : sn_XG cl A B S Z pr ea eb ki ga st he si) {w : Nat → Nat} {rf : Nat → Int32} (hS : sn_Sol cl A B S Z w rf) {post : SX → Prop} (h : ∀ wx rs : Nat → Int32, (∀ n, n < 11 → wx n = nI (w n) ∧ rs n = rf n) → post (pr, ea, eb, ki, ga, st, he, si, wx, rs, af)) : wpX_solve post (pr, ea, eb, ki, ga, st, he, si, wx, rs, af) := by
  refine sx_solve g H (fun wx rs w' hw hs => h wx rs (fun n hn => ?_))
  have e := sn_Sol_u g hs hS n hn
  rw [hw n hn, e.1]
  exact ⟨rfl, e.2⟩
theorem sx_would (g : sn_G A B S Z) (H : sn_XG cl A B S Z pr ea eb ki ga st he si) {w : Nat → Nat} {rf : Nat → Int32} (hS : sn_Sol cl A B S Z w rf) {n : Nat} (hn : n < 11) {post : Int32 → SX → Prop} (h : ∀ wx rs : Nat → Int32, post (sn_ag (rf n) he 11) (pr, ea, eb, ki, ga, st, he, si, wx, rs, af)) : wpX_would post (pr, ea, eb, ki, ga, st, he, si, wx, rs, af) (nI n) := by
  unfold wpX_would
  dsimp only
  refine sx_node hn (br_f (by decide) (sx_sol g H hS (fun wx rs hr => ?_)))
  dsimp only
  refine sx_agreed hn ?_
  rw [(hr n hn).2]
  exact h wx rs
theorem sx_st34 {f : Nat → Int32} (hf : ∀ n, n < 11 → sn_V3 (f n)) (ha : ∀ n, n < 11 → af n = f n) {post : Int32 → SX → Prop} (h : post (sn_ch f he 11) (pr, ea, eb, ki, ga, st, sn_hm f he 11, si, wx, rs, af)) :
    ∀ d i, i + d = 11 → wX_settle_34 post pr (d + 1) (sn_ch f he i) (nI i) ea eb ki ga st (sn_hm f he i) si wx rs af := by
  intro d
  induction d with
  | zero =>
    intro i hi
    have e : i = 11 := by omega
    subst e
    exact pk_le 11 11 (fun _ => h) (fun z => absurd z (by omega))
  | succ d ih =>
    intro i hi
    have hJ := ih (i + 1) (by omega)
    have hv : vp_in (nI i) 11 := vp_in_nI (by omega) (by decide)
    have hc : (nI i).toNatClampNeg = i := nI_clamp (by omega)
    have hu : upd (sn_hm f he i) (nI i).toNatClampNeg (vp_nar .byte (af (nI i).toNatClampNeg)) = sn_hm f he (i + 1) := by
      rw [hc, ha i (by omega), (sn_V3b (hf i (by omega))).1, sn_hm_s]
    refine pk_le 11 i (fun z => absurd z (by omega)) (fun _ => ⟨hv, hv, ?_⟩)
    rw [hc, ha i (by omega), sn_hm_i]
    refine br_c (fun c => ?_) (fun c => ?_)
    · have e : sn_ch f he (i + 1) = sn_ch f he i := if_pos c
      rw [e] at hJ
      exact nm_r (Int32.add_zero _) ⟨hv, hv, nm_r hu (nm_r (nI_1 i) hJ)⟩
    · have e : sn_ch f he (i + 1) = sn_ch f he i + 1 := if_neg c
      rw [e] at hJ
      exact nm_e ⟨hv, hv, nm_r hu (nm_r (nI_1 i) hJ)⟩
theorem sx_st6 {f : Nat → Int32} (hf : ∀ n, n < 11 → sn_V3 (f n)) (hr : ∀ n, n < 11 → sn_ag (rs n) he 11 = f n) {post : Int32 → SX → Prop} (hK : ∀ af : Nat → Int32, (∀ n, n < 11 → af n = f n) → ∃ n, wX_settle_34 post pr n 0 (nI 5) ea eb ki ga st he si wx rs af) :
    ∀ (d i : Nat) (af : Nat → Int32), i + d = 11 → (∀ n, n < i → af n = f n) → wX_settle_6 post pr (d + 1) (nI i) ea eb ki ga st he si wx rs af := by
  intro d
  induction d with
  | zero =>
    intro i af hi ha
    have e : i = 11 := by omega
    subst e
    exact pk_le 11 11 (fun _ => hK af ha) (fun z => absurd z (by omega))
  | succ d ih =>
    intro i af hi ha
    have hv : vp_in (nI i) 11 := vp_in_nI (by omega) (by decide)
    have hc : (nI i).toNatClampNeg = i := nI_clamp (by omega)
    refine pk_le 11 i (fun z => absurd z (by omega)) (fun _ => sx_agreed (by omega) ⟨hv, nm_r (e' := upd af i (f i)) ?_ (nm_r (nI_1 i) (ih (i + 1) _ (by omega) (fun n hn => ?_)))⟩)
    · rw [hc, hr i (by omega), (sn_V3b (hf i (by omega))).2]
    · by_cases e : n = i
      · subst e; exact pk_us
      · rw [pk_un e]; exact ha n (by omega)
theorem sx_settle (g : sn_G A B S Z) (H : sn_XG cl A B S Z pr ea eb ki ga st he si) (hh : ∀ n, n < 11 → sn_V3 (he n)) {w : Nat → Nat} {rf : Nat → Int32} (hS : sn_Sol cl A B S Z w rf) {post : Int32 → SX → Prop}
    (h : ∀ wx rs af : Nat → Int32, post (sn_ch (fun n => sn_ag (rf n) he 11) he 11) (pr, ea, eb, ki, ga, st, sn_hm (fun n => sn_ag (rf n) he 11) he 11, si, wx, rs, af)) : wpX_settle post (pr, ea, eb, ki, ga, st, he, si, wx, rs, af) := by
  have hv := sn_Sol_v g hS hh
  have hi := sn_Sol_i (he := he) g hS
  unfold wpX_settle
  dsimp only
  refine sx_sol g H hS (fun wx rs hr => ⟨12, sx_st6 (f := fun n => sn_ag (rf n) he 11) hv (fun n hn => congrArg (fun b => sn_ag b he 11) (hr n hn).2) (fun af ha => ⟨7, ?_⟩) 11 0 af rfl (fun n hn => absurd hn (by omega))⟩)
  have h1 := sx_st34 (pr := pr) (ea := ea) (eb := eb) (ki := ki) (ga := ga) (st := st) (si := si) (wx := wx) (rs := rs) (he := he) hv ha (h wx rs af) 6 5 rfl
  rw [sn_hm_e hi, sn_ch_e 5 hi] at h1
  exact h1
theorem sx_uk8 {f : Nat → Int32} (hr : ∀ n, n < 11 → sn_ag (rs n) he 11 = f n) {post : Int32 → SX → Prop} (h : post (sn_uk f 6) (pr, ea, eb, ki, ga, st, he, si, wx, rs, af)) : ∀ d i, i + d = 6 → wX_unknowns_8 post pr ea eb ki ga st he si wx rs af (d + 1) (sn_uk f i) (nI (5 + i)) := by
  intro d
  induction d with
  | zero =>
    intro i hi
    have e : i = 6 := by omega
    subst e
    exact pk_le 11 11 (fun _ => h) (fun z => absurd z (by omega))
  | succ d ih =>
    intro i hi
    have hJ := ih (i + 1) (by omega)
    refine pk_le 11 (5 + i) (fun z => absurd z (by omega)) (fun _ => sx_agreed (by omega) ?_)
    rw [hr (5 + i) (by omega)]
    refine br_c (fun c => ?_) (fun c => ?_)
    · have e : sn_uk f (i + 1) = sn_uk f i + 1 := if_pos c
      rw [e] at hJ
      exact nm_e (nm_r (nI_1 (5 + i)) hJ)
    · have e : sn_uk f (i + 1) = sn_uk f i := if_neg c
      rw [e] at hJ
      exact nm_r (Int32.add_zero _) (nm_r (nI_1 (5 + i)) hJ)
theorem sx_unknowns (g : sn_G A B S Z) (H : sn_XG cl A B S Z pr ea eb ki ga st he si) {w : Nat → Nat} {rf : Nat → Int32} (hS : sn_Sol cl A B S Z w rf) {post : Int32 → SX → Prop}
    (h : ∀ wx rs : Nat → Int32, post (sn_uk (fun n => sn_ag (rf n) he 11) 6) (pr, ea, eb, ki, ga, st, he, si, wx, rs, af)) : wpX_unknowns post (pr, ea, eb, ki, ga, st, he, si, wx, rs, af) := by
  unfold wpX_unknowns
  dsimp only
  exact sx_sol g H hS (fun wx rs hr => ⟨7, sx_uk8 (f := fun n => sn_ag (rf n) he 11) (fun n hn => congrArg (fun b => sn_ag b he 11) (hr n hn).2) (h wx rs) 6 0 rfl⟩)
end
section
variable {cl : Nat → Bool} {A B S Z : Nat → Nat} {ln : Int32} {he si th ea eb wh wa up fi wy so nx : Nat → Int32}
theorem sy_nodeB {x : Int32} (hx : x < 0 ∨ nI 11 ≤ x) {post : Int32 → Prop} (h : post 0) : wpY_node post (ln, he, si, th, ea, eb, wh, wa, up, fi, wy, so, nx) x := by
  rcases hx with z | z
  · exact br_t z h
  · exact br_f (sn_bad z).1 (br_t (sn_bad z).2.2 h)
theorem sy_sol (g : sn_G A B S Z) (H : sn_YG cl A B S Z he si th ea eb wh) {w : Nat → Nat} {rf : Nat → Int32} (hS : sn_Sol cl A B S Z w rf) {post : SY → Prop} (h : ∀ (ln : Int32) (wa up fi wy so : Nat → Int32), (∀ n, n < 11 → wy n = nI (w n) ∧ so n = rf n) → post (ln, he, si, th, ea, eb, wh, wa, up, fi, wy, so, nx)) : wpY_work post (ln, he, si, th, ea, eb, wh, wa, up, fi, wy, so, nx) := by
  refine sy_work g H (fun wa up fi wy so w' hw hs => h _ wa up fi wy so (fun n hn => ?_))
  have e := sn_Sol_u g hs hS n hn
  rw [hw n hn, e.1]
  exact ⟨rfl, e.2⟩
theorem sy_would (g : sn_G A B S Z) (H : sn_YG cl A B S Z he si th ea eb wh) (hh : ∀ n, n < 11 → sn_V3 (he n)) {w : Nat → Nat} {rf : Nat → Int32} (hS : sn_Sol cl A B S Z w rf) {n : Nat} (hn : n < 11) {post : Int32 → SY → Prop} (h : ∀ (ln : Int32) (wa up fi wy so : Nat → Int32), post (sn_ag (rf n) he 11) (ln, he, si, th, ea, eb, wh, wa, up, fi, wy, so, nx)) : wpY_would post (ln, he, si, th, ea, eb, wh, wa, up, fi, wy, so, nx) (nI n) := by
  have hv := sn_Sol_v g hS hh n hn
  unfold wpY_would
  dsimp only
  refine sy_sol g H hS (fun ln wa up fi wy so hr => ?_)
  dsimp only
  refine sy_node hn (br_f (by decide) (pk_le 5 n (fun c => ?_) (fun c => ⟨vp_in_nI hn (by decide), ?_⟩)))
  · refine sy_after hn hh ?_ ?_
    · rw [(hr n hn).2]; exact hv
    · rw [(hr n hn).2]; exact h ln wa up fi wy so
  · rw [nI_clamp (show n < 2 ^ 31 by omega), ← sn_Sol_i (he := he) g hS n c]; exact h ln wa up fi wy so
theorem sy_st47 {f : Nat → Int32} (ha : ∀ n, n < 11 → nx n = f n) {post : Int32 → SY → Prop} (h : post (sn_ch f he 11) (ln, sn_hm f he 11, si, th, ea, eb, wh, wa, up, fi, wy, so, nx)) :
    ∀ d i, i + d = 11 → wY_settle_47 post ln (d + 1) (sn_ch f he i) (nI i) (sn_hm f he i) si th ea eb wh wa up fi wy so nx := by
  intro d
  induction d with
  | zero =>
    intro i hi
    have e : i = 11 := by omega
    subst e
    exact pk_le 11 11 (fun _ => h) (fun z => absurd z (by omega))
  | succ d ih =>
    intro i hi
    have hJ := ih (i + 1) (by omega)
    have hv : vp_in (nI i) 11 := vp_in_nI (by omega) (by decide)
    have hc : (nI i).toNatClampNeg = i := nI_clamp (by omega)
    have hu : upd (sn_hm f he i) (nI i).toNatClampNeg (nx (nI i).toNatClampNeg) = sn_hm f he (i + 1) := by
      rw [hc, ha i (by omega), sn_hm_s]
    refine pk_le 11 i (fun z => absurd z (by omega)) (fun _ => ⟨hv, hv, ?_⟩)
    rw [hc, ha i (by omega), sn_hm_i]
    refine br_c (fun c => ?_) (fun c => ?_)
    · have e : sn_ch f he (i + 1) = sn_ch f he i := if_pos c
      rw [e] at hJ
      exact ⟨hv, hv, nm_r hu (nm_r (nI_1 i) hJ)⟩
    · have e : sn_ch f he (i + 1) = sn_ch f he i + 1 := if_neg c
      rw [e] at hJ
      exact ⟨hv, hv, nm_r hu (nm_r (nI_1 i) hJ)⟩
theorem sy_st6 {f : Nat → Int32} (hh : ∀ n, n < 11 → sn_V3 (he n)) (hf : ∀ n, n < 11 → sn_V3 (f n)) (hi5 : ∀ n, n < 5 → f n = he n) (hr : ∀ n, n < 11 → sn_ag (so n) he 11 = f n) {post : Int32 → SY → Prop} (hK : ∀ nx : Nat → Int32, (∀ n, n < 11 → nx n = f n) → ∃ n, wY_settle_47 post ln n 0 (nI 0) he si th ea eb wh wa up fi wy so nx) :
    ∀ (d i : Nat) (nx : Nat → Int32), i + d = 11 → (∀ n, n < i → nx n = f n) → wY_settle_6 post ln (d + 1) (nI i) he si th ea eb wh wa up fi wy so nx := by
  intro d
  induction d with
  | zero =>
    intro i nx hi ha
    have e : i = 11 := by omega
    subst e
    exact pk_le 11 11 (fun _ => hK nx ha) (fun z => absurd z (by omega))
  | succ d ih =>
    intro i nx hi ha
    have hv : vp_in (nI i) 11 := vp_in_nI (by omega) (by decide)
    have hc : (nI i).toNatClampNeg = i := nI_clamp (by omega)
    have hJ : wY_settle_6 post ln (d + 1) (nI (i + 1)) he si th ea eb wh wa up fi wy so (upd nx i (f i)) := by
      refine ih (i + 1) _ (by omega) (fun n hn => ?_)
      by_cases e : n = i
      · subst e; exact pk_us
      · rw [pk_un e]; exact ha n (by omega)
    refine pk_le 11 i (fun z => absurd z (by omega)) (fun _ => pk_le 5 i (fun c => sy_after (by omega) hh ?_ ⟨hv, nm_r (e' := upd nx i (f i)) ?_ (nm_r (nI_1 i) hJ)⟩) (fun c => ⟨hv, hv, nm_r (e' := upd nx i (f i)) ?_ (nm_r (nI_1 i) hJ)⟩))
    · rw [hr i (by omega)]; exact hf i (by omega)
    · rw [hc, hr i (by omega)]
    · rw [hc, hi5 i c]
theorem sy_settle (g : sn_G A B S Z) (H : sn_YG cl A B S Z he si th ea eb wh) (hh : ∀ n, n < 11 → sn_V3 (he n)) {w : Nat → Nat} {rf : Nat → Int32} (hS : sn_Sol cl A B S Z w rf) {post : Int32 → SY → Prop}
    (h : ∀ (ln : Int32) (wa up fi wy so nx : Nat → Int32), post (sn_ch (fun n => sn_ag (rf n) he 11) he 11) (ln, sn_hm (fun n => sn_ag (rf n) he 11) he 11, si, th, ea, eb, wh, wa, up, fi, wy, so, nx)) : wpY_settle post (ln, he, si, th, ea, eb, wh, wa, up, fi, wy, so, nx) := by
  have hv := sn_Sol_v g hS hh
  have hi := sn_Sol_i (he := he) g hS
  unfold wpY_settle
  dsimp only
  refine sy_sol g H hS (fun ln wa up fi wy so hr => ⟨12, sy_st6 (f := fun n => sn_ag (rf n) he 11) hh hv hi (fun n hn => congrArg (fun b => sn_ag b he 11) (hr n hn).2) (fun nx ha => ⟨12, ?_⟩) 11 0 nx rfl (fun n hn => absurd hn (by omega))⟩)
  have h1 := sy_st47 (ln := ln) (si := si) (th := th) (ea := ea) (eb := eb) (wh := wh) (wa := wa) (up := up) (fi := fi) (wy := wy) (so := so) (he := he) ha (h ln wa up fi wy so nx) 11 0 rfl
  rw [sn_hm_e (fun n hn => absurd hn (by omega))] at h1
  exact h1
theorem sy_uk8 {f : Nat → Int32} (hh : ∀ n, n < 11 → sn_V3 (he n)) (hf : ∀ n, n < 11 → sn_V3 (f n)) (hr : ∀ n, n < 11 → sn_ag (so n) he 11 = f n) {post : Int32 → SY → Prop} (h : post (sn_uk f 6) (ln, he, si, th, ea, eb, wh, wa, up, fi, wy, so, nx)) : ∀ d i, i + d = 6 → wY_unknowns_8 post ln he si th ea eb wh wa up fi wy so nx (d + 1) (sn_uk f i) (nI (5 + i)) := by
  intro d
  induction d with
  | zero =>
    intro i hi
    have e : i = 6 := by omega
    subst e
    exact pk_le 11 11 (fun _ => h) (fun z => absurd z (by omega))
  | succ d ih =>
    intro i hi
    have hJ := ih (i + 1) (by omega)
    refine pk_le 11 (5 + i) (fun z => absurd z (by omega)) (fun _ => sy_after (by omega) hh ?_ ?_)
    · rw [hr (5 + i) (by omega)]; exact hf (5 + i) (by omega)
    · rw [hr (5 + i) (by omega)]
      refine br_c (fun c => ?_) (fun c => ?_)
      · have e : sn_uk f (i + 1) = sn_uk f i + 1 := if_pos c
        rw [e] at hJ
        exact nm_e (nm_r (nI_1 (5 + i)) hJ)
      · have e : sn_uk f (i + 1) = sn_uk f i := if_neg c
        rw [e] at hJ
        exact nm_r (nI_1 (5 + i)) hJ
theorem sy_unknowns (g : sn_G A B S Z) (H : sn_YG cl A B S Z he si th ea eb wh) (hh : ∀ n, n < 11 → sn_V3 (he n)) {w : Nat → Nat} {rf : Nat → Int32} (hS : sn_Sol cl A B S Z w rf) {post : Int32 → SY → Prop}
    (h : ∀ (ln : Int32) (wa up fi wy so : Nat → Int32), post (sn_uk (fun n => sn_ag (rf n) he 11) 6) (ln, he, si, th, ea, eb, wh, wa, up, fi, wy, so, nx)) : wpY_unknowns post (ln, he, si, th, ea, eb, wh, wa, up, fi, wy, so, nx) := by
  unfold wpY_unknowns
  dsimp only
  exact sy_sol g H hS (fun ln wa up fi wy so hr => ⟨7, sy_uk8 (f := fun n => sn_ag (rf n) he 11) hh (sn_Sol_v g hS hh) (fun n hn => congrArg (fun b => sn_ag b he 11) (hr n hn).2) (h ln wa up fi wy so) 6 0 rfl⟩)
end
end
section
/-! inputsFor -/
def sn_in (he : Nat → Int32) (j : Nat) : Nat → Int32 := upd (upd (upd he 2 (sn_i (bt (nI j) 0))) 3 (sn_i (bt (nI j) 1))) 4 (sn_i (bt (nI j) 2))
/-- the counter of the inputs: -1 after 0 -/
def sn_xi : Nat → Int32
  | 0 => -1
  | j + 1 => nI j
theorem sn_xi_m (j : Nat) : nI j + (-1) = sn_xi j := by
  cases j with
  | zero => decide
  | succ j => exact pk_m1 j
theorem sn_ib (b : Bool) : vp_nar .byte (sn_i b).toInt8.toInt32 = sn_i b := by
  cases b
  · exact sn_byte (j := 0) (by omega)
  · exact sn_byte (j := 1) (by omega)
theorem sn_j2 : ∀ j, j < 8 → nI j >>> ((2 : Int32) &&& 31) = sn_i (bt (nI j) 2) := by decide +kernel
theorem sn_i01 (b : Bool) : sn_i b = 0 ∨ sn_i b = 1 := by cases b; exact Or.inl rfl; exact Or.inr rfl
theorem sn_in_v (he : Nat → Int32) (j n : Nat) : sn_in he j n = he n ∨ (sn_in he j n = 0 ∨ sn_in he j n = 1) := by
  unfold sn_in
  by_cases c4 : n = 4
  · subst c4; rw [pk_us]; exact Or.inr (sn_i01 _)
  · rw [pk_un c4]
    by_cases c3 : n = 3
    · subst c3; rw [pk_us]; exact Or.inr (sn_i01 _)
    · rw [pk_un c3]
      by_cases c2 : n = 2
      · subst c2; rw [pk_us]; exact Or.inr (sn_i01 _)
      · rw [pk_un c2]; exact Or.inl rfl
theorem sn_own {a b c : Int32} (ha : a = 0 ∨ a = 1) (hb : b = 0 ∨ b = 1) (hc : c = 0 ∨ c = 1) : ∃ j, j < 8 ∧ (a ||| (b <<< ((1 : Int32) &&& 31))) ||| (c <<< ((2 : Int32) &&& 31)) = nI j := by
  rcases ha with e1 | e1 <;> rcases hb with e2 | e2 <;> rcases hc with e3 | e3 <;> subst e1 e2 e3
  · exact ⟨0, by decide, by decide⟩
  · exact ⟨4, by decide, by decide⟩
  · exact ⟨2, by decide, by decide⟩
  · exact ⟨6, by decide, by decide⟩
  · exact ⟨1, by decide, by decide⟩
  · exact ⟨5, by decide, by decide⟩
  · exact ⟨3, by decide, by decide⟩
  · exact ⟨7, by decide, by decide⟩
section
variable {pr : Int32} {ea eb ki ga st he si wx rs af : Nat → Int32} {ln : Int32} {th wh wa up fi wy so nx : Nat → Int32}
theorem sn_cfg_he (h : sn_Cfg pr ea eb ki ga st he si th wh) {he' : Nat → Int32} (h' : ∀ n, n < 11 → sn_V3 (he' n) ∧ (n < 5 → he' n = 0 ∨ he' n = 1)) : sn_Cfg pr ea eb ki ga st he' si th wh :=
  ⟨h.1, h.2.1, h', h.2.2.2.1, h.2.2.2.2⟩
theorem sn_cfg_in (h : sn_Cfg pr ea eb ki ga st he si th wh) (j : Nat) : sn_Cfg pr ea eb ki ga st (sn_in he j) si th wh := by
  refine sn_cfg_he h (fun n hn => ?_)
  rcases sn_in_v he j n with e | e | e
  · rw [e]; exact h.2.2.1 n hn
  · exact ⟨Or.inl e, fun _ => Or.inl e⟩
  · exact ⟨Or.inr (Or.inl e), fun _ => Or.inr e⟩
theorem sx_si1 {i j n : Nat} (hi : i < 3) {post : SX → Prop} (hJ : wX_setInputs_2 post (nI j) pr n (nI (i + 1)) ea eb ki ga st (upd he (2 + i) (sn_i (bt (nI j) i))) si wx rs af) : wX_setInputs_2 post (nI j) pr (n + 1) (nI i) ea eb ki ga st he si wx rs af := by
  have e : 2 + nI i = nI (2 + i) := nI_add 2 i
  refine pk_le 3 i (fun z => absurd z (by omega)) (fun _ => ?_)
  rw [e]
  refine ⟨vp_in_nI (by omega) (by decide), nm_r (e' := upd he (2 + i) (sn_i (bt (nI j) i))) ?_ (nm_r (nI_1 i) hJ)⟩
  rw [nI_clamp (by omega), sn_bit (nI j) (show i < 32 by omega), sn_ib]
theorem sx_setIn {j : Nat} {post : SX → Prop} (h : post (pr, ea, eb, ki, ga, st, sn_in he j, si, wx, rs, af)) : wpX_setInputs post (pr, ea, eb, ki, ga, st, he, si, wx, rs, af) (nI j) :=
  ⟨4, sx_si1 (i := 0) (by omega) (sx_si1 (i := 1) (by omega) (sx_si1 (i := 2) (by omega) (pk_le 3 3 (fun _ => h) (fun z => absurd z (by omega)))))⟩
theorem sy_in {j : Nat} (hj : j < 8) {post : SY → Prop} (h : post (ln, sn_in he j, si, th, ea, eb, wh, wa, up, fi, wy, so, nx)) : wpY_inputs post (ln, he, si, th, ea, eb, wh, wa, up, fi, wy, so, nx) (nI j) :=
  nm_r (congrArg (upd he 2) (sn_and1 (nI j))) (nm_r (congrArg (upd _ 3) (sn_bit (nI j) (m := 1) (by omega))) (nm_r (congrArg (upd _ 4) (sn_j2 j hj)) h))
/-- both loops over the inputs, in one -/
theorem sn_inF {s o : Nat} {x2 : Int32} (hs : s < 11) (ho : o < 8) : ∀ (j : Nat) (he : Nat → Int32) (x4 : Int32), j ≤ 8 → sn_Cfg pr ea eb ki ga st he si th wh →
    ∃ (r : Int32) (he' : Nat → Int32), sn_Cfg pr ea eb ki ga st he' si th wh ∧
      (∀ post : Int32 → SX → Prop, (∀ wx rs : Nat → Int32, post r (pr, ea, eb, ki, ga, st, he', si, wx, rs, af)) → ∀ wx rs : Nat → Int32, wX_inputsFor_50 post (nI s) x2 (nI o) (j + 1) x4 (sn_xi j) pr ea eb ki ga st he si wx rs af) ∧
      (∀ post : Int32 → SY → Prop, (∀ (ln : Int32) (wa up fi wy so : Nat → Int32), post r (ln, he', si, th, ea, eb, wh, wa, up, fi, wy, so, nx)) → ∀ (ln : Int32) (wa up fi wy so : Nat → Int32), wY_inputsFor_51 post (nI s) x2 (nI o) (j + 1) x4 (sn_xi j) ln he si th ea eb wh wa up fi wy so nx) := by
  intro j
  induction j with
  | zero =>
    intro he x4 _ hC
    have hneg : sn_xi 0 < 0 := by decide
    exact ⟨x4, sn_in he o, sn_cfg_in hC o, fun post h wx rs => br_t hneg (sx_setIn (h wx rs)), fun post h ln wa up fi wy so => br_t hneg (sy_in ho (h ln wa up fi wy so))⟩
  | succ j ih =>
    intro he x4 hj hC
    have hC' := sn_cfg_in hC j
    obtain ⟨cl, A, B, S, Z, g, HX, HY⟩ := sn_cfg hC'
    obtain ⟨w, rf, hS⟩ := sn_Sol_ex (cl := cl) g
    have hh : ∀ n, n < 11 → sn_V3 (sn_in he j n) := fun n hn => (hC'.2.2.1 n hn).1
    have hpos : ¬ sn_xi (j + 1) < 0 := nI_pos (by omega)
    by_cases c : sn_ag (rf s) (sn_in he j) 11 = x2
    · obtain ⟨r, he', h1, hX, hY⟩ := ih (sn_in he j) (nI j) (by omega) hC'
      refine ⟨r, he', h1, fun post h wx rs => br_f hpos (sx_setIn (sx_would g HX hS hs (fun wx rs => br_t c (nm_r (sn_xi_m j) (hX post h wx rs))))), fun post h ln wa up fi wy so => br_f hpos (sy_in (by omega) (sy_would g HY hh hS hs (fun ln wa up fi wy so => br_t c (nm_r (sn_xi_m j) (hY post h ln wa up fi wy so)))))⟩
    · obtain ⟨r, he', h1, hX, hY⟩ := ih (sn_in he j) x4 (by omega) hC'
      refine ⟨r, he', h1, fun post h wx rs => br_f hpos (sx_setIn (sx_would g HX hS hs (fun wx rs => br_f c (nm_r (sn_xi_m j) (hX post h wx rs))))), fun post h ln wa up fi wy so => br_f hpos (sy_in (by omega) (sy_would g HY hh hS hs (fun ln wa up fi wy so => br_f c (nm_r (sn_xi_m j) (hY post h ln wa up fi wy so)))))⟩
end
end
section
/-! the constructors and the methods that store -/
def sn_h0 : Nat → Int32 := fun i => if i = 1 then 1 else if 5 ≤ i then 2 else 0
def sn_s0 : Nat → Int32 := fun i => if i < 5 then 7 else 1
theorem sn_h0v : ∀ n, sn_V3 (sn_h0 n) ∧ (n < 5 → sn_h0 n = 0 ∨ sn_h0 n = 1) := by
  intro n
  unfold sn_h0
  by_cases c : n = 1
  · rw [if_pos c]; exact ⟨Or.inr (Or.inl rfl), fun _ => Or.inr rfl⟩
  · rw [if_neg c]
    by_cases c' : 5 ≤ n
    · rw [if_pos c']; exact ⟨Or.inr (Or.inr rfl), fun z => absurd z (by omega)⟩
    · rw [if_neg c']; exact ⟨Or.inl rfl, fun _ => Or.inl rfl⟩
theorem sn_ca2 {f : Nat → Int32} {a b : Nat} {x y : Int32} (h : a = b) (h' : x = y) : upd f a x = upd f b y := by rw [h, h']
section
variable {pr : Int32} {ea eb ki ga st he si wx rs af : Nat → Int32} {ln : Int32} {th wh wa up fi wy so nx : Nat → Int32}
theorem sx_i93 {post : SX → Prop} (h : post (pr, ea, eb, ki, ga, st, sn_hm sn_h0 (upd (fun _ => 0) 1 1) 11, sn_hm sn_s0 (fun _ => 0) 11, wx, rs, af)) :
    ∀ d i, i + d = 11 → wX_init_93 post pr (d + 1) (nI i) ea eb ki ga st (sn_hm sn_h0 (upd (fun _ => 0) 1 1) i) (sn_hm sn_s0 (fun _ => 0) i) wx rs af := by
  intro d
  induction d with
  | zero =>
    intro i hi
    have e : i = 11 := by omega
    subst e
    exact pk_le 11 11 (fun _ => h) (fun z => absurd z (by omega))
  | succ d ih =>
    intro i hi
    have hJ := ih (i + 1) (by omega)
    have hv : vp_in (nI i) 11 := vp_in_nI (by omega) (by decide)
    have hc : (nI i).toNatClampNeg = i := nI_clamp (by omega)
    refine pk_le 11 i (fun z => absurd z (by omega)) (fun _ => pk_le 5 i (fun c => ⟨hv, nm_r (e' := sn_hm sn_s0 (fun _ => 0) (i + 1)) ?_ (br_t (nI_le (a := 5) c (by omega)) ⟨hv, nm_r (e' := sn_hm sn_h0 (upd (fun _ => 0) 1 1) (i + 1)) ?_ (nm_r (nI_1 i) hJ)⟩)⟩) (fun c => ⟨hv, nm_r (e' := sn_hm sn_s0 (fun _ => 0) (i + 1)) ?_ (br_f (nI_ge (b := 5) c (by omega)) ⟨hv, hv, nm_r (e' := sn_hm sn_h0 (upd (fun _ => 0) 1 1) (i + 1)) ?_ (nm_r (nI_1 i) hJ)⟩)⟩))
    · rw [hc, ← sn_hm_s]
      refine congrArg (upd _ i) ?_
      unfold sn_s0
      rw [if_neg (by omega)]; exact sn_byte (j := 1) (by omega)
    · rw [hc, ← sn_hm_s]
      refine congrArg (upd _ i) ?_
      unfold sn_h0
      rw [if_neg (by omega), if_pos c]; exact sn_byt (j := 2) (by omega)
    · rw [hc, ← sn_hm_s]
      refine congrArg (upd _ i) ?_
      unfold sn_s0
      rw [if_pos c]; exact sn_byte (j := 7) (by omega)
    · rw [hc, ← sn_hm_s, sn_hm_i]
      have e : upd (fun _ => 0) 1 1 i = sn_h0 i := by
        unfold sn_h0 upd
        by_cases z : i = 1
        · rw [if_pos z, if_pos z]
        · rw [if_neg z, if_neg z, if_neg (by omega)]
      rw [e, (sn_V3b (sn_h0v i).1).1]
theorem sy_i102 {post : SY → Prop} (h : post (ln, sn_hm sn_h0 (fun _ => 0) 11, sn_hm sn_s0 (fun _ => 0) 11, th, ea, eb, wh, wa, up, fi, wy, so, nx)) :
    ∀ d i, i + d = 11 → wY_init_102 post ln (d + 1) (nI i) (sn_hm sn_h0 (fun _ => 0) i) (sn_hm sn_s0 (fun _ => 0) i) th ea eb wh wa up fi wy so nx := by
  intro d
  induction d with
  | zero =>
    intro i hi
    have e : i = 11 := by omega
    subst e
    exact pk_le 11 11 (fun _ => h) (fun z => absurd z (by omega))
  | succ d ih =>
    intro i hi
    have hJ := ih (i + 1) (by omega)
    have hv : vp_in (nI i) 11 := vp_in_nI (by omega) (by decide)
    have hc : (nI i).toNatClampNeg = i := nI_clamp (by omega)
    have step : ∀ z : Int32, z = sn_h0 i → wY_init_132 post (wY_init_102 post ln (d + 1)) (nI i) z (nI i) ln (sn_hm sn_h0 (fun _ => 0) i) (sn_hm sn_s0 (fun _ => 0) i) th ea eb wh wa up fi wy so nx := by
      intro z hz
      refine ⟨hv, nm_r (e' := sn_hm sn_h0 (fun _ => 0) (i + 1)) (by rw [hc, hz, sn_hm_s]) (pk_le 5 i (fun c => ⟨hv, nm_r (e' := sn_hm sn_s0 (fun _ => 0) (i + 1)) ?_ (nm_r (nI_1 i) hJ)⟩) (fun c => ⟨hv, nm_r (e' := sn_hm sn_s0 (fun _ => 0) (i + 1)) ?_ (nm_r (nI_1 i) hJ)⟩))⟩
      · rw [hc, ← sn_hm_s]
        refine congrArg (upd _ i) ?_
        unfold sn_s0
        rw [if_neg (by omega)]
      · rw [hc, ← sn_hm_s]
        refine congrArg (upd _ i) ?_
        unfold sn_s0
        rw [if_pos c]
    refine pk_le 11 i (fun z => absurd z (by omega)) (fun _ => pk_lt i 5 (fun c => pk_eq i 1 (fun c' => step 1 ?_) (fun c' => step 0 ?_)) (fun c => step 2 ?_))
    · unfold sn_h0; rw [if_pos c']
    · unfold sn_h0; rw [if_neg c', if_neg (by omega)]
    · unfold sn_h0; rw [if_neg (by omega), if_pos c]
theorem sn_h0e : sn_hm sn_h0 (upd (fun _ => 0) 1 1) 11 = sn_hm sn_h0 (fun _ => 0) 11 := by
  funext j
  unfold sn_hm
  by_cases c : j < 11
  · rw [if_pos c, if_pos c]
  · rw [if_neg c, if_neg c, pk_un (by omega)]
theorem sn_cfg0 : sn_Cfg 0 (fun _ => 0) (fun _ => 0) (fun _ => 0) (fun _ => 0) (fun _ => 0) (sn_hm sn_h0 (upd (fun _ => 0) 1 1) 11) (sn_hm sn_s0 (fun _ => 0) 11) (fun _ => 0) (fun _ => 0) := by
  refine ⟨fun k hk => ⟨⟨0, by omega, rfl⟩, ⟨0, by omega, rfl⟩, ⟨0, by omega, rfl⟩, ?_, fun z => ?_⟩, fun k _ => b_0 k, fun n hn => ?_, fun n hn => ?_, fun n h5 hn => ?_⟩
  · rw [b_0]; rfl
  · rw [b_0] at z; cases z
  · have e : sn_hm sn_h0 (upd (fun _ => 0) 1 1) 11 n = sn_h0 n := if_pos hn
    rw [e]; exact sn_h0v n
  · have e : sn_hm sn_s0 (fun _ => 0) 11 n = sn_s0 n := if_pos (by omega)
    rw [e]; exact if_pos hn
  · have e : sn_hm sn_s0 (fun _ => 0) 11 n = sn_s0 n := if_pos hn
    rw [e]; exact Or.inl (if_neg (by omega))
theorem i_vc0 : wpX_init (fun u => wpY_init (fun v => i_Rel 0 u v)) := by
  have e0 : ∀ f : Nat → Int32, ∀ g : Nat → Int32, sn_hm f g 0 = g := fun f g => sn_hm_e (fun n hn => absurd hn (by omega))
  have hX := sx_i93 (pr := 0) (ea := fun _ => 0) (eb := fun _ => 0) (ki := fun _ => 0) (ga := fun _ => 0) (st := fun _ => 0) (wx := fun _ => 0) (rs := fun _ => 0) (af := fun _ => 0) (post := fun u => wpY_init (fun v => i_Rel 0 u v)) ?_ 11 0 rfl
  · rw [e0, e0] at hX
    exact nm_r (e' := upd (fun _ => 0) 1 1) (congrArg (upd _ 1) (sn_byt (j := 1) (by omega))) ⟨12, hX⟩
  · have hY := sy_i102 (ln := 0) (th := fun _ => 0) (ea := fun _ => 0) (eb := fun _ => 0) (wh := fun _ => 0) (wa := fun _ => 0) (up := fun _ => 0) (fi := fun _ => 0) (wy := fun _ => 0) (so := fun _ => 0) (nx := fun _ => 0) (post := fun v => i_Rel 0 (0, fun _ => 0, fun _ => 0, fun _ => 0, fun _ => 0, fun _ => 0, sn_hm sn_h0 (upd (fun _ => 0) 1 1) 11, sn_hm sn_s0 (fun _ => 0) 11, fun _ => 0, fun _ => 0, fun _ => 0) v) ?_ 11 0 rfl
    · rw [e0, e0] at hY
      exact ⟨12, hY⟩
    · rw [← sn_h0e]
      exact sn_rel sn_cfg0
/-! add -/
theorem sx_addL {k a b w : Nat} (hk : k < 12) (ha : a < 11) (hb' : b < 11) (hw : w < 27) (hb : bt pr k = false) (hl : ∀ j, j < k → bt pr j = true) {post : Int32 → SX → Prop}
    (hp : post (nI k) (pr ||| ((1 : Int32) <<< (nI k &&& 31)), upd ea k (nI a), upd eb k (nI b), upd ki k (nI (w % 3)), upd ga k (nI (w / 3 % 3 + 2)), upd st k (nI (w / 9 + 4)), he, si, wx, rs, af)) :
    ∀ d i, i + d = k → wX_add_34 post (nI a) (nI b) (nI w) pr ea eb ki ga st he si wx rs af (d + 1) (nI i) := by
  have hv : vp_in (nI k) 12 := vp_in_nI hk (by decide)
  have hc : (nI k).toNatClampNeg = k := nI_clamp (by omega)
  intro d
  induction d with
  | zero =>
    intro i hi
    have e : i = k := by omega
    subst e
    refine pk_le 12 i (fun z => absurd z (by omega)) (fun _ => sx_has (by omega) (fun _ => br_t rfl (nm_e ⟨hv, nm_r (sn_ca2 hc (sn_byte (by omega))) ⟨hv, nm_r (sn_ca2 hc (sn_byte (by omega))) ⟨by decide, hv, nm_r (sn_ca2 hc ?_) ⟨by decide, by decide, hv, nm_r (sn_ca2 hc ?_) ⟨by decide, hv, nm_r (sn_ca2 hc ?_) hp⟩⟩⟩⟩⟩)) (fun _ z => by rw [hb] at z; cases z))
    · rw [sn_w3 hw]; exact sn_byte (by omega)
    · rw [sn_w33 hw, show (2 : Int32) = nI 2 from rfl, nI_add]; exact sn_byte (by omega)
    · rw [sn_w9 hw, show (4 : Int32) = nI 4 from rfl, nI_add]; exact sn_byte (by omega)
  | succ d ih =>
    intro i hi
    have hi' := hl i (by omega)
    exact pk_le 12 i (fun z => absurd z (by omega)) (fun _ => sx_has (by omega) (fun z => absurd ⟨by omega, hi'⟩ z) (fun _ _ => br_f (by decide) (nm_r (nI_1 i) (ih (i + 1) (by omega)))))
theorem sx_addN {x1 x2 x3 : Int32} (hl : ∀ j, j < 12 → bt pr j = true) {post : Int32 → SX → Prop} (hp : post (-2) (pr, ea, eb, ki, ga, st, he, si, wx, rs, af)) :
    ∀ d i, i + d = 12 → wX_add_34 post x1 x2 x3 pr ea eb ki ga st he si wx rs af (d + 1) (nI i) := by
  intro d
  induction d with
  | zero => intro i hi; exact pk_le 12 i (fun _ => hp) (fun z => absurd z (by omega))
  | succ d ih =>
    intro i hi
    have hi' := hl i (by omega)
    exact pk_le 12 i (fun z => absurd z (by omega)) (fun _ => sx_has (by omega) (fun z => absurd ⟨by omega, hi'⟩ z) (fun _ _ => br_f (by decide) (nm_r (nI_1 i) (ih (i + 1) (by omega)))))
theorem sy_addL {k : Nat} {x1 x2 x3 : Int32} (hk : k < 12) (hb : th k = 0) (hl : ∀ j, j < k → th j = 1) {post : Int32 → SY → Prop}
    (hp : post (nI k) (ln, he, si, upd th k 1, upd ea k x1, upd eb k x2, upd wh k x3, wa, up, fi, wy, so, nx)) :
    ∀ d i, i + d = k → wY_add_36 post x1 x2 x3 ln he si th ea eb wh wa up fi wy so nx (d + 1) (nI i) := by
  have hv : vp_in (nI k) 12 := vp_in_nI hk (by decide)
  have hc : (nI k).toNatClampNeg = k := nI_clamp (by omega)
  intro d
  induction d with
  | zero =>
    intro i hi
    have e : i = k := by omega
    subst e
    refine pk_le 12 i (fun z => absurd z (by omega)) (fun _ => ⟨hv, ?_⟩)
    rw [hc]
    exact br_t hb ⟨hv, nm_r (e' := upd th i 1) rfl ⟨hv, nm_e ⟨hv, nm_e ⟨hv, nm_e hp⟩⟩⟩⟩
  | succ d ih =>
    intro i hi
    refine pk_le 12 i (fun z => absurd z (by omega)) (fun _ => ⟨vp_in_nI (by omega) (by decide), ?_⟩)
    rw [nI_clamp (show i < 2 ^ 31 by omega), hl i (by omega)]
    exact br_f (by decide) (nm_r (nI_1 i) (ih (i + 1) (by omega)))
theorem sy_addN {x1 x2 x3 : Int32} (hl : ∀ j, j < 12 → th j = 1) {post : Int32 → SY → Prop} (hp : post (-2) (ln, he, si, th, ea, eb, wh, wa, up, fi, wy, so, nx)) :
    ∀ d i, i + d = 12 → wY_add_36 post x1 x2 x3 ln he si th ea eb wh wa up fi wy so nx (d + 1) (nI i) := by
  intro d
  induction d with
  | zero => intro i hi; exact pk_le 12 i (fun _ => hp) (fun z => absurd z (by omega))
  | succ d ih =>
    intro i hi
    refine pk_le 12 i (fun z => absurd z (by omega)) (fun _ => ⟨vp_in_nI (by omega) (by decide), ?_⟩)
    rw [nI_clamp (show i < 2 ^ 31 by omega), hl i (by omega)]
    exact br_f (by decide) (nm_r (nI_1 i) (ih (i + 1) (by omega)))
theorem sn_cfg_add (h : sn_Cfg pr ea eb ki ga st he si th wh) {k a b w : Nat} (hk : k < 12) (ha : a < 11) (hb : b < 11) (hw : w < 27) :
    sn_Cfg (pr ||| ((1 : Int32) <<< (nI k &&& 31))) (upd ea k (nI a)) (upd eb k (nI b)) (upd ki k (nI (w % 3))) (upd ga k (nI (w / 3 % 3 + 2))) (upd st k (nI (w / 9 + 4))) he si (upd th k 1) (upd wh k (nI w)) := by
  have hbt : ∀ i, bt (pr ||| ((1 : Int32) <<< (nI k &&& 31))) i = (bt pr i || decide (i = k)) := fun i => by rw [b_or, sn_b1 (by omega)]
  refine ⟨fun j hj => ?_, fun j hj => ?_, h.2.2⟩
  · rw [hbt j]
    by_cases e : j = k
    · subst e
      rw [pk_us, pk_us, pk_us, pk_us, pk_us, pk_us, pk_us, decide_eq_true rfl, Bool.or_true]
      refine ⟨⟨a, ha, rfl⟩, ⟨b, hb, rfl⟩, ⟨w, hw, rfl⟩, rfl, fun _ => ⟨?_, ?_, ?_⟩⟩
      · rw [sn_w3 hw]
      · rw [sn_w33 hw]; exact (nI_add _ 2).symm
      · rw [sn_w9 hw]; exact (nI_add _ 4).symm
    · rw [pk_un e, pk_un e, pk_un e, pk_un e, pk_un e, pk_un e, pk_un e, decide_eq_false e, Bool.or_false]
      exact h.1 j hj
  · rw [hbt j, h.2.1 j hj, decide_eq_false (by omega)]; rfl
theorem sn_free (pr : Int32) : (∃ k, k < 12 ∧ bt pr k = false ∧ ∀ j, j < k → bt pr j = true) ∨ ∀ j, j < 12 → bt pr j = true := by
  by_cases c : ∃ k, bt pr k = false ∧ k < 12
  · obtain ⟨k, ⟨h1, h2⟩, h3⟩ := pk_least (fun k => bt pr k = false ∧ k < 12) c
    refine Or.inl ⟨k, h2, h1, fun j hj => ?_⟩
    cases z : bt pr j
    · exact absurd ⟨z, by omega⟩ (h3 j hj)
    · rfl
  · refine Or.inr (fun j hj => ?_)
    cases z : bt pr j
    · exact absurd ⟨j, z, hj⟩ c
    · rfl
theorem i_vc_add {k : Nat} {u : SX} {v : SY} (I : i_Rel k u v) (hk : k + 4 ≤ 2048) (v1 : Int32) (v2 : Int32) (v3 : Int32) : wpX_add (fun r u' => wpY_add (fun r' v' => r' = r ∧ i_Rel (k + 4) u' v') v v1 v2 v3) u v1 v2 v3 := by
  refine sn_el (P := fun u v => wpX_add (fun r u' => wpY_add (fun r' v' => r' = r ∧ i_Rel (k + 4) u' v') v v1 v2 v3) u v1 v2 v3) I ?_
  intro pr ea eb ki ga st he si wx rs af ln th wh wa up fi wy so nx hC
  have hR : i_Rel (k + 4) (pr, ea, eb, ki, ga, st, he, si, wx, rs, af) (ln, he, si, th, ea, eb, wh, wa, up, fi, wy, so, nx) := sn_rel hC
  by_cases e12 : v1 = v2
  · exact br_t e12 (br_t e12 ⟨rfl, hR⟩)
  refine br_f e12 ?_
  rcases pk_ix v1 (n := 11) (by omega) with c | c | ⟨a, ha, rfl⟩
  · exact sx_nodeB (Or.inl c) (br_t rfl (br_f e12 (sy_nodeB (Or.inl c) (br_t rfl ⟨rfl, hR⟩))))
  · exact sx_nodeB (Or.inr c) (br_t rfl (br_f e12 (sy_nodeB (Or.inr c) (br_t rfl ⟨rfl, hR⟩))))
  refine sx_node ha (br_f (by decide) ?_)
  rcases pk_ix v2 (n := 11) (by omega) with c | c | ⟨b, hb, rfl⟩
  · exact sx_nodeB (Or.inl c) (br_t rfl (br_f e12 (sy_node ha (br_f (by decide) (sy_nodeB (Or.inl c) (br_t rfl ⟨rfl, hR⟩))))))
  · exact sx_nodeB (Or.inr c) (br_t rfl (br_f e12 (sy_node ha (br_f (by decide) (sy_nodeB (Or.inr c) (br_t rfl ⟨rfl, hR⟩))))))
  refine sx_node hb (br_f (by decide) ?_)
  by_cases c0 : v3 < 0
  · exact br_t c0 (br_f e12 (sy_node ha (br_f (by decide) (sy_node hb (br_f (by decide) (br_t c0 ⟨rfl, hR⟩))))))
  refine br_f c0 ?_
  by_cases c1 : v3 ≤ 26
  · refine br_t c1 ?_
    obtain ⟨w, hw, rfl⟩ := nI_of2 (M := 26) (n := 26) (by decide) c0 c1
    rcases sn_free pr with ⟨f, hf, hbf, hl⟩ | hl
    · refine ⟨f + 1, sx_addL hf ha hb (by omega) hbf hl ?_ f 0 (by omega)⟩
      refine br_f e12 (sy_node ha (br_f (by decide) (sy_node hb (br_f (by decide) (br_f c0 (br_t c1 ⟨f + 1, sy_addL hf ?_ (fun j hj => ?_) ⟨rfl, sn_rel (sn_cfg_add hC hf ha hb (by omega))⟩ f 0 (by omega)⟩))))))
      · rw [(hC.1 f hf).2.2.2.1, hbf]; rfl
      · rw [(hC.1 j (by omega)).2.2.2.1, hl j hj]; rfl
    · refine ⟨13, sx_addN hl ?_ 12 0 rfl⟩
      refine br_f e12 (sy_node ha (br_f (by decide) (sy_node hb (br_f (by decide) (br_f c0 (br_t c1 ⟨13, sy_addN (fun j hj => ?_) ⟨rfl, hR⟩ 12 0 rfl⟩))))))
      rw [(hC.1 j hj).2.2.2.1, hl j hj]; rfl
  · exact br_f c1 (br_f e12 (sy_node ha (br_f (by decide) (sy_node hb (br_f (by decide) (br_f c0 (br_f c1 ⟨rfl, hR⟩)))))))
end
end
section
/-! the owed theorems -/
section
variable {pr : Int32} {ea eb ki ga st he si wx rs af : Nat → Int32} {ln : Int32} {th wh wa up fi wy so nx : Nat → Int32}
theorem sx_storeB {x : Int32} (hx : x < 5 ∨ nI 11 ≤ x) {post : Int32 → Prop} (h : post 0) : wpX_isStore post x := by
  by_cases c : x < 5
  · exact br_t c h
  · exact br_f c (br_t (hx.elim (fun z => absurd z c) (fun z => (sn_bad z).2.1)) h)
theorem sy_storeB {x : Int32} (hx : x < 5 ∨ nI 11 ≤ x) {post : Int32 → Prop} (h : post 0) : wpY_store post (ln, he, si, th, ea, eb, wh, wa, up, fi, wy, so, nx) x := by
  by_cases c : x < 5
  · exact br_t c h
  · exact br_f c (br_t (hx.elim (fun z => absurd z c) (fun z => (sn_bad z).2.2)) h)
theorem sn_stc (x : Int32) : (x < 5 ∨ nI 11 ≤ x) ∨ ∃ n, 5 ≤ n ∧ n < 11 ∧ x = nI n := by
  rcases pk_ix x (n := 11) (by omega) with c | c | ⟨j, hj, e⟩
  · exact Or.inl (Or.inl (Int32.lt_trans c (by decide)))
  · exact Or.inl (Or.inr c)
  · rcases Nat.lt_or_ge j 5 with z | z
    · exact Or.inl (Or.inl (by rw [e]; exact nI_lt (b := 5) z (by decide)))
    · exact Or.inr ⟨j, z, hj, e⟩
theorem sn_ge5 {x : Int32} (h : nI 5 ≤ x) : ¬ x < 2 ∧ (5 : Int32) ≤ x ∧ (4 : Int32) < x := by
  have h5 : (5 : Int32) ≤ x := h
  have e5 : (5 : Int32).toInt = 5 := by decide
  have e4 : (4 : Int32).toInt = 4 := by decide
  have e2 : (2 : Int32).toInt = 2 := by decide
  rw [Int32.le_iff_toInt_le, e5] at h5
  refine ⟨fun z => ?_, h, ?_⟩
  · rw [Int32.lt_iff_toInt_lt, e2] at z; omega
  · rw [Int32.lt_iff_toInt_lt, e4]; omega
theorem sn_ge12 {x : Int32} (h : nI 12 ≤ x) : ¬ x < 0 ∧ (12 : Int32) ≤ x ∧ (11 : Int32) < x := by
  have h5 : (12 : Int32) ≤ x := h
  have e5 : (12 : Int32).toInt = 12 := by decide
  have e4 : (11 : Int32).toInt = 11 := by decide
  have e2 : (0 : Int32).toInt = 0 := by decide
  rw [Int32.le_iff_toInt_le, e5] at h5
  refine ⟨fun z => ?_, h, ?_⟩
  · rw [Int32.lt_iff_toInt_lt, e2] at z; omega
  · rw [Int32.lt_iff_toInt_lt, e4]; omega
theorem sn_cfg_rem (h : sn_Cfg pr ea eb ki ga st he si th wh) {k : Nat} (hk : k < 12) : sn_Cfg (pr &&& (((1 : Int32) <<< (nI k &&& 31)) ^^^ (-1))) ea eb ki ga st he si (upd th k 0) wh := by
  have hbt : ∀ i, bt (pr &&& (((1 : Int32) <<< (nI k &&& 31)) ^^^ (-1))) i = (bt pr i && !(decide (i = k))) := fun i => by rw [sn_mor, sn_b1 (by omega)]
  refine ⟨fun j hj => ?_, fun j hj => ?_, h.2.2⟩
  · have hj' := h.1 j hj
    rw [hbt j]
    by_cases e : j = k
    · subst e
      rw [pk_us, decide_eq_true rfl, Bool.not_true, Bool.and_false]
      exact ⟨hj'.1, hj'.2.1, hj'.2.2.1, rfl, fun z => (by cases z)⟩
    · rw [pk_un e, decide_eq_false e, Bool.not_false, Bool.and_true]
      exact hj'
  · rw [hbt j, h.2.1 j hj]; rfl
theorem sn_cfg_upd (h : sn_Cfg pr ea eb ki ga st he si th wh) {n : Nat} {x : Int32} (hx : sn_V3 x) (h5 : n < 5 → x = 0 ∨ x = 1) : sn_Cfg pr ea eb ki ga st (upd he n x) si th wh := by
  refine sn_cfg_he h (fun j hj => ?_)
  by_cases e : j = n
  · subst e; rw [pk_us]; exact ⟨hx, h5⟩
  · rw [pk_un e]; exact h.2.2.1 j hj
theorem sn_cfg_si (h : sn_Cfg pr ea eb ki ga st he si th wh) {n : Nat} {x : Int32} (h5 : 5 ≤ n) (hx : x = 1 ∨ x = 2 ∨ x = 3) : sn_Cfg pr ea eb ki ga st he (upd si n x) th wh := by
  refine ⟨h.1, h.2.1, h.2.2.1, fun j hj => ?_, fun j hj hj' => ?_⟩
  · rw [pk_un (by omega)]; exact h.2.2.2.1 j hj
  · by_cases e : j = n
    · subst e; rw [pk_us]; exact hx
    · rw [pk_un e]; exact h.2.2.2.2 j hj hj'
end
theorem i_vc_remove {k : Nat} {u : SX} {v : SY} (I : i_Rel k u v) (hk : k + 4 ≤ 2048) (v1 : Int32) : wpX_remove (fun r u' => wpY_remove (fun r' v' => r' = r ∧ i_Rel (k + 4) u' v') v v1) u v1 := by
  refine sn_el (P := fun u v => wpX_remove (fun r u' => wpY_remove (fun r' v' => r' = r ∧ i_Rel (k + 4) u' v') v v1) u v1) I ?_
  intro pr ea eb ki ga st he si wx rs af ln th wh wa up fi wy so nx hC
  have hR : i_Rel (k + 4) (pr, ea, eb, ki, ga, st, he, si, wx, rs, af) (ln, he, si, th, ea, eb, wh, wa, up, fi, wy, so, nx) := sn_rel hC
  unfold wpX_remove
  dsimp only
  rcases pk_ix v1 (n := 12) (by omega) with c | c | ⟨a, ha, rfl⟩
  · exact br_t c (br_t rfl (br_t c ⟨rfl, hR⟩))
  · exact br_f (sn_ge12 c).1 (br_t (sn_ge12 c).2.1 (br_t rfl (br_f (sn_ge12 c).1 (br_t (sn_ge12 c).2.2 ⟨rfl, hR⟩))))
  have ht := (hC.1 a ha).2.2.2.1
  have hv : vp_in (nI a) 12 := vp_in_nI ha (by decide)
  have hc : (nI a).toNatClampNeg = a := nI_clamp (by omega)
  have hnn : ¬ nI a < 0 := nI_pos (by omega)
  have hn11 : ¬ (11 : Int32) < nI a := nI_nlt (a := 11) (b := a) (by omega) (by decide)
  refine sx_has (by omega) (fun z => br_t rfl ?_) (fun _ z => br_f (by decide) (nm_e ?_))
  · have hb : bt pr a = false := by
      cases y : bt pr a
      · rfl
      · exact absurd ⟨ha, y⟩ z
    refine br_f hnn (br_f hn11 ⟨hv, ?_⟩)
    rw [hc, ht, hb]
    exact br_t rfl ⟨rfl, hR⟩
  · refine br_f hnn (br_f hn11 ⟨hv, ?_⟩)
    rw [hc, ht, z]
    exact br_f (by decide) ⟨hv, nm_r (e' := upd th a 0) rfl ⟨rfl, sn_rel (sn_cfg_rem hC ha)⟩⟩
theorem i_vc_set {k : Nat} {u : SX} {v : SY} (I : i_Rel k u v) (hk : k + 4 ≤ 2048) (v1 : Int32) (v2 : Int32) : wpX_set (fun r u' => wpY_set (fun r' v' => r' = r ∧ i_Rel (k + 4) u' v') v v1 v2) u v1 v2 := by
  refine sn_el (P := fun u v => wpX_set (fun r u' => wpY_set (fun r' v' => r' = r ∧ i_Rel (k + 4) u' v') v v1 v2) u v1 v2) I ?_
  intro pr ea eb ki ga st he si wx rs af ln th wh wa up fi wy so nx hC
  have hR : i_Rel (k + 4) (pr, ea, eb, ki, ga, st, he, si, wx, rs, af) (ln, he, si, th, ea, eb, wh, wa, up, fi, wy, so, nx) := sn_rel hC
  by_cases c2 : v1 < 2
  · exact br_t c2 (br_t c2 ⟨rfl, hR⟩)
  rcases pk_ix v1 (n := 5) (by omega) with c | c | ⟨a, ha, rfl⟩
  · exact absurd (Int32.lt_trans c (by decide)) c2
  · exact br_f c2 (br_t (sn_ge5 c).2.1 (br_f c2 (br_t (sn_ge5 c).2.2 ⟨rfl, hR⟩)))
  have h5 : ¬ (5 : Int32) ≤ nI a := nI_ge (b := 5) ha (by decide)
  have h4 : ¬ (4 : Int32) < nI a := nI_nlt (a := 4) (b := a) (by omega) (by decide)
  refine br_f c2 (br_f h5 ?_)
  by_cases c0 : v2 < 0
  · exact br_t c0 (br_f c2 (br_f h4 (br_t c0 ⟨rfl, hR⟩)))
  refine br_f c0 ?_
  by_cases c1 : v2 ≤ 1
  · obtain ⟨x, hx, rfl⟩ := nI_of2 (M := 1) (n := 1) (by decide) c0 c1
    have hv : vp_in (nI a) 11 := vp_in_nI (by omega) (by decide)
    have hc : (nI a).toNatClampNeg = a := nI_clamp (by omega)
    have h01 : nI x = 0 ∨ nI x = 1 := by
      rcases Nat.lt_or_ge x 1 with z | z
      · have e : x = 0 := by omega
        subst e; exact Or.inl rfl
      · have e : x = 1 := by omega
        subst e; exact Or.inr rfl
    exact br_t c1 ⟨hv, nm_r (e' := upd he a (nI x)) (sn_ca2 hc (sn_byte (by omega))) (br_f c2 (br_f h4 (br_f c0 (br_t c1 ⟨hv, nm_r (e' := upd he a (nI x)) (sn_ca2 hc rfl) ⟨rfl, sn_rel (sn_cfg_upd hC (h01.imp id Or.inl) (fun _ => h01))⟩⟩))))⟩
  · exact br_f c1 (br_f c2 (br_f h4 (br_f c0 (br_f c1 ⟨rfl, hR⟩))))
theorem i_vc_size {k : Nat} {u : SX} {v : SY} (I : i_Rel k u v) (hk : k + 4 ≤ 2048) (v1 : Int32) (v2 : Int32) : wpX_size (fun r u' => wpY_size (fun r' v' => r' = r ∧ i_Rel (k + 4) u' v') v v1 v2) u v1 v2 := by
  refine sn_el (P := fun u v => wpX_size (fun r u' => wpY_size (fun r' v' => r' = r ∧ i_Rel (k + 4) u' v') v v1 v2) u v1 v2) I ?_
  intro pr ea eb ki ga st he si wx rs af ln th wh wa up fi wy so nx hC
  have hR : i_Rel (k + 4) (pr, ea, eb, ki, ga, st, he, si, wx, rs, af) (ln, he, si, th, ea, eb, wh, wa, up, fi, wy, so, nx) := sn_rel hC
  unfold wpX_size wpY_size
  dsimp only
  rcases sn_stc v1 with c | ⟨a, h5, ha, rfl⟩
  · exact sx_storeB c (br_t rfl (sy_storeB c (br_t rfl ⟨rfl, hR⟩)))
  refine sx_store (by omega) (fun z => absurd ⟨h5, ha⟩ z) (fun _ _ => br_f (by decide) ?_)
  have hY : ∀ {post : Int32 → Prop}, post 1 → wpY_store post (ln, he, si, th, ea, eb, wh, wa, up, fi, wy, so, nx) (nI a) := fun hp => sy_store (by omega) (fun z => absurd ⟨h5, ha⟩ z) (fun _ _ => hp)
  by_cases c0 : v2 < 1
  · exact br_t c0 (hY (br_f (by decide) (br_t c0 ⟨rfl, hR⟩)))
  refine br_f c0 ?_
  by_cases c1 : v2 ≤ 3
  · obtain ⟨x, hx, rfl⟩ := nI_of2 (M := 3) (n := 3) (by decide) (fun z => c0 (Int32.lt_trans z (by decide))) c1
    have hv : vp_in (nI a) 11 := vp_in_nI (by omega) (by decide)
    have hc : (nI a).toNatClampNeg = a := nI_clamp (by omega)
    have h1 : 1 ≤ x := by
      rcases Nat.lt_or_ge x 1 with z | z
      · exact absurd (nI_lt (b := 1) z (by decide)) c0
      · exact z
    have h123 : nI x = 1 ∨ nI x = 2 ∨ nI x = 3 := by
      have : x = 1 ∨ x = 2 ∨ x = 3 := by omega
      rcases this with e | e | e <;> subst e
      · exact Or.inl rfl
      · exact Or.inr (Or.inl rfl)
      · exact Or.inr (Or.inr rfl)
    exact br_t c1 ⟨hv, nm_r (e' := upd si a (nI x)) (sn_ca2 hc (sn_byte (by omega))) (hY (br_f (by decide) (br_f c0 (br_t c1 ⟨hv, nm_r (e' := upd si a (nI x)) (sn_ca2 hc rfl) ⟨rfl, sn_rel (sn_cfg_si hC h5 h123)⟩⟩))))⟩
  · exact br_f c1 (hY (br_f (by decide) (br_f c0 (br_f c1 ⟨rfl, hR⟩))))
theorem i_vc_charge {k : Nat} {u : SX} {v : SY} (I : i_Rel k u v) (hk : k + 4 ≤ 2048) (v1 : Int32) (v2 : Int32) : wpX_charge (fun r u' => wpY_charge (fun r' v' => r' = r ∧ i_Rel (k + 4) u' v') v v1 v2) u v1 v2 := by
  refine sn_el (P := fun u v => wpX_charge (fun r u' => wpY_charge (fun r' v' => r' = r ∧ i_Rel (k + 4) u' v') v v1 v2) u v1 v2) I ?_
  intro pr ea eb ki ga st he si wx rs af ln th wh wa up fi wy so nx hC
  have hR : i_Rel (k + 4) (pr, ea, eb, ki, ga, st, he, si, wx, rs, af) (ln, he, si, th, ea, eb, wh, wa, up, fi, wy, so, nx) := sn_rel hC
  unfold wpX_charge wpY_charge
  dsimp only
  rcases sn_stc v1 with c | ⟨a, h5, ha, rfl⟩
  · exact sx_storeB c (br_t rfl (sy_storeB c (br_t rfl ⟨rfl, hR⟩)))
  refine sx_store (by omega) (fun z => absurd ⟨h5, ha⟩ z) (fun _ _ => br_f (by decide) ?_)
  have hY : ∀ {post : Int32 → Prop}, post 1 → wpY_store post (ln, he, si, th, ea, eb, wh, wa, up, fi, wy, so, nx) (nI a) := fun hp => sy_store (by omega) (fun z => absurd ⟨h5, ha⟩ z) (fun _ _ => hp)
  by_cases c0 : v2 < 0
  · exact br_t c0 (hY (br_f (by decide) (br_t c0 ⟨rfl, hR⟩)))
  refine br_f c0 ?_
  by_cases c1 : v2 ≤ 2
  · obtain ⟨x, hx, rfl⟩ := nI_of2 (M := 2) (n := 2) (by decide) c0 c1
    have hv : vp_in (nI a) 11 := vp_in_nI (by omega) (by decide)
    have hc : (nI a).toNatClampNeg = a := nI_clamp (by omega)
    have h3 : sn_V3 (nI x) := by
      have : x = 0 ∨ x = 1 ∨ x = 2 := by omega
      rcases this with e | e | e <;> subst e
      · exact Or.inl rfl
      · exact Or.inr (Or.inl rfl)
      · exact Or.inr (Or.inr rfl)
    exact br_t c1 ⟨hv, nm_r (e' := upd he a (nI x)) (sn_ca2 hc (sn_byte (by omega))) (hY (br_f (by decide) (br_f c0 (br_t c1 ⟨hv, nm_r (e' := upd he a (nI x)) (sn_ca2 hc rfl) ⟨rfl, sn_rel (sn_cfg_upd hC h3 (fun z => absurd z (by omega)))⟩⟩))))⟩
  · exact br_f c1 (hY (br_f (by decide) (br_f c0 (br_f c1 ⟨rfl, hR⟩))))
theorem i_vc_settle {k : Nat} {u : SX} {v : SY} (I : i_Rel k u v) (hk : k + 4 ≤ 2048) : wpX_settle (fun r u' => wpY_settle (fun r' v' => r' = r ∧ i_Rel (k + 4) u' v') v) u := by
  refine sn_el (P := fun u v => wpX_settle (fun r u' => wpY_settle (fun r' v' => r' = r ∧ i_Rel (k + 4) u' v') v) u) I ?_
  intro pr ea eb ki ga st he si wx rs af ln th wh wa up fi wy so nx hC
  obtain ⟨cl, A, B, S, Z, g, HX, HY⟩ := sn_cfg hC
  obtain ⟨w, rf, hS⟩ := sn_Sol_ex (cl := cl) g
  have hh : ∀ n, n < 11 → sn_V3 (he n) := fun n hn => (hC.2.2.1 n hn).1
  have hv := sn_Sol_v g hS hh
  have hi := sn_Sol_i (he := he) g hS
  have hC' : sn_Cfg pr ea eb ki ga st (sn_hm (fun n => sn_ag (rf n) he 11) he 11) si th wh := by
    refine sn_cfg_he hC (fun n hn => ?_)
    have e : sn_hm (fun n => sn_ag (rf n) he 11) he 11 n = sn_ag (rf n) he 11 := if_pos hn
    rw [e]
    refine ⟨hv n hn, fun h5 => ?_⟩
    rw [hi n h5]; exact (hC.2.2.1 n hn).2 h5
  exact sx_settle g HX hh hS (fun wx rs af => sy_settle g HY hh hS (fun ln wa up fi wy so nx => ⟨rfl, sn_rel hC'⟩))
theorem i_vc_holds {k : Nat} {u : SX} {v : SY} (I : i_Rel k u v) (hk : k + 4 ≤ 2048) (v1 : Int32) : wpX_holds (fun r => wpY_holds (fun r' => r' = r ∧ i_Rel (k + 4) u v) v v1) u v1 := by
  refine sn_el (P := fun u v => wpX_holds (fun r => wpY_holds (fun r' => r' = r ∧ i_Rel (k + 4) u v) v v1) u v1) I ?_
  intro pr ea eb ki ga st he si wx rs af ln th wh wa up fi wy so nx hC
  have hR : i_Rel (k + 4) (pr, ea, eb, ki, ga, st, he, si, wx, rs, af) (ln, he, si, th, ea, eb, wh, wa, up, fi, wy, so, nx) := sn_rel hC
  unfold wpX_holds wpY_holds
  dsimp only
  rcases pk_ix v1 (n := 11) (by omega) with c | c | ⟨a, ha, rfl⟩
  · exact sx_nodeB (Or.inl c) (br_t rfl (sy_nodeB (Or.inl c) (br_t rfl ⟨rfl, hR⟩)))
  · exact sx_nodeB (Or.inr c) (br_t rfl (sy_nodeB (Or.inr c) (br_t rfl ⟨rfl, hR⟩)))
  · have hv : vp_in (nI a) 11 := vp_in_nI ha (by decide)
    exact sx_node ha (br_f (by decide) ⟨hv, sy_node ha (br_f (by decide) ⟨hv, rfl, hR⟩)⟩)
theorem i_vc_would {k : Nat} {u : SX} {v : SY} (I : i_Rel k u v) (hk : k + 4 ≤ 2048) (v1 : Int32) : wpX_would (fun r u' => wpY_would (fun r' v' => r' = r ∧ i_Rel (k + 4) u' v') v v1) u v1 := by
  refine sn_el (P := fun u v => wpX_would (fun r u' => wpY_would (fun r' v' => r' = r ∧ i_Rel (k + 4) u' v') v v1) u v1) I ?_
  intro pr ea eb ki ga st he si wx rs af ln th wh wa up fi wy so nx hC
  obtain ⟨cl, A, B, S, Z, g, HX, HY⟩ := sn_cfg hC
  obtain ⟨w, rf, hS⟩ := sn_Sol_ex (cl := cl) g
  have hh : ∀ n, n < 11 → sn_V3 (he n) := fun n hn => (hC.2.2.1 n hn).1
  have bad : (v1 < 0 ∨ nI 11 ≤ v1) → wpX_would (fun r u' => wpY_would (fun r' v' => r' = r ∧ i_Rel (k + 4) u' v') (ln, he, si, th, ea, eb, wh, wa, up, fi, wy, so, nx) v1) (pr, ea, eb, ki, ga, st, he, si, wx, rs, af) v1 := by
    intro c
    unfold wpX_would wpY_would
    dsimp only
    refine sx_nodeB c (br_t rfl (sy_sol g HY hS (fun ln wa up fi wy so hr => ?_)))
    dsimp only
    exact sy_nodeB c (br_t rfl ⟨rfl, sn_rel hC⟩)
  rcases pk_ix v1 (n := 11) (by omega) with c | c | ⟨a, ha, rfl⟩
  · exact bad (Or.inl c)
  · exact bad (Or.inr c)
  · exact sx_would g HX hS ha (fun wx rs => sy_would g HY hh hS ha (fun ln wa up fi wy so => ⟨rfl, sn_rel hC⟩))
theorem i_vc_weight {k : Nat} {u : SX} {v : SY} (I : i_Rel k u v) (hk : k + 4 ≤ 2048) (v1 : Int32) : wpX_weight (fun r u' => wpY_weight (fun r' v' => r' = r ∧ i_Rel (k + 4) u' v') v v1) u v1 := by
  refine sn_el (P := fun u v => wpX_weight (fun r u' => wpY_weight (fun r' v' => r' = r ∧ i_Rel (k + 4) u' v') v v1) u v1) I ?_
  intro pr ea eb ki ga st he si wx rs af ln th wh wa up fi wy so nx hC
  obtain ⟨cl, A, B, S, Z, g, HX, HY⟩ := sn_cfg hC
  obtain ⟨w, rf, hS⟩ := sn_Sol_ex (cl := cl) g
  have bad : (v1 < 0 ∨ nI 11 ≤ v1) → wpX_weight (fun r u' => wpY_weight (fun r' v' => r' = r ∧ i_Rel (k + 4) u' v') (ln, he, si, th, ea, eb, wh, wa, up, fi, wy, so, nx) v1) (pr, ea, eb, ki, ga, st, he, si, wx, rs, af) v1 := by
    intro c
    unfold wpX_weight wpY_weight
    dsimp only
    refine sx_nodeB c (br_t rfl (sy_sol g HY hS (fun ln wa up fi wy so hr => ?_)))
    dsimp only
    exact sy_nodeB c (br_t rfl ⟨rfl, sn_rel hC⟩)
  rcases pk_ix v1 (n := 11) (by omega) with c | c | ⟨a, ha, rfl⟩
  · exact bad (Or.inl c)
  · exact bad (Or.inr c)
  · unfold wpX_weight wpY_weight
    dsimp only
    have hv : vp_in (nI a) 11 := vp_in_nI ha (by decide)
    refine sx_node ha (br_f (by decide) (sx_sol g HX hS (fun wx rs hr => ?_)))
    dsimp only
    refine ⟨hv, sy_sol g HY hS (fun ln wa up fi wy so hr' => ?_)⟩
    dsimp only
    refine sy_node ha (br_f (by decide) ⟨hv, ?_, sn_rel hC⟩)
    rw [nI_clamp (show a < 2 ^ 31 by omega), (hr a ha).1, (hr' a ha).1]
theorem i_vc_roots {k : Nat} {u : SX} {v : SY} (I : i_Rel k u v) (hk : k + 4 ≤ 2048) (v1 : Int32) : wpX_roots (fun r u' => wpY_roots (fun r' v' => r' = r ∧ i_Rel (k + 4) u' v') v v1) u v1 := by
  refine sn_el (P := fun u v => wpX_roots (fun r u' => wpY_roots (fun r' v' => r' = r ∧ i_Rel (k + 4) u' v') v v1) u v1) I ?_
  intro pr ea eb ki ga st he si wx rs af ln th wh wa up fi wy so nx hC
  obtain ⟨cl, A, B, S, Z, g, HX, HY⟩ := sn_cfg hC
  obtain ⟨w, rf, hS⟩ := sn_Sol_ex (cl := cl) g
  have bad : (v1 < 0 ∨ nI 11 ≤ v1) → wpX_roots (fun r u' => wpY_roots (fun r' v' => r' = r ∧ i_Rel (k + 4) u' v') (ln, he, si, th, ea, eb, wh, wa, up, fi, wy, so, nx) v1) (pr, ea, eb, ki, ga, st, he, si, wx, rs, af) v1 := by
    intro c
    unfold wpX_roots wpY_roots
    dsimp only
    refine sx_nodeB c (br_t rfl (sy_sol g HY hS (fun ln wa up fi wy so hr => ?_)))
    dsimp only
    exact sy_nodeB c (br_t rfl ⟨rfl, sn_rel hC⟩)
  rcases pk_ix v1 (n := 11) (by omega) with c | c | ⟨a, ha, rfl⟩
  · exact bad (Or.inl c)
  · exact bad (Or.inr c)
  · unfold wpX_roots wpY_roots
    dsimp only
    have hv : vp_in (nI a) 11 := vp_in_nI ha (by decide)
    refine sx_node ha (br_f (by decide) (sx_sol g HX hS (fun wx rs hr => ?_)))
    dsimp only
    refine ⟨hv, sy_sol g HY hS (fun ln wa up fi wy so hr' => ?_)⟩
    dsimp only
    refine sy_node ha (br_f (by decide) ⟨hv, ?_, sn_rel hC⟩)
    rw [nI_clamp (show a < 2 ^ 31 by omega), (hr a ha).2, (hr' a ha).2]
theorem i_vc_closed {k : Nat} {u : SX} {v : SY} (I : i_Rel k u v) (hk : k + 4 ≤ 2048) : wpX_closed (fun r => wpY_closed (fun r' => r' = r ∧ i_Rel (k + 4) u v) v) u := by
  refine sn_el (P := fun u v => wpX_closed (fun r => wpY_closed (fun r' => r' = r ∧ i_Rel (k + 4) u v) v) u) I ?_
  intro pr ea eb ki ga st he si wx rs af ln th wh wa up fi wy so nx hC
  obtain ⟨cl, A, B, S, Z, g, HX, HY⟩ := sn_cfg hC
  exact sx_closed HX (sy_closed HY ⟨rfl, sn_rel hC⟩)
theorem i_vc_switches {k : Nat} {u : SX} {v : SY} (I : i_Rel k u v) (hk : k + 4 ≤ 2048) : wpX_switches (fun r => wpY_switches (fun r' => r' = r ∧ i_Rel (k + 4) u v) v) u := by
  refine sn_el (P := fun u v => wpX_switches (fun r => wpY_switches (fun r' => r' = r ∧ i_Rel (k + 4) u v) v) u) I ?_
  intro pr ea eb ki ga st he si wx rs af ln th wh wa up fi wy so nx hC
  refine sy_switches (f := bt pr) (fun j hj => (hC.1 j hj).2.2.2.1) ⟨b_ext fun i _ => ?_, sn_rel hC⟩
  rw [sn_mk_b _ _ 12 (by omega)]
  by_cases c : i < 12
  · rw [decide_eq_true c, Bool.true_and]
  · rw [decide_eq_false c, Bool.false_and, hC.2.1 i (by omega)]
theorem i_vc_shorted {k : Nat} {u : SX} {v : SY} (I : i_Rel k u v) (hk : k + 4 ≤ 2048) : wpX_shorted (fun r => wpY_shorted (fun r' => r' = r ∧ i_Rel (k + 4) u v) v) u := by
  refine sn_el (P := fun u v => wpX_shorted (fun r => wpY_shorted (fun r' => r' = r ∧ i_Rel (k + 4) u v) v) u) I ?_
  intro pr ea eb ki ga st he si wx rs af ln th wh wa up fi wy so nx hC
  obtain ⟨cl, A, B, S, Z, g, HX, HY⟩ := sn_cfg hC
  exact sx_shorted g HX (fun c => sy_shorted g HY (fun _ => ⟨rfl, sn_rel hC⟩) (fun z => absurd z c)) (fun c => sy_shorted g HY (fun z => absurd c z) (fun _ => ⟨rfl, sn_rel hC⟩))
theorem i_vc_reach {k : Nat} {u : SX} {v : SY} (I : i_Rel k u v) (hk : k + 4 ≤ 2048) (v1 : Int32) : wpX_reach (fun r => wpY_reach (fun r' => r' = r ∧ i_Rel (k + 4) u v) v v1) u v1 := by
  refine sn_el (P := fun u v => wpX_reach (fun r => wpY_reach (fun r' => r' = r ∧ i_Rel (k + 4) u v) v v1) u v1) I ?_
  intro pr ea eb ki ga st he si wx rs af ln th wh wa up fi wy so nx hC
  obtain ⟨cl, A, B, S, Z, g, HX, HY⟩ := sn_cfg hC
  have hR : i_Rel (k + 4) (pr, ea, eb, ki, ga, st, he, si, wx, rs, af) (ln, he, si, th, ea, eb, wh, wa, up, fi, wy, so, nx) := sn_rel hC
  have bad : (v1 < 0 ∨ nI 11 ≤ v1) → wpX_reach (fun r => wpY_reach (fun r' => r' = r ∧ i_Rel (k + 4) (pr, ea, eb, ki, ga, st, he, si, wx, rs, af) (ln, he, si, th, ea, eb, wh, wa, up, fi, wy, so, nx)) (ln, he, si, th, ea, eb, wh, wa, up, fi, wy, so, nx) v1) (pr, ea, eb, ki, ga, st, he, si, wx, rs, af) v1 := by
    intro c
    unfold wpX_reach wpY_reach
    dsimp only
    exact sx_nodeB c (br_t rfl (sy_nodeB c (br_t rfl ⟨rfl, hR⟩)))
  rcases pk_ix v1 (n := 11) (by omega) with c | c | ⟨n, hn, rfl⟩
  · exact bad (Or.inl c)
  · exact bad (Or.inr c)
  unfold wpX_reach
  dsimp only
  refine sx_node hn (br_f (by decide) (sx_spread g HX (fun i hi => by have := sn_sg hn i hi; omega) (fun x hI hc => sy_reach hn g HY (fun y hI' hc' => ⟨b_ext fun i hi => ?_, hR⟩))))
  have h1 := sn_IS_R hI hc i
  have h2 := sn_IY_R hI' hc' i
  have h3 := sn_XY (cl := cl) (A := A) (B := B) hn i
  rw [← h1, ← h2] at h3
  have hlt := hI.1 i
  rw [b_and, b_or, sn_2016 i hi, sn_b1 (by omega)]
  cases hy : bt y i
  · cases hx : bt x i
    · rfl
    · have h4 : ¬ (5 ≤ i ∨ i = n) := fun z => by have := h3.mp ⟨hx, z⟩; rw [hy] at this; cases this
      rw [decide_eq_false (fun z => h4 (Or.inl z.1)), decide_eq_false (fun z => h4 (Or.inr z))]; rfl
  · have h4 := h3.mpr hy
    rw [h4.1]
    rcases h4.2 with z | z
    · rw [decide_eq_true ⟨z, hlt h4.1⟩]; rfl
    · rw [decide_eq_true z, Bool.or_true]; rfl
theorem i_vc_unknowns {k : Nat} {u : SX} {v : SY} (I : i_Rel k u v) (hk : k + 4 ≤ 2048) : wpX_unknowns (fun r u' => wpY_unknowns (fun r' v' => r' = r ∧ i_Rel (k + 4) u' v') v) u := by
  refine sn_el (P := fun u v => wpX_unknowns (fun r u' => wpY_unknowns (fun r' v' => r' = r ∧ i_Rel (k + 4) u' v') v) u) I ?_
  intro pr ea eb ki ga st he si wx rs af ln th wh wa up fi wy so nx hC
  obtain ⟨cl, A, B, S, Z, g, HX, HY⟩ := sn_cfg hC
  obtain ⟨w, rf, hS⟩ := sn_Sol_ex (cl := cl) g
  have hh : ∀ n, n < 11 → sn_V3 (he n) := fun n hn => (hC.2.2.1 n hn).1
  exact sx_unknowns g HX hS (fun wx rs => sy_unknowns g HY hh hS (fun ln wa up fi wy so => ⟨rfl, sn_rel hC⟩))
theorem i_vc_inputsFor {k : Nat} {u : SX} {v : SY} (I : i_Rel k u v) (hk : k + 4 ≤ 2048) (v1 : Int32) (v2 : Int32) : wpX_inputsFor (fun r u' => wpY_inputsFor (fun r' v' => r' = r ∧ i_Rel (k + 4) u' v') v v1 v2) u v1 v2 := by
  refine sn_el (P := fun u v => wpX_inputsFor (fun r u' => wpY_inputsFor (fun r' v' => r' = r ∧ i_Rel (k + 4) u' v') v v1 v2) u v1 v2) I ?_
  intro pr ea eb ki ga st he si wx rs af ln th wh wa up fi wy so nx hC
  have hR : i_Rel (k + 4) (pr, ea, eb, ki, ga, st, he, si, wx, rs, af) (ln, he, si, th, ea, eb, wh, wa, up, fi, wy, so, nx) := sn_rel hC
  unfold wpX_inputsFor wpY_inputsFor
  dsimp only
  rcases sn_stc v1 with c | ⟨a, h5, ha, rfl⟩
  · exact sx_storeB c (br_t rfl (sy_storeB c (br_t rfl ⟨rfl, hR⟩)))
  refine sx_store (by omega) (fun z => absurd ⟨h5, ha⟩ z) (fun _ _ => br_f (by decide) ?_)
  have hY : ∀ {post : Int32 → Prop}, post 1 → wpY_store post (ln, he, si, th, ea, eb, wh, wa, up, fi, wy, so, nx) (nI a) := fun hp => sy_store (by omega) (fun z => absurd ⟨h5, ha⟩ z) (fun _ _ => hp)
  by_cases c0 : v2 < 0
  · exact br_t c0 (hY (br_f (by decide) (br_t c0 ⟨rfl, hR⟩)))
  refine br_f c0 ?_
  by_cases c1 : v2 ≤ 2
  · obtain ⟨o, ho, eo⟩ := sn_own ((hC.2.2.1 2 (by omega)).2 (by omega)) ((hC.2.2.1 3 (by omega)).2 (by omega)) ((hC.2.2.1 4 (by omega)).2 (by omega))
    obtain ⟨r, he', h1, hX, hYl⟩ := sn_inF (af := af) (nx := nx) (x2 := v2) (s := a) ha ho 8 he (-1) (Nat.le_refl _) hC
    exact br_t c1 (nm_r eo ⟨9, hX _ (fun wx rs => hY (br_f (by decide) (br_f c0 (br_t c1 (nm_r eo ⟨9, hYl _ (fun ln wa up fi wy so => ⟨rfl, sn_rel h1⟩) ln wa up fi wy so⟩))))) wx rs⟩)
  · exact br_f c1 (hY (br_f (by decide) (br_f c0 (br_f c1 ⟨rfl, hR⟩))))
end
