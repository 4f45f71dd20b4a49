section
/-! pure rows to paste: stores, nI and lN arithmetic, masks, shifts, narrowing, branches by naturals (pk_le, pk_lt, pk_eq), loops (lp1 .. lp16: the measure of the state; rp1 ..: recursion), negatives. Take what you need -/
theorem pk_us {f : Nat → Int32} {k : Nat} {x : Int32} : upd f k x k = x := if_pos rfl
theorem pk_un {f : Nat → Int32} {k j : Nat} {x : Int32} (h : j ≠ k) : upd f k x j = f j := if_neg h
theorem pk_uLs {f : Nat → Int64} {k : Nat} {x : Int64} : vp_updL f k x k = x := if_pos rfl
theorem pk_uLn {f : Nat → Int64} {k j : Nat} {x : Int64} (h : j ≠ k) : vp_updL f k x j = f j := if_neg h
theorem pk_sub {a b : Nat} (h : b ≤ a) : nI a - nI b = nI (a - b) := by
  obtain ⟨c, rfl⟩ : ∃ c, a = c + b := ⟨a - b, by omega⟩
  rw [← nI_add, Int32.add_sub_cancel, Nat.add_sub_cancel]
theorem pk_m1 (n : Nat) : nI (n + 1) + (-1) = nI n := by
  rw [← nI_1, Int32.add_assoc, show (1 : Int32) + (-1) = 0 from rfl, Int32.add_zero]
theorem pk_mul (a b : Nat) : nI a * nI b = nI (a * b) := (Int32.ofNat_mul a b).symm
theorem pk_div {a d : Nat} (ha : a < 2 ^ 31) (h0 : 0 < d) (hd : d < 2 ^ 31) : nI a / nI d = nI (a / d) := by
  apply Int32.toInt_inj.mp
  rw [lg_idiv_nonneg (by rw [nI_toInt ha]; omega) (by rw [nI_toInt hd]; omega), nI_toInt ha, nI_toInt hd, nI_toInt (Nat.lt_of_le_of_lt (Nat.div_le_self a d) ha)]
  first | rfl | exact (Int.natCast_ediv _ _).symm
theorem pk_rem {a d : Nat} (ha : a < 2 ^ 31) (h0 : 0 < d) (hd : d < 2 ^ 31) : nI a - nI a / nI d * nI d = nI (a % d) := by
  rw [pk_div ha h0 hd, pk_mul, pk_sub (Nat.div_mul_le_self a d)]
  exact congrArg nI (by have := Nat.div_add_mod' a d; omega)
theorem pk_sub_toInt {a b : Nat} (ha : a < 2 ^ 30) (hb : b < 2 ^ 30) : (nI a - nI b).toInt = (a : Int) - b := by
  rw [Int32.toInt_sub, nI_toInt (by omega), nI_toInt (by omega)]
  exact Int.bmod_eq_of_le (by omega) (by omega)
theorem pk_sneg {a b : Nat} (hb : b < 2 ^ 30) (h : a < b) : nI a - nI b < 0 := by
  rw [Int32.lt_iff_toInt_lt, pk_sub_toInt (by omega) hb, show (0 : Int32).toInt = 0 from by decide]
  omega
theorem pk_ix (x : Int32) {n : Nat} (hn : n < 2 ^ 31) : x < 0 ∨ nI n ≤ x ∨ ∃ j : Nat, j < n ∧ x = nI j := by
  by_cases h : x < 0
  · exact Or.inl h
  · obtain ⟨j, hj, rfl⟩ := nI_of h
    by_cases h2 : j < n
    · exact Or.inr (Or.inr ⟨j, h2, rfl⟩)
    · exact Or.inr (Or.inl (nI_le (by omega) hj))
theorem pk_le {x y : Int32} {A B : Prop} (a b : Nat) (f : a ≤ b → A) (g : b < a → B) (hx : x = nI a := by rfl) (hy : y = nI b := by rfl) (ha : a < 2 ^ 31 := by omega) (hb : b < 2 ^ 31 := by omega) : (x ≤ y → A) ∧ (¬ x ≤ y → B) := by
  subst hx hy
  rw [nI_leI ha hb]
  exact ⟨f, fun z => g (by omega)⟩
theorem pk_lt {x y : Int32} {A B : Prop} (a b : Nat) (f : a < b → A) (g : b ≤ a → B) (hx : x = nI a := by rfl) (hy : y = nI b := by rfl) (ha : a < 2 ^ 31 := by omega) (hb : b < 2 ^ 31 := by omega) : (x < y → A) ∧ (¬ x < y → B) := by
  subst hx hy
  rw [nI_ltI ha hb]
  exact ⟨f, fun z => g (by omega)⟩
theorem pk_eq {x y : Int32} {A B : Prop} (a b : Nat) (f : a = b → A) (g : a ≠ b → B) (hx : x = nI a := by rfl) (hy : y = nI b := by rfl) (ha : a < 2 ^ 31 := by omega) (hb : b < 2 ^ 31 := by omega) : (x = y → A) ∧ (¬ x = y → B) := by
  subst hx hy
  rw [nI_eq ha hb]
  exact ⟨f, g⟩
theorem pk_in {x : Int32} (n N : Nat) (h : n < N) (hx : x = nI n := by rfl) (hN : N < 2 ^ 31 := by omega) : vp_in x N := by
  subst hx
  exact vp_in_nI h hN
theorem pk_cl {x : Int32} (n : Nat) (hx : x = nI n := by rfl) (h : n < 2 ^ 31 := by omega) : x.toNatClampNeg = n := by
  subst hx
  exact nI_clamp h
theorem pk_tn {n : Nat} (h : n < 2 ^ 32) : (nI n).toBitVec.toNat = n := Nat.mod_eq_of_lt h
theorem pk_and (x : Int32) {m : Int32} (k : Nat) (hm : m.toBitVec.toNat = 2 ^ k - 1) : x &&& m = nI (x.toBitVec.toNat % 2 ^ k) := by
  apply Int32.toBitVec_inj.mp
  apply BitVec.eq_of_toNat_eq
  rw [Int32.toBitVec_and, BitVec.toNat_and, hm, Nat.and_two_pow_sub_one_eq_mod]
  show _ = (BitVec.ofNat 32 _).toNat
  rw [BitVec.toNat_ofNat]
  exact (Nat.mod_eq_of_lt (Nat.lt_of_le_of_lt (Nat.mod_le _ _) x.toBitVec.isLt)).symm
theorem pk_andN {n : Nat} (h : n < 2 ^ 32) {m : Int32} (k : Nat) (hm : m.toBitVec.toNat = 2 ^ k - 1) : nI n &&& m = nI (n % 2 ^ k) := by
  rw [pk_and _ k hm, pk_tn h]
theorem pk_andE (x : Int32) {m : Int32} (k : Nat) (hm : m.toBitVec.toNat = 2 ^ k - 1) : ∃ j : Nat, j < 2 ^ k ∧ x &&& m = nI j := ⟨_, Nat.mod_lt _ (Nat.two_pow_pos k), pk_and x k hm⟩
theorem pk_andIn (x : Int32) {m : Int32} (k : Nat) (hm : m.toBitVec.toNat = 2 ^ k - 1) (hk : k ≤ 30) : vp_in (x &&& m) (2 ^ k) := by
  obtain ⟨j, hj, e⟩ := pk_andE x k hm
  rw [e]
  exact vp_in_nI hj (Nat.lt_of_le_of_lt (Nat.pow_le_pow_right (by decide) hk) (by decide))
theorem pk_shl (a s : Int32) (k : Nat) (hs : (s.toBitVec.smod 32).toNat = k) : (a <<< s).toBitVec.toNat = a.toBitVec.toNat * 2 ^ k % 2 ^ 32 := by
  show (a.toBitVec <<< (s.toBitVec.smod 32).toNat).toNat = _
  rw [hs, BitVec.toNat_shiftLeft, Nat.shiftLeft_eq]
theorem pk_shlN {n : Nat} (s : Int32) (k : Nat) (hs : (s.toBitVec.smod 32).toNat = k) (h : n * 2 ^ k < 2 ^ 32) : nI n <<< s = nI (n * 2 ^ k) := by
  apply Int32.toBitVec_inj.mp
  apply BitVec.eq_of_toNat_eq
  have hn : n < 2 ^ 32 := Nat.lt_of_le_of_lt (Nat.le_mul_of_pos_right n (Nat.two_pow_pos k)) h
  rw [pk_shl _ _ k hs, pk_tn hn, pk_tn h, Nat.mod_eq_of_lt h]
theorem pk_shr (a s : Int32) (k : Nat) (hs : (s.toBitVec.smod 32).toNat = k) : (a >>> s).toInt = a.toInt >>> k := by
  show (a.toBitVec.sshiftRight (s.toBitVec.smod 32).toNat).toInt = _
  rw [hs, BitVec.toInt_sshiftRight]
  rfl
theorem pk_shrN {n : Nat} (h : n < 2 ^ 31) (s : Int32) (k : Nat) (hs : (s.toBitVec.smod 32).toNat = k) : nI n >>> s = nI (n / 2 ^ k) := by
  apply Int32.toInt_inj.mp
  have h2 : n / 2 ^ k ≤ n := Nat.div_le_self _ _
  rw [pk_shr _ _ k hs, nI_toInt h, nI_toInt (by omega), Int.shiftRight_eq_div_pow]
  rfl
theorem pk_ushr (x s : Int32) (k : Nat) (hs : ((s.toUInt32 &&& Int32.toUInt32 31).toBitVec % 32).toNat = k) : (x.toUInt32 >>> (s.toUInt32 &&& Int32.toUInt32 31)).toInt32.toBitVec.toNat = x.toBitVec.toNat / 2 ^ k := by
  have e : (x.toUInt32 >>> (s.toUInt32 &&& Int32.toUInt32 31)).toInt32.toBitVec = x.toBitVec >>> k := by
    rw [← hs]
    exact UInt32.toBitVec_shiftRight _ _
  rw [e, BitVec.toNat_ushiftRight, Nat.shiftRight_eq_div_pow]
theorem pk_ushrN {n : Nat} (hn : n < 2 ^ 32) (s : Int32) (k : Nat) (hs : ((s.toUInt32 &&& Int32.toUInt32 31).toBitVec % 32).toNat = k) : ((nI n).toUInt32 >>> (s.toUInt32 &&& Int32.toUInt32 31)).toInt32 = nI (n / 2 ^ k) := by
  apply Int32.toBitVec_inj.mp
  apply BitVec.eq_of_toNat_eq
  rw [pk_ushr _ s k hs, pk_tn hn, pk_tn (Nat.lt_of_le_of_lt (Nat.div_le_self _ _) hn)]
theorem pk_lT {n : Nat} (h : n < 2 ^ 63) : (lN n).toInt = (n : Int) := lg_ofNat_toInt h
theorem pk_lLT {a b : Nat} (ha : a < 2 ^ 63) (hb : b < 2 ^ 63) : lN a < lN b ↔ a < b := by
  rw [Int64.lt_iff_toInt_lt, pk_lT ha, pk_lT hb]; omega
theorem pk_lLE {a b : Nat} (ha : a < 2 ^ 63) (hb : b < 2 ^ 63) : lN a ≤ lN b ↔ a ≤ b := by
  rw [Int64.le_iff_toInt_le, pk_lT ha, pk_lT hb]; omega
theorem pk_lEQ {a b : Nat} (ha : a < 2 ^ 63) (hb : b < 2 ^ 63) : lN a = lN b ↔ a = b := by
  rw [← Int64.toInt_inj, pk_lT ha, pk_lT hb]; omega
theorem pk_lOf {x : Int64} (h : ¬ x < 0) : ∃ k : Nat, k < 2 ^ 63 ∧ x = lN k := by
  rw [Int64.lt_iff_toInt_lt] at h
  have h0 : (0 : Int64).toInt = 0 := by decide
  have hx := Int64.toInt_lt x
  refine ⟨x.toInt.toNat, by omega, Int64.toInt_inj.mp ?_⟩
  rw [pk_lT (by omega)]
  omega
theorem pk_lDiv {a b : Nat} (ha : a < 2 ^ 63) (h0 : 0 < b) (hb : b < 2 ^ 63) : lN a / lN b = lN (a / b) := by
  apply Int64.toInt_inj.mp
  rw [lg_ldiv_nonneg (by rw [pk_lT ha]; omega) (by rw [pk_lT hb]; omega), pk_lT ha, pk_lT hb, pk_lT (Nat.lt_of_le_of_lt (Nat.div_le_self a b) ha)]
  rfl
theorem pk_lRem {a b : Nat} (ha : a < 2 ^ 63) (h0 : 0 < b) (hb : b < 2 ^ 63) : lN a - lN a / lN b * lN b = lN (a % b) := by
  rw [pk_lDiv ha h0 hb, lN_mul, lN_sub (Nat.div_mul_le_self a b)]
  exact congrArg lN (by have := Nat.div_add_mod' a b; omega)
theorem pk_loop {σ : Type} (W : Nat → Nat → σ → Prop) (I : Nat → σ → Prop) (e i0 : Nat) (s : σ) (hi : i0 ≤ e) (h0 : I i0 s) (hx : ∀ n s, I e s → W (n + 1) e s)
    (hs : ∀ n i s, i < e → I i s → (∀ s', I (i + 1) s' → W n (i + 1) s') → W (n + 1) i s) : ∃ n, W n i0 s :=
  ⟨e + 1, loop_i W I e hx hs (e + 1) i0 s hi (by omega) h0⟩
theorem pk_loopD {σ : Type} (W : Nat → Nat → σ → Prop) (I : Nat → σ → Prop) (hx : ∀ n s, I 0 s → W (n + 1) 0 s)
    (hs : ∀ n i s, I (i + 1) s → (∀ s', I i s' → W n i s') → W (n + 1) (i + 1) s) : ∀ (e : Nat) (s : σ), I e s → W (e + 1) e s := by
  intro e
  induction e with
  | zero => exact fun s h => hx 0 s h
  | succ e ih => exact fun s h => hs (e + 1) e s h (fun s' h' => ih s' h')
theorem pk_least (P : Nat → Prop) (h : ∃ k, P k) : ∃ k, P k ∧ ∀ j, j < k → ¬ P j := by
  obtain ⟨k, hk⟩ := h
  induction k using Nat.strongRecOn with
  | ind k ih =>
    by_cases e : ∃ j, j < k ∧ P j
    · obtain ⟨j, hj, pj⟩ := e
      exact ih j hj pj
    · exact ⟨k, hk, fun j hj pj => e ⟨j, hj, pj⟩⟩
theorem ek_if {c d A B : Prop} (e : c ↔ d) (f : d → A) (g : ¬ d → B) : (c → A) ∧ (¬ c → B) :=
  ⟨fun z => f (e.mp z), fun z => g (fun y => z (e.mpr y))⟩
theorem ek_v {α : Sort _} {P : α → Prop} {a b : α} (e : a = b) (h : P b) : P a := e ▸ h
theorem sb_cl0 : (0 : Int32).toNatClampNeg = 0 := by decide
theorem sb_m1 {p : Nat} (h : 0 < p) : nI p + (-1) = nI (p - 1) := by
  obtain ⟨q, rfl⟩ : ∃ q, p = q + 1 := ⟨p - 1, by omega⟩
  exact pk_m1 q
end
section
/-! numbers -/
theorem jx_b (r k : Nat) : (nI r * 12 + nI k) * 3 = nI ((r * 12 + k) * 3) := by
  rw [show (12 : Int32) = nI 12 from rfl, show (3 : Int32) = nI 3 from rfl, pk_mul, nI_add, pk_mul]
theorem jx_c (r k j : Nat) : (nI r * 12 + nI k) * 3 + nI j = nI ((r * 12 + k) * 3 + j) := by rw [jx_b, nI_add]
theorem jx_3 (i t : Nat) : nI i * 3 + nI t = nI (i * 3 + t) := by
  rw [show (3 : Int32) = nI 3 from rfl, pk_mul, nI_add]
theorem jx_4 (i t : Nat) : nI i * 4 + nI t = nI (i * 4 + t) := by
  rw [show (4 : Int32) = nI 4 from rfl, pk_mul, nI_add]
theorem jx_40 (i : Nat) : nI i * 4 = nI (i * 4) := by
  rw [show (4 : Int32) = nI 4 from rfl, pk_mul]
theorem jx_5 (i t : Nat) : nI i * 5 + nI t = nI (i * 5 + t) := by
  rw [show (5 : Int32) = nI 5 from rfl, pk_mul, nI_add]
theorem jx_12 (i t : Nat) : nI i * 12 + nI t = nI (i * 12 + t) := by
  rw [show (12 : Int32) = nI 12 from rfl, pk_mul, nI_add]
theorem jx_120 (i : Nat) : nI i * 12 = nI (i * 12) := by
  rw [show (12 : Int32) = nI 12 from rfl, pk_mul]
theorem jx_2 (n : Nat) : nI n + 2 = nI (n + 2) := nI_add n 2
theorem jx_3p (n : Nat) : nI n + 3 = nI (n + 3) := nI_add n 3
theorem jx_8 (n : Nat) : 8 + nI n = nI (8 + n) := nI_add 8 n
theorem jx_C (n : Nat) : 12 + nI n = nI (12 + n) := nI_add 12 n
theorem jx_0 (n : Nat) : 0 + nI n = nI (0 + n) := nI_add 0 n
theorem jx_h {a b : Nat} (h : a + b < 2 ^ 31) : (nI a + nI b) >>> ((1 : Int32) &&& 31) = nI ((a + b) / 2) := by
  rw [nI_add]; exact pk_shrN h _ 1 (by decide)
theorem ji_lt {x y : Int32} : x < y ↔ x.toInt < y.toInt := Int32.lt_iff_toInt_lt
theorem ji_le {x y : Int32} : x ≤ y ↔ x.toInt ≤ y.toInt := Int32.le_iff_toInt_le
theorem ji_eq {x y : Int32} : x = y ↔ x.toInt = y.toInt := Int32.toInt_inj.symm
theorem ji_nle {x y : Int32} (h : ¬ x ≤ y) : y.toInt < x.toInt := Int.not_le.mp fun z => h (ji_le.mpr z)
theorem ji_L {x : Int64} {y : Int32} : x ≤ y.toInt64 ↔ x.toInt ≤ y.toInt := by
  rw [Int64.le_iff_toInt_le, Int32.toInt_toInt64]
theorem ji_R {x : Int64} {y : Int32} : y.toInt64 ≤ x ↔ y.toInt ≤ x.toInt := by
  rw [Int64.le_iff_toInt_le, Int32.toInt_toInt64]
theorem ji_p (y : Int32) : (y.toInt64 + 1).toInt = y.toInt + 1 := by
  rw [Int64.toInt_add, Int32.toInt_toInt64, show (1 : Int64).toInt = 1 from by decide]
  have := y.le_toInt
  have := y.toInt_lt
  exact Int.bmod_eq_of_le (by omega) (by omega)
theorem ji_v (y : Int32) : (4294967296 + y.toInt64).toInt = 4294967296 + y.toInt := by
  rw [Int64.toInt_add, Int32.toInt_toInt64, show (4294967296 : Int64).toInt = 4294967296 from by decide]
  have := y.le_toInt
  have := y.toInt_lt
  exact Int.bmod_eq_of_le (by omega) (by omega)
theorem ji_vi {x y : Int32} (h : 4294967296 + x.toInt64 = 4294967296 + y.toInt64) : x = y := by
  have := congrArg Int64.toInt h
  rw [ji_v, ji_v] at this
  exact ji_eq.mpr (by omega)
theorem ji_m : (-2147483648 : Int64).toInt = -2147483648 := by decide
theorem ji_b (x : Int32) : -2147483648 ≤ x.toInt ∧ x.toInt < 2147483648 := ⟨x.le_toInt, x.toInt_lt⟩
theorem jn_c {n : Nat} (h : n < 2 ^ 31) : (nI n).toNatClampNeg = n := nI_clamp h
theorem jn_i {a b : Nat} (h : nI a = nI b) (ha : a < 2 ^ 31) (hb : b < 2 ^ 31) : a = b := (nI_eq ha hb).mp h
theorem jn_m1 {n : Nat} (h : n < 2 ^ 31) : ¬ nI n = -1 := fun e => by
  have := congrArg Int32.toInt e
  rw [nI_toInt h, show (-1 : Int32).toInt = -1 from by decide] at this
  omega

/-! lexicographic order on the first w cells -/
def jl_eq (w : Nat) (a b : Nat → Int32) : Prop := ∀ q, q < w → a q = b q
def jl_lt (w : Nat) (a b : Nat → Int32) : Prop := ∃ p, p < w ∧ jl_eq p a b ∧ (a p).toInt < (b p).toInt
theorem jl_er (w : Nat) (a : Nat → Int32) : jl_eq w a a := fun _ _ => rfl
theorem jl_es {w : Nat} {a b : Nat → Int32} (h : jl_eq w a b) : jl_eq w b a := fun q hq => (h q hq).symm
theorem jl_et {w : Nat} {a b c : Nat → Int32} (h : jl_eq w a b) (h' : jl_eq w b c) : jl_eq w a c := fun q hq => (h q hq).trans (h' q hq)
theorem jl_em {w w' : Nat} {a b : Nat → Int32} (h : jl_eq w a b) (hw : w' ≤ w) : jl_eq w' a b := fun q hq => h q (by omega)
theorem jl_e1 {w : Nat} {a b : Nat → Int32} (h : jl_eq w a b) (e : a w = b w) : jl_eq (w + 1) a b := fun q hq => by
  rcases Nat.lt_or_ge q w with z | z
  · exact h q z
  · have : q = w := by omega
    subst this; exact e
theorem jl_cg {w : Nat} {a b a' b' : Nat → Int32} (ha : jl_eq w a a') (hb : jl_eq w b b') (h : jl_lt w a b) : jl_lt w a' b' := by
  obtain ⟨p, h1, h2, h3⟩ := h
  refine ⟨p, h1, fun q hq => ?_, ?_⟩
  · rw [← ha q (by omega), ← hb q (by omega)]; exact h2 q hq
  · rw [← ha p h1, ← hb p h1]; exact h3
theorem jl_irr {w : Nat} {a b : Nat → Int32} (h : jl_eq w a b) : ¬ jl_lt w a b := fun ⟨p, h1, _, h3⟩ => by
  rw [h p h1] at h3; omega
theorem jl_trans {w : Nat} {a b c : Nat → Int32} (h : jl_lt w a b) (h' : jl_lt w b c) : jl_lt w a c := by
  obtain ⟨p, h1, h2, h3⟩ := h
  obtain ⟨q, k1, k2, k3⟩ := h'
  rcases Nat.lt_trichotomy p q with z | z | z
  · exact ⟨p, h1, fun x hx => (h2 x hx).trans (k2 x (by omega)), by rw [← k2 p z]; exact h3⟩
  · subst z; exact ⟨p, h1, fun x hx => (h2 x hx).trans (k2 x hx), by omega⟩
  · exact ⟨q, k1, fun x hx => (h2 x (by omega)).trans (k2 x hx), by rw [h2 q z]; exact k3⟩
theorem jl_asym {w : Nat} {a b : Nat → Int32} (h : jl_lt w a b) : ¬ jl_lt w b a := fun h' => jl_irr (jl_er w a) (jl_trans h h')
theorem jl_s {w : Nat} {a b : Nat → Int32} (h : jl_lt w a b) : jl_lt (w + 1) a b := by
  obtain ⟨p, h1, h2, h3⟩ := h
  exact ⟨p, by omega, h2, h3⟩
theorem jl_mono {w w' : Nat} {a b : Nat → Int32} (h : jl_lt w a b) (hw : w ≤ w') : jl_lt w' a b := by
  obtain ⟨p, h1, h2, h3⟩ := h
  exact ⟨p, by omega, h2, h3⟩
theorem jl_tri (a b : Nat → Int32) : ∀ w, jl_eq w a b ∨ jl_lt w a b ∨ jl_lt w b a
  | 0 => Or.inl fun q hq => absurd hq (by omega)
  | w + 1 => by
    rcases jl_tri a b w with h | h | h
    · rcases Int.lt_trichotomy (a w).toInt (b w).toInt with z | z | z
      · exact Or.inr (Or.inl ⟨w, by omega, h, z⟩)
      · exact Or.inl (jl_e1 h (ji_eq.mpr z))
      · exact Or.inr (Or.inr ⟨w, by omega, jl_es h, z⟩)
    · exact Or.inr (Or.inl (jl_s h))
    · exact Or.inr (Or.inr (jl_s h))
theorem jl_suc {w : Nat} {a b : Nat → Int32} (h : jl_lt (w + 1) a b) : jl_lt w a b ∨ (jl_eq w a b ∧ (a w).toInt < (b w).toInt) := by
  obtain ⟨p, h1, h2, h3⟩ := h
  rcases Nat.lt_or_ge p w with z | z
  · exact Or.inl ⟨p, z, h2, h3⟩
  · have : p = w := by omega
    subst this; exact Or.inr ⟨h2, h3⟩
theorem jl_le {w : Nat} {a b : Nat → Int32} (h : ¬ jl_lt w b a) : jl_eq w a b ∨ jl_lt w a b := by
  rcases jl_tri a b w with z | z | z
  · exact Or.inl z
  · exact Or.inr z
  · exact absurd z h

/-! counts (after the second worked proof) -/
noncomputable def jc_b (P : Prop) : Nat := @ite Nat P (Classical.propDecidable P) 1 0
theorem jc_bt {P : Prop} (h : P) : jc_b P = 1 := by unfold jc_b; rw [if_pos h]
theorem jc_bf {P : Prop} (h : ¬ P) : jc_b P = 0 := by unfold jc_b; rw [if_neg h]
theorem jc_ble (P : Prop) : jc_b P ≤ 1 := by
  rcases Classical.em P with h | h
  · rw [jc_bt h]; omega
  · rw [jc_bf h]; omega
theorem jc_bm {P Q : Prop} (h : P → Q) : jc_b P ≤ jc_b Q := by
  rcases Classical.em P with hp | hp
  · rw [jc_bt hp, jc_bt (h hp)]; omega
  · rw [jc_bf hp]; omega
theorem jc_be {P Q : Prop} (h : P ↔ Q) : jc_b P = jc_b Q := Nat.le_antisymm (jc_bm h.mp) (jc_bm h.mpr)
noncomputable def jc_n (P : Nat → Prop) : Nat → Nat
  | 0 => 0
  | k + 1 => jc_n P k + jc_b (P k)
theorem jc_mono {P Q : Nat → Prop} : ∀ {N : Nat}, (∀ k, k < N → P k → Q k) → jc_n P N ≤ jc_n Q N
  | 0, _ => Nat.le_refl _
  | N + 1, h => by
    have a := jc_mono (P := P) (Q := Q) (N := N) (fun k hk => h k (by omega))
    have b := jc_bm (h N (by omega))
    simp only [jc_n]; omega
theorem jc_lt {P Q : Nat → Prop} {a : Nat} (hp : ¬ P a) (hq : Q a) : ∀ {N : Nat}, (∀ k, k < N → P k → Q k) → a < N → jc_n P N < jc_n Q N
  | 0, _, h => by omega
  | N + 1, h, ha => by
    simp only [jc_n]
    rcases Nat.lt_or_ge a N with z | z
    · have x := jc_lt hp hq (N := N) (fun k hk => h k (by omega)) z
      have b := jc_bm (h N (by omega))
      omega
    · have e : a = N := by omega
      subst e
      have x := jc_mono (P := P) (Q := Q) (N := a) (fun k hk => h k (by omega))
      rw [jc_bt hq, jc_bf hp]; omega
theorem jc_le (P : Nat → Prop) : ∀ N, jc_n P N ≤ N
  | 0 => Nat.le_refl _
  | N + 1 => by have := jc_le P N; have := jc_ble (P N); simp only [jc_n]; omega
theorem jc_eq {P Q : Nat → Prop} {N : Nat} (h : ∀ k, k < N → (P k ↔ Q k)) : jc_n P N = jc_n Q N :=
  Nat.le_antisymm (jc_mono fun k hk => (h k hk).mp) (jc_mono fun k hk => (h k hk).mpr)
theorem jc_pos {P : Nat → Prop} {k : Nat} (hp : P k) : ∀ {N : Nat}, k < N → 0 < jc_n P N
  | 0, h => by omega
  | N + 1, h => by
    simp only [jc_n]
    rcases Nat.lt_or_ge k N with z | z
    · have := jc_pos hp z; omega
    · have e : k = N := by omega
      subst e; rw [jc_bt hp]; omega
theorem jc_ex {P : Nat → Prop} : ∀ {N : Nat}, 0 < jc_n P N → ∃ k, k < N ∧ P k
  | 0, h => by simp only [jc_n] at h; omega
  | N + 1, h => by
    rcases Classical.em (P N) with z | z
    · exact ⟨N, by omega, z⟩
    · simp only [jc_n] at h
      rw [jc_bf z] at h
      obtain ⟨k, h1, h2⟩ := jc_ex (N := N) (by omega)
      exact ⟨k, by omega, h2⟩
theorem jc_id {P : Nat → Prop} {k : Nat} : ∀ {N : Nat}, k ≤ N → (∀ j, j < N → (P j ↔ j < k)) → jc_n P N = k
  | 0, h, _ => by simp only [jc_n]; omega
  | N + 1, h, hP => by
    simp only [jc_n]
    rcases Nat.lt_or_ge N k with z | z
    · have e : k = N + 1 := by omega
      subst e
      have := jc_id (P := P) (k := N) (N := N) (Nat.le_refl _) (fun j hj => ⟨fun _ => hj, fun _ => (hP j (by omega)).mpr (by omega)⟩)
      rw [this, jc_bt ((hP N (by omega)).mpr z)]
    · have := jc_id (P := P) (k := k) (N := N) z (fun j hj => hP j (by omega))
      rw [this, jc_bf (fun x => by have := (hP N (by omega)).mp x; omega)]
      rfl
theorem jc_upd {P P' : Nat → Prop} {a : Nat} : ∀ {N : Nat}, a < N → (∀ k, k < N → k ≠ a → (P k ↔ P' k)) → jc_n P' N + jc_b (P a) = jc_n P N + jc_b (P' a)
  | 0, h, _ => by omega
  | N + 1, h, hk => by
    simp only [jc_n]
    rcases Nat.lt_or_ge a N with z | z
    · have x := jc_upd z (fun k h1 h2 => hk k (by omega) h2)
      rw [jc_be (hk N (by omega) (by omega))]
      omega
    · have e : a = N := by omega
      subst e
      rw [jc_eq (P := P) (Q := P') (N := a) (fun k h1 => hk k (by omega) (by omega))]
      omega
theorem jc_ins {α : Type} (Q : α → Prop) (f g : Nat → α) (p : Nat) (h1 : ∀ j, j < p → g j = f j) : ∀ d, (∀ j, p ≤ j → j < p + d → g (j + 1) = f j) → jc_n (fun k => Q (g k)) (p + d + 1) = jc_n (fun k => Q (f k)) (p + d) + jc_b (Q (g p))
  | 0, _ => by
    show jc_n (fun k => Q (g k)) p + jc_b (Q (g p)) = jc_n (fun k => Q (f k)) p + jc_b (Q (g p))
    rw [jc_eq (P := fun k => Q (g k)) (Q := fun k => Q (f k)) (N := p) (fun k hk => by rw [h1 k hk])]
  | d + 1, h => by
    have x := jc_ins Q f g p h1 d (fun j a b => h j a (by omega))
    show jc_n (fun k => Q (g k)) (p + d + 1) + jc_b (Q (g (p + d + 1))) = jc_n (fun k => Q (f k)) (p + d) + jc_b (Q (f (p + d))) + jc_b (Q (g p))
    rw [x, h (p + d) (by omega) (by omega)]
    omega
/-- sums -/
def js_n (f : Nat → Nat) : Nat → Nat
  | 0 => 0
  | k + 1 => js_n f k + f k
theorem js_mono {f g : Nat → Nat} : ∀ {N : Nat}, (∀ k, k < N → f k ≤ g k) → js_n f N ≤ js_n g N
  | 0, _ => Nat.le_refl _
  | N + 1, h => by
    have a := js_mono (f := f) (g := g) (N := N) (fun k hk => h k (by omega))
    have b := h N (by omega)
    simp only [js_n]; omega
theorem js_lt {f g : Nat → Nat} {a : Nat} (hp : f a < g a) : ∀ {N : Nat}, (∀ k, k < N → f k ≤ g k) → a < N → js_n f N < js_n g N
  | 0, _, h => by omega
  | N + 1, h, ha => by
    simp only [js_n]
    rcases Nat.lt_or_ge a N with z | z
    · have x := js_lt hp (N := N) (fun k hk => h k (by omega)) z
      have b := h N (by omega)
      omega
    · have e : a = N := by omega
      subst e
      have x := js_mono (f := f) (g := g) (N := a) (fun k hk => h k (by omega))
      omega
theorem js_le {f : Nat → Nat} {m : Nat} : ∀ {N : Nat}, (∀ k, k < N → f k ≤ m) → js_n f N ≤ N * m
  | 0, _ => by simp only [js_n]; omega
  | N + 1, h => by
    have a := js_le (f := f) (m := m) (N := N) (fun k hk => h k (by omega))
    have b := h N (by omega)
    simp only [js_n]
    rw [Nat.succ_mul]
    omega
end
section
/-! the relation -/
def jt_r (a : Nat → Int32) (r k : Nat) : Nat → Int32 := fun j => a ((r * 12 + k) * 3 + j)
def jt_t (A : Nat) (a : Nat → Int32) (r k : Nat) : Nat → Int32 := fun j => if j < A then a ((r * 12 + k) * 3 + j) else 0
def j3_t (a b c : Int32) : Nat → Int32 := fun j => if j = 0 then a else if j = 1 then b else c
/-- one relation: arity A, S tuples; X keeps them sorted, Y has the same ones in some order -/
def jr_S1 (w : Nat) (x y : Int32) (tu da : Nat → Int32) (r : Nat) : Prop :=
  ∃ A S : Nat, x = nI A ∧ A ≤ 3 ∧ y = nI S ∧ S ≤ w ∧ (A = 0 → S = 0) ∧
    (∀ j k, j < k → k < S → jl_lt A (jt_r tu r j) (jt_r tu r k)) ∧
    (∀ Q : (Nat → Int32) → Prop, jc_n (fun k => Q (jt_t A tu r k)) S = jc_n (fun k => Q (jt_t A da r k)) S)
def jr_St (rl rw : Int32) (ra rs tu da : Nat → Int32) : Prop :=
  ∃ l w : Nat, rl = nI l ∧ 1 ≤ l ∧ l ≤ 4 ∧ rw = nI w ∧ 1 ≤ w ∧ w ≤ 12 ∧ ∀ r, r < 4 → jr_S1 w (ra r) (rs r) tu da r
/-- one atom of the draft: relation x, y terms; only the last may lack some -/
def jr_A1 (ra : Nat → Int32) (x y : Int32) (last : Prop) : Prop :=
  ∃ r t A : Nat, x = nI r ∧ r < 4 ∧ y = nI t ∧ ra r = nI A ∧ 1 ≤ A ∧ A ≤ 3 ∧ t ≤ A ∧ (¬ last → t = A)
def jr_Tm (ti tv : Nat → Int32) (tm : Nat → Int64) : Prop :=
  ∀ o, (ti o = 0 ∧ tm o = (tv o).toInt64) ∨ (ti o = 1 ∧ tm o = 4294967296 + (tv o).toInt64)
def jr_Pm (v : Nat) (pl : Nat → Int32) : Prop :=
  ∃ f g : Nat → Nat, ∀ p, p < v → pl p = nI (f p) ∧ f p < v ∧ g (f p) = p ∧ g p < v ∧ f (g p) = p
def jr_Dr (vl al ac : Int32) (ra ar tn ti tv pl : Nat → Int32) (tm : Nat → Int64) : Prop :=
  ∃ v a n : Nat, vl = nI v ∧ 1 ≤ v ∧ v ≤ 4 ∧ al = nI a ∧ 1 ≤ a ∧ a ≤ 5 ∧ ac = nI n ∧ n ≤ a ∧
    (∀ i, i < n → jr_A1 ra (ar i) (tn i) (i + 1 = n)) ∧ jr_Tm ti tv tm ∧
    (∀ o, ti o = 1 → ∃ x, x < v ∧ tv o = nI x) ∧ jr_Pm v pl
/-- trie i has a row with the values of t -/
def jq_TH (R D : Nat → Nat) (C : Nat → Nat → Nat) (tt : Nat → Int32) (i : Nat) (t : Nat → Int32) : Prop :=
  ∃ k, k < R i ∧ ∀ d, d < D i → tt ((i * 12 + k) * 3 + d) = t (C i d)
/-- what Y's wanted answers for a variable's code -/
def jy_w (co t : Nat → Int32) (x : Int64) : Nat → Nat → Int32
  | 0, _ => 0
  | d + 1, p => if 4294967296 + (co p).toInt64 = x then t p else jy_w co t x d (p + 1)
def jy_want (w : Nat) (ct : Nat → Int64) (co t : Nat → Int32) (o : Nat) : Int32 :=
  if 4294967296 ≤ ct o then jy_w co t (ct o) w 0 else (ct o).toInt32
def jy_AH (w : Nat) (A S ρ : Nat → Nat) (cd : Nat → Int32) (ct : Nat → Int64) (co : Nat → Int32) (i : Nat) (t : Nat → Int32) : Prop :=
  ∃ k, k < S i ∧ ∀ j, j < A i → cd ((ρ i * 12 + k) * 3 + j) = jy_want w ct co t (i * 3 + j)
def jq_Sh (n w : Nat) (R D : Nat → Nat) (C : Nat → Nat → Nat) (P : Nat → Nat) (L : Nat → Nat → Nat) (sa : Int32) (tr td tt tk dp py pc : Nat → Int32) : Prop :=
  1 ≤ n ∧ n ≤ 5 ∧ w ≤ 4 ∧
  (∀ i, i < n → tr i = nI (R i) ∧ R i ≤ 12 ∧ td i = nI (D i) ∧ D i ≤ 3) ∧
  (∀ i d, i < n → d < D i → tk (i * 3 + d) = nI (C i d) ∧ C i d < w ∧ dp (i * 4 + C i d) = nI d) ∧
  (∀ i d e, i < n → d < e → e < D i → C i d < C i e) ∧
  (∀ c, c < w → pc c = nI (P c) ∧ 1 ≤ P c ∧ P c ≤ 5) ∧
  (∀ c m, c < w → m < P c → py (c * 5 + m) = nI (L c m) ∧ L c m < n ∧ ∃ d, d < D (L c m) ∧ C (L c m) d = c) ∧
  (∀ i d, i < n → d < D i → ∃ m, m < P (C i d) ∧ L (C i d) m = i) ∧
  (∀ i j k, i < n → j < k → k < R i → ¬ jl_lt (D i) (jt_r tt i k) (jt_r tt i j)) ∧
  ((sa = 0 ∧ ∃ i, i < n ∧ R i = 0) ∨ (sa = 1 ∧ ∀ i, i < n → 0 < R i))
def jq_R0 (n : Nat) (R : Nat → Nat) (r0 r1 : Nat → Int32) : Prop := ∀ i, i < n → r0 (i * 4) = 0 ∧ r1 (i * 4) = nI (R i)
def jq_Y (n w : Nat) (A S ρ N : Nat → Nat) (ra cz cr om oc cd : Nat → Int32) (ct : Nat → Int64) (co : Nat → Int32) : Prop :=
  (∀ i, i < n → cr i = nI (ρ i) ∧ ρ i < 4 ∧ ra (ρ i) = nI (A i) ∧ 1 ≤ A i ∧ A i ≤ 3 ∧ cz (ρ i) = nI (S i) ∧ S i ≤ 12) ∧
  (∀ p, p < 4 → oc p = nI (N p) ∧ N p ≤ 12 ∧ (w ≤ p → N p = 1)) ∧
  (∀ p a b, p < w → a < b → b < N p → om (p * 12 + a) ≠ om (p * 12 + b)) ∧
  (∀ t, (∀ i, i < n → jy_AH w A S ρ cd ct co i t) → ∀ p, p < w → ∃ a, a < N p ∧ om (p * 12 + a) = t p)
def jr_Cu (cs wd tc sa : Int32) (ra cv re tr td tt tk dp py pc r0 r1 cz cd cr : Nat → Int32) (ct : Nat → Int64) (co om oc ve : Nat → Int32) : Prop :=
  cs = 200 ∨ ((cs = 2 ∨ cs = 3 ∨ cs = 4) ∧ ∃ (n w : Nat) (R D : Nat → Nat) (C : Nat → Nat → Nat) (P : Nat → Nat) (L : Nat → Nat → Nat) (A S ρ N : Nat → Nat),
    tc = nI n ∧ wd = nI w ∧ jq_Sh n w R D C P L sa tr td tt tk dp py pc ∧ jq_R0 n R r0 r1 ∧ jq_Y n w A S ρ N ra cz cr om oc cd ct co ∧
    (∀ p, p < w → cv p = co p) ∧ (∀ i t, i < n → (jq_TH R D C tt i t ↔ jy_AH w A S ρ cd ct co i t)) ∧ (cs = 2 → ∀ p, p < w → re p = ve p))
/-- the relation at the head of a turn -/
def i_Rel (_ : Nat) (u : SX) (v : SY) : Prop :=
  ∃ (uRl uRw uVl uAl uAc uCs uWd uTc uSa uBl uBs : Int32) (uRA uRS uTu uAR uTn uTi uTv uPl uCv uRe uTr uTd uTt uTk uTs uDp uPy uPc uR0 uR1 uPo uCa : Nat → Int32) (uMi : Nat → Int64) (uTg uTa vDa : Nat → Int32) (vTm : Nat → Int64) (vCz vCd vCr : Nat → Int32) (vCt : Nat → Int64) (vCo vDo vDc vVe : Nat → Int32), u = (uRl, uRw, uVl, uAl, uAc, uCs, uWd, uTc, uSa, uBl, uBs, uRA, uRS, uTu, uAR, uTn, uTi, uTv, uPl, uCv, uRe, uTr, uTd, uTt, uTk, uTs, uDp, uPy, uPc, uR0, uR1, uPo, uCa, uMi, uTg, uTa) ∧ v = (uRl, uRw, uVl, uAl, uAc, uTc, uWd, uCs, uRA, uRS, vDa, uAR, uTn, vTm, uPl, vCz, vCd, vCr, vCt, vCo, vDo, vDc, vVe) ∧ jr_St uRl uRw uRA uRS uTu vDa ∧ jr_Dr uVl uAl uAc uRA uAR uTn uTi uTv uPl vTm ∧
    jr_Cu uCs uWd uTc uSa uRA uCv uRe uTr uTd uTt uTk uDp uPy uPc uR0 uR1 vCz vCd vCr vCt vCo vDo vDc vVe
theorem i_up {k : Nat} {u : SX} {v : SY} (h : i_Rel k u v) : i_Rel (k + 5) u v := h
theorem zz_el {k : Nat} {u : SX} {v : SY} {P : SX → SY → Prop} (h : ∀ (uRl uRw uVl uAl uAc uCs uWd uTc uSa uBl uBs : Int32) (uRA uRS uTu uAR uTn uTi uTv uPl uCv uRe uTr uTd uTt uTk uTs uDp uPy uPc uR0 uR1 uPo uCa : Nat → Int32) (uMi : Nat → Int64) (uTg uTa vDa : Nat → Int32) (vTm : Nat → Int64) (vCz vCd vCr : Nat → Int32) (vCt : Nat → Int64) (vCo vDo vDc vVe : Nat → Int32), jr_St uRl uRw uRA uRS uTu vDa → jr_Dr uVl uAl uAc uRA uAR uTn uTi uTv uPl vTm →
    jr_Cu uCs uWd uTc uSa uRA uCv uRe uTr uTd uTt uTk uDp uPy uPc uR0 uR1 vCz vCd vCr vCt vCo vDo vDc vVe → P (uRl, uRw, uVl, uAl, uAc, uCs, uWd, uTc, uSa, uBl, uBs, uRA, uRS, uTu, uAR, uTn, uTi, uTv, uPl, uCv, uRe, uTr, uTd, uTt, uTk, uTs, uDp, uPy, uPc, uR0, uR1, uPo, uCa, uMi, uTg, uTa) (uRl, uRw, uVl, uAl, uAc, uTc, uWd, uCs, uRA, uRS, vDa, uAR, uTn, vTm, uPl, vCz, vCd, vCr, vCt, vCo, vDo, vDc, vVe)) (I : i_Rel k u v) : P u v :=
  Exists.elim I fun uRl I => Exists.elim I fun uRw I => Exists.elim I fun uVl I => Exists.elim I fun uAl I => Exists.elim I fun uAc I => Exists.elim I fun uCs I => Exists.elim I fun uWd I => Exists.elim I fun uTc I => Exists.elim I fun uSa I => Exists.elim I fun uBl I => Exists.elim I fun uBs I => Exists.elim I fun uRA I => Exists.elim I fun uRS I => Exists.elim I fun uTu I => Exists.elim I fun uAR I => Exists.elim I fun uTn I => Exists.elim I fun uTi I => Exists.elim I fun uTv I => Exists.elim I fun uPl I => Exists.elim I fun uCv I => Exists.elim I fun uRe I => Exists.elim I fun uTr I => Exists.elim I fun uTd I => Exists.elim I fun uTt I => Exists.elim I fun uTk I => Exists.elim I fun uTs I => Exists.elim I fun uDp I => Exists.elim I fun uPy I => Exists.elim I fun uPc I => Exists.elim I fun uR0 I => Exists.elim I fun uR1 I => Exists.elim I fun uPo I => Exists.elim I fun uCa I => Exists.elim I fun uMi I => Exists.elim I fun uTg I => Exists.elim I fun uTa I => Exists.elim I fun vDa I => Exists.elim I fun vTm I => Exists.elim I fun vCz I => Exists.elim I fun vCd I => Exists.elim I fun vCr I => Exists.elim I fun vCt I => Exists.elim I fun vCo I => Exists.elim I fun vDo I => Exists.elim I fun vDc I => Exists.elim I fun vVe I => 
    match I with
    | ⟨e1, e2, a, b, c⟩ => e1 ▸ e2 ▸ h uRl uRw uVl uAl uAc uCs uWd uTc uSa uBl uBs uRA uRS uTu uAR uTn uTi uTv uPl uCv uRe uTr uTd uTt uTk uTs uDp uPy uPc uR0 uR1 uPo uCa uMi uTg uTa vDa vTm vCz vCd vCr vCt vCo vDo vDc vVe a b c
theorem zz_in {k : Nat} {uRl uRw uVl uAl uAc uCs uWd uTc uSa uBl uBs : Int32} {uRA uRS uTu uAR uTn uTi uTv uPl uCv uRe uTr uTd uTt uTk uTs uDp uPy uPc uR0 uR1 uPo uCa : Nat → Int32} {uMi : Nat → Int64} {uTg uTa : Nat → Int32} {vDa : Nat → Int32} {vTm : Nat → Int64} {vCz vCd vCr : Nat → Int32} {vCt : Nat → Int64} {vCo vDo vDc vVe : Nat → Int32} (a : jr_St uRl uRw uRA uRS uTu vDa) (b : jr_Dr uVl uAl uAc uRA uAR uTn uTi uTv uPl vTm)
    (c : jr_Cu uCs uWd uTc uSa uRA uCv uRe uTr uTd uTt uTk uDp uPy uPc uR0 uR1 vCz vCd vCr vCt vCo vDo vDc vVe) : i_Rel k (uRl, uRw, uVl, uAl, uAc, uCs, uWd, uTc, uSa, uBl, uBs, uRA, uRS, uTu, uAR, uTn, uTi, uTv, uPl, uCv, uRe, uTr, uTd, uTt, uTk, uTs, uDp, uPy, uPc, uR0, uR1, uPo, uCa, uMi, uTg, uTa) (uRl, uRw, uVl, uAl, uAc, uTc, uWd, uCs, uRA, uRS, vDa, uAR, uTn, vTm, uPl, vCz, vCd, vCr, vCt, vCo, vDo, vDc, vVe) :=
  ⟨uRl, uRw, uVl, uAl, uAc, uCs, uWd, uTc, uSa, uBl, uBs, uRA, uRS, uTu, uAR, uTn, uTi, uTv, uPl, uCv, uRe, uTr, uTd, uTt, uTk, uTs, uDp, uPy, uPc, uR0, uR1, uPo, uCa, uMi, uTg, uTa, vDa, vTm, vCz, vCd, vCr, vCt, vCo, vDo, vDc, vVe, rfl, rfl, a, b, c⟩
end
section
/-! X's store -/
section XS
variable {uRl uRw uVl uAl uAc uCs uWd uTc uSa uBl uBs : Int32} {uRA uRS uTu uAR uTn uTi uTv uPl uCv uRe uTr uTd uTt uTk uTs uDp uPy uPc uR0 uR1 uPo uCa : Nat → Int32} {uMi : Nat → Int64} {uTg uTa : Nat → Int32}
theorem xs_cmp {post : Int32 → Prop} {r k A : Nat} {a b c : Int32} (hr : r < 4) (hk : k < 12) (hA : uRA r = nI A) (h1 : 1 ≤ A) (h3 : A ≤ 3)
    (hL : jl_lt A (jt_r uTu r k) (j3_t a b c) → post (-1)) (hE : jl_eq A (jt_r uTu r k) (j3_t a b c) → post 0) (hG : jl_lt A (j3_t a b c) (jt_r uTu r k) → post 1) :
    wpX_compareTuple post (uRl, uRw, uVl, uAl, uAc, uCs, uWd, uTc, uSa, uBl, uBs, uRA, uRS, uTu, uAR, uTn, uTi, uTv, uPl, uCv, uRe, uTr, uTd, uTt, uTk, uTs, uDp, uPy, uPc, uR0, uR1, uPo, uCa, uMi, uTg, uTa) (nI r) (nI k) a b c := by
  have e0 : (nI ((r * 12 + k) * 3)).toNatClampNeg = (r * 12 + k) * 3 := jn_c (by omega)
  have e1 : (nI ((r * 12 + k) * 3) + 1).toNatClampNeg = (r * 12 + k) * 3 + 1 := by rw [nI_1]; exact jn_c (by omega)
  have e2 : (nI ((r * 12 + k) * 3) + 2).toNatClampNeg = (r * 12 + k) * 3 + 2 := by rw [jx_2]; exact jn_c (by omega)
  have i0 : vp_in (nI ((r * 12 + k) * 3)) 144 := vp_in_nI (by omega) (by omega)
  have i1 : vp_in (nI ((r * 12 + k) * 3) + 1) 144 := by rw [nI_1]; exact vp_in_nI (by omega) (by omega)
  have i2 : vp_in (nI ((r * 12 + k) * 3) + 2) 144 := by rw [jx_2]; exact vp_in_nI (by omega) (by omega)
  have J : uTu ((r * 12 + k) * 3) = a → (2 ≤ A → uTu ((r * 12 + k) * 3 + 1) = b) → wX_compareTuple_86 post c (nI ((r * 12 + k) * 3)) (nI A) uRl uRw uVl uAl uAc uCs uWd uTc uSa uBl uBs uRA uRS uTu uAR uTn uTi uTv uPl uCv uRe uTr uTd uTt uTk uTs uDp uPy uPc uR0 uR1 uPo uCa uMi uTg uTa := by
    intro q0 q1
    have E2 : jl_eq 2 (jt_r uTu r k) (j3_t a b c) ∨ A = 1 := by
      rcases Nat.lt_or_ge A 2 with z | z
      · exact Or.inr (by omega)
      · refine Or.inl fun q hq => ?_
        rcases (by omega : q = 0 ∨ q = 1) with rfl | rfl
        · exact q0
        · exact q1 z
    unfold wX_compareTuple_86
    refine pk_lt A 3 (fun z => hE fun q hq => ?_) (fun z => ⟨i2, ?_⟩)
    · rcases (by omega : q = 0 ∨ q = 1) with rfl | rfl
      · exact q0
      · exact q1 (by omega)
    · rw [e2]
      have E : jl_eq 2 (jt_r uTu r k) (j3_t a b c) := E2.resolve_right (by omega)
      by_cases q2 : uTu ((r * 12 + k) * 3 + 2) = c
      · refine br_t q2 (hE fun q hq => ?_)
        rcases (by omega : q < 2 ∨ q = 2) with y | rfl
        · exact E q y
        · exact q2
      · have q3 : ¬ (uTu ((r * 12 + k) * 3 + 2)).toInt = c.toInt := fun y => q2 (ji_eq.mpr y)
        refine br_f q2 ⟨i2, br_c (fun y => hG ⟨2, by omega, jl_es E, ?_⟩) (fun y => hL ⟨2, by omega, E, ?_⟩)⟩
        · have := ji_le.mp y
          show c.toInt < (uTu ((r * 12 + k) * 3 + 2)).toInt
          omega
        · have y' := ji_nle y
          show (uTu ((r * 12 + k) * 3 + 2)).toInt < c.toInt
          omega
  refine nm_r (jx_b r k) ⟨vp_in_nI hr (by omega), nm_r (e' := nI A) (by rw [jn_c (by omega)]; exact hA) ⟨i0, ?_⟩⟩
  rw [e0]
  by_cases q0 : uTu ((r * 12 + k) * 3) = a
  · refine br_t q0 (pk_lt A 2 (fun z => J q0 (fun z' => by omega)) (fun z => ⟨i1, ?_⟩))
    rw [e1]
    have E : jl_eq 1 (jt_r uTu r k) (j3_t a b c) := fun q hq => by
      have : q = 0 := by omega
      subst this; exact q0
    by_cases q1 : uTu ((r * 12 + k) * 3 + 1) = b
    · exact br_t q1 (J q0 (fun _ => q1))
    · have q3 : ¬ (uTu ((r * 12 + k) * 3 + 1)).toInt = b.toInt := fun y => q1 (ji_eq.mpr y)
      refine br_f q1 ⟨i1, br_c (fun y => hG ⟨1, by omega, jl_es E, ?_⟩) (fun y => hL ⟨1, by omega, E, ?_⟩)⟩
      · have := ji_le.mp y
        show b.toInt < (uTu ((r * 12 + k) * 3 + 1)).toInt
        omega
      · have y' := ji_nle y
        show (uTu ((r * 12 + k) * 3 + 1)).toInt < b.toInt
        omega
  · have q3 : ¬ (uTu ((r * 12 + k) * 3)).toInt = a.toInt := fun y => q0 (ji_eq.mpr y)
    refine br_f q0 ⟨i0, br_c (fun y => hG ⟨0, by omega, fun q hq => absurd hq (by omega), ?_⟩) (fun y => hL ⟨0, by omega, fun q hq => absurd hq (by omega), ?_⟩)⟩
    · have := ji_le.mp y
      show a.toInt < (uTu ((r * 12 + k) * 3)).toInt
      omega
    · have y' := ji_nle y
      show (uTu ((r * 12 + k) * 3)).toInt < a.toInt
      omega
theorem xs_tp {post : Int32 → Prop} {r A S : Nat} {a b c : Int32} (hr : r < 4) (hS : S ≤ 12) (hA : uRA r = nI A) (h1 : 1 ≤ A) (h3 : A ≤ 3)
    (so : ∀ j k, j < k → k < S → jl_lt A (jt_r uTu r j) (jt_r uTu r k))
    (K : ∀ p, p ≤ S → (∀ j, j < p → jl_lt A (jt_r uTu r j) (j3_t a b c)) → (∀ j, p ≤ j → j < S → ¬ jl_lt A (jt_r uTu r j) (j3_t a b c)) → post (nI p)) :
    ∀ d n lo hi st, st + d = 4 → hi < lo + 2 ^ d → d < n → lo ≤ hi → hi ≤ S → (∀ j, j < lo → jl_lt A (jt_r uTu r j) (j3_t a b c)) →
      (∀ j, hi ≤ j → j < S → ¬ jl_lt A (jt_r uTu r j) (j3_t a b c)) → wX_tuplePlace_14 post (nI r) a b c uRl uRw uVl uAl uAc uCs uWd uTc uSa uBl uBs uRA uRS uTu uAR uTn uTi uTv uPl uCv uRe uTr uTd uTt uTk uTs uDp uPy uPc uR0 uR1 uPo uCa uMi uTg uTa n (nI lo) (nI hi) (nI st) := by
  intro d
  induction d with
  | zero =>
    intro n lo hi st g1 g2 g3 g4 g5 g6 g7
    obtain ⟨n, rfl⟩ : ∃ m, n = m + 1 := ⟨n - 1, by omega⟩
    have : hi = lo := by omega
    subst this
    rw [wX_tuplePlace_14]
    exact br_f (nI_ge (b := 5) (by omega) (by omega)) (br_t (nI_le (Nat.le_refl _) (by omega)) (K _ g5 g6 g7))
  | succ d ih =>
    intro n lo hi st g1 g2 g3 g4 g5 g6 g7
    obtain ⟨n, rfl⟩ : ∃ m, n = m + 1 := ⟨n - 1, by omega⟩
    rw [wX_tuplePlace_14]
    refine br_f (nI_ge (b := 5) (by omega) (by omega)) ?_
    rcases Nat.lt_or_ge lo hi with z | z
    · refine br_f (nI_ge z (by omega)) (nm_r (jx_h (by omega)) ?_)
      have hp : 2 ^ (d + 1) = 2 * 2 ^ d := by rw [Nat.pow_succ]; omega
      have hi' : ¬ jl_lt A (jt_r uTu r ((lo + hi) / 2)) (j3_t a b c) → wX_tuplePlace_14 post (nI r) a b c uRl uRw uVl uAl uAc uCs uWd uTc uSa uBl uBs uRA uRS uTu uAR uTn uTi uTv uPl uCv uRe uTr uTd uTt uTk uTs uDp uPy uPc uR0 uR1 uPo uCa uMi uTg uTa n (nI lo) (nI ((lo + hi) / 2)) (nI (st + 1)) := fun y => by
        refine ih n lo ((lo + hi) / 2) (st + 1) (by omega) (by omega) (by omega) (by omega) (by omega) g6 (fun j j1 j2 y2 => ?_)
        rcases Nat.lt_or_ge ((lo + hi) / 2) j with x | x
        · exact y (jl_trans (so _ _ x j2) y2)
        · have : j = (lo + hi) / 2 := by omega
          subst this; exact y y2
      refine xs_cmp hr (by omega) hA h1 h3 (fun y => ?_) (fun y => ?_) (fun y => ?_)
      · refine br_f (by decide) (nm_r (nI_1 _) (nm_r (nI_1 _) ?_))
        refine ih n _ hi (st + 1) (by omega) (by omega) (by omega) (by omega) g5 (fun j j1 => ?_) g7
        rcases Nat.lt_or_ge j ((lo + hi) / 2) with x | x
        · exact jl_trans (so _ _ x (by omega)) y
        · have : j = (lo + hi) / 2 := by omega
          subst this; exact y
      · exact br_t (by decide) (nm_r (nI_1 _) (hi' (jl_irr y)))
      · exact br_t (by decide) (nm_r (nI_1 _) (hi' (jl_asym y)))
    · have : hi = lo := by omega
      subst this
      exact br_t (nI_le (Nat.le_refl _) (by omega)) (K _ g5 g6 g7)
theorem xs_place {post : Int32 → Prop} {r A S : Nat} {a b c : Int32} (hr : r < 4) (hS : S ≤ 12) (hA : uRA r = nI A) (hZ : uRS r = nI S) (h1 : 1 ≤ A) (h3 : A ≤ 3)
    (so : ∀ j k, j < k → k < S → jl_lt A (jt_r uTu r j) (jt_r uTu r k))
    (K : ∀ p, p ≤ S → (∀ j, j < p → jl_lt A (jt_r uTu r j) (j3_t a b c)) → (∀ j, p ≤ j → j < S → ¬ jl_lt A (jt_r uTu r j) (j3_t a b c)) → post (nI p)) :
    wpX_tuplePlace post (uRl, uRw, uVl, uAl, uAc, uCs, uWd, uTc, uSa, uBl, uBs, uRA, uRS, uTu, uAR, uTn, uTi, uTv, uPl, uCv, uRe, uTr, uTd, uTt, uTk, uTs, uDp, uPy, uPc, uR0, uR1, uPo, uCa, uMi, uTg, uTa) (nI r) a b c :=
  ⟨vp_in_nI hr (by omega), nm_r (e' := nI S) (by rw [jn_c (by omega)]; exact hZ) ⟨5, xs_tp hr hS hA h1 h3 so K 4 5 0 S 0 rfl (by omega) (by omega) (by omega) (by omega) (fun j hj => absurd hj (by omega)) (fun j h1 h2 => absurd h1 (by omega))⟩⟩
theorem xs_at {post : Int32 → Prop} {r A S p : Nat} {a b c : Int32} (hr : r < 4) (hS : S ≤ 12) (hA : uRA r = nI A) (hZ : uRS r = nI S) (h1 : 1 ≤ A) (h3 : A ≤ 3) (hp : p ≤ S)
    (K1 : p < S → jl_eq A (jt_r uTu r p) (j3_t a b c) → post 1) (K0 : (p < S → ¬ jl_eq A (jt_r uTu r p) (j3_t a b c)) → post 0) :
    wpX_isTupleAt post (uRl, uRw, uVl, uAl, uAc, uCs, uWd, uTc, uSa, uBl, uBs, uRA, uRS, uTu, uAR, uTn, uTi, uTv, uPl, uCv, uRe, uTr, uTd, uTt, uTk, uTs, uDp, uPy, uPc, uR0, uR1, uPo, uCa, uMi, uTg, uTa) (nI r) (nI p) a b c := by
  refine ⟨vp_in_nI hr (by omega), ?_⟩
  rw [jn_c (by omega), hZ]
  refine pk_le S p (fun z => K0 (fun z' => absurd z' (by omega))) (fun z => ?_)
  refine xs_cmp hr (by omega) hA h1 h3 (fun y => ?_) (fun y => ?_) (fun y => ?_)
  · exact br_f (by decide) (K0 fun _ e => jl_irr e y)
  · exact br_t rfl (K1 z y)
  · exact br_f (by decide) (K0 fun _ e => jl_irr (jl_es e) y)
theorem xs_cp {post : SX → Prop} {s g : Nat} (hs : s + 3 ≤ 144) (hg : g + 3 ≤ 144) (hd : s + 3 ≤ g ∨ g + 3 ≤ s)
    (K : ∀ tu : Nat → Int32, (∀ j, j < 3 → tu (g + j) = uTu (s + j)) → (∀ j, (j < g ∨ g + 3 ≤ j) → tu j = uTu j) → post (uRl, uRw, uVl, uAl, uAc, uCs, uWd, uTc, uSa, uBl, uBs, uRA, uRS, tu, uAR, uTn, uTi, uTv, uPl, uCv, uRe, uTr, uTd, uTt, uTk, uTs, uDp, uPy, uPc, uR0, uR1, uPo, uCa, uMi, uTg, uTa)) :
    ∀ d n c (tu : Nat → Int32), c + d = 3 → d < n → (∀ j, j < c → tu (g + j) = uTu (s + j)) → (∀ j, (j < g ∨ g + c ≤ j) → tu j = uTu j) →
      wX_copyTuple_23 post (nI s) (nI g) uRl uRw uVl uAl uAc uCs uWd uTc uSa uBl uBs n (nI c) uRA uRS tu uAR uTn uTi uTv uPl uCv uRe uTr uTd uTt uTk uTs uDp uPy uPc uR0 uR1 uPo uCa uMi uTg uTa := by
  intro d
  induction d with
  | zero =>
    intro n c tu g1 g2 g3 g4
    obtain ⟨n, rfl⟩ : ∃ m, n = m + 1 := ⟨n - 1, by omega⟩
    have : c = 3 := by omega
    subst this
    rw [wX_copyTuple_23]
    exact br_t (nI_le (a := 3) (b := 3) (Nat.le_refl _) (by omega)) (K tu g3 g4)
  | succ d ih =>
    intro n c tu g1 g2 g3 g4
    obtain ⟨n, rfl⟩ : ∃ m, n = m + 1 := ⟨n - 1, by omega⟩
    rw [wX_copyTuple_23]
    have e1 : (nI s + nI c).toNatClampNeg = s + c := by rw [nI_add]; exact jn_c (by omega)
    have e2 : (nI g + nI c).toNatClampNeg = g + c := by rw [nI_add]; exact jn_c (by omega)
    refine br_f (nI_ge (b := 3) (by omega) (by omega)) ⟨by rw [nI_add]; exact vp_in_nI (by omega) (by omega), ⟨by rw [nI_add]; exact vp_in_nI (by omega) (by omega), nm_r (e' := upd tu (g + c) (uTu (s + c))) (by rw [e1, e2, g4 (s + c) (by omega)]) (nm_r (nI_1 c) ?_)⟩⟩
    refine ih n (c + 1) _ (by omega) (by omega) (fun j hj => ?_) (fun j hj => ?_)
    · by_cases z : j = c
      · subst z; rw [pk_us]
      · rw [pk_un (by omega)]; exact g3 j (by omega)
    · rw [pk_un (by omega)]; exact g4 j (by omega)
theorem xs_copy {post : SX → Prop} {r k l : Nat} (hr : r < 4) (hk : k < 12) (hl : l < 12) (hd : k ≠ l)
    (K : ∀ tu : Nat → Int32, (∀ j, j < 3 → tu ((r * 12 + l) * 3 + j) = uTu ((r * 12 + k) * 3 + j)) → (∀ j, (j < (r * 12 + l) * 3 ∨ (r * 12 + l) * 3 + 3 ≤ j) → tu j = uTu j) → post (uRl, uRw, uVl, uAl, uAc, uCs, uWd, uTc, uSa, uBl, uBs, uRA, uRS, tu, uAR, uTn, uTi, uTv, uPl, uCv, uRe, uTr, uTd, uTt, uTk, uTs, uDp, uPy, uPc, uR0, uR1, uPo, uCa, uMi, uTg, uTa)) :
    wpX_copyTuple post (uRl, uRw, uVl, uAl, uAc, uCs, uWd, uTc, uSa, uBl, uBs, uRA, uRS, uTu, uAR, uTn, uTi, uTv, uPl, uCv, uRe, uTr, uTd, uTt, uTk, uTs, uDp, uPy, uPc, uR0, uR1, uPo, uCa, uMi, uTg, uTa) (nI r) (nI k) (nI l) :=
  nm_r (jx_b r k) (nm_r (jx_b r l) ⟨4, xs_cp (by omega) (by omega) (by omega) K 3 4 0 uTu rfl (by omega) (fun j hj => absurd hj (by omega)) (fun _ _ => rfl)⟩)
theorem xs_al {post : Int32 → SX → Prop} {r p S : Nat} {a b c : Int32} (hr : r < 4) (hS : S < 12) (hZ : uRS r = nI S) (hp : p ≤ S)
    (K : ∀ tu : Nat → Int32, (∀ j, j < 3 → tu ((r * 12 + p) * 3 + j) = j3_t a b c j) → (∀ k j, p ≤ k → k < S → j < 3 → tu ((r * 12 + (k + 1)) * 3 + j) = uTu ((r * 12 + k) * 3 + j)) →
      (∀ j, (j < (r * 12 + p) * 3 ∨ (r * 12 + S) * 3 + 3 ≤ j) → tu j = uTu j) → post 1 (uRl, uRw, uVl, uAl, uAc, uCs, uWd, uTc, uSa, uBl, uBs, uRA, upd uRS r (nI (S + 1)), tu, uAR, uTn, uTi, uTv, uPl, uCv, uRe, uTr, uTd, uTt, uTk, uTs, uDp, uPy, uPc, uR0, uR1, uPo, uCa, uMi, uTg, uTa)) :
    ∀ d n (tu : Nat → Int32), p + d ≤ S → d < n → (∀ k j, p + d ≤ k → k < S → j < 3 → tu ((r * 12 + (k + 1)) * 3 + j) = uTu ((r * 12 + k) * 3 + j)) →
      (∀ j, (j < (r * 12 + (p + d)) * 3 + 3 ∨ (r * 12 + S) * 3 + 3 ≤ j) → tu j = uTu j) →
      wX_add_66 post (nI r) a b c (nI p) n (nI (p + d)) uRl uRw uVl uAl uAc uCs uWd uTc uSa uBl uBs uRA uRS tu uAR uTn uTi uTv uPl uCv uRe uTr uTd uTt uTk uTs uDp uPy uPc uR0 uR1 uPo uCa uMi uTg uTa := by
  intro d
  induction d with
  | zero =>
    intro n tu g1 g2 g3 g4
    obtain ⟨n, rfl⟩ : ∃ m, n = m + 1 := ⟨n - 1, by omega⟩
    rw [wX_add_66]
    have e0 : (nI ((r * 12 + p) * 3)).toNatClampNeg = (r * 12 + p) * 3 := jn_c (by omega)
    have e1 : (nI ((r * 12 + p) * 3) + 1).toNatClampNeg = (r * 12 + p) * 3 + 1 := by rw [nI_1]; exact jn_c (by omega)
    have e2 : (nI ((r * 12 + p) * 3) + 2).toNatClampNeg = (r * 12 + p) * 3 + 2 := by rw [jx_2]; exact jn_c (by omega)
    have i0 : vp_in (nI ((r * 12 + p) * 3)) 144 := vp_in_nI (by omega) (by omega)
    have i1 : vp_in (nI ((r * 12 + p) * 3) + 1) 144 := by rw [nI_1]; exact vp_in_nI (by omega) (by omega)
    have i2 : vp_in (nI ((r * 12 + p) * 3) + 2) 144 := by rw [jx_2]; exact vp_in_nI (by omega) (by omega)
    have ir : vp_in (nI r) 4 := vp_in_nI hr (by omega)
    refine br_t (nI_le (Nat.le_refl _) (by omega)) (nm_r (jx_b r p) ⟨i0, nm_r (e' := upd tu ((r * 12 + p) * 3) a) (by rw [e0]) ⟨i1, nm_r (e' := upd (upd tu ((r * 12 + p) * 3) a) ((r * 12 + p) * 3 + 1) b) (by rw [e1]) ⟨i2, nm_r (e' := upd (upd (upd tu ((r * 12 + p) * 3) a) ((r * 12 + p) * 3 + 1) b) ((r * 12 + p) * 3 + 2) c) (by rw [e2]) ⟨ir, ir, nm_r (e' := upd uRS r (nI (S + 1))) (by rw [jn_c (by omega), hZ, nI_1]) (K _ (fun j hj => ?_) (fun k j h1 h2 h3 => ?_) (fun j hj => ?_))⟩⟩⟩⟩)
    · rcases (by omega : j = 0 ∨ j = 1 ∨ j = 2) with rfl | rfl | rfl
      · rw [pk_un (by omega), pk_un (by omega)]; exact pk_us
      · rw [pk_un (by omega), pk_us]; rfl
      · rw [pk_us]; rfl
    · rw [pk_un (by omega), pk_un (by omega), pk_un (by omega)]; exact g3 k j h1 h2 h3
    · rw [pk_un (by omega), pk_un (by omega), pk_un (by omega)]; exact g4 j (by omega)
  | succ d ih =>
    intro n tu g1 g2 g3 g4
    obtain ⟨n, rfl⟩ : ∃ m, n = m + 1 := ⟨n - 1, by omega⟩
    rw [wX_add_66]
    refine br_f (nI_ge (by omega) (by omega)) ?_
    have em : nI (p + (d + 1)) - 1 = nI (p + d) := nI_pred (p + d)
    rw [em]
    refine xs_copy hr (by omega) (by omega) (by omega) (fun tu' k1 k2 => ?_)
    refine nm_r (pk_m1 (p + d)) (ih n tu' (by omega) (by omega) (fun k j h1 h2 h3 => ?_) (fun j hj => ?_))
    · by_cases z : k = p + d
      · subst z
        rw [show r * 12 + (p + d + 1) = r * 12 + (p + (d + 1)) from rfl, k1 j h3]
        exact g4 _ (by omega)
      · rw [k2 _ (by omega)]
        exact g3 k j (by omega) h2 h3
    · rw [k2 _ (by omega)]; exact g4 j (by omega)
theorem xs_ad {post : Int32 → SX → Prop} {r p S : Nat} {a b c : Int32} (hr : r < 4) (hS : S < 12) (hZ : uRS r = nI S) (hp : p ≤ S)
    (K : ∀ tu : Nat → Int32, (∀ j, j < 3 → tu ((r * 12 + p) * 3 + j) = j3_t a b c j) → (∀ k j, p ≤ k → k < S → j < 3 → tu ((r * 12 + (k + 1)) * 3 + j) = uTu ((r * 12 + k) * 3 + j)) →
      (∀ j, (j < (r * 12 + p) * 3 ∨ (r * 12 + S) * 3 + 3 ≤ j) → tu j = uTu j) → post 1 (uRl, uRw, uVl, uAl, uAc, uCs, uWd, uTc, uSa, uBl, uBs, uRA, upd uRS r (nI (S + 1)), tu, uAR, uTn, uTi, uTv, uPl, uCv, uRe, uTr, uTd, uTt, uTk, uTs, uDp, uPy, uPc, uR0, uR1, uPo, uCa, uMi, uTg, uTa)) :
    wX_add_66 post (nI r) a b c (nI p) (S - p + 1) (nI S) uRl uRw uVl uAl uAc uCs uWd uTc uSa uBl uBs uRA uRS uTu uAR uTn uTi uTv uPl uCv uRe uTr uTd uTt uTk uTs uDp uPy uPc uR0 uR1 uPo uCa uMi uTg uTa := by
  have h := xs_al hr hS hZ hp K (S - p) (S - p + 1) uTu (by omega) (by omega) (fun k j x1 x2 => absurd x1 (by omega)) (fun _ _ => rfl)
  rw [show p + (S - p) = S from by omega] at h
  exact h
theorem xs_rl {post : Int32 → SX → Prop} {r p l : Nat} (hr : r < 4) (hS : l < 12)
    (K : ∀ tu : Nat → Int32, (∀ k j, p ≤ k → k < l → j < 3 → tu ((r * 12 + k) * 3 + j) = uTu ((r * 12 + (k + 1)) * 3 + j)) →
      (∀ j, (j < (r * 12 + p) * 3 ∨ (r * 12 + l) * 3 ≤ j) → tu j = uTu j) → post 1 (uRl, uRw, uVl, uAl, uAc, uCs, uWd, uTc, uSa, uBl, uBs, uRA, upd uRS r (nI l), tu, uAR, uTn, uTi, uTv, uPl, uCv, uRe, uTr, uTd, uTt, uTk, uTs, uDp, uPy, uPc, uR0, uR1, uPo, uCa, uMi, uTg, uTa)) :
    ∀ d n q (tu : Nat → Int32), p ≤ q → q + d = l → d < n → (∀ k j, p ≤ k → k < q → j < 3 → tu ((r * 12 + k) * 3 + j) = uTu ((r * 12 + (k + 1)) * 3 + j)) →
      (∀ j, (j < (r * 12 + p) * 3 ∨ (r * 12 + q) * 3 ≤ j) → tu j = uTu j) →
      wX_remove_55 post (nI r) (nI l) n (nI q) uRl uRw uVl uAl uAc uCs uWd uTc uSa uBl uBs uRA uRS tu uAR uTn uTi uTv uPl uCv uRe uTr uTd uTt uTk uTs uDp uPy uPc uR0 uR1 uPo uCa uMi uTg uTa := by
  intro d
  induction d with
  | zero =>
    intro n q tu g0 g1 g2 g3 g4
    obtain ⟨n, rfl⟩ : ∃ m, n = m + 1 := ⟨n - 1, by omega⟩
    have : q = l := by omega
    subst this
    rw [wX_remove_55]
    exact br_t (nI_le (Nat.le_refl _) (by omega)) ⟨vp_in_nI hr (by omega), nm_r (e' := upd uRS r (nI q)) (by rw [jn_c (by omega)]) (K tu g3 g4)⟩
  | succ d ih =>
    intro n q tu g0 g1 g2 g3 g4
    obtain ⟨n, rfl⟩ : ∃ m, n = m + 1 := ⟨n - 1, by omega⟩
    rw [wX_remove_55]
    refine br_f (nI_ge (by omega) (by omega)) ?_
    rw [nI_1]
    refine xs_copy hr (by omega) (by omega) (by omega) (fun tu' k1 k2 => ?_)
    refine nm_e (ih n (q + 1) tu' (by omega) (by omega) (by omega) (fun k j h1 h2 h3 => ?_) (fun j hj => ?_))
    · by_cases z : k = q
      · subst z
        rw [k1 j h3]
        exact g4 _ (by omega)
      · rw [k2 _ (by omega)]
        exact g3 k j h1 (by omega) h3
    · rw [k2 _ (by omega)]; exact g4 j (by omega)
end XS
end
section
/-! Y's store -/
section YS
variable {vRl vRw vVl vAl vAc vCa vWd vSt : Int32} {vAy vSz vDa vRe vTs : Nat → Int32} {vTm : Nat → Int64} {vPl vCz vCd vCr : Nat → Int32} {vCt : Nat → Int64} {vCo vDo vDc vVe : Nat → Int32}
theorem ys_59 {post J : Int32 → Prop} {r k A : Nat} {a b c : Int32} (hr : r < 4) (hk : k < 12) (hA : vAy r = nI A) (h3 : A ≤ 3)
    (K : (A < 3 ∨ vDa ((r * 12 + k) * 3 + 2) = c) → post (nI k)) (N : (2 < A ∧ ¬ vDa ((r * 12 + k) * 3 + 2) = c) → J (nI (k + 1))) :
    wY_rowOf_59 post J (nI r) a b c (nI k) (nI ((r * 12 + k) * 3)) vRl vRw vVl vAl vAc vCa vWd vSt vAy vSz vDa vRe vTs vTm vPl vCz vCd vCr vCt vCo vDo vDc vVe := by
  unfold wY_rowOf_59
  have e2 : (nI ((r * 12 + k) * 3) + 2).toNatClampNeg = (r * 12 + k) * 3 + 2 := by rw [jx_2]; exact jn_c (by omega)
  have i2 : vp_in (nI ((r * 12 + k) * 3) + 2) 144 := by rw [jx_2]; exact vp_in_nI (by omega) (by omega)
  refine ⟨vp_in_nI hr (by omega), ?_⟩
  rw [jn_c (by omega), hA, e2]
  refine pk_lt A 3 (fun z => K (Or.inl z)) (fun z => ⟨i2, br_c (fun y => K (Or.inr y)) (fun y => nm_r (nI_1 k) (N ⟨by omega, y⟩))⟩)
theorem ys_ro {post : Int32 → Prop} {r A S : Nat} {a b c : Int32} (hr : r < 4) (hS : S ≤ 12) (hA : vAy r = nI A) (hZ : vSz r = nI S) (h1 : 1 ≤ A) (h3 : A ≤ 3)
    (K1 : ∀ k, k < S → jl_eq A (jt_r vDa r k) (j3_t a b c) → post (nI k)) (K0 : (∀ k, k < S → ¬ jl_eq A (jt_r vDa r k) (j3_t a b c)) → post (-1)) :
    ∀ d n k, k + d = S → d < n → (∀ j, j < k → ¬ jl_eq A (jt_r vDa r j) (j3_t a b c)) → wY_rowOf_3 post (nI r) a b c vRl vRw vVl vAl vAc vCa vWd vSt vAy vSz vDa vRe vTs vTm vPl vCz vCd vCr vCt vCo vDo vDc vVe n (nI k) := by
  intro d
  induction d with
  | zero =>
    intro n k g1 g2 g3
    obtain ⟨n, rfl⟩ : ∃ m, n = m + 1 := ⟨n - 1, by omega⟩
    have : k = S := by omega
    subst this
    rw [wY_rowOf_3]
    refine ⟨vp_in_nI hr (by omega), ?_⟩
    rw [jn_c (by omega), hZ]
    exact br_t (nI_le (Nat.le_refl _) (by omega)) (K0 g3)
  | succ d ih =>
    intro n k g1 g2 g3
    obtain ⟨n, rfl⟩ : ∃ m, n = m + 1 := ⟨n - 1, by omega⟩
    rw [wY_rowOf_3]
    have nx : ¬ jl_eq A (jt_r vDa r k) (j3_t a b c) → wY_rowOf_3 post (nI r) a b c vRl vRw vVl vAl vAc vCa vWd vSt vAy vSz vDa vRe vTs vTm vPl vCz vCd vCr vCt vCo vDo vDc vVe n (nI (k + 1)) := fun y =>
      ih n (k + 1) (by omega) (by omega) (fun j hj => by
        rcases Nat.lt_or_ge j k with z | z
        · exact g3 j z
        · have : j = k := by omega
          subst this; exact y)
    have e0 : (nI ((r * 12 + k) * 3)).toNatClampNeg = (r * 12 + k) * 3 := jn_c (by omega)
    have e1 : (nI ((r * 12 + k) * 3) + 1).toNatClampNeg = (r * 12 + k) * 3 + 1 := by rw [nI_1]; exact jn_c (by omega)
    have i0 : vp_in (nI ((r * 12 + k) * 3)) 144 := vp_in_nI (by omega) (by omega)
    have i1 : vp_in (nI ((r * 12 + k) * 3) + 1) 144 := by rw [nI_1]; exact vp_in_nI (by omega) (by omega)
    have ir : vp_in (nI r) 4 := vp_in_nI hr (by omega)
    have J : vDa ((r * 12 + k) * 3) = a → (2 ≤ A → vDa ((r * 12 + k) * 3 + 1) = b) → wY_rowOf_59 post (wY_rowOf_3 post (nI r) a b c vRl vRw vVl vAl vAc vCa vWd vSt vAy vSz vDa vRe vTs vTm vPl vCz vCd vCr vCt vCo vDo vDc vVe n) (nI r) a b c (nI k) (nI ((r * 12 + k) * 3)) vRl vRw vVl vAl vAc vCa vWd vSt vAy vSz vDa vRe vTs vTm vPl vCz vCd vCr vCt vCo vDo vDc vVe := fun q0 q1 => by
      refine ys_59 hr (by omega) hA h3 (fun z => K1 k (by omega) fun q hq => ?_) (fun z => nx fun e => z.2 (e 2 z.1))
      rcases (by omega : q = 0 ∨ q = 1 ∨ q = 2) with rfl | rfl | rfl
      · exact q0
      · exact q1 (by omega)
      · exact z.resolve_left (by omega)
    refine ⟨ir, ?_⟩
    rw [jn_c (by omega), hZ]
    refine br_f (nI_ge (by omega) (by omega)) (nm_r (jx_b r k) ⟨i0, ?_⟩)
    rw [e0, e1, hA]
    by_cases q0 : vDa ((r * 12 + k) * 3) = a
    · refine br_t q0 ⟨ir, pk_lt A 2 (fun z => J q0 (fun z' => by omega)) (fun z => ⟨i1, ?_⟩)⟩
      by_cases q1 : vDa ((r * 12 + k) * 3 + 1) = b
      · exact br_t q1 (J q0 (fun _ => q1))
      · exact br_f q1 (nm_r (nI_1 k) (nx fun e => q1 (e 1 z)))
    · exact br_f q0 (nm_r (nI_1 k) (nx fun e => q0 (e 0 h1)))
theorem ys_row {post : Int32 → Prop} {r A S : Nat} {a b c : Int32} (hr : r < 4) (hS : S ≤ 12) (hA : vAy r = nI A) (hZ : vSz r = nI S) (h1 : 1 ≤ A) (h3 : A ≤ 3)
    (K1 : ∀ k, k < S → jl_eq A (jt_r vDa r k) (j3_t a b c) → post (nI k)) (K0 : (∀ k, k < S → ¬ jl_eq A (jt_r vDa r k) (j3_t a b c)) → post (-1)) :
    wpY_rowOf post (vRl, vRw, vVl, vAl, vAc, vCa, vWd, vSt, vAy, vSz, vDa, vRe, vTs, vTm, vPl, vCz, vCd, vCr, vCt, vCo, vDo, vDc, vVe) (nI r) a b c :=
  ⟨S + 1, ys_ro hr hS hA hZ h1 h3 K1 K0 S (S + 1) 0 (by omega) (by omega) (fun j hj => absurd hj (by omega))⟩
theorem ys_le {post : Int32 → Prop} {r A k m : Nat} (hr : r < 4) (hk : k < 12) (hm : m < 12) (hA : vAy r = nI A) (h3 : A ≤ 3)
    (K1 : jl_lt A (jt_r vDa r k) (jt_r vDa r m) → post 1) (K0 : ¬ jl_lt A (jt_r vDa r k) (jt_r vDa r m) → post 0) :
    ∀ d n j, j + d = A → d < n → jl_eq j (jt_r vDa r k) (jt_r vDa r m) → wY_less_3 post (nI r) (nI k) (nI m) vRl vRw vVl vAl vAc vCa vWd vSt vAy vSz vDa vRe vTs vTm vPl vCz vCd vCr vCt vCo vDo vDc vVe n (nI j) := by
  intro d
  induction d with
  | zero =>
    intro n j g1 g2 g3
    obtain ⟨n, rfl⟩ : ∃ m, n = m + 1 := ⟨n - 1, by omega⟩
    have : j = A := by omega
    subst this
    rw [wY_less_3]
    refine ⟨vp_in_nI hr (by omega), ?_⟩
    rw [jn_c (by omega), hA]
    exact br_t (nI_le (Nat.le_refl _) (by omega)) (K0 (jl_irr g3))
  | succ d ih =>
    intro n j g1 g2 g3
    obtain ⟨n, rfl⟩ : ∃ m, n = m + 1 := ⟨n - 1, by omega⟩
    rw [wY_less_3]
    refine ⟨vp_in_nI hr (by omega), ?_⟩
    rw [jn_c (by omega), hA, jx_c, jx_c, jn_c (by omega), jn_c (by omega)]
    refine br_f (nI_ge (by omega) (by omega)) ⟨vp_in_nI (by omega) (by omega), nm_e ⟨vp_in_nI (by omega) (by omega), nm_e ?_⟩⟩
    by_cases q : vDa ((r * 12 + k) * 3 + j) = vDa ((r * 12 + m) * 3 + j)
    · exact br_t q (nm_r (nI_1 j) (ih n (j + 1) (by omega) (by omega) (jl_e1 g3 q)))
    · have q3 : ¬ (vDa ((r * 12 + k) * 3 + j)).toInt = (vDa ((r * 12 + m) * 3 + j)).toInt := fun y => q (ji_eq.mpr y)
      refine br_f q (br_c (fun y => K0 fun h => ?_) (fun y => K1 ⟨j, by omega, g3, ?_⟩))
      · have y' := ji_le.mp y
        have : jl_lt A (jt_r vDa r m) (jt_r vDa r k) := ⟨j, by omega, jl_es g3, by show (vDa ((r * 12 + m) * 3 + j)).toInt < (vDa ((r * 12 + k) * 3 + j)).toInt; omega⟩
        exact jl_asym h this
      · have y' := ji_nle y
        show (vDa ((r * 12 + k) * 3 + j)).toInt < (vDa ((r * 12 + m) * 3 + j)).toInt
        omega
theorem ys_c64 {post : Int64 → Prop} {J : Int32 → Prop} {r A S k col m : Nat} (hr : r < 4) (hS : S ≤ 12) (hm : m < S) (hk : k < S) (hA : vAy r = nI A) (hZ : vSz r = nI S) (h3 : A ≤ 3) (hc : col < 3)
    (K : jc_n (fun x => jl_lt A (jt_r vDa r x) (jt_r vDa r m)) S = k → post (vDa ((r * 12 + m) * 3 + col)).toInt64)
    (N : jc_n (fun x => jl_lt A (jt_r vDa r x) (jt_r vDa r m)) S ≠ k → J (nI (m + 1))) :
    ∀ d n x, x + d = S → d < n → wY_cell_64 post J (nI r) (nI k) (nI col) (nI m) vRl vRw vVl vAl vAc vCa vWd vSt vAy vSz vDa vRe vTs vTm vPl vCz vCd vCr vCt vCo vDo vDc vVe n (nI (jc_n (fun x => jl_lt A (jt_r vDa r x) (jt_r vDa r m)) x)) (nI x) := by
  intro d
  induction d with
  | zero =>
    intro n x g1 g2
    obtain ⟨n, rfl⟩ : ∃ m, n = m + 1 := ⟨n - 1, by omega⟩
    have : x = S := by omega
    subst this
    rw [wY_cell_64]
    refine ⟨vp_in_nI hr (by omega), ?_⟩
    rw [jn_c (by omega), hZ, jx_c, jn_c (by omega)]
    have := jc_le (fun y => jl_lt A (jt_r vDa r y) (jt_r vDa r m)) x
    exact br_t (nI_le (Nat.le_refl _) (by omega)) (pk_eq _ k (fun z => ⟨vp_in_nI (by omega) (by omega), K z⟩) (fun z => nm_r (nI_1 m) (N z)))
  | succ d ih =>
    intro n x g1 g2
    obtain ⟨n, rfl⟩ : ∃ m, n = m + 1 := ⟨n - 1, by omega⟩
    rw [wY_cell_64]
    refine ⟨vp_in_nI hr (by omega), ?_⟩
    rw [jn_c (by omega), hZ]
    refine br_f (nI_ge (by omega) (by omega)) ⟨4, ys_le hr (by omega) (by omega) hA h3 (fun y => ?_) (fun y => ?_) A 4 0 (by omega) (by omega) (fun q hq => absurd hq (by omega))⟩
    · refine br_f (by decide) (nm_r (e' := nI (jc_n (fun x => jl_lt A (jt_r vDa r x) (jt_r vDa r m)) (x + 1))) ?_ (nm_r (nI_1 x) (ih n (x + 1) (by omega) (by omega))))
      rw [nI_1]; simp only [jc_n]; rw [jc_bt y]
    · have e : jc_n (fun x => jl_lt A (jt_r vDa r x) (jt_r vDa r m)) (x + 1) = jc_n (fun x => jl_lt A (jt_r vDa r x) (jt_r vDa r m)) x := by
        simp only [jc_n]; rw [jc_bf y]; rfl
      have h := ih n (x + 1) (by omega) (by omega)
      rw [e] at h
      exact br_t rfl (nm_r (nI_1 x) h)
theorem ys_c47 {post : Int64 → Prop} {r A S k col : Nat} (hr : r < 4) (hS : S ≤ 12) (hk : k < S) (hA : vAy r = nI A) (hZ : vSz r = nI S) (h3 : A ≤ 3) (hc : col < 3)
    (K : ∀ m, m < S → jc_n (fun x => jl_lt A (jt_r vDa r x) (jt_r vDa r m)) S = k → post (vDa ((r * 12 + m) * 3 + col)).toInt64) :
    ∀ d n m, m + d = S → d < n → (∃ m', m ≤ m' ∧ m' < S ∧ jc_n (fun x => jl_lt A (jt_r vDa r x) (jt_r vDa r m')) S = k) → wY_cell_47 post (nI r) (nI k) (nI col) vRl vRw vVl vAl vAc vCa vWd vSt vAy vSz vDa vRe vTs vTm vPl vCz vCd vCr vCt vCo vDo vDc vVe n (nI m) := by
  intro d
  induction d with
  | zero =>
    intro n m g1 g2 g3
    obtain ⟨m', a1, a2, a3⟩ := g3
    omega
  | succ d ih =>
    intro n m g1 g2 g3
    obtain ⟨n, rfl⟩ : ∃ m, n = m + 1 := ⟨n - 1, by omega⟩
    rw [wY_cell_47]
    refine ⟨vp_in_nI hr (by omega), ?_⟩
    rw [jn_c (by omega), hZ]
    refine br_f (nI_ge (by omega) (by omega)) ⟨S + 1, ys_c64 hr hS (by omega) hk hA hZ h3 hc (K m (by omega)) (fun z => ih n (m + 1) (by omega) (by omega) ?_) S (S + 1) 0 (by omega) (by omega)⟩
    obtain ⟨m', a1, a2, a3⟩ := g3
    refine ⟨m', ?_, a2, a3⟩
    rcases Nat.lt_or_ge m m' with y | y
    · exact y
    · have : m' = m := by omega
      subst this; exact absurd a3 z
theorem ys_rm {post : Int32 → SY → Prop} {r k S : Nat} (hr : r < 4) (hS : S < 12) (hk : k ≤ S) (hZ : vSz r = nI S)
    (K : ∀ da : Nat → Int32, (∀ j, j < 3 → da ((r * 12 + k) * 3 + j) = vDa ((r * 12 + S) * 3 + j)) → (∀ j, (j < (r * 12 + k) * 3 ∨ (r * 12 + k) * 3 + 3 ≤ j) → da j = vDa j) → post 1 (vRl, vRw, vVl, vAl, vAc, vCa, vWd, vSt, vAy, vSz, da, vRe, vTs, vTm, vPl, vCz, vCd, vCr, vCt, vCo, vDo, vDc, vVe)) :
    ∀ d n c (da : Nat → Int32), c + d = 3 → d < n → (∀ j, j < c → da ((r * 12 + k) * 3 + j) = vDa ((r * 12 + S) * 3 + j)) → (∀ j, (j < (r * 12 + k) * 3 ∨ (r * 12 + k) * 3 + c ≤ j) → da j = vDa j) →
      wY_remove_45 post (nI r) (nI k) vRl vRw vVl vAl vAc vCa vWd vSt n (nI c) vAy vSz da vRe vTs vTm vPl vCz vCd vCr vCt vCo vDo vDc vVe := by
  intro d
  induction d with
  | zero =>
    intro n c da g1 g2 g3 g4
    obtain ⟨n, rfl⟩ : ∃ m, n = m + 1 := ⟨n - 1, by omega⟩
    have : c = 3 := by omega
    subst this
    rw [wY_remove_45]
    exact br_t (nI_le (a := 3) (b := 3) (Nat.le_refl _) (by omega)) (K da g3 g4)
  | succ d ih =>
    intro n c da g1 g2 g3 g4
    obtain ⟨n, rfl⟩ : ∃ m, n = m + 1 := ⟨n - 1, by omega⟩
    rw [wY_remove_45]
    refine br_f (nI_ge (b := 3) (by omega) (by omega)) ⟨vp_in_nI hr (by omega), ?_⟩
    rw [jn_c (by omega), hZ, jx_c, jx_c, jn_c (by omega), jn_c (by omega)]
    have e1 : da ((r * 12 + S) * 3 + c) = vDa ((r * 12 + S) * 3 + c) := by
      rcases Nat.lt_or_ge k S with z | z
      · exact g4 _ (by omega)
      · have : k = S := by omega
        subst this; exact g4 _ (by omega)
    refine ⟨vp_in_nI (by omega) (by omega), vp_in_nI (by omega) (by omega), nm_r (e' := upd da ((r * 12 + k) * 3 + c) (vDa ((r * 12 + S) * 3 + c))) (by rw [e1]) (nm_r (nI_1 c) (ih n (c + 1) _ (by omega) (by omega) (fun j hj => ?_) (fun j hj => ?_)))⟩
    · by_cases z : j = c
      · subst z; rw [pk_us]
      · rw [pk_un (by omega)]; exact g3 j (by omega)
    · rw [pk_un (by omega)]; exact g4 j (by omega)
end YS
end
section
/-! the pure laws of the store -/
theorem ps_tr (A : Nat) (a : Nat → Int32) (r k : Nat) : jl_eq A (jt_t A a r k) (jt_r a r k) := fun _ hq => if_pos hq
theorem ps_tt {A : Nat} {a b : Nat → Int32} {r s k l : Nat} (h : jl_eq A (jt_r a r k) (jt_r b s l)) : jt_t A a r k = jt_t A b s l := by
  funext q
  by_cases z : q < A
  · exact ((if_pos z).trans (h q z)).trans (if_pos z).symm
  · exact (if_neg z).trans (if_neg z).symm
section PS
variable {A S r : Nat} {tu da : Nat → Int32}
theorem ps_mem (cn : ∀ Q : (Nat → Int32) → Prop, jc_n (fun k => Q (jt_t A tu r k)) S = jc_n (fun k => Q (jt_t A da r k)) S) {t : Nat → Int32} :
    (∃ k, k < S ∧ jl_eq A (jt_r tu r k) t) ↔ (∃ k, k < S ∧ jl_eq A (jt_r da r k) t) := by
  have h := cn (fun f => jl_eq A f t)
  constructor
  · intro ⟨k, h1, h2⟩
    have p : 0 < jc_n (fun k => jl_eq A (jt_t A tu r k) t) S := jc_pos (P := fun k => jl_eq A (jt_t A tu r k) t) (jl_et (ps_tr _ _ _ _) h2) h1
    obtain ⟨k', a1, a2⟩ := jc_ex (h ▸ p)
    exact ⟨k', a1, jl_et (jl_es (ps_tr _ _ _ _)) a2⟩
  · intro ⟨k, h1, h2⟩
    have p : 0 < jc_n (fun k => jl_eq A (jt_t A da r k) t) S := jc_pos (P := fun k => jl_eq A (jt_t A da r k) t) (jl_et (ps_tr _ _ _ _) h2) h1
    obtain ⟨k', a1, a2⟩ := jc_ex (h.symm ▸ p)
    exact ⟨k', a1, jl_et (jl_es (ps_tr _ _ _ _)) a2⟩
theorem ps_rank (so : ∀ j k, j < k → k < S → jl_lt A (jt_r tu r j) (jt_r tu r k)) (cn : ∀ Q : (Nat → Int32) → Prop, jc_n (fun k => Q (jt_t A tu r k)) S = jc_n (fun k => Q (jt_t A da r k)) S)
    {m k : Nat} (hk : k < S) (e : jl_eq A (jt_r da r m) (jt_r tu r k)) : jc_n (fun x => jl_lt A (jt_r da r x) (jt_r da r m)) S = k := by
  have h := cn (fun f => jl_lt A f (jt_r tu r k))
  have h1 : jc_n (fun x => jl_lt A (jt_r da r x) (jt_r da r m)) S = jc_n (fun x => jl_lt A (jt_t A da r x) (jt_r tu r k)) S :=
    jc_eq fun x _ => ⟨fun y => jl_cg (jl_es (ps_tr _ _ _ _)) e y, fun y => jl_cg (ps_tr _ _ _ _) (jl_es e) y⟩
  rw [h1, ← h]
  refine jc_id (by omega) (fun j hj => ⟨fun y => ?_, fun y => jl_cg (jl_es (ps_tr _ _ _ _)) (jl_er _ _) (so j k y hk)⟩)
  have y' := jl_cg (ps_tr _ _ _ _) (jl_er _ _) y
  rcases Nat.lt_trichotomy j k with z | z | z
  · exact z
  · subst z; exact absurd y' (jl_irr (jl_er _ _))
  · exact absurd y' (jl_asym (so k j z hj))
theorem ps_add {w p : Nat} {tu' da' : Nat → Int32} {a b c : Int32} (h1 : 1 ≤ A) (h3 : A ≤ 3) (hw : S + 1 ≤ w) (hp : p ≤ S)
    (so : ∀ j k, j < k → k < S → jl_lt A (jt_r tu r j) (jt_r tu r k)) (cn : ∀ Q : (Nat → Int32) → Prop, jc_n (fun k => Q (jt_t A tu r k)) S = jc_n (fun k => Q (jt_t A da r k)) S)
    (lo : ∀ j, j < p → jl_lt A (jt_r tu r j) (j3_t a b c)) (hi : ∀ j, p ≤ j → j < S → jl_lt A (j3_t a b c) (jt_r tu r j))
    (t1 : ∀ j, j < 3 → tu' ((r * 12 + p) * 3 + j) = j3_t a b c j) (t2 : ∀ k j, p ≤ k → k < S → j < 3 → tu' ((r * 12 + (k + 1)) * 3 + j) = tu ((r * 12 + k) * 3 + j))
    (t3 : ∀ j, (j < (r * 12 + p) * 3 ∨ (r * 12 + S) * 3 + 3 ≤ j) → tu' j = tu j)
    (d1 : ∀ j, j < 3 → da' ((r * 12 + S) * 3 + j) = j3_t a b c j) (d2 : ∀ j, (j < (r * 12 + S) * 3 ∨ (r * 12 + S) * 3 + 3 ≤ j) → da' j = da j) :
    jr_S1 w (nI A) (nI (S + 1)) tu' da' r := by
  have q1 : jl_eq A (jt_r tu' r p) (j3_t a b c) := fun q hq => t1 q (by omega)
  have q2 : ∀ k, p ≤ k → k < S → jl_eq A (jt_r tu' r (k + 1)) (jt_r tu r k) := fun k a1 a2 q hq => t2 k q a1 a2 (by omega)
  have q3 : ∀ k, k < p → jl_eq A (jt_r tu' r k) (jt_r tu r k) := fun k a1 q hq => t3 _ (by omega)
  have q4 : jl_eq A (jt_r da' r S) (j3_t a b c) := fun q hq => d1 q (by omega)
  have q5 : ∀ k, k < S → jl_eq A (jt_r da' r k) (jt_r da r k) := fun k a1 q hq => d2 _ (by omega)
  refine ⟨A, S + 1, rfl, h3, rfl, hw, fun z => by omega, fun j k g1 g2 => ?_, fun Q => ?_⟩
  · rcases Nat.lt_trichotomy k p with z | z | z
    · exact jl_cg (jl_es (q3 j (by omega))) (jl_es (q3 k z)) (so j k g1 (by omega))
    · subst z; exact jl_cg (jl_es (q3 j g1)) (jl_es q1) (lo j g1)
    · obtain ⟨k, rfl⟩ : ∃ m, k = m + 1 := ⟨k - 1, by omega⟩
      have qk := q2 k (by omega) (by omega)
      rcases Nat.lt_trichotomy j p with y | y | y
      · exact jl_cg (jl_es (q3 j y)) (jl_es qk) (so j k (by omega) (by omega))
      · subst y; exact jl_cg (jl_es q1) (jl_es qk) (hi k (by omega) (by omega))
      · obtain ⟨j, rfl⟩ : ∃ m, j = m + 1 := ⟨j - 1, by omega⟩
        exact jl_cg (jl_es (q2 j (by omega) (by omega))) (jl_es qk) (so j k (by omega) (by omega))
  · have x := jc_ins Q (fun k => jt_t A tu r k) (fun k => jt_t A tu' r k) p (fun j hj => ps_tt (q3 j hj)) (S - p) (fun j a1 a2 => ps_tt (q2 j a1 (by omega)))
    rw [show p + (S - p) = S from by omega] at x
    rw [x]
    show _ = jc_n (fun k => Q (jt_t A da' r k)) S + jc_b (Q (jt_t A da' r S))
    rw [cn Q, jc_eq (P := fun k => Q (jt_t A da' r k)) (Q := fun k => Q (jt_t A da r k)) (N := S) (fun k hk => by rw [ps_tt (q5 k hk)])]
    have e : jt_t A da' r S = jt_t A tu' r p := ps_tt (jl_et q4 (jl_es q1))
    rw [e]
theorem ps_rem {w p k l : Nat} {tu' da' : Nat → Int32} (h1 : 1 ≤ A) (h3 : A ≤ 3) (hS : S = l + 1) (hw : l ≤ w) (hp : p < S) (hk : k < S)
    (so : ∀ j k, j < k → k < S → jl_lt A (jt_r tu r j) (jt_r tu r k)) (cn : ∀ Q : (Nat → Int32) → Prop, jc_n (fun k => Q (jt_t A tu r k)) S = jc_n (fun k => Q (jt_t A da r k)) S)
    (e : jl_eq A (jt_r tu r p) (jt_r da r k))
    (t2 : ∀ k j, p ≤ k → k < l → j < 3 → tu' ((r * 12 + k) * 3 + j) = tu ((r * 12 + (k + 1)) * 3 + j))
    (t3 : ∀ j, (j < (r * 12 + p) * 3 ∨ (r * 12 + l) * 3 ≤ j) → tu' j = tu j)
    (d1 : ∀ j, j < 3 → da' ((r * 12 + k) * 3 + j) = da ((r * 12 + l) * 3 + j)) (d2 : ∀ j, (j < (r * 12 + k) * 3 ∨ (r * 12 + k) * 3 + 3 ≤ j) → da' j = da j) :
    jr_S1 w (nI A) (nI l) tu' da' r := by
  subst hS
  have q2 : ∀ k, p ≤ k → k < l → jl_eq A (jt_r tu' r k) (jt_r tu r (k + 1)) := fun k a1 a2 q hq => t2 k q a1 a2 (by omega)
  have q3 : ∀ k, k < p → jl_eq A (jt_r tu' r k) (jt_r tu r k) := fun k a1 q hq => t3 _ (by omega)
  have q4 : jl_eq A (jt_r da' r k) (jt_r da r l) := fun q hq => d1 q (by omega)
  have q5 : ∀ j, j ≠ k → jl_eq A (jt_r da' r j) (jt_r da r j) := fun j a1 q hq => d2 _ (by omega)
  refine ⟨A, l, rfl, h3, rfl, hw, fun z => by omega, fun j k g1 g2 => ?_, fun Q => ?_⟩
  · rcases Nat.lt_or_ge k p with z | z
    · exact jl_cg (jl_es (q3 j (by omega))) (jl_es (q3 k z)) (so j k g1 (by omega))
    · rcases Nat.lt_or_ge j p with y | y
      · exact jl_cg (jl_es (q3 j y)) (jl_es (q2 k z g2)) (so j (k + 1) (by omega) (by omega))
      · exact jl_cg (jl_es (q2 j y (by omega))) (jl_es (q2 k z g2)) (so (j + 1) (k + 1) (by omega) (by omega))
  · have x := jc_ins Q (fun k => jt_t A tu' r k) (fun k => jt_t A tu r k) p (fun j hj => (ps_tt (q3 j hj)).symm) (l - p) (fun j a1 a2 => (ps_tt (q2 j a1 (by omega))).symm)
    rw [show p + (l - p) = l from by omega, cn Q] at x
    have y : jc_n (fun k => Q (jt_t A da r k)) (l + 1) = jc_n (fun k => Q (jt_t A da r k)) l + jc_b (Q (jt_t A da r l)) := rfl
    rw [y] at x
    have ek : jt_t A tu r p = jt_t A da r k := ps_tt e
    have v : jc_n (fun x => Q (jt_t A da' r x)) l + jc_b (Q (jt_t A da r k)) = jc_n (fun x => Q (jt_t A da r x)) l + jc_b (Q (jt_t A da r l)) := by
      rcases Nat.lt_or_ge k l with z | z
      · have u := jc_upd (P := fun x => Q (jt_t A da r x)) (P' := fun x => Q (jt_t A da' r x)) z (fun x _ hx => by rw [ps_tt (q5 x hx)])
        have e4 : jt_t A da' r k = jt_t A da r l := ps_tt q4
        simp only [e4] at u
        exact u
      · have : k = l := by omega
        subst this
        rw [jc_eq (P := fun x => Q (jt_t A da' r x)) (Q := fun x => Q (jt_t A da r x)) (N := k) (fun x hx => by rw [ps_tt (q5 x (by omega))])]
    simp only [ek] at x
    omega
end PS
theorem ps_other {w : Nat} {x y : Int32} {tu da tu' da' : Nat → Int32} {r : Nat} (hw : w ≤ 12) (h : jr_S1 w x y tu da r) (e1 : ∀ j, r * 36 ≤ j → j < r * 36 + 36 → tu' j = tu j) (e2 : ∀ j, r * 36 ≤ j → j < r * 36 + 36 → da' j = da j) :
    jr_S1 w x y tu' da' r := by
  obtain ⟨A, S, h1, h2, h3, h4, h5, so, cn⟩ := h
  have q1 : ∀ k, k < S → jl_eq A (jt_r tu r k) (jt_r tu' r k) := fun k a1 q hq => (e1 _ (by omega) (by omega)).symm
  have q2 : ∀ k, k < S → jl_eq A (jt_r da r k) (jt_r da' r k) := fun k a1 q hq => (e2 _ (by omega) (by omega)).symm
  refine ⟨A, S, h1, h2, h3, h4, h5, fun j k g1 g2 => jl_cg (q1 j (by omega)) (q1 k g2) (so j k g1 g2), fun Q => ?_⟩
  rw [← jc_eq (P := fun k => Q (jt_t A tu r k)) (Q := fun k => Q (jt_t A tu' r k)) (N := S) (fun k hk => by rw [ps_tt (q1 k hk)]), ← jc_eq (P := fun k => Q (jt_t A da r k)) (Q := fun k => Q (jt_t A da' r k)) (N := S) (fun k hk => by rw [ps_tt (q2 k hk)])]
  exact cn Q
theorem ps_Dr {vl al ac : Int32} {ra ra' ar tn ti tv pl : Nat → Int32} {tm : Nat → Int64} (h : jr_Dr vl al ac ra ar tn ti tv pl tm) (e : ∀ r, r < 4 → ra r ≠ 0 → ra' r = ra r) :
    jr_Dr vl al ac ra' ar tn ti tv pl tm := by
  obtain ⟨v, a, n, h1, h2, h3, h4, h5, h6, h7, h8, h9, h10⟩ := h
  refine ⟨v, a, n, h1, h2, h3, h4, h5, h6, h7, h8, fun i hi => ?_, h10⟩
  obtain ⟨r, t, A, k1, k2, k3, k4, k5, k6, k7⟩ := h9 i hi
  exact ⟨r, t, A, k1, k2, k3, (e r k2 (by rw [k4]; exact nI_ne0 (by omega) (by omega))).trans k4, k5, k6, k7⟩
theorem ps_Cu {cs wd tc sa : Int32} {ra ra' cv re tr td tt tk dp py pc r0 r1 cz cd cr : Nat → Int32} {ct : Nat → Int64} {co om oc ve : Nat → Int32}
    (h : jr_Cu cs wd tc sa ra cv re tr td tt tk dp py pc r0 r1 cz cd cr ct co om oc ve) (e : ∀ r, r < 4 → ra r ≠ 0 → ra' r = ra r) :
    jr_Cu cs wd tc sa ra' cv re tr td tt tk dp py pc r0 r1 cz cd cr ct co om oc ve := by
  rcases h with h | ⟨h, n, w, R, D, C, P, L, A, S, ρ, N, g1, g2, g3, g4, g5, g6⟩
  · exact Or.inl h
  · refine Or.inr ⟨h, n, w, R, D, C, P, L, A, S, ρ, N, g1, g2, g3, g4, ⟨fun i hi => ?_, g5.2⟩, g6⟩
    obtain ⟨k1, k2, k3, k4, k5⟩ := g5.1 i hi
    exact ⟨k1, k2, (e _ k2 (by rw [k3]; exact nI_ne0 (by omega) (by omega))).trans k3, k4, k5⟩
theorem jn_nn {l : Nat} {v : Int32} (h : nI l ≤ v) (hl : l < 2 ^ 31) : ¬ v < 0 ∧ ¬ v < nI l := by
  have h' := ji_le.mp h
  rw [nI_toInt hl] at h'
  refine ⟨fun z => ?_, fun z => ?_⟩
  · have z' := ji_lt.mp z
    rw [show (0 : Int32).toInt = 0 from by decide] at z'
    omega
  · have z' := ji_lt.mp z
    rw [nI_toInt hl] at z'
    omega
theorem jn_r {v : Int32} {b : Nat} {B : Int32} (hB : B = nI b) (hb : b < 2 ^ 31) (h1 : ¬ v < 0) (h2 : v ≤ B) : ∃ q, q ≤ b ∧ v = nI q := by
  obtain ⟨j, hj, rfl⟩ := nI_of h1
  subst hB
  exact ⟨j, (nI_leI hj hb).mp h2, rfl⟩
end
section
/-! the store's methods -/
section OS
variable {uRl uRw uVl uAl uAc uCs uWd uTc uSa uBl uBs : Int32} {uRA uRS uTu uAR uTn uTi uTv uPl uCv uRe uTr uTd uTt uTk uTs uDp uPy uPc uR0 uR1 uPo uCa : Nat → Int32} {uMi : Nat → Int64} {uTg uTa : Nat → Int32} {vDa : Nat → Int32} {vTm : Nat → Int64} {vCz vCd vCr : Nat → Int32} {vCt : Nat → Int64} {vCo vDo vDc vVe : Nat → Int32} {vRl vRw vVl vAl vAc vCa vWd vSt : Int32} {vAy vSz vDa vRe vTs : Nat → Int32} {vTm : Nat → Int64} {vPl vCz vCd vCr : Nat → Int32} {vCt : Nat → Int64} {vCo vDo vDc vVe : Nat → Int32}
theorem os_dx0 {post : Int32 → Prop} {v1 : Int32} {l : Nat} (hl : l ≤ 4) (H : v1 < 0 ∨ nI l ≤ v1 ∨ ∃ r, r < l ∧ v1 = nI r ∧ uRA r = nI 0) (K : post 0) : wpX_isDeclared post (nI l, uRw, uVl, uAl, uAc, uCs, uWd, uTc, uSa, uBl, uBs, uRA, uRS, uTu, uAR, uTn, uTi, uTv, uPl, uCv, uRe, uTr, uTd, uTt, uTk, uTs, uDp, uPy, uPc, uR0, uR1, uPo, uCa, uMi, uTg, uTa) v1 := by
  rcases H with h | h | ⟨r, hr, rfl, hz⟩
  · exact br_t h K
  · exact br_f (jn_nn h (by omega)).1 (br_t h K)
  · exact br_f (nI_pos (by omega)) (br_f (nI_ge hr (by omega)) ⟨vp_in_nI (by omega) (by omega), br_t (by rw [jn_c (by omega), hz]; rfl) K⟩)
theorem os_dx1 {post : Int32 → Prop} {r l A : Nat} (hr : r < l) (hl : l ≤ 4) (hA : uRA r = nI A) (h1 : 1 ≤ A) (h3 : A ≤ 3) (K : post 1) : wpX_isDeclared post (nI l, uRw, uVl, uAl, uAc, uCs, uWd, uTc, uSa, uBl, uBs, uRA, uRS, uTu, uAR, uTn, uTi, uTv, uPl, uCv, uRe, uTr, uTd, uTt, uTk, uTs, uDp, uPy, uPc, uR0, uR1, uPo, uCa, uMi, uTg, uTa) (nI r) :=
  br_f (nI_pos (by omega)) (br_f (nI_ge hr (by omega)) ⟨vp_in_nI (by omega) (by omega), br_f (by rw [jn_c (by omega), hA]; exact nI_ne0 (by omega) (by omega)) K⟩)
theorem os_dy0 {post : Int32 → Prop} {v1 : Int32} {l : Nat} (hl : l ≤ 4) (H : v1 < 0 ∨ nI l ≤ v1 ∨ ∃ r, r < l ∧ v1 = nI r ∧ vAy r = nI 0) (K : post 0) : wpY_declared post (nI l, vRw, vVl, vAl, vAc, vCa, vWd, vSt, vAy, vSz, vDa, vRe, vTs, vTm, vPl, vCz, vCd, vCr, vCt, vCo, vDo, vDc, vVe) v1 := by
  rcases H with h | h | ⟨r, hr, rfl, hz⟩
  · exact br_t h K
  · exact br_f (jn_nn h (by omega)).1 (br_t h K)
  · exact br_f (nI_pos (by omega)) (br_f (nI_ge hr (by omega)) ⟨vp_in_nI (by omega) (by omega), br_t (by rw [jn_c (by omega), hz]; decide) K⟩)
theorem os_dy1 {post : Int32 → Prop} {r l A : Nat} (hr : r < l) (hl : l ≤ 4) (hA : vAy r = nI A) (h1 : 1 ≤ A) (h3 : A ≤ 3) (K : post 1) : wpY_declared post (nI l, vRw, vVl, vAl, vAc, vCa, vWd, vSt, vAy, vSz, vDa, vRe, vTs, vTm, vPl, vCz, vCd, vCr, vCt, vCo, vDo, vDc, vVe) (nI r) :=
  br_f (nI_pos (by omega)) (br_f (nI_ge hr (by omega)) ⟨vp_in_nI (by omega) (by omega), br_f (by rw [jn_c (by omega), hA]; exact nI_nle (by omega) (by omega)) K⟩)
/-- which relation a call means -/
theorem os_cs {l w : Nat} (v1 : Int32) (hl : l ≤ 4) (hS : ∀ r, r < 4 → jr_S1 w (uRA r) (uRS r) uTu vDa r) :
    (v1 < 0 ∨ nI l ≤ v1 ∨ ∃ r, r < l ∧ v1 = nI r ∧ uRA r = nI 0) ∨ (∃ r A S, r < l ∧ v1 = nI r ∧ uRA r = nI A ∧ 1 ≤ A ∧ A ≤ 3 ∧ uRS r = nI S ∧ S ≤ w ∧
      (∀ j k, j < k → k < S → jl_lt A (jt_r uTu r j) (jt_r uTu r k)) ∧
      (∀ Q : (Nat → Int32) → Prop, jc_n (fun k => Q (jt_t A uTu r k)) S = jc_n (fun k => Q (jt_t A vDa r k)) S)) := by
  rcases pk_ix v1 (n := l) (by omega) with h | h | ⟨r, hr, rfl⟩
  · exact Or.inl (Or.inl h)
  · exact Or.inl (Or.inr (Or.inl h))
  · obtain ⟨A, S, h1, h2, h3, h4, h5, so, cn⟩ := hS r (by omega)
    rcases Nat.lt_or_ge A 1 with z | z
    · have : A = 0 := by omega
      subst this
      exact Or.inl (Or.inr (Or.inr ⟨r, hr, rfl, h1⟩))
    · exact Or.inr ⟨r, A, S, hr, rfl, h1, z, h2, h3, h4, so, cn⟩
end OS
theorem i_vc_declare {k : Nat} {u : SX} {v : SY} (I : i_Rel k u v) (hk : k + 5 ≤ 2564) (v1 : Int32) (v2 : Int32) : wpX_declare (fun r u' => wpY_declare (fun r' v' => r' = r ∧ i_Rel (k + 5) u' v') v v1 v2) u v1 v2 := by
  refine zz_el (P := fun u v => wpX_declare (fun r u' => wpY_declare (fun r' v' => r' = r ∧ i_Rel (k + 5) u' v') v v1 v2) u v1 v2) ?_ I
  intro uRl uRw uVl uAl uAc uCs uWd uTc uSa uBl uBs uRA uRS uTu uAR uTn uTi uTv uPl uCv uRe uTr uTd uTt uTk uTs uDp uPy uPc uR0 uR1 uPo uCa uMi uTg uTa vDa vTm vCz vCd vCr vCt vCo vDo vDc vVe a b c
  have a' := a
  obtain ⟨l, w, rfl, l1, l4, rfl, w1, w12, hS⟩ := a
  rcases pk_ix v1 (n := l) (by omega) with h | h | ⟨r, hr, rfl⟩
  · exact br_t h (br_t h ⟨rfl, zz_in a' b c⟩)
  · have := jn_nn h (by omega)
    exact br_f this.1 (br_f this.2 (br_f this.1 (br_f this.2 ⟨rfl, zz_in a' b c⟩)))
  · obtain ⟨A, S, h1, h2, h3, h4, h5, so, cn⟩ := hS r (by omega)
    have p : ¬ nI r < 0 := nI_pos (by omega)
    have q : nI r < nI l := nI_lt hr (by omega)
    have ir : vp_in (nI r) 4 := vp_in_nI (by omega) (by omega)
    have cr : (nI r).toNatClampNeg = r := jn_c (by omega)
    rcases Nat.lt_or_ge A 1 with z | z
    · have : A = 0 := by omega
      subst this
      have zS : S = 0 := h5 rfl
      subst zS
      have z1 : uRA (nI r).toNatClampNeg = 0 := by rw [cr, h1]; rfl
      have z2 : uRA (nI r).toNatClampNeg ≤ 0 := by rw [z1]; decide
      by_cases y : v2 < 1
      · exact br_f p (br_t q ⟨ir, br_t z1 (br_t y (br_f p (br_t q ⟨ir, br_t z2 (br_t y ⟨rfl, zz_in a' b c⟩)⟩)))⟩)
      · by_cases x : v2 ≤ 3
        · obtain ⟨g, hg, rfl⟩ : ∃ g, g ≤ 3 ∧ v2 = nI g := jn_r (b := 3) rfl (by omega) (fun t => y (ji_lt.mpr (by have := ji_lt.mp t; rw [show (0 : Int32).toInt = 0 from by decide] at this; rw [show (1 : Int32).toInt = 1 from by decide]; omega))) x
          have hg1 : 1 ≤ g := by
            rcases Nat.lt_or_ge g 1 with t | t
            · have : g = 0 := by omega
              subst this; exact absurd (by decide) y
            · exact t
          have eu : upd uRS r 0 = uRS := by
            funext j
            by_cases t : j = r
            · subst t; rw [pk_us, h3]; rfl
            · rw [pk_un t]
          have en : ∀ r', r' < 4 → uRA r' ≠ 0 → upd uRA r (nI g) r' = uRA r' := fun r' _ t => pk_un fun e => t (by rw [e, h1]; rfl)
          refine br_f p (br_t q ⟨ir, br_t z1 (br_f y (br_t x ⟨ir, nm_r (e' := upd uRA r (nI g)) (by rw [cr]) ⟨ir, nm_r (e' := uRS) (by rw [cr]; exact eu) (br_f p (br_t q ⟨ir, br_t z2 (br_f y (br_t x ⟨ir, nm_r (e' := upd uRA r (nI g)) (by rw [cr]) ⟨rfl, zz_in ?_ (ps_Dr b en) (ps_Cu c en)⟩⟩))⟩))⟩⟩))⟩)
          refine ⟨l, w, rfl, l1, l4, rfl, w1, w12, fun r' hr' => ?_⟩
          by_cases t : r' = r
          · subst t
            rw [pk_us]
            exact ⟨g, 0, rfl, hg, h3, by omega, fun _ => rfl, fun j k _ e => absurd e (by omega), fun Q => rfl⟩
          · rw [pk_un t]; exact hS r' hr'
        · exact br_f p (br_t q ⟨ir, br_t z1 (br_f y (br_f x (br_f p (br_t q ⟨ir, br_t z2 (br_f y (br_f x ⟨rfl, zz_in a' b c⟩))⟩))))⟩)
    · have z1 : ¬ uRA (nI r).toNatClampNeg = 0 := by rw [cr, h1]; exact nI_ne0 (by omega) (by omega)
      have z2 : ¬ uRA (nI r).toNatClampNeg ≤ 0 := by rw [cr, h1]; exact nI_nle (by omega) (by omega)
      exact br_f p (br_t q ⟨ir, br_f z1 ⟨ir, br_f p (br_t q ⟨ir, br_f z2 ⟨ir, rfl, zz_in a' b c⟩⟩)⟩⟩)
theorem i_vc_size {k : Nat} {u : SX} {v : SY} (I : i_Rel k u v) (hk : k + 5 ≤ 2564) (v1 : Int32) : wpX_size (fun r => wpY_size (fun r' => r' = r ∧ i_Rel (k + 5) u v) v v1) u v1 := by
  refine zz_el (P := fun u v => wpX_size (fun r => wpY_size (fun r' => r' = r ∧ i_Rel (k + 5) u v) v v1) u v1) ?_ I
  intro uRl uRw uVl uAl uAc uCs uWd uTc uSa uBl uBs uRA uRS uTu uAR uTn uTi uTv uPl uCv uRe uTr uTd uTt uTk uTs uDp uPy uPc uR0 uR1 uPo uCa uMi uTg uTa vDa vTm vCz vCd vCr vCt vCo vDo vDc vVe a b c
  have a' := a
  obtain ⟨l, w, rfl, l1, l4, rfl, w1, w12, hS⟩ := a
  unfold wpX_size wpY_size
  rcases os_cs v1 l4 hS with h | ⟨r, A, S, hr, rfl, h1, h2, h3, h4, h5, so, cn⟩
  · exact os_dx0 l4 h (br_t rfl (os_dy0 l4 h (br_t rfl ⟨rfl, zz_in a' b c⟩)))
  · have ir : vp_in (nI r) 4 := vp_in_nI (by omega) (by omega)
    exact os_dx1 hr l4 h1 h2 h3 (br_f (by decide) ⟨ir, os_dy1 hr l4 h1 h2 h3 (br_f (by decide) ⟨ir, rfl, zz_in a' b c⟩)⟩)
theorem i_vc_add {k : Nat} {u : SX} {v : SY} (I : i_Rel k u v) (hk : k + 5 ≤ 2564) (v1 : Int32) (v2 : Int32) (v3 : Int32) (v4 : Int32) : wpX_add (fun r u' => wpY_add (fun r' v' => r' = r ∧ i_Rel (k + 5) u' v') v v1 v2 v3 v4) u v1 v2 v3 v4 := by
  refine zz_el (P := fun u v => wpX_add (fun r u' => wpY_add (fun r' v' => r' = r ∧ i_Rel (k + 5) u' v') v v1 v2 v3 v4) u v1 v2 v3 v4) ?_ I
  intro uRl uRw uVl uAl uAc uCs uWd uTc uSa uBl uBs uRA uRS uTu uAR uTn uTi uTv uPl uCv uRe uTr uTd uTt uTk uTs uDp uPy uPc uR0 uR1 uPo uCa uMi uTg uTa vDa vTm vCz vCd vCr vCt vCo vDo vDc vVe a b c
  have a' := a
  obtain ⟨l, w, rfl, l1, l4, rfl, w1, w12, hS⟩ := a
  unfold wpX_add wpY_add
  rcases os_cs v1 l4 hS with h | ⟨r, A, S, hr, rfl, h1, h2, h3, h4, h5, so, cn⟩
  · exact os_dx0 l4 h (br_t rfl (os_dy0 l4 h (br_t rfl ⟨rfl, zz_in a' b c⟩)))
  · have ir : vp_in (nI r) 4 := vp_in_nI (by omega) (by omega)
    have cr : (nI r).toNatClampNeg = r := jn_c (by omega)
    refine os_dx1 hr l4 h1 h2 h3 (br_f (by decide) (xs_place (by omega) (by omega) h1 h4 h2 h3 so fun p hp g1 g2 => ?_))
    refine xs_at (by omega) (by omega) h1 h4 h2 h3 hp (fun y1 y2 => ?_) (fun y => ?_)
    · refine br_f (by decide) (os_dy1 hr l4 h1 h2 h3 (br_f (by decide) (ys_row (by omega) (by omega) h1 h4 h2 h3 (fun k' x1 x2 => ?_) (fun x => ?_))))
      · exact br_f (nI_pos (by omega)) ⟨rfl, zz_in a' b c⟩
      · obtain ⟨k', x1, x2⟩ := (ps_mem cn).mp ⟨p, y1, y2⟩
        exact absurd x2 (x k' x1)
    · have hi : ∀ j, p ≤ j → j < S → jl_lt A (j3_t v2 v3 v4) (jt_r uTu r j) := by
        intro j j1 j2
        have hp' : jl_lt A (j3_t v2 v3 v4) (jt_r uTu r p) := by
          rcases jl_tri (jt_r uTu r p) (j3_t v2 v3 v4) A with t | t | t
          · exact absurd t (y (by omega))
          · exact absurd t (g2 p (Nat.le_refl _) (by omega))
          · exact t
        rcases Nat.lt_or_ge p j with t | t
        · exact jl_trans hp' (so p j t j2)
        · have : j = p := by omega
          subst this; exact hp'
      have hno : ∀ k', k' < S → ¬ jl_eq A (jt_r vDa r k') (j3_t v2 v3 v4) := fun k' x1 x2 => by
        obtain ⟨j, z1, z2⟩ := (ps_mem cn).mpr ⟨k', x1, x2⟩
        rcases Nat.lt_or_ge j p with t | t
        · exact jl_irr z2 (g1 j t)
        · exact jl_irr (jl_es z2) (hi j t z1)
      have eS : uRS (nI r).toNatClampNeg = nI S := by rw [cr]; exact h4
      refine br_t rfl ⟨ir, ?_⟩
      rw [eS]
      refine pk_lt S w (fun t => ⟨ir, nm_e ⟨S - p + 1, ?_⟩⟩) (fun t => ?_)
      · refine xs_ad (by omega) (by omega) h4 hp ?_
        · intro tu t1 t2 t3
          refine os_dy1 hr l4 h1 h2 h3 (br_f (by decide) (ys_row (by omega) (by omega) h1 h4 h2 h3 (fun k' x1 x2 => absurd x2 (hno k' x1)) (fun x => ?_)))
          refine br_t (by decide) ⟨ir, ?_⟩
          rw [eS]
          have e0 : (nI ((r * 12 + S) * 3)).toNatClampNeg = (r * 12 + S) * 3 := jn_c (by omega)
          have e1 : (nI ((r * 12 + S) * 3) + 1).toNatClampNeg = (r * 12 + S) * 3 + 1 := by rw [nI_1]; exact jn_c (by omega)
          have e2 : (nI ((r * 12 + S) * 3) + 2).toNatClampNeg = (r * 12 + S) * 3 + 2 := by rw [jx_2]; exact jn_c (by omega)
          have i0 : vp_in (nI ((r * 12 + S) * 3)) 144 := vp_in_nI (by omega) (by omega)
          have i1 : vp_in (nI ((r * 12 + S) * 3) + 1) 144 := by rw [nI_1]; exact vp_in_nI (by omega) (by omega)
          have i2 : vp_in (nI ((r * 12 + S) * 3) + 2) 144 := by rw [jx_2]; exact vp_in_nI (by omega) (by omega)
          refine br_t (nI_lt t (by omega)) ⟨ir, nm_r (jx_b r S) ⟨i0, nm_r (e' := upd vDa ((r * 12 + S) * 3) v2) (by rw [e0]) ⟨i1, nm_r (e' := upd (upd vDa ((r * 12 + S) * 3) v2) ((r * 12 + S) * 3 + 1) v3) (by rw [e1]) ⟨i2, nm_r (e' := upd (upd (upd vDa ((r * 12 + S) * 3) v2) ((r * 12 + S) * 3 + 1) v3) ((r * 12 + S) * 3 + 2) v4) (by rw [e2]) ⟨ir, ir, nm_r (e' := upd uRS r (nI (S + 1))) (by rw [cr, nI_1]) ⟨rfl, zz_in ?_ b c⟩⟩⟩⟩⟩⟩
          refine ⟨l, w, rfl, l1, l4, rfl, w1, w12, fun r' hr' => ?_⟩
          by_cases tr : r' = r
          · subst tr
            rw [pk_us, h1]
            refine ps_add h2 h3 t hp so cn g1 hi t1 t2 t3 (fun j hj => ?_) (fun j hj => ?_)
            · rcases (by omega : j = 0 ∨ j = 1 ∨ j = 2) with rfl | rfl | rfl
              · rw [pk_un (by omega), pk_un (by omega)]; exact pk_us
              · rw [pk_un (by omega), pk_us]; rfl
              · rw [pk_us]; rfl
            · rw [pk_un (by omega), pk_un (by omega), pk_un (by omega)]
          · rw [pk_un tr]
            refine ps_other w12 (hS r' hr') (fun j j1 j2 => t3 j (by omega)) (fun j j1 j2 => ?_)
            rw [pk_un (by omega), pk_un (by omega), pk_un (by omega)]
      · refine os_dy1 hr l4 h1 h2 h3 (br_f (by decide) (ys_row (by omega) (by omega) h1 h4 h2 h3 (fun k' x1 x2 => absurd x2 (hno k' x1)) (fun x => ?_)))
        refine br_t (by decide) ⟨ir, ?_⟩
        rw [eS]
        exact br_f (nI_nlt t (by omega)) ⟨rfl, zz_in a' b c⟩
theorem i_vc_remove {k : Nat} {u : SX} {v : SY} (I : i_Rel k u v) (hk : k + 5 ≤ 2564) (v1 : Int32) (v2 : Int32) (v3 : Int32) (v4 : Int32) : wpX_remove (fun r u' => wpY_remove (fun r' v' => r' = r ∧ i_Rel (k + 5) u' v') v v1 v2 v3 v4) u v1 v2 v3 v4 := by
  refine zz_el (P := fun u v => wpX_remove (fun r u' => wpY_remove (fun r' v' => r' = r ∧ i_Rel (k + 5) u' v') v v1 v2 v3 v4) u v1 v2 v3 v4) ?_ I
  intro uRl uRw uVl uAl uAc uCs uWd uTc uSa uBl uBs uRA uRS uTu uAR uTn uTi uTv uPl uCv uRe uTr uTd uTt uTk uTs uDp uPy uPc uR0 uR1 uPo uCa uMi uTg uTa vDa vTm vCz vCd vCr vCt vCo vDo vDc vVe a b c
  have a' := a
  obtain ⟨l, w, rfl, l1, l4, rfl, w1, w12, hS⟩ := a
  unfold wpX_remove wpY_remove
  rcases os_cs v1 l4 hS with h | ⟨r, A, S, hr, rfl, h1, h2, h3, h4, h5, so, cn⟩
  · exact os_dx0 l4 h (br_t rfl (os_dy0 l4 h (br_t rfl ⟨rfl, zz_in a' b c⟩)))
  · have ir : vp_in (nI r) 4 := vp_in_nI (by omega) (by omega)
    have cr : (nI r).toNatClampNeg = r := jn_c (by omega)
    have eS : uRS (nI r).toNatClampNeg = nI S := by rw [cr]; exact h4
    refine os_dx1 hr l4 h1 h2 h3 (br_f (by decide) (xs_place (by omega) (by omega) h1 h4 h2 h3 so fun p hp g1 g2 => ?_))
    refine xs_at (by omega) (by omega) h1 h4 h2 h3 hp (fun y1 y2 => ?_) (fun y => ?_)
    · obtain ⟨s, rfl⟩ : ∃ s, S = s + 1 := ⟨S - 1, by omega⟩
      refine br_f (by decide) ⟨ir, nm_r (e' := nI s) (by rw [eS, nI_pred]) ⟨s - p + 1, xs_rl (by omega) (by omega) ?_ (s - p) (s - p + 1) p uTu (Nat.le_refl _) (by omega) (by omega) (fun k j x1 x2 => absurd x1 (by omega)) (fun _ _ => rfl)⟩⟩
      intro tu t2 t3
      refine os_dy1 hr l4 h1 h2 h3 (br_f (by decide) (ys_row (by omega) (by omega) h1 h4 h2 h3 (fun k' x1 x2 => ?_) (fun x => ?_)))
      · refine br_t (nI_pos' (by omega)) ⟨ir, ir, nm_r (e' := upd uRS r (nI s)) (by rw [cr, h4, nI_pred]) ⟨4, ys_rm (by omega) (by omega) (by omega) pk_us ?_ 3 4 0 vDa rfl (by omega) (fun j hj => absurd hj (by omega)) (fun _ _ => rfl)⟩⟩
        intro da d1 d2
        refine ⟨rfl, zz_in ?_ b c⟩
        refine ⟨l, w, rfl, l1, l4, rfl, w1, w12, fun r' hr' => ?_⟩
        by_cases tr : r' = r
        · subst tr
          rw [pk_us, h1]
          exact ps_rem h2 h3 rfl (by omega) y1 x1 so cn (jl_et y2 (jl_es x2)) t2 t3 d1 d2
        · rw [pk_un tr]
          exact ps_other w12 (hS r' hr') (fun j j1 j2 => t3 j (by omega)) (fun j j1 j2 => d2 j (by omega))
      · obtain ⟨k', x1, x2⟩ := (ps_mem cn).mp ⟨p, y1, y2⟩
        exact absurd x2 (x k' x1)
    · have hno : ∀ k', k' < S → ¬ jl_eq A (jt_r vDa r k') (j3_t v2 v3 v4) := fun k' x1 x2 => by
        obtain ⟨j, z1, z2⟩ := (ps_mem cn).mpr ⟨k', x1, x2⟩
        rcases Nat.lt_trichotomy j p with t | t | t
        · exact jl_irr z2 (g1 j t)
        · subst t; exact y z1 z2
        · exact g2 p (Nat.le_refl _) (by omega) (jl_cg (jl_er _ _) z2 (so p j t z1))
      refine br_t rfl (os_dy1 hr l4 h1 h2 h3 (br_f (by decide) (ys_row (by omega) (by omega) h1 h4 h2 h3 (fun k' x1 x2 => absurd x2 (hno k' x1)) (fun x => ?_))))
      exact br_f (by decide) ⟨rfl, zz_in a' b c⟩
theorem i_vc_cell {k : Nat} {u : SX} {v : SY} (I : i_Rel k u v) (hk : k + 5 ≤ 2564) (v1 : Int32) (v2 : Int32) (v3 : Int32) : wpX_cell (fun r => wpY_cell (fun r' => r' = r ∧ i_Rel (k + 5) u v) v v1 v2 v3) u v1 v2 v3 := by
  refine zz_el (P := fun u v => wpX_cell (fun r => wpY_cell (fun r' => r' = r ∧ i_Rel (k + 5) u v) v v1 v2 v3) u v1 v2 v3) ?_ I
  intro uRl uRw uVl uAl uAc uCs uWd uTc uSa uBl uBs uRA uRS uTu uAR uTn uTi uTv uPl uCv uRe uTr uTd uTt uTk uTs uDp uPy uPc uR0 uR1 uPo uCa uMi uTg uTa vDa vTm vCz vCd vCr vCt vCo vDo vDc vVe a b c
  have a' := a
  obtain ⟨l, w, rfl, l1, l4, rfl, w1, w12, hS⟩ := a
  unfold wpX_cell wpY_cell
  rcases os_cs v1 l4 hS with h | ⟨r, A, S, hr, rfl, h1, h2, h3, h4, h5, so, cn⟩
  · exact os_dx0 l4 h (br_t rfl (os_dy0 l4 h (br_t rfl ⟨rfl, zz_in a' b c⟩)))
  · have ir : vp_in (nI r) 4 := vp_in_nI (by omega) (by omega)
    have cr : (nI r).toNatClampNeg = r := jn_c (by omega)
    have eS : uRS (nI r).toNatClampNeg = nI S := by rw [cr]; exact h4
    have eA : uRA (nI r).toNatClampNeg = nI A := by rw [cr]; exact h1
    refine os_dx1 hr l4 h1 h2 h3 (br_f (by decide) ?_)
    rcases pk_ix v2 (n := S) (by omega) with g | g | ⟨m, hm, rfl⟩
    · exact br_t g (os_dy1 hr l4 h1 h2 h3 (br_f (by decide) (br_t g ⟨rfl, zz_in a' b c⟩)))
    · have g' := jn_nn g (by omega)
      rw [← eS] at g g'
      exact br_f g'.1 ⟨ir, br_f g'.2 (os_dy1 hr l4 h1 h2 h3 (br_f (by decide) (br_f g'.1 ⟨ir, br_t g ⟨rfl, zz_in a' b c⟩⟩)))⟩
    · have m0 : ¬ nI m < 0 := nI_pos (by omega)
      have m1 : nI m < uRS (nI r).toNatClampNeg := by rw [eS]; exact nI_lt hm (by omega)
      have m2 : ¬ uRS (nI r).toNatClampNeg ≤ nI m := by rw [eS]; exact nI_ge hm (by omega)
      rcases pk_ix v3 (n := A) (by omega) with g | g | ⟨j, hj, rfl⟩
      · exact br_f m0 ⟨ir, br_t m1 (br_t g (os_dy1 hr l4 h1 h2 h3 (br_f (by decide) (br_f m0 ⟨ir, br_f m2 (br_t g ⟨rfl, zz_in a' b c⟩)⟩))))⟩
      · have g' := jn_nn g (by omega)
        rw [← eA] at g'
        exact br_f m0 ⟨ir, br_t m1 (br_f g'.1 ⟨ir, br_f g'.2 (os_dy1 hr l4 h1 h2 h3 (br_f (by decide) (br_f m0 ⟨ir, br_f m2 (br_f g'.1 ⟨ir, br_f g'.2 ⟨rfl, zz_in a' b c⟩⟩)⟩)))⟩)⟩
      · have j0 : ¬ nI j < 0 := nI_pos (by omega)
        have j1 : nI j < uRA (nI r).toNatClampNeg := by rw [eA]; exact nI_lt hj (by omega)
        refine br_f m0 ⟨ir, br_t m1 (br_f j0 ⟨ir, br_t j1 ?_⟩)⟩
        have e9 : (nI ((r * 12 + m) * 3 + j)).toNatClampNeg = (r * 12 + m) * 3 + j := jn_c (by omega)
        rw [jx_c, e9]
        refine ⟨vp_in_nI (by omega) (by omega), os_dy1 hr l4 h1 h2 h3 (br_f (by decide) (br_f m0 ⟨ir, br_f m2 (br_f j0 ⟨ir, br_t j1 ⟨S + 1, ys_c47 (by omega) (by omega) hm h1 h4 h3 (by omega) (fun m' x1 x2 => ⟨?_, zz_in a' b c⟩) S (S + 1) 0 (by omega) (by omega) ?_⟩⟩)⟩))⟩
        · obtain ⟨m', z1, z2⟩ := (ps_mem cn).mp ⟨m, hm, jl_er _ _⟩
          exact ⟨m', by omega, z1, ps_rank so cn hm z2⟩
        · obtain ⟨k', z1, z2⟩ := (ps_mem cn).mpr ⟨m', x1, jl_er _ _⟩
          have e := ps_rank so cn z1 (jl_es z2)
          have : k' = m := e.symm.trans x2
          subst this
          exact congrArg Int32.toInt64 (z2 j hj).symm
end
section
/-! the draft -/
def dr_fin (n : Nat) (ra ar tn : Nat → Int32) : Prop := ∀ i, i < n → ∃ r A, ar i = nI r ∧ r < 4 ∧ tn i = nI A ∧ ra r = nI A ∧ 1 ≤ A ∧ A ≤ 3
def dr_unf (n : Nat) (ra ar tn : Nat → Int32) : Prop := ∃ m r t A, n = m + 1 ∧ ar m = nI r ∧ r < 4 ∧ tn m = nI t ∧ ra r = nI A ∧ A ≤ 3 ∧ t < A
theorem dr_cs {n : Nat} {ra ar tn : Nat → Int32} (h : ∀ i, i < n → jr_A1 ra (ar i) (tn i) (i + 1 = n)) : dr_fin n ra ar tn ∨ dr_unf n ra ar tn := by
  rcases Classical.em (dr_unf n ra ar tn) with z | z
  · exact Or.inr z
  · refine Or.inl fun i hi => ?_
    obtain ⟨r, t, A, k1, k2, k3, k4, k5, k6, k7, k8⟩ := h i hi
    have : t = A := by
      by_cases e : i + 1 = n
      · rcases Nat.lt_or_ge t A with y | y
        · exact absurd ⟨i, r, t, A, e.symm, k1, k2, k3, k4, k6, y⟩ z
        · omega
      · exact k8 e
    subst this
    exact ⟨r, t, k1, k2, k3, k4, k5, k6⟩
section DR
variable {uRl uRw uVl uAl uAc uCs uWd uTc uSa uBl uBs : Int32} {uRA uRS uTu uAR uTn uTi uTv uPl uCv uRe uTr uTd uTt uTk uTs uDp uPy uPc uR0 uR1 uPo uCa : Nat → Int32} {uMi : Nat → Int64} {uTg uTa : Nat → Int32} {vRl vRw vVl vAl vAc vCa vWd vSt : Int32} {vAy vSz vDa vRe vTs : Nat → Int32} {vTm : Nat → Int64} {vPl vCz vCd vCr : Nat → Int32} {vCt : Nat → Int64} {vCo vDo vDc vVe : Nat → Int32}
theorem dr_x0 {post : Int32 → Prop} {n : Nat} (hn : n ≤ 5) (h : dr_fin n uRA uAR uTn) (K : post 0) : wpX_hasUnfinished post (uRl, uRw, uVl, uAl, nI n, uCs, uWd, uTc, uSa, uBl, uBs, uRA, uRS, uTu, uAR, uTn, uTi, uTv, uPl, uCv, uRe, uTr, uTd, uTt, uTk, uTs, uDp, uPy, uPc, uR0, uR1, uPo, uCa, uMi, uTg, uTa) := by
  rcases Nat.eq_zero_or_pos n with rfl | z
  · exact br_t rfl K
  · obtain ⟨m, rfl⟩ : ∃ m, n = m + 1 := ⟨n - 1, by omega⟩
    obtain ⟨r, A, k1, k2, k3, k4, k5, k6⟩ := h m (by omega)
    refine br_f (nI_ne0 (by omega) (by omega)) (nm_r (nI_pred m) ?_)
    rw [jn_c (by omega), k1, jn_c (by omega), k3, k4]
    exact ⟨vp_in_nI (by omega) (by omega), vp_in_nI (by omega) (by omega), vp_in_nI (by omega) (by omega), br_t (nI_le (Nat.le_refl _) (by omega)) K⟩
theorem dr_x1 {post : Int32 → Prop} {n : Nat} (hn : n ≤ 5) (h : dr_unf n uRA uAR uTn) (K : post 1) : wpX_hasUnfinished post (uRl, uRw, uVl, uAl, nI n, uCs, uWd, uTc, uSa, uBl, uBs, uRA, uRS, uTu, uAR, uTn, uTi, uTv, uPl, uCv, uRe, uTr, uTd, uTt, uTk, uTs, uDp, uPy, uPc, uR0, uR1, uPo, uCa, uMi, uTg, uTa) := by
  obtain ⟨m, r, t, A, rfl, k1, k2, k3, k4, k5, k6⟩ := h
  refine br_f (nI_ne0 (by omega) (by omega)) (nm_r (nI_pred m) ?_)
  rw [jn_c (by omega), k1, jn_c (by omega), k3, k4]
  exact ⟨vp_in_nI (by omega) (by omega), vp_in_nI (by omega) (by omega), vp_in_nI (by omega) (by omega), br_f (nI_ge k6 (by omega)) K⟩
theorem dr_y0 {post : Int32 → Prop} {n : Nat} (hn : n ≤ 5) (h : dr_fin n vAy vRe vTs) (K : post 0) : wpY_unfinished post (vRl, vRw, vVl, vAl, nI n, vCa, vWd, vSt, vAy, vSz, vDa, vRe, vTs, vTm, vPl, vCz, vCd, vCr, vCt, vCo, vDo, vDc, vVe) := by
  rcases Nat.eq_zero_or_pos n with rfl | z
  · exact br_t (by decide) K
  · obtain ⟨m, rfl⟩ : ∃ m, n = m + 1 := ⟨n - 1, by omega⟩
    obtain ⟨r, A, k1, k2, k3, k4, k5, k6⟩ := h m (by omega)
    refine br_f (nI_nle (by omega) (by omega)) ?_
    rw [nI_pred, jn_c (by omega), k1, jn_c (by omega), k3, k4]
    exact ⟨vp_in_nI (by omega) (by omega), vp_in_nI (by omega) (by omega), vp_in_nI (by omega) (by omega), br_t (nI_le (Nat.le_refl _) (by omega)) K⟩
theorem dr_y1 {post : Int32 → Prop} {n : Nat} (hn : n ≤ 5) (h : dr_unf n vAy vRe vTs) (K : post 1) : wpY_unfinished post (vRl, vRw, vVl, vAl, nI n, vCa, vWd, vSt, vAy, vSz, vDa, vRe, vTs, vTm, vPl, vCz, vCd, vCr, vCt, vCo, vDo, vDc, vVe) := by
  obtain ⟨m, r, t, A, rfl, k1, k2, k3, k4, k5, k6⟩ := h
  refine br_f (nI_nle (by omega) (by omega)) ?_
  rw [nI_pred, jn_c (by omega), k1, jn_c (by omega), k3, k4]
  exact ⟨vp_in_nI (by omega) (by omega), vp_in_nI (by omega) (by omega), vp_in_nI (by omega) (by omega), br_f (nI_ge k6 (by omega)) K⟩
theorem dr_ax {post : SX → Prop} {m t : Nat} {b v : Int32} (hm : m < 5) (ht : t < 3) (eT : uTn m = nI t) (hb : vp_nar .boolean b = b)
    (K : post (uRl, uRw, uVl, uAl, nI (m + 1), uCs, uWd, uTc, uSa, uBl, uBs, uRA, uRS, uTu, uAR, upd uTn m (nI (t + 1)), upd uTi (m * 3 + t) b, upd uTv (m * 3 + t) v, uPl, uCv, uRe, uTr, uTd, uTt, uTk, uTs, uDp, uPy, uPc, uR0, uR1, uPo, uCa, uMi, uTg, uTa)) : wpX_appendTerm post (uRl, uRw, uVl, uAl, nI (m + 1), uCs, uWd, uTc, uSa, uBl, uBs, uRA, uRS, uTu, uAR, uTn, uTi, uTv, uPl, uCv, uRe, uTr, uTd, uTt, uTk, uTs, uDp, uPy, uPc, uR0, uR1, uPo, uCa, uMi, uTg, uTa) b v := by
  have cm : (nI m).toNatClampNeg = m := jn_c (by omega)
  have ct : (nI (m * 3 + t)).toNatClampNeg = m * 3 + t := jn_c (by omega)
  have im : vp_in (nI m) 5 := vp_in_nI hm (by omega)
  have it : vp_in (nI (m * 3 + t)) 15 := vp_in_nI (by omega) (by omega)
  exact nm_r (nI_pred m) ⟨im, nm_r (e' := nI (m * 3 + t)) (by rw [cm, eT, jx_3]) ⟨it, nm_r (e' := upd uTi (m * 3 + t) b) (by rw [ct, hb]) ⟨it, nm_r (e' := upd uTv (m * 3 + t) v) (by rw [ct]) ⟨im, im, nm_r (e' := upd uTn m (nI (t + 1))) (by rw [cm, eT, nI_1]) K⟩⟩⟩⟩
theorem dr_ay {post : SY → Prop} {m t : Nat} {x : Int64} (hm : m < 5) (ht : t < 3) (eT : vTs m = nI t)
    (K : post (vRl, vRw, vVl, vAl, nI (m + 1), vCa, vWd, vSt, vAy, vSz, vDa, vRe, upd vTs m (nI (t + 1)), vp_updL vTm (m * 3 + t) x, vPl, vCz, vCd, vCr, vCt, vCo, vDo, vDc, vVe)) : wpY_append post (vRl, vRw, vVl, vAl, nI (m + 1), vCa, vWd, vSt, vAy, vSz, vDa, vRe, vTs, vTm, vPl, vCz, vCd, vCr, vCt, vCo, vDo, vDc, vVe) x := by
  have cm : (nI m).toNatClampNeg = m := jn_c (by omega)
  have ct : (nI (m * 3 + t)).toNatClampNeg = m * 3 + t := jn_c (by omega)
  have im : vp_in (nI m) 5 := vp_in_nI hm (by omega)
  have it : vp_in (nI (m * 3 + t)) 15 := vp_in_nI (by omega) (by omega)
  have et : nI m * 3 + vTs (nI m).toNatClampNeg = nI (m * 3 + t) := by rw [cm, eT, jx_3]
  exact nm_r (nI_pred m) ⟨im, by rw [et]; exact it, nm_r (e' := vp_updL vTm (m * 3 + t) x) (by rw [et, ct]) ⟨im, im, nm_r (e' := upd vTs m (nI (t + 1))) (by rw [cm, eT, nI_1]) K⟩⟩
end DR
theorem dr_app {vl al : Int32} {ra ar tn ti tv pl : Nat → Int32} {tm : Nat → Int64} {v a m r t A : Nat} {b x : Int32} {y : Int64} (e1 : vl = nI v) (v1 : 1 ≤ v) (v4 : v ≤ 4) (e2 : al = nI a) (a1 : 1 ≤ a) (a5 : a ≤ 5) (hn : m + 1 ≤ a)
    (hA : ∀ i, i < m + 1 → jr_A1 ra (ar i) (tn i) (i + 1 = m + 1)) (hT : jr_Tm ti tv tm) (hV : ∀ o, ti o = 1 → ∃ x, x < v ∧ tv o = nI x) (hP : jr_Pm v pl)
    (k1 : ar m = nI r) (k2 : r < 4) (k3 : tn m = nI t) (k4 : ra r = nI A) (k5 : A ≤ 3) (k6 : t < A)
    (hb : (b = 0 ∧ y = x.toInt64) ∨ (b = 1 ∧ y = 4294967296 + x.toInt64 ∧ ∃ q, q < v ∧ x = nI q)) :
    jr_Dr vl al (nI (m + 1)) ra ar (upd tn m (nI (t + 1))) (upd ti (m * 3 + t) b) (upd tv (m * 3 + t) x) pl (vp_updL tm (m * 3 + t) y) := by
  refine ⟨v, a, m + 1, e1, v1, v4, e2, a1, a5, rfl, hn, fun i hi => ?_, fun o => ?_, fun o ho => ?_, hP⟩
  · by_cases z : i = m
    · subst z
      rw [pk_us]
      exact ⟨r, t + 1, A, k1, k2, rfl, k4, by omega, k5, by omega, fun w => absurd rfl w⟩
    · rw [pk_un z]; exact hA i hi
  · by_cases z : o = m * 3 + t
    · subst z
      rw [pk_us, pk_us, pk_uLs]
      rcases hb with ⟨h1, h2⟩ | ⟨h1, h2, _⟩
      · exact Or.inl ⟨h1, h2⟩
      · exact Or.inr ⟨h1, h2⟩
    · rw [pk_un z, pk_un z, pk_uLn z]; exact hT o
  · by_cases z : o = m * 3 + t
    · subst z
      rw [pk_us] at ho ⊢
      rcases hb with ⟨h1, h2⟩ | ⟨h1, h2, h3⟩
      · rw [h1] at ho; exact absurd ho (by decide)
      · exact h3
    · rw [pk_un z] at ho ⊢; exact hV o ho
theorem i_vc_atom {k : Nat} {u : SX} {v : SY} (I : i_Rel k u v) (hk : k + 5 ≤ 2564) (v1 : Int32) : wpX_atom (fun r u' => wpY_atom (fun r' v' => r' = r ∧ i_Rel (k + 5) u' v') v v1) u v1 := by
  refine zz_el (P := fun u v => wpX_atom (fun r u' => wpY_atom (fun r' v' => r' = r ∧ i_Rel (k + 5) u' v') v v1) u v1) ?_ I
  intro uRl uRw uVl uAl uAc uCs uWd uTc uSa uBl uBs uRA uRS uTu uAR uTn uTi uTv uPl uCv uRe uTr uTd uTt uTk uTs uDp uPy uPc uR0 uR1 uPo uCa uMi uTg uTa vDa vTm vCz vCd vCr vCt vCo vDo vDc vVe a b c
  have a' := a
  have b' := b
  obtain ⟨l, w, rfl, l1, l4, rfl, w1, w12, hS⟩ := a
  obtain ⟨vn, an, n, rfl, vn1, vn4, rfl, an1, an5, rfl, hn, hA, hT, hV, hP⟩ := b
  unfold wpX_atom wpY_atom
  rcases dr_cs hA with f | f
  · refine dr_x0 (by omega) f (br_t rfl ?_)
    rcases os_cs v1 l4 hS with h | ⟨r, A, S, hr, rfl, h1, h2, h3, h4, h5, so, cn⟩
    · exact os_dx0 l4 h (br_t rfl (dr_y0 (by omega) f (br_t rfl (os_dy0 l4 h (br_t rfl ⟨rfl, zz_in a' b' c⟩)))))
    · refine os_dx1 hr l4 h1 h2 h3 (br_f (by decide) (pk_lt n an (fun z => ?_) (fun z => ?_)))
      · have cn' : (nI n).toNatClampNeg = n := jn_c (by omega)
        have i5 : vp_in (nI n) 5 := vp_in_nI (by omega) (by omega)
        refine ⟨i5, nm_r (e' := upd uAR n (nI r)) (by rw [cn']) ⟨i5, nm_r (e' := upd uTn n 0) (by rw [cn']) (nm_r (nI_1 n) ?_)⟩⟩
        refine dr_y0 (by omega) f (br_t rfl (os_dy1 hr l4 h1 h2 h3 (br_f (by decide) (br_t (nI_lt z (by omega)) ⟨i5, nm_r (e' := upd uAR n (nI r)) (by rw [cn']) ⟨i5, nm_r (e' := upd uTn n 0) (by rw [cn']) (nm_r (nI_1 n) ⟨rfl, zz_in a' ?_ c⟩)⟩⟩))))
        refine ⟨vn, an, n + 1, rfl, vn1, vn4, rfl, an1, an5, rfl, z, fun i hi => ?_, hT, hV, hP⟩
        by_cases y : i = n
        · subst y
          rw [pk_us, pk_us]
          exact ⟨r, 0, A, rfl, by omega, rfl, h1, h2, h3, by omega, fun w => absurd rfl w⟩
        · rw [pk_un y, pk_un y]
          obtain ⟨r', A', g1, g2, g3, g4, g5, g6⟩ := f i (by omega)
          exact ⟨r', A', A', g1, g2, g3, g4, g5, g6, Nat.le_refl _, fun _ => rfl⟩
      · exact dr_y0 (by omega) f (br_t rfl (os_dy1 hr l4 h1 h2 h3 (br_f (by decide) (br_f (nI_nlt z (by omega)) ⟨rfl, zz_in a' b' c⟩))))
  · exact dr_x1 (by omega) f (br_f (by decide) (dr_y1 (by omega) f (br_f (by decide) ⟨rfl, zz_in a' b' c⟩)))
theorem i_vc_variable {k : Nat} {u : SX} {v : SY} (I : i_Rel k u v) (hk : k + 5 ≤ 2564) (v1 : Int32) : wpX_variable (fun r u' => wpY_variable (fun r' v' => r' = r ∧ i_Rel (k + 5) u' v') v v1) u v1 := by
  refine zz_el (P := fun u v => wpX_variable (fun r u' => wpY_variable (fun r' v' => r' = r ∧ i_Rel (k + 5) u' v') v v1) u v1) ?_ I
  intro uRl uRw uVl uAl uAc uCs uWd uTc uSa uBl uBs uRA uRS uTu uAR uTn uTi uTv uPl uCv uRe uTr uTd uTt uTk uTs uDp uPy uPc uR0 uR1 uPo uCa uMi uTg uTa vDa vTm vCz vCd vCr vCt vCo vDo vDc vVe a b c
  have b' := b
  obtain ⟨vn, an, n, rfl, vn1, vn4, rfl, an1, an5, rfl, hn, hA, hT, hV, hP⟩ := b
  unfold wpX_variable wpY_variable
  rcases dr_cs hA with f | f
  · exact dr_x0 (by omega) f (br_t rfl (dr_y0 (by omega) f (br_t rfl ⟨rfl, zz_in a b' c⟩)))
  · refine dr_x1 (by omega) f (br_f (by decide) ?_)
    rcases pk_ix v1 (n := vn) (by omega) with h | h | ⟨q, hq, rfl⟩
    · exact br_t h (dr_y1 (by omega) f (br_f (by decide) (br_t h ⟨rfl, zz_in a b' c⟩)))
    · have := jn_nn h (by omega)
      exact br_f this.1 (br_f this.2 (dr_y1 (by omega) f (br_f (by decide) (br_f this.1 (br_f this.2 ⟨rfl, zz_in a b' c⟩)))))
    · have f' := f
      obtain ⟨m, r, t, A, rfl, k1, k2, k3, k4, k5, k6⟩ := f
      have p0 : ¬ nI q < 0 := nI_pos (by omega)
      have p1 : nI q < nI vn := nI_lt hq (by omega)
      refine br_f p0 (br_t p1 (dr_ax (t := t) (by omega) (by omega) k3 rfl ?_))
      refine dr_y1 (by omega) f' (br_f (by decide) (br_f p0 (br_t p1 (dr_ay (t := t) (by omega) (by omega) k3 ⟨rfl, zz_in a ?_ c⟩))))
      exact dr_app rfl vn1 vn4 rfl an1 an5 hn hA hT hV hP k1 k2 k3 k4 k5 k6 (Or.inr ⟨rfl, rfl, q, hq, rfl⟩)
theorem i_vc_constant {k : Nat} {u : SX} {v : SY} (I : i_Rel k u v) (hk : k + 5 ≤ 2564) (v1 : Int32) : wpX_constant (fun r u' => wpY_constant (fun r' v' => r' = r ∧ i_Rel (k + 5) u' v') v v1) u v1 := by
  refine zz_el (P := fun u v => wpX_constant (fun r u' => wpY_constant (fun r' v' => r' = r ∧ i_Rel (k + 5) u' v') v v1) u v1) ?_ I
  intro uRl uRw uVl uAl uAc uCs uWd uTc uSa uBl uBs uRA uRS uTu uAR uTn uTi uTv uPl uCv uRe uTr uTd uTt uTk uTs uDp uPy uPc uR0 uR1 uPo uCa uMi uTg uTa vDa vTm vCz vCd vCr vCt vCo vDo vDc vVe a b c
  have b' := b
  obtain ⟨vn, an, n, rfl, vn1, vn4, rfl, an1, an5, rfl, hn, hA, hT, hV, hP⟩ := b
  unfold wpX_constant wpY_constant
  rcases dr_cs hA with f | f
  · exact dr_x0 (by omega) f (br_t rfl (dr_y0 (by omega) f (br_t rfl ⟨rfl, zz_in a b' c⟩)))
  · have f' := f
    obtain ⟨m, r, t, A, rfl, k1, k2, k3, k4, k5, k6⟩ := f
    refine dr_x1 (by omega) f' (br_f (by decide) (dr_ax (t := t) (by omega) (by omega) k3 rfl ?_))
    refine dr_y1 (by omega) f' (br_f (by decide) (dr_ay (t := t) (by omega) (by omega) k3 ⟨rfl, zz_in a ?_ c⟩))
    exact dr_app rfl vn1 vn4 rfl an1 an5 hn hA hT hV hP k1 k2 k3 k4 k5 k6 (Or.inl ⟨rfl, rfl⟩)
theorem i_vc_dropAtom {k : Nat} {u : SX} {v : SY} (I : i_Rel k u v) (hk : k + 5 ≤ 2564) : wpX_dropAtom (fun r u' => wpY_dropAtom (fun r' v' => r' = r ∧ i_Rel (k + 5) u' v') v) u := by
  refine zz_el (P := fun u v => wpX_dropAtom (fun r u' => wpY_dropAtom (fun r' v' => r' = r ∧ i_Rel (k + 5) u' v') v) u) ?_ I
  intro uRl uRw uVl uAl uAc uCs uWd uTc uSa uBl uBs uRA uRS uTu uAR uTn uTi uTv uPl uCv uRe uTr uTd uTt uTk uTs uDp uPy uPc uR0 uR1 uPo uCa uMi uTg uTa vDa vTm vCz vCd vCr vCt vCo vDo vDc vVe a b c
  have b' := b
  obtain ⟨vn, an, n, rfl, vn1, vn4, rfl, an1, an5, rfl, hn, hA, hT, hV, hP⟩ := b
  rcases Nat.eq_zero_or_pos n with rfl | z
  · exact br_t rfl (br_t rfl ⟨rfl, zz_in a b' c⟩)
  · obtain ⟨m, rfl⟩ : ∃ m, n = m + 1 := ⟨n - 1, by omega⟩
    have h0 : ¬ nI (m + 1) = 0 := nI_ne0 (by omega) (by omega)
    refine br_f h0 (nm_r (nI_pred m) (br_f h0 (nm_r (nI_pred m) ⟨rfl, zz_in a ?_ c⟩)))
    refine ⟨vn, an, m, rfl, vn1, vn4, rfl, an1, an5, rfl, by omega, fun i hi => ?_, hT, hV, hP⟩
    obtain ⟨r, t, A, k1, k2, k3, k4, k5, k6, k7, k8⟩ := hA i (by omega)
    exact ⟨r, t, A, k1, k2, k3, k4, k5, k6, k7, fun _ => k8 (by omega)⟩
theorem dr_sw {v p q : Nat} {pl : Nat → Int32} (hp : p < v) (hq : q < v) (h : jr_Pm v pl) : jr_Pm v (upd (upd pl p (pl q)) q (pl p)) := by
  obtain ⟨f, g, h⟩ := h
  refine ⟨fun x => if x = q then f p else if x = p then f q else f x, fun y => if y = f p then q else if y = f q then p else g y, fun x hx => ?_⟩
  obtain ⟨a1, a2, a3, a4, a5⟩ := h x hx
  obtain ⟨p1, p2, p3, p4, p5⟩ := h p hp
  obtain ⟨q1, q2, q3, q4, q5⟩ := h q hq
  dsimp only
  refine ⟨?_, ?_, ?_, ?_, ?_⟩
  · by_cases z : x = q
    · subst z; rw [pk_us, if_pos rfl, p1]
    · rw [pk_un z, if_neg z]
      by_cases y : x = p
      · subst y; rw [pk_us, if_pos rfl, q1]
      · rw [pk_un y, if_neg y, a1]
  · by_cases z : x = q
    · rw [if_pos z]; exact p2
    · rw [if_neg z]
      by_cases y : x = p
      · rw [if_pos y]; exact q2
      · rw [if_neg y]; exact a2
  · by_cases z : x = q
    · rw [if_pos z, if_pos rfl, z]
    · rw [if_neg z]
      by_cases y : x = p
      · have : ¬ f q = f p := fun e => z (by rw [y, ← p3, ← e, q3])
        rw [if_pos y, if_neg this, if_pos rfl, y]
      · have e1 : ¬ f x = f p := fun e => y (by rw [← a3, e, p3])
        have e2 : ¬ f x = f q := fun e => z (by rw [← a3, e, q3])
        rw [if_neg y, if_neg e1, if_neg e2, a3]
  · by_cases z : x = f p
    · rw [if_pos z]; exact hq
    · rw [if_neg z]
      by_cases y : x = f q
      · rw [if_pos y]; exact hp
      · rw [if_neg y]; exact a4
  · by_cases z : x = f p
    · rw [if_pos z, if_pos rfl, z]
    · rw [if_neg z]
      by_cases y : x = f q
      · have : ¬ p = q := fun e => z (by rw [y, e])
        rw [if_pos y, if_neg this, if_pos rfl, y]
      · have e1 : ¬ g x = q := fun e => y (by rw [← a5, e])
        have e2 : ¬ g x = p := fun e => z (by rw [← a5, e])
        rw [if_neg y, if_neg e1, if_neg e2, a5]
theorem i_vc_swap {k : Nat} {u : SX} {v : SY} (I : i_Rel k u v) (hk : k + 5 ≤ 2564) (v1 : Int32) (v2 : Int32) : wpX_swap (fun r u' => wpY_swap (fun r' v' => r' = r ∧ i_Rel (k + 5) u' v') v v1 v2) u v1 v2 := by
  refine zz_el (P := fun u v => wpX_swap (fun r u' => wpY_swap (fun r' v' => r' = r ∧ i_Rel (k + 5) u' v') v v1 v2) u v1 v2) ?_ I
  intro uRl uRw uVl uAl uAc uCs uWd uTc uSa uBl uBs uRA uRS uTu uAR uTn uTi uTv uPl uCv uRe uTr uTd uTt uTk uTs uDp uPy uPc uR0 uR1 uPo uCa uMi uTg uTa vDa vTm vCz vCd vCr vCt vCo vDo vDc vVe a b c
  have b' := b
  obtain ⟨vn, an, n, rfl, vn1, vn4, rfl, an1, an5, rfl, hn, hA, hT, hV, hP⟩ := b
  rcases pk_ix v1 (n := vn) (by omega) with h | h | ⟨p, hp, rfl⟩
  · exact br_t h (br_t h ⟨rfl, zz_in a b' c⟩)
  · have := jn_nn h (by omega)
    exact br_f this.1 (br_t h (br_f this.1 (br_t h ⟨rfl, zz_in a b' c⟩)))
  · have p0 : ¬ nI p < 0 := nI_pos (by omega)
    have p1 : ¬ nI vn ≤ nI p := nI_ge hp (by omega)
    rcases pk_ix v2 (n := vn) (by omega) with h | h | ⟨q, hq, rfl⟩
    · exact br_f p0 (br_f p1 (br_t h (br_f p0 (br_f p1 (br_t h ⟨rfl, zz_in a b' c⟩)))))
    · have := jn_nn h (by omega)
      exact br_f p0 (br_f p1 (br_f this.1 (br_f this.2 (br_f p0 (br_f p1 (br_f this.1 (br_f this.2 ⟨rfl, zz_in a b' c⟩)))))))
    · have q0 : ¬ nI q < 0 := nI_pos (by omega)
      have q1 : nI q < nI vn := nI_lt hq (by omega)
      have ip : vp_in (nI p) 4 := vp_in_nI (by omega) (by omega)
      have iq : vp_in (nI q) 4 := vp_in_nI (by omega) (by omega)
      have cp : (nI p).toNatClampNeg = p := jn_c (by omega)
      have cq : (nI q).toNatClampNeg = q := jn_c (by omega)
      refine br_f p0 (br_f p1 (br_f q0 (br_t q1 ⟨ip, nm_r (e' := uPl p) (by rw [cp]) ⟨iq, ip, nm_r (e' := upd uPl p (uPl q)) (by rw [cp, cq]) ⟨iq, nm_r (e' := upd (upd uPl p (uPl q)) q (uPl p)) (by rw [cq]) ?_⟩⟩⟩)))
      refine br_f p0 (br_f p1 (br_f q0 (br_t q1 ⟨ip, nm_r (e' := uPl p) (by rw [cp]) ⟨iq, ip, nm_r (e' := upd uPl p (uPl q)) (by rw [cp, cq]) ⟨iq, nm_r (e' := upd (upd uPl p (uPl q)) q (uPl p)) (by rw [cq]) ⟨rfl, zz_in a ?_ c⟩⟩⟩⟩)))
      exact ⟨vn, an, n, rfl, vn1, vn4, rfl, an1, an5, rfl, hn, hA, hT, hV, dr_sw hp hq hP⟩
theorem i_vc_variableAt {k : Nat} {u : SX} {v : SY} (I : i_Rel k u v) (hk : k + 5 ≤ 2564) (v1 : Int32) : wpX_variableAt (fun r => wpY_variableAt (fun r' => r' = r ∧ i_Rel (k + 5) u v) v v1) u v1 := by
  refine zz_el (P := fun u v => wpX_variableAt (fun r => wpY_variableAt (fun r' => r' = r ∧ i_Rel (k + 5) u v) v v1) u v1) ?_ I
  intro uRl uRw uVl uAl uAc uCs uWd uTc uSa uBl uBs uRA uRS uTu uAR uTn uTi uTv uPl uCv uRe uTr uTd uTt uTk uTs uDp uPy uPc uR0 uR1 uPo uCa uMi uTg uTa vDa vTm vCz vCd vCr vCt vCo vDo vDc vVe a b c
  have b' := b
  obtain ⟨vn, an, n, rfl, vn1, vn4, rfl, an1, an5, rfl, hn, hA, hT, hV, hP⟩ := b
  rcases pk_ix v1 (n := vn) (by omega) with h | h | ⟨p, hp, rfl⟩
  · exact br_t h (br_t h ⟨rfl, zz_in a b' c⟩)
  · have := jn_nn h (by omega)
    exact br_f this.1 (br_f this.2 (br_f this.1 (br_f this.2 ⟨rfl, zz_in a b' c⟩)))
  · have p0 : ¬ nI p < 0 := nI_pos (by omega)
    have p1 : nI p < nI vn := nI_lt hp (by omega)
    have ip : vp_in (nI p) 4 := vp_in_nI (by omega) (by omega)
    exact br_f p0 (br_t p1 ⟨ip, br_f p0 (br_t p1 ⟨ip, rfl, zz_in a b' c⟩)⟩)
theorem i_vc_atomCell {k : Nat} {u : SX} {v : SY} (I : i_Rel k u v) (hk : k + 5 ≤ 2564) (v1 : Int32) (v2 : Int32) : wpX_atomCell (fun r => wpY_atomCell (fun r' => r' = r ∧ i_Rel (k + 5) u v) v v1 v2) u v1 v2 := by
  refine zz_el (P := fun u v => wpX_atomCell (fun r => wpY_atomCell (fun r' => r' = r ∧ i_Rel (k + 5) u v) v v1 v2) u v1 v2) ?_ I
  intro uRl uRw uVl uAl uAc uCs uWd uTc uSa uBl uBs uRA uRS uTu uAR uTn uTi uTv uPl uCv uRe uTr uTd uTt uTk uTs uDp uPy uPc uR0 uR1 uPo uCa uMi uTg uTa vDa vTm vCz vCd vCr vCt vCo vDo vDc vVe a b c
  have b' := b
  obtain ⟨vn, an, n, rfl, vn1, vn4, rfl, an1, an5, rfl, hn, hA, hT, hV, hP⟩ := b
  rcases pk_ix v1 (n := n) (by omega) with h | h | ⟨p, hp, rfl⟩
  · exact br_t h (br_t h ⟨rfl, zz_in a b' c⟩)
  · have := jn_nn h (by omega)
    exact br_f this.1 (br_f this.2 (br_f this.1 (br_f this.2 ⟨rfl, zz_in a b' c⟩)))
  · have p0 : ¬ nI p < 0 := nI_pos (by omega)
    have p1 : nI p < nI n := nI_lt hp (by omega)
    have ip : vp_in (nI p) 5 := vp_in_nI (by omega) (by omega)
    have cp : (nI p).toNatClampNeg = p := jn_c (by omega)
    obtain ⟨r, t, A, k1, k2, k3, k4, k5, k6, k7, k8⟩ := hA p hp
    by_cases z : v2 = 0
    · exact br_f p0 (br_t p1 (br_t z ⟨ip, br_f p0 (br_t p1 (br_t z ⟨ip, rfl, zz_in a b' c⟩))⟩))
    · by_cases y : v2 < 1
      · exact br_f p0 (br_t p1 (br_f z (br_t y (br_f p0 (br_t p1 (br_f z (br_t y ⟨rfl, zz_in a b' c⟩)))))))
      · have eT : uTn (nI p).toNatClampNeg = nI t := by rw [cp]; exact k3
        by_cases x : v2 ≤ uTn (nI p).toNatClampNeg
        · obtain ⟨g, hg, rfl⟩ : ∃ g, g ≤ t ∧ v2 = nI g := jn_r (b := t) eT (by omega) (fun s => y (ji_lt.mpr (by have := ji_lt.mp s; rw [show (0 : Int32).toInt = 0 from by decide] at this; rw [show (1 : Int32).toInt = 1 from by decide]; omega))) x
          obtain ⟨g, rfl⟩ : ∃ m, g = m + 1 := ⟨g - 1, by
            rcases Nat.eq_zero_or_pos g with s | s
            · subst s; exact absurd rfl z
            · omega⟩
          have e : nI p * 3 + nI (g + 1) - 1 = nI (p * 3 + g) := by rw [jx_3]; exact nI_pred (p * 3 + g)
          have it : vp_in (nI (p * 3 + g)) 15 := vp_in_nI (by omega) (by omega)
          have cg : (nI (p * 3 + g)).toNatClampNeg = p * 3 + g := jn_c (by omega)
          have Y : ∀ w : Int64, vTm (p * 3 + g) = w → wpY_atomCell (fun r' => r' = w ∧ i_Rel (k + 5) (uRl, uRw, nI vn, nI an, nI n, uCs, uWd, uTc, uSa, uBl, uBs, uRA, uRS, uTu, uAR, uTn, uTi, uTv, uPl, uCv, uRe, uTr, uTd, uTt, uTk, uTs, uDp, uPy, uPc, uR0, uR1, uPo, uCa, uMi, uTg, uTa) (uRl, uRw, nI vn, nI an, nI n, uTc, uWd, uCs, uRA, uRS, vDa, uAR, uTn, vTm, uPl, vCz, vCd, vCr, vCt, vCo, vDo, vDc, vVe)) (uRl, uRw, nI vn, nI an, nI n, uTc, uWd, uCs, uRA, uRS, vDa, uAR, uTn, vTm, uPl, vCz, vCd, vCr, vCt, vCo, vDo, vDc, vVe) (nI p) (nI (g + 1)) := fun w hw => by
            refine br_f p0 (br_t p1 (br_f z (br_f y ⟨ip, br_t x ?_⟩)))
            rw [e, cg]
            exact ⟨it, hw, zz_in a b' c⟩
          refine br_f p0 (br_t p1 (br_f z (br_f y ⟨ip, br_t x (nm_r e ⟨it, ?_⟩)⟩)))
          rw [cg]
          rcases hT (p * 3 + g) with ⟨s1, s2⟩ | ⟨s1, s2⟩
          · exact br_t s1 ⟨it, Y _ s2⟩
          · exact br_f (by rw [s1]; decide) ⟨it, Y _ s2⟩
        · exact br_f p0 (br_t p1 (br_f z (br_f y ⟨ip, br_f x (br_f p0 (br_t p1 (br_f z (br_f y ⟨ip, br_f x ⟨rfl, zz_in a b' c⟩⟩))))⟩)))
end
section
/-! the constructors and the cursor's plain methods -/
theorem jd_cl (p : Int32) {g : Nat} (h1 : 1 ≤ g) (h2 : g ≤ 12) : ∃ c, 1 ≤ c ∧ c ≤ g ∧ ((1 ≤ p ∧ p ≤ nI g ∧ p = nI c) ∨ (1 ≤ p ∧ ¬ p ≤ nI g ∧ c = g) ∨ (¬ 1 ≤ p ∧ c = 1)) := by
  by_cases z : 1 ≤ p
  · by_cases y : p ≤ nI g
    · have z' := ji_le.mp z
      rw [show (1 : Int32).toInt = 1 from by decide] at z'
      obtain ⟨c, hc, rfl⟩ := jn_r (v := p) (b := g) rfl (by omega) (fun s => by have := ji_lt.mp s; rw [show (0 : Int32).toInt = 0 from by decide] at this; omega) y
      rw [nI_toInt (by omega)] at z'
      exact ⟨c, by omega, hc, Or.inl ⟨z, y, rfl⟩⟩
    · exact ⟨g, h1, Nat.le_refl _, Or.inr (Or.inl ⟨z, y, rfl⟩)⟩
  · exact ⟨1, Nat.le_refl _, h1, Or.inr (Or.inr ⟨z, rfl⟩)⟩
section CL
variable {uRl uRw uVl uAl uAc uCs uWd uTc uSa uBl uBs : Int32} {uRA uRS uTu uAR uTn uTi uTv uPl uCv uRe uTr uTd uTt uTk uTs uDp uPy uPc uR0 uR1 uPo uCa : Nat → Int32} {uMi : Nat → Int64} {uTg uTa : Nat → Int32} {vRl vRw vVl vAl vAc vCa vWd vSt : Int32} {vAy vSz vDa vRe vTs : Nat → Int32} {vTm : Nat → Int64} {vPl vCz vCd vCr : Nat → Int32} {vCt : Nat → Int64} {vCo vDo vDc vVe : Nat → Int32}
theorem jd_clx {post : Int32 → Prop} {p : Int32} {c g : Nat} (h : (1 ≤ p ∧ p ≤ nI g ∧ p = nI c) ∨ (1 ≤ p ∧ ¬ p ≤ nI g ∧ c = g) ∨ (¬ 1 ≤ p ∧ c = 1)) (K : post (nI c)) : wpX_clamp post (uRl, uRw, uVl, uAl, uAc, uCs, uWd, uTc, uSa, uBl, uBs, uRA, uRS, uTu, uAR, uTn, uTi, uTv, uPl, uCv, uRe, uTr, uTd, uTt, uTk, uTs, uDp, uPy, uPc, uR0, uR1, uPo, uCa, uMi, uTg, uTa) p (nI g) := by
  rcases h with ⟨h1, h2, rfl⟩ | ⟨h1, h2, rfl⟩ | ⟨h1, rfl⟩
  · exact br_t h1 (br_t h2 K)
  · exact br_t h1 (br_f h2 K)
  · exact br_f h1 K
theorem jd_cly {post : Int32 → Prop} {p : Int32} {c g : Nat} (h : (1 ≤ p ∧ p ≤ nI g ∧ p = nI c) ∨ (1 ≤ p ∧ ¬ p ≤ nI g ∧ c = g) ∨ (¬ 1 ≤ p ∧ c = 1)) (K : post (nI c)) : wpY_clamp post (vRl, vRw, vVl, vAl, vAc, vCa, vWd, vSt, vAy, vSz, vDa, vRe, vTs, vTm, vPl, vCz, vCd, vCr, vCt, vCo, vDo, vDc, vVe) p (nI g) := by
  rcases h with ⟨h1, h2, rfl⟩ | ⟨h1, h2, rfl⟩ | ⟨h1, rfl⟩
  · exact br_t h1 (br_t h2 K)
  · exact br_t h1 (br_f h2 K)
  · exact br_f h1 K
def jd_it : Nat → Nat → Int32
  | 0 => fun _ => 0
  | k + 1 => upd (jd_it k) k (nI k)
theorem jd_itv : ∀ k p, p < k → jd_it k p = nI p
  | 0, p, h => by omega
  | k + 1, p, h => by
    show upd (jd_it k) k (nI k) p = nI p
    by_cases z : p = k
    · subst z; exact pk_us
    · rw [pk_un z]; exact jd_itv k p (by omega)
theorem jd_ix {post : SX → Prop} (K : post (uRl, uRw, uVl, uAl, uAc, 200, uWd, uTc, uSa, uBl, uBs, uRA, uRS, uTu, uAR, uTn, uTi, uTv, jd_it 4, uCv, uRe, uTr, uTd, uTt, uTk, uTs, uDp, uPy, uPc, uR0, uR1, uPo, uCa, uMi, uTg, uTa)) : ∀ d n p, p + d = 4 → d < n → wX_init_237 post uRl uRw uVl uAl uAc uCs uWd uTc uSa uBl uBs n (nI p) uRA uRS uTu uAR uTn uTi uTv (jd_it p) uCv uRe uTr uTd uTt uTk uTs uDp uPy uPc uR0 uR1 uPo uCa uMi uTg uTa := by
  intro d
  induction d with
  | zero =>
    intro n p g1 g2
    obtain ⟨n, rfl⟩ : ∃ m, n = m + 1 := ⟨n - 1, by omega⟩
    have : p = 4 := by omega
    subst this
    rw [wX_init_237]
    exact br_t (nI_le (a := 4) (b := 4) (Nat.le_refl _) (by omega)) K
  | succ d ih =>
    intro n p g1 g2
    obtain ⟨n, rfl⟩ : ∃ m, n = m + 1 := ⟨n - 1, by omega⟩
    rw [wX_init_237]
    exact br_f (nI_ge (b := 4) (by omega) (by omega)) ⟨vp_in_nI (by omega) (by omega), nm_r (e' := jd_it (p + 1)) (by rw [jn_c (by omega)]; rfl) (nm_r (nI_1 p) (ih n (p + 1) (by omega) (by omega)))⟩
theorem jd_iy {post : SY → Prop} (K : post (vRl, vRw, vVl, vAl, vAc, vCa, vWd, vSt, vAy, vSz, vDa, vRe, vTs, vTm, jd_it 4, vCz, vCd, vCr, vCt, vCo, vDo, vDc, vVe)) : ∀ d n p, p + d = 4 → d < n → wY_init_169 post vRl vRw vVl vAl vAc vCa vWd vSt n (nI p) vAy vSz vDa vRe vTs vTm (jd_it p) vCz vCd vCr vCt vCo vDo vDc vVe := by
  intro d
  induction d with
  | zero =>
    intro n p g1 g2
    obtain ⟨n, rfl⟩ : ∃ m, n = m + 1 := ⟨n - 1, by omega⟩
    have : p = 4 := by omega
    subst this
    rw [wY_init_169]
    exact br_t (nI_le (a := 4) (b := 4) (Nat.le_refl _) (by omega)) K
  | succ d ih =>
    intro n p g1 g2
    obtain ⟨n, rfl⟩ : ∃ m, n = m + 1 := ⟨n - 1, by omega⟩
    rw [wY_init_169]
    exact br_f (nI_ge (b := 4) (by omega) (by omega)) ⟨vp_in_nI (by omega) (by omega), nm_r (e' := jd_it (p + 1)) (by rw [jn_c (by omega)]; rfl) (nm_r (nI_1 p) (ih n (p + 1) (by omega) (by omega)))⟩
end CL
theorem i_vc0 (k0 : Int32) (k1 : Int32) (k2 : Int32) (k3 : Int32) : wpX_init (fun u => wpY_init (fun v => i_Rel 4 u v) k0 k1 k2 k3) k0 k1 k2 k3 := by
  obtain ⟨c0, a0, b0, h0⟩ := jd_cl k0 (g := 4) (by omega) (by omega)
  obtain ⟨c1, a1, b1, h1⟩ := jd_cl k1 (g := 12) (by omega) (by omega)
  obtain ⟨c2, a2, b2, h2⟩ := jd_cl k2 (g := 4) (by omega) (by omega)
  obtain ⟨c3, a3, b3, h3⟩ := jd_cl k3 (g := 5) (by omega) (by omega)
  unfold wpX_init wpY_init
  refine jd_clx h0 (jd_clx h1 (jd_clx h2 (jd_clx h3 ⟨5, jd_ix ?_ 4 5 0 rfl (by omega)⟩)))
  refine jd_cly h0 (jd_cly h1 (jd_cly h2 (jd_cly h3 ⟨5, jd_iy ?_ 4 5 0 rfl (by omega)⟩)))
  refine zz_in ?_ ?_ (Or.inl rfl)
  · exact ⟨c0, c1, rfl, a0, b0, rfl, a1, b1, fun r _ => ⟨0, 0, rfl, by omega, rfl, by omega, fun _ => rfl, fun j k _ e => absurd e (by omega), fun Q => rfl⟩⟩
  · exact ⟨c2, c3, 0, rfl, a2, b2, rfl, a3, b3, rfl, by omega, fun i hi => absurd hi (by omega), fun o => Or.inl ⟨rfl, rfl⟩, fun o ho => absurd (show (0 : Int32) = 1 from ho) (by decide), fun x => x, fun x => x, fun p hp => ⟨jd_itv 4 p (by omega), hp, rfl, hp, rfl⟩⟩
theorem cu_st {cs wd tc sa : Int32} {ra cv re tr td tt tk dp py pc r0 r1 cz cd cr : Nat → Int32} {ct : Nat → Int64} {co om oc ve : Nat → Int32}
    (h : jr_Cu cs wd tc sa ra cv re tr td tt tk dp py pc r0 r1 cz cd cr ct co om oc ve) (hc : ¬ cs = 200) :
    jr_Cu 3 wd tc sa ra cv re tr td tt tk dp py pc r0 r1 cz cd cr ct co om oc ve := by
  rcases h with h | ⟨h, n, w, R, D, C, P, L, A, S, ρ, N, g1, g2, g3, g4, g5, g6, g7, g8⟩
  · exact absurd h hc
  · exact Or.inr ⟨Or.inr (Or.inl rfl), n, w, R, D, C, P, L, A, S, ρ, N, g1, g2, g3, g4, g5, g6, g7, fun e => absurd e (by decide)⟩
theorem i_vc_rewind {k : Nat} {u : SX} {v : SY} (I : i_Rel k u v) (hk : k + 5 ≤ 2564) : wpX_rewind (fun r u' => wpY_rewind (fun r' v' => r' = r ∧ i_Rel (k + 5) u' v') v) u := by
  refine zz_el (P := fun u v => wpX_rewind (fun r u' => wpY_rewind (fun r' v' => r' = r ∧ i_Rel (k + 5) u' v') v) u) ?_ I
  intro uRl uRw uVl uAl uAc uCs uWd uTc uSa uBl uBs uRA uRS uTu uAR uTn uTi uTv uPl uCv uRe uTr uTd uTt uTk uTs uDp uPy uPc uR0 uR1 uPo uCa uMi uTg uTa vDa vTm vCz vCd vCr vCt vCo vDo vDc vVe a b c
  by_cases z : uCs = 200
  · exact br_t z (br_t z ⟨rfl, zz_in a b c⟩)
  · exact br_f z (br_f z ⟨rfl, zz_in a b (cu_st c z)⟩)
theorem i_vc_state {k : Nat} {u : SX} {v : SY} (I : i_Rel k u v) (hk : k + 5 ≤ 2564) : wpX_state (fun r => wpY_state (fun r' => r' = r ∧ i_Rel (k + 5) u v) v) u := by
  refine zz_el (P := fun u v => wpX_state (fun r => wpY_state (fun r' => r' = r ∧ i_Rel (k + 5) u v) v) u) ?_ I
  intro uRl uRw uVl uAl uAc uCs uWd uTc uSa uBl uBs uRA uRS uTu uAR uTn uTi uTv uPl uCv uRe uTr uTd uTt uTk uTs uDp uPy uPc uR0 uR1 uPo uCa uMi uTg uTa vDa vTm vCz vCd vCr vCt vCo vDo vDc vVe a b c
  exact ⟨rfl, zz_in a b c⟩
theorem i_vc_column {k : Nat} {u : SX} {v : SY} (I : i_Rel k u v) (hk : k + 5 ≤ 2564) (v1 : Int32) : wpX_column (fun r => wpY_column (fun r' => r' = r ∧ i_Rel (k + 5) u v) v v1) u v1 := by
  refine zz_el (P := fun u v => wpX_column (fun r => wpY_column (fun r' => r' = r ∧ i_Rel (k + 5) u v) v v1) u v1) ?_ I
  intro uRl uRw uVl uAl uAc uCs uWd uTc uSa uBl uBs uRA uRS uTu uAR uTn uTi uTv uPl uCv uRe uTr uTd uTt uTk uTs uDp uPy uPc uR0 uR1 uPo uCa uMi uTg uTa vDa vTm vCz vCd vCr vCt vCo vDo vDc vVe a b c
  have c' := c
  rcases c with z | ⟨h, n, w, R, D, C, P, L, A, S, ρ, N, g1, rfl, g3, g4, g5, g6, g7, g8⟩
  · exact br_t z (br_t z ⟨rfl, zz_in a b c'⟩)
  · have z : ¬ uCs = 200 := by rcases h with rfl | rfl | rfl <;> decide
    have w4 : w ≤ 4 := g3.2.2.1
    rcases pk_ix v1 (n := w) (by omega) with h | h | ⟨p, hp, rfl⟩
    · exact br_f z (br_t h (br_f z (br_t h ⟨rfl, zz_in a b c'⟩)))
    · have := jn_nn h (by omega)
      exact br_f z (br_f this.1 (br_f this.2 (br_f z (br_f this.1 (br_f this.2 ⟨rfl, zz_in a b c'⟩)))))
    · have p0 : ¬ nI p < 0 := nI_pos (by omega)
      have p1 : nI p < nI w := nI_lt hp (by omega)
      have ip : vp_in (nI p) 4 := vp_in_nI (by omega) (by omega)
      exact br_f z (br_f p0 (br_t p1 ⟨ip, br_f z (br_f p0 (br_t p1 ⟨ip, by rw [jn_c (by omega)]; exact (g6 p hp).symm, zz_in a b c'⟩))⟩))
theorem i_vc_value {k : Nat} {u : SX} {v : SY} (I : i_Rel k u v) (hk : k + 5 ≤ 2564) (v1 : Int32) : wpX_value (fun r => wpY_value (fun r' => r' = r ∧ i_Rel (k + 5) u v) v v1) u v1 := by
  refine zz_el (P := fun u v => wpX_value (fun r => wpY_value (fun r' => r' = r ∧ i_Rel (k + 5) u v) v v1) u v1) ?_ I
  intro uRl uRw uVl uAl uAc uCs uWd uTc uSa uBl uBs uRA uRS uTu uAR uTn uTi uTv uPl uCv uRe uTr uTd uTt uTk uTs uDp uPy uPc uR0 uR1 uPo uCa uMi uTg uTa vDa vTm vCz vCd vCr vCt vCo vDo vDc vVe a b c
  have c' := c
  by_cases y : uCs = 2
  · rcases c with z | ⟨h, n, w, R, D, C, P, L, A, S, ρ, N, g1, rfl, g3, g4, g5, g6, g7, g8⟩
    · rw [y] at z; exact absurd z (by decide)
    · have w4 : w ≤ 4 := g3.2.2.1
      rcases pk_ix v1 (n := w) (by omega) with h | h | ⟨p, hp, rfl⟩
      · exact br_t y (br_t h (br_t y (br_t h ⟨rfl, zz_in a b c'⟩)))
      · have := jn_nn h (by omega)
        exact br_t y (br_f this.1 (br_f this.2 (br_t y (br_f this.1 (br_f this.2 ⟨rfl, zz_in a b c'⟩)))))
      · have p0 : ¬ nI p < 0 := nI_pos (by omega)
        have p1 : nI p < nI w := nI_lt hp (by omega)
        have ip : vp_in (nI p) 4 := vp_in_nI (by omega) (by omega)
        have e : (0 : Int32) + nI p = nI p := by rw [jx_0, Nat.zero_add]
        refine br_t y (br_f p0 (br_t p1 ⟨ip, br_t y (br_f p0 (br_t p1 ?_))⟩))
        rw [e]
        exact ⟨vp_in_nI (by omega) (by omega), by rw [jn_c (by omega)]; exact congrArg Int32.toInt64 (g8 y p hp).symm, zz_in a b c'⟩
  · exact br_f y (br_f y ⟨rfl, zz_in a b c'⟩)
end
section
/-! X's lower bound and leapfrog -/
def jx_pm (C : Nat → Nat → Nat) (tt c : Nat → Int32) (i d k : Nat) : Prop := ∀ e, e < d → tt ((i * 12 + k) * 3 + e) = c (C i e)
def jx_Ps (R : Nat → Nat) (C : Nat → Nat → Nat) (tt c r1 po : Nat → Int32) (i d : Nat) (m : Int) : Prop :=
  ∃ b q, r1 (i * 4 + d) = nI b ∧ po (i * 4 + d) = nI q ∧ q ≤ b ∧ b ≤ R i ∧
    (∀ k, k < R i → jx_pm C tt c i d k → m ≤ (tt ((i * 12 + k) * 3 + d)).toInt → q ≤ k ∧ k < b) ∧ (∀ k, q ≤ k → k < b → jx_pm C tt c i d k)
def jx_Ag (tt r1 po : Nat → Int32) (i d : Nat) (m : Int) : Prop :=
  ∃ b q, r1 (i * 4 + d) = nI b ∧ po (i * 4 + d) = nI q ∧ q < b ∧ b ≤ 12 ∧ (tt ((i * 12 + q) * 3 + d)).toInt = m
def jx_Co (n : Nat) (R D : Nat → Nat) (C : Nat → Nat → Nat) (tt c : Nat → Int32) (l : Nat) (v : Int) : Prop :=
  ∀ i d, i < n → d < D i → C i d = l → ∃ k, k < R i ∧ jx_pm C tt c i d k ∧ (tt ((i * 12 + k) * 3 + d)).toInt = v
/-- position x is no frame of level l -/
def jx_nf (n : Nat) (D : Nat → Nat) (C : Nat → Nat → Nat) (l x : Nat) : Prop := ∀ i d, i < n → d < D i → C i d = l → x ≠ i * 4 + d
noncomputable def jx_me (R D : Nat → Nat) (C : Nat → Nat → Nat) (L : Nat → Nat → Nat) (tt : Nat → Int32) (l : Nat) (g : Int) (m : Nat) : Nat :=
  jc_n (fun k => ∃ d, d < D (L l m) ∧ C (L l m) d = l ∧ g < (tt ((L l m * 12 + k) * 3 + d)).toInt) (R (L l m))
section SH
variable {n w : Nat} {R D : Nat → Nat} {C : Nat → Nat → Nat} {P : Nat → Nat} {L : Nat → Nat → Nat} {sa : Int32} {tr td tt tk dp py pc : Nat → Int32}
theorem sh_n (H : jq_Sh n w R D C P L sa tr td tt tk dp py pc) : n ≤ 5 := H.2.1
theorem sh_w (H : jq_Sh n w R D C P L sa tr td tt tk dp py pc) : w ≤ 4 := H.2.2.1
theorem sh_i (H : jq_Sh n w R D C P L sa tr td tt tk dp py pc) {i : Nat} (hi : i < n) : tr i = nI (R i) ∧ R i ≤ 12 ∧ td i = nI (D i) ∧ D i ≤ 3 := H.2.2.2.1 i hi
theorem sh_d (H : jq_Sh n w R D C P L sa tr td tt tk dp py pc) {i d : Nat} (hi : i < n) (hd : d < D i) : tk (i * 3 + d) = nI (C i d) ∧ C i d < w ∧ dp (i * 4 + C i d) = nI d := H.2.2.2.2.1 i d hi hd
theorem sh_C (H : jq_Sh n w R D C P L sa tr td tt tk dp py pc) {i d e : Nat} (hi : i < n) (hd : d < e) (he : e < D i) : C i d < C i e := H.2.2.2.2.2.1 i d e hi hd he
theorem sh_p (H : jq_Sh n w R D C P L sa tr td tt tk dp py pc) {c : Nat} (hc : c < w) : pc c = nI (P c) ∧ 1 ≤ P c ∧ P c ≤ 5 := H.2.2.2.2.2.2.1 c hc
theorem sh_L (H : jq_Sh n w R D C P L sa tr td tt tk dp py pc) {c m : Nat} (hc : c < w) (hm : m < P c) : py (c * 5 + m) = nI (L c m) ∧ L c m < n ∧ ∃ d, d < D (L c m) ∧ C (L c m) d = c := H.2.2.2.2.2.2.2.1 c m hc hm
theorem sh_on (H : jq_Sh n w R D C P L sa tr td tt tk dp py pc) {i d : Nat} (hi : i < n) (hd : d < D i) : ∃ m, m < P (C i d) ∧ L (C i d) m = i := H.2.2.2.2.2.2.2.2.1 i d hi hd
theorem sh_so (H : jq_Sh n w R D C P L sa tr td tt tk dp py pc) {i j k : Nat} (hi : i < n) (hj : j < k) (hk : k < R i) : ¬ jl_lt (D i) (jt_r tt i k) (jt_r tt i j) := H.2.2.2.2.2.2.2.2.2.1 i j k hi hj hk
theorem sh_u (H : jq_Sh n w R D C P L sa tr td tt tk dp py pc) {i d e : Nat} (hi : i < n) (hd : d < D i) (he : e < D i) (h : C i d = C i e) : d = e := by
  rcases Nat.lt_trichotomy d e with z | z | z
  · have := sh_C H hi z he; omega
  · exact z
  · have := sh_C H hi z hd; omega
/-- among the rows that agree on the first d parts, part d ascends -/
theorem sh_mo (H : jq_Sh n w R D C P L sa tr td tt tk dp py pc) {c : Nat → Int32} {i d j k : Nat} (hi : i < n) (hd : d < D i) (hj : j ≤ k) (hk : k < R i) (pj : jx_pm C tt c i d j) (pk : jx_pm C tt c i d k) :
    (tt ((i * 12 + j) * 3 + d)).toInt ≤ (tt ((i * 12 + k) * 3 + d)).toInt := by
  rcases Nat.lt_or_ge j k with z | z
  · rcases Int.lt_or_le (tt ((i * 12 + k) * 3 + d)).toInt (tt ((i * 12 + j) * 3 + d)).toInt with y | y
    · exact absurd ⟨d, hd, fun q hq => (pk q hq).trans (pj q hq).symm, y⟩ (sh_so H hi z hk)
    · exact y
  · have : j = k := by omega
    subst this; exact Int.le_refl _
end SH
section XL
variable {uRl uRw uVl uAl uAc uCs uWd uTc uSa uBl uBs : Int32} {uRA uRS uTu uAR uTn uTi uTv uPl uCv uRe uTr uTd uTt uTk uTs uDp uPy uPc uR0 uR1 uPo uCa : Nat → Int32} {uMi : Nat → Int64} {uTg uTa : Nat → Int32}
theorem xl_lb {post : Int32 → Prop} {i d f t : Nat} {v : Int64} (hi : i < 5) (hd : d < 3) (ht : t ≤ 12)
    (mo : ∀ j k, f ≤ j → j ≤ k → k < t → (uTt ((i * 12 + j) * 3 + d)).toInt ≤ (uTt ((i * 12 + k) * 3 + d)).toInt)
    (K : ∀ r, f ≤ r → r ≤ t → (∀ j, f ≤ j → j < r → (uTt ((i * 12 + j) * 3 + d)).toInt < v.toInt) → (∀ j, r ≤ j → j < t → v.toInt ≤ (uTt ((i * 12 + j) * 3 + d)).toInt) → post (nI r)) :
    ∀ e n lo hi st, st + e = 4 → hi < lo + 2 ^ e → e < n → f ≤ lo → lo ≤ hi → hi ≤ t → (∀ j, f ≤ j → j < lo → (uTt ((i * 12 + j) * 3 + d)).toInt < v.toInt) →
      (∀ j, hi ≤ j → j < t → v.toInt ≤ (uTt ((i * 12 + j) * 3 + d)).toInt) → wX_lowerBound_10 post (nI i) (nI d) v uRl uRw uVl uAl uAc uCs uWd uTc uSa uBl uBs uRA uRS uTu uAR uTn uTi uTv uPl uCv uRe uTr uTd uTt uTk uTs uDp uPy uPc uR0 uR1 uPo uCa uMi uTg uTa n (nI lo) (nI hi) (nI st) := by
  intro e
  induction e with
  | zero =>
    intro n lo hi' st g1 g2 g3 g4 g5 g6 g7 g8
    obtain ⟨n, rfl⟩ : ∃ m, n = m + 1 := ⟨n - 1, by omega⟩
    have : hi' = lo := by omega
    subst this
    rw [wX_lowerBound_10]
    exact br_f (nI_ge (b := 5) (by omega) (by omega)) (br_t (nI_le (Nat.le_refl _) (by omega)) (K _ g4 g6 g7 g8))
  | succ e ih =>
    intro n lo hi' st g1 g2 g3 g4 g5 g6 g7 g8
    obtain ⟨n, rfl⟩ : ∃ m, n = m + 1 := ⟨n - 1, by omega⟩
    rw [wX_lowerBound_10]
    refine br_f (nI_ge (b := 5) (by omega) (by omega)) ?_
    rcases Nat.lt_or_ge lo hi' with z | z
    · refine br_f (nI_ge z (by omega)) (nm_r (jx_h (by omega)) ?_)
      have hp : 2 ^ (e + 1) = 2 * 2 ^ e := by rw [Nat.pow_succ]; omega
      rw [jx_c, jn_c (by omega)]
      refine ⟨vp_in_nI (by omega) (by omega), br_c (fun y => ?_) (fun y => ?_)⟩
      · have y' := ji_L.mp y
        refine nm_r (nI_1 _) (ih n lo ((lo + hi') / 2) (st + 1) (by omega) (by omega) (by omega) g4 (by omega) (by omega) g7 (fun j j1 j2 => ?_))
        have := mo ((lo + hi') / 2) j (by omega) j1 j2
        omega
      · have y' : ¬ v.toInt ≤ (uTt ((i * 12 + (lo + hi') / 2) * 3 + d)).toInt := fun s => y (ji_L.mpr s)
        refine nm_r (nI_1 _) (nm_r (nI_1 _) (ih n _ hi' (st + 1) (by omega) (by omega) (by omega) (by omega) (by omega) g6 (fun j j1 j2 => ?_) g8))
        have := mo j ((lo + hi') / 2) j1 (by omega) (by omega)
        omega
    · have : hi' = lo := by omega
      subst this
      exact br_t (nI_le (Nat.le_refl _) (by omega)) (K _ g4 g6 g7 g8)
theorem xl_low {post : Int32 → Prop} {i d f t : Nat} {v : Int64} (hi : i < 5) (hd : d < 3) (hf : f ≤ t) (ht : t ≤ 12)
    (mo : ∀ j k, f ≤ j → j ≤ k → k < t → (uTt ((i * 12 + j) * 3 + d)).toInt ≤ (uTt ((i * 12 + k) * 3 + d)).toInt)
    (K : ∀ r, f ≤ r → r ≤ t → (∀ j, f ≤ j → j < r → (uTt ((i * 12 + j) * 3 + d)).toInt < v.toInt) → (∀ j, r ≤ j → j < t → v.toInt ≤ (uTt ((i * 12 + j) * 3 + d)).toInt) → post (nI r)) :
    wpX_lowerBound post (uRl, uRw, uVl, uAl, uAc, uCs, uWd, uTc, uSa, uBl, uBs, uRA, uRS, uTu, uAR, uTn, uTi, uTv, uPl, uCv, uRe, uTr, uTd, uTt, uTk, uTs, uDp, uPy, uPc, uR0, uR1, uPo, uCa, uMi, uTg, uTa) (nI i) (nI d) (nI f) (nI t) v :=
  ⟨5, xl_lb hi hd ht mo K 4 5 f t 0 rfl (by omega) (by omega) (Nat.le_refl _) hf (Nat.le_refl _) (fun j j1 j2 => absurd j1 (by omega)) (fun j j1 j2 => absurd j1 (by omega))⟩
variable {n w : Nat} {R D : Nat → Nat} {C : Nat → Nat → Nat} {P : Nat → Nat} {L : Nat → Nat → Nat} {sa : Int32}
theorem xl_155 {post : Int32 → SX → Prop} {J : _} {l p a u s : Nat} {g : Int64} (hl : l < 4) (hp : p ≤ 5) (ha : a ≤ 5) (hu : u < p)
    (K1 : p ≤ a → post 1 (uRl, uRw, uVl, uAl, uAc, uCs, uWd, uTc, uSa, uBl, uBs, uRA, uRS, uTu, uAR, uTn, uTi, uTv, uPl, uCv, uRe, uTr, uTd, uTt, uTk, uTs, uDp, uPy, uPc, uR0, uR1, uPo, upd uCa l g.toInt32, uMi, uTg, uTa))
    (K0 : ∀ u', a < p → u' < p → (u' = u + 1 ∨ (u' = 0 ∧ u + 1 = p)) → J g (nI a) (nI u') (nI (s + 1)) uRA uRS uTu uAR uTn uTi uTv uPl uCv uRe uTr uTd uTt uTk uTs uDp uPy uPc uR0 uR1 uPo uCa uMi uTg uTa) :
    wX_leapfrog_155 post J (nI l) (nI p) g (nI a) (nI u) (nI s) uRl uRw uVl uAl uAc uCs uWd uTc uSa uBl uBs uRA uRS uTu uAR uTn uTi uTv uPl uCv uRe uTr uTd uTt uTk uTs uDp uPy uPc uR0 uR1 uPo uCa uMi uTg uTa := by
  unfold wX_leapfrog_155
  refine pk_lt a p (fun z => nm_r (nI_1 u) (pk_lt (u + 1) p (fun y => nm_r (nI_1 s) (K0 (u + 1) z y (Or.inl rfl))) (fun y => nm_r (nI_1 s) (K0 0 z (by omega) (Or.inr ⟨rfl, by omega⟩))))) (fun z => ⟨vp_in_nI hl (by omega), nm_r (e' := upd uCa l g.toInt32) (by rw [jn_c (by omega)]) (K1 z)⟩)
theorem xl_lf {post : Int32 → SX → Prop} {l : Nat} {m0 : Int} {c : Nat → Int32} (H : jq_Sh n w R D C P L sa uTr uTd uTt uTk uDp uPy uPc) (hl : l < w)
    (K1 : ∀ (po : Nat → Int32) (v : Int32), m0 ≤ v.toInt → (∀ i d, i < n → d < D i → C i d = l → jx_Ps R C uTt c uR1 po i d v.toInt ∧ jx_Ag uTt uR1 po i d v.toInt) →
      (∀ x, jx_nf n D C l x → po x = uPo x) → (∀ v' : Int, m0 ≤ v' → v' < v.toInt → ¬ jx_Co n R D C uTt c l v') → post 1 (uRl, uRw, uVl, uAl, uAc, uCs, uWd, uTc, uSa, uBl, uBs, uRA, uRS, uTu, uAR, uTn, uTi, uTv, uPl, uCv, uRe, uTr, uTd, uTt, uTk, uTs, uDp, uPy, uPc, uR0, uR1, po, upd uCa l v, uMi, uTg, uTa))
    (K0 : ∀ (po : Nat → Int32), (∀ x, jx_nf n D C l x → po x = uPo x) → (∀ v' : Int, m0 ≤ v' → ¬ jx_Co n R D C uTt c l v') → post 0 (uRl, uRw, uVl, uAl, uAc, uCs, uWd, uTc, uSa, uBl, uBs, uRA, uRS, uTu, uAR, uTn, uTi, uTv, uPl, uCv, uRe, uTr, uTd, uTt, uTk, uTs, uDp, uPy, uPc, uR0, uR1, po, uCa, uMi, uTg, uTa)) :
    ∀ N f (g : Int64) a u s (po : Nat → Int32), 5 * js_n (jx_me R D C L uTt l g.toInt) (P l) + 5 ≤ N + a → N < f → s + N ≤ 305 → a < P l → u < P l → m0 ≤ g.toInt →
      (∀ i d, i < n → d < D i → C i d = l → jx_Ps R C uTt c uR1 po i d g.toInt) → (∀ x, jx_nf n D C l x → po x = uPo x) →
      (∀ v' : Int, m0 ≤ v' → v' < g.toInt → ¬ jx_Co n R D C uTt c l v') →
      (∀ m, m < P l → (m < u ∧ u ≤ m + a) ∨ (u ≤ m ∧ u + P l ≤ m + a) → ∀ d, d < D (L l m) → C (L l m) d = l → jx_Ag uTt uR1 po (L l m) d g.toInt) →
      wX_leapfrog_23 post (nI l) (nI (P l)) uRl uRw uVl uAl uAc uCs uWd uTc uSa uBl uBs f g (nI a) (nI u) (nI s) uRA uRS uTu uAR uTn uTi uTv uPl uCv uRe uTr uTd uTt uTk uTs uDp uPy uPc uR0 uR1 po uCa uMi uTg uTa := by
  have w4 := sh_w H
  have n5 := sh_n H
  obtain ⟨_, p1, p5⟩ := sh_p H hl
  intro N
  induction N with
  | zero => intro f g a u s po g1 g2 g3 g4; omega
  | succ N ih =>
    intro f g a u s po g1 g2 g3 g4 g5 g6 g7 g8 g9 g10
    obtain ⟨f, rfl⟩ : ∃ m, f = m + 1 := ⟨f - 1, by omega⟩
    rw [wX_leapfrog_23]
    obtain ⟨h1, h2, d, h3, h4⟩ := sh_L H hl g5
    obtain ⟨i, ei⟩ : ∃ i, i = L l u := ⟨_, rfl⟩
    rw [← ei] at h1 h2 h3 h4
    obtain ⟨_, hR, _, hD⟩ := sh_i H h2
    obtain ⟨_, _, hdp⟩ := sh_d H h2 h3
    rw [h4] at hdp
    obtain ⟨b, q, e1, e2, hq, hb, B1, B2⟩ := g7 i d h2 h3 h4
    refine br_f (nI_ge (b := 400) (by omega) (by omega)) ?_
    have x10 : (nI (i * 4 + d)).toNatClampNeg = i * 4 + d := jn_c (by omega)
    have v10 : vp_in (nI (i * 4 + d)) 20 := vp_in_nI (by omega) (by omega)
    refine ⟨by rw [jx_5]; exact vp_in_nI (by omega) (by omega), nm_r (e' := nI i) (by rw [jx_5, jn_c (by omega)]; exact h1) ⟨by rw [jx_4]; exact vp_in_nI (by omega) (by omega), nm_r (e' := nI d) (by rw [jx_4, jn_c (by omega)]; exact hdp) (nm_r (jx_4 i d) ⟨v10, v10, ?_⟩)⟩⟩
    rw [x10, e1, e2]
    have mo : ∀ j k, q ≤ j → j ≤ k → k < b → (uTt ((i * 12 + j) * 3 + d)).toInt ≤ (uTt ((i * 12 + k) * 3 + d)).toInt := fun j k j1 j2 j3 => sh_mo H h2 h3 j2 (by omega) (B2 j j1 (by omega)) (B2 k (by omega) j3)
    refine xl_low (by omega) (by omega) hq (by omega) mo (fun r r1 r2 A1 A2 => ⟨v10, nm_e ⟨v10, ?_⟩⟩)
    have nf : ∀ x, jx_nf n D C l x → upd po (i * 4 + d) (nI r) x = uPo x := fun x hx => by
      rw [pk_un (hx i d h2 h3 h4)]; exact g8 x hx
    -- positions for a goal not below the old one
    have PS : ∀ g' : Int, g.toInt ≤ g' → ∀ i' d', i' < n → d' < D i' → C i' d' = l → jx_Ps R C uTt c uR1 (upd po (i * 4 + d) (nI r)) i' d' g' := by
      intro g' hg' i' d' k1 k2 k3
      by_cases z : i' = i
      · subst z
        have := sh_u H k1 k2 h3 (k3.trans h4.symm)
        subst this
        refine ⟨b, r, e1, pk_us, r2, hb, fun k c1 c2 c3 => ?_, fun k c1 c2 => B2 k (by omega) c2⟩
        obtain ⟨y1, y2⟩ := B1 k c1 c2 (by omega)
        refine ⟨?_, y2⟩
        rcases Nat.lt_or_ge k r with s | s
        · have := A1 k y1 s; omega
        · exact s
      · obtain ⟨b', q', w1, w2, w3, w4', w5, w6⟩ := g7 i' d' k1 k2 k3
        have hD' := (sh_i H k1).2.2.2
        exact ⟨b', q', w1, by rw [pk_un (by omega)]; exact w2, w3, w4', fun k c1 c2 c3 => w5 k c1 c2 (by omega), w6⟩
    refine pk_lt r b (fun z => ?_) (fun z => ?_)
    · rw [jx_c, jn_c (by omega)]
      refine ⟨vp_in_nI (by omega) (by omega), nm_e (br_c (fun y => ?_) (fun y => ?_))⟩
      · -- the player agrees
        have y1 := ji_R.mp y
        have y2 := A2 r (Nat.le_refl _) z
        have eg : g = (uTt ((i * 12 + r) * 3 + d)).toInt64 := Int64.toInt_inj.mp (by rw [Int32.toInt_toInt64]; omega)
        have AG : ∀ m, m < P l → (m = u ∨ (m < u ∧ u ≤ m + a) ∨ (u ≤ m ∧ u + P l ≤ m + a)) → ∀ d', d' < D (L l m) → C (L l m) d' = l → jx_Ag uTt uR1 (upd po (i * 4 + d) (nI r)) (L l m) d' g.toInt := by
          intro m m1 m2 d' k2 k3
          have k1 := (sh_L H hl m1).2.1
          by_cases s : L l m = i
          · rw [s] at k1 k2 k3 ⊢
            have := sh_u H k1 k2 h3 (k3.trans h4.symm)
            subst this
            exact ⟨b, r, e1, pk_us, z, by omega, by omega⟩
          · have s' : m ≠ u := fun e => s (by rw [e]; exact ei.symm)
            obtain ⟨b', q', w1, w2, w3, w4', w5'⟩ := g10 m m1 (m2.resolve_left s') d' k2 k3
            have hD' := (sh_i H k1).2.2.2
            exact ⟨b', q', w1, by rw [pk_un (by omega)]; exact w2, w3, w4', w5'⟩
        refine nm_r (nI_1 a) (xl_155 (by omega) p5 (by omega) g5 (fun s => ?_) (fun u' s1 s2 s3 => ?_))
        · have ec : g.toInt32 = uTt ((i * 12 + r) * 3 + d) := by rw [eg, Int32.toInt32_toInt64]
          have eg' : (uTt ((i * 12 + r) * 3 + d)).toInt = g.toInt := by omega
          rw [ec]
          refine K1 _ _ (by omega) (fun i' d' k1 k2 k3 => ?_) nf (fun v' c1 c2 => g9 v' c1 (by omega))
          rw [eg']
          refine ⟨PS g.toInt (Int.le_refl _) i' d' k1 k2 k3, ?_⟩
          obtain ⟨m, m1, m2⟩ := sh_on H k1 k2
          rw [k3] at m1 m2
          have := AG m m1 (by omega)
          rw [m2] at this
          exact this d' k2 k3
        · refine ih f g (a + 1) u' (s + 1) _ (by omega) (by omega) (by omega) s1 s2 g6 (PS g.toInt (Int.le_refl _)) nf g9 (fun m m1 m2 => AG m m1 (by omega))
      · -- the player raises the goal
        have y1 : ¬ (uTt ((i * 12 + r) * 3 + d)).toInt ≤ g.toInt := fun s => y (ji_R.mpr s)
        have eT : (uTt ((i * 12 + r) * 3 + d)).toInt64.toInt = (uTt ((i * 12 + r) * 3 + d)).toInt := Int32.toInt_toInt64 _
        have PS' := PS (uTt ((i * 12 + r) * 3 + d)).toInt64.toInt (by omega)
        have AG : ∀ d', d' < D i → C i d' = l → jx_Ag uTt uR1 (upd po (i * 4 + d) (nI r)) i d' (uTt ((i * 12 + r) * 3 + d)).toInt64.toInt := fun d' k2 k3 => by
          have := sh_u H h2 k2 h3 (k3.trans h4.symm)
          subst this
          exact ⟨b, r, e1, pk_us, z, by omega, eT.symm⟩
        have NC : ∀ v' : Int, m0 ≤ v' → v' < (uTt ((i * 12 + r) * 3 + d)).toInt → ¬ jx_Co n R D C uTt c l v' := fun v' c1 c2 c3 => by
          rcases Int.lt_or_le v' g.toInt with s | s
          · exact g9 v' c1 s c3
          · obtain ⟨k, k1, k2, k3⟩ := c3 i d h2 h3 h4
            obtain ⟨x1, x2⟩ := B1 k k1 k2 (by omega)
            rcases Nat.lt_or_ge k r with t | t
            · have := A1 k x1 t; omega
            · have := mo r k r1 t x2; omega
        refine xl_155 (a := 1) (by omega) p5 (by omega) g5 (fun s => ?_) (fun u' s1 s2 s3 => ?_)
        · rw [Int32.toInt32_toInt64]
          refine K1 _ _ (by omega) (fun i' d' k1 k2 k3 => ?_) nf NC
          rw [← eT]
          refine ⟨PS' i' d' k1 k2 k3, ?_⟩
          obtain ⟨m, m1, m2⟩ := sh_on H k1 k2
          rw [k3] at m1 m2
          have : m = u := by omega
          subst this
          have : i' = i := by rw [← m2, ei]
          subst this
          exact AG d' k2 k3
        · have lt : js_n (jx_me R D C L uTt l (uTt ((i * 12 + r) * 3 + d)).toInt64.toInt) (P l) < js_n (jx_me R D C L uTt l g.toInt) (P l) := by
            refine js_lt (a := u) ?_ (fun m _ => ?_) g5
            · refine jc_lt (a := r) ?_ ?_ (fun k _ hk => ?_) ?_
              · rintro ⟨d', c1, c2, c3⟩
                rw [← ei] at c1 c2 c3
                have := sh_u H h2 c1 h3 (c2.trans h4.symm)
                subst this
                omega
              · refine ⟨d, ?_, ?_, ?_⟩
                · rw [← ei]; exact h3
                · rw [← ei]; exact h4
                · rw [← ei]; omega
              · obtain ⟨d', c1, c2, c3⟩ := hk
                exact ⟨d', c1, c2, by omega⟩
              · rw [← ei]; omega
            · refine jc_mono fun k _ hk => ?_
              obtain ⟨d', c1, c2, c3⟩ := hk
              exact ⟨d', c1, c2, by omega⟩
          refine ih f _ 1 u' (s + 1) _ (by omega) (by omega) (by omega) s1 s2 (by omega) PS' nf (fun v' c1 c2 => NC v' c1 (by omega)) (fun m m1 m2 d' k2 k3 => ?_)
          have : m = u := by omega
          subst this
          rw [← ei] at k2 k3 ⊢
          exact AG d' k2 k3
    · refine K0 _ nf (fun v' c1 c2 => ?_)
      rcases Int.lt_or_le v' g.toInt with s | s
      · exact g9 v' c1 s c2
      · obtain ⟨k, k1, k2, k3⟩ := c2 i d h2 h3 h4
        obtain ⟨x1, x2⟩ := B1 k k1 k2 (by omega)
        have := A1 k x1 (by omega)
        omega
theorem xl_leap {post : Int32 → SX → Prop} {l : Nat} {c : Nat → Int32} (H : jq_Sh n w R D C P L sa uTr uTd uTt uTk uDp uPy uPc) (hl : l < w)
    (hp : ∀ i d, i < n → d < D i → C i d = l → jx_Ps R C uTt c uR1 uPo i d (uMi l).toInt)
    (K1 : ∀ (po : Nat → Int32) (v : Int32), (uMi l).toInt ≤ v.toInt → (∀ i d, i < n → d < D i → C i d = l → jx_Ps R C uTt c uR1 po i d v.toInt ∧ jx_Ag uTt uR1 po i d v.toInt) →
      (∀ x, jx_nf n D C l x → po x = uPo x) → (∀ v' : Int, (uMi l).toInt ≤ v' → v' < v.toInt → ¬ jx_Co n R D C uTt c l v') → post 1 (uRl, uRw, uVl, uAl, uAc, uCs, uWd, uTc, uSa, uBl, uBs, uRA, uRS, uTu, uAR, uTn, uTi, uTv, uPl, uCv, uRe, uTr, uTd, uTt, uTk, uTs, uDp, uPy, uPc, uR0, uR1, po, upd uCa l v, uMi, uTg, uTa))
    (K0 : ∀ (po : Nat → Int32), (∀ x, jx_nf n D C l x → po x = uPo x) → (∀ v' : Int, (uMi l).toInt ≤ v' → ¬ jx_Co n R D C uTt c l v') → post 0 (uRl, uRw, uVl, uAl, uAc, uCs, uWd, uTc, uSa, uBl, uBs, uRA, uRS, uTu, uAR, uTn, uTi, uTv, uPl, uCv, uRe, uTr, uTd, uTt, uTk, uTs, uDp, uPy, uPc, uR0, uR1, po, uCa, uMi, uTg, uTa)) :
    wpX_leapfrog post (uRl, uRw, uVl, uAl, uAc, uCs, uWd, uTc, uSa, uBl, uBs, uRA, uRS, uTu, uAR, uTn, uTi, uTv, uPl, uCv, uRe, uTr, uTd, uTt, uTk, uTs, uDp, uPy, uPc, uR0, uR1, uPo, uCa, uMi, uTg, uTa) (nI l) := by
  have w4 := sh_w H
  obtain ⟨ep, p1, p5⟩ := sh_p H hl
  have b : js_n (jx_me R D C L uTt l (uMi l).toInt) (P l) ≤ P l * 12 := js_le fun m hm => by
    have := (sh_i H (sh_L H hl hm).2.1).2.1
    exact Nat.le_trans (jc_le _ _) this
  have cl : (nI l).toNatClampNeg = l := jn_c (by omega)
  have il : vp_in (nI l) 4 := vp_in_nI (by omega) (by omega)
  refine ⟨il, nm_r (e' := nI (P l)) (by rw [cl]; exact ep) ⟨il, nm_r (e' := uMi l) (by rw [cl]) ⟨306, ?_⟩⟩⟩
  exact xl_lf H hl K1 K0 305 306 (uMi l) 0 0 0 uPo (by omega) (by omega) (by omega) (by omega) (by omega) (Int.le_refl _) hp (fun _ _ => rfl) (fun v' a1 a2 => absurd a1 (by omega)) (fun m m1 m2 => absurd m2 (by omega))
end XL
end
section
/-! the search, without the program -/
def jx_Ext (n : Nat) (R D : Nat → Nat) (C : Nat → Nat → Nat) (tt : Nat → Int32) (l : Nat) (t : Nat → Int32) : Prop :=
  ∀ i, i < n → ∃ k, k < R i ∧ ∀ d, d < D i → C i d < l → tt ((i * 12 + k) * 3 + d) = t (C i d)
def jx_Rg (R : Nat → Nat) (C : Nat → Nat → Nat) (tt c r0 r1 : Nat → Int32) (i d : Nat) : Prop :=
  ∃ a b, r0 (i * 4 + d) = nI a ∧ r1 (i * 4 + d) = nI b ∧ a ≤ b ∧ b ≤ R i ∧ ∀ k, k < R i → ((a ≤ k ∧ k < b) ↔ jx_pm C tt c i d k)
def jx_Pa (R : Nat → Nat) (C : Nat → Nat → Nat) (tt c r1 po : Nat → Int32) (i d : Nat) (m : Int) : Prop :=
  ∃ b q, r1 (i * 4 + d) = nI b ∧ po (i * 4 + d) = nI q ∧ q < b ∧ b ≤ R i ∧ (tt ((i * 12 + q) * 3 + d)).toInt = m ∧
    (∀ k, k < R i → jx_pm C tt c i d k → m ≤ (tt ((i * 12 + k) * 3 + d)).toInt → q ≤ k ∧ k < b) ∧ (∀ k, q ≤ k → k < b → jx_pm C tt c i d k)
def jp_PB (len : Nat) (st : Prop) (ta : Nat → Int32) (l : Nat) (c : Nat → Int32) : Prop :=
  (∃ p, p < l ∧ p < len ∧ jl_eq p c ta ∧ (ta p).toInt < (c p).toInt) ∨ ((∀ q, q < l → q < len → c q = ta q) ∧ (st → l < len))
def jp_Bd (len : Nat) (st : Prop) (ta t : Nat → Int32) : Prop := jl_lt len ta t ∨ (jl_eq len ta t ∧ ¬ st)
def jp_TG (c ta tg : Nat → Int32) (l : Nat) : Prop := (jl_eq l c ta ∧ tg l = 1) ∨ (¬ jl_eq l c ta ∧ tg l = 0)
def jp_F (l : Nat) (c : Nat → Int32) (m : Int) (t : Nat → Int32) : Prop := jl_lt l c t ∨ (jl_eq l c t ∧ m ≤ (t l).toInt)
/-- after a success at level l: c has its values below l + 1, the ranges are right there -/
def jx_SE (n w : Nat) (R D : Nat → Nat) (C : Nat → Nat → Nat) (tt ta : Nat → Int32) (len : Nat) (st : Prop) (l : Nat) (c r0 r1 po tg : Nat → Int32) : Prop :=
  l < w ∧ jx_Ext n R D C tt (l + 1) c ∧ (∀ i d, i < n → d < D i → (∀ e, e < d → C i e < l + 1) → jx_Rg R C tt c r0 r1 i d) ∧
  (∀ i d, i < n → d < D i → C i d < l + 1 → jx_Ps R C tt c r1 po i d ((c (C i d)).toInt + 1)) ∧ (∀ l', l' ≤ l → jp_TG c ta tg l') ∧ jp_PB len st ta (l + 1) c
/-- at the head of the loop, at level l, from m on -/
def jx_SI (n w : Nat) (R D : Nat → Nat) (C : Nat → Nat → Nat) (tt ta : Nat → Int32) (len : Nat) (st : Prop) (l : Nat) (m : Int) (c r0 r1 po tg : Nat → Int32) : Prop :=
  l < w ∧ jx_Ext n R D C tt l c ∧ (∀ i d, i < n → d < D i → (∀ e, e < d → C i e < l) → jx_Rg R C tt c r0 r1 i d) ∧
  (∀ i d, i < n → d < D i → C i d = l → jx_Ps R C tt c r1 po i d m) ∧
  (∀ i d, i < n → d < D i → C i d < l → jx_Ps R C tt c r1 po i d ((c (C i d)).toInt + 1)) ∧ (∀ l', l' ≤ l → jp_TG c ta tg l') ∧ jp_PB len st ta l c ∧
  (∀ v : Int32, m ≤ v.toInt → jp_PB len st ta (l + 1) (upd c l v))
/-- the rows of a level's first player still ahead -/
noncomputable def jm_r (R D : Nat → Nat) (C : Nat → Nat → Nat) (L : Nat → Nat → Nat) (tt : Nat → Int32) (l : Nat) (c : Nat → Int32) (m : Int) : Nat :=
  jc_n (fun k => ∃ d, d < D (L l 0) ∧ C (L l 0) d = l ∧ jx_pm C tt c (L l 0) d k ∧ m ≤ (tt ((L l 0 * 12 + k) * 3 + d)).toInt) (R (L l 0))
def jm_k : Nat → Nat
  | 0 => 2042
  | 1 => 170
  | 2 => 14
  | _ => 1
noncomputable def jm_mu (R D : Nat → Nat) (C : Nat → Nat → Nat) (L : Nat → Nat → Nat) (tt c : Nat → Int32) : Nat → Nat
  | 0 => 0
  | l + 1 => jm_mu R D C L tt c l + (1 + jm_r R D C L tt l c ((c l).toInt + 1) * jm_k l)
section PJ
variable {n w : Nat} {R D : Nat → Nat} {C : Nat → Nat → Nat} {P : Nat → Nat} {L : Nat → Nat → Nat} {sa : Int32} {tr td tt tk dp py pc : Nat → Int32}
variable {len : Nat} {st : Prop} {ta c c' r0 r1 r0' r1' po po' tg tg' : Nat → Int32} {l : Nat} {m : Int}
theorem pj_pa {i d : Nat} (hR : R i ≤ 12) (h1 : jx_Ps R C tt c r1 po i d m) (h2 : jx_Ag tt r1 po i d m) : jx_Pa R C tt c r1 po i d m := by
  obtain ⟨b, q, a1, a2, a3, a4, a5, a6⟩ := h1
  obtain ⟨b', q', b1, b2, b3, b4, b5⟩ := h2
  have e1 : b = b' := jn_i (a1.symm.trans b1) (by omega) (by omega)
  have e2 : q = q' := jn_i (a2.symm.trans b2) (by omega) (by omega)
  subst e1 e2
  exact ⟨b, q, a1, a2, b3, a4, b5, a5, a6⟩
theorem pj_pm {i d k : Nat} (h : ∀ e, e < d → c (C i e) = c' (C i e)) : jx_pm C tt c i d k ↔ jx_pm C tt c' i d k :=
  ⟨fun z e he => (z e he).trans (h e he), fun z e he => (z e he).trans (h e he).symm⟩
theorem pj_rg {i d : Nat} (h : ∀ e, e < d → c (C i e) = c' (C i e)) (e0 : r0' (i * 4 + d) = r0 (i * 4 + d)) (e1 : r1' (i * 4 + d) = r1 (i * 4 + d)) (z : jx_Rg R C tt c r0 r1 i d) : jx_Rg R C tt c' r0' r1' i d := by
  obtain ⟨a, b, a1, a2, a3, a4, a5⟩ := z
  exact ⟨a, b, e0.trans a1, e1.trans a2, a3, a4, fun k hk => (a5 k hk).trans (pj_pm h)⟩
theorem pj_ps {i d : Nat} {m' : Int} (h : ∀ e, e < d → c (C i e) = c' (C i e)) (e0 : po' (i * 4 + d) = po (i * 4 + d)) (e1 : r1' (i * 4 + d) = r1 (i * 4 + d)) (hm : m ≤ m') (z : jx_Ps R C tt c r1 po i d m) : jx_Ps R C tt c' r1' po' i d m' := by
  obtain ⟨b, q, a1, a2, a3, a4, a5, a6⟩ := z
  exact ⟨b, q, e1.trans a1, e0.trans a2, a3, a4, fun k k1 k2 k3 => a5 k k1 ((pj_pm h).mpr k2) (by omega), fun k k1 k2 => (pj_pm h).mp (a6 k k1 k2)⟩
theorem pj_em {l' : Nat} (hl : l' ≤ l) (h : jx_Ext n R D C tt l c) : jx_Ext n R D C tt l' c := fun i hi => by
  obtain ⟨k, k1, k2⟩ := h i hi
  exact ⟨k, k1, fun d d1 d2 => k2 d d1 (by omega)⟩
theorem pj_ec (h : jl_eq l c c') (z : jx_Ext n R D C tt l c) : jx_Ext n R D C tt l c' := fun i hi => by
  obtain ⟨k, k1, k2⟩ := z i hi
  exact ⟨k, k1, fun d d1 d2 => (k2 d d1 d2).trans (h _ d2)⟩
theorem pj_ue (c : Nat → Int32) (l : Nat) (v : Int32) : jl_eq l c (upd c l v) := fun q hq => (pk_un (by omega)).symm
/-- a success at level l can be extended so far -/
theorem pj_ex (H : jq_Sh n w R D C P L sa tr td tt tk dp py pc) {v : Int32} (hE : jx_Ext n R D C tt l c)
    (hA : ∀ i d, i < n → d < D i → C i d = l → jx_Pa R C tt c r1 po i d v.toInt) : jx_Ext n R D C tt (l + 1) (upd c l v) := fun i hi => by
  by_cases z : ∃ d, d < D i ∧ C i d = l
  · obtain ⟨d, d1, d2⟩ := z
    obtain ⟨b, q, a1, a2, a3, a4, a5, a6, a7⟩ := hA i d hi d1 d2
    refine ⟨q, by omega, fun d' e1 e2 => ?_⟩
    rcases Nat.lt_trichotomy d' d with y | y | y
    · have := sh_C H hi y d1
      rw [pk_un (by omega)]
      exact a7 q (Nat.le_refl _) a3 d' y
    · subst y
      rw [d2, pk_us]
      exact ji_eq.mpr a5
    · have := sh_C H hi y e1
      omega
  · obtain ⟨k, k1, k2⟩ := hE i hi
    refine ⟨k, k1, fun d d1 d2 => ?_⟩
    have : C i d ≠ l := fun e => z ⟨d, d1, e⟩
    rw [pk_un this]
    exact k2 d d1 (by omega)
/-- a result that agrees with c below l has a common value at l -/
theorem pj_co (H : jq_Sh n w R D C P L sa tr td tt tk dp py pc) {t : Nat → Int32} (hl : l < w) (ht : jx_Ext n R D C tt w t) (h : jl_eq l c t) : jx_Co n R D C tt c l (t l).toInt := fun i d hi hd e => by
  obtain ⟨k, k1, k2⟩ := ht i hi
  refine ⟨k, k1, fun e' he => ?_, ?_⟩
  · have := sh_C H hi he hd
    rw [k2 e' (by omega) (by omega), h _ (by omega)]
  · rw [k2 d hd (by omega), e]
theorem pj_t1 (H : jq_Sh n w R D C P L sa tr td tt tk dp py pc) {v : Int32} (S : jx_SI n w R D C tt ta len st l m c r0 r1 po tg) (hm : m ≤ v.toInt)
    (hA : ∀ i d, i < n → d < D i → C i d = l → jx_Pa R C tt c r1 po' i d v.toInt) (hN : ∀ x, jx_nf n D C l x → po' x = po x)
    (hB : ∀ i d, i < n → d < D i → C i d = l → jx_Rg R C tt (upd c l v) r0' r1' i (d + 1))
    (hF : ∀ x, (∀ i d, i < n → d < D i → C i d = l → x ≠ i * 4 + (d + 1)) → r0' x = r0 x ∧ r1' x = r1 x) :
    jx_SE n w R D C tt ta len st l (upd c l v) r0' r1' po' tg := by
  obtain ⟨s1, s2, s3, s4, s5, s6, s7, s8⟩ := S
  have cc : ∀ i d, i < n → d < D i → (∀ e, e < d → C i e < l) → ∀ e, e < d → c (C i e) = upd c l v (C i e) := fun i d _ _ h e he => (pk_un (by have := h e he; omega)).symm
  refine ⟨s1, pj_ex H s2 hA, fun i d hi hd h => ?_, fun i d hi hd h => ?_, fun l' hl' => ?_, s8 v hm⟩
  · have hD := (sh_i H hi).2.2.2
    by_cases z : ∃ d0, d = d0 + 1 ∧ C i d0 = l
    · obtain ⟨d0, rfl, e⟩ := z
      exact hB i d0 hi (by omega) e
    · have h' : ∀ e, e < d → C i e < l := fun e he => by
        have h1 := h e he
        rcases Nat.lt_or_ge (C i e) l with y | y
        · exact y
        · have ee : C i e = l := by omega
          rcases Nat.lt_or_ge (e + 1) d with x | x
          · have h2 := h (e + 1) x
            have h3 := sh_C H hi (by omega : e < e + 1) (by omega : e + 1 < D i)
            omega
          · exact absurd ⟨e, by omega, ee⟩ z
      have fr := hF (i * 4 + d) (fun i' d' k1 k2 k3 e => by
        have hD' := (sh_i H k1).2.2.2
        have e1 : i = i' := by omega
        have e2 : d = d' + 1 := by omega
        subst e1
        exact z ⟨d', e2, k3⟩)
      exact pj_rg (cc i d hi hd h') fr.1 fr.2 (s3 i d hi hd h')
  · have hD := (sh_i H hi).2.2.2
    have lt : ∀ e, e < d → C i e < C i d := fun e he => sh_C H hi he hd
    have h' : ∀ e, e < d → C i e < l := fun e he => by have := lt e he; omega
    have fr := hF (i * 4 + d) (fun i' d' k1 k2 k3 e => by
      have hD' := (sh_i H k1).2.2.2
      have e1 : i = i' := by omega
      have e2 : d = d' + 1 := by omega
      subst e1
      have := lt d' (by omega)
      omega)
    by_cases z : C i d = l
    · have := hA i d hi hd z
      obtain ⟨b, q, a1, a2, a3, a4, a5, a6, a7⟩ := this
      have ps : jx_Ps R C tt c r1 po' i d v.toInt := ⟨b, q, a1, a2, by omega, a4, a6, a7⟩
      rw [z, pk_us]
      exact pj_ps (cc i d hi hd h') rfl fr.2 (by omega) ps
    · have e : upd c l v (C i d) = c (C i d) := pk_un z
      rw [e]
      refine pj_ps (cc i d hi hd h') (hN _ fun i' d' k1 k2 k3 e => ?_) fr.2 (Int.le_refl _) (s5 i d hi hd (by omega))
      have hD' := (sh_i H k1).2.2.2
      have e1 : i = i' := by omega
      have e2 : d = d' := by omega
      subst e1 e2
      exact z k3
  · have e : jl_eq l' c (upd c l v) := jl_em (pj_ue c l v) hl'
    rcases s6 l' hl' with ⟨y1, y2⟩ | ⟨y1, y2⟩
    · exact Or.inl ⟨jl_et (jl_es e) y1, y2⟩
    · exact Or.inr ⟨fun x => y1 (jl_et e x), y2⟩
theorem pj_t2 (H : jq_Sh n w R D C P L sa tr td tt tk dp py pc) {mi : Int} (S : jx_SE n w R D C tt ta len st l c r0 r1 po tg) (hl : l + 1 < w)
    (hP : ∀ i d, i < n → d < D i → C i d = l + 1 → po' (i * 4 + d) = r0 (i * 4 + d)) (hN : ∀ x, jx_nf n D C (l + 1) x → po' x = po x)
    (hT : jp_TG c ta tg' (l + 1)) (hT' : ∀ x, x ≠ l + 1 → tg' x = tg x) (hA : ∀ v : Int32, mi ≤ v.toInt → jp_PB len st ta (l + 1) c → jp_PB len st ta (l + 2) (upd c (l + 1) v)) :
    jx_SI n w R D C tt ta len st (l + 1) mi c r0 r1 po' tg' := by
  obtain ⟨s1, s2, s3, s4, s5, s6⟩ := S
  refine ⟨hl, s2, s3, fun i d hi hd h => ?_, fun i d hi hd h => ?_, fun l' hl' => ?_, s6, fun v hv => hA v hv s6⟩
  · obtain ⟨a, b, a1, a2, a3, a4, a5⟩ := s3 i d hi hd (fun e he => by have := sh_C H hi he hd; omega)
    exact ⟨b, a, a2, (hP i d hi hd h).trans a1, a3, a4, fun k k1 k2 _ => (a5 k k1).mpr k2, fun k k1 k2 => (a5 k (by omega)).mp ⟨k1, k2⟩⟩
  · refine pj_ps (fun _ _ => rfl) (hN _ fun i' d' k1 k2 k3 e => ?_) rfl (Int.le_refl _) (s4 i d hi hd h)
    have hD := (sh_i H hi).2.2.2
    have hD' := (sh_i H k1).2.2.2
    have e1 : i = i' := by omega
    have e2 : d = d' := by omega
    subst e1 e2
    omega
  · rcases Nat.lt_or_ge l' (l + 1) with z | z
    · have := s5 l' (by omega)
      rw [jp_TG, hT' l' (by omega)]
      exact this
    · have : l' = l + 1 := by omega
      subst this; exact hT
theorem pb_up {v : Int32} (h : jp_PB len st ta (l + 1) c) (hv : (c l).toInt + 1 ≤ v.toInt) : jp_PB len st ta (l + 1) (upd c l v) := by
  have ue := pj_ue c l v
  rcases h with ⟨p, p1, p2, p3, p4⟩ | ⟨h1, h2⟩
  · rcases Nat.lt_or_ge p l with z | z
    · exact Or.inl ⟨p, p1, p2, jl_et (jl_es (jl_em ue (by omega))) p3, by rw [pk_un (by omega)]; exact p4⟩
    · have : p = l := by omega
      subst this
      exact Or.inl ⟨p, p1, p2, jl_et (jl_es ue) p3, by rw [pk_us]; omega⟩
  · rcases Nat.lt_or_ge l len with z | z
    · have e := h1 l (by omega) z
      exact Or.inl ⟨l, by omega, z, fun q hq => by rw [pk_un (by omega)]; exact h1 q (by omega) (by omega), by rw [pk_us, ← e]; omega⟩
    · exact Or.inr ⟨fun q q1 q2 => by rw [pk_un (by omega)]; exact h1 q q1 q2, h2⟩
theorem pb_dn (h : jp_PB len st ta (l + 1) c) : jp_PB len st ta l c := by
  rcases h with ⟨p, p1, p2, p3, p4⟩ | ⟨h1, h2⟩
  · rcases Nat.lt_or_ge p l with z | z
    · exact Or.inl ⟨p, z, p2, p3, p4⟩
    · have : p = l := by omega
      subst this
      exact Or.inr ⟨fun q q1 _ => p3 q q1, fun _ => p2⟩
  · exact Or.inr ⟨fun q q1 q2 => h1 q (by omega) q2, fun s => by have := h2 s; omega⟩
theorem pb_Bd (hl : len ≤ w) (h : jp_PB len st ta w c) : jp_Bd len st ta c := by
  rcases h with ⟨p, p1, p2, p3, p4⟩ | ⟨h1, h2⟩
  · exact Or.inl ⟨p, p2, jl_es p3, p4⟩
  · exact Or.inr ⟨fun q hq => (h1 q (by omega) hq).symm, fun s => by have := h2 s; omega⟩
/-- the least value that enterLevel computes -/
theorem pb_min (h0 : (¬ jl_eq l c ta ∨ len ≤ l) → m = -2147483648)
    (h1 : jl_eq l c ta → l < len → ((st ∧ l + 1 = len) → m = (ta l).toInt + 1) ∧ (¬ (st ∧ l + 1 = len) → m = (ta l).toInt)) :
    (∀ v : Int32, m ≤ v.toInt → jp_PB len st ta l c → jp_PB len st ta (l + 1) (upd c l v)) ∧ (∀ t, jp_Bd len st ta t → jl_eq l c t → m ≤ (t l).toInt) := by
  have low : m = -2147483648 → ∀ t : Nat → Int32, m ≤ (t l).toInt := fun e t => by have := (ji_b (t l)).1; omega
  constructor
  · intro v hv hp
    have ue := pj_ue c l v
    rcases hp with ⟨p, p1, p2, p3, p4⟩ | ⟨g1, g2⟩
    · exact Or.inl ⟨p, by omega, p2, jl_et (jl_es (jl_em ue (by omega))) p3, by rw [pk_un (by omega)]; exact p4⟩
    · rcases Nat.lt_or_ge l len with z | z
      · have e : jl_eq l c ta := fun q hq => g1 q hq (by omega)
        have h := h1 e z
        by_cases y : st ∧ l + 1 = len
        · have := h.1 y
          exact Or.inl ⟨l, by omega, z, jl_et (jl_es ue) e, by rw [pk_us]; omega⟩
        · have := h.2 y
          by_cases x : v.toInt = (ta l).toInt
          · refine Or.inr ⟨fun q q1 q2 => ?_, fun s => ?_⟩
            · by_cases t : q = l
              · subst t; rw [pk_us]; exact ji_eq.mpr x
              · rw [pk_un t]; exact g1 q (by omega) q2
            · rcases Nat.lt_or_ge (l + 1) len with t | t
              · exact t
              · exact absurd ⟨s, by omega⟩ y
          · exact Or.inl ⟨l, by omega, z, jl_et (jl_es ue) e, by rw [pk_us]; omega⟩
      · exact Or.inr ⟨fun q q1 q2 => by rw [pk_un (by omega)]; exact g1 q (by omega) q2, fun s => by have := g2 s; omega⟩
  · intro t ht he
    rcases Classical.em (jl_eq l c ta) with e | e
    · rcases Nat.lt_or_ge l len with z | z
      · have h := h1 e z
        rcases ht with ⟨p, p1, p2, p3⟩ | ⟨p1, p2⟩
        · rcases Nat.lt_trichotomy p l with y | y | y
          · have a1 := e p y
            have a2 := he p y
            rw [← a2, a1] at p3
            omega
          · subst y
            by_cases x : st ∧ p + 1 = len
            · have := h.1 x; omega
            · have := h.2 x; omega
          · have a1 := p2 l y
            rw [← a1]
            by_cases x : st ∧ l + 1 = len
            · omega
            · have := h.2 x; omega
        · have a1 := p1 l z
          rw [← a1]
          by_cases x : st ∧ l + 1 = len
          · exact absurd x.1 p2
          · have := h.2 x; omega
      · exact low (h0 (Or.inr z)) t
    · exact low (h0 (Or.inl e)) t
theorem pj_t4 (S : jx_SE n w R D C tt ta len st l c r0 r1 po tg) : jx_SI n w R D C tt ta len st l ((c l).toInt + 1) c r0 r1 po tg := by
  obtain ⟨s1, s2, s3, s4, s5, s6⟩ := S
  refine ⟨s1, pj_em (by omega) s2, fun i d hi hd h => s3 i d hi hd (fun e he => by have := h e he; omega), fun i d hi hd h => ?_, fun i d hi hd h => s4 i d hi hd (by omega), s5, pb_dn s6, fun v hv => pb_up s6 hv⟩
  have := s4 i d hi hd (by omega)
  rw [h] at this
  exact this
theorem pj_t3 (H : jq_Sh n w R D C P L sa tr td tt tk dp py pc) (S : jx_SI n w R D C tt ta len st (l + 1) m c r0 r1 po tg) (hN : ∀ x, jx_nf n D C (l + 1) x → po' x = po x) : jx_SE n w R D C tt ta len st l c r0 r1 po' tg := by
  obtain ⟨s1, s2, s3, s4, s5, s6, s7, s8⟩ := S
  refine ⟨by omega, s2, s3, fun i d hi hd h => ?_, fun l' hl' => s6 l' (by omega), s7⟩
  refine pj_ps (fun _ _ => rfl) (hN _ fun i' d' k1 k2 k3 e => ?_) rfl (Int.le_refl _) (s5 i d hi hd h)
  have hD := (sh_i H hi).2.2.2
  have hD' := (sh_i H k1).2.2.2
  have e1 : i = i' := by omega
  have e2 : d = d' := by omega
  subst e1 e2
  omega
/-- the frontier, at a success -/
theorem pf_1 (H : jq_Sh n w R D C P L sa tr td tt tk dp py pc) {v : Int32} {t : Nat → Int32} (hl : l < w) (hC : ∀ v' : Int, m ≤ v' → v' < v.toInt → ¬ jx_Co n R D C tt c l v')
    (ht : jx_Ext n R D C tt w t) (hF : jp_F l c m t) : jl_lt (l + 1) (upd c l v) t ∨ jl_eq (l + 1) (upd c l v) t := by
  have ue := pj_ue c l v
  rcases hF with h | ⟨h1, h2⟩
  · exact Or.inl (jl_s (jl_cg ue (jl_er _ _) h))
  · have co := pj_co H hl ht h1
    have ge : v.toInt ≤ (t l).toInt := by
      rcases Int.lt_or_le (t l).toInt v.toInt with z | z
      · exact absurd co (hC _ h2 z)
      · exact z
    by_cases e : v = t l
    · exact Or.inr (jl_e1 (jl_et (jl_es ue) h1) (by rw [pk_us]; exact e))
    · have : ¬ v.toInt = (t l).toInt := fun z => e (ji_eq.mpr z)
      exact Or.inl ⟨l, by omega, jl_et (jl_es ue) h1, by rw [pk_us]; omega⟩
theorem pf_1c {v : Int32} (hm : m ≤ v.toInt) : jp_F l c m (upd c l v) := Or.inr ⟨pj_ue c l v, by rw [pk_us]; exact hm⟩
theorem pf_1b {v : Int32} {t : Nat → Int32} (hm : m ≤ v.toInt) (h : jl_lt (l + 1) (upd c l v) t ∨ jl_eq (l + 1) (upd c l v) t) : jp_F l c m t := by
  have ue := pj_ue c l v
  rcases h with h | h
  · rcases jl_suc h with z | ⟨z1, z2⟩
    · exact Or.inl (jl_cg (jl_es ue) (jl_er _ _) z)
    · rw [pk_us] at z2
      exact Or.inr ⟨jl_et ue z1, by omega⟩
  · have e := h l (by omega)
    rw [pk_us] at e
    exact Or.inr ⟨jl_et ue (jl_em h (by omega)), by rw [← e]; exact hm⟩
theorem pf_2 (H : jq_Sh n w R D C P L sa tr td tt tk dp py pc) {t : Nat → Int32} (hl : l < w) (hC : ∀ v' : Int, m ≤ v' → ¬ jx_Co n R D C tt c l v')
    (ht : jx_Ext n R D C tt w t) (hF : jp_F l c m t) : jl_lt l c t := by
  rcases hF with h | ⟨h1, h2⟩
  · exact h
  · exact absurd (pj_co H hl ht h1) (hC _ h2)
theorem pf_s {t : Nat → Int32} : jl_lt (l + 1) c t ↔ jp_F l c ((c l).toInt + 1) t :=
  ⟨fun h => (jl_suc h).elim Or.inl fun z => Or.inr ⟨z.1, by have := z.2; omega⟩, fun h => h.elim jl_s fun z => ⟨l, by omega, z.1, by have := z.2; omega⟩⟩
/-- the measure -/
theorem pm_r12 (H : jq_Sh n w R D C P L sa tr td tt tk dp py pc) (hl : l < w) : jm_r R D C L tt l c m ≤ 12 :=
  Nat.le_trans (jc_le _ _) (sh_i H (sh_L H hl (sh_p H hl).2.1).2.1).2.1
theorem pm_cg (H : jq_Sh n w R D C P L sa tr td tt tk dp py pc) (hl : l < w) (h : jl_eq l c c') : jm_r R D C L tt l c m = jm_r R D C L tt l c' m := by
  have hi := (sh_L H hl (sh_p H hl).2.1).2.1
  refine jc_eq fun k _ => ?_
  have key : ∀ d, d < D (L l 0) → C (L l 0) d = l → ∀ e, e < d → c (C (L l 0) e) = c' (C (L l 0) e) := fun d d1 d2 e he => h _ (by have := sh_C H hi he d1; omega)
  constructor
  · rintro ⟨d, d1, d2, d3, d4⟩
    exact ⟨d, d1, d2, (pj_pm (key d d1 d2)).mp d3, d4⟩
  · rintro ⟨d, d1, d2, d3, d4⟩
    exact ⟨d, d1, d2, (pj_pm (key d d1 d2)).mpr d3, d4⟩
theorem pm_mu (H : jq_Sh n w R D C P L sa tr td tt tk dp py pc) : ∀ l, l ≤ w → jl_eq l c c' → jm_mu R D C L tt c l = jm_mu R D C L tt c' l
  | 0, _, _ => rfl
  | l + 1, hl, h => by
    have x := pm_mu H l (by omega) (jl_em h (by omega))
    have y := pm_cg (m := (c l).toInt + 1) H (by omega : l < w) (jl_em h (by omega : l ≤ l + 1))
    simp only [jm_mu]
    rw [x, y, h l (by omega)]
theorem pm_lt (H : jq_Sh n w R D C P L sa tr td tt tk dp py pc) {v : Int32} (hl : l < w) (hm : m ≤ v.toInt) (hA : ∀ i d, i < n → d < D i → C i d = l → jx_Pa R C tt c r1 po i d v.toInt) :
    jm_r R D C L tt l c (v.toInt + 1) < jm_r R D C L tt l c m := by
  obtain ⟨_, hi, d, d1, d2⟩ := sh_L H hl (sh_p H hl).2.1
  obtain ⟨b, q, a1, a2, a3, a4, a5, a6, a7⟩ := hA _ d hi d1 d2
  refine jc_lt (a := q) ?_ ⟨d, d1, d2, a7 q (Nat.le_refl _) a3, by omega⟩ (fun k _ hk => ?_) (by omega)
  · rintro ⟨d', e1, e2, e3, e4⟩
    have := sh_u H hi e1 d1 (e2.trans d2.symm)
    subst this
    omega
  · obtain ⟨d', e1, e2, e3, e4⟩ := hk
    exact ⟨d', e1, e2, e3, by omega⟩
theorem pm_b (H : jq_Sh n w R D C P L sa tr td tt tk dp py pc) : ∀ l, l ≤ w → jm_mu R D C L tt c l ≤ js_n (fun l => 1 + 12 * jm_k l) l
  | 0, _ => Nat.le_refl _
  | l + 1, hl => by
    have x := pm_b H l (by omega)
    have y := pm_r12 (c := c) (m := (c l).toInt + 1) H (by omega : l < w)
    have u := Nat.mul_le_mul_right (jm_k l) y
    simp only [jm_mu, js_n]
    omega
theorem pm_k : ∀ l, l ≤ 4 → js_n (fun l => 1 + 12 * jm_k l) l ≤ 26728 := by decide
theorem pm_k1 : ∀ l, l < 3 → 1 + (1 + 12 * jm_k (l + 1)) ≤ jm_k l := by decide
end PJ
end
section
/-! X's bind and enterLevel -/
section XB
variable {uRl uRw uVl uAl uAc uCs uWd uTc uSa uBl uBs : Int32} {uRA uRS uTu uAR uTn uTi uTv uPl uCv uRe uTr uTd uTt uTk uTs uDp uPy uPc uR0 uR1 uPo uCa : Nat → Int32} {uMi : Nat → Int64} {uTg uTa : Nat → Int32}
variable {n w : Nat} {R D : Nat → Nat} {C : Nat → Nat → Nat} {P : Nat → Nat} {L : Nat → Nat → Nat} {sa : Int32}
theorem xb_lp {post : SX → Prop} {l : Nat} {v : Int32} {g : Int64} (H : jq_Sh n w R D C P L sa uTr uTd uTt uTk uDp uPy uPc) (hl : l < w) (hv : uCa l = v) (hg : g.toInt = v.toInt + 1)
    (hA : ∀ i d, i < n → d < D i → C i d = l → jx_Pa R C uTt uCa uR1 uPo i d v.toInt)
    (K : ∀ r0 r1 : Nat → Int32, (∀ i d, i < n → d < D i → C i d = l → jx_Rg R C uTt uCa r0 r1 i (d + 1)) →
      (∀ x, (∀ i d, i < n → d < D i → C i d = l → x ≠ i * 4 + (d + 1)) → r0 x = uR0 x ∧ r1 x = uR1 x) → post (uRl, uRw, uVl, uAl, uAc, uCs, uWd, uTc, uSa, uBl, uBs, uRA, uRS, uTu, uAR, uTn, uTi, uTv, uPl, uCv, uRe, uTr, uTd, uTt, uTk, uTs, uDp, uPy, uPc, r0, r1, uPo, uCa, uMi, uTg, uTa)) :
    ∀ e f m (r0 r1 : Nat → Int32), m + e = P l → e < f → (∀ m', m' < m → ∀ d, d < D (L l m') → C (L l m') d = l → jx_Rg R C uTt uCa r0 r1 (L l m') (d + 1)) →
      (∀ x, (∀ i d, i < n → d < D i → C i d = l → x ≠ i * 4 + (d + 1)) → r0 x = uR0 x ∧ r1 x = uR1 x) →
      wX_bind_13 post (nI l) g uRl uRw uVl uAl uAc uCs uWd uTc uSa uBl uBs f (nI m) uRA uRS uTu uAR uTn uTi uTv uPl uCv uRe uTr uTd uTt uTk uTs uDp uPy uPc r0 r1 uPo uCa uMi uTg uTa := by
  have w4 := sh_w H
  have n5 := sh_n H
  obtain ⟨ep, p1, p5⟩ := sh_p H hl
  have cl : (nI l).toNatClampNeg = l := jn_c (by omega)
  have il : vp_in (nI l) 4 := vp_in_nI (by omega) (by omega)
  intro e
  induction e with
  | zero =>
    intro f m r0 r1 g1 g2 g3 g4
    obtain ⟨f, rfl⟩ : ∃ m, f = m + 1 := ⟨f - 1, by omega⟩
    have : m = P l := by omega
    subst this
    rw [wX_bind_13]
    refine ⟨il, ?_⟩
    rw [cl, ep]
    refine br_t (nI_le (Nat.le_refl _) (by omega)) (K r0 r1 (fun i d hi hd h => ?_) g4)
    obtain ⟨m, m1, m2⟩ := sh_on H hi hd
    rw [h] at m1 m2
    have := g3 m m1
    rw [m2] at this
    exact this d hd h
  | succ e ih =>
    intro f m r0 r1 g1 g2 g3 g4
    obtain ⟨f, rfl⟩ : ∃ m, f = m + 1 := ⟨f - 1, by omega⟩
    rw [wX_bind_13]
    obtain ⟨h1, h2, d, h3, h4⟩ := sh_L H hl (by omega : m < P l)
    obtain ⟨i, ei⟩ : ∃ i, i = L l m := ⟨_, rfl⟩
    rw [← ei] at h1 h2 h3 h4
    obtain ⟨_, hR, _, hD⟩ := sh_i H h2
    obtain ⟨_, _, hdp⟩ := sh_d H h2 h3
    rw [h4] at hdp
    obtain ⟨b, q, a1, a2, a3, a4, a5, a6, a7⟩ := hA i d h2 h3 h4
    have x7 : (nI (i * 4 + d)).toNatClampNeg = i * 4 + d := jn_c (by omega)
    have x71 : (nI (i * 4 + d) + 1).toNatClampNeg = i * 4 + (d + 1) := by rw [nI_1]; exact jn_c (by omega)
    have v7 : vp_in (nI (i * 4 + d)) 20 := vp_in_nI (by omega) (by omega)
    have v71 : vp_in (nI (i * 4 + d) + 1) 20 := by rw [nI_1]; exact vp_in_nI (by omega) (by omega)
    have fr : r0 (i * 4 + d) = uR0 (i * 4 + d) ∧ r1 (i * 4 + d) = uR1 (i * 4 + d) := g4 _ (fun i' d' k1 k2 k3 e => by
      have hD' := (sh_i H k1).2.2.2
      have e1 : i = i' := by omega
      subst e1
      have := sh_u H h2 h3 k2 (h4.trans k3.symm)
      omega)
    refine ⟨il, ?_⟩
    rw [cl, ep]
    refine br_f (nI_ge (by omega) (by omega)) ⟨by rw [jx_5]; exact vp_in_nI (by omega) (by omega), nm_r (e' := nI i) (by rw [jx_5, jn_c (by omega)]; exact h1) ⟨by rw [jx_4]; exact vp_in_nI (by omega) (by omega), nm_r (e' := nI d) (by rw [jx_4, jn_c (by omega)]; exact hdp) (nm_r (jx_4 i d) ⟨v7, v71, nm_r (e' := upd r0 (i * 4 + (d + 1)) (nI q)) (by rw [x7, x71, a2]) ⟨v7, v7, ?_⟩⟩)⟩⟩
    rw [x7, a2, fr.2, a1]
    have mo : ∀ j k, q ≤ j → j ≤ k → k < b → (uTt ((i * 12 + j) * 3 + d)).toInt ≤ (uTt ((i * 12 + k) * 3 + d)).toInt := fun j k j1 j2 j3 => sh_mo H h2 h3 j2 (by omega) (a7 j j1 (by omega)) (a7 k (by omega) j3)
    refine xl_low (by omega) (by omega) (by omega) (by omega) mo (fun r r1' r2 A1 A2 => ⟨v71, nm_r (e' := upd r1 (i * 4 + (d + 1)) (nI r)) (by rw [x71]) (nm_r (nI_1 m) ?_)⟩)
    have rg : jx_Rg R C uTt uCa (upd r0 (i * 4 + (d + 1)) (nI q)) (upd r1 (i * 4 + (d + 1)) (nI r)) i (d + 1) := by
      refine ⟨q, r, pk_us, pk_us, r1', by omega, fun k hk => ⟨fun ⟨z1, z2⟩ => ?_, fun z => ?_⟩⟩
      · intro e' he'
        rcases Nat.lt_or_ge e' d with y | y
        · exact a7 k z1 (by omega) e' y
        · have : e' = d := by omega
          subst this
          have u1 := mo q k (Nat.le_refl _) z1 (by omega)
          have u2 := A1 k z1 z2
          rw [h4, hv]
          exact ji_eq.mpr (by omega)
      · have zd : uTt ((i * 12 + k) * 3 + d) = v := by rw [z d (by omega), h4, hv]
        have zp : jx_pm C uTt uCa i d k := fun e' he' => z e' (by omega)
        obtain ⟨y1, y2⟩ := a6 k hk zp (by rw [zd]; exact Int.le_refl _)
        refine ⟨y1, ?_⟩
        rcases Nat.lt_or_ge k r with x | x
        · exact x
        · have := A2 k x y2
          rw [zd] at this
          omega
    refine ih f (m + 1) _ _ (by omega) (by omega) (fun m' hm' d' k2 k3 => ?_) (fun x hx => ?_)
    · by_cases z : L l m' = i
      · rw [z] at k2 k3 ⊢
        have := sh_u H h2 k2 h3 (k3.trans h4.symm)
        subst this
        exact rg
      · have zm : m' < m := by
          rcases Nat.lt_or_ge m' m with y | y
          · exact y
          · have : m' = m := by omega
            subst this; exact absurd ei.symm z
        have k1 := (sh_L H hl (by omega : m' < P l)).2.1
        have hD' := (sh_i H k1).2.2.2
        exact pj_rg (fun _ _ => rfl) (pk_un (by omega)) (pk_un (by omega)) (g3 m' zm d' k2 k3)
    · rw [pk_un (hx i d h2 h3 h4), pk_un (hx i d h2 h3 h4)]
      exact g4 x hx
theorem xb_bind {post : SX → Prop} {l : Nat} {v : Int32} (H : jq_Sh n w R D C P L sa uTr uTd uTt uTk uDp uPy uPc) (hl : l < w) (hv : uCa l = v)
    (hA : ∀ i d, i < n → d < D i → C i d = l → jx_Pa R C uTt uCa uR1 uPo i d v.toInt)
    (K : ∀ r0 r1 : Nat → Int32, (∀ i d, i < n → d < D i → C i d = l → jx_Rg R C uTt uCa r0 r1 i (d + 1)) →
      (∀ x, (∀ i d, i < n → d < D i → C i d = l → x ≠ i * 4 + (d + 1)) → r0 x = uR0 x ∧ r1 x = uR1 x) → post (uRl, uRw, uVl, uAl, uAc, uCs, uWd, uTc, uSa, uBl, uBs, uRA, uRS, uTu, uAR, uTn, uTi, uTv, uPl, uCv, uRe, uTr, uTd, uTt, uTk, uTs, uDp, uPy, uPc, r0, r1, uPo, uCa, uMi, uTg, uTa)) :
    wpX_bind post (uRl, uRw, uVl, uAl, uAc, uCs, uWd, uTc, uSa, uBl, uBs, uRA, uRS, uTu, uAR, uTn, uTi, uTv, uPl, uCv, uRe, uTr, uTd, uTt, uTk, uTs, uDp, uPy, uPc, uR0, uR1, uPo, uCa, uMi, uTg, uTa) (nI l) := by
  have w4 := sh_w H
  refine ⟨vp_in_nI (by omega) (by omega), nm_r (e' := v.toInt64 + 1) (by rw [jn_c (by omega), hv]) ⟨P l + 1, ?_⟩⟩
  exact xb_lp H hl hv (ji_p v) hA K (P l) (P l + 1) 0 uR0 uR1 (by omega) (by omega) (fun m' h => absurd h (by omega)) (fun _ _ => ⟨rfl, rfl⟩)
theorem xe_101 {post : SX → Prop} {l len : Nat} {z : Int32} (hl : l < 4) (hb : len ≤ 4) (hz : z = 0 ∨ z = 1) (hs : uBs = 0 ∨ uBs = 1)
    (K : ∀ (mi : Nat → Int64) (tg : Nat → Int32), tg l = z → (∀ x, x ≠ l → tg x = uTg x) → (∀ x, x ≠ l → mi x = uMi x) →
      ((z = 0 ∨ len ≤ l) → (mi l).toInt = -2147483648) →
      (z = 1 → l < len → ((uBs = 1 ∧ l + 1 = len) → (mi l).toInt = (uTa l).toInt + 1) ∧ (¬ (uBs = 1 ∧ l + 1 = len) → (mi l).toInt = (uTa l).toInt)) → post (uRl, uRw, uVl, uAl, uAc, uCs, uWd, uTc, uSa, nI len, uBs, uRA, uRS, uTu, uAR, uTn, uTi, uTv, uPl, uCv, uRe, uTr, uTd, uTt, uTk, uTs, uDp, uPy, uPc, uR0, uR1, uPo, uCa, mi, tg, uTa)) :
    wX_enterLevel_101 post (nI l) z uRl uRw uVl uAl uAc uCs uWd uTc uSa (nI len) uBs uRA uRS uTu uAR uTn uTi uTv uPl uCv uRe uTr uTd uTt uTk uTs uDp uPy uPc uR0 uR1 uPo uCa uMi uTg uTa := by
  have cl : (nI l).toNatClampNeg = l := jn_c (by omega)
  have il : vp_in (nI l) 4 := vp_in_nI (by omega) (by omega)
  have nz : vp_nar .boolean z = z := by rcases hz with rfl | rfl <;> rfl
  have z01 : (0 : Int32) = 1 → False := by decide
  have tgo : ∀ x, x ≠ l → upd uTg l z x = uTg x := fun x hx => pk_un hx
  have mo1 : ∀ x, x ≠ l → vp_updL uMi l (-2147483648) x = uMi x := fun x hx => pk_uLn hx
  have mo2 : ∀ x, x ≠ l → vp_updL (vp_updL uMi l (-2147483648)) l (uTa l).toInt64 x = uMi x := fun x hx => by rw [pk_uLn hx, pk_uLn hx]
  have mo3 : ∀ x, x ≠ l → vp_updL (vp_updL (vp_updL uMi l (-2147483648)) l (uTa l).toInt64) l ((uTa l).toInt64 + 1) x = uMi x := fun x hx => by rw [pk_uLn hx, pk_uLn hx, pk_uLn hx]
  unfold wX_enterLevel_101
  refine ⟨il, nm_r (e' := upd uTg l z) (by rw [cl, nz]) ⟨il, nm_r (e' := vp_updL uMi l (-2147483648)) (by rw [cl]) ?_⟩⟩
  rcases hz with rfl | rfl
  · refine br_t rfl (K _ _ pk_us tgo mo1 (fun _ => by rw [pk_uLs]; exact ji_m) (fun e => absurd e z01))
  · refine br_f (fun e => z01 e.symm) (pk_le len l (fun y => ?_) (fun y => ⟨il, il, nm_r (e' := vp_updL (vp_updL uMi l (-2147483648)) l (uTa l).toInt64) (by rw [cl]) ?_⟩))
    · exact K _ _ pk_us tgo mo1 (fun _ => by rw [pk_uLs]; exact ji_m) (fun _ x => absurd x (by omega))
    · have m2 : ((1 : Int32) = 0 ∨ len ≤ l) → (vp_updL (vp_updL uMi l (-2147483648)) l (uTa l).toInt64 l).toInt = -2147483648 := fun x => absurd x (by rintro (x | x); exact z01 x.symm; omega)
      rcases hs with hs | hs
      · refine br_t hs (K _ _ pk_us tgo mo2 m2 (fun _ x => ⟨fun s => absurd (hs.symm.trans s.1) z01, fun _ => by rw [pk_uLs]; exact Int32.toInt_toInt64 _⟩))
      · obtain ⟨len, rfl⟩ : ∃ m, len = m + 1 := ⟨len - 1, by omega⟩
        refine br_f (by rw [hs]; decide) ?_
        rw [nI_pred]
        refine pk_eq l len (fun x => ⟨il, il, nm_r (e' := vp_updL (vp_updL (vp_updL uMi l (-2147483648)) l (uTa l).toInt64) l ((uTa l).toInt64 + 1)) (by rw [cl]) ?_⟩) (fun x => ?_)
        · refine K _ _ pk_us tgo mo3 (fun x => absurd x (by rintro (x | x); exact z01 x.symm; omega)) (fun _ _ => ⟨fun _ => by rw [pk_uLs]; exact ji_p _, fun s => absurd ⟨hs, by omega⟩ s⟩)
        · exact K _ _ pk_us tgo mo2 m2 (fun _ _ => ⟨fun s => absurd s.2 (by omega), fun _ => by rw [pk_uLs]; exact Int32.toInt_toInt64 _⟩)
theorem xe_lp {post : SX → Prop} {l len : Nat} (H : jq_Sh n w R D C P L sa uTr uTd uTt uTk uDp uPy uPc) (hl : l < w) (hb : len ≤ 4) (hs : uBs = 0 ∨ uBs = 1)
    (hT : ∀ l', l = l' + 1 → jp_TG uCa uTa uTg l')
    (K : ∀ (po : Nat → Int32) (mi : Nat → Int64) (tg : Nat → Int32), (∀ i d, i < n → d < D i → C i d = l → po (i * 4 + d) = uR0 (i * 4 + d)) → (∀ x, jx_nf n D C l x → po x = uPo x) →
      jp_TG uCa uTa tg l → (∀ x, x ≠ l → tg x = uTg x) → (∀ x, x ≠ l → mi x = uMi x) →
      (∀ v : Int32, (mi l).toInt ≤ v.toInt → jp_PB len (uBs = 1) uTa l uCa → jp_PB len (uBs = 1) uTa (l + 1) (upd uCa l v)) →
      (∀ t, jp_Bd len (uBs = 1) uTa t → jl_eq l uCa t → (mi l).toInt ≤ (t l).toInt) → post (uRl, uRw, uVl, uAl, uAc, uCs, uWd, uTc, uSa, nI len, uBs, uRA, uRS, uTu, uAR, uTn, uTi, uTv, uPl, uCv, uRe, uTr, uTd, uTt, uTk, uTs, uDp, uPy, uPc, uR0, uR1, po, uCa, mi, tg, uTa)) :
    ∀ e f m (po : Nat → Int32), m + e = P l → e < f → (∀ m', m' < m → ∀ d, d < D (L l m') → C (L l m') d = l → po (L l m' * 4 + d) = uR0 (L l m' * 4 + d)) →
      (∀ x, jx_nf n D C l x → po x = uPo x) →
      wX_enterLevel_2 post (nI l) uRl uRw uVl uAl uAc uCs uWd uTc uSa (nI len) uBs f (nI m) uRA uRS uTu uAR uTn uTi uTv uPl uCv uRe uTr uTd uTt uTk uTs uDp uPy uPc uR0 uR1 po uCa uMi uTg uTa := by
  have w4 := sh_w H
  have n5 := sh_n H
  obtain ⟨ep, p1, p5⟩ := sh_p H hl
  have cl : (nI l).toNatClampNeg = l := jn_c (by omega)
  have il : vp_in (nI l) 4 := vp_in_nI (by omega) (by omega)
  intro e
  induction e with
  | zero =>
    intro f m po g1 g2 g3 g4
    obtain ⟨f, rfl⟩ : ∃ m, f = m + 1 := ⟨f - 1, by omega⟩
    have : m = P l := by omega
    subst this
    rw [wX_enterLevel_2]
    refine ⟨il, ?_⟩
    rw [cl, ep]
    refine br_t (nI_le (Nat.le_refl _) (by omega)) ?_
    have g5 : ∀ i d, i < n → d < D i → C i d = l → po (i * 4 + d) = uR0 (i * 4 + d) := fun i d hi hd h => by
      obtain ⟨m, m1, m2⟩ := sh_on H hi hd
      rw [h] at m1 m2
      have := g3 m m1
      rw [m2] at this
      exact this d hd h
    have T1 : jl_eq l uCa uTa → wX_enterLevel_101 post (nI l) 1 uRl uRw uVl uAl uAc uCs uWd uTc uSa (nI len) uBs uRA uRS uTu uAR uTn uTi uTv uPl uCv uRe uTr uTd uTt uTk uTs uDp uPy uPc uR0 uR1 po uCa uMi uTg uTa := fun z => by
      refine xe_101 (by omega) hb (Or.inr rfl) hs (fun mi tg a1 a2 a3 a4 a5 => ?_)
      have pb := pb_min (st := uBs = 1) (m := (mi l).toInt) (len := len) (c := uCa) (ta := uTa) (l := l) (fun y => a4 (Or.inr (y.resolve_left (fun y => y z)))) (fun _ y => a5 rfl y)
      exact K po mi tg g5 g4 (Or.inl ⟨z, a1⟩) a2 a3 pb.1 pb.2
    have T0 : ¬ jl_eq l uCa uTa → wX_enterLevel_101 post (nI l) 0 uRl uRw uVl uAl uAc uCs uWd uTc uSa (nI len) uBs uRA uRS uTu uAR uTn uTi uTv uPl uCv uRe uTr uTd uTt uTk uTs uDp uPy uPc uR0 uR1 po uCa uMi uTg uTa := fun z => by
      refine xe_101 (by omega) hb (Or.inl rfl) hs (fun mi tg a1 a2 a3 a4 a5 => ?_)
      have pb := pb_min (st := uBs = 1) (m := (mi l).toInt) (len := len) (c := uCa) (ta := uTa) (l := l) (fun y => a4 (Or.inl rfl)) (fun y => absurd y z)
      exact K po mi tg g5 g4 (Or.inr ⟨z, a1⟩) a2 a3 pb.1 pb.2
    rcases Nat.eq_zero_or_pos l with z | z
    · subst z
      exact br_t (by decide) (T1 (fun q hq => absurd hq (by omega)))
    · obtain ⟨l, rfl⟩ : ∃ m, l = m + 1 := ⟨l - 1, by omega⟩
      have c1 : (nI (l + 1) - 1).toNatClampNeg = l := by rw [nI_pred]; exact jn_c (by omega)
      have i1 : vp_in (nI (l + 1) - 1) 4 := by rw [nI_pred]; exact vp_in_nI (by omega) (by omega)
      refine br_f (nI_nle (by omega) (by omega)) ⟨i1, ?_⟩
      rw [c1]
      rcases hT l rfl with ⟨y1, y2⟩ | ⟨y1, y2⟩
      · refine br_f (by rw [y2]; decide) ⟨i1, i1, br_c (fun x => ?_) (fun x => ?_)⟩
        · exact T1 (jl_e1 y1 x)
        · exact T0 (fun e => x (e l (by omega)))
      · exact br_t y2 (T0 (fun e => y1 (jl_em e (by omega))))
  | succ e ih =>
    intro f m po g1 g2 g3 g4
    obtain ⟨f, rfl⟩ : ∃ m, f = m + 1 := ⟨f - 1, by omega⟩
    rw [wX_enterLevel_2]
    obtain ⟨h1, h2, d, h3, h4⟩ := sh_L H hl (by omega : m < P l)
    obtain ⟨i, ei⟩ : ∃ i, i = L l m := ⟨_, rfl⟩
    rw [← ei] at h1 h2 h3 h4
    obtain ⟨_, hR, _, hD⟩ := sh_i H h2
    obtain ⟨_, _, hdp⟩ := sh_d H h2 h3
    rw [h4] at hdp
    have x4 : (nI (i * 4 + d)).toNatClampNeg = i * 4 + d := jn_c (by omega)
    have v4 : vp_in (nI (i * 4 + d)) 20 := vp_in_nI (by omega) (by omega)
    refine ⟨il, ?_⟩
    rw [cl, ep]
    refine br_f (nI_ge (by omega) (by omega)) ⟨by rw [jx_5]; exact vp_in_nI (by omega) (by omega), nm_r (e' := nI i) (by rw [jx_5, jn_c (by omega)]; exact h1) ⟨by rw [jx_4]; exact vp_in_nI (by omega) (by omega), nm_r (e' := nI (i * 4 + d)) (by rw [jx_4, jn_c (by omega), hdp, jx_4]) ⟨v4, v4, nm_r (e' := upd po (i * 4 + d) (uR0 (i * 4 + d))) (by rw [x4]) (nm_r (nI_1 m) ?_)⟩⟩⟩
    refine ih f (m + 1) _ (by omega) (by omega) (fun m' hm' d' k2 k3 => ?_) (fun x hx => ?_)
    · by_cases z : L l m' = i
      · rw [z] at k2 k3 ⊢
        have := sh_u H h2 k2 h3 (k3.trans h4.symm)
        subst this
        exact pk_us
      · have zm : m' < m := by
          rcases Nat.lt_or_ge m' m with y | y
          · exact y
          · have : m' = m := by omega
            subst this; exact absurd ei.symm z
        have k1 := (sh_L H hl (by omega : m' < P l)).2.1
        have hD' := (sh_i H k1).2.2.2
        rw [pk_un (by omega)]
        exact g3 m' zm d' k2 k3
    · rw [pk_un (hx i d h2 h3 h4)]
      exact g4 x hx
theorem xe_enter {post : SX → Prop} {l len : Nat} (H : jq_Sh n w R D C P L sa uTr uTd uTt uTk uDp uPy uPc) (hl : l < w) (hb : len ≤ 4) (hs : uBs = 0 ∨ uBs = 1)
    (hT : ∀ l', l = l' + 1 → jp_TG uCa uTa uTg l')
    (K : ∀ (po : Nat → Int32) (mi : Nat → Int64) (tg : Nat → Int32), (∀ i d, i < n → d < D i → C i d = l → po (i * 4 + d) = uR0 (i * 4 + d)) → (∀ x, jx_nf n D C l x → po x = uPo x) →
      jp_TG uCa uTa tg l → (∀ x, x ≠ l → tg x = uTg x) → (∀ x, x ≠ l → mi x = uMi x) →
      (∀ v : Int32, (mi l).toInt ≤ v.toInt → jp_PB len (uBs = 1) uTa l uCa → jp_PB len (uBs = 1) uTa (l + 1) (upd uCa l v)) →
      (∀ t, jp_Bd len (uBs = 1) uTa t → jl_eq l uCa t → (mi l).toInt ≤ (t l).toInt) → post (uRl, uRw, uVl, uAl, uAc, uCs, uWd, uTc, uSa, nI len, uBs, uRA, uRS, uTu, uAR, uTn, uTi, uTv, uPl, uCv, uRe, uTr, uTd, uTt, uTk, uTs, uDp, uPy, uPc, uR0, uR1, po, uCa, mi, tg, uTa)) :
    wpX_enterLevel post (uRl, uRw, uVl, uAl, uAc, uCs, uWd, uTc, uSa, nI len, uBs, uRA, uRS, uTu, uAR, uTn, uTi, uTv, uPl, uCv, uRe, uTr, uTd, uTt, uTk, uTs, uDp, uPy, uPc, uR0, uR1, uPo, uCa, uMi, uTg, uTa) (nI l) :=
  ⟨P l + 1, xe_lp H hl hb hs hT K (P l) (P l + 1) 0 uPo (by omega) (by omega) (fun m' h => absurd h (by omega)) (fun _ _ => rfl)⟩
end XB
end
section
/-! X's search -/
theorem nb_n {x : Int32} (h : x = 0 ∨ x = 1) : narrow .boolean (.int x) = .int x := by rcases h with rfl | rfl <;> rfl
theorem nb_f {x : Int32} (h : x = 0 ∨ x = 1) : fits .boolean (.int x) = true := by rcases h with rfl | rfl <;> first | decide | rfl | simp [fits]
section XQ
variable {uRl uRw uVl uAl uAc uCs uWd uTc uSa uBl uBs : Int32} {uRA uRS uTu uAR uTn uTi uTv uPl uCv uRe uTr uTd uTt uTk uTs uDp uPy uPc uR0 uR1 uPo uCa : Nat → Int32} {uMi : Nat → Int64} {uTg uTa : Nat → Int32}
variable {n w : Nat} {R D : Nat → Nat} {C : Nat → Nat → Nat} {P : Nat → Nat} {L : Nat → Nat → Nat} {sa : Int32}
theorem pj_pac {tt c c' r1 po : Nat → Int32} {i d : Nat} {m : Int} (h : ∀ e, e < d → c (C i e) = c' (C i e)) (z : jx_Pa R C tt c r1 po i d m) : jx_Pa R C tt c' r1 po i d m := by
  obtain ⟨b, q, a1, a2, a3, a4, a5, a6, a7⟩ := z
  exact ⟨b, q, a1, a2, a3, a4, a5, fun k k1 k2 k3 => a6 k k1 ((pj_pm h).mpr k2) k3, fun k k1 k2 => (pj_pm h).mp (a7 k k1 k2)⟩
theorem pj_r0 {tr td tt tk dp py pc : Nat → Int32} (H : jq_Sh n w R D C P L sa tr td tt tk dp py pc) {l : Nat} {r0 r1 r0' r1' : Nat → Int32} (h : jq_R0 n R r0 r1)
    (hF : ∀ x, (∀ i d, i < n → d < D i → C i d = l → x ≠ i * 4 + (d + 1)) → r0' x = r0 x ∧ r1' x = r1 x) : jq_R0 n R r0' r1' := fun i hi => by
  obtain ⟨a1, a2⟩ := h i hi
  obtain ⟨b1, b2⟩ := hF (i * 4) (fun i' d k1 k2 k3 e => by have := (sh_i H k1).2.2.2; omega)
  exact ⟨b1.trans a1, b2.trans a2⟩
theorem xq_lp {post : Int32 → SX → Prop} {len : Nat} {G U : (Nat → Int32) → Prop} (H : jq_Sh n w R D C P L sa uTr uTd uTt uTk uDp uPy uPc) (hb : len ≤ w) (hs : uBs = 0 ∨ uBs = 1)
    (hG : ∀ t, G t → jx_Ext n R D C uTt w t ∧ jp_Bd len (uBs = 1) uTa t)
    (K1 : ∀ (r0 r1 po ca : Nat → Int32) (mi : Nat → Int64) (tg : Nat → Int32) (l : Nat), w = l + 1 → jx_SE n w R D C uTt uTa len (uBs = 1) l ca r0 r1 po tg → jq_R0 n R r0 r1 →
      jx_Ext n R D C uTt w ca → jp_Bd len (uBs = 1) uTa ca → U ca → (∀ t, G t → ¬ jl_lt w t ca) → post 1 (uRl, uRw, uVl, uAl, uAc, uCs, nI w, uTc, uSa, nI len, uBs, uRA, uRS, uTu, uAR, uTn, uTi, uTv, uPl, uCv, uRe, uTr, uTd, uTt, uTk, uTs, uDp, uPy, uPc, r0, r1, po, ca, mi, tg, uTa))
    (K0 : ∀ (r0 r1 po ca : Nat → Int32) (mi : Nat → Int64) (tg : Nat → Int32), jq_R0 n R r0 r1 → (∀ t, ¬ G t) → post 0 (uRl, uRw, uVl, uAl, uAc, uCs, nI w, uTc, uSa, nI len, uBs, uRA, uRS, uTu, uAR, uTn, uTi, uTv, uPl, uCv, uRe, uTr, uTd, uTt, uTk, uTs, uDp, uPy, uPc, r0, r1, po, ca, mi, tg, uTa)) :
    ∀ M f l s (r0 r1 po ca : Nat → Int32) (mi : Nat → Int64) (tg : Nat → Int32), jm_mu R D C L uTt ca l + (1 + jm_r R D C L uTt l ca (mi l).toInt * jm_k l) ≤ M → M + 1 < f → s + M ≤ 65535 →
      jx_SI n w R D C uTt uTa len (uBs = 1) l (mi l).toInt ca r0 r1 po tg → jq_R0 n R r0 r1 → (∀ t, G t → jp_F l ca (mi l).toInt t) → (∀ t, jp_F l ca (mi l).toInt t → U t) →
      wX_search_4 post f (nI l) (nI s) uRl uRw uVl uAl uAc uCs (nI w) uTc uSa (nI len) uBs uRA uRS uTu uAR uTn uTi uTv uPl uCv uRe uTr uTd uTt uTk uTs uDp uPy uPc r0 r1 po ca mi tg uTa := by
  have w4 := sh_w H
  have n5 := sh_n H
  intro M
  induction M with
  | zero => intro f l s r0 r1 po ca mi tg g1; omega
  | succ M ih =>
    intro f l s r0 r1 po ca mi tg g1 g2 g3 S g4 g5 g6
    obtain ⟨f, rfl⟩ : ∃ m, f = m + 1 := ⟨f - 1, by omega⟩
    rw [wX_search_4]
    have hl : l < w := S.1
    refine br_f (nI_ge (b := 65536) (by omega) (by omega)) (br_f (nI_pos (by omega)) (xl_leap H hl S.2.2.2.1 (fun po' v hm hA hN hC => ?_) (fun po' hN hC => ?_)))
    · have hA1 : ∀ i d, i < n → d < D i → C i d = l → jx_Pa R C uTt ca r1 po' i d v.toInt := fun i d hi hd h => pj_pa (sh_i H hi).2.1 (hA i d hi hd h).1 (hA i d hi hd h).2
      have hA2 : ∀ i d, i < n → d < D i → C i d = l → jx_Pa R C uTt (upd ca l v) r1 po' i d v.toInt := fun i d hi hd h =>
        pj_pac (fun e he => (pk_un (by have := sh_C H hi he hd; omega)).symm) (hA1 i d hi hd h)
      refine br_f (by decide) (xb_bind H hl pk_us hA2 (fun r0' r1' hB hF => ?_))
      have SE := pj_t1 H S hm hA1 hN hB hF
      have R' := pj_r0 H g4 hF
      obtain ⟨w, rfl⟩ : ∃ m, w = m + 1 := ⟨w - 1, by omega⟩
      refine pk_eq l w (fun z => ?_) (fun z => ?_) rfl (nI_pred w)
      · subst z
        exact K1 _ _ _ _ _ _ l rfl SE R' SE.2.1 (pb_Bd hb SE.2.2.2.2.2) (g6 _ (pf_1c hm)) (fun t ht => by
          rcases pf_1 H hl hC (hG t ht).1 (g5 t ht) with y | y
          · exact jl_asym y
          · exact jl_irr (jl_es y))
      · refine nm_r (nI_1 l) (xe_enter H (by omega) (by omega) hs (fun l' e => ?_) (fun po'' mi' tg' c1 c2 c3 c4 c5 c6 c7 => nm_r (nI_1 s) ?_))
        · have : l' = l := by omega
          subst this; exact SE.2.2.2.2.1 l' (Nat.le_refl _)
        · have SI := pj_t2 H SE (by omega) c1 c2 c3 c4 c6
          refine ih f (l + 1) (s + 1) r0' r1' po'' (upd ca l v) mi' tg' ?_ (by omega) (by omega) SI R' (fun t ht => ?_) (fun t ht => ?_)
          · have m1 := pm_mu (tt := uTt) (c := ca) (c' := upd ca l v) H l (by omega) (pj_ue ca l v)
            have m2 := pm_cg (tt := uTt) (c := upd ca l v) (c' := ca) (m := v.toInt + 1) H hl (jl_es (pj_ue ca l v))
            have m3 := pm_lt H hl hm hA1
            have m4 := pm_r12 (c := upd ca l v) (m := (mi' (l + 1)).toInt) H (by omega : l + 1 < w + 1)
            have m5 := pm_k1 l (by omega)
            have m6 := Nat.mul_le_mul_right (jm_k (l + 1)) m4
            have m7 : (jm_r R D C L uTt l ca (v.toInt + 1) + 1) * jm_k l ≤ jm_r R D C L uTt l ca (mi l).toInt * jm_k l := Nat.mul_le_mul_right _ m3
            rw [Nat.add_mul, Nat.one_mul] at m7
            have m8 : jm_mu R D C L uTt (upd ca l v) (l + 1) = jm_mu R D C L uTt ca l + (1 + jm_r R D C L uTt l ca (v.toInt + 1) * jm_k l) := by
              show jm_mu R D C L uTt (upd ca l v) l + (1 + jm_r R D C L uTt l (upd ca l v) ((upd ca l v l).toInt + 1) * jm_k l) = _
              rw [pk_us, m2, m1]
            rw [m8]
            omega
          · rcases pf_1 H hl hC (hG t ht).1 (g5 t ht) with y | y
            · exact Or.inl y
            · exact Or.inr ⟨y, c7 t (hG t ht).2 y⟩
          · refine g6 t (pf_1b (v := v) hm ?_)
            rcases ht with y | y
            · exact Or.inl y
            · exact Or.inr y.1
    · refine br_t rfl ?_
      rcases Nat.eq_zero_or_pos l with z | z
      · subst z
        have no : ∀ t, ¬ G t := fun t ht => by
          obtain ⟨p, p1, _⟩ := pf_2 H hl hC (hG t ht).1 (g5 t ht)
          omega
        refine nm_r (e' := -1) (by decide) (br_t (by decide) (nm_r (nI_1 s) ?_))
        obtain ⟨f, rfl⟩ : ∃ m, f = m + 1 := ⟨f - 1, by omega⟩
        rw [wX_search_4]
        exact br_c (fun _ => K0 _ _ _ _ _ _ g4 no) (fun _ => br_t (by decide) (K0 _ _ _ _ _ _ g4 no))
      · obtain ⟨l, rfl⟩ : ∃ m, l = m + 1 := ⟨l - 1, by omega⟩
        have cl : (nI l).toNatClampNeg = l := jn_c (by omega)
        have il : vp_in (nI l) 4 := vp_in_nI (by omega) (by omega)
        refine nm_r (pk_m1 l) (br_f (nI_pos (by omega)) ⟨il, il, nm_r (e' := vp_updL mi l ((ca l).toInt64 + 1)) (by rw [cl]) (nm_r (nI_1 s) ?_)⟩)
        have em : (vp_updL mi l ((ca l).toInt64 + 1) l).toInt = (ca l).toInt + 1 := by rw [pk_uLs]; exact ji_p _
        have SI := pj_t4 (pj_t3 H S hN)
        rw [← em] at SI
        refine ih f l (s + 1) r0 r1 po' ca _ tg ?_ (by omega) (by omega) SI g4 (fun t ht => ?_) (fun t ht => ?_)
        · rw [em]
          have e : jm_mu R D C L uTt ca (l + 1) = jm_mu R D C L uTt ca l + (1 + jm_r R D C L uTt l ca ((ca l).toInt + 1) * jm_k l) := rfl
          omega
        · rw [em]
          exact pf_s.mp (pf_2 H hl hC (hG t ht).1 (g5 t ht))
        · rw [em] at ht
          exact g6 t (Or.inl (pf_s.mpr ht))
/-- the search that goes on -/
theorem xq_next {post : Int32 → SX → Prop} {len l : Nat} (H : jq_Sh n w R D C P L sa uTr uTd uTt uTk uDp uPy uPc) (hb : len ≤ w) (hs : uBs = 0 ∨ uBs = 1) (hw : w = l + 1)
    (SE : jx_SE n w R D C uTt uTa len (uBs = 1) l uCa uR0 uR1 uPo uTg) (hR : jq_R0 n R uR0 uR1)
    (K1 : ∀ (r0 r1 po ca : Nat → Int32) (mi : Nat → Int64) (tg : Nat → Int32), jx_SE n w R D C uTt uTa len (uBs = 1) l ca r0 r1 po tg → jq_R0 n R r0 r1 →
      jx_Ext n R D C uTt w ca → jp_Bd len (uBs = 1) uTa ca → jl_lt w uCa ca → (∀ t, jx_Ext n R D C uTt w t → jp_Bd len (uBs = 1) uTa t → jl_lt w uCa t → ¬ jl_lt w t ca) →
      post 1 (uRl, uRw, uVl, uAl, uAc, uCs, nI w, uTc, uSa, nI len, uBs, uRA, uRS, uTu, uAR, uTn, uTi, uTv, uPl, uCv, uRe, uTr, uTd, uTt, uTk, uTs, uDp, uPy, uPc, r0, r1, po, ca, mi, tg, uTa))
    (K0 : ∀ (r0 r1 po ca : Nat → Int32) (mi : Nat → Int64) (tg : Nat → Int32), jq_R0 n R r0 r1 → (∀ t, jx_Ext n R D C uTt w t → jp_Bd len (uBs = 1) uTa t → ¬ jl_lt w uCa t) →
      post 0 (uRl, uRw, uVl, uAl, uAc, uCs, nI w, uTc, uSa, nI len, uBs, uRA, uRS, uTu, uAR, uTn, uTi, uTv, uPl, uCv, uRe, uTr, uTd, uTt, uTk, uTs, uDp, uPy, uPc, r0, r1, po, ca, mi, tg, uTa)) :
    wpX_followingMatch post (uRl, uRw, uVl, uAl, uAc, uCs, nI w, uTc, uSa, nI len, uBs, uRA, uRS, uTu, uAR, uTn, uTi, uTv, uPl, uCv, uRe, uTr, uTd, uTt, uTk, uTs, uDp, uPy, uPc, uR0, uR1, uPo, uCa, uMi, uTg, uTa) := by
  have w4 := sh_w H
  subst hw
  have cl : (nI l).toNatClampNeg = l := jn_c (by omega)
  have il : vp_in (nI l) 4 := vp_in_nI (by omega) (by omega)
  refine br_f (nI_ne0 (by omega) (by omega)) (nm_r (nI_pred l) ⟨il, il, nm_r (e' := vp_updL uMi l ((uCa l).toInt64 + 1)) (by rw [cl]) ⟨26730, ?_⟩⟩)
  have em : (vp_updL uMi l ((uCa l).toInt64 + 1) l).toInt = (uCa l).toInt + 1 := by rw [pk_uLs]; exact ji_p _
  have SI := pj_t4 SE
  rw [← em] at SI
  refine xq_lp (G := fun t => jx_Ext n R D C uTt (l + 1) t ∧ jp_Bd len (uBs = 1) uTa t ∧ jl_lt (l + 1) uCa t) (U := fun t => jl_lt (l + 1) uCa t) H hb hs (fun t ht => ⟨ht.1, ht.2.1⟩)
    (fun r0 r1 po ca mi tg l' e a1 a2 a3 a4 a5 a6 => ?_) (fun r0 r1 po ca mi tg a1 a2 => ?_) 26728 26730 l 0 _ _ _ _ _ _ ?_ (by omega) (by omega) SI hR (fun t ht => ?_) (fun t ht => ?_)
  · have : l' = l := by omega
    subst this
    exact ⟨nb_n (Or.inr rfl), K1 r0 r1 po ca mi tg a1 a2 a3 a4 a5 (fun t t1 t2 t3 => a6 t ⟨t1, t2, t3⟩)⟩
  · exact ⟨nb_n (Or.inl rfl), K0 r0 r1 po ca mi tg a1 (fun t t1 t2 t3 => a2 t ⟨t1, t2, t3⟩)⟩
  · have x := pm_b (c := uCa) H (l + 1) (Nat.le_refl _)
    have y := pm_k (l + 1) (by omega)
    rw [em]
    have e : jm_mu R D C L uTt uCa (l + 1) = jm_mu R D C L uTt uCa l + (1 + jm_r R D C L uTt l uCa ((uCa l).toInt + 1) * jm_k l) := rfl
    omega
  · rw [em]; exact pf_s.mp ht.2.2
  · rw [em] at ht; exact pf_s.mpr ht
theorem xq_first {post : Int32 → SX → Prop} {len : Nat} {s : Int32} (H : jq_Sh n w R D C P L uSa uTr uTd uTt uTk uDp uPy uPc) (hR : jq_R0 n R uR0 uR1) (hb : len ≤ w) (hs : s = 0 ∨ s = 1) (hs1 : s = 1 → w ≠ 0 → 1 ≤ len)
    (K1 : ∀ (r0 r1 po ca : Nat → Int32) (mi : Nat → Int64) (tg : Nat → Int32), (∀ l, w = l + 1 → jx_SE n w R D C uTt uTa len (s = 1) l ca r0 r1 po tg) → jq_R0 n R r0 r1 →
      jx_Ext n R D C uTt w ca → jp_Bd len (s = 1) uTa ca → (∀ t, jx_Ext n R D C uTt w t → jp_Bd len (s = 1) uTa t → ¬ jl_lt w t ca) →
      post 1 (uRl, uRw, uVl, uAl, uAc, uCs, nI w, uTc, uSa, nI len, s, uRA, uRS, uTu, uAR, uTn, uTi, uTv, uPl, uCv, uRe, uTr, uTd, uTt, uTk, uTs, uDp, uPy, uPc, r0, r1, po, ca, mi, tg, uTa))
    (K0 : ∀ (r0 r1 po ca : Nat → Int32) (mi : Nat → Int64) (tg : Nat → Int32), jq_R0 n R r0 r1 → (∀ t, jx_Ext n R D C uTt w t → ¬ jp_Bd len (s = 1) uTa t) →
      post 0 (uRl, uRw, uVl, uAl, uAc, uCs, nI w, uTc, uSa, nI len, s, uRA, uRS, uTu, uAR, uTn, uTi, uTv, uPl, uCv, uRe, uTr, uTd, uTt, uTk, uTs, uDp, uPy, uPc, r0, r1, po, ca, mi, tg, uTa)) :
    wpX_firstMatch post (uRl, uRw, uVl, uAl, uAc, uCs, nI w, uTc, uSa, uBl, uBs, uRA, uRS, uTu, uAR, uTn, uTi, uTv, uPl, uCv, uRe, uTr, uTd, uTt, uTk, uTs, uDp, uPy, uPc, uR0, uR1, uPo, uCa, uMi, uTg, uTa) (nI len) s := by
  have w4 := sh_w H
  refine ⟨nb_n hs, nb_f hs, ?_⟩
  rcases H.2.2.2.2.2.2.2.2.2.2 with ⟨h0, i, hi, hz⟩ | ⟨h1, hz⟩
  · refine br_t h0 (K0 _ _ _ _ _ _ hR (fun t ht => ?_))
    obtain ⟨k, k1, _⟩ := ht i hi
    omega
  · refine br_f (by rw [h1]; decide) ?_
    have E0 : ∀ t, jx_Ext n R D C uTt 0 t := fun t i hi => ⟨0, hz i hi, fun d _ h => absurd h (by omega)⟩
    rcases Nat.eq_zero_or_pos w with z | z
    · subst z
      have : len = 0 := by omega
      subst this
      refine br_t rfl ?_
      rcases hs with rfl | rfl
      · refine br_t rfl (K1 _ _ _ _ _ _ (fun l e => absurd e (by omega)) hR (E0 _) (Or.inr ⟨fun q hq => absurd hq (by omega), by decide⟩) (fun t _ _ => ?_))
        rintro ⟨p, p1, _⟩
        omega
      · refine br_f (by decide) (K0 _ _ _ _ _ _ hR (fun t _ => ?_))
        rintro (⟨p, p1, _⟩ | ⟨_, p2⟩)
        · omega
        · exact p2 rfl
    · refine br_f (nI_ne0 z (by omega)) (xe_enter (l := 0) H z (by omega) hs (fun l' e => absurd e (by omega)) (fun po mi tg c1 c2 c3 c4 c5 c6 c7 => ⟨26730, ?_⟩))
      have P0 : jp_PB len (s = 1) uTa 0 uCa := Or.inr ⟨fun q hq => absurd hq (by omega), fun e => hs1 e (by omega)⟩
      have RG : ∀ i d, i < n → d < D i → (∀ e, e < d → C i e < 0) → jx_Rg R C uTt uCa uR0 uR1 i d := fun i d hi hd h => by
        rcases Nat.eq_zero_or_pos d with y | y
        · subst y
          exact ⟨0, R i, (hR i hi).1, (hR i hi).2, by omega, Nat.le_refl _, fun k hk => ⟨fun _ e he => absurd he (by omega), fun _ => ⟨by omega, hk⟩⟩⟩
        · exact absurd (h 0 y) (by omega)
      have SI : jx_SI n w R D C uTt uTa len (s = 1) 0 (mi 0).toInt uCa uR0 uR1 po tg := by
        refine ⟨z, E0 _, RG, fun i d hi hd h => ?_, fun i d hi hd h => absurd h (by omega), fun l' hl' => ?_, P0, fun v hv => c6 v hv P0⟩
        · obtain ⟨a, b, a1, a2, a3, a4, a5⟩ := RG i d hi hd (fun e he => by have := sh_C H hi he hd; omega)
          exact ⟨b, a, a2, (c1 i d hi hd h).trans a1, a3, a4, fun k k1 k2 _ => (a5 k k1).mpr k2, fun k k1 k2 => (a5 k (by omega)).mp ⟨k1, k2⟩⟩
        · have : l' = 0 := by omega
          subst this; exact c3
      refine xq_lp (G := fun t => jx_Ext n R D C uTt w t ∧ jp_Bd len (s = 1) uTa t) (U := fun _ => True) H hb hs (fun t ht => ht)
        (fun r0 r1 po ca mi tg l' e a1 a2 a3 a4 _ a6 => ?_) (fun r0 r1 po ca mi tg a1 a2 => ?_) 26728 26730 0 0 _ _ _ _ _ _ ?_ (by omega) (by omega) SI hR (fun t ht => ?_) (fun _ _ => trivial)
      · refine ⟨nb_n (Or.inr rfl), K1 r0 r1 po ca mi tg (fun l e' => ?_) a2 a3 a4 (fun t t1 t2 => a6 t ⟨t1, t2⟩)⟩
        have : l = l' := by omega
        subst this; exact a1
      · exact ⟨nb_n (Or.inl rfl), K0 r0 r1 po ca mi tg a1 (fun t t1 t2 => a2 t ⟨t1, t2⟩)⟩
      · have y := pm_r12 (c := uCa) (m := (mi 0).toInt) H z
        have x := Nat.mul_le_mul_right (jm_k 0) y
        have e : jm_mu R D C L uTt uCa 0 = 0 := rfl
        have e2 : jm_k 0 = 2042 := rfl
        rw [e2] at x
        rw [e, e2]
        omega
      · exact Or.inr ⟨fun q hq => absurd hq (by omega), c7 t ht.2 (fun q hq => absurd hq (by omega))⟩
end XQ
end
section
/-! Y's wanted, matches, isResult, compare, candidate -/
def jy_Res (n w : Nat) (A S ρ : Nat → Nat) (cd : Nat → Int32) (ct : Nat → Int64) (co t : Nat → Int32) : Prop := ∀ i, i < n → jy_AH w A S ρ cd ct co i t
theorem jy_wc {co t t' : Nat → Int32} {x : Int64} : ∀ d p, (∀ q, q < p + d → t q = t' q) → jy_w co t x d p = jy_w co t' x d p
  | 0, _, _ => rfl
  | d + 1, p, h => by
    simp only [jy_w]
    rw [jy_wc d (p + 1) (fun q hq => h q (by omega)), h p (by omega)]
theorem jy_rc {n w : Nat} {A S ρ : Nat → Nat} {cd : Nat → Int32} {ct : Nat → Int64} {co t t' : Nat → Int32} (h : jl_eq w t t') (z : jy_Res n w A S ρ cd ct co t) : jy_Res n w A S ρ cd ct co t' := fun i hi => by
  obtain ⟨k, k1, k2⟩ := z i hi
  refine ⟨k, k1, fun j hj => (k2 j hj).trans ?_⟩
  unfold jy_want
  rw [jy_wc w 0 (fun q hq => h q (by omega))]
def jy_dg (code q : Nat) : Nat := code / 12 ^ q % 12
section YW
variable {vRl vRw vVl vAl vAc vCa vWd vSt : Int32} {vAy vSz vDa vRe vTs : Nat → Int32} {vTm : Nat → Int64} {vPl vCz vCd vCr : Nat → Int32} {vCt : Nat → Int64} {vCo vDo vDc vVe : Nat → Int32}
variable {n w : Nat} {A S ρ N : Nat → Nat}
theorem yw_lp {post : Int32 → Prop} {x : Int64} (hw : w ≤ 4) : ∀ d f p, p + d = w → d < f → post (jy_w vCo (fun q => vVe (8 + q)) x d p) → wY_wanted_25 post x vRl vRw vVl vAl vAc vCa (nI w) vSt vAy vSz vDa vRe vTs vTm vPl vCz vCd vCr vCt vCo vDo vDc vVe f (nI p) := by
  intro d
  induction d with
  | zero =>
    intro f p g1 g2 g3
    obtain ⟨f, rfl⟩ : ∃ m, f = m + 1 := ⟨f - 1, by omega⟩
    have : p = w := by omega
    subst this
    rw [wY_wanted_25]
    exact br_t (nI_le (Nat.le_refl _) (by omega)) g3
  | succ d ih =>
    intro f p g1 g2 g3
    obtain ⟨f, rfl⟩ : ∃ m, f = m + 1 := ⟨f - 1, by omega⟩
    rw [wY_wanted_25]
    refine br_f (nI_ge (by omega) (by omega)) ⟨vp_in_nI (by omega) (by omega), ?_⟩
    rw [jn_c (by omega), jx_8, jn_c (by omega)]
    have e : jy_w vCo (fun q => vVe (8 + q)) x (d + 1) p = if 4294967296 + (vCo p).toInt64 = x then vVe (8 + p) else jy_w vCo (fun q => vVe (8 + q)) x d (p + 1) := rfl
    by_cases z : 4294967296 + (vCo p).toInt64 = x
    · rw [e, if_pos z] at g3
      exact br_t z ⟨vp_in_nI (by omega) (by omega), g3⟩
    · rw [e, if_neg z] at g3
      exact br_f z (nm_r (nI_1 p) (ih f (p + 1) (by omega) (by omega) g3))
theorem yw_want {post : Int32 → Prop} {i j : Nat} (hw : w ≤ 4) (hi : i < 5) (hj : j < 3) (K : post (jy_want w vCt vCo (fun q => vVe (8 + q)) (i * 3 + j))) : wpY_wanted post (vRl, vRw, vVl, vAl, vAc, vCa, nI w, vSt, vAy, vSz, vDa, vRe, vTs, vTm, vPl, vCz, vCd, vCr, vCt, vCo, vDo, vDc, vVe) (nI i) (nI j) := by
  have e : (nI i * 3 + nI j).toNatClampNeg = i * 3 + j := by rw [jx_3]; exact jn_c (by omega)
  refine ⟨by rw [jx_3]; exact vp_in_nI (by omega) (by omega), nm_r (e' := vCt (i * 3 + j)) (by rw [e]) ?_⟩
  by_cases z : 4294967296 ≤ vCt (i * 3 + j)
  · rw [jy_want, if_pos z] at K
    exact br_t z ⟨w + 1, yw_lp hw w (w + 1) 0 (by omega) (by omega) K⟩
  · rw [jy_want, if_neg z] at K
    exact br_f z K
theorem yw_ma {post : Int32 → Prop} {i k a r : Nat} (hw : w ≤ 4) (hi : i < 5) (hk : k < 12) (hr : r < 4) (e1 : vCr i = nI r) (e2 : vAy r = nI a) (ha : a ≤ 3)
    (K1 : (∀ j, j < a → vCd ((r * 12 + k) * 3 + j) = jy_want w vCt vCo (fun q => vVe (8 + q)) (i * 3 + j)) → post 1)
    (K0 : ¬ (∀ j, j < a → vCd ((r * 12 + k) * 3 + j) = jy_want w vCt vCo (fun q => vVe (8 + q)) (i * 3 + j)) → post 0) :
    ∀ d f j, j + d = a → d < f → (∀ j', j' < j → vCd ((r * 12 + k) * 3 + j') = jy_want w vCt vCo (fun q => vVe (8 + q)) (i * 3 + j')) → wY_matches_2 post (nI i) (nI k) vRl vRw vVl vAl vAc vCa (nI w) vSt vAy vSz vDa vRe vTs vTm vPl vCz vCd vCr vCt vCo vDo vDc vVe f (nI j) := by
  have ci : (nI i).toNatClampNeg = i := jn_c (by omega)
  have cr : (nI r).toNatClampNeg = r := jn_c (by omega)
  have ii : vp_in (nI i) 5 := vp_in_nI hi (by omega)
  have ir : vp_in (nI r) 4 := vp_in_nI hr (by omega)
  intro d
  induction d with
  | zero =>
    intro f j g1 g2 g3
    obtain ⟨f, rfl⟩ : ∃ m, f = m + 1 := ⟨f - 1, by omega⟩
    have : j = a := by omega
    subst this
    rw [wY_matches_2, ci, e1, cr, e2]
    exact ⟨ii, ir, br_t (nI_le (Nat.le_refl _) (by omega)) (K1 g3)⟩
  | succ d ih =>
    intro f j g1 g2 g3
    obtain ⟨f, rfl⟩ : ∃ m, f = m + 1 := ⟨f - 1, by omega⟩
    have cx : (nI ((r * 12 + k) * 3 + j)).toNatClampNeg = (r * 12 + k) * 3 + j := jn_c (by omega)
    rw [wY_matches_2]
    dsimp only
    rw [ci, e1, cr, e2, jx_c, cx]
    refine ⟨ii, ir, br_f (nI_ge (by omega) (by omega)) ⟨ii, vp_in_nI (by omega) (by omega), yw_want hw hi (by omega) (br_c (fun y => nm_r (nI_1 j) ?_) (fun y => K0 fun h => y (h j (by omega))))⟩⟩
    refine ih f (j + 1) (by omega) (by omega) (fun j' hj' => ?_)
    rcases Nat.lt_or_ge j' j with z | z
    · exact g3 j' z
    · have : j' = j := by omega
      subst this; exact y
theorem yw_141 {post J : Int32 → Prop} {i k s r f : Nat} (hi : i < 5) (hr : r < 4) (hs : s ≤ 12) (hk : k ≤ 12) (e1 : vCr i = nI r) (e2 : vCz r = nI s) (K : J (nI (i + 1))) : wY_isResult_14 post J (nI i) vRl vRw vVl vAl vAc vCa vWd vSt vAy vSz vDa vRe vTs vTm vPl vCz vCd vCr vCt vCo vDo vDc vVe (f + 1) 1 (nI k) := by
  have ci : (nI i).toNatClampNeg = i := jn_c (by omega)
  have cr : (nI r).toNatClampNeg = r := jn_c (by omega)
  have k46 : wY_isResult_46 post J (nI i) 1 vRl vRw vVl vAl vAc vCa vWd vSt vAy vSz vDa vRe vTs vTm vPl vCz vCd vCr vCt vCo vDo vDc vVe := by
    unfold wY_isResult_46
    exact br_f (by decide) (nm_r (nI_1 i) K)
  rw [wY_isResult_14, ci, e1, cr]
  exact ⟨vp_in_nI hi (by omega), vp_in_nI hr (by omega), br_c (fun _ => k46) (fun _ => br_f (by decide) k46)⟩
theorem yw_14 {post J : Int32 → Prop} {i a s r : Nat} (hw : w ≤ 4) (hi : i < 5) (hr : r < 4) (hs : s ≤ 12) (e1 : vCr i = nI r) (e2 : vCz r = nI s) (e3 : vAy r = nI a) (ha : a ≤ 3)
    (K1 : (∃ k, k < s ∧ ∀ j, j < a → vCd ((r * 12 + k) * 3 + j) = jy_want w vCt vCo (fun q => vVe (8 + q)) (i * 3 + j)) → J (nI (i + 1)))
    (K0 : ¬ (∃ k, k < s ∧ ∀ j, j < a → vCd ((r * 12 + k) * 3 + j) = jy_want w vCt vCo (fun q => vVe (8 + q)) (i * 3 + j)) → post 0) :
    ∀ d f k, k + d = s → d + 1 < f → (∀ k', k' < k → ¬ ∀ j, j < a → vCd ((r * 12 + k') * 3 + j) = jy_want w vCt vCo (fun q => vVe (8 + q)) (i * 3 + j)) → wY_isResult_14 post J (nI i) vRl vRw vVl vAl vAc vCa (nI w) vSt vAy vSz vDa vRe vTs vTm vPl vCz vCd vCr vCt vCo vDo vDc vVe f 0 (nI k) := by
  have ci : (nI i).toNatClampNeg = i := jn_c (by omega)
  have cr : (nI r).toNatClampNeg = r := jn_c (by omega)
  have ii : vp_in (nI i) 5 := vp_in_nI hi (by omega)
  have ir : vp_in (nI r) 4 := vp_in_nI hr (by omega)
  intro d
  induction d with
  | zero =>
    intro f k g1 g2 g3
    obtain ⟨f, rfl⟩ : ∃ m, f = m + 1 := ⟨f - 1, by omega⟩
    have : k = s := by omega
    subst this
    have k46 : wY_isResult_46 post J (nI i) 0 vRl vRw vVl vAl vAc vCa (nI w) vSt vAy vSz vDa vRe vTs vTm vPl vCz vCd vCr vCt vCo vDo vDc vVe := by
      unfold wY_isResult_46
      exact br_t rfl (K0 fun ⟨k', h1, h2⟩ => g3 k' h1 h2)
    rw [wY_isResult_14, ci, e1, cr, e2]
    exact ⟨ii, ir, br_t (nI_le (Nat.le_refl _) (by omega)) k46⟩
  | succ d ih =>
    intro f k g1 g2 g3
    obtain ⟨f, rfl⟩ : ∃ m, f = m + 1 := ⟨f - 1, by omega⟩
    rw [wY_isResult_14, ci, e1, cr, e2]
    refine ⟨ii, ir, br_f (nI_ge (by omega) (by omega)) (br_t rfl ⟨a + 1, yw_ma hw hi (by omega) hr e1 e3 ha (fun y => nm_r (nI_1 k) ?_) (fun y => nm_r (nI_1 k) ?_) a (a + 1) 0 (by omega) (by omega) (fun j' h => absurd h (by omega))⟩)⟩
    · obtain ⟨f, rfl⟩ : ∃ m, f = m + 1 := ⟨f - 1, by omega⟩
      exact yw_141 hi hr hs (by omega) e1 e2 (K1 ⟨k, by omega, y⟩)
    · refine ih f (k + 1) (by omega) (by omega) (fun k' hk' => ?_)
      rcases Nat.lt_or_ge k' k with z | z
      · exact g3 k' z
      · have : k' = k := by omega
        subst this; exact y
theorem yw_2 {post : Int32 → Prop} (hw : w ≤ 4) (hn : n ≤ 5) (HY : jq_Y n w A S ρ N vAy vCz vCr vDo vDc vCd vCt vCo)
    (K1 : jy_Res n w A S ρ vCd vCt vCo (fun q => vVe (8 + q)) → post 1) (K0 : ¬ jy_Res n w A S ρ vCd vCt vCo (fun q => vVe (8 + q)) → post 0) :
    ∀ d f i, i + d = n → d < f → (∀ i', i' < i → jy_AH w A S ρ vCd vCt vCo i' (fun q => vVe (8 + q))) → wY_isResult_2 post vRl vRw vVl vAl vAc (nI n) (nI w) vSt vAy vSz vDa vRe vTs vTm vPl vCz vCd vCr vCt vCo vDo vDc vVe f (nI i) := by
  intro d
  induction d with
  | zero =>
    intro f i g1 g2 g3
    obtain ⟨f, rfl⟩ : ∃ m, f = m + 1 := ⟨f - 1, by omega⟩
    have : i = n := by omega
    subst this
    rw [wY_isResult_2]
    exact br_t (nI_le (Nat.le_refl _) (by omega)) (K1 g3)
  | succ d ih =>
    intro f i g1 g2 g3
    obtain ⟨f, rfl⟩ : ∃ m, f = m + 1 := ⟨f - 1, by omega⟩
    rw [wY_isResult_2]
    obtain ⟨a1, a2, a3, a4, a5, a6, a7⟩ := HY.1 i (by omega)
    refine br_f (nI_ge (by omega) (by omega)) ⟨S i + 2, yw_14 hw (by omega) a2 a7 a1 a6 a3 a5 (fun y => ?_) (fun y => K0 fun h => y (h i (by omega))) (S i) (S i + 2) 0 (by omega) (by omega) (fun k' h => absurd h (by omega))⟩
    refine ih f (i + 1) (by omega) (by omega) (fun i' hi' => ?_)
    rcases Nat.lt_or_ge i' i with z | z
    · exact g3 i' z
    · have : i' = i := by omega
      subst this; exact y
theorem yw_res {post : Int32 → Prop} (hw : w ≤ 4) (hn : n ≤ 5) (HY : jq_Y n w A S ρ N vAy vCz vCr vDo vDc vCd vCt vCo)
    (K1 : jy_Res n w A S ρ vCd vCt vCo (fun q => vVe (8 + q)) → post 1) (K0 : ¬ jy_Res n w A S ρ vCd vCt vCo (fun q => vVe (8 + q)) → post 0) :
    wpY_isResult post (vRl, vRw, vVl, vAl, vAc, nI n, nI w, vSt, vAy, vSz, vDa, vRe, vTs, vTm, vPl, vCz, vCd, vCr, vCt, vCo, vDo, vDc, vVe) :=
  ⟨n + 1, yw_2 hw hn HY K1 K0 n (n + 1) 0 (by omega) (by omega) (fun i' h => absurd h (by omega))⟩
theorem yw_cm {post : Int32 → Prop} {a b len : Nat} (ha : a + len ≤ 16) (hb : b + len ≤ 16)
    (KL : jl_lt len (fun q => vVe (a + q)) (fun q => vVe (b + q)) → post (-1)) (KE : jl_eq len (fun q => vVe (a + q)) (fun q => vVe (b + q)) → post 0) (KG : jl_lt len (fun q => vVe (b + q)) (fun q => vVe (a + q)) → post 1) :
    ∀ d f p, p + d = len → d < f → jl_eq p (fun q => vVe (a + q)) (fun q => vVe (b + q)) → wY_compare_3 post (nI a) (nI b) (nI len) vRl vRw vVl vAl vAc vCa vWd vSt vAy vSz vDa vRe vTs vTm vPl vCz vCd vCr vCt vCo vDo vDc vVe f (nI p) := by
  intro d
  induction d with
  | zero =>
    intro f p g1 g2 g3
    obtain ⟨f, rfl⟩ : ∃ m, f = m + 1 := ⟨f - 1, by omega⟩
    have : p = len := by omega
    subst this
    rw [wY_compare_3]
    exact br_t (nI_le (Nat.le_refl _) (by omega)) (KE g3)
  | succ d ih =>
    intro f p g1 g2 g3
    obtain ⟨f, rfl⟩ : ∃ m, f = m + 1 := ⟨f - 1, by omega⟩
    have ca : (nI (a + p)).toNatClampNeg = a + p := jn_c (by omega)
    have cb : (nI (b + p)).toNatClampNeg = b + p := jn_c (by omega)
    have ia : vp_in (nI (a + p)) 16 := vp_in_nI (by omega) (by omega)
    have ib : vp_in (nI (b + p)) 16 := vp_in_nI (by omega) (by omega)
    rw [wY_compare_3]
    dsimp only
    rw [nI_add a p, nI_add b p, ca, cb]
    refine br_f (nI_ge (by omega) (by omega)) ⟨ia, ib, br_c (fun y => ⟨ia, ib, br_c (fun z => ?_) (fun z => ?_)⟩) (fun y => ?_)⟩
    · have y' := ji_le.mp y
      have z' := ji_le.mp z
      exact nm_r (nI_1 p) (ih f (p + 1) (by omega) (by omega) (jl_e1 g3 (ji_eq.mpr (by show (vVe (a + p)).toInt = (vVe (b + p)).toInt; omega))))
    · exact KG ⟨p, by omega, jl_es g3, ji_nle z⟩
    · exact KL ⟨p, by omega, g3, ji_nle y⟩
theorem yw_cmp {post : Int32 → Prop} {a b len : Nat} (ha : a + len ≤ 16) (hb : b + len ≤ 16)
    (KL : jl_lt len (fun q => vVe (a + q)) (fun q => vVe (b + q)) → post (-1)) (KE : jl_eq len (fun q => vVe (a + q)) (fun q => vVe (b + q)) → post 0) (KG : jl_lt len (fun q => vVe (b + q)) (fun q => vVe (a + q)) → post 1) :
    wpY_compare post (vRl, vRw, vVl, vAl, vAc, vCa, vWd, vSt, vAy, vSz, vDa, vRe, vTs, vTm, vPl, vCz, vCd, vCr, vCt, vCo, vDo, vDc, vVe) (nI a) (nI b) (nI len) :=
  ⟨len + 1, yw_cm ha hb KL KE KG len (len + 1) 0 (by omega) (by omega) (fun q h => absurd h (by omega))⟩
theorem yw_cd {post : Int32 → SY → Prop} {code : Nat} (hc : code < 20736) (hN : ∀ p, p < 4 → vDc p = nI (N p) ∧ N p ≤ 12)
    (K1 : ∀ ve : Nat → Int32, (∀ q, q < 4 → jy_dg code q < N q ∧ ve (8 + q) = vDo (q * 12 + jy_dg code q)) → (∀ x, (x < 8 ∨ 12 ≤ x) → ve x = vVe x) → post 1 (vRl, vRw, vVl, vAl, vAc, vCa, vWd, vSt, vAy, vSz, vDa, vRe, vTs, vTm, vPl, vCz, vCd, vCr, vCt, vCo, vDo, vDc, ve))
    (K0 : ∀ ve : Nat → Int32, (∃ q, q < 4 ∧ ¬ jy_dg code q < N q) → (∀ x, (x < 8 ∨ 12 ≤ x) → ve x = vVe x) → post 0 (vRl, vRw, vVl, vAl, vAc, vCa, vWd, vSt, vAy, vSz, vDa, vRe, vTs, vTm, vPl, vCz, vCd, vCr, vCt, vCo, vDo, vDc, ve)) :
    ∀ d f p (ve : Nat → Int32), p + d = 4 → d < f → (∀ q, q < p → jy_dg code q < N q ∧ ve (8 + q) = vDo (q * 12 + jy_dg code q)) → (∀ x, (x < 8 ∨ 12 ≤ x) → ve x = vVe x) →
      wY_candidate_4 post vRl vRw vVl vAl vAc vCa vWd vSt f (nI (code / 12 ^ p)) (nI p) vAy vSz vDa vRe vTs vTm vPl vCz vCd vCr vCt vCo vDo vDc ve := by
  intro d
  induction d with
  | zero =>
    intro f p ve g1 g2 g3 g4
    obtain ⟨f, rfl⟩ : ∃ m, f = m + 1 := ⟨f - 1, by omega⟩
    have : p = 4 := by omega
    subst this
    rw [wY_candidate_4]
    exact br_t (nI_le (a := 4) (b := 4) (Nat.le_refl _) (by omega)) (K1 ve g3 g4)
  | succ d ih =>
    intro f p ve g1 g2 g3 g4
    obtain ⟨f, rfl⟩ : ∃ m, f = m + 1 := ⟨f - 1, by omega⟩
    rw [wY_candidate_4]
    obtain ⟨n1, n2⟩ := hN p (by omega)
    have lt : code / 12 ^ p < 2 ^ 31 := Nat.lt_of_le_of_lt (Nat.div_le_self _ _) (by omega)
    have dl : jy_dg code p < 12 := Nat.mod_lt _ (by omega)
    have cp : (nI p).toNatClampNeg = p := jn_c (by omega)
    have ip : vp_in (nI p) 4 := vp_in_nI (by omega) (by omega)
    have ed : code / 12 ^ p / 12 = code / 12 ^ (p + 1) := by rw [Nat.div_div_eq_div_mul, Nat.pow_succ]
    refine br_f (nI_ge (b := 4) (by omega) (by omega)) ⟨by decide, nm_r (e' := nI (jy_dg code p)) (pk_rem (d := 12) lt (by omega) (by omega)) ⟨by decide, nm_r (e' := nI (code / 12 ^ (p + 1))) ((pk_div (d := 12) lt (by omega) (by omega)).trans (congrArg nI ed)) ⟨ip, ?_⟩⟩⟩
    rw [cp, n1]
    refine pk_lt (jy_dg code p) (N p) (fun z => ?_) (fun z => K0 ve ⟨p, by omega, by omega⟩ g4)
    have c12 : (nI (p * 12 + jy_dg code p)).toNatClampNeg = p * 12 + jy_dg code p := jn_c (by omega)
    have c8 : (nI (8 + p)).toNatClampNeg = 8 + p := jn_c (by omega)
    rw [jx_12, jx_8, c12, c8]
    refine ⟨vp_in_nI (by omega) (by omega), vp_in_nI (by omega) (by omega), nm_e (nm_r (nI_1 p) (ih f (p + 1) _ (by omega) (by omega) (fun q hq => ?_) (fun x hx => ?_)))⟩
    · by_cases y : q = p
      · subst y; exact ⟨z, pk_us⟩
      · have := g3 q (by omega)
        exact ⟨this.1, by rw [pk_un (by omega)]; exact this.2⟩
    · rw [pk_un (by omega)]; exact g4 x hx
theorem yw_cand {post : Int32 → SY → Prop} {code : Nat} (hc : code < 20736) (hN : ∀ p, p < 4 → vDc p = nI (N p) ∧ N p ≤ 12)
    (K1 : ∀ ve : Nat → Int32, (∀ q, q < 4 → jy_dg code q < N q ∧ ve (8 + q) = vDo (q * 12 + jy_dg code q)) → (∀ x, (x < 8 ∨ 12 ≤ x) → ve x = vVe x) → post 1 (vRl, vRw, vVl, vAl, vAc, vCa, vWd, vSt, vAy, vSz, vDa, vRe, vTs, vTm, vPl, vCz, vCd, vCr, vCt, vCo, vDo, vDc, ve))
    (K0 : ∀ ve : Nat → Int32, (∃ q, q < 4 ∧ ¬ jy_dg code q < N q) → (∀ x, (x < 8 ∨ 12 ≤ x) → ve x = vVe x) → post 0 (vRl, vRw, vVl, vAl, vAc, vCa, vWd, vSt, vAy, vSz, vDa, vRe, vTs, vTm, vPl, vCz, vCd, vCr, vCt, vCo, vDo, vDc, ve)) :
    wpY_candidate post (vRl, vRw, vVl, vAl, vAc, vCa, vWd, vSt, vAy, vSz, vDa, vRe, vTs, vTm, vPl, vCz, vCd, vCr, vCt, vCo, vDo, vDc, vVe) (nI code) := by
  have h := yw_cd hc hN K1 K0 4 5 0 vVe (by omega) (by omega) (fun q hq => absurd hq (by omega)) (fun _ _ => rfl)
  rw [Nat.pow_zero, Nat.div_one] at h
  exact ⟨5, h⟩
end YW
end
section
/-! Y's codes, move and remaining -/
def jy_V (om : Nat → Int32) (code : Nat) : Nat → Int32 := fun q => om (q * 12 + jy_dg code q)
def jy_ok (N : Nat → Nat) (code : Nat) : Prop := ∀ q, q < 4 → jy_dg code q < N q
theorem jy_d0 {a b c d : Nat} (ha : a < 12) (hb : b < 12) (hc : c < 12) (hd : d < 12) :
    a + 12 * b + 144 * c + 1728 * d < 20736 ∧ jy_dg (a + 12 * b + 144 * c + 1728 * d) 0 = a ∧ jy_dg (a + 12 * b + 144 * c + 1728 * d) 1 = b ∧ jy_dg (a + 12 * b + 144 * c + 1728 * d) 2 = c ∧ jy_dg (a + 12 * b + 144 * c + 1728 * d) 3 = d := by
  refine ⟨by omega, ?_, ?_, ?_, ?_⟩
  · show (a + 12 * b + 144 * c + 1728 * d) / 1 % 12 = a; omega
  · show (a + 12 * b + 144 * c + 1728 * d) / 12 % 12 = b; omega
  · show (a + 12 * b + 144 * c + 1728 * d) / 144 % 12 = c; omega
  · show (a + 12 * b + 144 * c + 1728 * d) / 1728 % 12 = d; omega
theorem jy_d1 {x y : Nat} (hx : x < 20736) (hy : y < 20736) (h : ∀ q, q < 4 → jy_dg x q = jy_dg y q) : x = y := by
  have h0 : x / 1 % 12 = y / 1 % 12 := h 0 (by omega)
  have h1 : x / 12 % 12 = y / 12 % 12 := h 1 (by omega)
  have h2 : x / 144 % 12 = y / 144 % 12 := h 2 (by omega)
  have h3 : x / 1728 % 12 = y / 1728 % 12 := h 3 (by omega)
  omega
section YC
variable {n w : Nat} {A S ρ N : Nat → Nat} {ra cz cr om oc cd : Nat → Int32} {ct : Nat → Int64} {co : Nat → Int32}
/-- every result has a code -/
theorem yc_ex (hw : w ≤ 4) (HY : jq_Y n w A S ρ N ra cz cr om oc cd ct co) {t : Nat → Int32} (ht : jy_Res n w A S ρ cd ct co t) : ∃ c, c < 20736 ∧ jy_ok N c ∧ jl_eq w t (jy_V om c) := by
  have key : ∀ p, p < 4 → ∃ a, a < 12 ∧ a < N p ∧ (p < w → om (p * 12 + a) = t p) := fun p hp => by
    obtain ⟨_, n2, n3⟩ := HY.2.1 p hp
    rcases Nat.lt_or_ge p w with z | z
    · obtain ⟨a, a1, a2⟩ := HY.2.2.2 t ht p z
      exact ⟨a, by omega, a1, fun _ => a2⟩
    · exact ⟨0, by omega, by rw [n3 z]; omega, fun y => absurd y (by omega)⟩
  obtain ⟨a, a1, a2, a3⟩ := key 0 (by omega)
  obtain ⟨b, b1, b2, b3⟩ := key 1 (by omega)
  obtain ⟨c, c1, c2, c3⟩ := key 2 (by omega)
  obtain ⟨d, d1, d2, d3⟩ := key 3 (by omega)
  obtain ⟨e, e0, e1, e2, e3⟩ := jy_d0 a1 b1 c1 d1
  refine ⟨_, e, fun q hq => ?_, fun q hq => ?_⟩
  · rcases (by omega : q = 0 ∨ q = 1 ∨ q = 2 ∨ q = 3) with rfl | rfl | rfl | rfl
    · rw [e0]; exact a2
    · rw [e1]; exact b2
    · rw [e2]; exact c2
    · rw [e3]; exact d2
  · unfold jy_V
    rcases (by omega : q = 0 ∨ q = 1 ∨ q = 2 ∨ q = 3) with rfl | rfl | rfl | rfl
    · rw [e0]; exact (a3 hq).symm
    · rw [e1]; exact (b3 hq).symm
    · rw [e2]; exact (c3 hq).symm
    · rw [e3]; exact (d3 hq).symm
theorem yc_un (HY : jq_Y n w A S ρ N ra cz cr om oc cd ct co) {x y : Nat} (hx : x < 20736) (hy : y < 20736) (ox : jy_ok N x) (oy : jy_ok N y) (h : jl_eq w (jy_V om x) (jy_V om y)) : x = y := by
  refine jy_d1 hx hy (fun q hq => ?_)
  have o1 := ox q hq
  have o2 := oy q hq
  obtain ⟨_, n2, n3⟩ := HY.2.1 q hq
  rcases Nat.lt_or_ge q w with z | z
  · have e : om (q * 12 + jy_dg x q) = om (q * 12 + jy_dg y q) := h q z
    rcases Nat.lt_trichotomy (jy_dg x q) (jy_dg y q) with u | u | u
    · exact absurd e (HY.2.2.1 q _ _ z u o2)
    · exact u
    · exact absurd e.symm (HY.2.2.1 q _ _ z u o1)
  · have := n3 z
    omega
theorem bd_cg {len : Nat} {st : Prop} {ta t t' : Nat → Int32} (h : jl_eq len t t') (z : jp_Bd len st ta t) : jp_Bd len st ta t' := by
  rcases z with z | ⟨z1, z2⟩
  · exact Or.inl (jl_cg (jl_er _ _) h z)
  · exact Or.inr ⟨jl_et z1 h, z2⟩
/-- the results of a bound are counted by their codes -/
theorem yc_cnt {M : Nat} (hM : M = 20736) (hw : w ≤ 4) (HY : jq_Y n w A S ρ N ra cz cr om oc cd ct co) {B : (Nat → Int32) → Prop} (hB : ∀ t t', jl_eq w t t' → B t → B t') {t : Nat → Int32} (ht : jy_Res n w A S ρ cd ct co t) (hb : B t) :
    jc_n (fun c => jy_ok N c ∧ jy_Res n w A S ρ cd ct co (jy_V om c) ∧ B (jy_V om c) ∧ jl_lt w t (jy_V om c)) M + 1 =
    jc_n (fun c => jy_ok N c ∧ jy_Res n w A S ρ cd ct co (jy_V om c) ∧ B (jy_V om c) ∧ ¬ jl_lt w (jy_V om c) t) M := by
  obtain ⟨c0, c1, c2, c3⟩ := yc_ex hw HY ht
  rw [← hM] at c1
  have u := jc_upd (N := M) (P := fun c => jy_ok N c ∧ jy_Res n w A S ρ cd ct co (jy_V om c) ∧ B (jy_V om c) ∧ ¬ jl_lt w (jy_V om c) t)
    (P' := fun c => jy_ok N c ∧ jy_Res n w A S ρ cd ct co (jy_V om c) ∧ B (jy_V om c) ∧ jl_lt w t (jy_V om c)) c1 (fun c hc hne => ⟨fun ⟨x1, x2, x3, x4⟩ => ⟨x1, x2, x3, ?_⟩, fun ⟨x1, x2, x3, x4⟩ => ⟨x1, x2, x3, jl_asym x4⟩⟩)
  · rw [jc_bt ⟨c2, jy_rc c3 ht, hB _ _ c3 hb, jl_irr (jl_es c3)⟩, jc_bf (fun z => jl_irr c3 z.2.2.2), Nat.add_zero] at u
    exact u
  · rcases jl_le x4 with z | z
    · exact absurd (yc_un HY (by omega) (by omega) x1 c2 (jl_et (jl_es z) c3)) hne
    · exact z
end YC
section YM
variable {vRl vRw vVl vAl vAc vCa vWd vSt : Int32} {vAy vSz vDa vRe vTs : Nat → Int32} {vTm : Nat → Int64} {vPl vCz vCd vCr : Nat → Int32} {vCt : Nat → Int64} {vCo vDo vDc vVe : Nat → Int32}
variable {n w : Nat} {A S ρ N : Nat → Nat}
/-- what a scan has found -/
def ym_G (n w : Nat) (A S ρ N : Nat → Nat) (cd : Nat → Int32) (ct : Nat → Int64) (co om : Nat → Int32) (len : Nat) (st : Prop) (ta : Nat → Int32) (c : Nat) : Prop :=
  jy_ok N c ∧ jy_Res n w A S ρ cd ct co (jy_V om c) ∧ jp_Bd len st ta (jy_V om c)
theorem ym_124 {post : Int32 → SY → Prop} (K : ∀ ve : Nat → Int32, (∀ q, q < 4 → ve q = vVe (12 + q)) → post vSt (vRl, vRw, vVl, vAl, vAc, vCa, vWd, vSt, vAy, vSz, vDa, vRe, vTs, vTm, vPl, vCz, vCd, vCr, vCt, vCo, vDo, vDc, ve)) :
    ∀ d f p (ve : Nat → Int32), p + d = 4 → d < f → (∀ q, q < p → ve q = vVe (12 + q)) → (∀ x, 4 ≤ x → ve x = vVe x) → wY_move_124 post vRl vRw vVl vAl vAc vCa vWd vSt f (nI p) vAy vSz vDa vRe vTs vTm vPl vCz vCd vCr vCt vCo vDo vDc ve := by
  intro d
  induction d with
  | zero =>
    intro f p ve g1 g2 g3 g4
    obtain ⟨f, rfl⟩ : ∃ m, f = m + 1 := ⟨f - 1, by omega⟩
    have : p = 4 := by omega
    subst this
    rw [wY_move_124]
    exact br_t (nI_le (a := 4) (b := 4) (Nat.le_refl _) (by omega)) (K ve g3)
  | succ d ih =>
    intro f p ve g1 g2 g3 g4
    obtain ⟨f, rfl⟩ : ∃ m, f = m + 1 := ⟨f - 1, by omega⟩
    rw [wY_move_124]
    have c1 : (nI (12 + p)).toNatClampNeg = 12 + p := jn_c (by omega)
    have c0 : (nI p).toNatClampNeg = p := jn_c (by omega)
    have e : (0 : Int32) + nI p = nI p := by rw [jx_0, Nat.zero_add]
    dsimp only
    rw [jx_C, e, c1, c0]
    refine br_f (nI_ge (b := 4) (by omega) (by omega)) ⟨vp_in_nI (by omega) (by omega), vp_in_nI (by omega) (by omega), nm_e (nm_r (nI_1 p) (ih f (p + 1) _ (by omega) (by omega) (fun q hq => ?_) (fun x hx => ?_)))⟩
    · by_cases z : q = p
      · subst z; rw [pk_us]; exact g4 _ (by omega)
      · rw [pk_un z]; exact g3 q (by omega)
    · rw [pk_un (by omega)]; exact g4 x hx
theorem ym_68 {post : Int32 → SY → Prop} {J : _} {x1 x2 x3 x4 : Int32} {code : Nat} (K : ∀ ve : Nat → Int32, (∀ q, q < 4 → ve (12 + q) = vVe (8 + q)) → (∀ x, x < 12 → ve x = vVe x) → J x4 (nI (code + 1)) vRl vRw vVl vAl vAc vCa vWd vSt vAy vSz vDa vRe vTs vTm vPl vCz vCd vCr vCt vCo vDo vDc ve) :
    ∀ d f p (ve : Nat → Int32), p + d = 4 → d < f → (∀ q, q < p → ve (12 + q) = vVe (8 + q)) → (∀ x, x < 12 → ve x = vVe x) → wY_move_68 post J x1 x2 x3 x4 (nI code) vRl vRw vVl vAl vAc vCa vWd vSt f (nI p) vAy vSz vDa vRe vTs vTm vPl vCz vCd vCr vCt vCo vDo vDc ve := by
  intro d
  induction d with
  | zero =>
    intro f p ve g1 g2 g3 g4
    obtain ⟨f, rfl⟩ : ∃ m, f = m + 1 := ⟨f - 1, by omega⟩
    have : p = 4 := by omega
    subst this
    rw [wY_move_68]
    exact br_t (nI_le (a := 4) (b := 4) (Nat.le_refl _) (by omega)) (nm_r (nI_1 code) (K ve g3 g4))
  | succ d ih =>
    intro f p ve g1 g2 g3 g4
    obtain ⟨f, rfl⟩ : ∃ m, f = m + 1 := ⟨f - 1, by omega⟩
    rw [wY_move_68]
    have c1 : (nI (12 + p)).toNatClampNeg = 12 + p := jn_c (by omega)
    have c0 : (nI (8 + p)).toNatClampNeg = 8 + p := jn_c (by omega)
    dsimp only
    rw [jx_C, jx_8, c1, c0]
    refine br_f (nI_ge (b := 4) (by omega) (by omega)) ⟨vp_in_nI (by omega) (by omega), vp_in_nI (by omega) (by omega), nm_e (nm_r (nI_1 p) (ih f (p + 1) _ (by omega) (by omega) (fun q hq => ?_) (fun x hx => ?_)))⟩
    · by_cases z : q = p
      · subst z; rw [pk_us]; exact g4 _ (by omega)
      · rw [pk_un (by omega)]; exact g3 q (by omega)
    · rw [pk_un (by omega)]; exact g4 x hx
theorem ym_6 {post : Int32 → SY → Prop} {fr len : Nat} {le : Int32} {ta : Nat → Int32} (hw : w ≤ 4) (hn : n ≤ 5) (hl : len ≤ w) (hf : fr = 0 ∨ fr = 4) (hle : le = 0 ∨ le = 1) (HY : jq_Y n w A S ρ N vAy vCz vCr vDo vDc vCd vCt vCo)
    (hta : ∀ q, q < len → ta q = vVe (fr + q))
    (K1 : ∀ (ve : Nat → Int32) c0, c0 < 20736 → ym_G n w A S ρ N vCd vCt vCo vDo len (le = 1) ta c0 → (∀ c, c < 20736 → ym_G n w A S ρ N vCd vCt vCo vDo len (le = 1) ta c → ¬ jl_lt w (jy_V vDo c) (jy_V vDo c0)) →
      (∀ q, q < 4 → ve q = jy_V vDo c0 q) → post 2 (vRl, vRw, vVl, vAl, vAc, nI n, nI w, 2, vAy, vSz, vDa, vRe, vTs, vTm, vPl, vCz, vCd, vCr, vCt, vCo, vDo, vDc, ve))
    (K0 : ∀ (ve : Nat → Int32), (∀ c, c < 20736 → ¬ ym_G n w A S ρ N vCd vCt vCo vDo len (le = 1) ta c) → post 4 (vRl, vRw, vVl, vAl, vAc, nI n, nI w, 4, vAy, vSz, vDa, vRe, vTs, vTm, vPl, vCz, vCd, vCr, vCt, vCo, vDo, vDc, ve)) :
    ∀ d f code x4 (ve : Nat → Int32), code + d = 20736 → d < f → (∀ x, x < 8 → ve x = vVe x) →
      ((x4 = 0 ∧ ∀ c, c < code → ¬ ym_G n w A S ρ N vCd vCt vCo vDo len (le = 1) ta c) ∨
       (x4 = 1 ∧ ∃ c0, c0 < code ∧ ym_G n w A S ρ N vCd vCt vCo vDo len (le = 1) ta c0 ∧ (∀ q, q < 4 → ve (12 + q) = jy_V vDo c0 q) ∧ (∀ c, c < code → ym_G n w A S ρ N vCd vCt vCo vDo len (le = 1) ta c → ¬ jl_lt w (jy_V vDo c) (jy_V vDo c0)))) →
      wY_move_6 post (nI fr) (nI len) le f x4 (nI code) vRl vRw vVl vAl vAc (nI n) (nI w) vSt vAy vSz vDa vRe vTs vTm vPl vCz vCd vCr vCt vCo vDo vDc ve := by
  have hN : ∀ p, p < 4 → vDc p = nI (N p) ∧ N p ≤ 12 := fun p hp => ⟨(HY.2.1 p hp).1, (HY.2.1 p hp).2.1⟩
  intro d
  induction d with
  | zero =>
    intro f code x4 ve g1 g2 g3 g4
    obtain ⟨f, rfl⟩ : ∃ m, f = m + 1 := ⟨f - 1, by omega⟩
    have : code = 20736 := by omega
    subst this
    rw [wY_move_6]
    refine br_t (nI_le (a := 20736) (b := 20736) (Nat.le_refl _) (by omega)) ?_
    rcases g4 with ⟨rfl, g⟩ | ⟨rfl, c0, a1, a2, a3, a4⟩
    · exact br_t rfl (K0 ve g)
    · exact br_f (by decide) ⟨5, ym_124 (fun ve' h => K1 ve' c0 a1 a2 a4 (fun q hq => (h q hq).trans (a3 q hq))) 4 5 0 ve rfl (by omega) (fun q hq => absurd hq (by omega)) (fun _ _ => rfl)⟩
  | succ d ih =>
    intro f code x4 ve g1 g2 g3 g4
    obtain ⟨f, rfl⟩ : ∃ m, f = m + 1 := ⟨f - 1, by omega⟩
    rw [wY_move_6]
    -- going on when code is no better one
    have skip : ∀ ve' : Nat → Int32, (∀ x, (x < 8 ∨ 12 ≤ x) → ve' x = ve x) → (ym_G n w A S ρ N vCd vCt vCo vDo len (le = 1) ta code → x4 = 1 ∧ ∀ c0, (∀ q, q < 4 → ve (12 + q) = jy_V vDo c0 q) → ¬ jl_lt w (jy_V vDo code) (jy_V vDo c0)) →
        wY_move_6 post (nI fr) (nI len) le f x4 (nI (code + 1)) vRl vRw vVl vAl vAc (nI n) (nI w) vSt vAy vSz vDa vRe vTs vTm vPl vCz vCd vCr vCt vCo vDo vDc ve' := fun ve' h1 h2 => by
      refine ih f (code + 1) x4 ve' (by omega) (by omega) (fun x hx => (h1 x (Or.inl hx)).trans (g3 x hx)) ?_
      rcases g4 with ⟨e, g⟩ | ⟨e, c0, a1, a2, a3, a4⟩
      · refine Or.inl ⟨e, fun c hc hG => ?_⟩
        rcases Nat.lt_or_ge c code with z | z
        · exact g c z hG
        · have : c = code := by omega
          subst this
          exact absurd ((h2 hG).1.symm.trans e) (by decide)
      · refine Or.inr ⟨e, c0, by omega, a2, fun q hq => (h1 _ (Or.inr (by omega))).trans (a3 q hq), fun c hc hG => ?_⟩
        rcases Nat.lt_or_ge c code with z | z
        · exact a4 c z hG
        · have : c = code := by omega
          subst this
          exact (h2 hG).2 c0 a3
    refine br_f (nI_ge (b := 20736) (by omega) (by omega)) (yw_cand (by omega) hN (fun ve' v1 v2 => ?_) (fun ve' v1 v2 => ?_))
    · have ok : jy_ok N code := fun q hq => (v1 q hq).1
      have ev : jl_eq 4 (fun q => ve' (8 + q)) (jy_V vDo code) := fun q hq => (v1 q hq).2
      have ef : jl_eq len (fun q => ve' (fr + q)) ta := fun q hq => by
        show ve' (fr + q) = ta q
        rw [v2 _ (by omega), g3 _ (by omega), hta q hq]
      have eb : jl_eq len (fun q => ve' (8 + q)) (jy_V vDo code) := jl_em ev (by omega)
      refine br_f (by decide) ?_
      -- the bound holds: look at the best one
      have go : jp_Bd len (le = 1) ta (jy_V vDo code) → ((x4 = 0 → wY_move_55 post (wY_move_6 post (nI fr) (nI len) le f) (nI fr) (nI len) le x4 (nI code) vRl vRw vVl vAl vAc (nI n) (nI w) vSt vAy vSz vDa vRe vTs vTm vPl vCz vCd vCr vCt vCo vDo vDc ve') ∧ (¬ x4 = 0 →
          wpY_compare (fun r_93 => (((0 ≤ r_93 → (∀ x5_118 : Int32, x5_118 = nI code + 1 → (wY_move_6 post (nI fr) (nI len) le f x4 x5_118 vRl vRw vVl vAl vAc (nI n) (nI w) vSt vAy vSz vDa vRe vTs vTm vPl vCz vCd vCr vCt vCo vDo vDc ve'))) ∧ (¬ 0 ≤ r_93 → (wY_move_55 post (wY_move_6 post (nI fr) (nI len) le f) (nI fr) (nI len) le x4 (nI code) vRl vRw vVl vAl vAc (nI n) (nI w) vSt vAy vSz vDa vRe vTs vTm vPl vCz vCd vCr vCt vCo vDo vDc ve'))))) (vRl, vRw, vVl, vAl, vAc, nI n, nI w, vSt, vAy, vSz, vDa, vRe, vTs, vTm, vPl, vCz, vCd, vCr, vCt, vCo, vDo, vDc, ve') 8 12 (nI w))) := fun hB => by
        have m55 : (∀ c0, x4 = 1 → (∀ q, q < 4 → ve (12 + q) = jy_V vDo c0 q) → jl_lt w (jy_V vDo code) (jy_V vDo c0)) → wY_move_55 post (wY_move_6 post (nI fr) (nI len) le f) (nI fr) (nI len) le x4 (nI code) vRl vRw vVl vAl vAc (nI n) (nI w) vSt vAy vSz vDa vRe vTs vTm vPl vCz vCd vCr vCt vCo vDo vDc ve' := fun hc => by
          unfold wY_move_55
          refine yw_res hw hn HY (fun hr => ?_) (fun hr => ?_)
          · refine br_f (by decide) ⟨5, ym_68 (fun ve'' u1 u2 => ?_) 4 5 0 ve' rfl (by omega) (fun q hq => absurd hq (by omega)) (fun _ _ => rfl)⟩
            refine ih f (code + 1) 1 ve'' (by omega) (by omega) (fun x hx => ?_) (Or.inr ⟨rfl, code, by omega, ⟨ok, jy_rc (jl_em ev hw) hr, hB⟩, fun q hq => (u1 q hq).trans (ev q hq), fun c hc' hG => ?_⟩)
            · rw [u2 x (by omega), v2 x (Or.inl hx), g3 x hx]
            · rcases Nat.lt_or_ge c code with z | z
              · rcases g4 with ⟨e, g⟩ | ⟨e, c0, a1, a2, a3, a4⟩
                · exact absurd hG (g c z)
                · have l1 := hc c0 e a3
                  intro l2
                  exact a4 c z hG (jl_trans l2 l1)
              · have : c = code := by omega
                subst this
                exact jl_irr (jl_er _ _)
          · exact br_t rfl (nm_r (nI_1 code) (skip ve' v2 (fun hG => absurd (jy_rc (jl_es (jl_em ev hw)) hG.2.1) hr)))
        rcases g4 with ⟨e, g⟩ | ⟨e, c0, a1, a2, a3, a4⟩
        · exact br_t e (m55 fun c0 e' => absurd (e.symm.trans e') (by decide))
        · refine br_f (by rw [e]; decide) (yw_cmp (a := 8) (b := 12) (len := w) (by omega) (by omega) (fun y => ?_) (fun y => ?_) (fun y => ?_))
          all_goals
            have e12 : ∀ c1, (∀ q, q < 4 → ve (12 + q) = jy_V vDo c1 q) → jl_eq w (fun q => ve' (12 + q)) (jy_V vDo c1) := fun c1 h q hq => (v2 _ (Or.inr (by omega))).trans (h q (by omega))
          · exact br_f (by decide) (m55 fun c1 _ h => jl_cg (jl_em ev hw) (e12 c1 h) y)
          · exact br_t (by decide) (nm_r (nI_1 code) (skip ve' v2 (fun _ => ⟨e, fun c1 h => jl_irr (jl_et (jl_es (jl_em ev hw)) (jl_et y (e12 c1 h)))⟩)))
          · exact br_t (by decide) (nm_r (nI_1 code) (skip ve' v2 (fun _ => ⟨e, fun c1 h => jl_asym (jl_cg (e12 c1 h) (jl_em ev hw) y)⟩)))
      have no : ¬ jp_Bd len (le = 1) ta (jy_V vDo code) → wY_move_6 post (nI fr) (nI len) le f x4 (nI (code + 1)) vRl vRw vVl vAl vAc (nI n) (nI w) vSt vAy vSz vDa vRe vTs vTm vPl vCz vCd vCr vCt vCo vDo vDc ve' := fun hB => skip ve' v2 (fun hG => absurd hG.2.2 hB)
      refine yw_cmp (a := 8) (b := fr) (len := len) (by omega) (by omega) (fun y => ?_) (fun y => ?_) (fun y => ?_)
      · have l1 := jl_cg eb ef y
        refine br_t (by rcases hle with rfl | rfl <;> decide) (nm_r (nI_1 code) (no fun hB => ?_))
        rcases hB with z | ⟨z, _⟩
        · exact jl_asym l1 z
        · exact jl_irr (jl_es z) l1
      · have l1 := jl_et (jl_es ef) (jl_et (jl_es y) eb)
        rcases hle with rfl | rfl
        · exact br_f (by decide) (go (Or.inr ⟨l1, by decide⟩))
        · refine br_t (by decide) (nm_r (nI_1 code) (no fun hB => ?_))
          rcases hB with z | ⟨_, z⟩
          · exact jl_irr l1 z
          · exact z rfl
      · have l1 := jl_cg ef eb y
        exact br_f (by rcases hle with rfl | rfl <;> decide) (go (Or.inl l1))
    · refine br_t rfl (nm_r (nI_1 code) (skip ve' v2 (fun hG => ?_)))
      obtain ⟨q, q1, q2⟩ := v1
      exact absurd (hG.1 q q1) q2
theorem ym_move {post : Int32 → SY → Prop} {fr len : Nat} {le : Int32} {ta : Nat → Int32} (hw : w ≤ 4) (hn : n ≤ 5) (hl : len ≤ w) (hf : fr = 0 ∨ fr = 4) (hle : le = 0 ∨ le = 1) (HY : jq_Y n w A S ρ N vAy vCz vCr vDo vDc vCd vCt vCo)
    (hta : ∀ q, q < len → ta q = vVe (fr + q))
    (K1 : ∀ (ve : Nat → Int32), jy_Res n w A S ρ vCd vCt vCo ve → jp_Bd len (le = 1) ta ve → (∀ t, jy_Res n w A S ρ vCd vCt vCo t → jp_Bd len (le = 1) ta t → ¬ jl_lt w t ve) → post 2 (vRl, vRw, vVl, vAl, vAc, nI n, nI w, 2, vAy, vSz, vDa, vRe, vTs, vTm, vPl, vCz, vCd, vCr, vCt, vCo, vDo, vDc, ve))
    (K0 : ∀ (ve : Nat → Int32), (∀ t, jy_Res n w A S ρ vCd vCt vCo t → ¬ jp_Bd len (le = 1) ta t) → post 4 (vRl, vRw, vVl, vAl, vAc, nI n, nI w, 4, vAy, vSz, vDa, vRe, vTs, vTm, vPl, vCz, vCd, vCr, vCt, vCo, vDo, vDc, ve)) :
    wpY_move post (vRl, vRw, vVl, vAl, vAc, nI n, nI w, vSt, vAy, vSz, vDa, vRe, vTs, vTm, vPl, vCz, vCd, vCr, vCt, vCo, vDo, vDc, vVe) (nI fr) (nI len) le := by
  refine ⟨20737, ym_6 hw hn hl hf hle HY hta (fun ve c0 a1 a2 a3 a4 => ?_) (fun ve a1 => ?_) 20736 20737 0 0 vVe (by omega) (by omega) (fun _ _ => rfl) (Or.inl ⟨rfl, fun c hc => absurd hc (by omega)⟩)⟩
  · have e : jl_eq w (jy_V vDo c0) ve := fun q hq => (a4 q (by omega)).symm
    refine K1 ve (jy_rc e a2.2.1) (bd_cg (jl_em e hl) a2.2.2) (fun t t1 t2 t3 => ?_)
    obtain ⟨c, b1, b2, b3⟩ := yc_ex hw HY t1
    exact a3 c b1 ⟨b2, jy_rc b3 t1, bd_cg (jl_em b3 hl) t2⟩ (jl_cg b3 (jl_es e) t3)
  · refine K0 ve (fun t t1 t2 => ?_)
    obtain ⟨c, b1, b2, b3⟩ := yc_ex hw HY t1
    exact a1 c b1 ⟨b2, jy_rc b3 t1, bd_cg (jl_em b3 hl) t2⟩
end YM
end
section
/-! X's targets, move, holds; Y's put and remaining -/
def j4_t (a b c d : Int32) : Nat → Int32 := fun j => if j = 0 then a else if j = 1 then b else if j = 2 then c else d
theorem jc_0 {P : Nat → Prop} : ∀ {N : Nat}, (∀ k, k < N → ¬ P k) → jc_n P N = 0
  | 0, _ => rfl
  | N + 1, h => by
    simp only [jc_n]
    rw [jc_0 (fun k hk => h k (by omega)), jc_bf (h N (by omega))]
theorem jc_mn {P : Nat → Prop} {N : Nat} : ∀ d, jc_n P N ≤ jc_n P (N + d)
  | 0 => Nat.le_refl _
  | d + 1 => by
    have := jc_mn (P := P) (N := N) d
    show jc_n P N ≤ jc_n P (N + d) + jc_b (P (N + d))
    omega
section XM
variable {uRl uRw uVl uAl uAc uCs uWd uTc uSa uBl uBs : Int32} {uRA uRS uTu uAR uTn uTi uTv uPl uCv uRe uTr uTd uTt uTk uTs uDp uPy uPc uR0 uR1 uPo uCa : Nat → Int32} {uMi : Nat → Int64} {uTg uTa : Nat → Int32}
variable {n w : Nat} {R D : Nat → Nat} {C : Nat → Nat → Nat} {P : Nat → Nat} {L : Nat → Nat → Nat} {sa : Int32}
theorem xm_tr {post : SX → Prop} (hw : w ≤ 4) (K : ∀ ta : Nat → Int32, (∀ q, q < w → ta q = uRe q) → post (uRl, uRw, uVl, uAl, uAc, uCs, nI w, uTc, uSa, uBl, uBs, uRA, uRS, uTu, uAR, uTn, uTi, uTv, uPl, uCv, uRe, uTr, uTd, uTt, uTk, uTs, uDp, uPy, uPc, uR0, uR1, uPo, uCa, uMi, uTg, ta)) :
    ∀ d f p (ta : Nat → Int32), p + d = w → d < f → (∀ q, q < p → ta q = uRe q) → wX_targetResult_2 post uRl uRw uVl uAl uAc uCs (nI w) uTc uSa uBl uBs f (nI p) uRA uRS uTu uAR uTn uTi uTv uPl uCv uRe uTr uTd uTt uTk uTs uDp uPy uPc uR0 uR1 uPo uCa uMi uTg ta := by
  intro d
  induction d with
  | zero =>
    intro f p ta g1 g2 g3
    obtain ⟨f, rfl⟩ : ∃ m, f = m + 1 := ⟨f - 1, by omega⟩
    have : p = w := by omega
    subst this
    rw [wX_targetResult_2]
    exact br_t (nI_le (Nat.le_refl _) (by omega)) (K ta g3)
  | succ d ih =>
    intro f p ta g1 g2 g3
    obtain ⟨f, rfl⟩ : ∃ m, f = m + 1 := ⟨f - 1, by omega⟩
    rw [wX_targetResult_2]
    refine br_f (nI_ge (by omega) (by omega)) ⟨vp_in_nI (by omega) (by omega), vp_in_nI (by omega) (by omega), nm_r (e' := upd ta p (uRe p)) (by rw [jn_c (by omega)]) (nm_r (nI_1 p) (ih f (p + 1) _ (by omega) (by omega) (fun q hq => ?_)))⟩
    by_cases z : q = p
    · subst z; exact pk_us
    · rw [pk_un z]; exact g3 q (by omega)
theorem xm_res {post : SX → Prop} (hw : w ≤ 4) (K : ∀ ta : Nat → Int32, (∀ q, q < w → ta q = uRe q) → post (uRl, uRw, uVl, uAl, uAc, uCs, nI w, uTc, uSa, uBl, uBs, uRA, uRS, uTu, uAR, uTn, uTi, uTv, uPl, uCv, uRe, uTr, uTd, uTt, uTk, uTs, uDp, uPy, uPc, uR0, uR1, uPo, uCa, uMi, uTg, ta)) : wpX_targetResult post (uRl, uRw, uVl, uAl, uAc, uCs, nI w, uTc, uSa, uBl, uBs, uRA, uRS, uTu, uAR, uTn, uTi, uTv, uPl, uCv, uRe, uTr, uTd, uTt, uTk, uTs, uDp, uPy, uPc, uR0, uR1, uPo, uCa, uMi, uTg, uTa) :=
  ⟨w + 1, xm_tr hw K w (w + 1) 0 uTa (by omega) (by omega) (fun q h => absurd h (by omega))⟩
theorem xm_key {post : SX → Prop} {a b c d : Int32} (K : ∀ ta : Nat → Int32, (∀ q, q < 4 → ta q = j4_t a b c d q) → post (uRl, uRw, uVl, uAl, uAc, uCs, uWd, uTc, uSa, uBl, uBs, uRA, uRS, uTu, uAR, uTn, uTi, uTv, uPl, uCv, uRe, uTr, uTd, uTt, uTk, uTs, uDp, uPy, uPc, uR0, uR1, uPo, uCa, uMi, uTg, ta)) : wpX_targetKey post (uRl, uRw, uVl, uAl, uAc, uCs, uWd, uTc, uSa, uBl, uBs, uRA, uRS, uTu, uAR, uTn, uTi, uTv, uPl, uCv, uRe, uTr, uTd, uTt, uTk, uTs, uDp, uPy, uPc, uR0, uR1, uPo, uCa, uMi, uTg, uTa) a b c d := by
  refine nm_e (nm_e (nm_e (nm_e (K _ (fun q hq => ?_)))))
  rcases (by omega : q = 0 ∨ q = 1 ∨ q = 2 ∨ q = 3) with rfl | rfl | rfl | rfl
  · rw [pk_un (by omega), pk_un (by omega), pk_un (by omega)]; exact pk_us
  · rw [pk_un (by omega), pk_un (by omega)]; exact pk_us
  · rw [pk_un (by omega)]; exact pk_us
  · exact pk_us
theorem xm_bl {post : Int32 → Prop} (hw : w ≤ 4) (K1 : jl_lt w uRe uTa → post 1) (K0 : ¬ jl_lt w uRe uTa → post 0) :
    ∀ d f p, p + d = w → d < f → jl_eq p uRe uTa → wX_resultBelowTarget_2 post uRl uRw uVl uAl uAc uCs (nI w) uTc uSa uBl uBs uRA uRS uTu uAR uTn uTi uTv uPl uCv uRe uTr uTd uTt uTk uTs uDp uPy uPc uR0 uR1 uPo uCa uMi uTg uTa f (nI p) := by
  intro d
  induction d with
  | zero =>
    intro f p g1 g2 g3
    obtain ⟨f, rfl⟩ : ∃ m, f = m + 1 := ⟨f - 1, by omega⟩
    have : p = w := by omega
    subst this
    rw [wX_resultBelowTarget_2]
    exact br_t (nI_le (Nat.le_refl _) (by omega)) (K0 (jl_irr g3))
  | succ d ih =>
    intro f p g1 g2 g3
    obtain ⟨f, rfl⟩ : ∃ m, f = m + 1 := ⟨f - 1, by omega⟩
    have cp : (nI p).toNatClampNeg = p := jn_c (by omega)
    have ip : vp_in (nI p) 4 := vp_in_nI (by omega) (by omega)
    rw [wX_resultBelowTarget_2]
    dsimp only
    rw [cp]
    refine br_f (nI_ge (by omega) (by omega)) ⟨ip, ip, ?_⟩
    by_cases z : uRe p = uTa p
    · exact br_t z (nm_r (nI_1 p) (ih f (p + 1) (by omega) (by omega) (jl_e1 g3 z)))
    · have z' : ¬ (uRe p).toInt = (uTa p).toInt := fun y => z (ji_eq.mpr y)
      refine br_f z ⟨ip, ip, br_c (fun y => K0 fun h => ?_) (fun y => K1 ⟨p, by omega, g3, ji_nle y⟩)⟩
      have y' := ji_le.mp y
      exact jl_asym h ⟨p, by omega, jl_es g3, by omega⟩
theorem xm_below {post : Int32 → Prop} (hw : w ≤ 4) (K1 : jl_lt w uRe uTa → post 1) (K0 : ¬ jl_lt w uRe uTa → post 0) : wpX_resultBelowTarget post (uRl, uRw, uVl, uAl, uAc, uCs, nI w, uTc, uSa, uBl, uBs, uRA, uRS, uTu, uAR, uTn, uTi, uTv, uPl, uCv, uRe, uTr, uTd, uTt, uTk, uTs, uDp, uPy, uPc, uR0, uR1, uPo, uCa, uMi, uTg, uTa) :=
  ⟨w + 1, xm_bl hw K1 K0 w (w + 1) 0 (by omega) (by omega) (fun q h => absurd h (by omega))⟩
theorem xm_cp {post : Int32 → SX → Prop} (hw : w ≤ 4) (K : ∀ re : Nat → Int32, (∀ q, q < w → re q = uCa q) → post 2 (uRl, uRw, uVl, uAl, uAc, 2, nI w, uTc, uSa, uBl, uBs, uRA, uRS, uTu, uAR, uTn, uTi, uTv, uPl, uCv, re, uTr, uTd, uTt, uTk, uTs, uDp, uPy, uPc, uR0, uR1, uPo, uCa, uMi, uTg, uTa)) :
    ∀ d f p (re : Nat → Int32), p + d = w → d < f → (∀ q, q < p → re q = uCa q) → wX_move_11 post uRl uRw uVl uAl uAc uCs (nI w) uTc uSa uBl uBs f (nI p) uRA uRS uTu uAR uTn uTi uTv uPl uCv re uTr uTd uTt uTk uTs uDp uPy uPc uR0 uR1 uPo uCa uMi uTg uTa := by
  intro d
  induction d with
  | zero =>
    intro f p re g1 g2 g3
    obtain ⟨f, rfl⟩ : ∃ m, f = m + 1 := ⟨f - 1, by omega⟩
    have : p = w := by omega
    subst this
    rw [wX_move_11]
    exact br_t (nI_le (Nat.le_refl _) (by omega)) (K re g3)
  | succ d ih =>
    intro f p re g1 g2 g3
    obtain ⟨f, rfl⟩ : ∃ m, f = m + 1 := ⟨f - 1, by omega⟩
    rw [wX_move_11]
    refine br_f (nI_ge (by omega) (by omega)) ⟨vp_in_nI (by omega) (by omega), vp_in_nI (by omega) (by omega), nm_r (e' := upd re p (uCa p)) (by rw [jn_c (by omega)]) (nm_r (nI_1 p) (ih f (p + 1) _ (by omega) (by omega) (fun q hq => ?_)))⟩
    by_cases z : q = p
    · subst z; exact pk_us
    · rw [pk_un z]; exact g3 q (by omega)
theorem xm_move {post : Int32 → SX → Prop} {len : Nat} {s : Int32} (H : jq_Sh n w R D C P L uSa uTr uTd uTt uTk uDp uPy uPc) (hR : jq_R0 n R uR0 uR1) (hb : len ≤ w) (hs : s = 0 ∨ s = 1) (hs1 : s = 1 → w ≠ 0 → 1 ≤ len)
    (K1 : ∀ (re r0 r1 po ca : Nat → Int32) (mi : Nat → Int64) (tg : Nat → Int32), jq_R0 n R r0 r1 →
      jx_Ext n R D C uTt w re → jp_Bd len (s = 1) uTa re → (∀ t, jx_Ext n R D C uTt w t → jp_Bd len (s = 1) uTa t → ¬ jl_lt w t re) →
      post 2 (uRl, uRw, uVl, uAl, uAc, 2, nI w, uTc, uSa, nI len, s, uRA, uRS, uTu, uAR, uTn, uTi, uTv, uPl, uCv, re, uTr, uTd, uTt, uTk, uTs, uDp, uPy, uPc, r0, r1, po, ca, mi, tg, uTa))
    (K0 : ∀ (r0 r1 po ca : Nat → Int32) (mi : Nat → Int64) (tg : Nat → Int32), jq_R0 n R r0 r1 → (∀ t, jx_Ext n R D C uTt w t → ¬ jp_Bd len (s = 1) uTa t) →
      post 4 (uRl, uRw, uVl, uAl, uAc, 4, nI w, uTc, uSa, nI len, s, uRA, uRS, uTu, uAR, uTn, uTi, uTv, uPl, uCv, uRe, uTr, uTd, uTt, uTk, uTs, uDp, uPy, uPc, r0, r1, po, ca, mi, tg, uTa)) :
    wpX_move post (uRl, uRw, uVl, uAl, uAc, uCs, nI w, uTc, uSa, uBl, uBs, uRA, uRS, uTu, uAR, uTn, uTi, uTv, uPl, uCv, uRe, uTr, uTd, uTt, uTk, uTs, uDp, uPy, uPc, uR0, uR1, uPo, uCa, uMi, uTg, uTa) (nI len) s := by
  unfold wpX_move
  refine xq_first H hR hb hs hs1 (fun r0 r1 po ca mi tg a1 a2 a3 a4 a5 => ?_) (fun r0 r1 po ca mi tg a1 a2 => ?_)
  · refine br_f (by decide) ⟨w + 1, xm_cp (sh_w H) (fun re hre => ?_) w (w + 1) 0 uRe (by omega) (by omega) (fun q h => absurd h (by omega))⟩
    have e : jl_eq w ca re := fun q hq => (hre q hq).symm
    exact K1 re r0 r1 po ca mi tg a2 (pj_ec e a3) (bd_cg (jl_em e hb) a4) (fun t t1 t2 t3 => a5 t t1 t2 (jl_cg (jl_er _ _) (jl_es e) t3))
  · exact br_t rfl (K0 r0 r1 po ca mi tg a1 a2)
theorem xm_th {post : Int32 → Prop} {i : Nat} (H : jq_Sh n w R D C P L sa uTr uTd uTt uTk uDp uPy uPc) (hi : i < n) (K1 : jq_TH R D C uTt i uTa → post 1) (K0 : ¬ jq_TH R D C uTt i uTa → post 0) :
    ∀ e f d a b, d + e = D i → e < f → a ≤ b → b ≤ R i → (∀ k, k < R i → ((a ≤ k ∧ k < b) ↔ jx_pm C uTt uTa i d k)) → wX_trieHoldsTarget_12 post (nI i) uRl uRw uVl uAl uAc uCs uWd uTc uSa uBl uBs uRA uRS uTu uAR uTn uTi uTv uPl uCv uRe uTr uTd uTt uTk uTs uDp uPy uPc uR0 uR1 uPo uCa uMi uTg uTa f (nI a) (nI b) (nI d) := by
  have w4 := sh_w H
  have n5 := sh_n H
  obtain ⟨_, hR, eD, hD⟩ := sh_i H hi
  have ci : (nI i).toNatClampNeg = i := jn_c (by omega)
  have ii : vp_in (nI i) 5 := vp_in_nI (by omega) (by omega)
  intro e
  induction e with
  | zero =>
    intro f d a b g1 g2 g3 g4 g5
    obtain ⟨f, rfl⟩ : ∃ m, f = m + 1 := ⟨f - 1, by omega⟩
    have : d = D i := by omega
    subst this
    rw [wX_trieHoldsTarget_12, ci, eD]
    refine ⟨ii, br_t (nI_le (Nat.le_refl _) (by omega)) (pk_le b a (fun z => K0 fun h => ?_) (fun z => K1 ⟨a, by omega, (g5 a (by omega)).mp ⟨Nat.le_refl _, z⟩⟩))⟩
    obtain ⟨k, k1, k2⟩ := h
    have := (g5 k k1).mpr k2
    omega
  | succ e ih =>
    intro f d a b g1 g2 g3 g4 g5
    obtain ⟨f, rfl⟩ : ∃ m, f = m + 1 := ⟨f - 1, by omega⟩
    obtain ⟨ek, hC, _⟩ := sh_d H hi (by omega : d < D i)
    have c3 : (nI (i * 3 + d)).toNatClampNeg = i * 3 + d := jn_c (by omega)
    have cC : (nI (C i d)).toNatClampNeg = C i d := jn_c (by omega)
    rw [wX_trieHoldsTarget_12]
    dsimp only
    rw [ci, eD, jx_3, c3, ek, cC]
    have mo : ∀ j k, a ≤ j → j ≤ k → k < b → (uTt ((i * 12 + j) * 3 + d)).toInt ≤ (uTt ((i * 12 + k) * 3 + d)).toInt := fun j k j1 j2 j3 => sh_mo H hi (by omega) j2 (by omega) ((g5 j (by omega)).mp ⟨j1, by omega⟩) ((g5 k (by omega)).mp ⟨by omega, j3⟩)
    refine ⟨ii, br_f (nI_ge (by omega) (by omega)) ⟨vp_in_nI (by omega) (by omega), vp_in_nI (by omega) (by omega), nm_e ?_⟩⟩
    refine xl_low (by omega) (by omega) g3 (by omega) mo (fun r r1 r2 A1 A2 => ?_)
    refine xl_low (by omega) (by omega) r2 (by omega) (fun j k j1 j2 j3 => mo j k (by omega) j2 j3) (fun s s1 s2 B1 B2 => nm_r (nI_1 d) ?_)
    rw [Int32.toInt_toInt64] at A1 A2
    rw [ji_p] at B1 B2
    refine ih f (d + 1) r s (by omega) (by omega) s1 (by omega) (fun k hk => ⟨fun ⟨z1, z2⟩ e' he' => ?_, fun z => ?_⟩)
    · rcases Nat.lt_or_ge e' d with y | y
      · exact (g5 k hk).mp ⟨by omega, by omega⟩ e' y
      · have : e' = d := by omega
        subst this
        have u1 := A2 k z1 (by omega)
        have u2 := B1 k z1 z2
        exact ji_eq.mpr (by omega)
    · obtain ⟨y1, y2⟩ := (g5 k hk).mpr (fun e' he' => z e' (by omega))
      have zd := z d (by omega)
      have zi : (uTt ((i * 12 + k) * 3 + d)).toInt = (uTa (C i d)).toInt := congrArg Int32.toInt zd
      have x1 : r ≤ k := by
        rcases Nat.lt_or_ge k r with x | x
        · have := A1 k y1 x; omega
        · exact x
      refine ⟨x1, ?_⟩
      rcases Nat.lt_or_ge k s with x | x
      · exact x
      · have := B2 k x y2; omega
theorem xm_trie {post : Int32 → Prop} {i : Nat} (H : jq_Sh n w R D C P L sa uTr uTd uTt uTk uDp uPy uPc) (hi : i < n) (K1 : jq_TH R D C uTt i uTa → post 1) (K0 : ¬ jq_TH R D C uTt i uTa → post 0) :
    wpX_trieHoldsTarget post (uRl, uRw, uVl, uAl, uAc, uCs, uWd, uTc, uSa, uBl, uBs, uRA, uRS, uTu, uAR, uTn, uTi, uTv, uPl, uCv, uRe, uTr, uTd, uTt, uTk, uTs, uDp, uPy, uPc, uR0, uR1, uPo, uCa, uMi, uTg, uTa) (nI i) := by
  have n5 := sh_n H
  obtain ⟨eR, hR, eD, hD⟩ := sh_i H hi
  refine ⟨vp_in_nI (by omega) (by omega), nm_r (e' := nI (R i)) (by rw [jn_c (by omega)]; exact eR) ⟨D i + 1, ?_⟩⟩
  exact xm_th H hi K1 K0 (D i) (D i + 1) 0 0 (R i) (by omega) (by omega) (by omega) (Nat.le_refl _) (fun k hk => ⟨fun _ e he => absurd he (by omega), fun _ => ⟨by omega, hk⟩⟩)
theorem xm_holds {post : Int32 → SX → Prop} (H : jq_Sh n w R D C P L sa uTr uTd uTt uTk uDp uPy uPc) (K1 : (∀ i, i < n → jq_TH R D C uTt i uTa) → post 1 (uRl, uRw, uVl, uAl, uAc, uCs, uWd, nI n, uSa, uBl, uBs, uRA, uRS, uTu, uAR, uTn, uTi, uTv, uPl, uCv, uRe, uTr, uTd, uTt, uTk, uTs, uDp, uPy, uPc, uR0, uR1, uPo, uCa, uMi, uTg, uTa)) (K0 : ¬ (∀ i, i < n → jq_TH R D C uTt i uTa) → post 0 (uRl, uRw, uVl, uAl, uAc, uCs, uWd, nI n, uSa, uBl, uBs, uRA, uRS, uTu, uAR, uTn, uTi, uTv, uPl, uCv, uRe, uTr, uTd, uTt, uTk, uTs, uDp, uPy, uPc, uR0, uR1, uPo, uCa, uMi, uTg, uTa)) :
    ∀ e f i, i + e = n → e < f → (∀ j, j < i → jq_TH R D C uTt j uTa) → wX_holds_31 post uRl uRw uVl uAl uAc uCs uWd (nI n) uSa uBl uBs uRA uRS uTu uAR uTn uTi uTv uPl uCv uRe uTr uTd uTt uTk uTs uDp uPy uPc uR0 uR1 uPo uCa uMi uTg uTa f (nI i) := by
  have n5 := sh_n H
  intro e
  induction e with
  | zero =>
    intro f i g1 g2 g3
    obtain ⟨f, rfl⟩ : ∃ m, f = m + 1 := ⟨f - 1, by omega⟩
    have : i = n := by omega
    subst this
    rw [wX_holds_31]
    exact br_t (nI_le (Nat.le_refl _) (by omega)) (K1 g3)
  | succ e ih =>
    intro f i g1 g2 g3
    obtain ⟨f, rfl⟩ : ∃ m, f = m + 1 := ⟨f - 1, by omega⟩
    rw [wX_holds_31]
    refine br_f (nI_ge (by omega) (by omega)) (xm_trie H (by omega) (fun y => br_f (by decide) (nm_r (nI_1 i) (ih f (i + 1) (by omega) (by omega) (fun j hj => ?_)))) (fun y => br_t rfl (K0 fun h => y (h i (by omega)))))
    rcases Nat.lt_or_ge j i with z | z
    · exact g3 j z
    · have : j = i := by omega
      subst this; exact y
end XM
section YP
variable {vRl vRw vVl vAl vAc vCa vWd vSt : Int32} {vAy vSz vDa vRe vTs : Nat → Int32} {vTm : Nat → Int64} {vPl vCz vCd vCr : Nat → Int32} {vCt : Nat → Int64} {vCo vDo vDc vVe : Nat → Int32}
variable {n w : Nat} {A S ρ N : Nat → Nat}
theorem yp_put {post : SY → Prop} {b : Nat} {p q r s : Int32} (hb : b + 3 < 16) (K : ∀ ve : Nat → Int32, (∀ x, x < 4 → ve (b + x) = j4_t p q r s x) → (∀ x, (x < b ∨ b + 4 ≤ x) → ve x = vVe x) → post (vRl, vRw, vVl, vAl, vAc, vCa, vWd, vSt, vAy, vSz, vDa, vRe, vTs, vTm, vPl, vCz, vCd, vCr, vCt, vCo, vDo, vDc, ve)) : wpY_put post (vRl, vRw, vVl, vAl, vAc, vCa, vWd, vSt, vAy, vSz, vDa, vRe, vTs, vTm, vPl, vCz, vCd, vCr, vCt, vCo, vDo, vDc, vVe) (nI b) p q r s := by
  have c0 : (nI b).toNatClampNeg = b := jn_c (by omega)
  have c1 : (nI b + 1).toNatClampNeg = b + 1 := by rw [nI_1]; exact jn_c (by omega)
  have c2 : (nI b + 2).toNatClampNeg = b + 2 := by rw [jx_2]; exact jn_c (by omega)
  have c3 : (nI b + 3).toNatClampNeg = b + 3 := by rw [jx_3p]; exact jn_c (by omega)
  refine ⟨vp_in_nI (by omega) (by omega), nm_r (e' := upd vVe b p) (by rw [c0]) ⟨by rw [nI_1]; exact vp_in_nI (by omega) (by omega), nm_r (e' := upd (upd vVe b p) (b + 1) q) (by rw [c1]) ⟨by rw [jx_2]; exact vp_in_nI (by omega) (by omega), nm_r (e' := upd (upd (upd vVe b p) (b + 1) q) (b + 2) r) (by rw [c2]) ⟨by rw [jx_3p]; exact vp_in_nI (by omega) (by omega), nm_r (e' := upd (upd (upd (upd vVe b p) (b + 1) q) (b + 2) r) (b + 3) s) (by rw [c3]) (K _ (fun x hx => ?_) (fun x hx => ?_))⟩⟩⟩⟩
  · rcases (by omega : x = 0 ∨ x = 1 ∨ x = 2 ∨ x = 3) with rfl | rfl | rfl | rfl
    · rw [pk_un (by omega), pk_un (by omega), pk_un (by omega)]; exact pk_us
    · rw [pk_un (by omega), pk_un (by omega)]; exact pk_us
    · rw [pk_un (by omega)]; exact pk_us
    · exact pk_us
  · rw [pk_un (by omega), pk_un (by omega), pk_un (by omega), pk_un (by omega)]
theorem yp_28 {post : Int32 → SY → Prop} {M : Nat} {B : (Nat → Int32) → Prop} (hM : M = 20736) (hw : w ≤ 4) (hn : n ≤ 5) (HY : jq_Y n w A S ρ N vAy vCz vCr vDo vDc vCd vCt vCo)
    (hB : (vSt = 3 ∧ ∀ t, B t) ∨ (¬ vSt = 3 ∧ ∀ t, B t ↔ jl_lt w vVe t))
    (K : ∀ r (ve : Nat → Int32), (∀ x, x < 8 → ve x = vVe x) → ((r = jc_n (fun c => jy_ok N c ∧ jy_Res n w A S ρ vCd vCt vCo (jy_V vDo c) ∧ B (jy_V vDo c)) M ∧ r ≤ 100) ∨ (r = 100 ∧ 100 ≤ jc_n (fun c => jy_ok N c ∧ jy_Res n w A S ρ vCd vCt vCo (jy_V vDo c) ∧ B (jy_V vDo c)) M)) → post (nI r) (vRl, vRw, vVl, vAl, vAc, nI n, nI w, vSt, vAy, vSz, vDa, vRe, vTs, vTm, vPl, vCz, vCd, vCr, vCt, vCo, vDo, vDc, ve)) :
    ∀ d f code cnt (ve : Nat → Int32), code + d = M → d < f → cnt = jc_n (fun c => jy_ok N c ∧ jy_Res n w A S ρ vCd vCt vCo (jy_V vDo c) ∧ B (jy_V vDo c)) code → cnt ≤ 100 → (∀ x, x < 8 → ve x = vVe x) →
      wY_remaining_28 post f (nI cnt) (nI code) vRl vRw vVl vAl vAc (nI n) (nI w) vSt vAy vSz vDa vRe vTs vTm vPl vCz vCd vCr vCt vCo vDo vDc ve := by
  have hN : ∀ p, p < 4 → vDc p = nI (N p) ∧ N p ≤ 12 := fun p hp => ⟨(HY.2.1 p hp).1, (HY.2.1 p hp).2.1⟩
  intro d
  induction d with
  | zero =>
    intro f code cnt ve g1 g2 g3 g4 g5
    obtain ⟨f, rfl⟩ : ∃ m, f = m + 1 := ⟨f - 1, by omega⟩
    have : code = M := by omega
    subst this
    rw [wY_remaining_28]
    exact br_t (nI_le (a := 20736) (by omega) (by omega)) (K cnt ve g5 (Or.inl ⟨g3, g4⟩))
  | succ d ih =>
    intro f code cnt ve g1 g2 g3 g4 g5
    obtain ⟨f, rfl⟩ : ∃ m, f = m + 1 := ⟨f - 1, by omega⟩
    rw [wY_remaining_28]
    have st : jc_n (fun c => jy_ok N c ∧ jy_Res n w A S ρ vCd vCt vCo (jy_V vDo c) ∧ B (jy_V vDo c)) (code + 1) = cnt + jc_b (jy_ok N code ∧ jy_Res n w A S ρ vCd vCt vCo (jy_V vDo code) ∧ B (jy_V vDo code)) := by
      rw [g3]; rfl
    refine br_f (nI_ge (b := 20736) (by omega) (by omega)) (pk_le 100 cnt (fun z => ?_) (fun z => ?_))
    · refine K cnt ve g5 (Or.inr ⟨by omega, ?_⟩)
      have := jc_mn (P := fun c => jy_ok N c ∧ jy_Res n w A S ρ vCd vCt vCo (jy_V vDo c) ∧ B (jy_V vDo c)) (N := code) (d + 1)
      rw [show code + (d + 1) = M from g1] at this
      omega
    · refine yw_cand (by omega) hN (fun ve' v1 v2 => ?_) (fun ve' v1 v2 => ?_)
      · have ok : jy_ok N code := fun q hq => (v1 q hq).1
        have ev : jl_eq 4 (fun q => ve' (8 + q)) (jy_V vDo code) := fun q hq => (v1 q hq).2
        have g5' : ∀ x, x < 8 → ve' x = vVe x := fun x hx => (v2 x (Or.inl hx)).trans (g5 x hx)
        have skip : ¬ (jy_Res n w A S ρ vCd vCt vCo (jy_V vDo code) ∧ B (jy_V vDo code)) → wY_remaining_28 post f (nI cnt) (nI (code + 1)) vRl vRw vVl vAl vAc (nI n) (nI w) vSt vAy vSz vDa vRe vTs vTm vPl vCz vCd vCr vCt vCo vDo vDc ve' := fun h =>
          ih f (code + 1) cnt ve' (by omega) (by omega) (by rw [st, jc_bf (fun y => h y.2), Nat.add_zero]) g4 g5'
        have m71 : B (jy_V vDo code) → wY_remaining_71 post (wY_remaining_28 post f) (nI cnt) (nI code) vRl vRw vVl vAl vAc (nI n) (nI w) vSt vAy vSz vDa vRe vTs vTm vPl vCz vCd vCr vCt vCo vDo vDc ve' := fun hb => by
          unfold wY_remaining_71
          refine yw_res hw hn HY (fun hr => ?_) (fun hr => ?_)
          · refine br_f (by decide) (nm_r (nI_1 cnt) (nm_r (nI_1 code) (ih f (code + 1) (cnt + 1) ve' (by omega) (by omega) ?_ (by omega) g5')))
            rw [st, jc_bt ⟨ok, jy_rc (jl_em ev hw) hr, hb⟩]
          · exact br_t rfl (nm_r (nI_1 code) (skip fun y => hr (jy_rc (jl_es (jl_em ev hw)) y.1)))
        refine br_f (by decide) ?_
        rcases hB with ⟨b1, b2⟩ | ⟨b1, b2⟩
        · exact br_t b1 (m71 (b2 _))
        · have ec : jl_eq w (fun q => ve' (0 + q)) vVe := fun q hq => by
            show ve' (0 + q) = vVe q
            rw [Nat.zero_add]; exact g5' q (by omega)
          refine br_f b1 (yw_cmp (a := 8) (b := 0) (len := w) (by omega) (by omega) (fun y => ?_) (fun y => ?_) (fun y => ?_))
          · exact br_t (by decide) (nm_r (nI_1 code) (skip fun h => jl_asym ((b2 _).mp h.2) (jl_cg (jl_em ev hw) ec y)))
          · exact br_t (by decide) (nm_r (nI_1 code) (skip fun h => jl_irr (jl_et (jl_es ec) (jl_et (jl_es y) (jl_em ev hw))) ((b2 _).mp h.2)))
          · exact br_f (by decide) (m71 ((b2 _).mpr (jl_cg ec (jl_em ev hw) y)))
      · refine br_t rfl (nm_r (nI_1 code) (ih f (code + 1) cnt ve' (by omega) (by omega) ?_ g4 (fun x hx => (v2 x (Or.inl hx)).trans (g5 x hx))))
        obtain ⟨q, q1, q2⟩ := v1
        rw [st, jc_bf (fun y => q2 (y.1 q q1)), Nat.add_zero]
end YP
end
section
/-! the cursor's methods -/
section CU
variable {n w : Nat} {R D : Nat → Nat} {C : Nat → Nat → Nat} {P : Nat → Nat} {L : Nat → Nat → Nat} {A S ρ N : Nat → Nat} {sa : Int32}
variable {tr td tt tk dp py pc ra cz cr om oc cd : Nat → Int32} {ct : Nat → Int64} {co : Nat → Int32}
theorem cu_ex (H : jq_Sh n w R D C P L sa tr td tt tk dp py pc) {t : Nat → Int32} : jx_Ext n R D C tt w t ↔ ∀ i, i < n → jq_TH R D C tt i t := by
  constructor
  · intro h i hi
    obtain ⟨k, k1, k2⟩ := h i hi
    exact ⟨k, k1, fun d hd => k2 d hd (sh_d H hi hd).2.1⟩
  · intro h i hi
    obtain ⟨k, k1, k2⟩ := h i hi
    exact ⟨k, k1, fun d hd _ => k2 d hd⟩
theorem cu_rs (H : jq_Sh n w R D C P L sa tr td tt tk dp py pc) (he : ∀ i t, i < n → (jq_TH R D C tt i t ↔ jy_AH w A S ρ cd ct co i t)) {t : Nat → Int32} : jx_Ext n R D C tt w t ↔ jy_Res n w A S ρ cd ct co t :=
  (cu_ex H).trans ⟨fun h i hi => (he i t hi).mp (h i hi), fun h i hi => (he i t hi).mpr (h i hi)⟩
variable {vRl vRw vVl vAl vAc vCa vWd vSt : Int32} {vAy vSz vDa vRe vTs : Nat → Int32} {vTm : Nat → Int64} {vPl vCz vCd vCr : Nat → Int32} {vCt : Nat → Int64} {vCo vDo vDc vVe : Nat → Int32}
theorem my_1 {post : Int32 → SY → Prop} {fr len : Nat} {le : Int32} {ta ca : Nat → Int32} (H : jq_Sh n w R D C P L sa tr td tt tk dp py pc) (hl : len ≤ w) (hf : fr = 0 ∨ fr = 4) (hle : le = 0 ∨ le = 1) (HY : jq_Y n w A S ρ N vAy vCz vCr vDo vDc vCd vCt vCo)
    (he : ∀ i t, i < n → (jq_TH R D C tt i t ↔ jy_AH w A S ρ vCd vCt vCo i t)) (hta : ∀ q, q < len → ta q = vVe (fr + q))
    (h1 : jx_Ext n R D C tt w ca) (h2 : jp_Bd len (le = 1) ta ca) (h3 : ∀ t, jx_Ext n R D C tt w t → jp_Bd len (le = 1) ta t → ¬ jl_lt w t ca)
    (K : ∀ ve : Nat → Int32, jl_eq w ca ve → post 2 (vRl, vRw, vVl, vAl, vAc, nI n, nI w, 2, vAy, vSz, vDa, vRe, vTs, vTm, vPl, vCz, vCd, vCr, vCt, vCo, vDo, vDc, ve)) : wpY_move post (vRl, vRw, vVl, vAl, vAc, nI n, nI w, vSt, vAy, vSz, vDa, vRe, vTs, vTm, vPl, vCz, vCd, vCr, vCt, vCo, vDo, vDc, vVe) (nI fr) (nI len) le := by
  refine ym_move (sh_w H) (sh_n H) hl hf hle HY hta (fun ve a1 a2 a3 => K ve ?_) (fun ve a1 => absurd h2 (a1 ca ((cu_rs H he).mp h1)))
  rcases jl_tri ca ve w with z | z | z
  · exact z
  · exact absurd z (a3 ca ((cu_rs H he).mp h1) h2)
  · exact absurd z (h3 ve ((cu_rs H he).mpr a1) a2)
theorem my_0 {post : Int32 → SY → Prop} {fr len : Nat} {le : Int32} {ta : Nat → Int32} (H : jq_Sh n w R D C P L sa tr td tt tk dp py pc) (hl : len ≤ w) (hf : fr = 0 ∨ fr = 4) (hle : le = 0 ∨ le = 1) (HY : jq_Y n w A S ρ N vAy vCz vCr vDo vDc vCd vCt vCo)
    (he : ∀ i t, i < n → (jq_TH R D C tt i t ↔ jy_AH w A S ρ vCd vCt vCo i t)) (hta : ∀ q, q < len → ta q = vVe (fr + q))
    (h1 : ∀ t, jx_Ext n R D C tt w t → ¬ jp_Bd len (le = 1) ta t)
    (K : ∀ ve : Nat → Int32, post 4 (vRl, vRw, vVl, vAl, vAc, nI n, nI w, 4, vAy, vSz, vDa, vRe, vTs, vTm, vPl, vCz, vCd, vCr, vCt, vCo, vDo, vDc, ve)) : wpY_move post (vRl, vRw, vVl, vAl, vAc, nI n, nI w, vSt, vAy, vSz, vDa, vRe, vTs, vTm, vPl, vCz, vCd, vCr, vCt, vCo, vDo, vDc, vVe) (nI fr) (nI len) le :=
  ym_move (sh_w H) (sh_n H) hl hf hle HY hta (fun ve a1 a2 a3 => absurd a2 (h1 ve ((cu_rs H he).mpr a1))) (fun ve a1 => K ve)
end CU
theorem i_vc_next {k : Nat} {u : SX} {v : SY} (I : i_Rel k u v) (hk : k + 5 ≤ 2564) : wpX_next (fun r u' => wpY_next (fun r' v' => r' = r ∧ i_Rel (k + 5) u' v') v) u := by
  refine zz_el (P := fun u v => wpX_next (fun r u' => wpY_next (fun r' v' => r' = r ∧ i_Rel (k + 5) u' v') v) u) ?_ I
  intro uRl uRw uVl uAl uAc uCs uWd uTc uSa uBl uBs uRA uRS uTu uAR uTn uTi uTv uPl uCv uRe uTr uTd uTt uTk uTs uDp uPy uPc uR0 uR1 uPo uCa uMi uTg uTa vDa vTm vCz vCd vCr vCt vCo vDo vDc vVe a b c
  have c' := c
  rcases c with z | ⟨h, n, w, R, D, C, P, L, A, S, ρ, N, rfl, rfl, H, R0, HY, hcv, he, hre⟩
  · exact br_t z (br_t z ⟨rfl, zz_in a b c'⟩)
  · rcases h with rfl | rfl | rfl
    · refine br_f (by decide) (br_f (by decide) (br_f (by decide) (xm_res (sh_w H) (fun ta hta => xm_move H R0 (Nat.le_refl w) (Or.inr rfl) (fun _ z => by omega) (fun re r0 r1 po ca mi tg a1 a2 a3 a4 => ?_) (fun r0 r1 po ca mi tg a1 a2 => ?_)))))
      · refine br_f (by decide) (br_f (by decide) (br_f (by decide) (my_1 (fr := 0) (le := 1) (ta := ta) H (Nat.le_refl w) (Or.inl rfl) (Or.inr rfl) HY he (fun q hq => by rw [Nat.zero_add, hta q hq]; exact hre rfl q hq) a2 a3 a4 (fun ve hve => ⟨rfl, zz_in a b ?_⟩))))
        exact Or.inr ⟨Or.inl rfl, n, w, R, D, C, P, L, A, S, ρ, N, rfl, rfl, H, a1, HY, hcv, he, fun _ q hq => hve q hq⟩
      · refine br_f (by decide) (br_f (by decide) (br_f (by decide) (my_0 (fr := 0) (le := 1) (ta := ta) H (Nat.le_refl w) (Or.inl rfl) (Or.inr rfl) HY he (fun q hq => by rw [Nat.zero_add, hta q hq]; exact hre rfl q hq) a2 (fun ve => ⟨rfl, zz_in a b ?_⟩))))
        exact Or.inr ⟨Or.inr (Or.inr rfl), n, w, R, D, C, P, L, A, S, ρ, N, rfl, rfl, H, a1, HY, hcv, he, fun e => absurd e (by decide)⟩
    · refine br_f (by decide) (br_f (by decide) (br_t rfl (xm_move (len := 0) (s := 0) H R0 (by omega) (Or.inl rfl) (fun z => absurd z (by decide)) (fun re r0 r1 po ca mi tg a1 a2 a3 a4 => ?_) (fun r0 r1 po ca mi tg a1 a2 => ?_))))
      · refine br_f (by decide) (br_f (by decide) (br_t rfl (my_1 (fr := 0) (len := 0) (le := 0) (ta := uTa) H (by omega) (Or.inl rfl) (Or.inl rfl) HY he (fun q hq => absurd hq (by omega)) a2 a3 a4 (fun ve hve => ⟨rfl, zz_in a b ?_⟩))))
        exact Or.inr ⟨Or.inl rfl, n, w, R, D, C, P, L, A, S, ρ, N, rfl, rfl, H, a1, HY, hcv, he, fun _ q hq => hve q hq⟩
      · refine br_f (by decide) (br_f (by decide) (br_t rfl (my_0 (fr := 0) (len := 0) (le := 0) (ta := uTa) H (by omega) (Or.inl rfl) (Or.inl rfl) HY he (fun q hq => absurd hq (by omega)) a2 (fun ve => ⟨rfl, zz_in a b ?_⟩))))
        exact Or.inr ⟨Or.inr (Or.inr rfl), n, w, R, D, C, P, L, A, S, ρ, N, rfl, rfl, H, a1, HY, hcv, he, fun e => absurd e (by decide)⟩
    · exact br_f (by decide) (br_t rfl (br_f (by decide) (br_t rfl ⟨rfl, zz_in a b c'⟩)))
theorem i_vc_nextGroup {k : Nat} {u : SX} {v : SY} (I : i_Rel k u v) (hk : k + 5 ≤ 2564) (v1 : Int32) : wpX_nextGroup (fun r u' => wpY_nextGroup (fun r' v' => r' = r ∧ i_Rel (k + 5) u' v') v v1) u v1 := by
  refine zz_el (P := fun u v => wpX_nextGroup (fun r u' => wpY_nextGroup (fun r' v' => r' = r ∧ i_Rel (k + 5) u' v') v v1) u v1) ?_ I
  intro uRl uRw uVl uAl uAc uCs uWd uTc uSa uBl uBs uRA uRS uTu uAR uTn uTi uTv uPl uCv uRe uTr uTd uTt uTk uTs uDp uPy uPc uR0 uR1 uPo uCa uMi uTg uTa vDa vTm vCz vCd vCr vCt vCo vDo vDc vVe a b c
  have c' := c
  rcases c with z | ⟨h, n, w, R, D, C, P, L, A, S, ρ, N, rfl, rfl, H, R0, HY, hcv, he, hre⟩
  · exact br_t z (br_t z ⟨rfl, zz_in a b c'⟩)
  · have w4 := sh_w H
    have z : ¬ uCs = 200 := by rcases h with rfl | rfl | rfl <;> decide
    rcases pk_ix v1 (n := w) (by omega) with g | g | ⟨p, hp, rfl⟩
    · exact br_f z (br_t g (br_f z (br_t g ⟨rfl, zz_in a b c'⟩)))
    · have := jn_nn g (by omega)
      exact br_f z (br_f this.1 (br_f this.2 (br_f z (br_f this.1 (br_f this.2 ⟨rfl, zz_in a b c'⟩)))))
    · have p0 : ¬ nI p < 0 := nI_pos (by omega)
      have p1 : nI p < nI w := nI_lt hp (by omega)
      rcases h with rfl | rfl | rfl
      · refine br_f z (br_f p0 (br_t p1 (br_f (by decide) (br_f (by decide) (xm_res w4 (fun ta hta => ?_))))))
        have e1 := nI_1 p
        have eq : ∀ q, q < p + 1 → ta q = vVe (0 + q) := fun q hq => by rw [Nat.zero_add, hta q (by omega)]; exact hre rfl q (by omega)
        refine Eq.mpr (congrArg (fun x => wpX_move _ _ x _) e1) (xm_move H R0 (by omega) (Or.inr rfl) (fun _ _ => by omega) (fun re r0 r1 po ca mi tg a1 a2 a3 a4 => ?_) (fun r0 r1 po ca mi tg a1 a2 => ?_))
        · refine br_f (by decide) (br_f p0 (br_t p1 (br_f (by decide) (br_f (by decide) (Eq.mpr (congrArg (fun x => wpY_move _ _ _ x _) e1) (my_1 (fr := 0) (len := p + 1) (le := 1) (ta := ta) H (by omega) (Or.inl rfl) (Or.inr rfl) HY he eq a2 a3 a4 (fun ve hve => ⟨rfl, zz_in a b ?_⟩)))))))
          exact Or.inr ⟨Or.inl rfl, n, w, R, D, C, P, L, A, S, ρ, N, rfl, rfl, H, a1, HY, hcv, he, fun _ q hq => hve q hq⟩
        · refine br_f (by decide) (br_f p0 (br_t p1 (br_f (by decide) (br_f (by decide) (Eq.mpr (congrArg (fun x => wpY_move _ _ _ x _) e1) (my_0 (fr := 0) (len := p + 1) (le := 1) (ta := ta) H (by omega) (Or.inl rfl) (Or.inr rfl) HY he eq a2 (fun ve => ⟨rfl, zz_in a b ?_⟩)))))))
          exact Or.inr ⟨Or.inr (Or.inr rfl), n, w, R, D, C, P, L, A, S, ρ, N, rfl, rfl, H, a1, HY, hcv, he, fun e => absurd e (by decide)⟩
      · refine br_f z (br_f p0 (br_t p1 (br_f (by decide) (br_t rfl (xm_move (len := 0) (s := 0) H R0 (by omega) (Or.inl rfl) (fun z => absurd z (by decide)) (fun re r0 r1 po ca mi tg a1 a2 a3 a4 => ?_) (fun r0 r1 po ca mi tg a1 a2 => ?_))))))
        · refine br_f (by decide) (br_f p0 (br_t p1 (br_f (by decide) (br_t rfl (br_f (by decide) (br_f (by decide) (br_t rfl (my_1 (fr := 0) (len := 0) (le := 0) (ta := uTa) H (by omega) (Or.inl rfl) (Or.inl rfl) HY he (fun q hq => absurd hq (by omega)) a2 a3 a4 (fun ve hve => ⟨rfl, zz_in a b ?_⟩)))))))))
          exact Or.inr ⟨Or.inl rfl, n, w, R, D, C, P, L, A, S, ρ, N, rfl, rfl, H, a1, HY, hcv, he, fun _ q hq => hve q hq⟩
        · refine br_f (by decide) (br_f p0 (br_t p1 (br_f (by decide) (br_t rfl (br_f (by decide) (br_f (by decide) (br_t rfl (my_0 (fr := 0) (len := 0) (le := 0) (ta := uTa) H (by omega) (Or.inl rfl) (Or.inl rfl) HY he (fun q hq => absurd hq (by omega)) a2 (fun ve => ⟨rfl, zz_in a b ?_⟩)))))))))
          exact Or.inr ⟨Or.inr (Or.inr rfl), n, w, R, D, C, P, L, A, S, ρ, N, rfl, rfl, H, a1, HY, hcv, he, fun e => absurd e (by decide)⟩
      · exact br_f z (br_f p0 (br_t p1 (br_t rfl (br_f z (br_f p0 (br_t p1 (br_t rfl ⟨rfl, zz_in a b c'⟩)))))))
theorem i_vc_seek {k : Nat} {u : SX} {v : SY} (I : i_Rel k u v) (hk : k + 5 ≤ 2564) (v1 : Int32) (v2 : Int32) (v3 : Int32) (v4 : Int32) : wpX_seek (fun r u' => wpY_seek (fun r' v' => r' = r ∧ i_Rel (k + 5) u' v') v v1 v2 v3 v4) u v1 v2 v3 v4 := by
  refine zz_el (P := fun u v => wpX_seek (fun r u' => wpY_seek (fun r' v' => r' = r ∧ i_Rel (k + 5) u' v') v v1 v2 v3 v4) u v1 v2 v3 v4) ?_ I
  intro uRl uRw uVl uAl uAc uCs uWd uTc uSa uBl uBs uRA uRS uTu uAR uTn uTi uTv uPl uCv uRe uTr uTd uTt uTk uTs uDp uPy uPc uR0 uR1 uPo uCa uMi uTg uTa vDa vTm vCz vCd vCr vCt vCo vDo vDc vVe a b c
  have c' := c
  rcases c with z | ⟨h, n, w, R, D, C, P, L, A, S, ρ, N, rfl, rfl, H, R0, HY, hcv, he, hre⟩
  · exact br_t z (br_t z ⟨rfl, zz_in a b c'⟩)
  · have w4 := sh_w H
    rcases h with rfl | rfl | rfl
    · refine br_f (by decide) (br_f (by decide) (xm_key (fun ta hta => br_t rfl (xm_below w4 (fun lt => br_f (by decide) ?_) (fun nl => br_t rfl ?_)))))
      · unfold wX_seek_49
        refine xm_move H R0 (Nat.le_refl w) (Or.inl rfl) (fun e => absurd e (by decide)) (fun re r0 r1 po ca mi tg a1 a2 a3 a4 => ?_) (fun r0 r1 po ca mi tg a1 a2 => ?_)
        · refine br_f (by decide) (br_f (by decide) (yp_put (b := 4) (by omega) (fun ve u1 u2 => br_t rfl (yw_cmp (a := 0) (b := 4) (len := w) (by omega) (by omega) (fun y => br_t (by decide) ?_) (fun y => absurd lt ?_) (fun y => absurd lt ?_)))))
          all_goals
            have e1 : jl_eq w (fun q => ve (0 + q)) uRe := fun q hq => by
              show ve (0 + q) = uRe q
              rw [Nat.zero_add, u2 q (by omega)]; exact (hre rfl q hq).symm
            have e2 : jl_eq w (fun q => ve (4 + q)) ta := fun q hq => (u1 q (by omega)).trans (hta q (by omega)).symm
          · unfold wY_seek_56
            refine my_1 (fr := 4) (len := w) (le := 0) (ta := ta) H (Nat.le_refl w) (Or.inr rfl) (Or.inl rfl) HY he (fun q hq => (e2 q hq).symm) a2 a3 a4 (fun ve hve => ⟨rfl, zz_in a b ?_⟩)
            exact Or.inr ⟨Or.inl rfl, n, w, R, D, C, P, L, A, S, ρ, N, rfl, rfl, H, a1, HY, hcv, he, fun _ q hq => hve q hq⟩
          · exact jl_irr (jl_et (jl_es e1) (jl_et y e2))
          · exact jl_asym (jl_cg e2 e1 y)
        · refine br_f (by decide) (br_f (by decide) (yp_put (b := 4) (by omega) (fun ve u1 u2 => br_t rfl (yw_cmp (a := 0) (b := 4) (len := w) (by omega) (by omega) (fun y => br_t (by decide) ?_) (fun y => absurd lt ?_) (fun y => absurd lt ?_)))))
          all_goals
            have e1 : jl_eq w (fun q => ve (0 + q)) uRe := fun q hq => by
              show ve (0 + q) = uRe q
              rw [Nat.zero_add, u2 q (by omega)]; exact (hre rfl q hq).symm
            have e2 : jl_eq w (fun q => ve (4 + q)) ta := fun q hq => (u1 q (by omega)).trans (hta q (by omega)).symm
          · unfold wY_seek_56
            refine my_0 (fr := 4) (len := w) (le := 0) (ta := ta) H (Nat.le_refl w) (Or.inr rfl) (Or.inl rfl) HY he (fun q hq => (e2 q hq).symm) a2 (fun ve => ⟨rfl, zz_in a b ?_⟩)
            exact Or.inr ⟨Or.inr (Or.inr rfl), n, w, R, D, C, P, L, A, S, ρ, N, rfl, rfl, H, a1, HY, hcv, he, fun e => absurd e (by decide)⟩
          · exact jl_irr (jl_et (jl_es e1) (jl_et y e2))
          · exact jl_asym (jl_cg e2 e1 y)
      · refine br_f (by decide) (br_f (by decide) (yp_put (b := 4) (by omega) (fun ve u1 u2 => br_t rfl (yw_cmp (a := 0) (b := 4) (len := w) (by omega) (by omega) (fun y => absurd ?_ nl) (fun y => br_f (by decide) ⟨rfl, zz_in a b ?_⟩) (fun y => br_f (by decide) ⟨rfl, zz_in a b ?_⟩)))))
        all_goals
          have e1 : jl_eq w (fun q => ve (0 + q)) uRe := fun q hq => by
            show ve (0 + q) = uRe q
            rw [Nat.zero_add, u2 q (by omega)]; exact (hre rfl q hq).symm
          have e2 : jl_eq w (fun q => ve (4 + q)) ta := fun q hq => (u1 q (by omega)).trans (hta q (by omega)).symm
        · exact jl_cg e1 e2 y
        · exact Or.inr ⟨Or.inl rfl, n, w, R, D, C, P, L, A, S, ρ, N, rfl, rfl, H, R0, HY, hcv, he, fun _ q hq => by rw [u2 q (by omega)]; exact hre rfl q hq⟩
        · exact Or.inr ⟨Or.inl rfl, n, w, R, D, C, P, L, A, S, ρ, N, rfl, rfl, H, R0, HY, hcv, he, fun _ q hq => by rw [u2 q (by omega)]; exact hre rfl q hq⟩
    · refine br_f (by decide) (br_f (by decide) (xm_key (fun ta hta => br_f (by decide) ?_)))
      unfold wX_seek_49
      refine xm_move H R0 (Nat.le_refl w) (Or.inl rfl) (fun e => absurd e (by decide)) (fun re r0 r1 po ca mi tg a1 a2 a3 a4 => ?_) (fun r0 r1 po ca mi tg a1 a2 => ?_)
      · refine br_f (by decide) (br_f (by decide) (yp_put (b := 4) (by omega) (fun ve u1 u2 => br_f (by decide) ?_)))
        unfold wY_seek_56
        refine my_1 (fr := 4) (len := w) (le := 0) (ta := ta) H (Nat.le_refl w) (Or.inr rfl) (Or.inl rfl) HY he (fun q hq => (hta q (by omega)).trans (u1 q (by omega)).symm) a2 a3 a4 (fun ve hve => ⟨rfl, zz_in a b ?_⟩)
        exact Or.inr ⟨Or.inl rfl, n, w, R, D, C, P, L, A, S, ρ, N, rfl, rfl, H, a1, HY, hcv, he, fun _ q hq => hve q hq⟩
      · refine br_f (by decide) (br_f (by decide) (yp_put (b := 4) (by omega) (fun ve u1 u2 => br_f (by decide) ?_)))
        unfold wY_seek_56
        refine my_0 (fr := 4) (len := w) (le := 0) (ta := ta) H (Nat.le_refl w) (Or.inr rfl) (Or.inl rfl) HY he (fun q hq => (hta q (by omega)).trans (u1 q (by omega)).symm) a2 (fun ve => ⟨rfl, zz_in a b ?_⟩)
        exact Or.inr ⟨Or.inr (Or.inr rfl), n, w, R, D, C, P, L, A, S, ρ, N, rfl, rfl, H, a1, HY, hcv, he, fun e => absurd e (by decide)⟩
    · exact br_f (by decide) (br_t rfl (br_f (by decide) (br_t rfl ⟨rfl, zz_in a b c'⟩)))
theorem i_vc_holds {k : Nat} {u : SX} {v : SY} (I : i_Rel k u v) (hk : k + 5 ≤ 2564) (v1 : Int32) (v2 : Int32) (v3 : Int32) (v4 : Int32) : wpX_holds (fun r u' => wpY_holds (fun r' v' => r' = r ∧ i_Rel (k + 5) u' v') v v1 v2 v3 v4) u v1 v2 v3 v4 := by
  refine zz_el (P := fun u v => wpX_holds (fun r u' => wpY_holds (fun r' v' => r' = r ∧ i_Rel (k + 5) u' v') v v1 v2 v3 v4) u v1 v2 v3 v4) ?_ I
  intro uRl uRw uVl uAl uAc uCs uWd uTc uSa uBl uBs uRA uRS uTu uAR uTn uTi uTv uPl uCv uRe uTr uTd uTt uTk uTs uDp uPy uPc uR0 uR1 uPo uCa uMi uTg uTa vDa vTm vCz vCd vCr vCt vCo vDo vDc vVe a b c
  have c' := c
  rcases c with z | ⟨h, n, w, R, D, C, P, L, A, S, ρ, N, rfl, rfl, H, R0, HY, hcv, he, hre⟩
  · exact br_t z (br_t z ⟨rfl, zz_in a b c'⟩)
  · have w4 := sh_w H
    have z : ¬ uCs = 200 := by rcases h with rfl | rfl | rfl <;> decide
    have fin : ∀ (ta ve : Nat → Int32), (∀ x, (x < 8 ∨ 12 ≤ x) → ve x = vVe x) → i_Rel (k + 5) (uRl, uRw, uVl, uAl, uAc, uCs, nI w, nI n, uSa, uBl, uBs, uRA, uRS, uTu, uAR, uTn, uTi, uTv, uPl, uCv, uRe, uTr, uTd, uTt, uTk, uTs, uDp, uPy, uPc, uR0, uR1, uPo, uCa, uMi, uTg, ta) (uRl, uRw, uVl, uAl, uAc, nI n, nI w, uCs, uRA, uRS, vDa, uAR, uTn, vTm, uPl, vCz, vCd, vCr, vCt, vCo, vDo, vDc, ve) := fun ta ve u2 =>
      zz_in a b (Or.inr ⟨h, n, w, R, D, C, P, L, A, S, ρ, N, rfl, rfl, H, R0, HY, hcv, he, fun e q hq => by rw [u2 q (by omega)]; exact hre e q hq⟩)
    rcases H.2.2.2.2.2.2.2.2.2.2 with ⟨h0, i, hi, hz⟩ | ⟨h1, hz⟩
    · refine br_f z (br_t h0 (br_f z (yp_put (b := 8) (by omega) (fun ve u1 u2 => yw_res w4 (sh_n H) HY (fun hr => ?_) (fun hr => ⟨nb_n (Or.inl rfl), rfl, fin uTa ve u2⟩)))))
      obtain ⟨k, k1, _⟩ := (he i _ hi).mpr (hr i hi)
      omega
    · have eqv : ∀ (ta ve : Nat → Int32), (∀ q, q < 4 → ta q = j4_t v1 v2 v3 v4 q) → (∀ x, x < 4 → ve (8 + x) = j4_t v1 v2 v3 v4 x) → ((∀ i, i < n → jq_TH R D C uTt i ta) ↔ jy_Res n w A S ρ vCd vCt vCo (fun q => ve (8 + q))) := fun ta ve e1 e2 => by
        have e : jl_eq w ta (fun q => ve (8 + q)) := fun q hq => (e1 q (by omega)).trans (e2 q (by omega)).symm
        refine ⟨fun y => (cu_rs H he).mp (pj_ec e ((cu_ex H).mpr y)), fun y => (cu_ex H).mp (pj_ec (jl_es e) ((cu_rs H he).mpr y))⟩
      refine br_f z (br_f (by rw [h1]; decide) (xm_key (fun ta hta => ⟨n + 1, xm_holds H (fun y => ?_) (fun y => ?_) n (n + 1) 0 (by omega) (by omega) (fun j hj => absurd hj (by omega))⟩)))
      · refine br_f z (yp_put (b := 8) (by omega) (fun ve u1 u2 => yw_res w4 (sh_n H) HY (fun hr => ⟨nb_n (Or.inr rfl), rfl, fin ta ve u2⟩) (fun hr => absurd ((eqv ta ve hta u1).mp y) hr)))
      · refine br_f z (yp_put (b := 8) (by omega) (fun ve u1 u2 => yw_res w4 (sh_n H) HY (fun hr => absurd ((eqv ta ve hta u1).mpr hr) y) (fun hr => ⟨nb_n (Or.inl rfl), rfl, fin ta ve u2⟩)))
end
section
/-! remaining -/
section RM
variable {uRl uRw uVl uAl uAc uCs uWd uTc uSa uBl uBs : Int32} {uRA uRS uTu uAR uTn uTi uTv uPl uCv uRe uTr uTd uTt uTk uTs uDp uPy uPc uR0 uR1 uPo uCa : Nat → Int32} {uMi : Nat → Int64} {uTg uTa : Nat → Int32}
variable {n w : Nat} {R D : Nat → Nat} {C : Nat → Nat → Nat} {P : Nat → Nat} {L : Nat → Nat → Nat} {A S ρ N : Nat → Nat} {sa : Int32}
variable {ra cz cr om oc cd : Nat → Int32} {ct : Nat → Int64} {co : Nat → Int32}
theorem bd_w {len : Nat} {st : Prop} {ta : Nat → Int32} (hb : len ≤ w) : ∀ t t', jl_eq w t t' → jp_Bd len st ta t → jp_Bd len st ta t' := fun _ _ h z => bd_cg (jl_em h hb) z
theorem xr_60 {post : Int32 → SX → Prop} {M len T : Nat} (hM : M = 20736) (H : jq_Sh n w R D C P L sa uTr uTd uTt uTk uDp uPy uPc) (HY : jq_Y n w A S ρ N ra cz cr om oc cd ct co)
    (he : ∀ i t, i < n → (jq_TH R D C uTt i t ↔ jy_AH w A S ρ cd ct co i t)) (hb : len ≤ w) (hs : uBs = 0 ∨ uBs = 1)
    (K : ∀ r (r0 r1 po ca : Nat → Int32) (mi : Nat → Int64) (tg : Nat → Int32), jq_R0 n R r0 r1 → ((r = T ∧ r ≤ 100) ∨ (r = 100 ∧ 100 ≤ T)) → post (nI r) (uRl, uRw, uVl, uAl, uAc, uCs, nI w, uTc, uSa, nI len, uBs, uRA, uRS, uTu, uAR, uTn, uTi, uTv, uPl, uCv, uRe, uTr, uTd, uTt, uTk, uTs, uDp, uPy, uPc, r0, r1, po, ca, mi, tg, uTa)) :
    ∀ d f c x1 (r0 r1 po ca : Nat → Int32) (mi : Nat → Int64) (tg : Nat → Int32), c + d = 100 → d < f → jq_R0 n R r0 r1 →
      ((x1 = 0 ∧ c = T) ∨ (x1 = 1 ∧ (∀ l, w = l + 1 → jx_SE n w R D C uTt uTa len (uBs = 1) l ca r0 r1 po tg) ∧ jx_Ext n R D C uTt w ca ∧ jp_Bd len (uBs = 1) uTa ca ∧
        c + jc_n (fun x => jy_ok N x ∧ jy_Res n w A S ρ cd ct co (jy_V om x) ∧ jp_Bd len (uBs = 1) uTa (jy_V om x) ∧ ¬ jl_lt w (jy_V om x) ca) M = T)) →
      wX_remaining_60 post f x1 (nI c) (nI c) uRl uRw uVl uAl uAc uCs (nI w) uTc uSa (nI len) uBs uRA uRS uTu uAR uTn uTi uTv uPl uCv uRe uTr uTd uTt uTk uTs uDp uPy uPc r0 r1 po ca mi tg uTa := by
  have w4 := sh_w H
  intro d
  induction d with
  | zero =>
    intro f c x1 r0 r1 po ca mi tg g1 g2 g3 g4
    obtain ⟨f, rfl⟩ : ∃ m, f = m + 1 := ⟨f - 1, by omega⟩
    have : c = 100 := by omega
    subst this
    rw [wX_remaining_60]
    refine br_t (nI_le (a := 100) (b := 100) (Nat.le_refl _) (by omega)) (K 100 r0 r1 po ca mi tg g3 ?_)
    rcases g4 with ⟨_, e⟩ | ⟨_, _, _, _, e⟩
    · exact Or.inl ⟨e, Nat.le_refl _⟩
    · exact Or.inr ⟨rfl, by omega⟩
  | succ d ih =>
    intro f c x1 r0 r1 po ca mi tg g1 g2 g3 g4
    obtain ⟨f, rfl⟩ : ∃ m, f = m + 1 := ⟨f - 1, by omega⟩
    rw [wX_remaining_60]
    refine br_f (nI_ge (b := 100) (by omega) (by omega)) ?_
    rcases g4 with ⟨rfl, e⟩ | ⟨rfl, SE, a1, a2, e⟩
    · exact br_t rfl (K c r0 r1 po ca mi tg g3 (Or.inl ⟨e, by omega⟩))
    · have cnt := yc_cnt hM w4 HY (bd_w (st := uBs = 1) (ta := uTa) hb) ((cu_rs H he).mp a1) a2
      refine br_f (by decide) (nm_r (nI_1 c) ?_)
      rcases Nat.eq_zero_or_pos w with z | z
      · have c0 : jc_n (fun x => jy_ok N x ∧ jy_Res n w A S ρ cd ct co (jy_V om x) ∧ jp_Bd len (uBs = 1) uTa (jy_V om x) ∧ jl_lt w ca (jy_V om x)) M = 0 := jc_0 fun x _ hx => by
          obtain ⟨p, p1, _⟩ := hx.2.2.2
          omega
        refine br_t (by rw [z]; rfl) (nm_r (nI_1 c) (ih f (c + 1) 0 r0 r1 po ca mi tg (by omega) (by omega) g3 (Or.inl ⟨rfl, by omega⟩)))
      · obtain ⟨l, hl⟩ : ∃ l, w = l + 1 := ⟨w - 1, by omega⟩
        refine xq_next H hb hs hl (SE l hl) g3 (fun r0' r1' po' ca' mi' tg' b1 b2 b3 b4 b5 b6 => ?_) (fun r0' r1' po' ca' mi' tg' b1 b2 => ?_)
        · refine nm_r (nI_1 c) (ih f (c + 1) 1 r0' r1' po' ca' mi' tg' (by omega) (by omega) b2 (Or.inr ⟨rfl, fun l' e' => ?_, b3, b4, ?_⟩))
          · have : l' = l := by omega
            subst this; exact b1
          · have ee : jc_n (fun x => jy_ok N x ∧ jy_Res n w A S ρ cd ct co (jy_V om x) ∧ jp_Bd len (uBs = 1) uTa (jy_V om x) ∧ jl_lt w ca (jy_V om x)) M =
                jc_n (fun x => jy_ok N x ∧ jy_Res n w A S ρ cd ct co (jy_V om x) ∧ jp_Bd len (uBs = 1) uTa (jy_V om x) ∧ ¬ jl_lt w (jy_V om x) ca') M :=
              jc_eq fun x _ => ⟨fun ⟨y1, y2, y3, y4⟩ => ⟨y1, y2, y3, b6 _ ((cu_rs H he).mpr y2) y3 y4⟩, fun ⟨y1, y2, y3, y4⟩ => ⟨y1, y2, y3, (jl_le y4).elim (fun y => jl_cg (jl_er _ _) y b5) (fun y => jl_trans b5 y)⟩⟩
            omega
        · have c0 : jc_n (fun x => jy_ok N x ∧ jy_Res n w A S ρ cd ct co (jy_V om x) ∧ jp_Bd len (uBs = 1) uTa (jy_V om x) ∧ jl_lt w ca (jy_V om x)) M = 0 := jc_0 fun x _ hx =>
            b2 _ ((cu_rs H he).mpr hx.2.1) hx.2.2.1 hx.2.2.2
          exact nm_r (nI_1 c) (ih f (c + 1) 0 r0' r1' po' ca' mi' tg' (by omega) (by omega) b1 (Or.inl ⟨rfl, by omega⟩))
theorem xr_all {post : Int32 → SX → Prop} {M len : Nat} {s : Int32} (hM : M = 20736) (H : jq_Sh n w R D C P L uSa uTr uTd uTt uTk uDp uPy uPc) (hR : jq_R0 n R uR0 uR1) (HY : jq_Y n w A S ρ N ra cz cr om oc cd ct co)
    (he : ∀ i t, i < n → (jq_TH R D C uTt i t ↔ jy_AH w A S ρ cd ct co i t)) (hb : len ≤ w) (hs : s = 0 ∨ s = 1) (hs1 : s = 1 → w ≠ 0 → 1 ≤ len)
    (K : ∀ r (r0 r1 po ca : Nat → Int32) (mi : Nat → Int64) (tg : Nat → Int32), jq_R0 n R r0 r1 →
      ((r = jc_n (fun x => jy_ok N x ∧ jy_Res n w A S ρ cd ct co (jy_V om x) ∧ jp_Bd len (s = 1) uTa (jy_V om x)) M ∧ r ≤ 100) ∨ (r = 100 ∧ 100 ≤ jc_n (fun x => jy_ok N x ∧ jy_Res n w A S ρ cd ct co (jy_V om x) ∧ jp_Bd len (s = 1) uTa (jy_V om x)) M)) →
      post (nI r) (uRl, uRw, uVl, uAl, uAc, uCs, nI w, uTc, uSa, nI len, s, uRA, uRS, uTu, uAR, uTn, uTi, uTv, uPl, uCv, uRe, uTr, uTd, uTt, uTk, uTs, uDp, uPy, uPc, r0, r1, po, ca, mi, tg, uTa)) :
    wpX_firstMatch (fun r u => match u with | (uRl, uRw, uVl, uAl, uAc, uCs, uWd, uTc, uSa, uBl, uBs, uRA, uRS, uTu, uAR, uTn, uTi, uTv, uPl, uCv, uRe, uTr, uTd, uTt, uTk, uTs, uDp, uPy, uPc, uR0, uR1, uPo, uCa, uMi, uTg, uTa) => (∃ n60 : Nat, wX_remaining_60 post n60 r 0 0 uRl uRw uVl uAl uAc uCs uWd uTc uSa uBl uBs uRA uRS uTu uAR uTn uTi uTv uPl uCv uRe uTr uTd uTt uTk uTs uDp uPy uPc uR0 uR1 uPo uCa uMi uTg uTa)) (uRl, uRw, uVl, uAl, uAc, uCs, nI w, uTc, uSa, uBl, uBs, uRA, uRS, uTu, uAR, uTn, uTi, uTv, uPl, uCv, uRe, uTr, uTd, uTt, uTk, uTs, uDp, uPy, uPc, uR0, uR1, uPo, uCa, uMi, uTg, uTa) (nI len) s := by
  refine xq_first H hR hb hs hs1 (fun r0 r1 po ca mi tg a1 a2 a3 a4 a5 => ⟨101, ?_⟩) (fun r0 r1 po ca mi tg a1 a2 => ⟨101, ?_⟩)
  · refine xr_60 hM H HY he hb hs K 100 101 0 1 r0 r1 po ca mi tg rfl (by omega) a2 (Or.inr ⟨rfl, a1, a3, a4, ?_⟩)
    rw [Nat.zero_add]
    exact jc_eq fun x _ => ⟨fun ⟨y1, y2, y3, y4⟩ => ⟨y1, y2, y3⟩, fun ⟨y1, y2, y3⟩ => ⟨y1, y2, y3, a5 _ ((cu_rs H he).mpr y2) y3⟩⟩
  · refine xr_60 hM H HY he hb hs K 100 101 0 0 r0 r1 po ca mi tg rfl (by omega) a1 (Or.inl ⟨rfl, ?_⟩)
    exact (jc_0 fun x _ hx => a2 _ ((cu_rs H he).mpr hx.2.1) hx.2.2).symm
end RM
theorem rm_eq {r r' T T' : Nat} (e : T = T') (h : (r = T ∧ r ≤ 100) ∨ (r = 100 ∧ 100 ≤ T)) (h' : (r' = T' ∧ r' ≤ 100) ∨ (r' = 100 ∧ 100 ≤ T')) : nI r' = nI r := by
  have : r' = r := by omega
  rw [this]
theorem i_vc_remaining {k : Nat} {u : SX} {v : SY} (I : i_Rel k u v) (hk : k + 5 ≤ 2564) : wpX_remaining (fun r u' => wpY_remaining (fun r' v' => r' = r ∧ i_Rel (k + 5) u' v') v) u := by
  refine zz_el (P := fun u v => wpX_remaining (fun r u' => wpY_remaining (fun r' v' => r' = r ∧ i_Rel (k + 5) u' v') v) u) ?_ I
  intro uRl uRw uVl uAl uAc uCs uWd uTc uSa uBl uBs uRA uRS uTu uAR uTn uTi uTv uPl uCv uRe uTr uTd uTt uTk uTs uDp uPy uPc uR0 uR1 uPo uCa uMi uTg uTa vDa vTm vCz vCd vCr vCt vCo vDo vDc vVe a b c
  have c' := c
  rcases c with z | ⟨h, n, w, R, D, C, P, L, A, S, ρ, N, rfl, rfl, H, R0, HY, hcv, he, hre⟩
  · exact br_t z (br_t z ⟨rfl, zz_in a b c'⟩)
  · obtain ⟨M, hM⟩ : ∃ M : Nat, M = 20736 := ⟨_, rfl⟩
    rcases h with rfl | rfl | rfl
    · refine br_f (by decide) (br_f (by decide) (br_f (by decide) (xm_res (sh_w H) (fun ta hta => xr_all hM H R0 HY he (Nat.le_refl w) (Or.inr rfl) (fun _ z => by omega) (fun r r0 r1 po ca mi tg b1 b2 => ?_)))))
      refine br_f (by decide) (br_f (by decide) ⟨20737, yp_28 (B := fun t => jl_lt w vVe t) hM (sh_w H) (sh_n H) HY (Or.inr ⟨by decide, fun t => Iff.rfl⟩) (fun r' ve d1 d2 => ⟨rm_eq ?_ b2 d2, zz_in a b ?_⟩) 20736 20737 0 0 vVe (by omega) (by omega) rfl (by omega) (fun _ _ => rfl)⟩)
      · have e : jl_eq w ta vVe := fun q hq => (hta q hq).trans (hre rfl q hq)
        refine jc_eq fun x _ => ⟨fun ⟨y1, y2, y3⟩ => ⟨y1, y2, ?_⟩, fun ⟨y1, y2, y3⟩ => ⟨y1, y2, Or.inl (jl_cg (jl_es e) (jl_er _ _) y3)⟩⟩
        rcases y3 with y | ⟨_, y⟩
        · exact jl_cg e (jl_er _ _) y
        · exact absurd rfl y
      · have w4 := sh_w H
        exact Or.inr ⟨Or.inl rfl, n, w, R, D, C, P, L, A, S, ρ, N, rfl, rfl, H, b1, HY, hcv, he, fun e q hq => by rw [d1 q (by omega)]; exact hre e q hq⟩
    · refine br_f (by decide) (br_f (by decide) (br_t rfl (xr_all (len := 0) (s := 0) hM H R0 HY he (by omega) (Or.inl rfl) (fun z => absurd z (by decide)) (fun r r0 r1 po ca mi tg b1 b2 => ?_))))
      refine br_f (by decide) (br_f (by decide) ⟨20737, yp_28 (B := fun _ => True) hM (sh_w H) (sh_n H) HY (Or.inl ⟨rfl, fun _ => trivial⟩) (fun r' ve d1 d2 => ⟨rm_eq ?_ b2 d2, zz_in a b ?_⟩) 20736 20737 0 0 vVe (by omega) (by omega) rfl (by omega) (fun _ _ => rfl)⟩)
      · exact jc_eq fun x _ => ⟨fun ⟨y1, y2, y3⟩ => ⟨y1, y2, trivial⟩, fun ⟨y1, y2, y3⟩ => ⟨y1, y2, Or.inr ⟨fun q hq => absurd hq (by omega), by decide⟩⟩⟩
      · exact Or.inr ⟨Or.inr (Or.inl rfl), n, w, R, D, C, P, L, A, S, ρ, N, rfl, rfl, H, b1, HY, hcv, he, fun e => absurd e (by decide)⟩
    · exact br_f (by decide) (br_t rfl (br_f (by decide) (br_t rfl ⟨rfl, zz_in a b c'⟩)))
end
section
/-! X freezes: terms, columns, plans -/
def jo_Is (ti tv : Nat → Int32) (i : Nat) (v : Int32) (t : Nat) : Prop := ti (i * 3 + t) = 1 ∧ tv (i * 3 + t) = v
def jo_Fi (a : Nat) (ti tv : Nat → Int32) (i : Nat) (v : Int32) (t : Nat) : Prop := t < a ∧ jo_Is ti tv i v t ∧ ∀ t', t' < t → ¬ jo_Is ti tv i v t'
def jo_HV (a : Nat) (ti tv : Nat → Int32) (i : Nat) (v : Int32) : Prop := ∃ t, t < a ∧ jo_Is ti tv i v t
theorem jo_fu {a : Nat} {ti tv : Nat → Int32} {i : Nat} {v : Int32} {t t' : Nat} (h : jo_Fi a ti tv i v t) (h' : jo_Fi a ti tv i v t') : t = t' := by
  rcases Nat.lt_trichotomy t t' with z | z | z
  · exact absurd h.2.1 (h'.2.2 t z)
  · exact z
  · exact absurd h'.2.1 (h.2.2 t' z)
theorem jo_fe {a : Nat} {ti tv : Nat → Int32} {i : Nat} {v : Int32} (h : jo_HV a ti tv i v) : ∃ t, jo_Fi a ti tv i v t := by
  obtain ⟨t, h1, h2⟩ := pk_least (fun t => t < a ∧ jo_Is ti tv i v t) h
  exact ⟨t, h1.1, h1.2, fun t' ht' z => h2 t' ht' ⟨by have := h1.1; omega, z⟩⟩
/-- injections bound a count -/
theorem jc_php {N : Nat} {g : Nat → Nat} : ∀ (a : Nat) {Q : Nat → Prop}, (∀ c, c < N → Q c → g c < a) → (∀ c c', c < N → c' < N → Q c → Q c' → g c = g c' → c = c') → jc_n Q N ≤ a
  | 0, Q, h, _ => by
    rw [jc_0 fun k hk z => absurd (h k hk z) (by omega)]
    omega
  | a + 1, Q, h, hi => by
    by_cases e : ∃ c, c < N ∧ Q c ∧ g c = a
    · obtain ⟨c0, c1, c2, c3⟩ := e
      have x := jc_php a (Q := fun c => Q c ∧ c ≠ c0) (fun c hc hq => by
        have := h c hc hq.1
        rcases Nat.lt_or_ge (g c) a with z | z
        · exact z
        · exact absurd (hi c c0 hc c1 hq.1 c2 (by omega)) hq.2) (fun c c' a1 a2 a3 a4 => hi c c' a1 a2 a3.1 a4.1)
      have y := jc_upd (P := Q) (P' := fun c => Q c ∧ c ≠ c0) c1 (fun k _ hk => ⟨fun z => ⟨z, hk⟩, fun z => z.1⟩)
      rw [jc_bt c2, jc_bf (fun z => z.2 rfl)] at y
      omega
    · have x := jc_php a (Q := Q) (fun c hc hq => by
        have := h c hc hq
        rcases Nat.lt_or_ge (g c) a with z | z
        · exact z
        · exact absurd ⟨c, hc, hq, by omega⟩ e) hi
      omega
theorem jc_at {P : Nat → Prop} : ∀ {N c : Nat}, c < jc_n P N → ∃ p, p < N ∧ P p ∧ jc_n P p = c
  | 0, c, h => by simp only [jc_n] at h; omega
  | N + 1, c, h => by
    rcases Nat.lt_or_ge c (jc_n P N) with z | z
    · obtain ⟨p, p1, p2, p3⟩ := jc_at z
      exact ⟨p, by omega, p2, p3⟩
    · simp only [jc_n] at h
      have := jc_ble (P N)
      refine ⟨N, by omega, ?_, by omega⟩
      rcases Classical.em (P N) with y | y
      · exact y
      · rw [jc_bf y] at h; omega
theorem jc_mm {P : Nat → Prop} {a b : Nat} (h : a ≤ b) : jc_n P a ≤ jc_n P b := by
  have := jc_mn (P := P) (N := a) (b - a)
  rw [show a + (b - a) = b from by omega] at this
  exact this
theorem jc_st {P : Nat → Prop} {a b : Nat} (h : a < b) (ha : P a) : jc_n P a < jc_n P b := by
  have x : jc_n P (a + 1) = jc_n P a + jc_b (P a) := rfl
  rw [jc_bt ha] at x
  have := jc_mm (P := P) (a := a + 1) (b := b) h
  omega
section XO
variable {uRl uRw uVl uAl uAc uCs uWd uTc uSa uBl uBs : Int32} {uRA uRS uTu uAR uTn uTi uTv uPl uCv uRe uTr uTd uTt uTk uTs uDp uPy uPc uR0 uR1 uPo uCa : Nat → Int32} {uMi : Nat → Int64} {uTg uTa : Nat → Int32}
theorem xo_ft {post : Int32 → Prop} {i a : Nat} {v : Int32} (hi : i < 5) (ha : a ≤ 3) (eT : uTn i = nI a) (h01 : ∀ o, uTi o = 0 ∨ uTi o = 1)
    (K1 : ∀ t, jo_Fi a uTi uTv i v t → post (nI t)) (K0 : ¬ jo_HV a uTi uTv i v → post (-1)) :
    ∀ d f t, t + d = a → d < f → (∀ t', t' < t → ¬ jo_Is uTi uTv i v t') → wX_firstTermOf_2 post (nI i) v uRl uRw uVl uAl uAc uCs uWd uTc uSa uBl uBs uRA uRS uTu uAR uTn uTi uTv uPl uCv uRe uTr uTd uTt uTk uTs uDp uPy uPc uR0 uR1 uPo uCa uMi uTg uTa f (nI t) := by
  have ci : (nI i).toNatClampNeg = i := jn_c (by omega)
  have ii : vp_in (nI i) 5 := vp_in_nI hi (by omega)
  intro d
  induction d with
  | zero =>
    intro f t g1 g2 g3
    obtain ⟨f, rfl⟩ : ∃ m, f = m + 1 := ⟨f - 1, by omega⟩
    have : t = a := by omega
    subst this
    rw [wX_firstTermOf_2, ci, eT]
    exact ⟨ii, br_t (nI_le (Nat.le_refl _) (by omega)) (K0 fun ⟨t', h1, h2⟩ => g3 t' h1 h2)⟩
  | succ d ih =>
    intro f t g1 g2 g3
    obtain ⟨f, rfl⟩ : ∃ m, f = m + 1 := ⟨f - 1, by omega⟩
    have c3 : (nI (i * 3 + t)).toNatClampNeg = i * 3 + t := jn_c (by omega)
    have i3 : vp_in (nI (i * 3 + t)) 15 := vp_in_nI (by omega) (by omega)
    rw [wX_firstTermOf_2]
    dsimp only
    rw [ci, eT, jx_3, c3]
    have nx : ¬ jo_Is uTi uTv i v t → wX_firstTermOf_2 post (nI i) v uRl uRw uVl uAl uAc uCs uWd uTc uSa uBl uBs uRA uRS uTu uAR uTn uTi uTv uPl uCv uRe uTr uTd uTt uTk uTs uDp uPy uPc uR0 uR1 uPo uCa uMi uTg uTa f (nI (t + 1)) := fun y => ih f (t + 1) (by omega) (by omega) (fun t' ht' => by
      rcases Nat.lt_or_ge t' t with z | z
      · exact g3 t' z
      · have : t' = t := by omega
        subst this; exact y)
    refine ⟨ii, br_f (nI_ge (by omega) (by omega)) ⟨i3, ?_⟩⟩
    rcases h01 (i * 3 + t) with z | z
    · exact br_t z (nm_r (nI_1 t) (nx fun y => absurd (z.symm.trans y.1) (by decide)))
    · refine br_f (by rw [z]; decide) ⟨i3, br_c (fun y => K1 t ⟨by omega, ⟨z, y⟩, g3⟩) (fun y => nm_r (nI_1 t) (nx fun x => y x.2))⟩
theorem xo_first {post : Int32 → Prop} {i a : Nat} {v : Int32} (hi : i < 5) (ha : a ≤ 3) (eT : uTn i = nI a) (h01 : ∀ o, uTi o = 0 ∨ uTi o = 1)
    (K1 : ∀ t, jo_Fi a uTi uTv i v t → post (nI t)) (K0 : ¬ jo_HV a uTi uTv i v → post (-1)) : wpX_firstTermOf post (uRl, uRw, uVl, uAl, uAc, uCs, uWd, uTc, uSa, uBl, uBs, uRA, uRS, uTu, uAR, uTn, uTi, uTv, uPl, uCv, uRe, uTr, uTd, uTt, uTk, uTs, uDp, uPy, uPc, uR0, uR1, uPo, uCa, uMi, uTg, uTa) (nI i) v :=
  ⟨a + 1, xo_ft hi ha eT h01 K1 K0 a (a + 1) 0 (by omega) (by omega) (fun t h => absurd h (by omega))⟩
variable {n : Nat} {A : Nat → Nat}
theorem xo_62 {post : SX → Prop} {J : _} {x3 v : Int32} {p c : Nat} (hc : c < 4)
    (K1 : ¬ x3 = 0 → J (nI (p + 1)) (nI (c + 1)) uRA uRS uTu uAR uTn uTi uTv uPl (upd uCv c v) uRe uTr uTd uTt uTk uTs uDp uPy (upd uPc c 0) uR0 uR1 uPo uCa uMi uTg uTa) (K0 : x3 = 0 → J (nI (p + 1)) (nI c) uRA uRS uTu uAR uTn uTi uTv uPl uCv uRe uTr uTd uTt uTk uTs uDp uPy uPc uR0 uR1 uPo uCa uMi uTg uTa) :
    wX_freezeColumns_62 post J (nI p) v x3 uRl uRw uVl uAl uAc uCs (nI c) uTc uSa uBl uBs uRA uRS uTu uAR uTn uTi uTv uPl uCv uRe uTr uTd uTt uTk uTs uDp uPy uPc uR0 uR1 uPo uCa uMi uTg uTa := by
  have cc : (nI c).toNatClampNeg = c := jn_c (by omega)
  have ic : vp_in (nI c) 4 := vp_in_nI hc (by omega)
  unfold wX_freezeColumns_62
  exact br_c (fun z => nm_r (nI_1 p) (K0 z)) (fun z => ⟨ic, nm_r (e' := upd uCv c v) (by rw [cc]) ⟨ic, nm_r (e' := upd uPc c 0) (by rw [cc]) (nm_r (nI_1 c) (nm_r (nI_1 p) (K1 z)))⟩⟩)
theorem xo_27 {post : SX → Prop} {J : _} {v : Int32} {p c : Nat} (hc : c < 4) (hn : n ≤ 5) (hA : ∀ i, i < n → uTn i = nI (A i) ∧ A i ≤ 3) (h01 : ∀ o, uTi o = 0 ∨ uTi o = 1)
    (K1 : (∃ i, i < n ∧ jo_HV (A i) uTi uTv i v) → J (nI (p + 1)) (nI (c + 1)) uRA uRS uTu uAR uTn uTi uTv uPl (upd uCv c v) uRe uTr uTd uTt uTk uTs uDp uPy (upd uPc c 0) uR0 uR1 uPo uCa uMi uTg uTa)
    (K0 : ¬ (∃ i, i < n ∧ jo_HV (A i) uTi uTv i v) → J (nI (p + 1)) (nI c) uRA uRS uTu uAR uTn uTi uTv uPl uCv uRe uTr uTd uTt uTk uTs uDp uPy uPc uR0 uR1 uPo uCa uMi uTg uTa) :
    ∀ d f i, i + d = n → d + 1 < f → (∀ i', i' < i → ¬ jo_HV (A i') uTi uTv i' v) → wX_freezeColumns_27 post J (nI p) v uRl uRw uVl uAl (nI n) uCs (nI c) uTc uSa uBl uBs uRA uRS uTu uAR uTn uTi uTv uPl uCv uRe uTr uTd uTt uTk uTs uDp uPy uPc uR0 uR1 uPo uCa uMi uTg uTa f 0 (nI i) := by
  intro d
  induction d with
  | zero =>
    intro f i g1 g2 g3
    obtain ⟨f, rfl⟩ : ∃ m, f = m + 1 := ⟨f - 1, by omega⟩
    have : i = n := by omega
    subst this
    rw [wX_freezeColumns_27]
    exact br_t (nI_le (Nat.le_refl _) (by omega)) (xo_62 hc (fun z => absurd rfl z) (fun _ => K0 fun ⟨i', h1, h2⟩ => g3 i' h1 h2))
  | succ d ih =>
    intro f i g1 g2 g3
    obtain ⟨f, rfl⟩ : ∃ m, f = m + 1 := ⟨f - 1, by omega⟩
    rw [wX_freezeColumns_27]
    obtain ⟨a1, a2⟩ := hA i (by omega)
    refine br_f (nI_ge (by omega) (by omega)) (br_t rfl (xo_first (by omega) a2 a1 h01 (fun t ht => ?_) (fun h => ?_)))
    · refine br_f (nI_pos (by have := ht.1; omega)) (nm_r (nI_1 i) ?_)
      obtain ⟨f, rfl⟩ : ∃ m, f = m + 1 := ⟨f - 1, by omega⟩
      have u : ∃ i, i < n ∧ jo_HV (A i) uTi uTv i v := ⟨i, by omega, t, ht.1, ht.2.1⟩
      have j : wX_freezeColumns_62 post J (nI p) v 1 uRl uRw uVl uAl (nI n) uCs (nI c) uTc uSa uBl uBs uRA uRS uTu uAR uTn uTi uTv uPl uCv uRe uTr uTd uTt uTk uTs uDp uPy uPc uR0 uR1 uPo uCa uMi uTg uTa := xo_62 hc (fun _ => K1 u) (fun z => absurd z (by decide))
      rw [wX_freezeColumns_27]
      exact br_c (fun _ => j) (fun _ => br_f (by decide) j)
    · refine br_t (by decide) (nm_r (nI_1 i) (ih f (i + 1) (by omega) (by omega) (fun i' hi' => ?_)))
      rcases Nat.lt_or_ge i' i with z | z
      · exact g3 i' z
      · have : i' = i := by omega
        subst this; exact h
/-- the columns: position p, if used, is column number jc_n U p -/
theorem xo_7 {post : SX → Prop} {vn : Nat} (hv : vn ≤ 4) (hn : n ≤ 5) (hA : ∀ i, i < n → uTn i = nI (A i) ∧ A i ≤ 3) (h01 : ∀ o, uTi o = 0 ∨ uTi o = 1)
    (K : ∀ cv pc : Nat → Int32, (∀ p, p < vn → (∃ i, i < n ∧ jo_HV (A i) uTi uTv i (uPl p)) → cv (jc_n (fun p => ∃ i, i < n ∧ jo_HV (A i) uTi uTv i (uPl p)) p) = uPl p ∧ pc (jc_n (fun p => ∃ i, i < n ∧ jo_HV (A i) uTi uTv i (uPl p)) p) = 0) →
      post (uRl, uRw, nI vn, uAl, nI n, uCs, nI (jc_n (fun p => ∃ i, i < n ∧ jo_HV (A i) uTi uTv i (uPl p)) vn), uTc, uSa, uBl, uBs, uRA, uRS, uTu, uAR, uTn, uTi, uTv, uPl, cv, uRe, uTr, uTd, uTt, uTk, uTs, uDp, uPy, pc, uR0, uR1, uPo, uCa, uMi, uTg, uTa)) :
    ∀ d f p (cv pc : Nat → Int32), p + d = vn → d < f → (∀ p', p' < p → (∃ i, i < n ∧ jo_HV (A i) uTi uTv i (uPl p')) → cv (jc_n (fun p => ∃ i, i < n ∧ jo_HV (A i) uTi uTv i (uPl p)) p') = uPl p' ∧ pc (jc_n (fun p => ∃ i, i < n ∧ jo_HV (A i) uTi uTv i (uPl p)) p') = 0) →
      wX_freezeColumns_7 post uRl uRw (nI vn) uAl (nI n) uCs uTc uSa uBl uBs f (nI p) (nI (jc_n (fun p => ∃ i, i < n ∧ jo_HV (A i) uTi uTv i (uPl p)) p)) uRA uRS uTu uAR uTn uTi uTv uPl cv uRe uTr uTd uTt uTk uTs uDp uPy pc uR0 uR1 uPo uCa uMi uTg uTa := by
  intro d
  induction d with
  | zero =>
    intro f p cv pc g1 g2 g3
    obtain ⟨f, rfl⟩ : ∃ m, f = m + 1 := ⟨f - 1, by omega⟩
    have : p = vn := by omega
    subst this
    rw [wX_freezeColumns_7]
    exact br_t (nI_le (Nat.le_refl _) (by omega)) (K cv pc g3)
  | succ d ih =>
    intro f p cv pc g1 g2 g3
    obtain ⟨f, rfl⟩ : ∃ m, f = m + 1 := ⟨f - 1, by omega⟩
    rw [wX_freezeColumns_7]
    have cl := jc_le (fun p => ∃ i, i < n ∧ jo_HV (A i) uTi uTv i (uPl p)) p
    refine br_f (nI_ge (by omega) (by omega)) ⟨vp_in_nI (by omega) (by omega), nm_r (e' := uPl p) (by rw [jn_c (by omega)]) ⟨n + 2, xo_27 (by omega) hn hA h01 (fun u => ?_) (fun u => ?_) n (n + 2) 0 (by omega) (by omega) (fun i' h => absurd h (by omega))⟩⟩
    · have e : jc_n (fun p => ∃ i, i < n ∧ jo_HV (A i) uTi uTv i (uPl p)) (p + 1) = jc_n (fun p => ∃ i, i < n ∧ jo_HV (A i) uTi uTv i (uPl p)) p + 1 := by
        simp only [jc_n]; rw [jc_bt u]
      have h := ih f (p + 1) (upd cv (jc_n (fun p => ∃ i, i < n ∧ jo_HV (A i) uTi uTv i (uPl p)) p) (uPl p)) (upd pc (jc_n (fun p => ∃ i, i < n ∧ jo_HV (A i) uTi uTv i (uPl p)) p) 0) (by omega) (by omega) (fun p' hp' u' => ?_)
      · rw [e] at h; exact h
      · by_cases z : p' = p
        · subst z; exact ⟨pk_us, pk_us⟩
        · have lt := jc_st (P := fun p => ∃ i, i < n ∧ jo_HV (A i) uTi uTv i (uPl p)) (a := p') (b := p) (by omega) u'
          rw [pk_un (by omega), pk_un (by omega)]
          exact g3 p' (by omega) u'
    · have e : jc_n (fun p => ∃ i, i < n ∧ jo_HV (A i) uTi uTv i (uPl p)) (p + 1) = jc_n (fun p => ∃ i, i < n ∧ jo_HV (A i) uTi uTv i (uPl p)) p := by
        simp only [jc_n]; rw [jc_bf u, Nat.add_zero]
      have h := ih f (p + 1) cv pc (by omega) (by omega) (fun p' hp' u' => ?_)
      · rw [e] at h; exact h
      · by_cases z : p' = p
        · subst z; exact absurd u' u
        · exact g3 p' (by omega) u'
theorem xo_freeze {post : SX → Prop} {vn : Nat} (hv : vn ≤ 4) (hn : n ≤ 5) (hA : ∀ i, i < n → uTn i = nI (A i) ∧ A i ≤ 3) (h01 : ∀ o, uTi o = 0 ∨ uTi o = 1)
    (K : ∀ cv pc : Nat → Int32, (∀ p, p < vn → (∃ i, i < n ∧ jo_HV (A i) uTi uTv i (uPl p)) → cv (jc_n (fun p => ∃ i, i < n ∧ jo_HV (A i) uTi uTv i (uPl p)) p) = uPl p ∧ pc (jc_n (fun p => ∃ i, i < n ∧ jo_HV (A i) uTi uTv i (uPl p)) p) = 0) →
      post (uRl, uRw, nI vn, uAl, nI n, uCs, nI (jc_n (fun p => ∃ i, i < n ∧ jo_HV (A i) uTi uTv i (uPl p)) vn), uTc, uSa, uBl, uBs, uRA, uRS, uTu, uAR, uTn, uTi, uTv, uPl, cv, uRe, uTr, uTd, uTt, uTk, uTs, uDp, uPy, pc, uR0, uR1, uPo, uCa, uMi, uTg, uTa)) :
    wpX_freezeColumns post (uRl, uRw, nI vn, uAl, nI n, uCs, uWd, uTc, uSa, uBl, uBs, uRA, uRS, uTu, uAR, uTn, uTi, uTv, uPl, uCv, uRe, uTr, uTd, uTt, uTk, uTs, uDp, uPy, uPc, uR0, uR1, uPo, uCa, uMi, uTg, uTa) :=
  ⟨vn + 1, xo_7 hv hn hA h01 K vn (vn + 1) 0 uCv uPc (by omega) (by omega) (fun p h => absurd h (by omega))⟩
/-- what planTrie leaves for trie i: column col has depth jc_n HV col -/
def jo_Pl (w a : Nat) (ti tv cv : Nat → Int32) (i c : Nat) (tk ts dp : Nat → Int32) : Prop :=
  ∀ col, col < c → jo_HV a ti tv i (cv col) → tk (i * 3 + jc_n (fun x => jo_HV a ti tv i (cv x)) col) = nI col ∧
    (∃ t, jo_Fi a ti tv i (cv col) t ∧ ts (i * 3 + jc_n (fun x => jo_HV a ti tv i (cv x)) col) = nI t) ∧ dp (i * 4 + col) = nI (jc_n (fun x => jo_HV a ti tv i (cv x)) col)
theorem xo_dep {w a i : Nat} {ti tv cv : Nat → Int32} (hinj : ∀ c c', c < w → c' < w → cv c = cv c' → c = c') : jc_n (fun x => jo_HV a ti tv i (cv x)) w ≤ a := by
  have ch : ∀ c, ∃ t, jo_HV a ti tv i (cv c) → jo_Fi a ti tv i (cv c) t := fun c => by
    rcases Classical.em (jo_HV a ti tv i (cv c)) with z | z
    · obtain ⟨t, ht⟩ := jo_fe z
      exact ⟨t, fun _ => ht⟩
    · exact ⟨0, fun y => absurd y z⟩
  refine jc_php (g := fun c => Classical.choose (ch c)) a (fun c hc hq => (Classical.choose_spec (ch c) hq).1) (fun c c' a1 a2 a3 a4 e => hinj c c' a1 a2 ?_)
  have h1 := Classical.choose_spec (ch c) a3
  have h2 := Classical.choose_spec (ch c') a4
  rw [← e] at h2
  exact h1.2.1.2.symm.trans h2.2.1.2
theorem xo_pl {post : SX → Prop} {w i a : Nat} {Q : Nat → Nat} (hw : w ≤ 4) (hi : i < 5) (ha : a ≤ 3) (eT : uTn i = nI a) (h01 : ∀ o, uTi o = 0 ∨ uTi o = 1) (hinj : ∀ c c', c < w → c' < w → uCv c = uCv c' → c = c')
    (hQ : ∀ c, c < w → uPc c = nI (Q c) ∧ Q c ≤ 4)
    (K : ∀ tk ts dp py pc : Nat → Int32, jo_Pl w a uTi uTv uCv i w tk ts dp →
      (∀ x, (x < i * 3 ∨ i * 3 + 3 ≤ x) → tk x = uTk x ∧ ts x = uTs x) → (∀ x, (x < i * 4 ∨ i * 4 + 4 ≤ x) → dp x = uDp x) →
      (∀ c, c < w → jo_HV a uTi uTv i (uCv c) → pc c = nI (Q c + 1) ∧ py (c * 5 + Q c) = nI i) → (∀ c, c < w → ¬ jo_HV a uTi uTv i (uCv c) → pc c = nI (Q c)) →
      (∀ x, (∀ c, c < w → x ≠ c * 5 + Q c) → py x = uPy x) →
      post (uRl, uRw, uVl, uAl, uAc, uCs, nI w, uTc, uSa, uBl, uBs, uRA, uRS, uTu, uAR, uTn, uTi, uTv, uPl, uCv, uRe, uTr, upd uTd i (nI (jc_n (fun x => jo_HV a uTi uTv i (uCv x)) w)), uTt, tk, ts, dp, py, pc, uR0, uR1, uPo, uCa, uMi, uTg, uTa)) :
    ∀ d f c (tk ts dp py pc : Nat → Int32), c + d = w → d < f → jo_Pl w a uTi uTv uCv i c tk ts dp →
      (∀ x, (x < i * 3 ∨ i * 3 + 3 ≤ x) → tk x = uTk x ∧ ts x = uTs x) → (∀ x, (x < i * 4 ∨ i * 4 + 4 ≤ x) → dp x = uDp x) →
      (∀ c', c' < c → jo_HV a uTi uTv i (uCv c') → pc c' = nI (Q c' + 1) ∧ py (c' * 5 + Q c') = nI i) → (∀ c', c' < w → (c ≤ c' ∨ ¬ jo_HV a uTi uTv i (uCv c')) → pc c' = nI (Q c')) →
      (∀ x, (∀ c', c' < c → x ≠ c' * 5 + Q c') → py x = uPy x) →
      wX_planTrie_4 post (nI i) uRl uRw uVl uAl uAc uCs (nI w) uTc uSa uBl uBs f (nI (jc_n (fun x => jo_HV a uTi uTv i (uCv x)) c)) (nI c) uRA uRS uTu uAR uTn uTi uTv uPl uCv uRe uTr uTd uTt tk ts dp py pc uR0 uR1 uPo uCa uMi uTg uTa := by
  have ci : (nI i).toNatClampNeg = i := jn_c (by omega)
  have ii : vp_in (nI i) 5 := vp_in_nI hi (by omega)
  have dep := xo_dep (a := a) (i := i) (ti := uTi) (tv := uTv) hinj
  intro d
  induction d with
  | zero =>
    intro f c tk ts dp py pc g1 g2 g3 g4 g5 g6 g7 g8
    obtain ⟨f, rfl⟩ : ∃ m, f = m + 1 := ⟨f - 1, by omega⟩
    have : c = w := by omega
    subst this
    rw [wX_planTrie_4]
    exact br_t (nI_le (Nat.le_refl _) (by omega)) ⟨ii, nm_r (e' := upd uTd i (nI (jc_n (fun x => jo_HV a uTi uTv i (uCv x)) c))) (by rw [ci]) (K tk ts dp py pc g3 g4 g5 g6 (fun c' h1 h2 => g7 c' h1 (Or.inr h2)) g8)⟩
  | succ d ih =>
    intro f c tk ts dp py pc g1 g2 g3 g4 g5 g6 g7 g8
    obtain ⟨f, rfl⟩ : ∃ m, f = m + 1 := ⟨f - 1, by omega⟩
    have cc : (nI c).toNatClampNeg = c := jn_c (by omega)
    have ic : vp_in (nI c) 4 := vp_in_nI (by omega) (by omega)
    rw [wX_planTrie_4]
    refine br_f (nI_ge (by omega) (by omega)) ⟨ic, ?_⟩
    rw [cc]
    obtain ⟨q1, q2⟩ := hQ c (by omega)
    obtain ⟨m, hm⟩ : ∃ m, m = jc_n (fun x => jo_HV a uTi uTv i (uCv x)) c := ⟨_, rfl⟩
    have c4 : (nI (i * 4 + c)).toNatClampNeg = i * 4 + c := jn_c (by omega)
    have i4 : vp_in (nI (i * 4 + c)) 20 := vp_in_nI (by omega) (by omega)
    refine xo_first hi ha eT h01 (fun t ht => ?_) (fun h => ?_)
    · have hv : jo_HV a uTi uTv i (uCv c) := ⟨t, ht.1, ht.2.1⟩
      have e : jc_n (fun x => jo_HV a uTi uTv i (uCv x)) (c + 1) = m + 1 := by
        simp only [jc_n]; rw [jc_bt hv, ← hm]
      have mle : m + 1 ≤ a := by
        have := jc_mm (P := fun x => jo_HV a uTi uTv i (uCv x)) (a := c + 1) (b := w) (by omega)
        omega
      have lt : ∀ c', c' < c → jo_HV a uTi uTv i (uCv c') → jc_n (fun x => jo_HV a uTi uTv i (uCv x)) c' < m := fun c' h1 h2 => by
        rw [hm]; exact jc_st (P := fun x => jo_HV a uTi uTv i (uCv x)) h1 h2
      have pcc : pc c = nI (Q c) := g7 c (by omega) (Or.inl (Nat.le_refl _))
      have c3 : (nI (i * 3 + m)).toNatClampNeg = i * 3 + m := jn_c (by omega)
      have i3 : vp_in (nI (i * 3 + m)) 15 := vp_in_nI (by omega) (by omega)
      have c5 : (nI (c * 5 + Q c)).toNatClampNeg = c * 5 + Q c := jn_c (by omega)
      have i5 : vp_in (nI (c * 5 + Q c)) 20 := vp_in_nI (by omega) (by omega)
      rw [← hm, jx_4, jx_3, c4, c3, pcc, jx_5, c5, nI_1 (Q c)]
      have K' := ih f (c + 1) (upd tk (i * 3 + m) (nI c)) (upd ts (i * 3 + m) (nI t)) (upd dp (i * 4 + c) (nI m)) (upd py (c * 5 + Q c) (nI i)) (upd pc c (nI (Q c + 1))) (by omega) (by omega) (fun c' h1 h2 => ?_) (fun x hx => ?_) (fun x hx => ?_) (fun c' h1 h2 => ?_) (fun c' h1 h2 => ?_) (fun x hx => ?_)
      · rw [e] at K'
        exact br_t (nI_pos' (by have := ht.1; omega)) ⟨i4, nm_e ⟨i3, nm_e ⟨i3, nm_e ⟨ic, i5, nm_e ⟨ic, ic, nm_e (nm_r (nI_1 m) (nm_r (nI_1 c) K'))⟩⟩⟩⟩⟩
      · by_cases z : c' = c
        · subst z
          rw [← hm]
          exact ⟨pk_us, ⟨t, ht, pk_us⟩, pk_us⟩
        · have l := lt c' (by omega) h2
          rw [pk_un (by omega), pk_un (by omega), pk_un (by omega)]
          exact g3 c' (by omega) h2
      · rw [pk_un (by omega), pk_un (by omega)]; exact g4 x hx
      · rw [pk_un (by omega)]; exact g5 x hx
      · by_cases z : c' = c
        · subst z; exact ⟨pk_us, pk_us⟩
        · obtain ⟨_, r2⟩ := hQ c' (by omega)
          rw [pk_un z, pk_un (by omega)]
          exact g6 c' (by omega) h2
      · by_cases z : c' = c
        · subst z
          rcases h2 with y | y
          · omega
          · exact absurd hv y
        · rw [pk_un z]
          exact g7 c' h1 (by rcases h2 with y | y; exact Or.inl (by omega); exact Or.inr y)
      · rw [pk_un (hx c (by omega))]
        exact g8 x (fun c' h => hx c' (by omega))
    · have e : jc_n (fun x => jo_HV a uTi uTv i (uCv x)) (c + 1) = m := by
        simp only [jc_n]; rw [jc_bf h, ← hm, Nat.add_zero]
      rw [← hm, jx_4, c4]
      have K' := ih f (c + 1) tk ts (upd dp (i * 4 + c) (-1)) py pc (by omega) (by omega) (fun c' h1 h2 => ?_) g4 (fun x hx => ?_) (fun c' h1 h2 => ?_) (fun c' h1 h2 => ?_) (fun x hx => ?_)
      · rw [e] at K'
        exact br_f (by decide) ⟨i4, nm_e (nm_r (nI_1 c) K')⟩
      · by_cases z : c' = c
        · subst z; exact absurd h2 h
        · obtain ⟨x1, x2, x3⟩ := g3 c' (by omega) h2
          exact ⟨x1, x2, by rw [pk_un (by omega)]; exact x3⟩
      · rw [pk_un (by omega)]; exact g5 x hx
      · by_cases z : c' = c
        · subst z; exact absurd h2 h
        · exact g6 c' (by omega) h2
      · by_cases z : c' = c
        · subst z; exact g7 c' h1 (Or.inl (Nat.le_refl _))
        · exact g7 c' h1 (by rcases h2 with y | y; exact Or.inl (by omega); exact Or.inr y)
      · exact g8 x (fun c' h => hx c' (by omega))
theorem xo_plan {post : SX → Prop} {w i a : Nat} {Q : Nat → Nat} (hw : w ≤ 4) (hi : i < 5) (ha : a ≤ 3) (eT : uTn i = nI a) (h01 : ∀ o, uTi o = 0 ∨ uTi o = 1) (hinj : ∀ c c', c < w → c' < w → uCv c = uCv c' → c = c')
    (hQ : ∀ c, c < w → uPc c = nI (Q c) ∧ Q c ≤ 4)
    (K : ∀ tk ts dp py pc : Nat → Int32, jo_Pl w a uTi uTv uCv i w tk ts dp →
      (∀ x, (x < i * 3 ∨ i * 3 + 3 ≤ x) → tk x = uTk x ∧ ts x = uTs x) → (∀ x, (x < i * 4 ∨ i * 4 + 4 ≤ x) → dp x = uDp x) →
      (∀ c, c < w → jo_HV a uTi uTv i (uCv c) → pc c = nI (Q c + 1) ∧ py (c * 5 + Q c) = nI i) → (∀ c, c < w → ¬ jo_HV a uTi uTv i (uCv c) → pc c = nI (Q c)) →
      (∀ x, (∀ c, c < w → x ≠ c * 5 + Q c) → py x = uPy x) →
      post (uRl, uRw, uVl, uAl, uAc, uCs, nI w, uTc, uSa, uBl, uBs, uRA, uRS, uTu, uAR, uTn, uTi, uTv, uPl, uCv, uRe, uTr, upd uTd i (nI (jc_n (fun x => jo_HV a uTi uTv i (uCv x)) w)), uTt, tk, ts, dp, py, pc, uR0, uR1, uPo, uCa, uMi, uTg, uTa)) :
    wpX_planTrie post (uRl, uRw, uVl, uAl, uAc, uCs, nI w, uTc, uSa, uBl, uBs, uRA, uRS, uTu, uAR, uTn, uTi, uTv, uPl, uCv, uRe, uTr, uTd, uTt, uTk, uTs, uDp, uPy, uPc, uR0, uR1, uPo, uCa, uMi, uTg, uTa) (nI i) :=
  ⟨w + 1, xo_pl hw hi ha eT h01 hinj hQ K w (w + 1) 0 uTk uTs uDp uPy uPc (by omega) (by omega) (fun c h => absurd h (by omega)) (fun _ _ => ⟨rfl, rfl⟩) (fun _ _ => rfl) (fun c h => absurd h (by omega)) (fun c h _ => (hQ c h).1) (fun _ _ => rfl)⟩
end XO
end
section
/-! X freezes: filling a trie -/
def jo_MM (a : Nat) (ti tv : Nat → Int32) (i : Nat) (f : Nat → Int32) : Prop :=
  ∀ t, t < a → (ti (i * 3 + t) = 0 → f t = tv (i * 3 + t)) ∧ (ti (i * 3 + t) = 1 → ∀ s, jo_Fi a ti tv i (tv (i * 3 + t)) s → f t = f s)
section XF
variable {uRl uRw uVl uAl uAc uCs uWd uTc uSa uBl uBs : Int32} {uRA uRS uTu uAR uTn uTi uTv uPl uCv uRe uTr uTd uTt uTk uTs uDp uPy uPc uR0 uR1 uPo uCa : Nat → Int32} {uMi : Nat → Int64} {uTg uTa : Nat → Int32}
theorem xf_80 {post J : Int32 → Prop} {i b t : Nat} {x : Int32} (hb : b + t < 144) (K1 : uTu (b + t) = x → J (nI (t + 1))) (K0 : ¬ uTu (b + t) = x → post 0) : wX_tupleMatches_80 post J (nI i) (nI b) (nI t) x uRl uRw uVl uAl uAc uCs uWd uTc uSa uBl uBs uRA uRS uTu uAR uTn uTi uTv uPl uCv uRe uTr uTd uTt uTk uTs uDp uPy uPc uR0 uR1 uPo uCa uMi uTg uTa := by
  have c : (nI b + nI t).toNatClampNeg = b + t := by rw [nI_add]; exact jn_c (by omega)
  unfold wX_tupleMatches_80
  rw [c, nI_add]
  exact ⟨vp_in_nI hb (by omega), br_c (fun z => nm_r (nI_1 t) (K1 z)) K0⟩
theorem xf_tm {post : Int32 → Prop} {i a r k : Nat} (hi : i < 5) (hr : r < 4) (hk : k < 12) (ha : a ≤ 3) (eT : uTn i = nI a) (h01 : ∀ o, uTi o = 0 ∨ uTi o = 1)
    (K1 : jo_MM a uTi uTv i (jt_r uTu r k) → post 1) (K0 : ¬ jo_MM a uTi uTv i (jt_r uTu r k) → post 0) :
    ∀ d f t, t + d = a → d < f → (∀ t', t' < t → (uTi (i * 3 + t') = 0 → jt_r uTu r k t' = uTv (i * 3 + t')) ∧ (uTi (i * 3 + t') = 1 → ∀ s, jo_Fi a uTi uTv i (uTv (i * 3 + t')) s → jt_r uTu r k t' = jt_r uTu r k s)) →
      wX_tupleMatches_17 post (nI i) (nI ((r * 12 + k) * 3)) uRl uRw uVl uAl uAc uCs uWd uTc uSa uBl uBs uRA uRS uTu uAR uTn uTi uTv uPl uCv uRe uTr uTd uTt uTk uTs uDp uPy uPc uR0 uR1 uPo uCa uMi uTg uTa f (nI t) := by
  have ci : (nI i).toNatClampNeg = i := jn_c (by omega)
  have ii : vp_in (nI i) 5 := vp_in_nI hi (by omega)
  intro d
  induction d with
  | zero =>
    intro f t g1 g2 g3
    obtain ⟨f, rfl⟩ : ∃ m, f = m + 1 := ⟨f - 1, by omega⟩
    have : t = a := by omega
    subst this
    rw [wX_tupleMatches_17, ci, eT]
    exact ⟨ii, br_t (nI_le (Nat.le_refl _) (by omega)) (K1 g3)⟩
  | succ d ih =>
    intro f t g1 g2 g3
    obtain ⟨f, rfl⟩ : ∃ m, f = m + 1 := ⟨f - 1, by omega⟩
    have c3 : (nI (i * 3 + t)).toNatClampNeg = i * 3 + t := jn_c (by omega)
    have i3 : vp_in (nI (i * 3 + t)) 15 := vp_in_nI (by omega) (by omega)
    rw [wX_tupleMatches_17]
    dsimp only
    rw [ci, eT, jx_3, c3]
    have nx : ((uTi (i * 3 + t) = 0 → jt_r uTu r k t = uTv (i * 3 + t)) ∧ (uTi (i * 3 + t) = 1 → ∀ s, jo_Fi a uTi uTv i (uTv (i * 3 + t)) s → jt_r uTu r k t = jt_r uTu r k s)) →
        wX_tupleMatches_17 post (nI i) (nI ((r * 12 + k) * 3)) uRl uRw uVl uAl uAc uCs uWd uTc uSa uBl uBs uRA uRS uTu uAR uTn uTi uTv uPl uCv uRe uTr uTd uTt uTk uTs uDp uPy uPc uR0 uR1 uPo uCa uMi uTg uTa f (nI (t + 1)) := fun y => ih f (t + 1) (by omega) (by omega) (fun t' ht' => by
      rcases Nat.lt_or_ge t' t with z | z
      · exact g3 t' z
      · have : t' = t := by omega
        subst this; exact y)
    refine ⟨ii, br_f (nI_ge (by omega) (by omega)) ⟨i3, nm_e ⟨i3, ?_⟩⟩⟩
    rcases h01 (i * 3 + t) with z | z
    · refine br_t z (xf_80 (by omega) (fun y => nx ⟨fun _ => y, fun e => absurd (z.symm.trans e) (by decide)⟩) (fun y => K0 fun m => y ((m t (by omega)).1 z)))
    · refine br_f (by rw [z]; decide) (xo_first hi ha eT h01 (fun s hs => ?_) (fun h => absurd ⟨t, by omega, z, rfl⟩ h))
      have s3 := hs.1
      have cs : (nI ((r * 12 + k) * 3) + nI s).toNatClampNeg = (r * 12 + k) * 3 + s := by rw [nI_add]; exact jn_c (by omega)
      refine br_f (nI_pos (by omega)) ⟨by rw [nI_add]; exact vp_in_nI (by omega) (by omega), nm_r (e' := uTu ((r * 12 + k) * 3 + s)) (by rw [cs]) (xf_80 (by omega) (fun y => nx ⟨fun e => absurd (z.symm.trans e) (by decide), fun _ s' hs' => ?_⟩) (fun y => K0 fun m => y ((m t (by omega)).2 z s hs)))⟩
      have : s' = s := jo_fu hs' hs
      subst this; exact y
theorem xf_match {post : Int32 → Prop} {i a r k : Nat} (hi : i < 5) (hr : r < 4) (hk : k < 12) (ha : a ≤ 3) (eR : uAR i = nI r) (eT : uTn i = nI a) (h01 : ∀ o, uTi o = 0 ∨ uTi o = 1)
    (K1 : jo_MM a uTi uTv i (jt_r uTu r k) → post 1) (K0 : ¬ jo_MM a uTi uTv i (jt_r uTu r k) → post 0) : wpX_tupleMatches post (uRl, uRw, uVl, uAl, uAc, uCs, uWd, uTc, uSa, uBl, uBs, uRA, uRS, uTu, uAR, uTn, uTi, uTv, uPl, uCv, uRe, uTr, uTd, uTt, uTk, uTs, uDp, uPy, uPc, uR0, uR1, uPo, uCa, uMi, uTg, uTa) (nI i) (nI k) :=
  ⟨vp_in_nI hi (by omega), nm_r (e' := nI ((r * 12 + k) * 3)) (by rw [jn_c (by omega), eR, jx_b]) ⟨a + 1, xf_tm hi hr hk ha eT h01 K1 K0 a (a + 1) 0 (by omega) (by omega) (fun t h => absurd h (by omega))⟩⟩
theorem xf_rb {post : Int32 → Prop} {i p D : Nat} (hi : i < 5) (hp : p + 1 < 12) (hD : D ≤ 3) (eD : uTd i = nI D)
    (K1 : jl_lt D (jt_r uTt i (p + 1)) (jt_r uTt i p) → post 1) (K0 : ¬ jl_lt D (jt_r uTt i (p + 1)) (jt_r uTt i p) → post 0) :
    ∀ e f d, d + e = D → e < f → jl_eq d (jt_r uTt i (p + 1)) (jt_r uTt i p) → wX_rowBelowPrevious_12 post (nI i) (nI ((i * 12 + (p + 1)) * 3)) uRl uRw uVl uAl uAc uCs uWd uTc uSa uBl uBs uRA uRS uTu uAR uTn uTi uTv uPl uCv uRe uTr uTd uTt uTk uTs uDp uPy uPc uR0 uR1 uPo uCa uMi uTg uTa f (nI d) := by
  have ci : (nI i).toNatClampNeg = i := jn_c (by omega)
  have ii : vp_in (nI i) 5 := vp_in_nI hi (by omega)
  have e3 : nI ((i * 12 + (p + 1)) * 3) - 3 = nI ((i * 12 + p) * 3) := (pk_sub (b := 3) (by omega)).trans (congrArg nI (by omega))
  intro e
  induction e with
  | zero =>
    intro f d g1 g2 g3
    obtain ⟨f, rfl⟩ : ∃ m, f = m + 1 := ⟨f - 1, by omega⟩
    have : d = D := by omega
    subst this
    rw [wX_rowBelowPrevious_12, ci, eD]
    exact ⟨ii, br_t (nI_le (Nat.le_refl _) (by omega)) (K0 (jl_irr g3))⟩
  | succ e ih =>
    intro f d g1 g2 g3
    obtain ⟨f, rfl⟩ : ∃ m, f = m + 1 := ⟨f - 1, by omega⟩
    have c1 : (nI ((i * 12 + (p + 1)) * 3 + d)).toNatClampNeg = (i * 12 + (p + 1)) * 3 + d := jn_c (by omega)
    have c2 : (nI ((i * 12 + p) * 3 + d)).toNatClampNeg = (i * 12 + p) * 3 + d := jn_c (by omega)
    rw [wX_rowBelowPrevious_12]
    dsimp only
    rw [ci, eD, e3, nI_add, nI_add, c1, c2]
    refine ⟨ii, br_f (nI_ge (by omega) (by omega)) ⟨vp_in_nI (by omega) (by omega), nm_e ⟨vp_in_nI (by omega) (by omega), nm_e ?_⟩⟩⟩
    by_cases q : uTt ((i * 12 + (p + 1)) * 3 + d) = uTt ((i * 12 + p) * 3 + d)
    · exact br_t q (nm_r (nI_1 d) (ih f (d + 1) (by omega) (by omega) (jl_e1 g3 q)))
    · have q3 : ¬ (uTt ((i * 12 + (p + 1)) * 3 + d)).toInt = (uTt ((i * 12 + p) * 3 + d)).toInt := fun y => q (ji_eq.mpr y)
      refine br_f q (br_c (fun y => K0 fun h => ?_) (fun y => K1 ⟨d, by omega, g3, ji_nle y⟩))
      have y' := ji_le.mp y
      have : jl_lt D (jt_r uTt i p) (jt_r uTt i (p + 1)) := ⟨d, by omega, jl_es g3, by show (uTt ((i * 12 + p) * 3 + d)).toInt < (uTt ((i * 12 + (p + 1)) * 3 + d)).toInt; omega⟩
      exact jl_asym h this
theorem xf_below {post : Int32 → Prop} {i p D : Nat} (hi : i < 5) (hp : p + 1 < 12) (hD : D ≤ 3) (eD : uTd i = nI D)
    (K1 : jl_lt D (jt_r uTt i (p + 1)) (jt_r uTt i p) → post 1) (K0 : ¬ jl_lt D (jt_r uTt i (p + 1)) (jt_r uTt i p) → post 0) : wpX_rowBelowPrevious post (uRl, uRw, uVl, uAl, uAc, uCs, uWd, uTc, uSa, uBl, uBs, uRA, uRS, uTu, uAR, uTn, uTi, uTv, uPl, uCv, uRe, uTr, uTd, uTt, uTk, uTs, uDp, uPy, uPc, uR0, uR1, uPo, uCa, uMi, uTg, uTa) (nI i) (nI (p + 1)) :=
  nm_r (jx_b i (p + 1)) ⟨D + 1, xf_rb hi hp hD eD K1 K0 D (D + 1) 0 (by omega) (by omega) (fun q h => absurd h (by omega))⟩
theorem xf_el {post : SX → Prop} {i p D : Nat} (hi : i < 5) (hp : p + 1 < 12) (hD : D ≤ 3) (eD : uTd i = nI D)
    (K : ∀ tt : Nat → Int32, (∀ e, e < D → tt ((i * 12 + (p + 1)) * 3 + e) = uTt ((i * 12 + p) * 3 + e) ∧ tt ((i * 12 + p) * 3 + e) = uTt ((i * 12 + (p + 1)) * 3 + e)) →
      (∀ x, (x < (i * 12 + p) * 3 ∨ (i * 12 + (p + 1)) * 3 + 3 ≤ x) → tt x = uTt x) → post (uRl, uRw, uVl, uAl, uAc, uCs, uWd, uTc, uSa, uBl, uBs, uRA, uRS, uTu, uAR, uTn, uTi, uTv, uPl, uCv, uRe, uTr, uTd, tt, uTk, uTs, uDp, uPy, uPc, uR0, uR1, uPo, uCa, uMi, uTg, uTa)) :
    ∀ e f d (tt : Nat → Int32), d + e = D → e < f → (∀ e', e' < d → tt ((i * 12 + (p + 1)) * 3 + e') = uTt ((i * 12 + p) * 3 + e') ∧ tt ((i * 12 + p) * 3 + e') = uTt ((i * 12 + (p + 1)) * 3 + e')) →
      (∀ e', d ≤ e' → e' < 3 → tt ((i * 12 + (p + 1)) * 3 + e') = uTt ((i * 12 + (p + 1)) * 3 + e') ∧ tt ((i * 12 + p) * 3 + e') = uTt ((i * 12 + p) * 3 + e')) →
      (∀ x, (x < (i * 12 + p) * 3 ∨ (i * 12 + (p + 1)) * 3 + 3 ≤ x) → tt x = uTt x) →
      wX_exchangeWithPrevious_12 post (nI i) (nI ((i * 12 + (p + 1)) * 3)) uRl uRw uVl uAl uAc uCs uWd uTc uSa uBl uBs f (nI d) uRA uRS uTu uAR uTn uTi uTv uPl uCv uRe uTr uTd tt uTk uTs uDp uPy uPc uR0 uR1 uPo uCa uMi uTg uTa := by
  have ci : (nI i).toNatClampNeg = i := jn_c (by omega)
  have ii : vp_in (nI i) 5 := vp_in_nI hi (by omega)
  have e3 : nI ((i * 12 + (p + 1)) * 3) - 3 = nI ((i * 12 + p) * 3) := (pk_sub (b := 3) (by omega)).trans (congrArg nI (by omega))
  intro e
  induction e with
  | zero =>
    intro f d tt g1 g2 g3 g4 g5
    obtain ⟨f, rfl⟩ : ∃ m, f = m + 1 := ⟨f - 1, by omega⟩
    have : d = D := by omega
    subst this
    rw [wX_exchangeWithPrevious_12]
    dsimp only
    rw [ci, eD]
    exact ⟨ii, br_t (nI_le (Nat.le_refl _) (by omega)) (K tt g3 g5)⟩
  | succ e ih =>
    intro f d tt g1 g2 g3 g4 g5
    obtain ⟨f, rfl⟩ : ∃ m, f = m + 1 := ⟨f - 1, by omega⟩
    have c1 : (nI ((i * 12 + (p + 1)) * 3 + d)).toNatClampNeg = (i * 12 + (p + 1)) * 3 + d := jn_c (by omega)
    have c2 : (nI ((i * 12 + p) * 3 + d)).toNatClampNeg = (i * 12 + p) * 3 + d := jn_c (by omega)
    have i1 : vp_in (nI ((i * 12 + (p + 1)) * 3 + d)) 180 := vp_in_nI (by omega) (by omega)
    have i2 : vp_in (nI ((i * 12 + p) * 3 + d)) 180 := vp_in_nI (by omega) (by omega)
    rw [wX_exchangeWithPrevious_12]
    dsimp only
    rw [ci, eD, e3, nI_add, nI_add, c1, c2]
    obtain ⟨v1, v2⟩ := g4 d (Nat.le_refl _) (by omega)
    refine ⟨ii, br_f (nI_ge (by omega) (by omega)) ⟨i1, nm_e ⟨i2, i1, nm_e ⟨i2, nm_e (nm_r (nI_1 d) (ih f (d + 1) _ (by omega) (by omega) (fun e' he' => ?_) (fun e' h1 h2 => ?_) (fun x hx => ?_)))⟩⟩⟩⟩
    · by_cases z : e' = d
      · subst z
        exact ⟨by rw [pk_un (by omega), pk_us]; exact v2, by rw [pk_us]; exact v1⟩
      · rw [pk_un (by omega), pk_un (by omega), pk_un (by omega), pk_un (by omega)]
        exact g3 e' (by omega)
    · rw [pk_un (by omega), pk_un (by omega), pk_un (by omega), pk_un (by omega)]
      exact g4 e' (by omega) h2
    · rw [pk_un (by omega), pk_un (by omega)]; exact g5 x hx
theorem xf_exch {post : SX → Prop} {i p D : Nat} (hi : i < 5) (hp : p + 1 < 12) (hD : D ≤ 3) (eD : uTd i = nI D)
    (K : ∀ tt : Nat → Int32, (∀ e, e < D → tt ((i * 12 + (p + 1)) * 3 + e) = uTt ((i * 12 + p) * 3 + e) ∧ tt ((i * 12 + p) * 3 + e) = uTt ((i * 12 + (p + 1)) * 3 + e)) →
      (∀ x, (x < (i * 12 + p) * 3 ∨ (i * 12 + (p + 1)) * 3 + 3 ≤ x) → tt x = uTt x) → post (uRl, uRw, uVl, uAl, uAc, uCs, uWd, uTc, uSa, uBl, uBs, uRA, uRS, uTu, uAR, uTn, uTi, uTv, uPl, uCv, uRe, uTr, uTd, tt, uTk, uTs, uDp, uPy, uPc, uR0, uR1, uPo, uCa, uMi, uTg, uTa)) : wpX_exchangeWithPrevious post (uRl, uRw, uVl, uAl, uAc, uCs, uWd, uTc, uSa, uBl, uBs, uRA, uRS, uTu, uAR, uTn, uTi, uTv, uPl, uCv, uRe, uTr, uTd, uTt, uTk, uTs, uDp, uPy, uPc, uR0, uR1, uPo, uCa, uMi, uTg, uTa) (nI i) (nI (p + 1)) :=
  nm_r (jx_b i (p + 1)) ⟨D + 1, xf_el hi hp hD eD K D (D + 1) 0 uTt (by omega) (by omega) (fun e h => absurd h (by omega)) (fun _ _ _ => ⟨rfl, rfl⟩) (fun _ _ => rfl)⟩
/-- the new row sinks -/
theorem xf_94 {post : SX → Prop} {i q D : Nat} {E : (Nat → Int32) → Prop} (hi : i < 5) (hq : q < 12) (hD : D ≤ 3) (eD : uTd i = nI D)
    (K : ∀ tt : Nat → Int32, (∀ a b, a < b → b < q + 1 → ¬ jl_lt D (jt_r tt i b) (jt_r tt i a)) → (∀ g, (∃ k, k < q + 1 ∧ jl_eq D (jt_r tt i k) g) ↔ E g) →
      (∀ x, (x < i * 36 ∨ i * 36 + 36 ≤ x) → tt x = uTt x) → post (uRl, uRw, uVl, uAl, uAc, uCs, uWd, uTc, uSa, uBl, uBs, uRA, uRS, uTu, uAR, uTn, uTi, uTv, uPl, uCv, uRe, uTr, uTd, tt, uTk, uTs, uDp, uPy, uPc, uR0, uR1, uPo, uCa, uMi, uTg, uTa)) :
    ∀ d f (tt : Nat → Int32), d ≤ q → d + 1 < f → (∀ a b, a < b → b < q + 1 → a ≠ d → b ≠ d → ¬ jl_lt D (jt_r tt i b) (jt_r tt i a)) →
      (∀ b, d < b → b < q + 1 → ¬ jl_lt D (jt_r tt i b) (jt_r tt i d)) → (∀ g, (∃ k, k < q + 1 ∧ jl_eq D (jt_r tt i k) g) ↔ E g) →
      (∀ x, (x < i * 36 ∨ i * 36 + 36 ≤ x) → tt x = uTt x) →
      wX_insertRow_94 post (nI i) f 1 (nI d) uRl uRw uVl uAl uAc uCs uWd uTc uSa uBl uBs uRA uRS uTu uAR uTn uTi uTv uPl uCv uRe uTr uTd tt uTk uTs uDp uPy uPc uR0 uR1 uPo uCa uMi uTg uTa := by
  intro d
  induction d with
  | zero =>
    intro f tt g1 g2 g3 g4 g5 g6
    obtain ⟨f, rfl⟩ : ∃ m, f = m + 1 := ⟨f - 1, by omega⟩
    rw [wX_insertRow_94]
    refine br_t (by decide) (K tt (fun a b h1 h2 => ?_) g5 g6)
    by_cases z : a = 0
    · subst z; exact g4 b h1 h2
    · exact g3 a b h1 h2 z (by omega)
  | succ d ih =>
    intro f tt g1 g2 g3 g4 g5 g6
    obtain ⟨f, rfl⟩ : ∃ m, f = m + 1 := ⟨f - 1, by omega⟩
    rw [wX_insertRow_94]
    refine br_f (nI_nle (by omega) (by omega)) (br_f (by decide) (xf_below (D := D) hi (by omega) hD eD (fun lt => ?_) (fun nl => ?_)))
    · refine br_f (by decide) (xf_exch (D := D) hi (by omega) hD eD (fun tt' k1 k2 => nm_r (pk_m1 d) ?_))
      have r1 : jl_eq D (jt_r tt' i (d + 1)) (jt_r tt i d) := fun e he => (k1 e he).1
      have r2 : jl_eq D (jt_r tt' i d) (jt_r tt i (d + 1)) := fun e he => (k1 e he).2
      have r3 : ∀ k, k ≠ d → k ≠ d + 1 → jl_eq D (jt_r tt' i k) (jt_r tt i k) := fun k h1 h2 e he => k2 _ (by omega)
      refine ih f tt' (by omega) (by omega) (fun a b h1 h2 h3 h4 hlt => ?_) (fun b h1 h2 hlt => ?_) (fun g => ?_) (fun x hx => (k2 x (by omega)).trans (g6 x hx))
      · by_cases z1 : b = d + 1
        · subst z1
          exact g3 a d (by omega) (by omega) (by omega) (by omega) (jl_cg r1 (r3 a (by omega) (by omega)) hlt)
        · by_cases z2 : a = d + 1
          · subst z2
            exact g3 d b (by omega) h2 (by omega) (by omega) (jl_cg (r3 b (by omega) (by omega)) r1 hlt)
          · exact g3 a b h1 h2 z2 z1 (jl_cg (r3 b h4 z1) (r3 a h3 z2) hlt)
      · by_cases z1 : b = d + 1
        · subst z1
          exact jl_asym lt (jl_cg r1 r2 hlt)
        · exact g4 b (by omega) h2 (jl_cg (r3 b (by omega) z1) r2 hlt)
      · refine Iff.trans ⟨?_, ?_⟩ (g5 g)
        · rintro ⟨k, h1, h2⟩
          by_cases z1 : k = d + 1
          · subst z1; exact ⟨d, by omega, jl_et (jl_es r1) h2⟩
          · by_cases z2 : k = d
            · subst z2; exact ⟨k + 1, by omega, jl_et (jl_es r2) h2⟩
            · exact ⟨k, h1, jl_et (jl_es (r3 k z2 z1)) h2⟩
        · rintro ⟨k, h1, h2⟩
          by_cases z1 : k = d + 1
          · subst z1; exact ⟨d, by omega, jl_et r2 h2⟩
          · by_cases z2 : k = d
            · subst z2; exact ⟨k + 1, by omega, jl_et r1 h2⟩
            · exact ⟨k, h1, jl_et (r3 k z2 z1) h2⟩
    · refine br_t rfl (nm_r (pk_m1 d) ?_)
      have so : ∀ a b, a < b → b < q + 1 → ¬ jl_lt D (jt_r tt i b) (jt_r tt i a) := fun a b h1 h2 => by
        by_cases z1 : a = d + 1
        · subst z1; exact g4 b h1 h2
        · by_cases z2 : b = d + 1
          · subst z2
            intro hlt
            rcases Nat.lt_or_ge a d with y | y
            · rcases jl_le (g3 a d y (by omega) z1 (by omega)) with x | x
              · exact nl (jl_cg (jl_er _ _) x hlt)
              · exact nl (jl_trans hlt x)
            · have : a = d := by omega
              subst this; exact nl hlt
          · exact g3 a b h1 h2 z1 z2
      obtain ⟨f, rfl⟩ : ∃ m, f = m + 1 := ⟨f - 1, by omega⟩
      rw [wX_insertRow_94]
      exact br_c (fun _ => K tt so g5 g6) (fun _ => br_t rfl (K tt so g5 g6))
/-- one insertion -/
theorem xf_25 {post : SX → Prop} {i q D r k : Nat} {sr : Nat → Nat} (hi : i < 5) (hq : q < 12) (hD : D ≤ 3) (hr : r < 4) (hk : k < 12) (eD : uTd i = nI D) (eR : uTr i = nI q) (hs : ∀ d, d < D → uTs (i * 3 + d) = nI (sr d) ∧ sr d < 3)
    (so : ∀ a b, a < b → b < q → ¬ jl_lt D (jt_r uTt i b) (jt_r uTt i a))
    (K : ∀ tr tt : Nat → Int32, tr i = nI (q + 1) → (∀ x, x ≠ i → tr x = uTr x) → (∀ a b, a < b → b < q + 1 → ¬ jl_lt D (jt_r tt i b) (jt_r tt i a)) →
      (∀ g, (∃ k, k < q + 1 ∧ jl_eq D (jt_r tt i k) g) ↔ ((∃ k, k < q ∧ jl_eq D (jt_r uTt i k) g) ∨ jl_eq D (fun d => uTu ((r * 12 + k) * 3 + sr d)) g)) →
      (∀ x, (x < i * 36 ∨ i * 36 + 36 ≤ x) → tt x = uTt x) → post (uRl, uRw, uVl, uAl, uAc, uCs, uWd, uTc, uSa, uBl, uBs, uRA, uRS, uTu, uAR, uTn, uTi, uTv, uPl, uCv, uRe, tr, uTd, tt, uTk, uTs, uDp, uPy, uPc, uR0, uR1, uPo, uCa, uMi, uTg, uTa)) :
    ∀ e f d (tt : Nat → Int32), d + e = D → e < f → (∀ d', d' < d → tt ((i * 12 + q) * 3 + d') = uTu ((r * 12 + k) * 3 + sr d')) → (∀ x, (x < (i * 12 + q) * 3 ∨ (i * 12 + q) * 3 + 3 ≤ x) → tt x = uTt x) →
      wX_insertRow_25 post (nI i) (nI ((r * 12 + k) * 3)) (nI q) uRl uRw uVl uAl uAc uCs uWd uTc uSa uBl uBs f (nI d) uRA uRS uTu uAR uTn uTi uTv uPl uCv uRe uTr uTd tt uTk uTs uDp uPy uPc uR0 uR1 uPo uCa uMi uTg uTa := by
  have ci : (nI i).toNatClampNeg = i := jn_c (by omega)
  have ii : vp_in (nI i) 5 := vp_in_nI hi (by omega)
  intro e
  induction e with
  | zero =>
    intro f d tt g1 g2 g3 g4
    obtain ⟨f, rfl⟩ : ∃ m, f = m + 1 := ⟨f - 1, by omega⟩
    have : d = D := by omega
    subst this
    rw [wX_insertRow_25]
    dsimp only
    rw [ci, eD]
    refine ⟨ii, br_t (nI_le (Nat.le_refl _) (by omega)) ⟨ii, ii, nm_r (e' := upd uTr i (nI (q + 1))) (by rw [eR, nI_1]) ⟨q + 2, ?_⟩⟩⟩
    have ro : ∀ k', k' < q → jl_eq d (jt_r tt i k') (jt_r uTt i k') := fun k' h e he => g4 _ (by omega)
    have rn : jl_eq d (jt_r tt i q) (fun d' => uTu ((r * 12 + k) * 3 + sr d')) := fun e he => g3 e he
    refine xf_94 (D := d) (E := fun g => (∃ k, k < q ∧ jl_eq d (jt_r uTt i k) g) ∨ jl_eq d (fun d' => uTu ((r * 12 + k) * 3 + sr d')) g) hi hq hD eD (fun tt' a1 a2 a3 => K _ tt' pk_us (fun x hx => pk_un hx) a1 a2 a3) q (q + 2) tt (Nat.le_refl _) (by omega) (fun a b h1 h2 h3 h4 hlt => ?_) (fun b h1 h2 => by omega) (fun g => ⟨?_, ?_⟩) (fun x hx => g4 x (by omega))
    · exact so a b h1 (by omega) (jl_cg (ro b (by omega)) (ro a (by omega)) hlt)
    · rintro ⟨k', h1, h2⟩
      by_cases z : k' = q
      · subst z; exact Or.inr (jl_et (jl_es rn) h2)
      · exact Or.inl ⟨k', by omega, jl_et (jl_es (ro k' (by omega))) h2⟩
    · rintro (⟨k', h1, h2⟩ | h)
      · exact ⟨k', by omega, jl_et (ro k' h1) h2⟩
      · exact ⟨q, by omega, jl_et rn h⟩
  | succ e ih =>
    intro f d tt g1 g2 g3 g4
    obtain ⟨f, rfl⟩ : ∃ m, f = m + 1 := ⟨f - 1, by omega⟩
    obtain ⟨s1, s2⟩ := hs d (by omega)
    have c1 : (nI (i * 3 + d)).toNatClampNeg = i * 3 + d := jn_c (by omega)
    have c2 : (nI ((i * 12 + q) * 3 + d)).toNatClampNeg = (i * 12 + q) * 3 + d := jn_c (by omega)
    have c3 : (nI ((r * 12 + k) * 3 + sr d)).toNatClampNeg = (r * 12 + k) * 3 + sr d := jn_c (by omega)
    rw [wX_insertRow_25]
    dsimp only
    rw [ci, eD, jx_3, c1, s1, nI_add, c3, jx_c, c2]
    refine ⟨ii, br_f (nI_ge (by omega) (by omega)) ⟨vp_in_nI (by omega) (by omega), vp_in_nI (by omega) (by omega), vp_in_nI (by omega) (by omega), nm_e (nm_r (nI_1 d) (ih f (d + 1) _ (by omega) (by omega) (fun d' hd' => ?_) (fun x hx => ?_)))⟩⟩
    · by_cases z : d' = d
      · subst z; exact pk_us
      · rw [pk_un (by omega)]; exact g3 d' (by omega)
    · rw [pk_un (by omega)]; exact g4 x hx
theorem xf_ins {post : SX → Prop} {i q D r k : Nat} {sr : Nat → Nat} (hi : i < 5) (hq : q < 12) (hD : D ≤ 3) (hr : r < 4) (hk : k < 12) (eA : uAR i = nI r) (eD : uTd i = nI D) (eR : uTr i = nI q) (hs : ∀ d, d < D → uTs (i * 3 + d) = nI (sr d) ∧ sr d < 3)
    (so : ∀ a b, a < b → b < q → ¬ jl_lt D (jt_r uTt i b) (jt_r uTt i a))
    (K : ∀ tr tt : Nat → Int32, tr i = nI (q + 1) → (∀ x, x ≠ i → tr x = uTr x) → (∀ a b, a < b → b < q + 1 → ¬ jl_lt D (jt_r tt i b) (jt_r tt i a)) →
      (∀ g, (∃ k, k < q + 1 ∧ jl_eq D (jt_r tt i k) g) ↔ ((∃ k, k < q ∧ jl_eq D (jt_r uTt i k) g) ∨ jl_eq D (fun d => uTu ((r * 12 + k) * 3 + sr d)) g)) →
      (∀ x, (x < i * 36 ∨ i * 36 + 36 ≤ x) → tt x = uTt x) → post (uRl, uRw, uVl, uAl, uAc, uCs, uWd, uTc, uSa, uBl, uBs, uRA, uRS, uTu, uAR, uTn, uTi, uTv, uPl, uCv, uRe, tr, uTd, tt, uTk, uTs, uDp, uPy, uPc, uR0, uR1, uPo, uCa, uMi, uTg, uTa)) :
    wpX_insertRow post (uRl, uRw, uVl, uAl, uAc, uCs, uWd, uTc, uSa, uBl, uBs, uRA, uRS, uTu, uAR, uTn, uTi, uTv, uPl, uCv, uRe, uTr, uTd, uTt, uTk, uTs, uDp, uPy, uPc, uR0, uR1, uPo, uCa, uMi, uTg, uTa) (nI i) (nI k) :=
  ⟨vp_in_nI hi (by omega), nm_r (e' := nI ((r * 12 + k) * 3)) (by rw [jn_c (by omega), eA, jx_b]) ⟨vp_in_nI hi (by omega), nm_r (e' := nI q) (by rw [jn_c (by omega)]; exact eR) ⟨D + 1, xf_25 hi hq hD hr hk eD eR hs so K D (D + 1) 0 uTt (by omega) (by omega) (fun d h => absurd h (by omega)) (fun _ _ => rfl)⟩⟩⟩
/-- all matching tuples -/
theorem xf_16 {post : SX → Prop} {i D r a s : Nat} {sr : Nat → Nat} (hi : i < 5) (hD : D ≤ 3) (hr : r < 4) (ha : a ≤ 3) (hS : s ≤ 12) (eA : uAR i = nI r) (eT : uTn i = nI a) (eS : uRS r = nI s) (eD : uTd i = nI D) (h01 : ∀ o, uTi o = 0 ∨ uTi o = 1)
    (hs : ∀ d, d < D → uTs (i * 3 + d) = nI (sr d) ∧ sr d < 3)
    (K : ∀ (q : Nat) (tr tt r0 r1 : Nat → Int32), q ≤ 12 → tr i = nI q → (∀ x, x ≠ i → tr x = uTr x) → (∀ a b, a < b → b < q → ¬ jl_lt D (jt_r tt i b) (jt_r tt i a)) →
      (∀ g, (∃ k, k < q ∧ jl_eq D (jt_r tt i k) g) ↔ ∃ k, k < s ∧ jo_MM a uTi uTv i (jt_r uTu r k) ∧ jl_eq D (fun d => uTu ((r * 12 + k) * 3 + sr d)) g) →
      (∀ x, (x < i * 36 ∨ i * 36 + 36 ≤ x) → tt x = uTt x) → r0 (i * 4) = 0 → r1 (i * 4) = nI q → (∀ x, x ≠ i * 4 → r0 x = uR0 x ∧ r1 x = uR1 x) → post (uRl, uRw, uVl, uAl, uAc, uCs, uWd, uTc, uSa, uBl, uBs, uRA, uRS, uTu, uAR, uTn, uTi, uTv, uPl, uCv, uRe, tr, uTd, tt, uTk, uTs, uDp, uPy, uPc, r0, r1, uPo, uCa, uMi, uTg, uTa)) :
    ∀ e f k q (tr tt : Nat → Int32), k + e = s → e < f → q ≤ k → tr i = nI q → (∀ x, x ≠ i → tr x = uTr x) → (∀ a b, a < b → b < q → ¬ jl_lt D (jt_r tt i b) (jt_r tt i a)) →
      (∀ g, (∃ k, k < q ∧ jl_eq D (jt_r tt i k) g) ↔ ∃ k', k' < k ∧ jo_MM a uTi uTv i (jt_r uTu r k') ∧ jl_eq D (fun d => uTu ((r * 12 + k') * 3 + sr d)) g) →
      (∀ x, (x < i * 36 ∨ i * 36 + 36 ≤ x) → tt x = uTt x) →
      wX_fillTrie_16 post (nI i) (nI r) f (nI k) uRl uRw uVl uAl uAc uCs uWd uTc uSa uBl uBs uRA uRS uTu uAR uTn uTi uTv uPl uCv uRe tr uTd tt uTk uTs uDp uPy uPc uR0 uR1 uPo uCa uMi uTg uTa := by
  have ci : (nI i).toNatClampNeg = i := jn_c (by omega)
  have cr : (nI r).toNatClampNeg = r := jn_c (by omega)
  have ir : vp_in (nI r) 4 := vp_in_nI hr (by omega)
  intro e
  induction e with
  | zero =>
    intro f k q tr tt g1 g2 g3 g4 g5 g6 g7 g8
    obtain ⟨f, rfl⟩ : ∃ m, f = m + 1 := ⟨f - 1, by omega⟩
    have : k = s := by omega
    subst this
    have c4 : (nI i * 4).toNatClampNeg = i * 4 := by rw [jx_40]; exact jn_c (by omega)
    have i4 : vp_in (nI i * 4) 20 := by rw [jx_40]; exact vp_in_nI (by omega) (by omega)
    rw [wX_fillTrie_16]
    dsimp only
    rw [cr, eS]
    refine ⟨ir, br_t (nI_le (Nat.le_refl _) (by omega)) ⟨i4, nm_r (e' := upd uR0 (i * 4) 0) (by rw [c4]) ⟨vp_in_nI hi (by omega), i4, nm_r (e' := upd uR1 (i * 4) (nI q)) (by rw [c4, ci, g4]) (K q tr tt _ _ (by omega) g4 g5 g6 g7 g8 pk_us pk_us (fun x hx => ⟨pk_un hx, pk_un hx⟩))⟩⟩⟩
  | succ e ih =>
    intro f k q tr tt g1 g2 g3 g4 g5 g6 g7 g8
    obtain ⟨f, rfl⟩ : ∃ m, f = m + 1 := ⟨f - 1, by omega⟩
    rw [wX_fillTrie_16]
    dsimp only
    rw [cr, eS]
    refine ⟨ir, br_f (nI_ge (by omega) (by omega)) (xf_match hi hr (by omega) ha eA eT h01 (fun m => ?_) (fun m => ?_))⟩
    · refine br_f (by decide) (xf_ins (D := D) hi (by omega) hD hr (by omega) eA eD g4 hs g6 (fun tr' tt' k1 k2 k3 k4 k5 => nm_r (nI_1 k) ?_))
      refine ih f (k + 1) (q + 1) tr' tt' (by omega) (by omega) (by omega) k1 (fun x hx => (k2 x hx).trans (g5 x hx)) k3 (fun g => ?_) (fun x hx => (k5 x hx).trans (g8 x hx))
      rw [k4 g, g7 g]
      constructor
      · rintro (⟨k', h1, h2, h3⟩ | h)
        · exact ⟨k', by omega, h2, h3⟩
        · exact ⟨k, by omega, m, h⟩
      · rintro ⟨k', h1, h2, h3⟩
        by_cases z : k' = k
        · subst z; exact Or.inr h3
        · exact Or.inl ⟨k', by omega, h2, h3⟩
    · refine br_t rfl (nm_r (nI_1 k) (ih f (k + 1) q tr tt (by omega) (by omega) (by omega) g4 g5 g6 (fun g => ?_) g8))
      rw [g7 g]
      constructor
      · rintro ⟨k', h1, h2, h3⟩
        exact ⟨k', by omega, h2, h3⟩
      · rintro ⟨k', h1, h2, h3⟩
        by_cases z : k' = k
        · subst z; exact absurd h2 m
        · exact ⟨k', by omega, h2, h3⟩
theorem xf_fill {post : SX → Prop} {i D r a s : Nat} {sr : Nat → Nat} (hi : i < 5) (hD : D ≤ 3) (hr : r < 4) (ha : a ≤ 3) (hS : s ≤ 12) (eA : uAR i = nI r) (eT : uTn i = nI a) (eS : uRS r = nI s) (eD : uTd i = nI D) (h01 : ∀ o, uTi o = 0 ∨ uTi o = 1)
    (hs : ∀ d, d < D → uTs (i * 3 + d) = nI (sr d) ∧ sr d < 3)
    (K : ∀ (q : Nat) (tr tt r0 r1 : Nat → Int32), q ≤ 12 → tr i = nI q → (∀ x, x ≠ i → tr x = uTr x) → (∀ a b, a < b → b < q → ¬ jl_lt D (jt_r tt i b) (jt_r tt i a)) →
      (∀ g, (∃ k, k < q ∧ jl_eq D (jt_r tt i k) g) ↔ ∃ k, k < s ∧ jo_MM a uTi uTv i (jt_r uTu r k) ∧ jl_eq D (fun d => uTu ((r * 12 + k) * 3 + sr d)) g) →
      (∀ x, (x < i * 36 ∨ i * 36 + 36 ≤ x) → tt x = uTt x) → r0 (i * 4) = 0 → r1 (i * 4) = nI q → (∀ x, x ≠ i * 4 → r0 x = uR0 x ∧ r1 x = uR1 x) → post (uRl, uRw, uVl, uAl, uAc, uCs, uWd, uTc, uSa, uBl, uBs, uRA, uRS, uTu, uAR, uTn, uTi, uTv, uPl, uCv, uRe, tr, uTd, tt, uTk, uTs, uDp, uPy, uPc, r0, r1, uPo, uCa, uMi, uTg, uTa)) :
    wpX_fillTrie post (uRl, uRw, uVl, uAl, uAc, uCs, uWd, uTc, uSa, uBl, uBs, uRA, uRS, uTu, uAR, uTn, uTi, uTv, uPl, uCv, uRe, uTr, uTd, uTt, uTk, uTs, uDp, uPy, uPc, uR0, uR1, uPo, uCa, uMi, uTg, uTa) (nI i) := by
  have ci : (nI i).toNatClampNeg = i := jn_c (by omega)
  refine ⟨vp_in_nI hi (by omega), nm_r (e' := nI r) (by rw [ci]; exact eA) ⟨vp_in_nI hi (by omega), nm_r (e' := upd uTr i 0) (by rw [ci]) ⟨s + 1, ?_⟩⟩⟩
  exact xf_16 hi hD hr ha hS eA eT eS eD h01 hs K s (s + 1) 0 0 _ uTt (by omega) (by omega) (by omega) pk_us (fun x hx => pk_un hx) (fun a b _ h => absurd h (by omega))
    (fun g => ⟨fun ⟨k, h, _⟩ => absurd h (by omega), fun ⟨k, h, _⟩ => absurd h (by omega)⟩) (fun _ _ => rfl)
end XF
end
section
/-! X freezes: all tries -/
/-- trie j is laid out and filled -/
def jo_T (w a s r : Nat) (ti tv cv tu : Nat → Int32) (j : Nat) (tr td tt tk ts dp r0 r1 : Nat → Int32) : Prop :=
  ∃ (q : Nat) (sr : Nat → Nat), q ≤ 12 ∧ tr j = nI q ∧ td j = nI (jc_n (fun x => jo_HV a ti tv j (cv x)) w) ∧ jo_Pl w a ti tv cv j w tk ts dp ∧
    (∀ d, d < jc_n (fun x => jo_HV a ti tv j (cv x)) w → ts (j * 3 + d) = nI (sr d) ∧ sr d < 3) ∧
    (∀ x y, x < y → y < q → ¬ jl_lt (jc_n (fun x => jo_HV a ti tv j (cv x)) w) (jt_r tt j y) (jt_r tt j x)) ∧
    (∀ g, (∃ k, k < q ∧ jl_eq (jc_n (fun x => jo_HV a ti tv j (cv x)) w) (jt_r tt j k) g) ↔ ∃ k, k < s ∧ jo_MM a ti tv j (jt_r tu r k) ∧ jl_eq (jc_n (fun x => jo_HV a ti tv j (cv x)) w) (fun d => tu ((r * 12 + k) * 3 + sr d)) g) ∧
    r0 (j * 4) = 0 ∧ r1 (j * 4) = nI q
theorem jo_pf {w a j : Nat} {ti tv cv tk ts dp tk' ts' dp' : Nat → Int32} (ha : a ≤ 3) (hw : w ≤ 4) (hinj : ∀ c c', c < w → c' < w → cv c = cv c' → c = c') (h : jo_Pl w a ti tv cv j w tk ts dp)
    (e1 : ∀ x, j * 3 ≤ x → x < j * 3 + 3 → tk' x = tk x ∧ ts' x = ts x) (e2 : ∀ x, j * 4 ≤ x → x < j * 4 + 4 → dp' x = dp x) : jo_Pl w a ti tv cv j w tk' ts' dp' := by
  intro col h1 h2
  obtain ⟨a1, ⟨t, a2, a3⟩, a4⟩ := h col h1 h2
  have lt := jc_st (P := fun x => jo_HV a ti tv j (cv x)) h1 h2
  have dep := xo_dep (w := w) (a := a) (i := j) (ti := ti) (tv := tv) hinj
  obtain ⟨b1, b2⟩ := e1 (j * 3 + jc_n (fun x => jo_HV a ti tv j (cv x)) col) (by omega) (by omega)
  exact ⟨b1.trans a1, ⟨t, a2, b2.trans a3⟩, (e2 _ (by omega) (by omega)).trans a4⟩
theorem jo_Tf {w a s r j : Nat} {ti tv cv tu tr td tt tk ts dp r0 r1 tr' td' tt' tk' ts' dp' r0' r1' : Nat → Int32} (ha : a ≤ 3) (hw : w ≤ 4) (hinj : ∀ c c', c < w → c' < w → cv c = cv c' → c = c') (h : jo_T w a s r ti tv cv tu j tr td tt tk ts dp r0 r1)
    (e1 : ∀ x, j * 3 ≤ x → x < j * 3 + 3 → tk' x = tk x ∧ ts' x = ts x) (e2 : ∀ x, j * 4 ≤ x → x < j * 4 + 4 → dp' x = dp x) (e3 : ∀ x, j * 36 ≤ x → x < j * 36 + 36 → tt' x = tt x)
    (e4 : tr' j = tr j) (e5 : td' j = td j) (e6 : r0' (j * 4) = r0 (j * 4) ∧ r1' (j * 4) = r1 (j * 4)) : jo_T w a s r ti tv cv tu j tr' td' tt' tk' ts' dp' r0' r1' := by
  obtain ⟨q, sr, h1, h2, h3, h4, h5, h6, h7, h8, h9⟩ := h
  have dep := xo_dep (w := w) (a := a) (i := j) (ti := ti) (tv := tv) hinj
  have ro : ∀ k, k < q → jl_eq (jc_n (fun x => jo_HV a ti tv j (cv x)) w) (jt_r tt' j k) (jt_r tt j k) := fun k hk e he => e3 _ (by omega) (by omega)
  refine ⟨q, sr, h1, e4.trans h2, e5.trans h3, jo_pf ha hw hinj h4 e1 e2, fun d hd => ⟨((e1 _ (by omega) (by omega)).2).trans (h5 d hd).1, (h5 d hd).2⟩, fun x y l1 l2 l3 => h6 x y l1 l2 (jl_cg (ro y l2) (ro x (by omega)) l3), fun g => Iff.trans ⟨?_, ?_⟩ (h7 g), e6.1.trans h8, e6.2.trans h9⟩
  · rintro ⟨k, k1, k2⟩
    exact ⟨k, k1, jl_et (jl_es (ro k k1)) k2⟩
  · rintro ⟨k, k1, k2⟩
    exact ⟨k, k1, jl_et (ro k k1) k2⟩
/-- the players of every column, when i tries are laid out -/
def jo_P (w i : Nat) (A : Nat → Nat) (ti tv cv py pc : Nat → Int32) : Prop :=
  ∀ c, c < w → pc c = nI (jc_n (fun j => jo_HV (A j) ti tv j (cv c)) i) ∧ ∀ j, j < i → jo_HV (A j) ti tv j (cv c) → py (c * 5 + jc_n (fun j => jo_HV (A j) ti tv j (cv c)) j) = nI j
def jo_S (i : Nat) (sa : Int32) (tr : Nat → Int32) : Prop := (sa = 0 ∧ ∃ j, j < i ∧ tr j = 0) ∨ (sa = 1 ∧ ∀ j, j < i → ¬ tr j = 0)
section XP
variable {uRl uRw uVl uAl uAc uCs uWd uTc uSa uBl uBs : Int32} {uRA uRS uTu uAR uTn uTi uTv uPl uCv uRe uTr uTd uTt uTk uTs uDp uPy uPc uR0 uR1 uPo uCa : Nat → Int32} {uMi : Nat → Int64} {uTg uTa : Nat → Int32}
variable {n w : Nat} {A ρ S : Nat → Nat}
theorem xp_41 {post : Int32 → SX → Prop} (hn : n ≤ 5) (hw : w ≤ 4) (hA : ∀ i, i < n → uTn i = nI (A i) ∧ A i ≤ 3) (hρ : ∀ i, i < n → uAR i = nI (ρ i) ∧ ρ i < 4) (hS : ∀ i, i < n → uRS (ρ i) = nI (S i) ∧ S i ≤ 12)
    (h01 : ∀ o, uTi o = 0 ∨ uTi o = 1) (hinj : ∀ c c', c < w → c' < w → uCv c = uCv c' → c = c')
    (K : ∀ (sa : Int32) (tr td tt tk ts dp py pc r0 r1 : Nat → Int32), (∀ j, j < n → jo_T w (A j) (S j) (ρ j) uTi uTv uCv uTu j tr td tt tk ts dp r0 r1) → jo_P w n A uTi uTv uCv py pc → jo_S n sa tr →
      post 1 (uRl, uRw, uVl, uAl, uAc, 3, nI w, nI n, sa, uBl, uBs, uRA, uRS, uTu, uAR, uTn, uTi, uTv, uPl, uCv, uRe, tr, td, tt, tk, ts, dp, py, pc, r0, r1, uPo, uCa, uMi, uTg, uTa)) :
    ∀ d f i (sa : Int32) (tr td tt tk ts dp py pc r0 r1 : Nat → Int32), i + d = n → d < f → (∀ j, j < i → jo_T w (A j) (S j) (ρ j) uTi uTv uCv uTu j tr td tt tk ts dp r0 r1) → jo_P w i A uTi uTv uCv py pc → jo_S i sa tr →
      wX_open_41 post f (nI i) uRl uRw uVl uAl uAc uCs (nI w) (nI n) sa uBl uBs uRA uRS uTu uAR uTn uTi uTv uPl uCv uRe tr td tt tk ts dp py pc r0 r1 uPo uCa uMi uTg uTa := by
  intro d
  induction d with
  | zero =>
    intro f i sa tr td tt tk ts dp py pc r0 r1 g1 g2 g3 g4 g5
    obtain ⟨f, rfl⟩ : ∃ m, f = m + 1 := ⟨f - 1, by omega⟩
    have : i = n := by omega
    subst this
    rw [wX_open_41]
    exact br_t (nI_le (Nat.le_refl _) (by omega)) (K sa tr td tt tk ts dp py pc r0 r1 g3 g4 g5)
  | succ d ih =>
    intro f i sa tr td tt tk ts dp py pc r0 r1 g1 g2 g3 g4 g5
    obtain ⟨f, rfl⟩ : ∃ m, f = m + 1 := ⟨f - 1, by omega⟩
    rw [wX_open_41]
    have hi : i < n := by omega
    obtain ⟨eT, ha⟩ := hA i hi
    obtain ⟨eA, hr⟩ := hρ i hi
    obtain ⟨eS, hs⟩ := hS i hi
    have dep := xo_dep (w := w) (a := A i) (i := i) (ti := uTi) (tv := uTv) hinj
    refine br_f (nI_ge (by omega) (by omega)) (xo_plan (a := A i) (Q := fun c => jc_n (fun j => jo_HV (A j) uTi uTv j (uCv c)) i) hw (by omega) ha eT h01 hinj (fun c hc => ⟨(g4 c hc).1, Nat.le_trans (jc_le _ _) (by omega)⟩) (fun tk' ts' dp' py' pc' a1 a2 a3 a4 a5 a6 => ?_))
    have src : ∀ x, x < jc_n (fun x => jo_HV (A i) uTi uTv i (uCv x)) w → ts' (i * 3 + x) = nI (ts' (i * 3 + x)).toNatClampNeg ∧ (ts' (i * 3 + x)).toNatClampNeg < 3 := fun x hx => by
      obtain ⟨col, c1, c2, c3⟩ := jc_at hx
      obtain ⟨_, ⟨t, t1, t2⟩, _⟩ := a1 col c1 c2
      rw [c3] at t2
      have := t1.1
      rw [t2, jn_c (by omega)]
      exact ⟨rfl, by omega⟩
    refine xf_fill (D := jc_n (fun x => jo_HV (A i) uTi uTv i (uCv x)) w) (sr := fun x => (ts' (i * 3 + x)).toNatClampNeg) (by omega) (by omega) hr ha hs eA eT eS pk_us h01 src (fun q tr' tt' r0' r1' b1 b2 b3 b4 b5 b6 b7 b8 b9 => ?_)
    have T' : ∀ j, j < i + 1 → jo_T w (A j) (S j) (ρ j) uTi uTv uCv uTu j tr' (upd td i (nI (jc_n (fun x => jo_HV (A i) uTi uTv i (uCv x)) w))) tt' tk' ts' dp' r0' r1' := fun j hj => by
      by_cases z : j = i
      · subst z
        exact ⟨q, _, b1, b2, pk_us, a1, src, b4, b5, b7, b8⟩
      · exact jo_Tf (hA j (by omega)).2 hw hinj (g3 j (by omega)) (fun x x1 x2 => a2 x (by omega)) (fun x x1 x2 => a3 x (by omega)) (fun x x1 x2 => b6 x (by omega)) (b3 j z) (pk_un z) (b9 _ (by omega))
    have P' : jo_P w (i + 1) A uTi uTv uCv py' pc' := fun c hc => by
      have le := jc_le (fun j => jo_HV (A j) uTi uTv j (uCv c)) i
      have old : ∀ j, j < i → jo_HV (A j) uTi uTv j (uCv c) → py' (c * 5 + jc_n (fun j => jo_HV (A j) uTi uTv j (uCv c)) j) = nI j := fun j hj hv => by
        have lt := jc_st (P := fun j => jo_HV (A j) uTi uTv j (uCv c)) hj hv
        rw [a6 _ (fun c' hc' e => by
          have le' := jc_le (fun j => jo_HV (A j) uTi uTv j (uCv c')) i
          have : c = c' := by omega
          subst this
          omega)]
        exact (g4 c hc).2 j hj hv
      rcases Classical.em (jo_HV (A i) uTi uTv i (uCv c)) with z | z
      · obtain ⟨p1, p2⟩ := a4 c hc z
        refine ⟨by simp only [jc_n]; rw [jc_bt z]; exact p1, fun j hj hv => ?_⟩
        by_cases y : j = i
        · subst y; exact p2
        · exact old j (by omega) hv
      · refine ⟨by simp only [jc_n]; rw [jc_bf z, Nat.add_zero]; exact a5 c hc z, fun j hj hv => ?_⟩
        by_cases y : j = i
        · subst y; exact absurd hv z
        · exact old j (by omega) hv
    have tro : ∀ j, j < i → tr' j = tr j := fun j hj => b3 j (by omega)
    have ci : (nI i).toNatClampNeg = i := jn_c (by omega)
    refine ⟨vp_in_nI (by omega) (by omega), br_c (fun z => nm_r (nI_1 i) ?_) (fun z => nm_r (nI_1 i) ?_)⟩
    · rw [ci] at z
      exact ih f (i + 1) 0 tr' _ tt' tk' ts' dp' py' pc' r0' r1' (by omega) (by omega) T' P' (Or.inl ⟨rfl, i, by omega, z⟩)
    · rw [ci] at z
      refine ih f (i + 1) sa tr' _ tt' tk' ts' dp' py' pc' r0' r1' (by omega) (by omega) T' P' ?_
      rcases g5 with ⟨e, j, h1, h2⟩ | ⟨e, h⟩
      · exact Or.inl ⟨e, j, by omega, (tro j h1).trans h2⟩
      · refine Or.inr ⟨e, fun j hj y => ?_⟩
        by_cases x : j = i
        · subst x; exact z y
        · exact h j (by omega) ((tro j (by omega)).symm.trans y)
end XP
end
section
/-! Y freezes -/
section YO
variable {vRl vRw vVl vAl vAc vCa vWd vSt : Int32} {vAy vSz vDa vRe vTs : Nat → Int32} {vTm : Nat → Int64} {vPl vCz vCd vCr : Nat → Int32} {vCt : Nat → Int64} {vCo vDo vDc vVe : Nat → Int32}
theorem yo_24 {post : Int32 → SY → Prop} (K : ∀ a : Nat → Int32, (∀ x, x < 4 → a x = vSz x) → ∃ n49 : Nat, wY_open_49 post vRl vRw vVl vAl vAc vCa vWd vSt n49 0 vAy vSz vDa vRe vTs vTm vPl a vCd vCr vCt vCo vDo vDc vVe) :
    ∀ d f p (a : Nat → Int32), p + d = 4 → d < f → (∀ x, x < p → a x = vSz x) → wY_open_24 post vRl vRw vVl vAl vAc vCa vWd vSt f (nI p) vAy vSz vDa vRe vTs vTm vPl a vCd vCr vCt vCo vDo vDc vVe := by
  intro d
  induction d with
  | zero =>
    intro f p a g1 g2 g3
    obtain ⟨f, rfl⟩ : ∃ m, f = m + 1 := ⟨f - 1, by omega⟩
    have : p = 4 := by omega
    subst this
    rw [wY_open_24]
    exact br_t (nI_le (a := 4) (b := 4) (Nat.le_refl _) (by omega)) (K a g3)
  | succ d ih =>
    intro f p a g1 g2 g3
    obtain ⟨f, rfl⟩ : ∃ m, f = m + 1 := ⟨f - 1, by omega⟩
    rw [wY_open_24]
    refine br_f (nI_ge (b := 4) (by omega) (by omega)) ⟨vp_in_nI (by omega) (by omega), vp_in_nI (by omega) (by omega), nm_r (e' := upd a p (vSz p)) (by rw [jn_c (by omega)]) (nm_r (nI_1 p) (ih f (p + 1) _ (by omega) (by omega) (fun x hx => ?_)))⟩
    by_cases z : x = p
    · subst z; exact pk_us
    · rw [pk_un z]; exact g3 x (by omega)
theorem yo_49 {post : Int32 → SY → Prop} (K : ∀ a : Nat → Int32, (∀ x, x < 144 → a x = vDa x) → ∃ n76 : Nat, wY_open_76 post vRl vRw vVl vAl vAc vCa vWd vSt n76 0 vAy vSz vDa vRe vTs vTm vPl vCz a vCr vCt vCo vDo vDc vVe) :
    ∀ d f p (a : Nat → Int32), p + d = 144 → d < f → (∀ x, x < p → a x = vDa x) → wY_open_49 post vRl vRw vVl vAl vAc vCa vWd vSt f (nI p) vAy vSz vDa vRe vTs vTm vPl vCz a vCr vCt vCo vDo vDc vVe := by
  intro d
  induction d with
  | zero =>
    intro f p a g1 g2 g3
    obtain ⟨f, rfl⟩ : ∃ m, f = m + 1 := ⟨f - 1, by omega⟩
    have : p = 144 := by omega
    subst this
    rw [wY_open_49]
    exact br_t (nI_le (a := 144) (b := 144) (Nat.le_refl _) (by omega)) (K a g3)
  | succ d ih =>
    intro f p a g1 g2 g3
    obtain ⟨f, rfl⟩ : ∃ m, f = m + 1 := ⟨f - 1, by omega⟩
    rw [wY_open_49]
    refine br_f (nI_ge (b := 144) (by omega) (by omega)) ⟨vp_in_nI (by omega) (by omega), vp_in_nI (by omega) (by omega), nm_r (e' := upd a p (vDa p)) (by rw [jn_c (by omega)]) (nm_r (nI_1 p) (ih f (p + 1) _ (by omega) (by omega) (fun x hx => ?_)))⟩
    by_cases z : x = p
    · subst z; exact pk_us
    · rw [pk_un z]; exact g3 x (by omega)
theorem yo_76 {post : Int32 → SY → Prop} (K : ∀ a : Nat → Int32, (∀ x, x < 5 → a x = vRe x) → ∃ n101 : Nat, wY_open_101 post vRl vRw vVl vAl vAc vCa vWd vSt n101 0 vAy vSz vDa vRe vTs vTm vPl vCz vCd a vCt vCo vDo vDc vVe) :
    ∀ d f p (a : Nat → Int32), p + d = 5 → d < f → (∀ x, x < p → a x = vRe x) → wY_open_76 post vRl vRw vVl vAl vAc vCa vWd vSt f (nI p) vAy vSz vDa vRe vTs vTm vPl vCz vCd a vCt vCo vDo vDc vVe := by
  intro d
  induction d with
  | zero =>
    intro f p a g1 g2 g3
    obtain ⟨f, rfl⟩ : ∃ m, f = m + 1 := ⟨f - 1, by omega⟩
    have : p = 5 := by omega
    subst this
    rw [wY_open_76]
    exact br_t (nI_le (a := 5) (b := 5) (Nat.le_refl _) (by omega)) (K a g3)
  | succ d ih =>
    intro f p a g1 g2 g3
    obtain ⟨f, rfl⟩ : ∃ m, f = m + 1 := ⟨f - 1, by omega⟩
    rw [wY_open_76]
    refine br_f (nI_ge (b := 5) (by omega) (by omega)) ⟨vp_in_nI (by omega) (by omega), vp_in_nI (by omega) (by omega), nm_r (e' := upd a p (vRe p)) (by rw [jn_c (by omega)]) (nm_r (nI_1 p) (ih f (p + 1) _ (by omega) (by omega) (fun x hx => ?_)))⟩
    by_cases z : x = p
    · subst z; exact pk_us
    · rw [pk_un z]; exact g3 x (by omega)
theorem yo_101 {post : Int32 → SY → Prop} (K : ∀ a : Nat → Int64, (∀ x, x < 15 → a x = vTm x) → ∃ n140 : Nat, wY_open_140 post vRl vRw vVl vAl vAc vAc 0 vSt n140 0 vAy vSz vDa vRe vTs vTm vPl vCz vCd vCr a vCo vDo vDc vVe) :
    ∀ d f p (a : Nat → Int64), p + d = 15 → d < f → (∀ x, x < p → a x = vTm x) → wY_open_101 post vRl vRw vVl vAl vAc vCa vWd vSt f (nI p) vAy vSz vDa vRe vTs vTm vPl vCz vCd vCr a vCo vDo vDc vVe := by
  intro d
  induction d with
  | zero =>
    intro f p a g1 g2 g3
    obtain ⟨f, rfl⟩ : ∃ m, f = m + 1 := ⟨f - 1, by omega⟩
    have : p = 15 := by omega
    subst this
    rw [wY_open_101]
    exact br_t (nI_le (a := 15) (b := 15) (Nat.le_refl _) (by omega)) (K a g3)
  | succ d ih =>
    intro f p a g1 g2 g3
    obtain ⟨f, rfl⟩ : ∃ m, f = m + 1 := ⟨f - 1, by omega⟩
    rw [wY_open_101]
    refine br_f (nI_ge (b := 15) (by omega) (by omega)) ⟨vp_in_nI (by omega) (by omega), vp_in_nI (by omega) (by omega), nm_r (e' := vp_updL a p (vTm p)) (by rw [jn_c (by omega)]) (nm_r (nI_1 p) (ih f (p + 1) _ (by omega) (by omega) (fun x hx => ?_)))⟩
    by_cases z : x = p
    · subst z; exact pk_uLs
    · rw [pk_uLn z]; exact g3 x (by omega)
theorem yo_140 {post : Int32 → SY → Prop} (K : ∀ om oc : Nat → Int32, (∀ x, x < 4 → oc x = nI 1) → ∃ n170 : Nat, wY_open_170 post n170 0 vRl vRw vVl vAl vAc vCa vWd vSt vAy vSz vDa vRe vTs vTm vPl vCz vCd vCr vCt vCo om oc vVe) :
    ∀ d f p (om oc : Nat → Int32), p + d = 4 → d < f → (∀ x, x < p → oc x = nI 1) → wY_open_140 post vRl vRw vVl vAl vAc vCa vWd vSt f (nI p) vAy vSz vDa vRe vTs vTm vPl vCz vCd vCr vCt vCo om oc vVe := by
  intro d
  induction d with
  | zero =>
    intro f p om oc g1 g2 g3
    obtain ⟨f, rfl⟩ : ∃ m, f = m + 1 := ⟨f - 1, by omega⟩
    have : p = 4 := by omega
    subst this
    rw [wY_open_140]
    exact br_t (nI_le (a := 4) (b := 4) (Nat.le_refl _) (by omega)) (K om oc g3)
  | succ d ih =>
    intro f p om oc g1 g2 g3
    obtain ⟨f, rfl⟩ : ∃ m, f = m + 1 := ⟨f - 1, by omega⟩
    rw [wY_open_140]
    refine br_f (nI_ge (b := 4) (by omega) (by omega)) ⟨by rw [jx_120]; exact vp_in_nI (by omega) (by omega), nm_e ⟨vp_in_nI (by omega) (by omega), nm_r (e' := upd oc p (nI 1)) (by rw [jn_c (by omega)]; rfl) (nm_r (nI_1 p) (ih f (p + 1) _ _ (by omega) (by omega) (fun x hx => ?_)))⟩⟩
    by_cases z : x = p
    · subst z; exact pk_us
    · rw [pk_un z]; exact g3 x (by omega)
variable {n : Nat} {A ρ S : Nat → Nat}
theorem yo_fc12 {post J : Int32 → Prop} {v : Int32} {i a r : Nat} (hi : i < 5) (hr : r < 4) (ha : a ≤ 3) (e1 : vCr i = nI r) (e2 : vAy r = nI a)
    (K1 : ∀ j, j < a → vCt (i * 3 + j) = 4294967296 + v.toInt64 → post (nI (i * 3 + j))) (K0 : (∀ j, j < a → ¬ vCt (i * 3 + j) = 4294967296 + v.toInt64) → J (nI (i + 1))) :
    ∀ d f j, j + d = a → d < f → (∀ j', j' < j → ¬ vCt (i * 3 + j') = 4294967296 + v.toInt64) → wY_firstCell_12 post J v (nI i) vRl vRw vVl vAl vAc vCa vWd vSt vAy vSz vDa vRe vTs vTm vPl vCz vCd vCr vCt vCo vDo vDc vVe f (nI j) := by
  have ci : (nI i).toNatClampNeg = i := jn_c (by omega)
  have cr : (nI r).toNatClampNeg = r := jn_c (by omega)
  have ii : vp_in (nI i) 5 := vp_in_nI hi (by omega)
  have ir : vp_in (nI r) 4 := vp_in_nI hr (by omega)
  intro d
  induction d with
  | zero =>
    intro f j g1 g2 g3
    obtain ⟨f, rfl⟩ : ∃ m, f = m + 1 := ⟨f - 1, by omega⟩
    have : j = a := by omega
    subst this
    rw [wY_firstCell_12, ci, e1, cr, e2]
    exact ⟨ii, ir, br_t (nI_le (Nat.le_refl _) (by omega)) (nm_r (nI_1 i) (K0 g3))⟩
  | succ d ih =>
    intro f j g1 g2 g3
    obtain ⟨f, rfl⟩ : ∃ m, f = m + 1 := ⟨f - 1, by omega⟩
    have c3 : (nI (i * 3 + j)).toNatClampNeg = i * 3 + j := jn_c (by omega)
    rw [wY_firstCell_12]
    dsimp only
    rw [ci, e1, cr, e2, jx_3, c3]
    refine ⟨ii, ir, br_f (nI_ge (by omega) (by omega)) ⟨vp_in_nI (by omega) (by omega), br_c (fun z => K1 j (by omega) z) (fun z => nm_r (nI_1 j) (ih f (j + 1) (by omega) (by omega) (fun j' hj' => ?_)))⟩⟩
    rcases Nat.lt_or_ge j' j with y | y
    · exact g3 j' y
    · have : j' = j := by omega
      subst this; exact z
theorem yo_fc2 {post : Int32 → Prop} {v : Int32} (hn : n ≤ 5) (hC : ∀ i, i < n → vCr i = nI (ρ i) ∧ ρ i < 4 ∧ vAy (ρ i) = nI (A i) ∧ A i ≤ 3)
    (K1 : ∀ i j, i < n → j < A i → vCt (i * 3 + j) = 4294967296 + v.toInt64 → post (nI (i * 3 + j))) (K0 : (∀ i j, i < n → j < A i → ¬ vCt (i * 3 + j) = 4294967296 + v.toInt64) → post (-1)) :
    ∀ d f i, i + d = n → d < f → (∀ i' j, i' < i → j < A i' → ¬ vCt (i' * 3 + j) = 4294967296 + v.toInt64) → wY_firstCell_2 post v vRl vRw vVl vAl vAc (nI n) vWd vSt vAy vSz vDa vRe vTs vTm vPl vCz vCd vCr vCt vCo vDo vDc vVe f (nI i) := by
  intro d
  induction d with
  | zero =>
    intro f i g1 g2 g3
    obtain ⟨f, rfl⟩ : ∃ m, f = m + 1 := ⟨f - 1, by omega⟩
    have : i = n := by omega
    subst this
    rw [wY_firstCell_2]
    exact br_t (nI_le (Nat.le_refl _) (by omega)) (K0 g3)
  | succ d ih =>
    intro f i g1 g2 g3
    obtain ⟨f, rfl⟩ : ∃ m, f = m + 1 := ⟨f - 1, by omega⟩
    rw [wY_firstCell_2]
    obtain ⟨a1, a2, a3, a4⟩ := hC i (by omega)
    refine br_f (nI_ge (by omega) (by omega)) ⟨A i + 1, yo_fc12 (by omega) a2 a4 a1 a3 (fun j hj => K1 i j (by omega) hj) (fun h => ih f (i + 1) (by omega) (by omega) (fun i' j h1 h2 => ?_)) (A i) (A i + 1) 0 (by omega) (by omega) (fun j h => absurd h (by omega))⟩
    rcases Nat.lt_or_ge i' i with y | y
    · exact g3 i' j y h2
    · have : i' = i := by omega
      subst this; exact h j h2
theorem yo_fc {post : Int32 → Prop} {v : Int32} (hn : n ≤ 5) (hC : ∀ i, i < n → vCr i = nI (ρ i) ∧ ρ i < 4 ∧ vAy (ρ i) = nI (A i) ∧ A i ≤ 3)
    (K1 : ∀ i j, i < n → j < A i → vCt (i * 3 + j) = 4294967296 + v.toInt64 → post (nI (i * 3 + j))) (K0 : (∀ i j, i < n → j < A i → ¬ vCt (i * 3 + j) = 4294967296 + v.toInt64) → post (-1)) :
    wpY_firstCell post (vRl, vRw, vVl, vAl, vAc, nI n, vWd, vSt, vAy, vSz, vDa, vRe, vTs, vTm, vPl, vCz, vCd, vCr, vCt, vCo, vDo, vDc, vVe) v :=
  ⟨n + 1, yo_fc2 hn hC K1 K0 n (n + 1) 0 (by omega) (by omega) (fun i j h => absurd h (by omega))⟩
theorem yo_56 {post : SY → Prop} {J : _} {x2 x : Int32} {c r k N : Nat} (hc : c < 4) (hN : N < 12) (eN : vDc c = nI N)
    (K1 : (∃ m, m < N ∧ vDo (c * 12 + m) = x) → J (nI (k + 1)) vAy vSz vDa vRe vTs vTm vPl vCz vCd vCr vCt vCo vDo vDc vVe) (K0 : (∀ m, m < N → ¬ vDo (c * 12 + m) = x) → J (nI (k + 1)) vAy vSz vDa vRe vTs vTm vPl vCz vCd vCr vCt vCo (upd vDo (c * 12 + N) x) (upd vDc c (nI (N + 1))) vVe) :
    ∀ d f m x6, m + d = N → d < f → ((x6 = 0 ∧ ∀ m', m' < m → ¬ vDo (c * 12 + m') = x) ∨ (x6 = 1 ∧ ∃ m, m < N ∧ vDo (c * 12 + m) = x)) → wY_collect_56 post J (nI c) x2 (nI r) (nI k) x vRl vRw vVl vAl vAc vCa vWd vSt vAy vSz vDa vRe vTs vTm vPl vCz vCd vCr vCt vCo vDo vDc vVe f x6 (nI m) := by
  have cc : (nI c).toNatClampNeg = c := jn_c (by omega)
  have ic : vp_in (nI c) 4 := vp_in_nI hc (by omega)
  intro d
  induction d with
  | zero =>
    intro f m x6 g1 g2 g3
    obtain ⟨f, rfl⟩ : ∃ m, f = m + 1 := ⟨f - 1, by omega⟩
    have : m = N := by omega
    subst this
    have c12 : (nI (c * 12 + m)).toNatClampNeg = c * 12 + m := jn_c (by omega)
    rw [wY_collect_56]
    dsimp only
    rw [cc, eN, jx_12, c12]
    refine ⟨ic, br_t (nI_le (Nat.le_refl _) (by omega)) ?_⟩
    rcases g3 with ⟨e, h⟩ | ⟨e, h⟩
    · exact br_t e ⟨ic, vp_in_nI (by omega) (by omega), nm_e ⟨ic, ic, nm_r (e' := upd vDc c (nI (m + 1))) (by rw [nI_1]) (nm_r (nI_1 k) (K0 h))⟩⟩
    · exact br_f (by rw [e]; decide) (nm_r (nI_1 k) (K1 h))
  | succ d ih =>
    intro f m x6 g1 g2 g3
    obtain ⟨f, rfl⟩ : ∃ m, f = m + 1 := ⟨f - 1, by omega⟩
    have c12 : (nI (c * 12 + m)).toNatClampNeg = c * 12 + m := jn_c (by omega)
    rw [wY_collect_56]
    dsimp only
    rw [cc, eN, jx_12 c m, c12]
    refine ⟨ic, br_f (nI_ge (by omega) (by omega)) ⟨vp_in_nI (by omega) (by omega), br_c (fun z => nm_r (nI_1 m) (ih f (m + 1) 1 (by omega) (by omega) (Or.inr ⟨rfl, m, by omega, z⟩))) (fun z => nm_r (nI_1 m) (ih f (m + 1) x6 (by omega) (by omega) ?_))⟩⟩
    rcases g3 with ⟨e, h⟩ | ⟨e, h⟩
    · refine Or.inl ⟨e, fun m' hm' => ?_⟩
      rcases Nat.lt_or_ge m' m with y | y
      · exact h m' y
      · have : m' = m := by omega
        subst this; exact z
    · exact Or.inr ⟨e, h⟩
theorem yo_19 {post : SY → Prop} {c i j r s : Nat} (hc : c < 4) (hi : i < 5) (hj : j < 3) (hr : r < 4) (hs : s ≤ 12) (eS : vCz r = nI s)
    (K : ∀ (N : Nat) (om oc : Nat → Int32), N ≤ 12 → oc c = nI N → (∀ x, x ≠ c → oc x = vDc x) → (∀ x, (x < c * 12 ∨ c * 12 + 12 ≤ x) → om x = vDo x) → (∀ a b, a < b → b < N → ¬ om (c * 12 + a) = om (c * 12 + b)) →
      (∀ k, k < s → ∃ m, m < N ∧ om (c * 12 + m) = vCd ((r * 12 + k) * 3 + j)) → post (vRl, vRw, vVl, vAl, vAc, vCa, vWd, vSt, vAy, vSz, vDa, vRe, vTs, vTm, vPl, vCz, vCd, vCr, vCt, vCo, om, oc, vVe)) :
    ∀ d f k N (om oc : Nat → Int32), k + d = s → d < f → N ≤ k → oc c = nI N → (∀ x, x ≠ c → oc x = vDc x) → (∀ x, (x < c * 12 ∨ c * 12 + 12 ≤ x) → om x = vDo x) → (∀ a b, a < b → b < N → ¬ om (c * 12 + a) = om (c * 12 + b)) →
      (∀ k', k' < k → ∃ m, m < N ∧ om (c * 12 + m) = vCd ((r * 12 + k') * 3 + j)) →
      wY_collect_19 post (nI c) (nI (i * 3 + j)) (nI r) vRl vRw vVl vAl vAc vCa vWd vSt f (nI k) vAy vSz vDa vRe vTs vTm vPl vCz vCd vCr vCt vCo om oc vVe := by
  have cr : (nI r).toNatClampNeg = r := jn_c (by omega)
  have ir : vp_in (nI r) 4 := vp_in_nI hr (by omega)
  have ej : nI (i * 3 + j) - nI (i * 3 + j) / 3 * 3 = nI j := (pk_rem (d := 3) (by omega) (by omega) (by omega)).trans (congrArg nI (by omega))
  intro d
  induction d with
  | zero =>
    intro f k N om oc g1 g2 g3 g4 g5 g6 g7 g8
    obtain ⟨f, rfl⟩ : ∃ m, f = m + 1 := ⟨f - 1, by omega⟩
    have : k = s := by omega
    subst this
    rw [wY_collect_19]
    dsimp only
    rw [cr, eS]
    exact ⟨ir, br_t (nI_le (Nat.le_refl _) (by omega)) (K N om oc (by omega) g4 g5 g6 g7 g8)⟩
  | succ d ih =>
    intro f k N om oc g1 g2 g3 g4 g5 g6 g7 g8
    obtain ⟨f, rfl⟩ : ∃ m, f = m + 1 := ⟨f - 1, by omega⟩
    have cx : (nI ((r * 12 + k) * 3 + j)).toNatClampNeg = (r * 12 + k) * 3 + j := jn_c (by omega)
    rw [wY_collect_19]
    dsimp only
    rw [cr, eS, ej, jx_c, cx]
    refine ⟨ir, br_f (nI_ge (by omega) (by omega)) ⟨by decide, vp_in_nI (by omega) (by omega), nm_e ⟨N + 1, yo_56 hc (by omega) g4 (fun h => ?_) (fun h => ?_) N (N + 1) 0 0 (by omega) (by omega) (Or.inl ⟨rfl, fun m h => absurd h (by omega)⟩)⟩⟩⟩
    · refine ih f (k + 1) N om oc (by omega) (by omega) (by omega) g4 g5 g6 g7 (fun k' hk' => ?_)
      by_cases z : k' = k
      · subst z; exact h
      · exact g8 k' (by omega)
    · refine ih f (k + 1) (N + 1) _ _ (by omega) (by omega) (by omega) pk_us (fun x hx => ?_) (fun x hx => ?_) (fun a b h1 h2 => ?_) (fun k' hk' => ?_)
      · rw [pk_un hx]; exact g5 x hx
      · rw [pk_un (by omega)]; exact g6 x hx
      · rw [pk_un (by omega)]
        by_cases z : b = N
        · subst z; rw [pk_us]; exact h a h1
        · rw [pk_un (by omega)]; exact g7 a b h1 (by omega)
      · by_cases z : k' = k
        · subst z; exact ⟨N, by omega, pk_us⟩
        · obtain ⟨m, m1, m2⟩ := g8 k' (by omega)
          exact ⟨m, by omega, by rw [pk_un (by omega)]; exact m2⟩
theorem yo_col {post : SY → Prop} {c i j r s : Nat} (hc : c < 4) (hi : i < 5) (hj : j < 3) (hr : r < 4) (hs : s ≤ 12) (eR : vCr i = nI r) (eS : vCz r = nI s)
    (K : ∀ (N : Nat) (om oc : Nat → Int32), N ≤ 12 → oc c = nI N → (∀ x, x ≠ c → oc x = vDc x) → (∀ x, (x < c * 12 ∨ c * 12 + 12 ≤ x) → om x = vDo x) → (∀ a b, a < b → b < N → ¬ om (c * 12 + a) = om (c * 12 + b)) →
      (∀ k, k < s → ∃ m, m < N ∧ om (c * 12 + m) = vCd ((r * 12 + k) * 3 + j)) → post (vRl, vRw, vVl, vAl, vAc, vCa, vWd, vSt, vAy, vSz, vDa, vRe, vTs, vTm, vPl, vCz, vCd, vCr, vCt, vCo, om, oc, vVe)) :
    wpY_collect post (vRl, vRw, vVl, vAl, vAc, vCa, vWd, vSt, vAy, vSz, vDa, vRe, vTs, vTm, vPl, vCz, vCd, vCr, vCt, vCo, vDo, vDc, vVe) (nI c) (nI (i * 3 + j)) := by
  have ei : nI (i * 3 + j) / 3 = nI i := (pk_div (d := 3) (by omega) (by omega) (by omega)).trans (congrArg nI (by omega))
  have ci : (nI (i * 3 + j) / 3).toNatClampNeg = i := by rw [ei]; exact jn_c (by omega)
  refine ⟨by decide, by rw [ei]; exact vp_in_nI hi (by omega), nm_r (e' := nI r) (by rw [ci]; exact eR) ⟨vp_in_nI hc (by omega), nm_r (e' := upd vDc c 0) (by rw [jn_c (by omega)]) ⟨s + 1, ?_⟩⟩⟩
  exact yo_19 hc hi hj hr hs eS K s (s + 1) 0 0 vDo _ (by omega) (by omega) (by omega) pk_us (fun x hx => pk_un hx) (fun _ _ => rfl) (fun a b _ h => absurd h (by omega)) (fun k h => absurd h (by omega))
/-- the domain of column c -/
def jo_D (n : Nat) (A ρ S : Nat → Nat) (cd : Nat → Int32) (ct : Nat → Int64) (co om oc : Nat → Int32) (c : Nat) : Prop :=
  ∃ N, N ≤ 12 ∧ oc c = nI N ∧ (∀ a b, a < b → b < N → ¬ om (c * 12 + a) = om (c * 12 + b)) ∧ ∃ i j, i < n ∧ j < A i ∧ ct (i * 3 + j) = 4294967296 + (co c).toInt64 ∧ ∀ k, k < S i → ∃ m, m < N ∧ om (c * 12 + m) = cd ((ρ i * 12 + k) * 3 + j)
theorem yo_170 {post : Int32 → SY → Prop} {vn : Nat} {U : Nat → Prop} (hv : vn ≤ 4) (hn : n ≤ 5) (hC : ∀ i, i < n → vCr i = nI (ρ i) ∧ ρ i < 4 ∧ vAy (ρ i) = nI (A i) ∧ A i ≤ 3) (hS : ∀ i, i < n → vCz (ρ i) = nI (S i) ∧ S i ≤ 12)
    (hU : ∀ p, p < vn → (U p ↔ ∃ i j, i < n ∧ j < A i ∧ vCt (i * 3 + j) = 4294967296 + (vPl p).toInt64))
    (K : ∀ co om oc : Nat → Int32, (∀ p, p < vn → U p → co (jc_n U p) = vPl p) → (∀ c, c < jc_n U vn → jo_D n A ρ S vCd vCt co om oc c) → (∀ c, jc_n U vn ≤ c → c < 4 → oc c = nI 1) →
      post 1 (vRl, vRw, nI vn, vAl, vAc, nI n, nI (jc_n U vn), 3, vAy, vSz, vDa, vRe, vTs, vTm, vPl, vCz, vCd, vCr, vCt, co, om, oc, vVe)) :
    ∀ d f p (co om oc : Nat → Int32), p + d = vn → d < f → (∀ p', p' < p → U p' → co (jc_n U p') = vPl p') → (∀ c, c < jc_n U p → jo_D n A ρ S vCd vCt co om oc c) → (∀ c, jc_n U p ≤ c → c < 4 → oc c = nI 1) →
      wY_open_170 post f (nI p) vRl vRw (nI vn) vAl vAc (nI n) (nI (jc_n U p)) vSt vAy vSz vDa vRe vTs vTm vPl vCz vCd vCr vCt co om oc vVe := by
  intro d
  induction d with
  | zero =>
    intro f p co om oc g1 g2 g3 g4 g5
    obtain ⟨f, rfl⟩ : ∃ m, f = m + 1 := ⟨f - 1, by omega⟩
    have : p = vn := by omega
    subst this
    rw [wY_open_170]
    exact br_t (nI_le (Nat.le_refl _) (by omega)) (K co om oc g3 g4 g5)
  | succ d ih =>
    intro f p co om oc g1 g2 g3 g4 g5
    obtain ⟨f, rfl⟩ : ∃ m, f = m + 1 := ⟨f - 1, by omega⟩
    have cp : (nI p).toNatClampNeg = p := jn_c (by omega)
    have ip : vp_in (nI p) 4 := vp_in_nI (by omega) (by omega)
    have le := jc_le U p
    obtain ⟨c, hc⟩ : ∃ c, c = jc_n U p := ⟨_, rfl⟩
    have cc : (nI c).toNatClampNeg = c := jn_c (by omega)
    rw [wY_open_170]
    dsimp only
    rw [cp, ← hc, cc]
    refine br_f (nI_ge (by omega) (by omega)) ⟨ip, yo_fc hn hC (fun i j hi hj e => ?_) (fun h => ?_)⟩
    · have u : U p := (hU p (by omega)).mpr ⟨i, j, hi, hj, e⟩
      have e1 : jc_n U (p + 1) = c + 1 := by simp only [jc_n]; rw [jc_bt u, ← hc]
      obtain ⟨a1, a2, a3, a4⟩ := hC i hi
      obtain ⟨b1, b2⟩ := hS i hi
      refine br_f (nI_pos (by omega)) ⟨ip, vp_in_nI (by omega) (by omega), nm_e (yo_col (by omega) (by omega) (by omega) a2 b2 a1 b1 (fun N om' oc' k1 k2 k3 k4 k5 k6 => nm_r (nI_1 c) (nm_r (nI_1 p) ?_)))⟩
      have h := ih f (p + 1) (upd co c (vPl p)) om' oc' (by omega) (by omega) (fun p' hp' u' => ?_) (fun c' hc' => ?_) (fun c' h1 h2 => ?_)
      · rw [e1] at h; exact h
      · by_cases z : p' = p
        · subst z; rw [← hc]; exact pk_us
        · have lt := jc_st (P := U) (a := p') (b := p) (by omega) u'
          rw [pk_un (by omega)]; exact g3 p' (by omega) u'
      · rw [e1] at hc'
        by_cases z : c' = c
        · subst z
          exact ⟨N, k1, k2, k5, i, j, hi, hj, by rw [pk_us]; exact e, k6⟩
        · obtain ⟨N', q1, q2, q3, i', j', q4, q5, q6, q7⟩ := g4 c' (by omega)
          refine ⟨N', q1, (k3 c' z).trans q2, fun a b h1 h2 => ?_, i', j', q4, q5, by rw [pk_un z]; exact q6, fun k hk => ?_⟩
          · rw [k4 _ (by omega), k4 _ (by omega)]; exact q3 a b h1 h2
          · obtain ⟨m, m1, m2⟩ := q7 k hk
            exact ⟨m, m1, (k4 _ (by omega)).trans m2⟩
      · rw [e1] at h1
        exact (k3 c' (by omega)).trans (g5 c' (by omega) h2)
    · have u : ¬ U p := fun y => by
        obtain ⟨i, j, h1, h2, h3⟩ := (hU p (by omega)).mp y
        exact h i j h1 h2 h3
      have e1 : jc_n U (p + 1) = c := by simp only [jc_n]; rw [jc_bf u, ← hc, Nat.add_zero]
      have h := ih f (p + 1) co om oc (by omega) (by omega) (fun p' hp' u' => ?_) (fun c' hc' => g4 c' (by omega)) (fun c' h1 h2 => g5 c' (by omega) h2)
      · rw [e1] at h
        exact br_t (by decide) (nm_r (nI_1 p) h)
      · by_cases z : p' = p
        · subst z; exact absurd u' u
        · exact g3 p' (by omega) u'
end YO
end
section
/-! freezing: what the walks leave is the relation -/
section OP
variable {n w : Nat} {A ρ S : Nat → Nat} {sa : Int32} {ti tv cv tu tr td tt tk ts dp py pc r0 r1 : Nat → Int32}
theorem op_C {a s r j d : Nat} (h : jo_T w a s r ti tv cv tu j tr td tt tk ts dp r0 r1) (hw : w ≤ 4) (hd : d < jc_n (fun x => jo_HV a ti tv j (cv x)) w) :
    ∃ col, col < w ∧ jo_HV a ti tv j (cv col) ∧ jc_n (fun x => jo_HV a ti tv j (cv x)) col = d ∧ tk (j * 3 + d) = nI col ∧ (tk (j * 3 + d)).toNatClampNeg = col ∧ dp (j * 4 + col) = nI d ∧ ∃ t, jo_Fi a ti tv j (cv col) t ∧ ts (j * 3 + d) = nI t := by
  obtain ⟨q, sr, h1, h2, h3, h4, h5, h6, h7, h8, h9⟩ := h
  obtain ⟨col, c1, c2, c3⟩ := jc_at hd
  obtain ⟨b1, b2, b3⟩ := h4 col c1 c2
  rw [c3] at b1 b2 b3
  exact ⟨col, c1, c2, c3, b1, by rw [b1]; exact jn_c (by omega), b3, b2⟩
theorem op_Cb {a s r j col : Nat} (h : jo_T w a s r ti tv cv tu j tr td tt tk ts dp r0 r1) (hw : w ≤ 4) (hc : col < w) (hv : jo_HV a ti tv j (cv col)) :
    jc_n (fun x => jo_HV a ti tv j (cv x)) col < jc_n (fun x => jo_HV a ti tv j (cv x)) w ∧ (tk (j * 3 + jc_n (fun x => jo_HV a ti tv j (cv x)) col)).toNatClampNeg = col := by
  obtain ⟨q, sr, h1, h2, h3, h4, h5, h6, h7, h8, h9⟩ := h
  obtain ⟨b1, b2, b3⟩ := h4 col hc hv
  exact ⟨jc_st (P := fun x => jo_HV a ti tv j (cv x)) hc hv, by rw [b1]; exact jn_c (by omega)⟩
theorem op_sh (hn1 : 1 ≤ n) (hn : n ≤ 5) (hw : w ≤ 4) (hA : ∀ i, i < n → A i ≤ 3) (hinj : ∀ c c', c < w → c' < w → cv c = cv c' → c = c') (hus : ∀ c, c < w → ∃ j, j < n ∧ jo_HV (A j) ti tv j (cv c))
    (T : ∀ j, j < n → jo_T w (A j) (S j) (ρ j) ti tv cv tu j tr td tt tk ts dp r0 r1) (PP : jo_P w n A ti tv cv py pc) (SS : jo_S n sa tr) :
    jq_Sh n w (fun j => (tr j).toNatClampNeg) (fun j => jc_n (fun x => jo_HV (A j) ti tv j (cv x)) w) (fun j d => (tk (j * 3 + d)).toNatClampNeg) (fun c => jc_n (fun j => jo_HV (A j) ti tv j (cv c)) n) (fun c m => (py (c * 5 + m)).toNatClampNeg) sa tr td tt tk dp py pc ∧
    jq_R0 n (fun j => (tr j).toNatClampNeg) r0 r1 := by
  have rq : ∀ j, j < n → ∃ q, q ≤ 12 ∧ tr j = nI q ∧ (tr j).toNatClampNeg = q := fun j hj => by
    obtain ⟨q, sr, h1, h2, _⟩ := T j hj
    exact ⟨q, h1, h2, by rw [h2]; exact jn_c (by omega)⟩
  have pl : ∀ c m, c < w → m < jc_n (fun j => jo_HV (A j) ti tv j (cv c)) n → ∃ j, j < n ∧ jo_HV (A j) ti tv j (cv c) ∧ jc_n (fun j => jo_HV (A j) ti tv j (cv c)) j = m ∧ py (c * 5 + m) = nI j ∧ (py (c * 5 + m)).toNatClampNeg = j := fun c m hc hm => by
    obtain ⟨j, j1, j2, j3⟩ := jc_at hm
    have := (PP c hc).2 j j1 j2
    rw [j3] at this
    exact ⟨j, j1, j2, j3, this, by rw [this]; exact jn_c (by omega)⟩
  refine ⟨⟨hn1, hn, hw, fun i hi => ?_, fun i d hi hd => ?_, fun i d e hi hd he => ?_, fun c hc => ?_, fun c m hc hm => ?_, fun i d hi hd => ?_, fun i j k hi hj hk => ?_, ?_⟩, fun i hi => ?_⟩
  · obtain ⟨q, q1, q2, q3⟩ := rq i hi
    obtain ⟨_, _, _, _, h3, _⟩ := T i hi
    dsimp only
    rw [q3]
    exact ⟨q2, q1, h3, Nat.le_trans (xo_dep hinj) (hA i hi)⟩
  · obtain ⟨col, c1, c2, c3, c4, c5, c6, c7⟩ := op_C (T i hi) hw hd
    dsimp only
    rw [c5]
    exact ⟨c4, c1, c6⟩
  · obtain ⟨col, c1, c2, c3, c4, c5, c6, c7⟩ := op_C (T i hi) hw (show d < jc_n (fun x => jo_HV (A i) ti tv i (cv x)) w by dsimp only at he; omega)
    obtain ⟨col', d1, d2, d3, d4, d5, d6, d7⟩ := op_C (T i hi) hw he
    dsimp only
    rw [c5, d5]
    rcases Nat.lt_or_ge col col' with z | z
    · exact z
    · have := jc_mm (P := fun x => jo_HV (A i) ti tv i (cv x)) z
      omega
  · refine ⟨(PP c hc).1, ?_, Nat.le_trans (jc_le _ _) hn⟩
    obtain ⟨j, j1, j2⟩ := hus c hc
    exact jc_pos (P := fun j => jo_HV (A j) ti tv j (cv c)) j2 j1
  · obtain ⟨j, j1, j2, j3, j4, j5⟩ := pl c m hc hm
    dsimp only
    rw [j5]
    obtain ⟨b1, b2⟩ := op_Cb (T j j1) hw hc j2
    exact ⟨j4, j1, _, b1, b2⟩
  · obtain ⟨col, c1, c2, c3, c4, c5, c6, c7⟩ := op_C (T i hi) hw hd
    dsimp only
    rw [c5]
    have lt := jc_st (P := fun j => jo_HV (A j) ti tv j (cv col)) hi c2
    obtain ⟨j, j1, j2, j3, j4, j5⟩ := pl col _ c1 lt
    refine ⟨_, lt, ?_⟩
    have := (PP col c1).2 i hi c2
    rw [this]
    exact jn_c (by omega)
  · obtain ⟨q, q1, q2, q3⟩ := rq i hi
    obtain ⟨q', sr, h1, h2, h3, h4, h5, h6, _⟩ := T i hi
    have : q' = q := jn_i (h2.symm.trans q2) (by omega) (by omega)
    subst this
    dsimp only at hk
    rw [q3] at hk
    exact h6 j k hj hk
  · rcases SS with ⟨e, j, j1, j2⟩ | ⟨e, h⟩
    · exact Or.inl ⟨e, j, j1, by dsimp only; rw [j2]; decide⟩
    · refine Or.inr ⟨e, fun i hi => ?_⟩
      obtain ⟨q, q1, q2, q3⟩ := rq i hi
      dsimp only
      rw [q3]
      rcases Nat.eq_zero_or_pos q with z | z
      · subst z; exact absurd q2 (h i hi)
      · exact z
  · obtain ⟨q', sr, h1, h2, h3, h4, h5, h6, h7, h8, h9⟩ := T i hi
    dsimp only
    rw [h2, jn_c (by omega)]
    exact ⟨h8, h9⟩
/-- what a variable asks for -/
theorem op_w {co t : Nat → Int32} {x : Int64} {c : Nat} (hc : 4294967296 + (co c).toInt64 = x) : ∀ d p, p ≤ c → c < p + d → (∀ c', p ≤ c' → c' < c → ¬ 4294967296 + (co c').toInt64 = x) → jy_w co t x d p = t c
  | 0, p, h1, h2, _ => by omega
  | d + 1, p, h1, h2, h3 => by
    simp only [jy_w]
    by_cases z : p = c
    · subst z; rw [if_pos hc]
    · rw [if_neg (h3 p (Nat.le_refl _) (by omega))]
      exact op_w hc d (p + 1) (by omega) (by omega) (fun c' h4 h5 => h3 c' (by omega) h5)
theorem op_wv {co t : Nat → Int32} {ct : Nat → Int64} {o c : Nat} {v : Int32} (hinj : ∀ c c', c < w → c' < w → co c = co c' → c = c') (hc : c < w) (e : co c = v) (hv : 0 ≤ v.toInt) (ho : ct o = 4294967296 + v.toInt64) : jy_want w ct co t o = t c := by
  have h : (4294967296 : Int64) ≤ ct o := by
    rw [ho, Int64.le_iff_toInt_le, ji_v, show (4294967296 : Int64).toInt = 4294967296 from by decide]; omega
  rw [jy_want, if_pos h]
  refine op_w (by rw [e, ho]) w 0 (by omega) (by omega) (fun c' h1 h2 h3 => ?_)
  rw [ho] at h3
  have := hinj c' c (by omega) hc ((ji_vi h3).trans e.symm)
  omega
theorem op_wc {co t : Nat → Int32} {ct : Nat → Int64} {o : Nat} {v : Int32} (ho : ct o = v.toInt64) : jy_want w ct co t o = v := by
  have h : ¬ (4294967296 : Int64) ≤ ct o := by
    rw [ho, Int64.le_iff_toInt_le, Int32.toInt_toInt64, show (4294967296 : Int64).toInt = 4294967296 from by decide]
    have := (ji_b v).2
    omega
  rw [jy_want, if_neg h, ho, Int32.toInt32_toInt64]
/-- a tuple matches and projects to t exactly if it is what the atom asks for -/
theorem op_tw {a s r j : Nat} {co t : Nat → Int32} {ct : Nat → Int64} (ha : a ≤ 3) (h : jo_T w a s r ti tv cv tu j tr td tt tk ts dp r0 r1) (hw : w ≤ 4) (hinj : ∀ c c', c < w → c' < w → cv c = cv c' → c = c') (hco : ∀ c, c < w → co c = cv c)
    (hct : ∀ x, x < a → (ti (j * 3 + x) = 0 ∧ ct (j * 3 + x) = (tv (j * 3 + x)).toInt64) ∨ (ti (j * 3 + x) = 1 ∧ ct (j * 3 + x) = 4294967296 + (tv (j * 3 + x)).toInt64))
    (hcol : ∀ x, x < a → ti (j * 3 + x) = 1 → 0 ≤ (tv (j * 3 + x)).toInt ∧ ∃ c, c < w ∧ cv c = tv (j * 3 + x)) (f : Nat → Int32) :
    (jo_MM a ti tv j f ∧ ∀ d, d < jc_n (fun x => jo_HV a ti tv j (cv x)) w → f (ts (j * 3 + d)).toNatClampNeg = t (tk (j * 3 + d)).toNatClampNeg) ↔ ∀ x, x < a → f x = jy_want w ct co t (j * 3 + x) := by
  have hinj' : ∀ c c', c < w → c' < w → co c = co c' → c = c' := fun c c' h1 h2 e => hinj c c' h1 h2 ((hco c h1).symm.trans (e.trans (hco c' h2)))
  have z01 : (0 : Int32) = 1 → False := by decide
  have wv : ∀ x c, x < a → ti (j * 3 + x) = 1 → c < w → cv c = tv (j * 3 + x) → jy_want w ct co t (j * 3 + x) = t c := fun x c hx h1 h2 h3 => by
    rcases hct x hx with ⟨y, _⟩ | ⟨_, y⟩
    · exact absurd (y.symm.trans h1) z01
    · exact op_wv hinj' h2 ((hco c h2).trans h3) (hcol x hx h1).1 y
  constructor
  · rintro ⟨m1, m2⟩ x hx
    rcases hct x hx with ⟨y1, y2⟩ | ⟨y1, y2⟩
    · rw [op_wc y2]; exact (m1 x hx).1 y1
    · obtain ⟨_, c, c1, c2⟩ := hcol x hx y1
      rw [wv x c hx y1 c1 c2]
      have hv : jo_HV a ti tv j (cv c) := ⟨x, hx, y1, c2.symm⟩
      obtain ⟨b1, b2⟩ := op_Cb h hw c1 hv
      obtain ⟨col, d1, d2, d3, d4, d5, d6, s', d7, d8⟩ := op_C h hw b1
      have ec : col = c := d5.symm.trans b2
      subst ec
      have key := m2 _ b1
      have hs3 : (ts (j * 3 + jc_n (fun x => jo_HV a ti tv j (cv x)) col)).toNatClampNeg = s' := by
        have := d7.1
        rw [d8]; exact jn_c (by omega)
      rw [b2, hs3] at key
      rw [← key]
      exact (m1 x hx).2 y1 s' (by rw [← c2]; exact d7)
  · intro hf
    refine ⟨fun x hx => ⟨fun y => ?_, fun y s' hs' => ?_⟩, fun d hd => ?_⟩
    · rw [hf x hx]
      rcases hct x hx with ⟨_, y2⟩ | ⟨y1, _⟩
      · exact op_wc y2
      · exact absurd (y.symm.trans y1) z01
    · obtain ⟨_, c, c1, c2⟩ := hcol x hx y
      rw [hf x hx, hf s' hs'.1, wv x c hx y c1 c2, wv s' c hs'.1 hs'.2.1.1 c1 (c2.trans hs'.2.1.2.symm)]
    · obtain ⟨col, d1, d2, d3, d4, d5, d6, s', d7, d8⟩ := op_C h hw hd
      have := d7.1
      have e1 : (ts (j * 3 + d)).toNatClampNeg = s' := by rw [d8]; exact jn_c (by omega)
      rw [e1, d5, hf s' this]
      exact wv s' col this d7.2.1.1 d1 d7.2.1.2.symm
theorem op_eq {a s r j : Nat} {da cd co : Nat → Int32} {ct : Nat → Int64} (ha : a ≤ 3) (hs : s ≤ 12) (hr : r < 4) (h : jo_T w a s r ti tv cv tu j tr td tt tk ts dp r0 r1) (hw : w ≤ 4) (hinj : ∀ c c', c < w → c' < w → cv c = cv c' → c = c') (hco : ∀ c, c < w → co c = cv c)
    (hct : ∀ x, x < a → (ti (j * 3 + x) = 0 ∧ ct (j * 3 + x) = (tv (j * 3 + x)).toInt64) ∨ (ti (j * 3 + x) = 1 ∧ ct (j * 3 + x) = 4294967296 + (tv (j * 3 + x)).toInt64))
    (hcol : ∀ x, x < a → ti (j * 3 + x) = 1 → 0 ≤ (tv (j * 3 + x)).toInt ∧ ∃ c, c < w ∧ cv c = tv (j * 3 + x))
    (cn : ∀ Q : (Nat → Int32) → Prop, jc_n (fun k => Q (jt_t a tu r k)) s = jc_n (fun k => Q (jt_t a da r k)) s) (hcd : ∀ x, x < 144 → cd x = da x) (t : Nat → Int32) :
    (∃ k, k < (tr j).toNatClampNeg ∧ ∀ d, d < jc_n (fun x => jo_HV a ti tv j (cv x)) w → tt ((j * 12 + k) * 3 + d) = t (tk (j * 3 + d)).toNatClampNeg) ↔ (∃ k, k < s ∧ ∀ x, x < a → cd ((r * 12 + k) * 3 + x) = jy_want w ct co t (j * 3 + x)) := by
  have tw := op_tw (t := t) ha h hw hinj hco hct hcol
  obtain ⟨q, sr, h1, h2, h3, h4, h5, h6, h7, h8, h9⟩ := h
  have e : (tr j).toNatClampNeg = q := by rw [h2]; exact jn_c (by omega)
  rw [e]
  have s1 := h7 (fun d => t (tk (j * 3 + d)).toNatClampNeg)
  have s2 := ps_mem cn (t := fun x => jy_want w ct co t (j * 3 + x))
  have esr : ∀ d, d < jc_n (fun x => jo_HV a ti tv j (cv x)) w → sr d = (ts (j * 3 + d)).toNatClampNeg := fun d hd => by
    obtain ⟨u1, u2⟩ := h5 d hd
    rw [u1]; exact (jn_c (by omega)).symm
  constructor
  · rintro ⟨k, k1, k2⟩
    obtain ⟨k', l1, l2, l3⟩ := s1.mp ⟨k, k1, k2⟩
    obtain ⟨k'', m1, m2⟩ := s2.mp ⟨k', l1, (tw (jt_r tu r k')).mp ⟨l2, fun d hd => by
      rw [← esr d hd]; exact l3 d hd⟩⟩
    exact ⟨k'', m1, fun x hx => (hcd _ (by omega)).trans (m2 x hx)⟩
  · rintro ⟨k, k1, k2⟩
    obtain ⟨k', l1, l2⟩ := s2.mpr ⟨k, k1, fun x hx => (hcd _ (by omega)).symm.trans (k2 x hx)⟩
    obtain ⟨m1, m2⟩ := (tw (jt_r tu r k')).mpr l2
    exact s1.mpr ⟨k', l1, m1, fun d hd => by
      have := m2 d hd
      rw [← esr d hd] at this
      exact this⟩
theorem op_Y {co om oc cz cr ra cd : Nat → Int32} {ct : Nat → Int64} (hn : n ≤ 5) (hw : w ≤ 4) (hC : ∀ i, i < n → cr i = nI (ρ i) ∧ ρ i < 4 ∧ ra (ρ i) = nI (A i) ∧ 1 ≤ A i ∧ A i ≤ 3 ∧ cz (ρ i) = nI (S i) ∧ S i ≤ 12)
    (hinj : ∀ c c', c < w → c' < w → co c = co c' → c = c') (hnn : ∀ c, c < w → 0 ≤ (co c).toInt) (hD : ∀ c, c < w → jo_D n A ρ S cd ct co om oc c) (h1 : ∀ c, w ≤ c → c < 4 → oc c = nI 1) :
    jq_Y n w A S ρ (fun c => (oc c).toNatClampNeg) ra cz cr om oc cd ct co := by
  refine ⟨hC, fun p hp => ?_, fun p a b hp hab hb => ?_, fun t ht p hp => ?_⟩
  · rcases Nat.lt_or_ge p w with z | z
    · obtain ⟨N, k1, k2, _⟩ := hD p z
      dsimp only
      rw [k2, jn_c (by omega)]
      exact ⟨rfl, k1, fun y => absurd y (by omega)⟩
    · dsimp only
      rw [h1 p z hp, jn_c (by omega)]
      exact ⟨rfl, by omega, fun _ => rfl⟩
  · obtain ⟨N, k1, k2, k3, _⟩ := hD p hp
    dsimp only at hb
    rw [k2, jn_c (by omega)] at hb
    exact k3 a b hab hb
  · obtain ⟨N, k1, k2, k3, i, j, i1, j1, e, cov⟩ := hD p hp
    obtain ⟨k, l1, l2⟩ := ht i i1
    obtain ⟨m, m1, m2⟩ := cov k l1
    dsimp only
    rw [k2, jn_c (by omega)]
    refine ⟨m, m1, m2.trans ((l2 j j1).trans ?_)⟩
    exact op_wv hinj hp rfl (hnn p hp) e
end OP
end
section
/-! the owed statement -/
theorem op_F {n w : Nat} {ra rs tu da ar tn : Nat → Int32} (w12 : w ≤ 12) (hS : ∀ r, r < 4 → jr_S1 w (ra r) (rs r) tu da r) (f : dr_fin n ra ar tn) :
    ∃ A ρ S : Nat → Nat, ∀ i, i < n → tn i = nI (A i) ∧ 1 ≤ A i ∧ A i ≤ 3 ∧ ar i = nI (ρ i) ∧ ρ i < 4 ∧ ra (ρ i) = nI (A i) ∧ rs (ρ i) = nI (S i) ∧ S i ≤ 12 ∧
      ∀ Q : (Nat → Int32) → Prop, jc_n (fun k => Q (jt_t (A i) tu (ρ i) k)) (S i) = jc_n (fun k => Q (jt_t (A i) da (ρ i) k)) (S i) := by
  refine ⟨fun i => (tn i).toNatClampNeg, fun i => (ar i).toNatClampNeg, fun i => (rs (ar i).toNatClampNeg).toNatClampNeg, fun i hi => ?_⟩
  obtain ⟨r, A, k1, k2, k3, k4, k5, k6⟩ := f i hi
  obtain ⟨A', S, h1, h2, h3, h4, h5, so, cn⟩ := hS r k2
  have : A' = A := jn_i (h1.symm.trans k4) (by omega) (by omega)
  subst this
  dsimp only
  have e1 : (tn i).toNatClampNeg = A' := by rw [k3]; exact jn_c (by omega)
  have e2 : (ar i).toNatClampNeg = r := by rw [k1]; exact jn_c (by omega)
  have e3 : (rs r).toNatClampNeg = S := by rw [h3]; exact jn_c (by omega)
  rw [e1, e2, e3]
  exact ⟨k3, k5, k6, k1, k2, k4, h3, by omega, cn⟩
theorem i_vc_open {k : Nat} {u : SX} {v : SY} (I : i_Rel k u v) (hk : k + 5 ≤ 2564) : wpX_open (fun r u' => wpY_open (fun r' v' => r' = r ∧ i_Rel (k + 5) u' v') v) u := by
  refine zz_el (P := fun u v => wpX_open (fun r u' => wpY_open (fun r' v' => r' = r ∧ i_Rel (k + 5) u' v') v) u) ?_ I
  intro uRl uRw uVl uAl uAc uCs uWd uTc uSa uBl uBs uRA uRS uTu uAR uTn uTi uTv uPl uCv uRe uTr uTd uTt uTk uTs uDp uPy uPc uR0 uR1 uPo uCa uMi uTg uTa vDa vTm vCz vCd vCr vCt vCo vDo vDc vVe a b c
  have a' := a
  have b' := b
  obtain ⟨l, w0, _, _, _, _, _, w12, hS⟩ := a
  obtain ⟨vn, an, n, rfl, vn1, vn4, rfl, an1, an5, rfl, hn, hA, hT, hV, hP⟩ := b
  rcases Nat.eq_zero_or_pos n with rfl | z
  · exact br_t rfl (br_t rfl ⟨rfl, zz_in a' b' c⟩)
  have n0 : ¬ nI n = 0 := nI_ne0 z (by omega)
  rcases dr_cs hA with f | f
  case inr => exact br_f n0 (dr_x1 (by omega) f (br_f (by decide) (br_f n0 (dr_y1 (by omega) f (br_f (by decide) ⟨rfl, zz_in a' b' c⟩)))))
  obtain ⟨A, ρ, S, F⟩ := op_F w12 hS f
  obtain ⟨U, hU⟩ : ∃ U : Nat → Prop, U = fun p => ∃ i, i < n ∧ jo_HV (A i) uTi uTv i (uPl p) := ⟨_, rfl⟩
  have h01 : ∀ o, uTi o = 0 ∨ uTi o = 1 := fun o => (hT o).elim (fun h => Or.inl h.1) (fun h => Or.inr h.1)
  have wle := jc_le U vn
  obtain ⟨fp, gp, hfg⟩ := hP
  have pin : ∀ p p', p < vn → p' < vn → uPl p = uPl p' → p = p' := fun p p' h1 h2 e => by
    obtain ⟨x1, x2, x3, _⟩ := hfg p h1
    obtain ⟨y1, y2, y3, _⟩ := hfg p' h2
    have : fp p = fp p' := jn_i (x1.symm.trans (e.trans y1)) (by omega) (by omega)
    rw [← x3, ← y3, this]
  have n5 : n ≤ 5 := by omega
  refine br_f n0 (dr_x0 n5 f (br_t rfl (xo_freeze (A := A) vn4 n5 (fun i hi => ⟨(F i hi).1, (F i hi).2.2.1⟩) h01 (fun cv pc hcv => ?_))))
  rw [← hU] at hcv ⊢
  have U' : ∀ p, U p ↔ ∃ i, i < n ∧ jo_HV (A i) uTi uTv i (uPl p) := fun p => by rw [hU]
  have hcv1 : ∀ p, p < vn → U p → cv (jc_n U p) = uPl p := fun p h1 h2 => (hcv p h1 ((U' p).mp h2)).1
  have inj : ∀ co : Nat → Int32, (∀ p, p < vn → U p → co (jc_n U p) = uPl p) → ∀ c c', c < jc_n U vn → c' < jc_n U vn → co c = co c' → c = c' := fun co hco c c' h1 h2 e => by
    obtain ⟨p, p1, p2, p3⟩ := jc_at h1
    obtain ⟨q, q1, q2, q3⟩ := jc_at h2
    rw [← p3, ← q3, hco p p1 p2, hco q q1 q2] at e
    have := pin p q p1 q1 e
    rw [← p3, ← q3, this]
  have hinj := inj cv hcv1
  have hus : ∀ c, c < jc_n U vn → ∃ j, j < n ∧ jo_HV (A j) uTi uTv j (cv c) := fun c hc => by
    obtain ⟨p, p1, p2, p3⟩ := jc_at hc
    rw [← p3, hcv1 p p1 p2]
    exact (U' p).mp p2
  have w4 : jc_n U vn ≤ 4 := by omega
  refine ⟨n + 1, xp_41 (n := n) (w := jc_n U vn) (A := A) (ρ := ρ) (S := S) n5 w4 (fun i hi => ⟨(F i hi).1, (F i hi).2.2.1⟩) (fun i hi => ⟨(F i hi).2.2.2.1, (F i hi).2.2.2.2.1⟩) (fun i hi => ⟨(F i hi).2.2.2.2.2.2.1, (F i hi).2.2.2.2.2.2.2.1⟩) h01 hinj
    (fun sa tr td tt tk ts dp py pc' r0 r1 T PP SS => ?_) n (n + 1) 0 1 uTr uTd uTt uTk uTs uDp uPy pc uR0 uR1 (by omega) (by omega) (fun j hj => absurd hj (by omega)) (fun c hc => ⟨?_, fun j hj => absurd hj (by omega)⟩) (Or.inr ⟨rfl, fun j hj => absurd hj (by omega)⟩)⟩
  rotate_left
  · obtain ⟨p, p1, p2, p3⟩ := jc_at hc
    rw [← p3]
    exact (hcv p p1 ((U' p).mp p2)).2
  refine br_f n0 (dr_y0 n5 f (br_t rfl ⟨5, yo_24 (fun cz hcz => ?_) 4 5 0 vCz rfl (by omega) (fun x h => absurd h (by omega))⟩))
  refine ⟨145, yo_49 (fun cd hcd => ?_) 144 145 0 vCd rfl (by omega) (fun x h => absurd h (by omega))⟩
  refine ⟨6, yo_76 (fun cr hcr => ?_) 5 6 0 vCr rfl (by omega) (fun x h => absurd h (by omega))⟩
  refine ⟨16, yo_101 (fun ct hct => ?_) 15 16 0 vCt rfl (by omega) (fun x h => absurd h (by omega))⟩
  refine ⟨5, yo_140 (fun om oc hoc => ?_) 4 5 0 vDo vDc rfl (by omega) (fun x h => absurd h (by omega))⟩
  have ctc : ∀ i x, i < n → x < A i → (uTi (i * 3 + x) = 0 ∧ ct (i * 3 + x) = (uTv (i * 3 + x)).toInt64) ∨ (uTi (i * 3 + x) = 1 ∧ ct (i * 3 + x) = 4294967296 + (uTv (i * 3 + x)).toInt64) := fun i x hi hx => by
    have := (F i hi).2.2.1
    rw [hct _ (by omega)]
    exact hT _
  have hUU : ∀ p, p < vn → (U p ↔ ∃ i j, i < n ∧ j < A i ∧ ct (i * 3 + j) = 4294967296 + (uPl p).toInt64) := fun p hp => by
    rw [U' p]
    constructor
    · rintro ⟨i, i1, t, t1, t2, t3⟩
      refine ⟨i, t, i1, t1, ?_⟩
      rcases ctc i t i1 t1 with ⟨y, _⟩ | ⟨_, y⟩
      · exact absurd (y.symm.trans t2) (by decide)
      · rw [y, t3]
    · rintro ⟨i, j, i1, j1, e⟩
      refine ⟨i, i1, j, j1, ?_⟩
      rcases ctc i j i1 j1 with ⟨_, y⟩ | ⟨y1, y⟩
      · have h := congrArg Int64.toInt (y.symm.trans e)
        rw [Int32.toInt_toInt64, ji_v] at h
        have b1 := ji_b (uTv (i * 3 + j))
        have b2 := ji_b (uPl p)
        omega
      · exact ⟨y1, ji_vi (y.symm.trans e)⟩
  have hC : ∀ i, i < n → cr i = nI (ρ i) ∧ ρ i < 4 ∧ uRA (ρ i) = nI (A i) ∧ 1 ≤ A i ∧ A i ≤ 3 ∧ cz (ρ i) = nI (S i) ∧ S i ≤ 12 := fun i hi => by
    obtain ⟨f1, f2, f3, f4, f5, f6, f7, f8, _⟩ := F i hi
    exact ⟨(hcr i (by omega)).trans f4, f5, f6, f2, f3, (hcz _ f5).trans f7, f8⟩
  refine ⟨vn + 1, yo_170 (U := U) (n := n) (A := A) (ρ := ρ) (S := S) vn4 n5 (fun i hi => ⟨(hC i hi).1, (hC i hi).2.1, (hC i hi).2.2.1, (hC i hi).2.2.2.2.1⟩) (fun i hi => (hC i hi).2.2.2.2.2) hUU (fun co om' oc' c1 c2 c3 => ?_) vn (vn + 1) 0 vCo om oc (by omega) (by omega) (fun p h => absurd h (by omega)) (fun c h => absurd h (Nat.not_lt_zero c)) (fun c _ h => hoc c h)⟩
  refine ⟨rfl, zz_in a' b' (Or.inr ⟨Or.inr (Or.inl rfl), n, jc_n U vn, _, _, _, _, _, A, S, ρ, _, rfl, rfl, (op_sh z n5 w4 (fun i hi => (F i hi).2.2.1) hinj hus T PP SS).1, (op_sh z n5 w4 (fun i hi => (F i hi).2.2.1) hinj hus T PP SS).2, op_Y n5 w4 hC (inj co c1) (fun c hc => ?_) c2 c3, fun c hc => ?_, fun i t hi => ?_, fun e => absurd e (by decide)⟩)⟩
  · obtain ⟨p, p1, p2, p3⟩ := jc_at hc
    rw [← p3, c1 p p1 p2, (hfg p p1).1, nI_toInt (by have := (hfg p p1).2.1; omega)]
    omega
  · obtain ⟨p, p1, p2, p3⟩ := jc_at hc
    rw [← p3, c1 p p1 p2, hcv1 p p1 p2]
  · obtain ⟨f1, f2, f3, f4, f5, f6, f7, f8, f9⟩ := F i hi
    refine op_eq f3 f8 f5 (T i hi) w4 hinj (fun c hc => ?_) (fun x hx => ctc i x hi hx) (fun x hx y => ?_) f9 hcd t
    · obtain ⟨p, p1, p2, p3⟩ := jc_at hc
      rw [← p3, c1 p p1 p2, hcv1 p p1 p2]
    · obtain ⟨g, g1, g2⟩ := hV _ y
      refine ⟨by rw [g2, nI_toInt (by omega)]; omega, ?_⟩
      obtain ⟨_, _, _, q4, q5⟩ := hfg g g1
      obtain ⟨r1, _⟩ := hfg (gp g) q4
      have up : U (gp g) := (U' _).mpr ⟨i, hi, x, hx, y, by rw [r1, q5, g2]⟩
      exact ⟨_, jc_st (P := U) q4 up, by rw [hcv1 _ q4 up, r1, q5, g2]⟩
end
