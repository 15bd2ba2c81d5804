section
/-! rows pasted from the kit (pure rows, bits) -/
theorem pk_us {f : Nat → Int32} {k : Nat} {x : Int32} : upd f k x k = x := if_pos rfl
theorem pk_un {f : Nat → Int32} {k j : Nat} {x : Int32} (h : j ≠ k) : upd f k x j = f j := if_neg h
theorem pk_sub {a b : Nat} (h : b ≤ a) : nI a - nI b = nI (a - b) := by
  obtain ⟨c, rfl⟩ : ∃ c, a = c + b := ⟨a - b, by omega⟩
  rw [← nI_add, Int32.add_sub_cancel, Nat.add_sub_cancel]
theorem pk_m1 (n : Nat) : nI (n + 1) + (-1) = nI n := by
  rw [← nI_1, Int32.add_assoc, show (1 : Int32) + (-1) = 0 from rfl, Int32.add_zero]
theorem pk_mul (a b : Nat) : nI a * nI b = nI (a * b) := (Int32.ofNat_mul a b).symm
theorem pk_div {a d : Nat} (ha : a < 2 ^ 31) (h0 : 0 < d) (hd : d < 2 ^ 31) : nI a / nI d = nI (a / d) := by
  apply Int32.toInt_inj.mp
  rw [lg_idiv_nonneg (by rw [nI_toInt ha]; omega) (by rw [nI_toInt hd]; omega), nI_toInt ha, nI_toInt hd, nI_toInt (Nat.lt_of_le_of_lt (Nat.div_le_self a d) ha)]
  first | rfl | exact (Int.natCast_ediv _ _).symm
theorem pk_rem {a d : Nat} (ha : a < 2 ^ 31) (h0 : 0 < d) (hd : d < 2 ^ 31) : nI a - nI a / nI d * nI d = nI (a % d) := by
  rw [pk_div ha h0 hd, pk_mul, pk_sub (Nat.div_mul_le_self a d)]
  exact congrArg nI (by have := Nat.div_add_mod' a d; omega)
theorem pk_ix (x : Int32) {n : Nat} (hn : n < 2 ^ 31) : x < 0 ∨ nI n ≤ x ∨ ∃ j : Nat, j < n ∧ x = nI j := by
  by_cases h : x < 0
  · exact Or.inl h
  · obtain ⟨j, hj, rfl⟩ := nI_of h
    by_cases h2 : j < n
    · exact Or.inr (Or.inr ⟨j, h2, rfl⟩)
    · exact Or.inr (Or.inl (nI_le (by omega) hj))
theorem pk_le {x y : Int32} {A B : Prop} (a b : Nat) (f : a ≤ b → A) (g : b < a → B) (hx : x = nI a := by rfl) (hy : y = nI b := by rfl) (ha : a < 2 ^ 31 := by omega) (hb : b < 2 ^ 31 := by omega) : (x ≤ y → A) ∧ (¬ x ≤ y → B) := by
  subst hx hy
  rw [nI_leI ha hb]
  exact ⟨f, fun z => g (by omega)⟩
theorem pk_lt {x y : Int32} {A B : Prop} (a b : Nat) (f : a < b → A) (g : b ≤ a → B) (hx : x = nI a := by rfl) (hy : y = nI b := by rfl) (ha : a < 2 ^ 31 := by omega) (hb : b < 2 ^ 31 := by omega) : (x < y → A) ∧ (¬ x < y → B) := by
  subst hx hy
  rw [nI_ltI ha hb]
  exact ⟨f, fun z => g (by omega)⟩
theorem pk_eq {x y : Int32} {A B : Prop} (a b : Nat) (f : a = b → A) (g : a ≠ b → B) (hx : x = nI a := by rfl) (hy : y = nI b := by rfl) (ha : a < 2 ^ 31 := by omega) (hb : b < 2 ^ 31 := by omega) : (x = y → A) ∧ (¬ x = y → B) := by
  subst hx hy
  rw [nI_eq ha hb]
  exact ⟨f, g⟩
theorem pk_in {x : Int32} (n N : Nat) (h : n < N) (hx : x = nI n := by rfl) (hN : N < 2 ^ 31 := by omega) : vp_in x N := by
  subst hx
  exact vp_in_nI h hN
theorem pk_cl {x : Int32} (n : Nat) (hx : x = nI n := by rfl) (h : n < 2 ^ 31 := by omega) : x.toNatClampNeg = n := by
  subst hx
  exact nI_clamp h
theorem pk_tn {n : Nat} (h : n < 2 ^ 32) : (nI n).toBitVec.toNat = n := Nat.mod_eq_of_lt h
theorem pk_least (P : Nat → Prop) (h : ∃ k, P k) : ∃ k, P k ∧ ∀ j, j < k → ¬ P j := by
  obtain ⟨k, hk⟩ := h
  induction k using Nat.strongRecOn with
  | ind k ih =>
    by_cases e : ∃ j, j < k ∧ P j
    · obtain ⟨j, hj, pj⟩ := e
      exact ih j hj pj
    · exact ⟨k, hk, fun j hj pj => e ⟨j, hj, pj⟩⟩
def bt (x : Int32) (i : Nat) : Bool := x.toBitVec.getLsbD i
theorem b_ext {x y : Int32} (h : ∀ i, i < 32 → bt x i = bt y i) : x = y := Int32.toBitVec_inj.mp (BitVec.eq_of_getLsbD_eq (fun i hi => h i hi))
theorem b_or (x y : Int32) (i : Nat) : bt (x ||| y) i = (bt x i || bt y i) := by unfold bt; rw [Int32.toBitVec_or, BitVec.getLsbD_or]
theorem b_and (x y : Int32) (i : Nat) : bt (x &&& y) i = (bt x i && bt y i) := by unfold bt; rw [Int32.toBitVec_and, BitVec.getLsbD_and]
theorem b_xor (x y : Int32) (i : Nat) : bt (x ^^^ y) i = (bt x i ^^ bt y i) := by unfold bt; rw [Int32.toBitVec_xor, BitVec.getLsbD_xor]
theorem b_big {x : Int32} {i : Nat} (h : 32 ≤ i) : bt x i = false := BitVec.getLsbD_of_ge _ _ h
theorem b_255 (i : Nat) : bt 255 i = decide (i < 8) := by
  rcases Nat.lt_or_ge i 32 with h | h
  · exact (by decide +kernel : ∀ i, i < 32 → bt 255 i = decide (i < 8)) i h
  · rw [b_big h, decide_eq_false (by omega)]
theorem b_m1 : ∀ i, i < 32 → bt (-1) i = true := by decide +kernel
theorem b_0 (i : Nat) : bt 0 i = false := BitVec.getLsbD_zero
theorem s_l : ∀ n, n < 32 → ((nI n &&& 31).toBitVec.smod 32).toNat = n := by decide +kernel
theorem b_shl (n : Nat) (hn : n < 32) (x : Int32) {i : Nat} (hi : i < 32) : bt (x <<< (nI n &&& 31)) i = (decide (n ≤ i) && bt x (i - n)) := by
  unfold bt
  rw [Int32.toBitVec_shiftLeft]
  show (x.toBitVec <<< ((nI n &&& 31).toBitVec.smod 32).toNat).getLsbD i = _
  rw [s_l n hn, BitVec.getLsbD_shiftLeft]
  rcases Nat.lt_or_ge i n with h | h
  · simp [h, Nat.not_le.mpr h]
  · simp [hi, h, Nat.not_lt.mpr h]
theorem b_sshr (n : Nat) (hn : n < 32) (x : Int32) {i : Nat} (hi : i < 32) : bt (x >>> (nI n &&& 31)) i = if n + i < 32 then bt x (n + i) else bt x 31 := by
  unfold bt
  rw [Int32.toBitVec_shiftRight]
  show (x.toBitVec.sshiftRight ((nI n &&& 31).toBitVec.smod 32).toNat).getLsbD i = _
  rw [s_l n hn, BitVec.getLsbD_sshiftRight, BitVec.msb_eq_getLsbD_last]
  simp [hi]
theorem nx_and (a b : Nat) : nI a &&& nI b = nI (a &&& b) := by
  apply Int32.toBitVec_inj.1
  show BitVec.ofNat 32 a &&& BitVec.ofNat 32 b = BitVec.ofNat 32 (a &&& b)
  apply BitVec.eq_of_getLsbD_eq
  intro i hi
  simp [hi]
end
section
theorem za_0 : (0 : Int32).toInt = 0 := by decide
theorem za_1 : (1 : Int32).toInt = 1 := by decide
theorem za_le {x y : Int32} {A B : Prop} (f : x.toInt ≤ y.toInt → A) (g : y.toInt < x.toInt → B) : (x ≤ y → A) ∧ (¬ x ≤ y → B) :=
  ⟨fun h => f (Int32.le_iff_toInt_le.mp h), fun h => g (by rw [Int32.le_iff_toInt_le] at h; omega)⟩
theorem za_lt {x y : Int32} {A B : Prop} (f : x.toInt < y.toInt → A) (g : y.toInt ≤ x.toInt → B) : (x < y → A) ∧ (¬ x < y → B) :=
  ⟨fun h => f (Int32.lt_iff_toInt_lt.mp h), fun h => g (by rw [Int32.lt_iff_toInt_lt] at h; omega)⟩
theorem za_eq {x y : Int32} {A B : Prop} (f : x.toInt = y.toInt → A) (g : x.toInt ≠ y.toInt → B) : (x = y → A) ∧ (¬ x = y → B) :=
  ⟨fun h => f (by rw [h]), fun h => g (fun e => h (Int32.toInt_inj.mp e))⟩
theorem za_ne {x y : Int32} (h : x.toInt ≠ y.toInt) : ¬ x = y := fun e => h (by rw [e])
theorem za_ne0 {x : Int32} (h : x.toInt ≠ 0) : ¬ x = 0 := za_ne (by rw [za_0]; exact h)
theorem za_e0 {x : Int32} (h : x.toInt = 0) : x = 0 := Int32.toInt_inj.mp (by rw [za_0]; exact h)
theorem za_add {x y : Int32} (h1 : -2147483648 ≤ x.toInt + y.toInt) (h2 : x.toInt + y.toInt < 2147483648) : (x + y).toInt = x.toInt + y.toInt := by
  rw [Int32.toInt_add]; exact Int.bmod_eq_of_le (by omega) (by omega)
theorem za_sub {x y : Int32} (h1 : -2147483648 ≤ x.toInt - y.toInt) (h2 : x.toInt - y.toInt < 2147483648) : (x - y).toInt = x.toInt - y.toInt := by
  rw [Int32.toInt_sub]; exact Int.bmod_eq_of_le (by omega) (by omega)
theorem za_mul {x y : Int32} (h1 : -2147483648 ≤ x.toInt * y.toInt) (h2 : x.toInt * y.toInt < 2147483648) : (x * y).toInt = x.toInt * y.toInt := by
  rw [Int32.toInt_mul]; exact Int.bmod_eq_of_le (by omega) (by omega)
theorem za_neg {x : Int32} (h1 : -2147483648 < x.toInt) : (-x).toInt = -x.toInt := by
  have := x.toInt_lt
  rw [Int32.toInt_neg]; exact Int.bmod_eq_of_le (by omega) (by omega)
theorem za_div {x y : Int32} (h1 : -2147483648 < x.toInt) : (x / y).toInt = x.toInt.tdiv y.toInt := by
  apply Int32.toInt_div_of_ne_left
  intro e
  rw [e] at h1
  exact absurd h1 (by decide)
/-- a product of two small numbers -/
theorem za_pb {a b : Int} {m n : Int} (ha : -m ≤ a) (ha' : a ≤ m) (hb : -n ≤ b) (hb' : b ≤ n) : -(m * n) ≤ a * b ∧ a * b ≤ m * n := by
  have h1 : a.natAbs ≤ m.natAbs := by omega
  have h2 : b.natAbs ≤ n.natAbs := by omega
  have h3 : (a * b).natAbs ≤ m.natAbs * n.natAbs := by
    rw [Int.natAbs_mul]; exact Nat.mul_le_mul h1 h2
  have h4 : m * n = ((m.natAbs * n.natAbs : Nat) : Int) := by
    rw [Int.natCast_mul, Int.natAbs_of_nonneg (by omega), Int.natAbs_of_nonneg (by omega)]
  omega
theorem za_mulB {x y : Int32} {m n : Int} (ha : -m ≤ x.toInt) (ha' : x.toInt ≤ m) (hb : -n ≤ y.toInt) (hb' : y.toInt ≤ n) (h : m * n ≤ 2147483647) : (x * y).toInt = x.toInt * y.toInt := by
  have := za_pb ha ha' hb hb'
  exact za_mul (by omega) (by omega)
theorem za_cm {x : Int32} {n : Nat} (h : x.toInt = n) : x = nI n := by
  have h2 := x.toInt_lt
  apply Int32.toInt_inj.mp
  rw [nI_toInt (by omega)]; exact h
theorem za_cl {x : Int32} {n : Nat} (h : x.toInt = n) : x.toNatClampNeg = n := by
  have h2 := x.toInt_lt
  rw [za_cm h]; exact nI_clamp (by omega)
theorem za_fu {f g : Nat → Int32} (h : ∀ j, f j = g j) : f = g := funext h
/-- one bit of a set -/
theorem za_bit (x : Int32) {s : Nat} (hs : s < 8) : ((x >>> (nI s &&& 31)) &&& 1) = 0 ↔ bt x s = false := by
  have e1 : ∀ i, i < 32 → bt (1 : Int32) i = decide (i = 0) := by decide +kernel
  constructor
  · intro h
    have h2 := b_and (x >>> (nI s &&& 31)) 1 0
    rw [h, b_0, b_sshr s (by omega) x (by omega), e1 0 (by omega)] at h2
    simp only [Nat.add_zero, show s < 32 by omega, if_true, decide_true, Bool.and_true] at h2
    exact h2.symm
  · intro h
    apply b_ext
    intro i hi
    rw [b_and, b_0, e1 i hi, b_sshr s (by omega) x hi]
    by_cases z : i = 0
    · subst z
      simp only [Nat.add_zero, show s < 32 by omega, if_true, h, Bool.false_and]
    · simp [z]
theorem za_nf {x : Bool} (h : ¬ x = false) : x = true := by cases x <;> first | rfl | exact absurd rfl h
theorem za_nt {x : Bool} (h : ¬ x = true) : x = false := by cases x <;> first | rfl | exact absurd rfl h
theorem za_bb {x : Int32} {A B : Prop} {s : Nat} (hs : s < 8) (f : bt x s = false → A) (g : bt x s = true → B) : ((((x >>> (nI s &&& 31)) &&& 1) = 0) → A) ∧ (¬ (((x >>> (nI s &&& 31)) &&& 1) = 0) → B) :=
  ⟨fun h => f ((za_bit x hs).mp h), fun h => g (za_nf (fun e => h ((za_bit x hs).mpr e)))⟩
theorem za_one {s : Nat} (hs : s < 32) (i : Nat) (hi : i < 32) : bt ((1 : Int32) <<< (nI s &&& 31)) i = decide (i = s) := by
  have e1 : ∀ i, i < 32 → bt (1 : Int32) i = decide (i = 0) := by decide +kernel
  rw [b_shl s hs 1 hi, e1 (i - s) (by omega)]
  by_cases h : s ≤ i
  · rw [decide_eq_true h, Bool.true_and]
    by_cases h2 : i = s
    · rw [decide_eq_true (by omega), decide_eq_true h2]
    · rw [decide_eq_false (by omega), decide_eq_false h2]
  · rw [decide_eq_false h, Bool.false_and, decide_eq_false (by omega)]
theorem za_not (x : Int32) {i : Nat} (hi : i < 32) : bt (x ^^^ (-1)) i = !bt x i := by
  rw [b_xor, b_m1 i hi, Bool.xor_true]
theorem za_msk : ∀ c, c < 9 → ∀ i, i < 32 → bt (((1 : Int32) <<< (nI c &&& 31)) - 1) i = decide (i < c) := by decide +kernel
theorem za_z {x : Int32} (h : ∀ i, i < 32 → bt x i = false) : x = 0 := b_ext (fun i hi => by rw [h i hi, b_0])
theorem za_nz {x : Int32} (h : ¬ x = 0) : ∃ i, i < 32 ∧ bt x i = true := by
  apply Classical.byContradiction
  intro n
  exact h (za_z (fun i hi => za_nt (fun e => n ⟨i, hi, e⟩)))
theorem za_if {c d A B : Prop} (e : c ↔ d) (f : d → A) (g : ¬ d → B) : (c → A) ∧ (¬ c → B) := ⟨fun h => f (e.mp h), fun h => g (fun z => h (e.mpr z))⟩
theorem za_ai {n N : Nat} (k : Nat) {x : Int32} (h : n + k < N) (hx : x = nI k := by rfl) (hN : N < 2 ^ 31 := by decide) : vp_in (nI n + x) N := by
  subst hx; rw [nI_add]; exact vp_in_nI h hN
theorem za_ac {n : Nat} (k : Nat) {x : Int32} (h : n + k < 2 ^ 31) (hx : x = nI k := by rfl) : (nI n + x).toNatClampNeg = n + k := by
  subst hx; rw [nI_add]; exact nI_clamp h
theorem za_s {P : Int32 → Prop} {x y : Int32} (e : x = y) (h : P y) : P x := by rw [e]; exact h
theorem za_m1 {n : Nat} (h : 1 ≤ n) (h2 : n < 2 ^ 31) : (nI n - 1).toInt = (n : Int) - 1 := by
  rw [show nI n - 1 = nI (n - 1) from pk_sub (b := 1) h, nI_toInt (by omega)]; omega
abbrev ld_JX : Type := Int32 → Int32 → Int32 → Int32 → Int32 → Int32 → Int32 → Int32 → Int32 → Int32 → Int32 → Int32 → Int32 → Int32 → (Nat → Int32) → (Nat → Int32) → (Nat → Int32) → (Nat → Int32) → (Nat → Int32) → (Nat → Int32) → Prop
abbrev ld_JY : Type := Int32 → Int32 → Int32 → Int32 → Int32 → Int32 → Int32 → Int32 → Int32 → (Nat → Int32) → (Nat → Int32) → (Nat → Int32) → (Nat → Int32) → (Nat → Int32) → Prop
end
section
abbrev eg_I (p q R X G B : Int) : Prop :=
  X.natAbs * G.natAbs + B.natAbs * R.natAbs ≤ q.natAbs ∧ X.natAbs ≤ 62 ∧ B.natAbs ≤ 62 ∧ G.natAbs ≤ 62 ∧ R.natAbs ≤ 62 ∧
  (∃ k, p * B + q * k = G) ∧ (∃ k, p * X + q * k = R) ∧ (∀ d : Int, d ∣ G → d ∣ R → d ∣ p ∧ d ∣ q)
theorem eg_nat (x g b r q x' : Nat) (hr : 0 < r) (h : x * g + b * r ≤ q) (hx : x' ≤ b + g / r * x) : x' * r + x * (g % r) ≤ q := by
  have h1 : x' * r ≤ (b + g / r * x) * r := Nat.mul_le_mul_right r hx
  have h2 : r * (g / r) + g % r = g := Nat.div_add_mod g r
  have h3 : x * g = x * (r * (g / r)) + x * (g % r) := by rw [← Nat.mul_add, h2]
  have h4 : (b + g / r * x) * r = b * r + x * (r * (g / r)) := by
    rw [Nat.add_mul]; congr 1
    rw [Nat.mul_comm (g / r) x, Nat.mul_assoc, Nat.mul_comm (g / r) r]
  omega
theorem eg_step {p q R X G B : Int} (hR : R ≠ 0) (hq : q.natAbs ≤ 62) (h : eg_I p q R X G B) :
    eg_I p q (G - G.tdiv R * R) (B - G.tdiv R * X) R X ∧ (G - G.tdiv R * R).natAbs < R.natAbs := by
  obtain ⟨h1, h2, h3, h4, h5, ⟨k1, h6⟩, ⟨k2, h7⟩, h8⟩ := h
  have hr : 0 < R.natAbs := by omega
  have et : G - G.tdiv R * R = G.tmod R := by rw [Int.tmod_def, Int.mul_comm]
  have ea : (G.tmod R).natAbs = G.natAbs % R.natAbs := Int.natAbs_tmod G R
  have eb : (G.tdiv R).natAbs = G.natAbs / R.natAbs := Int.natAbs_tdiv G R
  have ex : (B - G.tdiv R * X).natAbs ≤ B.natAbs + G.natAbs / R.natAbs * X.natAbs := by
    have := Int.natAbs_sub_le B (G.tdiv R * X)
    rw [Int.natAbs_mul, eb] at this
    exact this
  have en := eg_nat X.natAbs G.natAbs B.natAbs R.natAbs q.natAbs _ hr h1 ex
  have hm : G.natAbs % R.natAbs < R.natAbs := Nat.mod_lt _ hr
  rw [et]
  refine ⟨⟨?_, ?_, h2, h5, ?_, ⟨k2, h7⟩, ⟨k1 - G.tdiv R * k2, ?_⟩, ?_⟩, ?_⟩
  · rw [ea]; exact en
  · have : (B - G.tdiv R * X).natAbs ≤ (B - G.tdiv R * X).natAbs * R.natAbs := Nat.le_mul_of_pos_right _ hr
    omega
  · rw [ea]; omega
  · rw [← et, ← h6, ← h7]; grind
  · intro d hd1 hd2
    refine h8 d ?_ hd1
    have e : G = G.tmod R + G.tdiv R * R := (Int.tmod_add_tdiv_mul G R).symm
    rw [e]
    exact Int.dvd_add hd2 (Int.dvd_mul_of_dvd_right hd1)
  · rw [ea]; exact hm
section
variable {O I C N : Nat} {xm xp xq xg xr sg sb sl sr : Int32} {cd wd rs ed gp sq : Nat → Int32}
theorem eg_loop {post : SX → Prop} {p q : Int} (hq : q.natAbs ≤ 62)
    (hp : ∀ g b : Int32, (∃ k, p * b.toInt + q * k = g.toInt) → g.toInt ∣ p → g.toInt ∣ q → g.toInt.natAbs ≤ 62 → b.toInt.natAbs ≤ 62 → post ((nI O), (nI I), xm, (nI C), xp, (nI N), xq, xg, xr, g, b, sl, sr, cd, wd, rs, ed, gp, sq)) :
    ∀ (d t : Nat) (r x g b : Int32), r.toInt.natAbs ≤ d → t + d ≤ 63 → eg_I p q r.toInt x.toInt g.toInt b.toInt →
    ∀ n, d < n → wX_extendedGcd_18 post (nI O) (nI I) xm (nI C) xp (nI N) xq xg xr sl sr cd wd rs ed gp sq n r x (nI t) g b := by
  intro d
  induction d with
  | zero =>
    intro t r x g b hr ht hI n hn
    obtain ⟨n, rfl⟩ : ∃ m, n = m + 1 := ⟨n - 1, by omega⟩
    obtain ⟨h1, h2, h3, h4, h5, h6, h7, h8⟩ := hI
    have h0 : r.toInt = 0 := by omega
    have h9 := h8 g.toInt (Int.dvd_refl _) (by rw [h0]; exact Int.dvd_zero _)
    exact br_f (nI_ge (b := 64) (by omega) (by decide)) (br_t (za_e0 h0) (hp g b h6 h9.1 h9.2 h4 h3))
  | succ d ih =>
    intro t r x g b hr ht hI n hn
    obtain ⟨n, rfl⟩ : ∃ m, n = m + 1 := ⟨n - 1, by omega⟩
    have hI' := hI
    obtain ⟨h1, h2, h3, h4, h5, h6, h7, h8⟩ := hI'
    by_cases h0 : r.toInt = 0
    · have h9 := h8 g.toInt (Int.dvd_refl _) (by rw [h0]; exact Int.dvd_zero _)
      exact br_f (nI_ge (b := 64) (by omega) (by decide)) (br_t (za_e0 h0) (hp g b h6 h9.1 h9.2 h4 h3))
    · obtain ⟨s1, s2⟩ := eg_step h0 hq hI
      have e1 : (g / r).toInt = g.toInt.tdiv r.toInt := za_div (by omega)
      have hb : (g.toInt.tdiv r.toInt).natAbs ≤ 62 := by have := Int.natAbs_tdiv_le_natAbs g.toInt r.toInt; omega
      have e2 : (g / r * r).toInt = g.toInt.tdiv r.toInt * r.toInt := by rw [za_mulB (m := 62) (n := 62) (by omega) (by omega) (by omega) (by omega) (by decide), e1]
      have e3 : (g / r * x).toInt = g.toInt.tdiv r.toInt * x.toInt := by rw [za_mulB (m := 62) (n := 62) (by omega) (by omega) (by omega) (by omega) (by decide), e1]
      have b2 := za_pb (a := g.toInt.tdiv r.toInt) (b := r.toInt) (m := 62) (n := 62) (by omega) (by omega) (by omega) (by omega)
      have b3 := za_pb (a := g.toInt.tdiv r.toInt) (b := x.toInt) (m := 62) (n := 62) (by omega) (by omega) (by omega) (by omega)
      have e4 : (g - g / r * r).toInt = g.toInt - g.toInt.tdiv r.toInt * r.toInt := by rw [za_sub (by omega) (by omega), e2]
      have e5 : (b - g / r * x).toInt = b.toInt - g.toInt.tdiv r.toInt * x.toInt := by rw [za_sub (by omega) (by omega), e3]
      refine br_f (nI_ge (b := 64) (by omega) (by decide)) (br_f (za_ne0 h0) ⟨za_ne0 h0, nm_e (nm_e (nm_e (nm_r (nI_1 t) ?_)))⟩)
      refine ih (t + 1) _ _ _ _ (by rw [e4]; omega) (by omega) (by rw [e4, e5]; exact s1) n (by omega)
theorem eg_walk {post : SX → Prop} {p q : Int32} (h1 : p.toInt.natAbs ≤ 62) (h2 : q.toInt.natAbs ≤ 62)
    (hp : ∀ g b : Int32, (∃ k, p.toInt * b.toInt + q.toInt * k = g.toInt) → g.toInt ∣ p.toInt → g.toInt ∣ q.toInt → g.toInt.natAbs ≤ 62 → b.toInt.natAbs ≤ 62 → post ((nI O), (nI I), xm, (nI C), xp, (nI N), xq, xg, xr, g, b, sl, sr, cd, wd, rs, ed, gp, sq)) :
    wpX_extendedGcd post ((nI O), (nI I), xm, (nI C), xp, (nI N), xq, xg, xr, sg, sb, sl, sr, cd, wd, rs, ed, gp, sq) p q := by
  refine ⟨64, ?_⟩
  have := eg_loop (post := post) (p := p.toInt) (q := q.toInt) h2 hp 62 0 q 0 p 1 h2 (by omega) ?_ 64 (by omega)
  · exact this
  · rw [za_0, za_1]
    refine ⟨by simp, by decide, by decide, h1, h2, ⟨0, by simp⟩, ⟨1, by simp⟩, fun d a b => ⟨a, b⟩⟩
end
end
section
abbrev nr_K (l r l' r' S F : Int) : Prop := l ≤ l' ∧ ∀ n : Int, (l' ≤ n ∧ n ≤ r') ↔ (l ≤ n ∧ n ≤ r ∧ 0 ≤ S * n + F)
theorem nr_div {F Z : Int} (hZ : 0 < Z) : (0 ≤ F.tmod Z → Z * F.tdiv Z ≤ F ∧ F < Z * F.tdiv Z + Z) ∧ (F.tmod Z < 0 → Z * (F.tdiv Z - 1) ≤ F ∧ F < Z * (F.tdiv Z - 1) + Z) := by
  have h1 := Int.mul_tdiv_add_tmod F Z
  have h2 := Int.tmod_lt_of_pos F hZ
  have h3 := Int.lt_tmod_of_pos F hZ
  rw [Int.mul_sub, Int.mul_one]
  exact ⟨fun h => ⟨by omega, by omega⟩, fun h => ⟨by omega, by omega⟩⟩
theorem nr_ab1 {a : Int} (h : a.natAbs ≤ 3000000) : -3000001 ≤ a := by omega
theorem nr_ab2 {a : Int} (h : a.natAbs ≤ 3000000) : -3000001 ≤ a - 1 := by omega
theorem nr_pos {S F fl n : Int} (hS : 0 < S) (h1 : S * fl ≤ F) (h2 : F < S * fl + S) : (0 ≤ S * n + F ↔ -fl ≤ n) := by
  constructor
  · intro h
    apply Classical.byContradiction
    intro c
    have : S * n ≤ S * (-fl - 1) := Int.mul_le_mul_of_nonneg_left (by omega) (by omega)
    rw [Int.mul_sub, Int.mul_neg, Int.mul_one] at this
    omega
  · intro h
    have : S * (-fl) ≤ S * n := Int.mul_le_mul_of_nonneg_left h (by omega)
    rw [Int.mul_neg] at this
    omega
theorem nr_neg {S F fl n : Int} (hS : S < 0) (h1 : -S * fl ≤ F) (h2 : F < -S * fl + -S) : (0 ≤ S * n + F ↔ n ≤ fl) := by
  constructor
  · intro h
    apply Classical.byContradiction
    intro c
    have : -S * (fl + 1) ≤ -S * n := Int.mul_le_mul_of_nonneg_left (by omega) (by omega)
    rw [Int.mul_add, Int.mul_one, Int.neg_mul S n] at this
    omega
  · intro h
    have : -S * n ≤ -S * fl := Int.mul_le_mul_of_nonneg_left h (by omega)
    rw [Int.neg_mul S n] at this
    omega
section
variable {O I C N : Nat} {xm xp xq xg xr sg sb sl sr : Int32} {cd wd rs ed gp sq : Nat → Int32}
theorem nr_25 {post : SX → Prop} {x1 f z : Int32} (hz : 0 < z.toInt) (hz2 : z.toInt ≤ 200) (hf : f.toInt.natAbs ≤ 3000000)
    (K : ∀ fl : Int32, z.toInt * fl.toInt ≤ f.toInt → f.toInt < z.toInt * fl.toInt + z.toInt → -3000001 ≤ fl.toInt → wX_narrow_44 post x1 fl (nI O) (nI I) xm (nI C) xp (nI N) xq xg xr sg sb sl sr cd wd rs ed gp sq) :
    wX_narrow_25 post x1 f z (nI O) (nI I) xm (nI C) xp (nI N) xq xg xr sg sb sl sr cd wd rs ed gp sq := by
  have e1 : (f / z).toInt = f.toInt.tdiv z.toInt := za_div (by omega)
  have hb : (f.toInt.tdiv z.toInt).natAbs ≤ 3000000 := by have := Int.natAbs_tdiv_le_natAbs f.toInt z.toInt; omega
  have e2 : (f / z * z).toInt = f.toInt.tdiv z.toInt * z.toInt := by rw [za_mulB (m := 3000000) (n := 200) (by omega) (by omega) (by omega) (by omega) (by decide), e1]
  have b2 := za_pb (a := f.toInt.tdiv z.toInt) (b := z.toInt) (m := 3000000) (n := 200) (by omega) (by omega) (by omega) (by omega)
  have e3 : (f - f / z * z).toInt = f.toInt.tmod z.toInt := by
    rw [za_sub (by omega) (by omega), e2, Int.tmod_def, Int.mul_comm]
  obtain ⟨k1, k2⟩ := nr_div (F := f.toInt) hz
  refine br_f (za_ne0 (by omega)) ⟨za_ne0 (by omega), nm_e ⟨za_ne0 (by omega), za_le (fun h => ?_) (fun h => nm_e ?_)⟩⟩
  · rw [za_0, e3] at h
    have := k1 h
    exact K _ (by rw [e1]; exact this.1) (by rw [e1]; exact this.2) (by rw [e1]; exact nr_ab1 hb)
  · rw [za_0, e3] at h
    have := k2 h
    have em : (-1 : Int32).toInt = -1 := by decide
    have e4 : (f / z + (-1)).toInt = f.toInt.tdiv z.toInt - 1 := by rw [za_add (by omega) (by omega), e1, em]; omega
    exact K _ (by rw [e4]; exact this.1) (by rw [e4]; exact this.2) (by rw [e4]; exact nr_ab2 hb)
theorem nr_walk {post : SX → Prop} {s f : Int32} (hs : s.toInt.natAbs ≤ 200) (hf : f.toInt.natAbs ≤ 3000000) (hl : -1000000 ≤ sl.toInt)
    (K : ∀ l r : Int32, nr_K sl.toInt sr.toInt l.toInt r.toInt s.toInt f.toInt → post ((nI O), (nI I), xm, (nI C), xp, (nI N), xq, xg, xr, sg, sb, l, r, cd, wd, rs, ed, gp, sq)) : wpX_narrow post ((nI O), (nI I), xm, (nI C), xp, (nI N), xq, xg, xr, sg, sb, sl, sr, cd, wd, rs, ed, gp, sq) s f := by
  rcases Int.lt_trichotomy s.toInt 0 with h | h | h
  · have en : (-s).toInt = -s.toInt := za_neg (by omega)
    refine br_f (by rw [Int32.le_iff_toInt_le, za_0]; omega) (br_f (za_ne0 (by omega)) (nr_25 (by omega) (by omega) hf ?_))
    intro fl k1 k2 k3
    rw [en] at k1 k2
    have hx : s ≤ 0 := by rw [Int32.le_iff_toInt_le, za_0]; omega
    refine br_f (by rw [Int32.le_iff_toInt_le, za_0]; omega) (za_le (fun g => br_t hx (K _ _ ⟨Int.le_refl _, fun n => ?_⟩)) (fun g => br_t hx (K _ _ ⟨Int.le_refl _, fun n => ?_⟩)))
    · rw [nr_neg h k1 k2]; omega
    · rw [nr_neg h k1 k2]; omega
  · have h0 := za_e0 h
    refine br_t (by rw [Int32.le_iff_toInt_le, za_0]; omega) (br_t h0 (za_le (fun g => br_t h0 (K _ _ ⟨Int.le_refl _, fun n => ?_⟩)) (fun g => br_t h0 (K _ _ ⟨Int.le_refl _, fun n => ?_⟩))))
    · rw [za_0] at g
      rw [h, Int.zero_mul]; omega
    · rw [za_0] at g
      have : (-2000000 : Int32).toInt = -2000000 := by decide
      rw [h, Int.zero_mul, this]; omega
  · refine br_t (by rw [Int32.le_iff_toInt_le, za_0]; omega) (br_f (za_ne0 (by omega)) (nr_25 h (by omega) hf ?_))
    intro fl k1 k2 k3
    have en : (-fl).toInt = -fl.toInt := za_neg (by omega)
    refine br_t (by rw [Int32.le_iff_toInt_le, za_0]; omega) (br_f (by rw [Int32.le_iff_toInt_le, za_0]; omega) (za_le (fun g => K _ _ ⟨Int.le_refl _, fun n => ?_⟩) (fun g => nm_e (K _ _ ⟨?_, fun n => ?_⟩))))
    · rw [en] at g
      rw [nr_pos h k1 k2]; omega
    · omega
    · rw [nr_pos h k1 k2, en]; omega
end
/-- p*x + q*y = r for some x in 0..mx, y in 0..my, and x < y if ri -/
abbrev so_S (P Q R mx my : Int) (ri : Prop) : Prop := ∃ x y : Int, 0 ≤ x ∧ x ≤ mx ∧ 0 ≤ y ∧ y ≤ my ∧ (ri → x < y) ∧ P * x + Q * y = R
abbrev so_N (x0 y0 dx dy mx my : Int) (ri : Prop) : Prop := ∃ n : Int, -1000000 ≤ n ∧ n ≤ 1000000 ∧ 0 ≤ dx * n + x0 ∧ 0 ≤ -dx * n + (mx - x0) ∧ 0 ≤ dy * n + y0 ∧ 0 ≤ -dy * n + (my - y0) ∧ (ri → 0 ≤ (dy - dx) * n + (y0 - x0 - 1))
section
variable {O I C N : Nat} {xm xp xq xg xr sg sb sl sr : Int32} {cd wd rs ed gp sq : Nat → Int32}
theorem so_169 {post : Int32 → SX → Prop} {Q : Prop} (e : Q ↔ sl.toInt ≤ sr.toInt) (h1 : Q → post 1 ((nI O), (nI I), xm, (nI C), xp, (nI N), xq, xg, xr, sg, sb, sl, sr, cd, wd, rs, ed, gp, sq)) (h0 : ¬ Q → post 0 ((nI O), (nI I), xm, (nI C), xp, (nI N), xq, xg, xr, sg, sb, sl, sr, cd, wd, rs, ed, gp, sq)) : wX_solvable_169 post (nI O) (nI I) xm (nI C) xp (nI N) xq xg xr sg sb sl sr cd wd rs ed gp sq :=
  za_lt (fun h => h0 (fun q => by have := e.mp q; omega)) (fun h => h1 (e.mpr h))
theorem so_81 {post : Int32 → SX → Prop} {p q mx my ri g x y : Int32} {dx dy : Int}
    (hg : g.toInt ≠ 0) (hp : -p.toInt = dy * g.toInt) (hq : q.toInt = dx * g.toInt)
    (hp2 : p.toInt.natAbs ≤ 62) (hq2 : q.toInt.natAbs ≤ 62)
    (hx : x.toInt.natAbs ≤ 30000) (hy : y.toInt.natAbs ≤ 1600000) (hmx : mx.toInt.natAbs ≤ 4) (hmy : my.toInt.natAbs ≤ 4)
    (h1 : ∀ l r : Int32, so_N x.toInt y.toInt dx dy mx.toInt my.toInt (ri ≠ 0) → post 1 ((nI O), (nI I), xm, (nI C), xp, (nI N), xq, xg, xr, sg, sb, l, r, cd, wd, rs, ed, gp, sq))
    (h0 : ∀ l r : Int32, ¬ so_N x.toInt y.toInt dx dy mx.toInt my.toInt (ri ≠ 0) → post 0 ((nI O), (nI I), xm, (nI C), xp, (nI N), xq, xg, xr, sg, sb, l, r, cd, wd, rs, ed, gp, sq)) :
    wX_solvable_81 post p q mx my ri g x y (nI O) (nI I) xm (nI C) xp (nI N) xq xg xr sg sb sl sr cd wd rs ed gp sq := by
  have np : (-p).toInt = -p.toInt := za_neg (by omega)
  have e1 : (q / g).toInt = dx := by rw [za_div (by omega), hq, Int.mul_tdiv_cancel dx hg]
  have e2 : ((-p) / g).toInt = dy := by rw [za_div (by rw [np]; omega), np, hp, Int.mul_tdiv_cancel dy hg]
  have b1 : dx.natAbs ≤ 62 := by
    have := Int.natAbs_tdiv_le_natAbs q.toInt g.toInt
    rw [hq, Int.mul_tdiv_cancel dx hg] at this; rw [hq] at hq2; omega
  have b2 : dy.natAbs ≤ 62 := by
    have := Int.natAbs_tdiv_le_natAbs (-p.toInt) g.toInt
    rw [hp, Int.mul_tdiv_cancel dy hg] at this; rw [← hp] at this; omega
  have e3 : (-(q / g)).toInt = -dx := by rw [za_neg (by rw [e1]; omega), e1]
  have e4 : (-((-p) / g)).toInt = -dy := by rw [za_neg (by rw [e2]; omega), e2]
  have e5 : (mx - x).toInt = mx.toInt - x.toInt := za_sub (by omega) (by omega)
  have e6 : (my - y).toInt = my.toInt - y.toInt := za_sub (by omega) (by omega)
  have e7 : ((-p) / g - q / g).toInt = dy - dx := by rw [za_sub (by rw [e1, e2]; omega) (by rw [e1, e2]; omega), e1, e2]
  have e8' : (y - x).toInt = y.toInt - x.toInt := za_sub (by omega) (by omega)
  have e8 : ((y - x) - 1).toInt = y.toInt - x.toInt - 1 := by rw [za_sub (by rw [e8', za_1]; omega) (by rw [e8', za_1]; omega), e8', za_1]
  have em : (-1000000 : Int32).toInt = -1000000 := by decide
  have em' : (1000000 : Int32).toInt = 1000000 := by decide
  refine ⟨za_ne0 hg, nm_e ⟨za_ne0 hg, nm_e ?_⟩⟩
  refine nr_walk (by rw [e1]; omega) (by omega) (by rw [em]; omega) ?_
  rintro l1 r1 ⟨k1, k1'⟩
  rw [em] at k1; rw [em, em', e1] at k1'
  refine nr_walk (by rw [e3]; omega) (by rw [e5]; omega) (by omega) ?_
  rintro l2 r2 ⟨k2, k2'⟩
  rw [e3, e5] at k2'
  refine nr_walk (by rw [e2]; omega) (by omega) (by omega) ?_
  rintro l3 r3 ⟨k3, k3'⟩
  rw [e2] at k3'
  refine nr_walk (by rw [e4]; omega) (by rw [e6]; omega) (by omega) ?_
  rintro l4 r4 ⟨k4, k4'⟩
  rw [e4, e6] at k4'
  refine br_c (fun hr => ?_) (fun hr => ?_)
  · refine so_169 (Q := so_N x.toInt y.toInt dx dy mx.toInt my.toInt (ri ≠ 0)) ⟨?_, ?_⟩ (h1 _ _) (h0 _ _)
    · rintro ⟨n, a1, a2, a3, a4, a5, a6, a7⟩
      have := (k4' n).mpr ⟨((k3' n).mpr ⟨((k2' n).mpr ⟨((k1' n).mpr ⟨a1, a2, a3⟩).1, ((k1' n).mpr ⟨a1, a2, a3⟩).2, a4⟩).1, ((k2' n).mpr ⟨((k1' n).mpr ⟨a1, a2, a3⟩).1, ((k1' n).mpr ⟨a1, a2, a3⟩).2, a4⟩).2, a5⟩).1, ((k3' n).mpr ⟨((k2' n).mpr ⟨((k1' n).mpr ⟨a1, a2, a3⟩).1, ((k1' n).mpr ⟨a1, a2, a3⟩).2, a4⟩).1, ((k2' n).mpr ⟨((k1' n).mpr ⟨a1, a2, a3⟩).1, ((k1' n).mpr ⟨a1, a2, a3⟩).2, a4⟩).2, a5⟩).2, a6⟩
      omega
    · intro h
      have c4 := (k4' l4.toInt).mp ⟨Int.le_refl _, h⟩
      have c3 := (k3' l4.toInt).mp ⟨c4.1, c4.2.1⟩
      have c2 := (k2' l4.toInt).mp ⟨c3.1, c3.2.1⟩
      have c1 := (k1' l4.toInt).mp ⟨c2.1, c2.2.1⟩
      exact ⟨l4.toInt, c1.1, c1.2.1, c1.2.2, c2.2.2, c3.2.2, c4.2.2, fun z => absurd hr z⟩
  · refine nr_walk (by rw [e7]; omega) (by rw [e8]; omega) (by omega) ?_
    rintro l5 r5 ⟨k5, k5'⟩
    rw [e7, e8] at k5'
    refine so_169 (Q := so_N x.toInt y.toInt dx dy mx.toInt my.toInt (ri ≠ 0)) ⟨?_, ?_⟩ (h1 _ _) (h0 _ _)
    · rintro ⟨n, a1, a2, a3, a4, a5, a6, a7⟩
      have c1 := (k1' n).mpr ⟨a1, a2, a3⟩
      have c2 := (k2' n).mpr ⟨c1.1, c1.2, a4⟩
      have c3 := (k3' n).mpr ⟨c2.1, c2.2, a5⟩
      have c4 := (k4' n).mpr ⟨c3.1, c3.2, a6⟩
      have c5 := (k5' n).mpr ⟨c4.1, c4.2, a7 hr⟩
      omega
    · intro h
      have c5 := (k5' l5.toInt).mp ⟨Int.le_refl _, h⟩
      have c4 := (k4' l5.toInt).mp ⟨c5.1, c5.2.1⟩
      have c3 := (k3' l5.toInt).mp ⟨c4.1, c4.2.1⟩
      have c2 := (k2' l5.toInt).mp ⟨c3.1, c3.2.1⟩
      have c1 := (k1' l5.toInt).mp ⟨c2.1, c2.2.1⟩
      exact ⟨l5.toInt, c1.1, c1.2.1, c1.2.2, c2.2.2, c3.2.2, c4.2.2, fun _ => c5.2.2⟩
end
/-- all solutions: from one of them and Bezout's numbers -/
theorem so_all {P Q R g b k x0 y0 dx dy mx my : Int} {ri : Prop} (hg : g ≠ 0) (hp : -P = dy * g) (hq : Q = dx * g) (hb : P * b + Q * k = g)
    (hs : P * x0 + Q * y0 = R) (hx0 : x0.natAbs ≤ 30000) (hy0 : Q = 0 → y0 = 0) (hmx : mx ≤ 4) (hmy : my ≤ 4) :
    so_S P Q R mx my ri ↔ so_N x0 y0 dx dy mx my ri := by
  have hp' : P = (-dy) * g := by rw [Int.neg_mul, ← hp]; omega
  have h1 : (-dy) * b + dx * k = 1 := by
    have : ((-dy) * b + dx * k) * g = 1 * g := by rw [hp', hq] at hb; grind
    exact Int.eq_of_mul_eq_mul_right hg this
  constructor
  · rintro ⟨x, y, a1, a2, a3, a4, a5, a6⟩
    have h2 : ((-dy) * (x - x0) + dx * (y - y0)) * g = 0 * g := by rw [hp', hq] at a6 hs; grind
    have h3 : (-dy) * (x - x0) + dx * (y - y0) = 0 := Int.eq_of_mul_eq_mul_right hg h2
    have e1 : dx * (k * (x - x0) - b * (y - y0)) = x - x0 := by grind
    have e2 : dy * (k * (x - x0) - b * (y - y0)) = y - y0 := by grind
    generalize hn : k * (x - x0) - b * (y - y0) = n at e1 e2
    have hbn : -1000000 ≤ n ∧ n ≤ 1000000 := by
      by_cases hz : dx = 0
      · have q0 : Q = 0 := by rw [hq, hz, Int.zero_mul]
        have := hy0 q0
        have u : dy.natAbs * n.natAbs = (y - y0).natAbs := by rw [← Int.natAbs_mul, e2]
        have hd : dy ≠ 0 := by intro z; rw [z, hz] at h1; simp at h1
        have : n.natAbs ≤ dy.natAbs * n.natAbs := Nat.le_mul_of_pos_left _ (by omega)
        omega
      · have u : dx.natAbs * n.natAbs = (x - x0).natAbs := by rw [← Int.natAbs_mul, e1]
        have : n.natAbs ≤ dx.natAbs * n.natAbs := Nat.le_mul_of_pos_left _ (by omega)
        omega
    refine ⟨n, hbn.1, hbn.2, by rw [e1]; omega, by rw [Int.neg_mul, e1]; omega, by rw [e2]; omega, by rw [Int.neg_mul, e2]; omega, fun z => ?_⟩
    rw [Int.sub_mul, e1, e2]
    have := a5 z
    omega
  · rintro ⟨n, _, _, a3, a4, a5, a6, a7⟩
    refine ⟨dx * n + x0, dy * n + y0, a3, ?_, a5, ?_, fun z => ?_, ?_⟩
    · rw [Int.neg_mul] at a4; omega
    · rw [Int.neg_mul] at a6; omega
    · have := a7 z; rw [Int.sub_mul] at this; omega
    · rw [← hs, hp', hq]; grind
section
variable {O I C N : Nat} {xm xp xq xg xr sg sb sl sr : Int32} {cd wd rs ed gp sq : Nat → Int32}
theorem so_28 {post : Int32 → SX → Prop} {p q r mx my ri : Int32} (hpq : p.toInt ≠ 0 ∨ q.toInt ≠ 0)
    (hp2 : p.toInt.natAbs ≤ 62) (hq2 : q.toInt.natAbs ≤ 62) (hr : r.toInt.natAbs ≤ 400)
    (hmx : 0 ≤ mx.toInt ∧ mx.toInt ≤ 4) (hmy : 0 ≤ my.toInt ∧ my.toInt ≤ 4)
    (h1 : ∀ g b l r' : Int32, so_S p.toInt q.toInt r.toInt mx.toInt my.toInt (ri ≠ 0) → post 1 ((nI O), (nI I), xm, (nI C), xp, (nI N), xq, xg, xr, g, b, l, r', cd, wd, rs, ed, gp, sq))
    (h0 : ∀ g b l r' : Int32, ¬ so_S p.toInt q.toInt r.toInt mx.toInt my.toInt (ri ≠ 0) → post 0 ((nI O), (nI I), xm, (nI C), xp, (nI N), xq, xg, xr, g, b, l, r', cd, wd, rs, ed, gp, sq)) :
    wX_solvable_28 post p q r mx my ri (nI O) (nI I) xm (nI C) xp (nI N) xq xg xr sg sb sl sr cd wd rs ed gp sq := by
  refine eg_walk hp2 hq2 ?_
  rintro g b ⟨k, hk⟩ ⟨p', dp⟩ ⟨q', dq⟩ hg62 hb62
  have hg : g.toInt ≠ 0 := by
    intro z; rw [z, Int.zero_mul] at dp dq; omega
  refine br_f (za_ne0 hg) ⟨za_ne0 hg, ?_⟩
  have e1 : (r / g).toInt = r.toInt.tdiv g.toInt := za_div (by omega)
  have hb : (r.toInt.tdiv g.toInt).natAbs ≤ 400 := by have := Int.natAbs_tdiv_le_natAbs r.toInt g.toInt; omega
  have e2 : (r / g * g).toInt = r.toInt.tdiv g.toInt * g.toInt := by rw [za_mulB (m := 400) (n := 62) (by omega) (by omega) (by omega) (by omega) (by decide), e1]
  have b2 := za_pb (a := r.toInt.tdiv g.toInt) (b := g.toInt) (m := 400) (n := 62) (by omega) (by omega) (by omega) (by omega)
  have e3 : (r - r / g * g).toInt = r.toInt.tmod g.toInt := by
    rw [za_sub (by omega) (by omega), e2, Int.tmod_def, Int.mul_comm]
  refine br_c (fun h => ?_) (fun h => ?_)
  · have h' : r.toInt.tmod g.toInt = 0 := by rw [← e3, h, za_0]
    have hm : g.toInt * r.toInt.tdiv g.toInt = r.toInt := Int.mul_tdiv_cancel_of_tmod_eq_zero h'
    generalize hmm : r.toInt.tdiv g.toInt = m at hm e1 hb
    have ex : (r / g * b).toInt = m * b.toInt := by rw [za_mulB (m := 400) (n := 62) (by omega) (by omega) (by omega) (by omega) (by decide), e1]
    have bx := za_pb (a := m) (b := b.toInt) (m := 400) (n := 62) (by omega) (by omega) (by omega) (by omega)
    have epx : (p * (r / g * b)).toInt = p.toInt * (m * b.toInt) := by rw [za_mulB (m := 62) (n := 24800) (by omega) (by omega) (by rw [ex]; omega) (by rw [ex]; omega) (by decide), ex]
    have bpx := za_pb (a := p.toInt) (b := m * b.toInt) (m := 62) (n := 24800) (by omega) (by omega) (by omega) (by omega)
    have erp : (r - p * (r / g * b)).toInt = r.toInt - p.toInt * (m * b.toInt) := by rw [za_sub (by rw [epx]; omega) (by rw [epx]; omega), epx]
    have hs0 : p.toInt * (m * b.toInt) + q.toInt * (m * k) = r.toInt := by rw [← hm, ← hk]; grind
    refine ⟨za_ne0 hg, nm_e (br_c (fun hq => ?_) (fun hq => ⟨hq, ?_⟩))⟩
    · have hq0 : q.toInt = 0 := by rw [hq, za_0]
      have hs : p.toInt * (m * b.toInt) + q.toInt * 0 = r.toInt := by rw [← hs0, hq0]; simp
      have key := so_all (ri := ri ≠ 0) (mx := mx.toInt) (my := my.toInt) (dy := -p') (dx := q') hg (by rw [dp]; grind) (by rw [dq]; grind) hk hs (by omega) (fun _ => rfl) hmx.2 hmy.2
      refine so_81 (dx := q') (dy := -p') hg (by rw [dp]; grind) (by rw [dq]; grind) hp2 hq2 (by rw [ex]; omega) (by rw [za_0]; decide) (by omega) (by omega) ?_ ?_
      · intro l r' h; rw [ex, za_0] at h; exact h1 _ _ _ _ (key.mpr h)
      · intro l r' h; rw [ex, za_0] at h; exact h0 _ _ _ _ (fun z => h (key.mp z))
    · have hq0 : q.toInt ≠ 0 := fun z => hq (za_e0 z)
      have ey : ((r - p * (r / g * b)) / q).toInt = m * k := by
        rw [za_div (by rw [erp]; omega), erp]
        have : r.toInt - p.toInt * (m * b.toInt) = q.toInt * (m * k) := by omega
        rw [this, Int.mul_tdiv_cancel_left _ hq0]
      have by' : (m * k).natAbs ≤ 1600000 := by
        have u := Int.natAbs_tdiv_le_natAbs (r.toInt - p.toInt * (m * b.toInt)) q.toInt
        have : r.toInt - p.toInt * (m * b.toInt) = q.toInt * (m * k) := by omega
        rw [this, Int.mul_tdiv_cancel_left _ hq0, ← this] at u
        omega
      have key := so_all (ri := ri ≠ 0) (mx := mx.toInt) (my := my.toInt) (dy := -p') (dx := q') hg (by rw [dp]; grind) (by rw [dq]; grind) hk hs0 (by omega) (fun z => absurd z hq0) hmx.2 hmy.2
      refine so_81 (dx := q') (dy := -p') hg (by rw [dp]; grind) (by rw [dq]; grind) hp2 hq2 (by rw [ex]; omega) (by rw [ey]; exact by') (by omega) (by omega) ?_ ?_
      · intro l r' h; rw [ex, ey] at h; exact h1 _ _ _ _ (key.mpr h)
      · intro l r' h; rw [ex, ey] at h; exact h0 _ _ _ _ (fun z => h (key.mp z))
  · have h' : r.toInt.tmod g.toInt ≠ 0 := by rw [← e3]; exact fun z => h (za_e0 z)
    refine h0 _ _ _ _ ?_
    rintro ⟨x, y, _, _, _, _, _, a6⟩
    apply h'
    apply Int.tmod_eq_zero_of_dvd
    rw [← a6, dp, dq]
    exact Int.dvd_add ⟨p' * x, by rw [Int.mul_assoc]⟩ ⟨q' * y, by rw [Int.mul_assoc]⟩
theorem so_walk {post : Int32 → SX → Prop} {p q r mx my ri : Int32}
    (hp2 : p.toInt.natAbs ≤ 62) (hq2 : q.toInt.natAbs ≤ 62) (hr : r.toInt.natAbs ≤ 400)
    (hmx : 0 ≤ mx.toInt ∧ mx.toInt ≤ 4) (hmy : 0 ≤ my.toInt ∧ my.toInt ≤ 4)
    (h1 : ∀ g b l r' : Int32, so_S p.toInt q.toInt r.toInt mx.toInt my.toInt (ri ≠ 0) → post 1 ((nI O), (nI I), xm, (nI C), xp, (nI N), xq, xg, xr, g, b, l, r', cd, wd, rs, ed, gp, sq))
    (h0 : ∀ g b l r' : Int32, ¬ so_S p.toInt q.toInt r.toInt mx.toInt my.toInt (ri ≠ 0) → post 0 ((nI O), (nI I), xm, (nI C), xp, (nI N), xq, xg, xr, g, b, l, r', cd, wd, rs, ed, gp, sq)) :
    wpX_solvable post ((nI O), (nI I), xm, (nI C), xp, (nI N), xq, xg, xr, sg, sb, sl, sr, cd, wd, rs, ed, gp, sq) p q r mx my ri := by
  refine br_c (fun hp => br_c (fun hq => br_c (fun hr0 => br_c (fun hz => h1 _ _ _ _ ?_) (fun hz => za_le (fun hm => h0 _ _ _ _ ?_) (fun hm => h1 _ _ _ _ ?_))) (fun hr0 => h0 _ _ _ _ ?_)) (fun hq => so_28 ?_ hp2 hq2 hr hmx hmy h1 h0)) (fun hp => so_28 ?_ hp2 hq2 hr hmx hmy h1 h0)
  · exact ⟨0, 0, by omega, by omega, by omega, by omega, fun z => absurd hz z, by rw [hr0, za_0]; simp⟩
  · rw [za_0] at hm
    rintro ⟨x, y, a1, a2, a3, a4, a5, a6⟩
    have := a5 hz
    omega
  · rw [za_0] at hm
    exact ⟨0, 1, by omega, by omega, by omega, by omega, fun _ => by omega, by rw [hr0, hq, za_0]; simp⟩
  · rintro ⟨x, y, a1, a2, a3, a4, a5, a6⟩
    rw [hp, hq, za_0] at a6
    exact hr0 (za_e0 (by omega))
  · exact Or.inr (fun z => hq (za_e0 z))
  · exact Or.inl (fun z => hp (za_e0 z))
end
end
section
/-- a good access at place pl -/
def ld_ac (cd : Nat → Int32) (O I C pl : Nat) : Prop :=
  ∃ ar : Nat, ar ≤ 3 ∧ cd pl = nI ar ∧ -31 ≤ (cd (pl + 1)).toInt ∧ (cd (pl + 1)).toInt ≤ 31 ∧ -31 ≤ (cd (pl + 2)).toInt ∧ (cd (pl + 2)).toInt ≤ 31 ∧
  0 ≤ (cd (pl + 3)).toInt ∧ (cd (pl + 3)).toInt < 32 ∧
  ∀ i j : Nat, i < O → j < I → 0 ≤ (cd (pl + 1)).toInt * i + (cd (pl + 2)).toInt * j + (cd (pl + 3)).toInt ∧ (cd (pl + 1)).toInt * i + (cd (pl + 2)).toInt * j + (cd (pl + 3)).toInt < C
def ld_op (cd : Nat → Int32) (O I C pl : Nat) : Prop := cd pl = -1 ∨ ld_ac cd O I C pl
def ld_row (cd : Nat → Int32) (O I C s : Nat) : Prop := ld_ac cd O I C (s * 13) ∧ ld_op cd O I C (s * 13 + 4) ∧ ld_op cd O I C (s * 13 + 8)
/-- the subscript at place pl in the instance i, j -/
def ld_sub (cd : Nat → Int32) (pl i j : Nat) : Int32 := cd (pl + 1) * nI i + cd (pl + 2) * nI j + cd (pl + 3)
def ld_lv (lv i j k l : Nat) : Prop := (lv = 1 ∧ i < k) ∨ (lv = 2 ∧ i = k ∧ j < l) ∨ (lv = 3 ∧ i = k ∧ j = l)
def ld_Met (cd : Nat → Int32) (O I f t lv : Nat) : Prop :=
  cd f = cd t ∧ ∃ i j k l : Nat, i < O ∧ j < I ∧ k < O ∧ l < I ∧ ld_lv lv i j k l ∧ ld_sub cd f i j = ld_sub cd t k l
def ld_Dep (cd : Nat → Int32) (O I s t kd lv : Nat) : Prop :=
  (lv = 3 → s < t) ∧ ((kd = 0 ∧ (ld_Met cd O I (s * 13) (t * 13 + 4) lv ∨ ld_Met cd O I (s * 13) (t * 13 + 8) lv)) ∨
    (kd = 1 ∧ (ld_Met cd O I (s * 13 + 4) (t * 13) lv ∨ ld_Met cd O I (s * 13 + 8) (t * 13) lv)) ∨ (kd = 2 ∧ ld_Met cd O I (s * 13) (t * 13) lv))
def ld_E (cd : Nat → Int32) (O I v s t : Nat) : Prop :=
  ∃ lv kd : Nat, v ≤ lv ∧ lv ≤ 3 ∧ kd < 3 ∧ ¬ (s = t ∧ kd = 1) ∧ ld_Dep cd O I s t kd lv
/-- the graph of level v, cut to the statements below N -/
def ld_G (cd : Nat → Int32) (O I N v : Nat) (s t : Nat) : Prop := s < N ∧ t < N ∧ ld_E cd O I v s t
theorem ld_E_mono {cd : Nat → Int32} {O I s t : Nat} (h : ld_E cd O I 2 s t) : ld_E cd O I 1 s t := by
  obtain ⟨lv, kd, h1, h2⟩ := h
  exact ⟨lv, kd, by omega, h2⟩
theorem ld_subI {cd : Nat → Int32} {O I C pl i j : Nat} (h : ld_ac cd O I C pl) (hO : O ≤ 5) (hI : I ≤ 5) (hi : i < O) (hj : j < I) :
    (ld_sub cd pl i j).toInt = (cd (pl + 1)).toInt * i + (cd (pl + 2)).toInt * j + (cd (pl + 3)).toInt := by
  obtain ⟨ar, h0, h1, h2, h3, h4, h5, h6, h7, h8⟩ := h
  have hh := h8 i j hi hj
  have ei : (nI i).toInt = i := nI_toInt (by omega)
  have ej : (nI j).toInt = j := nI_toInt (by omega)
  have hc := (cd (pl + 3)).toInt_lt
  have a1 : (cd (pl + 1) * nI i).toInt = (cd (pl + 1)).toInt * i := by rw [za_mulB (m := 31) (n := 5) (by omega) (by omega) (by omega) (by omega) (by decide), ei]
  have a2 : (cd (pl + 2) * nI j).toInt = (cd (pl + 2)).toInt * j := by rw [za_mulB (m := 31) (n := 5) (by omega) (by omega) (by omega) (by omega) (by decide), ej]
  have b1 := za_pb (a := (cd (pl + 1)).toInt) (b := (i : Int)) (m := 31) (n := 5) (by omega) (by omega) (by omega) (by omega)
  have b2 := za_pb (a := (cd (pl + 2)).toInt) (b := (j : Int)) (m := 31) (n := 5) (by omega) (by omega) (by omega) (by omega)
  have a3 : (cd (pl + 1) * nI i + cd (pl + 2) * nI j).toInt = (cd (pl + 1)).toInt * i + (cd (pl + 2)).toInt * j := by rw [za_add (by omega) (by omega), a1, a2]
  unfold ld_sub
  rw [za_add (by omega) (by omega), a3]
theorem ld_subB {cd : Nat → Int32} {O I C pl i j : Nat} (h : ld_ac cd O I C pl) (hO : O ≤ 5) (hI : I ≤ 5) (hi : i < O) (hj : j < I) :
    0 ≤ (ld_sub cd pl i j).toInt ∧ (ld_sub cd pl i j).toInt < C := by
  rw [ld_subI h hO hI hi hj]
  obtain ⟨ar, h0, h1, h2, h3, h4, h5, h6, h7, h8⟩ := h
  exact h8 i j hi hj
/-- level 3 as an equation -/
theorem ld_m3 {cd : Nat → Int32} {O I C f t : Nat} (hf : ld_ac cd O I C f) (ht : ld_ac cd O I C t) (hO : O ≤ 5) (hI : I ≤ 5) (he : cd f = cd t) :
    ld_Met cd O I f t 3 ↔ so_S ((cd (f + 1)).toInt - (cd (t + 1)).toInt) ((cd (f + 2)).toInt - (cd (t + 2)).toInt) ((cd (t + 3)).toInt - (cd (f + 3)).toInt) ((O : Int) - 1) ((I : Int) - 1) False := by
  constructor
  · rintro ⟨_, i, j, k, l, a1, a2, a3, a4, a5, a6⟩
    rcases a5 with ⟨z, _⟩ | ⟨z, _⟩ | ⟨_, rfl, rfl⟩
    · omega
    · omega
    · have := congrArg Int32.toInt a6
      rw [ld_subI hf hO hI a1 a2, ld_subI ht hO hI a1 a2] at this
      refine ⟨i, j, by omega, by omega, by omega, by omega, fun z => z.elim, ?_⟩
      rw [Int.sub_mul, Int.sub_mul]; omega
  · rintro ⟨x, y, a1, a2, a3, a4, _, a6⟩
    obtain ⟨i, rfl⟩ := Int.eq_ofNat_of_zero_le a1
    obtain ⟨j, rfl⟩ := Int.eq_ofNat_of_zero_le a3
    refine ⟨he, i, j, i, j, by omega, by omega, by omega, by omega, Or.inr (Or.inr ⟨rfl, rfl, rfl⟩), ?_⟩
    apply Int32.toInt_inj.mp
    rw [ld_subI hf hO hI (by omega) (by omega), ld_subI ht hO hI (by omega) (by omega)]
    rw [Int.sub_mul, Int.sub_mul] at a6; omega
/-- one pair of rows i, k at level 1 or 2 as an equation -/
def ld_Q (cd : Nat → Int32) (I f t i k : Nat) (ri : Prop) : Prop :=
  so_S (cd (f + 2)).toInt (-(cd (t + 2)).toInt) ((cd (t + 1)).toInt * k - (cd (f + 1)).toInt * i + ((cd (t + 3)).toInt - (cd (f + 3)).toInt)) ((I : Int) - 1) ((I : Int) - 1) ri
theorem ld_m12 {cd : Nat → Int32} {O I C f t i k lv : Nat} (hf : ld_ac cd O I C f) (ht : ld_ac cd O I C t) (hO : O ≤ 5) (hI : I ≤ 5) (hi : i < O) (hk : k < O) :
    ld_Q cd I f t i k (lv = 2) ↔ ∃ j l : Nat, j < I ∧ l < I ∧ (lv = 2 → j < l) ∧ ld_sub cd f i j = ld_sub cd t k l := by
  constructor
  · rintro ⟨x, y, a1, a2, a3, a4, a5, a6⟩
    obtain ⟨j, rfl⟩ := Int.eq_ofNat_of_zero_le a1
    obtain ⟨l, rfl⟩ := Int.eq_ofNat_of_zero_le a3
    refine ⟨j, l, by omega, by omega, fun z => by have := a5 z; omega, ?_⟩
    apply Int32.toInt_inj.mp
    rw [ld_subI hf hO hI hi (by omega), ld_subI ht hO hI hk (by omega)]
    rw [Int.neg_mul] at a6; omega
  · rintro ⟨j, l, a1, a2, a3, a4⟩
    have := congrArg Int32.toInt a4
    rw [ld_subI hf hO hI hi a1, ld_subI ht hO hI hk a2] at this
    refine ⟨j, l, by omega, by omega, by omega, by omega, fun z => by have := a3 z; omega, ?_⟩
    rw [Int.neg_mul]; omega
theorem ld_Q1 {cd : Nat → Int32} {O I C f t i k : Nat} (hf : ld_ac cd O I C f) (ht : ld_ac cd O I C t) (hO : O ≤ 5) (hI : I ≤ 5) (he : cd f = cd t) (hi : i < k) (hk : k < O) {lv : Nat} (hl : lv = 1)
    (h : ld_Q cd I f t i k (lv = 2)) : ld_Met cd O I f t lv := by
  obtain ⟨j, l, a1, a2, a3, a4⟩ := (ld_m12 hf ht hO hI (by omega) hk).mp h
  exact ⟨he, i, j, k, l, by omega, a1, hk, a2, Or.inl ⟨hl, hi⟩, a4⟩
theorem ld_Q2 {cd : Nat → Int32} {O I C f t i : Nat} (hf : ld_ac cd O I C f) (ht : ld_ac cd O I C t) (hO : O ≤ 5) (hI : I ≤ 5) (he : cd f = cd t) (hk : i < O) {lv : Nat} (hl : lv = 2)
    (h : ld_Q cd I f t i i (lv = 2)) : ld_Met cd O I f t lv := by
  obtain ⟨j, l, a1, a2, a3, a4⟩ := (ld_m12 hf ht hO hI (by omega) hk).mp h
  exact ⟨he, i, j, i, l, by omega, a1, hk, a2, Or.inr (Or.inl ⟨hl, rfl, a3 hl⟩), a4⟩
theorem ld_Qn {cd : Nat → Int32} {O I C f t lv : Nat} (hf : ld_ac cd O I C f) (ht : ld_ac cd O I C t) (hO : O ≤ 5) (hI : I ≤ 5) (hl : lv = 1 ∨ lv = 2)
    (h : ∀ i k, i < O → k < O → (lv = 1 ∧ i < k) ∨ (lv = 2 ∧ i = k) → ¬ ld_Q cd I f t i k (lv = 2)) : ¬ ld_Met cd O I f t lv := by
  rintro ⟨_, i, j, k, l, a1, a2, a3, a4, a5, a6⟩
  rcases a5 with ⟨z, a7⟩ | ⟨z, a7, a8⟩ | ⟨z, _⟩
  · exact h i k a1 a3 (Or.inl ⟨z, a7⟩) ((ld_m12 hf ht hO hI a1 a3).mpr ⟨j, l, a2, a4, fun y => by omega, a6⟩)
  · exact h i k a1 a3 (Or.inr ⟨z, a7⟩) ((ld_m12 hf ht hO hI a1 a3).mpr ⟨j, l, a2, a4, fun y => a8, a6⟩)
  · omega
end
section
section
variable {O I C N : Nat} {xm xp xq xg xr sg sb sl sr : Int32} {cd wd rs ed gp sq : Nat → Int32}
theorem me_so {post : Int32 → SX → Prop} {f t i k : Nat} {ri : Int32} {P : Prop} (hf : ld_ac cd O I C f) (ht : ld_ac cd O I C t) (hO : O ≤ 5) (hI : I ≤ 5) (hI1 : 1 ≤ I) (hi : i < O) (hk : k < O) (hC : C ≤ 32)
    (hP : ri ≠ 0 ↔ P)
    (h1 : ∀ g b l r : Int32, ld_Q cd I f t i k P → post 1 ((nI O), (nI I), xm, (nI C), xp, (nI N), xq, xg, xr, g, b, l, r, cd, wd, rs, ed, gp, sq))
    (h0 : ∀ g b l r : Int32, ¬ ld_Q cd I f t i k P → post 0 ((nI O), (nI I), xm, (nI C), xp, (nI N), xq, xg, xr, g, b, l, r, cd, wd, rs, ed, gp, sq)) :
    wpX_solvable post ((nI O), (nI I), xm, (nI C), xp, (nI N), xq, xg, xr, sg, sb, sl, sr, cd, wd, rs, ed, gp, sq) (cd (f + 2)) (-(cd (t + 2))) (cd (t + 1) * nI k - cd (f + 1) * nI i + (cd (t + 3) - cd (f + 3))) (nI I - 1) (nI I - 1) ri := by
  obtain ⟨af, f0, f1, f2, f3, f4, f5, f6, f7, f8⟩ := hf
  obtain ⟨at', t0, t1, t2, t3, t4, t5, t6, t7, t8⟩ := ht
  have ei : (nI i).toInt = i := nI_toInt (by omega)
  have ek : (nI k).toInt = k := nI_toInt (by omega)
  have eI := za_m1 hI1 (by omega)
  have q1 : (-(cd (t + 2))).toInt = -(cd (t + 2)).toInt := za_neg (by omega)
  have a1 : (cd (t + 1) * nI k).toInt = (cd (t + 1)).toInt * k := by rw [za_mulB (m := 31) (n := 5) (by omega) (by omega) (by omega) (by omega) (by decide), ek]
  have a2 : (cd (f + 1) * nI i).toInt = (cd (f + 1)).toInt * i := by rw [za_mulB (m := 31) (n := 5) (by omega) (by omega) (by omega) (by omega) (by decide), ei]
  have b1 := za_pb (a := (cd (t + 1)).toInt) (b := (k : Int)) (m := 31) (n := 5) (by omega) (by omega) (by omega) (by omega)
  have b2 := za_pb (a := (cd (f + 1)).toInt) (b := (i : Int)) (m := 31) (n := 5) (by omega) (by omega) (by omega) (by omega)
  have a3 : (cd (t + 3) - cd (f + 3)).toInt = (cd (t + 3)).toInt - (cd (f + 3)).toInt := za_sub (by omega) (by omega)
  have a4 : (cd (t + 1) * nI k - cd (f + 1) * nI i).toInt = (cd (t + 1)).toInt * k - (cd (f + 1)).toInt * i := by rw [za_sub (by rw [a1, a2]; omega) (by rw [a1, a2]; omega), a1, a2]
  have a5 : (cd (t + 1) * nI k - cd (f + 1) * nI i + (cd (t + 3) - cd (f + 3))).toInt = (cd (t + 1)).toInt * k - (cd (f + 1)).toInt * i + ((cd (t + 3)).toInt - (cd (f + 3)).toInt) := by
    rw [za_add (by rw [a3, a4]; omega) (by rw [a3, a4]; omega), a3, a4]
  have eP : (ri ≠ 0) = P := propext hP
  refine so_walk (by omega) (by rw [q1]; omega) (by rw [a5]; omega) (by rw [eI]; omega) (by rw [eI]; omega) ?_ ?_
  · intro g b l r h
    rw [q1, a5, eI, eP] at h
    exact h1 g b l r h
  · intro g b l r h
    rw [q1, a5, eI, eP] at h
    exact h0 g b l r h
theorem me_149 {post : Int32 → SX → Prop} {J : ld_JX} {f t i k0 last lv : Nat} (hf : ld_ac cd O I C f) (ht : ld_ac cd O I C t) (hO : O ≤ 5) (hI : I ≤ 5) (hI1 : 1 ≤ I) (hC : C ≤ 32) (hi : i < O) (hla : last < O) (hlv : lv = 1 ∨ lv = 2) (ht3 : t + 3 < 117)
    (H1 : ∀ k, k0 ≤ k → k ≤ last → ld_Q cd I f t i k (lv = 2) → ∀ g b l r : Int32, post 1 ((nI O), (nI I), xm, (nI C), xp, (nI N), xq, xg, xr, g, b, l, r, cd, wd, rs, ed, gp, sq))
    (H0 : (∀ k, k0 ≤ k → k ≤ last → ¬ ld_Q cd I f t i k (lv = 2)) → ∀ g b l r : Int32, J (nI (i + 1)) (nI O) (nI I) xm (nI C) xp (nI N) xq xg xr g b l r cd wd rs ed gp sq) :
    ∀ d k : Nat, k0 ≤ k → k + d = last + 1 → (∀ k', k0 ≤ k' → k' < k → ¬ ld_Q cd I f t i k' (lv = 2)) → ∀ (g b l r : Int32) (n : Nat), d < n →
    wX_meets_149 post J (nI t) (nI lv) (cd (t + 3) - cd (f + 3)) (cd (f + 1)) (cd (f + 2)) (nI i) (nI last) n (nI k) (nI O) (nI I) xm (nI C) xp (nI N) xq xg xr g b l r cd wd rs ed gp sq := by
  intro d
  induction d with
  | zero =>
    intro k hk hd hQ g b l r n hn
    obtain ⟨n, rfl⟩ : ∃ m, n = m + 1 := ⟨n - 1, by omega⟩
    exact br_t (nI_lt (by omega) (by omega)) (nm_r (nI_1 i) (H0 (fun k' a1 a2 => hQ k' a1 (by omega)) g b l r))
  | succ d ih =>
    intro k hk hd hQ g b l r n hn
    obtain ⟨n, rfl⟩ : ∃ m, n = m + 1 := ⟨n - 1, by omega⟩
    have e1 : (nI t + 1).toNatClampNeg = t + 1 := za_ac 1 (by omega)
    have e2 : (nI t + 2).toNatClampNeg = t + 2 := za_ac 2 (by omega)
    refine br_f (nI_nlt (by omega) (by omega)) ⟨za_ai 1 (by omega), nm_r (e' := cd (t + 1) * nI k - cd (f + 1) * nI i + (cd (t + 3) - cd (f + 3))) (by rw [e1]) ⟨za_ai 2 (by omega), ?_⟩⟩
    rw [e2]
    refine pk_eq lv 2 (fun h2 => ?_) (fun h2 => ?_)
    · refine me_so (P := lv = 2) hf ht hO hI hI1 hi (by omega) hC ⟨fun _ => h2, fun _ => by decide⟩ ?_ ?_
      · intro g b l r h
        exact br_f (by decide) (H1 k hk (by omega) h g b l r)
      · intro g b l r h
        refine br_t rfl (nm_r (nI_1 k) (ih (k + 1) (by omega) (by omega) ?_ g b l r n (by omega)))
        intro k' c1 c2
        rcases Nat.lt_or_ge k' k with c | c
        · exact hQ k' c1 c
        · rw [show k' = k by omega]; exact h
    · refine me_so (P := lv = 2) hf ht hO hI hI1 hi (by omega) hC ⟨fun z => absurd rfl z, fun z => absurd z h2⟩ ?_ ?_
      · intro g b l r h
        exact br_f (by decide) (H1 k hk (by omega) h g b l r)
      · intro g b l r h
        refine br_t rfl (nm_r (nI_1 k) (ih (k + 1) (by omega) (by omega) ?_ g b l r n (by omega)))
        intro k' c1 c2
        rcases Nat.lt_or_ge k' k with c | c
        · exact hQ k' c1 c
        · rw [show k' = k by omega]; exact h
theorem me_106 {post : Int32 → SX → Prop} {f t lv : Nat} (hf : ld_ac cd O I C f) (ht : ld_ac cd O I C t) (hO : O ≤ 5) (hO1 : 1 ≤ O) (hI : I ≤ 5) (hI1 : 1 ≤ I) (hC : C ≤ 32) (hlv : lv = 1 ∨ lv = 2) (ht3 : t + 3 < 117) (he : cd f = cd t)
    (H1 : ld_Met cd O I f t lv → ∀ g b l r : Int32, post 1 ((nI O), (nI I), xm, (nI C), xp, (nI N), xq, xg, xr, g, b, l, r, cd, wd, rs, ed, gp, sq))
    (H0 : ¬ ld_Met cd O I f t lv → ∀ g b l r : Int32, post 0 ((nI O), (nI I), xm, (nI C), xp, (nI N), xq, xg, xr, g, b, l, r, cd, wd, rs, ed, gp, sq)) :
    ∀ d i : Nat, i + d = O → (∀ i' k, i' < i → k < O → (lv = 1 ∧ i' < k) ∨ (lv = 2 ∧ i' = k) → ¬ ld_Q cd I f t i' k (lv = 2)) → ∀ (g b l r : Int32) (n : Nat), d < n →
    wX_meets_106 post (nI t) (nI lv) (cd (t + 3) - cd (f + 3)) (cd (f + 1)) (cd (f + 2)) n (nI i) (nI O) (nI I) xm (nI C) xp (nI N) xq xg xr g b l r cd wd rs ed gp sq := by
  intro d
  induction d with
  | zero =>
    intro i hd hQ g b l r n hn
    obtain ⟨n, rfl⟩ : ∃ m, n = m + 1 := ⟨n - 1, by omega⟩
    refine br_t (nI_le (by omega) (by omega)) (H0 (ld_Qn hf ht hO hI hlv ?_) g b l r)
    intro i' k a1 a2 a3
    exact hQ i' k (by omega) a2 a3
  | succ d ih =>
    intro i hd hQ g b l r n hn
    obtain ⟨n, rfl⟩ : ∃ m, n = m + 1 := ⟨n - 1, by omega⟩
    refine br_f (nI_ge (by omega) (by omega)) (pk_eq lv 1 (fun h1 => ?_) (fun h1 => ?_))
    · have eo : nI O - 1 = nI (O - 1) := pk_sub (b := 1) hO1
      rw [eo]
      refine pk_eq lv 1 (fun _ => nm_r (nI_1 i) ⟨O - i + 1, ?_⟩) (fun z => absurd h1 z)
      refine me_149 (k0 := i + 1) hf ht hO hI hI1 hC (by omega) (by omega) hlv ht3 ?_ ?_ (O - 1 - i) (i + 1) (by omega) (by omega) (fun k' a1 a2 => by omega) g b l r _ (by omega)
      · intro k a1 a2 a3
        exact H1 (ld_Q1 hf ht hO hI he (by omega) (by omega) h1 a3)
      · intro hn' g b l r
        refine ih (i + 1) (by omega) ?_ g b l r n (by omega)
        intro i' k a1 a2 a3
        rcases Nat.lt_or_ge i' i with c | c
        · exact hQ i' k c a2 a3
        · have : i' = i := by omega
          subst this
          exact hn' k (by omega) (by omega)
    · refine pk_eq lv 1 (fun z => absurd z h1) (fun _ => ⟨2, ?_⟩)
      refine me_149 (k0 := i) hf ht hO hI hI1 hC (by omega) (by omega) hlv ht3 ?_ ?_ 1 i (by omega) (by omega) (fun k' a1 a2 => by omega) g b l r _ (by omega)
      · intro k a1 a2 a3
        have : k = i := by omega
        subst this
        exact H1 (ld_Q2 hf ht hO hI he (by omega) (by omega) a3)
      · intro hn' g b l r
        refine ih (i + 1) (by omega) ?_ g b l r n (by omega)
        intro i' k a1 a2 a3
        rcases Nat.lt_or_ge i' i with c | c
        · exact hQ i' k c a2 a3
        · have : i' = i := by omega
          subst this
          exact hn' k (by omega) (by omega)
theorem me_walk {post : Int32 → SX → Prop} {f t lv : Nat} {p0 p1 p2 : Int32} (e0 : p0 = nI f) (e1 : p1 = nI t) (e2 : p2 = nI lv)
    (hO : O ≤ 5) (hO1 : 1 ≤ O) (hI : I ≤ 5) (hI1 : 1 ≤ I) (hC : C ≤ 32) (hlv : 1 ≤ lv) (hlv2 : lv ≤ 3) (hf3 : f + 3 < 117) (ht3 : t + 3 < 117) (hA : cd f = cd t → ld_ac cd O I C f ∧ ld_ac cd O I C t)
    (H1 : ld_Met cd O I f t lv → ∀ g b l r : Int32, post 1 ((nI O), (nI I), xm, (nI C), xp, (nI N), xq, xg, xr, g, b, l, r, cd, wd, rs, ed, gp, sq))
    (H0 : ¬ ld_Met cd O I f t lv → ∀ g b l r : Int32, post 0 ((nI O), (nI I), xm, (nI C), xp, (nI N), xq, xg, xr, g, b, l, r, cd, wd, rs, ed, gp, sq)) : wpX_meets post ((nI O), (nI I), xm, (nI C), xp, (nI N), xq, xg, xr, sg, sb, sl, sr, cd, wd, rs, ed, gp, sq) p0 p1 p2 := by
  subst e0 e1 e2
  have cf0 : (nI f).toNatClampNeg = f := nI_clamp (by omega)
  have ct0 : (nI t).toNatClampNeg = t := nI_clamp (by omega)
  have ct3 : (nI t + 3).toNatClampNeg = t + 3 := za_ac 3 (by omega)
  have cf3 : (nI f + 3).toNatClampNeg = f + 3 := za_ac 3 (by omega)
  have cf1 : (nI f + 1).toNatClampNeg = f + 1 := za_ac 1 (by omega)
  have cf2 : (nI f + 2).toNatClampNeg = f + 2 := za_ac 2 (by omega)
  have ct1 : (nI t + 1).toNatClampNeg = t + 1 := za_ac 1 (by omega)
  have ct2 : (nI t + 2).toNatClampNeg = t + 2 := za_ac 2 (by omega)
  refine ⟨vp_in_nI (by omega) (by decide), vp_in_nI (by omega) (by decide), za_if (by rw [cf0, ct0]) (fun he => ?_) (fun he => H0 (fun z => he z.1) _ _ _ _)⟩
  obtain ⟨hf, ht⟩ := hA he
  refine ⟨za_ai 3 (by omega), za_ai 3 (by omega), nm_r (e' := cd (t + 3) - cd (f + 3)) (by rw [ct3, cf3]) ⟨za_ai 1 (by omega), nm_r (e' := cd (f + 1)) (by rw [cf1]) ⟨za_ai 2 (by omega), nm_r (e' := cd (f + 2)) (by rw [cf2]) ?_⟩⟩⟩
  refine pk_eq lv 3 (fun h3 => ⟨za_ai 1 (by omega), za_ai 2 (by omega), ?_⟩) (fun h3 => ⟨O + 1, me_106 hf ht hO hO1 hI hI1 hC (by omega) ht3 he H1 H0 O 0 (by omega) (fun i' k a1 => by omega) _ _ _ _ _ (by omega)⟩)
  rw [ct1, ct2]
  subst h3
  have key := ld_m3 hf ht hO hI he
  obtain ⟨af, f0, f1, f2, f3, f4, f5, f6, f7, f8⟩ := hf
  obtain ⟨at', t0, t1, t2, t3, t4, t5, t6, t7, t8⟩ := ht
  have a1 : (cd (f + 1) - cd (t + 1)).toInt = (cd (f + 1)).toInt - (cd (t + 1)).toInt := za_sub (by omega) (by omega)
  have a2 : (cd (f + 2) - cd (t + 2)).toInt = (cd (f + 2)).toInt - (cd (t + 2)).toInt := za_sub (by omega) (by omega)
  have a3 : (cd (t + 3) - cd (f + 3)).toInt = (cd (t + 3)).toInt - (cd (f + 3)).toInt := za_sub (by omega) (by omega)
  have eI := za_m1 hI1 (by omega)
  have eO := za_m1 hO1 (by omega)
  have eF : ((0 : Int32) ≠ 0) = False := propext ⟨fun z => z rfl, fun z => z.elim⟩
  refine so_walk (by rw [a1]; omega) (by rw [a2]; omega) (by rw [a3]; omega) (by rw [eO]; omega) (by rw [eI]; omega) ?_ ?_
  · intro g b l r h
    rw [a1, a2, a3, eI, eO, eF] at h
    exact ⟨rfl, H1 (key.mpr h) g b l r⟩
  · intro g b l r h
    rw [a1, a2, a3, eI, eO, eF] at h
    exact ⟨rfl, H0 (fun z => h (key.mp z)) g b l r⟩
end
theorem ld_oa {cd : Nat → Int32} {O I C f t : Nat} (hf : ld_ac cd O I C f) (ht : ld_op cd O I C t) (he : cd f = cd t) : ld_ac cd O I C t := by
  rcases ht with h | h
  · obtain ⟨ar, h0, h1, _⟩ := hf
    rw [he, h] at h1
    have := congrArg Int32.toInt h1
    rw [nI_toInt (by omega), show (-1 : Int32).toInt = -1 from by decide] at this
    omega
  · exact h
section
variable {O I C N : Nat} {xm xp xq xg xr sg sb sl sr : Int32} {cd wd rs ed gp sq : Nat → Int32}
theorem de_walk {post : Int32 → SX → Prop} {s t kd lv : Nat}
    (hO : O ≤ 5) (hO1 : 1 ≤ O) (hI : I ≤ 5) (hI1 : 1 ≤ I) (hC : C ≤ 32) (hs : s < 8) (ht : t < 8) (hrs : ld_row cd O I C s) (hrt : ld_row cd O I C t) (hk : kd < 3) (hlv : 1 ≤ lv) (hlv2 : lv ≤ 3)
    (H1 : ld_Dep cd O I s t kd lv → ∀ g b l r : Int32, post 1 ((nI O), (nI I), xm, (nI C), xp, (nI N), xq, xg, xr, g, b, l, r, cd, wd, rs, ed, gp, sq))
    (H0 : ¬ ld_Dep cd O I s t kd lv → ∀ g b l r : Int32, post 0 ((nI O), (nI I), xm, (nI C), xp, (nI N), xq, xg, xr, g, b, l, r, cd, wd, rs, ed, gp, sq)) : wpX_dependent post ((nI O), (nI I), xm, (nI C), xp, (nI N), xq, xg, xr, sg, sb, sl, sr, cd, wd, rs, ed, gp, sq) (nI s) (nI t) (nI kd) (nI lv) := by
  obtain ⟨s0, s4, s8⟩ := hrs
  obtain ⟨t0, t4, t8⟩ := hrt
  have main : (lv = 3 → s < t) → wX_dependent_13 post (nI s) (nI t) (nI kd) (nI lv) (nI O) (nI I) xm (nI C) xp (nI N) xq xg xr sg sb sl sr cd wd rs ed gp sq := by
    intro hlt
    refine nm_r (pk_mul s 13) (nm_r (pk_mul t 13) ?_)
    refine pk_eq kd 2 (fun k2 => ?_) (fun k2 => pk_eq kd 0 (fun k0 => ?_) (fun k0 => ?_))
    · refine me_walk rfl rfl rfl hO hO1 hI hI1 hC hlv hlv2 (by omega) (by omega) (fun _ => ⟨s0, t0⟩) ?_ ?_
      · intro h g b l r
        exact ⟨rfl, H1 ⟨hlt, Or.inr (Or.inr ⟨k2, h⟩)⟩ g b l r⟩
      · intro h g b l r
        refine ⟨rfl, H0 ?_ g b l r⟩
        rintro ⟨_, ⟨z, _⟩ | ⟨z, _⟩ | ⟨_, z⟩⟩
        · omega
        · omega
        · exact h z
    · refine me_walk (f := s * 13) (t := t * 13 + 4) rfl (nI_add (t * 13) 4) rfl hO hO1 hI hI1 hC hlv hlv2 (by omega) (by omega) (fun e => ⟨s0, ld_oa s0 t4 e⟩) ?_ ?_
      · intro h g b l r
        exact br_f (by decide) (H1 ⟨hlt, Or.inl ⟨k0, Or.inl h⟩⟩ g b l r)
      · intro h g b l r
        refine br_t rfl (me_walk (f := s * 13) (t := t * 13 + 8) rfl (nI_add (t * 13) 8) rfl hO hO1 hI hI1 hC hlv hlv2 (by omega) (by omega) (fun e => ⟨s0, ld_oa s0 t8 e⟩) ?_ ?_)
        · intro h' g b l r
          exact br_f (by decide) (H1 ⟨hlt, Or.inl ⟨k0, Or.inr h'⟩⟩ g b l r)
        · intro h' g b l r
          refine br_t rfl (H0 ?_ g b l r)
          rintro ⟨_, ⟨_, z | z⟩ | ⟨z, _⟩ | ⟨z, _⟩⟩
          · exact h z
          · exact h' z
          · omega
          · omega
    · refine me_walk (f := s * 13 + 4) (t := t * 13) (nI_add (s * 13) 4) rfl rfl hO hO1 hI hI1 hC hlv hlv2 (by omega) (by omega) (fun e => ⟨ld_oa t0 s4 e.symm, t0⟩) ?_ ?_
      · intro h g b l r
        exact br_f (by decide) (H1 ⟨hlt, Or.inr (Or.inl ⟨by omega, Or.inl h⟩)⟩ g b l r)
      · intro h g b l r
        refine br_t rfl (me_walk (f := s * 13 + 8) (t := t * 13) (nI_add (s * 13) 8) rfl rfl hO hO1 hI hI1 hC hlv hlv2 (by omega) (by omega) (fun e => ⟨ld_oa t0 s8 e.symm, t0⟩) ?_ ?_)
        · intro h' g b l r
          exact br_f (by decide) (H1 ⟨hlt, Or.inr (Or.inl ⟨by omega, Or.inr h'⟩)⟩ g b l r)
        · intro h' g b l r
          refine br_t rfl (H0 ?_ g b l r)
          rintro ⟨_, ⟨z, _⟩ | ⟨_, z | z⟩ | ⟨z, _⟩⟩
          · omega
          · exact h z
          · exact h' z
          · omega
  refine pk_eq lv 3 (fun h3 => pk_lt s t (fun h => main (fun _ => h)) (fun h => H0 ?_ _ _ _ _)) (fun h3 => main (fun z => absurd z h3))
  rintro ⟨z, _⟩
  have := z h3
  omega
theorem jo_12 {post : Int32 → SX → Prop} {J : ld_JX} {s t lv : Nat}
    (hO : O ≤ 5) (hO1 : 1 ≤ O) (hI : I ≤ 5) (hI1 : 1 ≤ I) (hC : C ≤ 32) (hs : s < 8) (ht : t < 8) (hrs : ld_row cd O I C s) (hrt : ld_row cd O I C t) (hlv : 1 ≤ lv) (hlv2 : lv ≤ 3)
    (H1 : ∀ kd, kd < 3 → ¬ (s = t ∧ kd = 1) → ld_Dep cd O I s t kd lv → ∀ g b l r : Int32, post 1 ((nI O), (nI I), xm, (nI C), xp, (nI N), xq, xg, xr, g, b, l, r, cd, wd, rs, ed, gp, sq))
    (H0 : (∀ kd, kd < 3 → ¬ (s = t ∧ kd = 1) → ¬ ld_Dep cd O I s t kd lv) → ∀ g b l r : Int32, J (nI (lv + 1)) (nI O) (nI I) xm (nI C) xp (nI N) xq xg xr g b l r cd wd rs ed gp sq) :
    ∀ d kd : Nat, kd + d = 3 → (∀ k', k' < kd → ¬ (s = t ∧ k' = 1) → ¬ ld_Dep cd O I s t k' lv) → ∀ (g b l r : Int32) (n : Nat), d < n →
    wX_joined_12 post J (nI s) (nI t) (nI lv) n (nI kd) (nI O) (nI I) xm (nI C) xp (nI N) xq xg xr g b l r cd wd rs ed gp sq := by
  intro d
  induction d with
  | zero =>
    intro kd hd hQ g b l r n hn
    obtain ⟨n, rfl⟩ : ∃ m, n = m + 1 := ⟨n - 1, by omega⟩
    exact br_t (nI_lt (a := 2) (by omega) (by omega)) (nm_r (nI_1 lv) (H0 (fun k' a1 a2 => hQ k' (by omega) a2) g b l r))
  | succ d ih =>
    intro kd hd hQ g b l r n hn
    obtain ⟨n, rfl⟩ : ∃ m, n = m + 1 := ⟨n - 1, by omega⟩
    have go : ¬ (s = t ∧ kd = 1) → wX_joined_29 post J (wX_joined_12 post J (nI s) (nI t) (nI lv) n) (nI s) (nI t) (nI lv) (nI kd) (nI O) (nI I) xm (nI C) xp (nI N) xq xg xr g b l r cd wd rs ed gp sq := by
      intro hne
      refine de_walk hO hO1 hI hI1 hC hs ht hrs hrt (by omega) hlv hlv2 ?_ ?_
      · intro h g b l r
        exact br_f (by decide) (H1 kd (by omega) hne h g b l r)
      · intro h g b l r
        refine br_t rfl (nm_r (nI_1 kd) (ih (kd + 1) (by omega) ?_ g b l r n (by omega)))
        intro k' c1 c2
        rcases Nat.lt_or_ge k' kd with c | c
        · exact hQ k' c c2
        · rw [show k' = kd by omega]; exact h
    refine br_f (nI_nlt (b := kd) (a := 2) (by omega) (by omega)) (pk_eq s t (fun hst => pk_eq kd 1 (fun hk => ?_) (fun hk => go (fun z => hk z.2))) (fun hst => go (fun z => hst z.1)))
    refine nm_r (nI_1 kd) (ih (kd + 1) (by omega) ?_ g b l r n (by omega))
    intro k' c1 c2
    rcases Nat.lt_or_ge k' kd with c | c
    · exact hQ k' c c2
    · exact absurd ⟨hst, by omega⟩ c2
theorem jo_3 {post : Int32 → SX → Prop} {s t v : Nat}
    (hO : O ≤ 5) (hO1 : 1 ≤ O) (hI : I ≤ 5) (hI1 : 1 ≤ I) (hC : C ≤ 32) (hs : s < 8) (ht : t < 8) (hrs : ld_row cd O I C s) (hrt : ld_row cd O I C t) (hv : 1 ≤ v)
    (H1 : ld_E cd O I v s t → ∀ g b l r : Int32, post 1 ((nI O), (nI I), xm, (nI C), xp, (nI N), xq, xg, xr, g, b, l, r, cd, wd, rs, ed, gp, sq))
    (H0 : ¬ ld_E cd O I v s t → ∀ g b l r : Int32, post 0 ((nI O), (nI I), xm, (nI C), xp, (nI N), xq, xg, xr, g, b, l, r, cd, wd, rs, ed, gp, sq)) :
    ∀ d lv : Nat, lv + d = 4 → v ≤ lv → (∀ lv' kd, v ≤ lv' → lv' < lv → kd < 3 → ¬ (s = t ∧ kd = 1) → ¬ ld_Dep cd O I s t kd lv') → ∀ (g b l r : Int32) (n : Nat), d < n →
    wX_joined_3 post (nI s) (nI t) n (nI lv) (nI O) (nI I) xm (nI C) xp (nI N) xq xg xr g b l r cd wd rs ed gp sq := by
  intro d
  induction d with
  | zero =>
    intro lv hd hvl hQ g b l r n hn
    obtain ⟨n, rfl⟩ : ∃ m, n = m + 1 := ⟨n - 1, by omega⟩
    refine br_t (nI_lt (a := 3) (by omega) (by omega)) (H0 ?_ g b l r)
    rintro ⟨lv', kd, a1, a2, a3, a4, a5⟩
    exact hQ lv' kd a1 (by omega) a3 a4 a5
  | succ d ih =>
    intro lv hd hvl hQ g b l r n hn
    obtain ⟨n, rfl⟩ : ∃ m, n = m + 1 := ⟨n - 1, by omega⟩
    refine br_f (nI_nlt (b := lv) (a := 3) (by omega) (by omega)) ⟨4, ?_⟩
    refine jo_12 hO hO1 hI hI1 hC hs ht hrs hrt (by omega) (by omega) ?_ ?_ 3 0 (by omega) (fun k' z => by omega) g b l r 4 (by omega)
    · intro kd a1 a2 a3
      exact H1 ⟨lv, kd, hvl, by omega, a1, a2, a3⟩
    · intro h g b l r
      refine ih (lv + 1) (by omega) (by omega) ?_ g b l r n (by omega)
      intro lv' kd c1 c2 c3 c4
      rcases Nat.lt_or_ge lv' lv with c | c
      · exact hQ lv' kd c1 c c3 c4
      · rw [show lv' = lv by omega]; exact h kd c3 c4
theorem jo_walk {post : Int32 → SX → Prop} {s t v : Nat}
    (hO : O ≤ 5) (hO1 : 1 ≤ O) (hI : I ≤ 5) (hI1 : 1 ≤ I) (hC : C ≤ 32) (hs : s < 8) (ht : t < 8) (hrs : ld_row cd O I C s) (hrt : ld_row cd O I C t) (hv : 1 ≤ v) (hv2 : v ≤ 2)
    (H1 : ld_E cd O I v s t → ∀ g b l r : Int32, post 1 ((nI O), (nI I), xm, (nI C), xp, (nI N), xq, xg, xr, g, b, l, r, cd, wd, rs, ed, gp, sq))
    (H0 : ¬ ld_E cd O I v s t → ∀ g b l r : Int32, post 0 ((nI O), (nI I), xm, (nI C), xp, (nI N), xq, xg, xr, g, b, l, r, cd, wd, rs, ed, gp, sq)) : wpX_joined post ((nI O), (nI I), xm, (nI C), xp, (nI N), xq, xg, xr, sg, sb, sl, sr, cd, wd, rs, ed, gp, sq) (nI s) (nI t) (nI v) :=
  ⟨5, jo_3 hO hO1 hI hI1 hC hs ht hrs hrt hv H1 H0 (4 - v) v (by omega) (by omega) (fun lv' kd a1 a2 => by omega) _ _ _ _ 5 (by omega)⟩
end
end
section
def ld_col (cd : Nat → Int32) (f g p q : Nat) : Prop := cd f = cd g ∧ ld_sub cd f (p / 5) (p % 5) = ld_sub cd g (q / 5) (q % 5)
def ld_mt (cd : Nat → Int32) (s t kd p q : Nat) : Prop :=
  (kd = 0 ∧ (ld_col cd (s * 13) (t * 13 + 4) p q ∨ ld_col cd (s * 13) (t * 13 + 8) p q)) ∨ (kd = 1 ∧ (ld_col cd (s * 13 + 4) (t * 13) p q ∨ ld_col cd (s * 13 + 8) (t * 13) p q)) ∨ (kd = 2 ∧ ld_col cd (s * 13) (t * 13) p q)
def ld_lo (O I s t p q : Nat) : Nat :=
  if p / 5 < O ∧ p % 5 < I ∧ q / 5 < O ∧ q % 5 < I then (if p / 5 = q / 5 then (if p % 5 = q % 5 then (if s < t then 3 else 0) else (if p % 5 < q % 5 then 2 else 0)) else (if p / 5 < q / 5 then 1 else 0)) else 0
def ld_hit (cd : Nat → Int32) (O I s t kd lv p q : Nat) : Prop := ld_lo O I s t p q = lv ∧ ld_mt cd s t kd p q
theorem ld_lo_iff {O I s t p q lv : Nat} (h1 : 1 ≤ lv) : ld_lo O I s t p q = lv ↔ (p / 5 < O ∧ p % 5 < I ∧ q / 5 < O ∧ q % 5 < I ∧ ld_lv lv (p / 5) (p % 5) (q / 5) (q % 5) ∧ (lv = 3 → s < t)) := by
  unfold ld_lo ld_lv
  generalize p / 5 = a
  generalize p % 5 = b
  generalize q / 5 = c
  generalize q % 5 = e
  repeat' split
  all_goals omega
theorem ld_hit_dep {cd : Nat → Int32} {O I s t kd lv : Nat} (hO : O ≤ 5) (hI : I ≤ 5) (h1 : 1 ≤ lv) : (∃ p q, p < 25 ∧ q < 25 ∧ ld_hit cd O I s t kd lv p q) ↔ ld_Dep cd O I s t kd lv := by
  constructor
  · rintro ⟨p, q, hp, hq, a, b⟩
    obtain ⟨a1, a2, a3, a4, a5, a6⟩ := (ld_lo_iff h1).mp a
    refine ⟨a6, ?_⟩
    have mk : ∀ f g, ld_col cd f g p q → ld_Met cd O I f g lv := fun f g hc => ⟨hc.1, p / 5, p % 5, q / 5, q % 5, a1, a2, a3, a4, a5, hc.2⟩
    rcases b with ⟨b1, b2 | b2⟩ | ⟨b1, b2 | b2⟩ | ⟨b1, b2⟩
    · exact Or.inl ⟨b1, Or.inl (mk _ _ b2)⟩
    · exact Or.inl ⟨b1, Or.inr (mk _ _ b2)⟩
    · exact Or.inr (Or.inl ⟨b1, Or.inl (mk _ _ b2)⟩)
    · exact Or.inr (Or.inl ⟨b1, Or.inr (mk _ _ b2)⟩)
    · exact Or.inr (Or.inr ⟨b1, mk _ _ b2⟩)
  · rintro ⟨a6, b⟩
    have mk : ∀ f g, ld_Met cd O I f g lv → ∃ p q, p < 25 ∧ q < 25 ∧ ld_lo O I s t p q = lv ∧ ld_col cd f g p q := by
      rintro f g ⟨e, i, j, k, l, a1, a2, a3, a4, a5, a7⟩
      have d1 : (i * 5 + j) / 5 = i := by omega
      have d2 : (i * 5 + j) % 5 = j := by omega
      have d3 : (k * 5 + l) / 5 = k := by omega
      have d4 : (k * 5 + l) % 5 = l := by omega
      refine ⟨i * 5 + j, k * 5 + l, by omega, by omega, (ld_lo_iff h1).mpr ?_, e, ?_⟩
      · rw [d1, d2, d3, d4]; exact ⟨a1, a2, a3, a4, a5, a6⟩
      · rw [d1, d2, d3, d4]; exact a7
    rcases b with ⟨b1, b2 | b2⟩ | ⟨b1, b2 | b2⟩ | ⟨b1, b2⟩
    · obtain ⟨p, q, c1, c2, c3, c4⟩ := mk _ _ b2
      exact ⟨p, q, c1, c2, c3, Or.inl ⟨b1, Or.inl c4⟩⟩
    · obtain ⟨p, q, c1, c2, c3, c4⟩ := mk _ _ b2
      exact ⟨p, q, c1, c2, c3, Or.inl ⟨b1, Or.inr c4⟩⟩
    · obtain ⟨p, q, c1, c2, c3, c4⟩ := mk _ _ b2
      exact ⟨p, q, c1, c2, c3, Or.inr (Or.inl ⟨b1, Or.inl c4⟩)⟩
    · obtain ⟨p, q, c1, c2, c3, c4⟩ := mk _ _ b2
      exact ⟨p, q, c1, c2, c3, Or.inr (Or.inl ⟨b1, Or.inr c4⟩)⟩
    · obtain ⟨p, q, c1, c2, c3, c4⟩ := mk _ _ b2
      exact ⟨p, q, c1, c2, c3, Or.inr (Or.inr ⟨b1, c4⟩)⟩
theorem ys_d5 {n : Nat} (h : n < 25) : nI n / 5 = nI (n / 5) := pk_div (d := 5) (by omega) (by decide) (by decide)
theorem ys_m5 {n : Nat} (h : n < 25) : nI n - nI n / 5 * 5 = nI (n % 5) := pk_rem (d := 5) (by omega) (by decide) (by decide)
theorem ys_5 : ¬ (5 : Int32) = 0 := by decide
theorem ys_pl {s a f : Nat} {p1 : Int32} (e : p1 = nI a) (hf : f = s * 13 + a * 4) : nI s * 13 + p1 * 4 = nI f := by
  subst e hf
  rw [show nI s * 13 = nI (s * 13) from pk_mul s 13, show nI a * 4 = nI (a * 4) from pk_mul a 4, nI_add]
section
variable {O I C N : Nat} {xm xp xq xr : Int32} {cd wd ye yp yc : Nat → Int32}
theorem yn_walk {post : Int32 → Prop} {p : Nat} (hp : p < 25) (hO : O ≤ 5) (hI : I ≤ 5) (h1 : p / 5 < O → p % 5 < I → post 1) (h0 : ¬ (p / 5 < O ∧ p % 5 < I) → post 0) : wpY_inNest post ((nI O), (nI I), xm, (nI C), xp, (nI N), xq, xr, cd, wd, ye, yp, yc) (nI p) := by
  refine ⟨ys_5, ?_⟩
  rw [ys_m5 hp, ys_d5 hp]
  exact pk_le O (p / 5) (fun h => h0 (by omega)) (fun h => ⟨ys_5, pk_le I (p % 5) (fun g => h0 (by omega)) (fun g => h1 h g)⟩)
theorem ys_walk {post : Int32 → Prop} {s a f n : Nat} {p1 : Int32} (e : p1 = nI a) (hf : f = s * 13 + a * 4) (hb : f + 3 < 117) (hn : n < 25)
    (h : post (ld_sub cd f (n / 5) (n % 5))) : wpY_subscript post ((nI O), (nI I), xm, (nI C), xp, (nI N), xq, xr, cd, wd, ye, yp, yc) (nI s) p1 (nI n) := by
  refine nm_r (ys_pl e hf) ⟨za_ai 1 (by omega), ys_5, za_ai 2 (by omega), ys_5, za_ai 3 (by omega), ?_⟩
  rw [ys_m5 hn, ys_d5 hn, za_ac 1 (by omega), za_ac 2 (by omega), za_ac 3 (by omega)]
  exact h
theorem yc_walk {post : Int32 → Prop} {s a t b f g p q : Nat} {p1 p3 : Int32} (e1 : p1 = nI a) (e3 : p3 = nI b) (hf : f = s * 13 + a * 4) (hg : g = t * 13 + b * 4) (hbf : f + 3 < 117) (hbg : g + 3 < 117) (hp : p < 25) (hq : q < 25)
    (h1 : ld_col cd f g p q → post 1) (h0 : ¬ ld_col cd f g p q → post 0) : wpY_collide post ((nI O), (nI I), xm, (nI C), xp, (nI N), xq, xr, cd, wd, ye, yp, yc) (nI s) p1 (nI t) p3 (nI p) (nI q) := by
  unfold wpY_collide
  dsimp only
  rw [ys_pl e1 hf, ys_pl e3 hg, nI_clamp (show f < 2 ^ 31 by omega), nI_clamp (show g < 2 ^ 31 by omega)]
  refine ⟨vp_in_nI (by omega) (by decide), vp_in_nI (by omega) (by decide), br_c (fun he => ?_) (fun he => h0 (fun z => he z.1))⟩
  exact ys_walk e1 hf hbf hp (ys_walk e3 hg hbg hq (br_c (fun z => h1 ⟨he, z⟩) (fun z => h0 (fun w => z w.2))))
theorem ym_walk {post : Int32 → Prop} {s t kd p q : Nat} (hs : s < 8) (ht : t < 8) (hk : kd < 3) (hp : p < 25) (hq : q < 25)
    (h1 : ld_mt cd s t kd p q → post 1) (h0 : ¬ ld_mt cd s t kd p q → post 0) : wpY_meets post ((nI O), (nI I), xm, (nI C), xp, (nI N), xq, xr, cd, wd, ye, yp, yc) (nI s) (nI t) (nI kd) (nI p) (nI q) := by
  refine pk_eq kd 0 (fun k0 => ?_) (fun k0 => pk_eq kd 1 (fun k1 => ?_) (fun k1 => ?_))
  · refine yc_walk (a := 0) (b := 1) (f := s * 13) (g := t * 13 + 4) rfl rfl (by omega) (by omega) (by omega) (by omega) hp hq (fun c => br_f (by decide) (h1 (Or.inl ⟨k0, Or.inl c⟩))) (fun c => br_t rfl ?_)
    refine yc_walk (a := 0) (b := 2) (f := s * 13) (g := t * 13 + 8) rfl rfl (by omega) (by omega) (by omega) (by omega) hp hq (fun c' => br_f (by decide) (h1 (Or.inl ⟨k0, Or.inr c'⟩))) (fun c' => br_t rfl (h0 ?_))
    rintro (⟨_, z | z⟩ | ⟨z, _⟩ | ⟨z, _⟩)
    · exact c z
    · exact c' z
    · omega
    · omega
  · refine yc_walk (a := 1) (b := 0) (f := s * 13 + 4) (g := t * 13) rfl rfl (by omega) (by omega) (by omega) (by omega) hp hq (fun c => br_f (by decide) (h1 (Or.inr (Or.inl ⟨k1, Or.inl c⟩)))) (fun c => br_t rfl ?_)
    refine yc_walk (a := 2) (b := 0) (f := s * 13 + 8) (g := t * 13) rfl rfl (by omega) (by omega) (by omega) (by omega) hp hq (fun c' => br_f (by decide) (h1 (Or.inr (Or.inl ⟨k1, Or.inr c'⟩)))) (fun c' => br_t rfl (h0 ?_))
    rintro (⟨z, _⟩ | ⟨_, z | z⟩ | ⟨z, _⟩)
    · omega
    · exact c z
    · exact c' z
    · omega
  · refine yc_walk (a := 0) (b := 0) (f := s * 13) (g := t * 13) rfl rfl (by omega) (by omega) (by omega) (by omega) hp hq (fun c => ⟨rfl, h1 (Or.inr (Or.inr ⟨by omega, c⟩))⟩) (fun c => ⟨rfl, h0 ?_⟩)
    rintro (⟨z, _⟩ | ⟨z, _⟩ | ⟨_, z⟩)
    · omega
    · omega
    · exact c z
theorem yl_walk {post : Int32 → Prop} {s t p q : Nat} (hs : s < 8) (ht : t < 8) (hp : p < 25) (hq : q < 25) (hO : O ≤ 5) (hI : I ≤ 5)
    (h : post (nI (ld_lo O I s t p q))) : wpY_levelOf post ((nI O), (nI I), xm, (nI C), xp, (nI N), xq, xr, cd, wd, ye, yp, yc) (nI s) (nI t) (nI p) (nI q) := by
  have ep := Nat.mod_lt p (show 0 < 5 by decide)
  have eq := Nat.mod_lt q (show 0 < 5 by decide)
  have fp : p / 5 < 5 := by omega
  have fq : q / 5 < 5 := by omega
  unfold ld_lo at h
  unfold wpY_levelOf
  dsimp only
  refine yn_walk hp hO hI (fun a1 a2 => br_f (by decide) ?_) (fun a => br_t rfl ?_)
  · refine yn_walk hq hO hI (fun b1 b2 => br_f (by decide) ⟨ys_5, ys_5, ?_⟩) (fun b => br_t rfl ?_)
    · rw [if_pos ⟨a1, a2, b1, b2⟩] at h
      rw [ys_m5 hp, ys_m5 hq, ys_d5 hp, ys_d5 hq]
      refine pk_eq (p / 5) (q / 5) (fun e => ⟨ys_5, ys_5, ?_⟩) (fun e => ⟨ys_5, ys_5, ?_⟩)
      · rw [if_pos e] at h
        refine pk_eq (p % 5) (q % 5) (fun e' => ?_) (fun e' => ⟨ys_5, ys_5, ?_⟩)
        · rw [if_pos e'] at h
          refine pk_le t s (fun z => ?_) (fun z => ?_)
          · rw [if_neg (by omega)] at h; exact h
          · rw [if_pos z] at h; exact h
        · rw [if_neg e'] at h
          refine pk_le (q % 5) (p % 5) (fun z => ?_) (fun z => ?_)
          · rw [if_neg (by omega)] at h; exact h
          · rw [if_pos z] at h; exact h
      · rw [if_neg e] at h
        refine pk_le (q / 5) (p / 5) (fun z => ?_) (fun z => ?_)
        · rw [if_neg (by omega)] at h; exact h
        · rw [if_pos z] at h; exact h
    · rw [if_neg (fun z => b ⟨z.2.2.1, z.2.2.2⟩)] at h; exact h
  · rw [if_neg (fun z => a ⟨z.1, z.2.1⟩)] at h; exact h
theorem yd_13 {post J : Int32 → Prop} {s t kd lv p : Nat} (hs : s < 8) (ht : t < 8) (hk : kd < 3) (hlv : lv ≤ 3) (hp : p < 25) (hO : O ≤ 5) (hI : I ≤ 5)
    (H1 : ∀ q, q < 25 → ld_hit cd O I s t kd lv p q → post 1) (H0 : (∀ q, q < 25 → ¬ ld_hit cd O I s t kd lv p q) → J (nI (p + 1))) :
    ∀ d q : Nat, q + d = 25 → (∀ q', q' < q → ¬ ld_hit cd O I s t kd lv p q') → ∀ n, d < n → wY_dependent_13 post J (nI s) (nI t) (nI kd) (nI lv) (nI p) (nI O) (nI I) xm (nI C) xp (nI N) xq xr cd wd ye yp yc n (nI q) := by
  intro d
  induction d with
  | zero =>
    intro q hd hQ n hn
    obtain ⟨n, rfl⟩ : ∃ m, n = m + 1 := ⟨n - 1, by omega⟩
    exact br_t (nI_le (a := 25) (by omega) (by omega)) (nm_r (nI_1 p) (H0 (fun q' a => hQ q' (by omega))))
  | succ d ih =>
    intro q hd hQ n hn
    obtain ⟨n, rfl⟩ : ∃ m, n = m + 1 := ⟨n - 1, by omega⟩
    have nx : ¬ ld_hit cd O I s t kd lv p q → wY_dependent_13 post J (nI s) (nI t) (nI kd) (nI lv) (nI p) (nI O) (nI I) xm (nI C) xp (nI N) xq xr cd wd ye yp yc n (nI (q + 1)) := by
      intro h
      refine ih (q + 1) (by omega) ?_ n (by omega)
      intro q' c
      rcases Nat.lt_or_ge q' q with e | e
      · exact hQ q' e
      · rw [show q' = q by omega]; exact h
    have hlo : ld_lo O I s t p q < 2 ^ 31 := by
      unfold ld_lo
      repeat' split
      all_goals omega
    refine br_f (nI_ge (b := 25) (by omega) (by decide)) (yl_walk hs ht hp (by omega) hO hI ?_)
    refine pk_eq (ld_lo O I s t p q) lv (fun e => ?_) (fun e => nm_r (nI_1 q) (nx (fun z => e z.1))) rfl rfl hlo
    exact ym_walk hs ht hk hp (by omega) (fun c => br_f (by decide) (H1 q (by omega) ⟨e, c⟩)) (fun c => br_t rfl (nm_r (nI_1 q) (nx (fun z => c z.2))))
theorem yd_3 {post : Int32 → Prop} {s t kd lv : Nat} (hs : s < 8) (ht : t < 8) (hk : kd < 3) (hlv : lv ≤ 3) (hO : O ≤ 5) (hI : I ≤ 5)
    (H1 : (∃ p q, p < 25 ∧ q < 25 ∧ ld_hit cd O I s t kd lv p q) → post 1) (H0 : ¬ (∃ p q, p < 25 ∧ q < 25 ∧ ld_hit cd O I s t kd lv p q) → post 0) :
    ∀ d p : Nat, p + d = 25 → (∀ p' q', p' < p → q' < 25 → ¬ ld_hit cd O I s t kd lv p' q') → ∀ n, d < n → wY_dependent_3 post (nI s) (nI t) (nI kd) (nI lv) (nI O) (nI I) xm (nI C) xp (nI N) xq xr cd wd ye yp yc n (nI p) := by
  intro d
  induction d with
  | zero =>
    intro p hd hQ n hn
    obtain ⟨n, rfl⟩ : ∃ m, n = m + 1 := ⟨n - 1, by omega⟩
    refine br_t (nI_le (a := 25) (by omega) (by omega)) (H0 ?_)
    rintro ⟨p', q', a, b, c⟩
    exact hQ p' q' (by omega) b c
  | succ d ih =>
    intro p hd hQ n hn
    obtain ⟨n, rfl⟩ : ∃ m, n = m + 1 := ⟨n - 1, by omega⟩
    refine br_f (nI_ge (b := 25) (by omega) (by decide)) ⟨26, ?_⟩
    refine yd_13 hs ht hk hlv (by omega) hO hI (fun q a b => H1 ⟨p, q, by omega, a, b⟩) (fun h => ?_) 25 0 (by omega) (fun q' z => by omega) 26 (by omega)
    refine ih (p + 1) (by omega) ?_ n (by omega)
    intro p' q' c e
    rcases Nat.lt_or_ge p' p with z | z
    · exact hQ p' q' z e
    · rw [show p' = p by omega]; exact h q' e
theorem yd_walk {post : Int32 → Prop} {s t kd lv : Nat} (hs : s < 8) (ht : t < 8) (hk : kd < 3) (hl1 : 1 ≤ lv) (hlv : lv ≤ 3) (hO : O ≤ 5) (hI : I ≤ 5)
    (H1 : ld_Dep cd O I s t kd lv → post 1) (H0 : ¬ ld_Dep cd O I s t kd lv → post 0) : wpY_dependent post ((nI O), (nI I), xm, (nI C), xp, (nI N), xq, xr, cd, wd, ye, yp, yc) (nI s) (nI t) (nI kd) (nI lv) :=
  ⟨26, yd_3 hs ht hk hlv hO hI (fun h => H1 ((ld_hit_dep hO hI hl1).mp h)) (fun h => H0 (fun z => h ((ld_hit_dep hO hI hl1).mpr z))) 25 0 (by omega) (fun p' q' z => by omega) 26 (by omega)⟩
theorem ye_12 {post J : Int32 → Prop} {s t lv : Nat} (hs : s < 8) (ht : t < 8) (hl1 : 1 ≤ lv) (hlv : lv ≤ 3) (hO : O ≤ 5) (hI : I ≤ 5)
    (H1 : ∀ kd, kd < 3 → ¬ (s = t ∧ kd = 1) → ld_Dep cd O I s t kd lv → post 1)
    (H0 : (∀ kd, kd < 3 → ¬ (s = t ∧ kd = 1) → ¬ ld_Dep cd O I s t kd lv) → J (nI (lv + 1))) :
    ∀ d kd : Nat, kd + d = 3 → (∀ k', k' < kd → ¬ (s = t ∧ k' = 1) → ¬ ld_Dep cd O I s t k' lv) → ∀ n, d < n → wY_isEdge_12 post J (nI s) (nI t) (nI lv) (nI O) (nI I) xm (nI C) xp (nI N) xq xr cd wd ye yp yc n (nI kd) := by
  intro d
  induction d with
  | zero =>
    intro kd hd hQ n hn
    obtain ⟨n, rfl⟩ : ∃ m, n = m + 1 := ⟨n - 1, by omega⟩
    exact br_t (nI_le (a := 3) (by omega) (by omega)) (nm_r (nI_1 lv) (H0 (fun k' a1 a2 => hQ k' (by omega) a2)))
  | succ d ih =>
    intro kd hd hQ n hn
    obtain ⟨n, rfl⟩ : ∃ m, n = m + 1 := ⟨n - 1, by omega⟩
    have go : ¬ (s = t ∧ kd = 1) → wY_isEdge_29 post J (wY_isEdge_12 post J (nI s) (nI t) (nI lv) (nI O) (nI I) xm (nI C) xp (nI N) xq xr cd wd ye yp yc n) (nI s) (nI t) (nI lv) (nI kd) (nI O) (nI I) xm (nI C) xp (nI N) xq xr cd wd ye yp yc := by
      intro hne
      refine yd_walk hs ht (by omega) hl1 hlv hO hI (fun h => br_f (by decide) (H1 kd (by omega) hne h)) (fun h => br_t rfl (nm_r (nI_1 kd) (ih (kd + 1) (by omega) ?_ n (by omega))))
      intro k' c1 c2
      rcases Nat.lt_or_ge k' kd with c | c
      · exact hQ k' c c2
      · rw [show k' = kd by omega]; exact h
    refine br_f (nI_ge (b := 3) (by omega) (by decide)) (pk_eq s t (fun hst => pk_eq kd 1 (fun hk => ?_) (fun hk => go (fun z => hk z.2))) (fun hst => go (fun z => hst z.1)))
    refine nm_r (nI_1 kd) (ih (kd + 1) (by omega) ?_ n (by omega))
    intro k' c1 c2
    rcases Nat.lt_or_ge k' kd with c | c
    · exact hQ k' c c2
    · exact absurd ⟨hst, by omega⟩ c2
theorem ye_3 {post : Int32 → Prop} {s t v : Nat} (hs : s < 8) (ht : t < 8) (hv : 1 ≤ v) (hO : O ≤ 5) (hI : I ≤ 5)
    (H1 : ld_E cd O I v s t → post 1) (H0 : ¬ ld_E cd O I v s t → post 0) :
    ∀ d lv : Nat, lv + d = 4 → v ≤ lv → (∀ lv' kd, v ≤ lv' → lv' < lv → kd < 3 → ¬ (s = t ∧ kd = 1) → ¬ ld_Dep cd O I s t kd lv') → ∀ n, d < n → wY_isEdge_3 post (nI s) (nI t) (nI O) (nI I) xm (nI C) xp (nI N) xq xr cd wd ye yp yc n (nI lv) := by
  intro d
  induction d with
  | zero =>
    intro lv hd hvl hQ n hn
    obtain ⟨n, rfl⟩ : ∃ m, n = m + 1 := ⟨n - 1, by omega⟩
    refine br_t (nI_lt (a := 3) (by omega) (by omega)) (H0 ?_)
    rintro ⟨lv', kd, a1, a2, a3, a4, a5⟩
    exact hQ lv' kd a1 (by omega) a3 a4 a5
  | succ d ih =>
    intro lv hd hvl hQ n hn
    obtain ⟨n, rfl⟩ : ∃ m, n = m + 1 := ⟨n - 1, by omega⟩
    refine br_f (nI_nlt (b := lv) (a := 3) (by omega) (by omega)) ⟨4, ?_⟩
    refine ye_12 hs ht (by omega) (by omega) hO hI (fun kd a1 a2 a3 => H1 ⟨lv, kd, hvl, by omega, a1, a2, a3⟩) (fun h => ?_) 3 0 (by omega) (fun k' z => by omega) 4 (by omega)
    refine ih (lv + 1) (by omega) (by omega) ?_ n (by omega)
    intro lv' kd c1 c2 c3 c4
    rcases Nat.lt_or_ge lv' lv with c | c
    · exact hQ lv' kd c1 c c3 c4
    · rw [show lv' = lv by omega]; exact h kd c3 c4
theorem ye_walk {post : Int32 → Prop} {s t v : Nat} (hs : s < 8) (ht : t < 8) (hv : 1 ≤ v) (hv2 : v ≤ 2) (hO : O ≤ 5) (hI : I ≤ 5)
    (H1 : ld_E cd O I v s t → post 1) (H0 : ¬ ld_E cd O I v s t → post 0) : wpY_isEdge post ((nI O), (nI I), xm, (nI C), xp, (nI N), xq, xr, cd, wd, ye, yp, yc) (nI s) (nI t) (nI v) :=
  ⟨5, ye_3 hs ht hv hO hI H1 H0 (4 - v) v (by omega) (by omega) (fun lv' kd a1 a2 => by omega) 5 (by omega)⟩
end
end
section
abbrev gr_T (G : Nat → Nat → Prop) : Nat → Nat → Prop := Relation.TransGen G
/-- one strongly connected set -/
def gr_S (G : Nat → Nat → Prop) (s t : Nat) : Prop := s = t ∨ (gr_T G s t ∧ gr_T G t s)
def gr_Src (G : Nat → Nat → Prop) (L : Nat → Prop) (s : Nat) : Prop := L s ∧ ∀ x, L x → gr_T G x s → gr_S G s x
def gr_Src' (G : Nat → Nat → Prop) (L : Nat → Prop) (s : Nat) : Prop := L s ∧ ∀ x y, L x → ¬ gr_S G x s → gr_S G y s → ¬ G x y
def gr_Fst (G : Nat → Nat → Prop) (L : Nat → Prop) (s : Nat) : Prop := gr_Src G L s ∧ ∀ w, w < s → ¬ gr_Src G L w
def gr_L (N : Nat) (pc : Nat → Nat) (p : Nat) : Nat → Prop := fun x => x < N ∧ p ≤ pc x
/-- p is a stage of the order pc -/
def gr_St (G : Nat → Nat → Prop) (N : Nat) (pc : Nat → Nat) (p : Nat) : Prop := ∃ s, s < N ∧ pc s = p ∧ gr_Fst G (gr_L N pc p) s ∧ ∀ t, t < N → (pc t = p ↔ gr_S G s t)
def gr_Can (G : Nat → Nat → Prop) (N : Nat) (pc : Nat → Nat) (K : Nat) : Prop := (∀ s, s < N → pc s < K) ∧ ∀ p, p < K → gr_St G N pc p
/-- the order as far as stage r: what is left has the number r -/
def gr_Par (G : Nat → Nat → Prop) (N : Nat) (pc : Nat → Nat) (r : Nat) : Prop := (∀ s, s < N → pc s ≤ r) ∧ ∀ p, p < r → gr_St G N pc p
theorem gr_Ss {G : Nat → Nat → Prop} {s t : Nat} (h : gr_S G s t) : gr_S G t s := by
  rcases h with h | ⟨a, b⟩
  · exact Or.inl h.symm
  · exact Or.inr ⟨b, a⟩
theorem gr_St' {G : Nat → Nat → Prop} {s t u : Nat} (h : gr_S G s t) (g : gr_S G t u) : gr_S G s u := by
  rcases h with h | ⟨a, b⟩
  · subst h; exact g
  · rcases g with g | ⟨c, d⟩
    · subst g; exact Or.inr ⟨a, b⟩
    · exact Or.inr ⟨a.trans c, d.trans b⟩
theorem gr_TS {G : Nat → Nat → Prop} {s t u : Nat} (h : gr_T G s t) (g : gr_S G t u) : gr_T G s u := by
  rcases g with g | ⟨c, d⟩
  · subst g; exact h
  · exact h.trans c
theorem gr_flip {G : Nat → Nat → Prop} {a b : Nat} (h : gr_T (fun x y => G y x) a b) : gr_T G b a := by
  induction h with
  | single h => exact Relation.TransGen.single h
  | tail _ h ih => exact Relation.TransGen.trans (Relation.TransGen.single h) ih
theorem gr_flip' {G : Nat → Nat → Prop} {a b : Nat} (h : gr_T G b a) : gr_T (fun x y => G y x) a b := by
  induction h with
  | single h => exact Relation.TransGen.single h
  | tail _ h ih => exact Relation.TransGen.trans (Relation.TransGen.single h) ih
theorem gr_Tb {G : Nat → Nat → Prop} {N : Nat} (hG : ∀ a b, G a b → a < N ∧ b < N) {a b : Nat} (h : gr_T G a b) : a < N ∧ b < N := by
  induction h with
  | single h => exact hG _ _ h
  | tail _ h ih => exact ⟨ih.1, (hG _ _ h).2⟩
theorem gr_Sb {G : Nat → Nat → Prop} {N : Nat} (hG : ∀ a b, G a b → a < N ∧ b < N) {a b : Nat} (h : gr_S G a b) (ha : a < N) : b < N := by
  rcases h with h | ⟨c, d⟩
  · omega
  · exact (gr_Tb hG c).2
theorem gr_mono {G H : Nat → Nat → Prop} (h : ∀ a b, G a b → H a b) {a b : Nat} (g : gr_T G a b) : gr_T H a b := by
  induction g with
  | single k => exact Relation.TransGen.single (h _ _ k)
  | tail _ k ih => exact Relation.TransGen.tail ih (h _ _ k)
theorem gr_Smono {G H : Nat → Nat → Prop} (h : ∀ a b, G a b → H a b) {a b : Nat} (g : gr_S G a b) : gr_S H a b := by
  rcases g with g | ⟨c, d⟩
  · exact Or.inl g
  · exact Or.inr ⟨gr_mono h c, gr_mono h d⟩
theorem gr_src_c {G : Nat → Nat → Prop} {L M : Nat → Prop} (e : ∀ x, L x ↔ M x) {s : Nat} (h : gr_Src G L s) : gr_Src G M s :=
  ⟨(e s).mp h.1, fun x hx => h.2 x ((e x).mpr hx)⟩
theorem gr_fst_c {G : Nat → Nat → Prop} {L M : Nat → Prop} (e : ∀ x, L x ↔ M x) {s : Nat} (h : gr_Fst G L s) : gr_Fst G M s :=
  ⟨gr_src_c e h.1, fun w hw z => h.2 w hw (gr_src_c (fun x => (e x).symm) z)⟩
theorem gr_fst_u {G : Nat → Nat → Prop} {L : Nat → Prop} {s t : Nat} (h : gr_Fst G L s) (g : gr_Fst G L t) : s = t := by
  rcases Nat.lt_trichotomy s t with c | c | c
  · exact absurd h.1 (g.2 s c)
  · exact c
  · exact absurd g.1 (h.2 t c)
/-- the two readings of a source agree where what is left is closed onwards -/
theorem gr_src_iff {G : Nat → Nat → Prop} {L : Nat → Prop} (hc : ∀ x y, G x y → L x → L y) (s : Nat) : gr_Src' G L s ↔ gr_Src G L s := by
  constructor
  · rintro ⟨h1, h2⟩
    refine ⟨h1, ?_⟩
    have cl : ∀ {a b}, gr_T G a b → L a → L b := by
      intro a b h
      induction h with
      | single h => exact hc _ _ h
      | tail _ h ih => exact fun z => hc _ _ h (ih z)
    have key : ∀ {x y}, gr_T G x y → L x → gr_S G y s → gr_S G x s := by
      intro x y h
      induction h with
      | single h => exact fun a b => Classical.byContradiction (fun n => h2 _ _ a n b h)
      | tail hh h ih =>
        intro a b
        exact ih a (Classical.byContradiction (fun n => h2 _ _ (cl hh a) n b h))
    intro x hx ht
    exact gr_Ss (key ht hx (Or.inl rfl))
  · rintro ⟨h1, h2⟩
    refine ⟨h1, fun x y hx hn hy hg => ?_⟩
    exact hn (gr_Ss (h2 x hx (gr_TS (Relation.TransGen.single hg) hy)))
theorem gr_par_cl {G : Nat → Nat → Prop} {N : Nat} (hG : ∀ a b, G a b → a < N ∧ b < N) {pc : Nat → Nat} {r : Nat} (h : gr_Par G N pc r) : ∀ x y, G x y → gr_L N pc r x → gr_L N pc r y := by
  intro x y hg hx
  refine ⟨(hG x y hg).2, ?_⟩
  apply Classical.byContradiction
  intro n
  obtain ⟨s, s1, s2, s3, s4⟩ := h.2 (pc y) (by omega)
  have hy : gr_S G s y := (s4 y (hG x y hg).2).mp rfl
  have hxs := s3.1.2 x ⟨hx.1, by have := hx.2; omega⟩ (gr_TS (Relation.TransGen.single hg) (gr_Ss hy))
  have := (s4 x hx.1).mpr hxs
  have := hx.2
  omega
theorem gr_par0 (G : Nat → Nat → Prop) (N : Nat) : gr_Par G N (fun _ => 0) 0 := ⟨fun _ _ => Nat.le_refl _, fun p hp => absurd hp (Nat.not_lt_zero p)⟩
noncomputable def gr_nx (G : Nat → Nat → Prop) (pc : Nat → Nat) (r s : Nat) : Nat → Nat := fun x => if r ≤ pc x then (@ite Nat (gr_S G s x) (Classical.propDecidable _) r (r + 1)) else pc x
theorem gr_nx1 {G : Nat → Nat → Prop} {pc : Nat → Nat} {r s x : Nat} (h : r ≤ pc x) (g : gr_S G s x) : gr_nx G pc r s x = r := by
  unfold gr_nx; rw [if_pos h, if_pos g]
theorem gr_nx2 {G : Nat → Nat → Prop} {pc : Nat → Nat} {r s x : Nat} (h : r ≤ pc x) (g : ¬ gr_S G s x) : gr_nx G pc r s x = r + 1 := by
  unfold gr_nx; rw [if_pos h, if_neg g]
theorem gr_nx3 {G : Nat → Nat → Prop} {pc : Nat → Nat} {r s x : Nat} (h : ¬ r ≤ pc x) : gr_nx G pc r s x = pc x := by
  unfold gr_nx; rw [if_neg h]
theorem gr_par_S {G : Nat → Nat → Prop} {N : Nat} {pc : Nat → Nat} {r : Nat} (h : gr_Par G N pc r) {s t : Nat} (hs : s < N) (ht : t < N) (hr : r ≤ pc s) (hS : gr_S G s t) : r ≤ pc t := by
  apply Classical.byContradiction
  intro n
  obtain ⟨s', s1, s2, s3, s4⟩ := h.2 (pc t) (by omega)
  have := (s4 s hs).mpr (gr_St' ((s4 t ht).mp rfl) (gr_Ss hS))
  omega
theorem gr_nx_le {G : Nat → Nat → Prop} {pc : Nat → Nat} {r s x p : Nat} (hp : p ≤ r) : (p ≤ gr_nx G pc r s x ↔ p ≤ pc x) := by
  by_cases h : r ≤ pc x
  · by_cases g : gr_S G s x
    · rw [gr_nx1 h g]; omega
    · rw [gr_nx2 h g]; omega
  · rw [gr_nx3 h]
theorem gr_nx_eq {G : Nat → Nat → Prop} {pc : Nat → Nat} {r s x p : Nat} (hp : p < r) : (gr_nx G pc r s x = p ↔ pc x = p) := by
  by_cases h : r ≤ pc x
  · by_cases g : gr_S G s x
    · rw [gr_nx1 h g]; omega
    · rw [gr_nx2 h g]; omega
  · rw [gr_nx3 h]
theorem gr_nx_lt {G : Nat → Nat → Prop} {N : Nat} {pc : Nat → Nat} {r s x : Nat} (h : gr_Par G N pc r) (hs : s < N) (hx : x < N) : (r + 1 ≤ gr_nx G pc r s x ↔ r ≤ pc x ∧ ¬ gr_S G s x) := by
  have := h.1 x hx
  by_cases h : r ≤ pc x
  · by_cases g : gr_S G s x
    · rw [gr_nx1 h g]; constructor
      · omega
      · exact fun z => absurd g z.2
    · rw [gr_nx2 h g]; exact ⟨fun _ => ⟨h, g⟩, fun _ => by omega⟩
  · rw [gr_nx3 h]; constructor
    · omega
    · exact fun z => absurd z.1 h
theorem gr_step {G : Nat → Nat → Prop} {N : Nat} {pc : Nat → Nat} {r s : Nat} (h : gr_Par G N pc r) (hs : s < N) (hF : gr_Fst G (gr_L N pc r) s) : gr_Par G N (gr_nx G pc r s) (r + 1) := by
  constructor
  · intro x hx
    have := h.1 x hx
    by_cases a : r ≤ pc x
    · by_cases g : gr_S G s x
      · rw [gr_nx1 a g]; omega
      · rw [gr_nx2 a g]; omega
    · rw [gr_nx3 a]; omega
  · intro p hp
    rcases Nat.lt_or_ge p r with c | c
    · obtain ⟨s', s1, s2, s3, s4⟩ := h.2 p c
      refine ⟨s', s1, (gr_nx_eq c).mpr s2, gr_fst_c (fun x => ?_) s3, fun t ht => ?_⟩
      · unfold gr_L; rw [gr_nx_le (by omega)]
      · rw [gr_nx_eq c]; exact s4 t ht
    · have e : p = r := by omega
      subst e
      refine ⟨s, hs, gr_nx1 hF.1.1.2 (Or.inl rfl), gr_fst_c (fun x => ?_) hF, fun t ht => ?_⟩
      · unfold gr_L; rw [gr_nx_le (by omega)]
      · constructor
        · intro e
          by_cases a : p ≤ pc t
          · by_cases g : gr_S G s t
            · exact g
            · rw [gr_nx2 a g] at e; omega
          · rw [gr_nx3 a] at e; omega
        · intro g
          exact gr_nx1 (gr_par_S h hs ht hF.1.1.2 g) g
theorem gr_fin {G : Nat → Nat → Prop} {N : Nat} {pc : Nat → Nat} {r : Nat} (h : gr_Par G N pc r) (hn : ∀ x, x < N → ¬ r ≤ pc x) : gr_Can G N pc r :=
  ⟨fun s hs => by have := hn s hs; omega, h.2⟩
theorem gr_surj : ∀ (N r : Nat) (f : Nat → Nat), (∀ p, p < r → ∃ s, s < N ∧ f s = p) → r ≤ N := by
  intro N
  induction N with
  | zero =>
    intro r f h
    apply Classical.byContradiction
    intro n
    obtain ⟨s, a, _⟩ := h 0 (by omega)
    omega
  | succ N ih =>
    intro r f h
    rcases Nat.lt_or_ge (f N) r with c | c
    · have := ih (r - 1) (fun s => if f N < f s then f s - 1 else f s) (by
        intro p hp
        rcases Nat.lt_or_ge p (f N) with e | e
        · obtain ⟨s, a, b⟩ := h p (by omega)
          have : s ≠ N := by intro z; rw [z] at b; omega
          exact ⟨s, by omega, by rw [if_neg (by omega)]; exact b⟩
        · obtain ⟨s, a, b⟩ := h (p + 1) (by omega)
          have : s ≠ N := by intro z; rw [z] at b; omega
          exact ⟨s, by omega, by rw [if_pos (by omega)]; omega⟩)
      omega
    · have := ih r f (by
        intro p hp
        obtain ⟨s, a, b⟩ := h p hp
        have : s ≠ N := by intro z; rw [z] at b; omega
        exact ⟨s, by omega, b⟩)
      omega
theorem gr_par_lt {G : Nat → Nat → Prop} {N : Nat} {pc : Nat → Nat} {r : Nat} (h : gr_Par G N pc r) {x : Nat} (hx : x < N) (hr : r ≤ pc x) : r < N := by
  have := gr_surj N (r + 1) pc (by
    intro p hp
    rcases Nat.lt_or_ge p r with c | c
    · obtain ⟨s, s1, s2, _⟩ := h.2 p c
      exact ⟨s, s1, s2⟩
    · exact ⟨x, hx, by have := h.1 x hx; omega⟩)
  omega
theorem gr_can_le {G : Nat → Nat → Prop} {N : Nat} {pc : Nat → Nat} {K : Nat} (h : gr_Can G N pc K) : K ≤ N :=
  gr_surj N K pc (fun p hp => by obtain ⟨s, s1, s2, _⟩ := h.2 p hp; exact ⟨s, s1, s2⟩)
theorem gr_can_S {G : Nat → Nat → Prop} {N : Nat} {pc : Nat → Nat} {K : Nat} (h : gr_Can G N pc K) {s t : Nat} (hs : s < N) (ht : t < N) : pc s = pc t ↔ gr_S G s t := by
  obtain ⟨s', s1, s2, s3, s4⟩ := h.2 (pc s) (h.1 s hs)
  have a := (s4 s hs).mp rfl
  constructor
  · intro e
    exact gr_St' (gr_Ss a) ((s4 t ht).mp e.symm)
  · intro g
    exact ((s4 t ht).mpr (gr_St' a g)).symm
theorem gr_can_E {G : Nat → Nat → Prop} {N : Nat} {pc : Nat → Nat} {K : Nat} (hG : ∀ a b, G a b → a < N ∧ b < N) (h : gr_Can G N pc K) {s t : Nat} (g : G s t) : pc s ≤ pc t := by
  apply Classical.byContradiction
  intro n
  have hb := hG s t g
  obtain ⟨s', s1, s2, s3, s4⟩ := h.2 (pc t) (h.1 t hb.2)
  have := s3.1.2 s ⟨hb.1, by omega⟩ (gr_TS (Relation.TransGen.single g) (gr_Ss ((s4 t hb.2).mp rfl)))
  have := (s4 s hb.1).mpr this
  omega
theorem gr_can_u {G : Nat → Nat → Prop} {N : Nat} {pc pc' : Nat → Nat} {K K' : Nat} (h : gr_Can G N pc K) (h' : gr_Can G N pc' K') : K = K' ∧ ∀ s, s < N → pc s = pc' s := by
  have key : ∀ p s, s < N → (p ≤ pc s ↔ p ≤ pc' s) := by
    intro p
    induction p with
    | zero => intro s _; exact ⟨fun _ => Nat.zero_le _, fun _ => Nat.zero_le _⟩
    | succ p ih =>
      have st : ∀ s, s < N → p ≤ pc s → (∀ t, t < N → (pc t = p ↔ pc' t = p)) := by
        intro s hs hp t ht
        obtain ⟨a, a1, a2, a3, a4⟩ := h.2 p (by have := h.1 s hs; omega)
        obtain ⟨b, b1, b2, b3, b4⟩ := h'.2 p (by have := h'.1 s hs; have := (ih s hs).mp hp; omega)
        have e : a = b := gr_fst_u (gr_fst_c (fun x => by
          unfold gr_L
          constructor
          · exact fun z => ⟨z.1, (ih x z.1).mp z.2⟩
          · exact fun z => ⟨z.1, (ih x z.1).mpr z.2⟩) a3) b3
        subst e
        rw [a4 t ht, b4 t ht]
      intro s hs
      have i1 := ih s hs
      constructor
      · intro z
        have := st s hs (by omega) s hs
        omega
      · intro z
        have := st s hs (by omega) s hs
        omega
  have eq : ∀ s, s < N → pc s = pc' s := by
    intro s hs
    have a := (key (pc s) s hs).mp (Nat.le_refl _)
    have b := (key (pc' s) s hs).mpr (Nat.le_refl _)
    omega
  refine ⟨?_, eq⟩
  have l1 : K ≤ K' := by
    apply Classical.byContradiction
    intro n
    obtain ⟨s, s1, s2, _⟩ := h.2 (K - 1) (by omega)
    have := h'.1 s s1
    have := eq s s1
    omega
  have l2 : K' ≤ K := by
    apply Classical.byContradiction
    intro n
    obtain ⟨s, s1, s2, _⟩ := h'.2 (K' - 1) (by omega)
    have := h.1 s s1
    have := eq s s1
    omega
  omega
noncomputable def gr_cnt (P : Nat → Prop) : Nat → Nat
  | 0 => 0
  | n + 1 => gr_cnt P n + (@ite Nat (P n) (Classical.propDecidable _) 1 0)
theorem gr_cnt_le {P Q : Nat → Prop} (h : ∀ x, P x → Q x) : ∀ n, gr_cnt P n ≤ gr_cnt Q n := by
  intro n
  induction n with
  | zero => exact Nat.le_refl _
  | succ n ih =>
    show gr_cnt P n + _ ≤ gr_cnt Q n + _
    by_cases p : P n
    · rw [if_pos p, if_pos (h n p)]; omega
    · rw [if_neg p]; omega
theorem gr_cnt_lt {P Q : Nat → Prop} (h : ∀ x, P x → Q x) {y : Nat} (hy : Q y) (hn : ¬ P y) : ∀ n, y < n → gr_cnt P n < gr_cnt Q n := by
  intro n
  induction n with
  | zero => intro z; omega
  | succ n ih =>
    intro z
    show gr_cnt P n + _ < gr_cnt Q n + _
    by_cases e : y = n
    · subst e
      have := gr_cnt_le h y
      rw [if_neg hn, if_pos hy]; omega
    · have := ih (by omega)
      by_cases p : P n
      · rw [if_pos p, if_pos (h n p)]; omega
      · rw [if_neg p]; omega
/-- among what is left there is a source -/
theorem gr_src_ex {G : Nat → Nat → Prop} {N : Nat} {L : Nat → Prop} (hL : ∀ x, L x → x < N) : ∀ (m s : Nat), L s → gr_cnt (fun x => L x ∧ (x = s ∨ gr_T G x s)) N ≤ m → ∃ t, gr_Src G L t := by
  intro m
  induction m with
  | zero =>
    intro s hs hm
    have := gr_cnt_lt (P := fun _ => False) (Q := fun x => L x ∧ (x = s ∨ gr_T G x s)) (fun x z => z.elim) (y := s) ⟨hs, Or.inl rfl⟩ (fun z => z) N (hL s hs)
    omega
  | succ m ih =>
    intro s hs hm
    by_cases c : gr_Src G L s
    · exact ⟨s, c⟩
    · obtain ⟨x, hx, ht, hn⟩ : ∃ x, L x ∧ gr_T G x s ∧ ¬ gr_S G s x := by
        apply Classical.byContradiction
        intro n
        exact c ⟨hs, fun x a b => Classical.byContradiction (fun d => n ⟨x, a, b, d⟩)⟩
      refine ih x hx ?_
      have := gr_cnt_lt (P := fun y => L y ∧ (y = x ∨ gr_T G y x)) (Q := fun y => L y ∧ (y = s ∨ gr_T G y s)) (by
        rintro y ⟨a, b⟩
        refine ⟨a, Or.inr ?_⟩
        rcases b with b | b
        · rw [b]; exact ht
        · exact b.trans ht) (y := s) ⟨hs, Or.inl rfl⟩ (by
        rintro ⟨_, b | b⟩
        · exact hn (Or.inl b)
        · exact hn (Or.inr ⟨b, ht⟩)) N (hL s hs)
      omega
theorem gr_fst_ex {G : Nat → Nat → Prop} {N : Nat} {L : Nat → Prop} (hL : ∀ x, L x → x < N) {s : Nat} (hs : L s) : ∃ t, gr_Fst G L t := by
  obtain ⟨t, ht⟩ := gr_src_ex (G := G) hL _ s hs (Nat.le_refl _)
  obtain ⟨k, hk, hm⟩ := pk_least (fun x => gr_Src G L x) ⟨t, ht⟩
  exact ⟨k, hk, hm⟩
end
section
theorem lo_b8 {x : Int32} (h : ∀ i, 8 ≤ i → i < 32 → bt x i = false) : ∃ m, m < 256 ∧ x = nI m := by
  have e : x = nI x.toBitVec.toNat := by
    apply Int32.toBitVec_inj.1
    show x.toBitVec = BitVec.ofNat 32 x.toBitVec.toNat
    simp
  refine ⟨x.toBitVec.toNat, ?_, e⟩
  apply Nat.lt_pow_two_of_testBit (n := 8)
  intro i hi
  rcases Nat.lt_or_ge i 32 with c | c
  · exact h i hi c
  · exact Nat.testBit_lt_two_pow (Nat.lt_of_lt_of_le x.toBitVec.isLt (Nat.pow_le_pow_right (by decide) c))
theorem lo_tab : ∀ m, m < 256 → ∀ v, v < 8 → bt (nI m) v = true → (∀ w, w < v → bt (nI m) w = false) → ∀ i, i < 8 → bt (nI m &&& (nI m - 1)) i = (bt (nI m) i && !decide (i = v)) := by decide +kernel
/-- the lowest bit is taken away -/
theorem lo_clr {x : Int32} (h : ∀ i, 8 ≤ i → i < 32 → bt x i = false) {v : Nat} (hv : v < 8) (h1 : bt x v = true) (h2 : ∀ w, w < v → bt x w = false) {i : Nat} (hi : i < 32) : bt (x &&& (x - 1)) i = (bt x i && !decide (i = v)) := by
  rcases Nat.lt_or_ge i 8 with c | c
  · obtain ⟨m, hm, rfl⟩ := lo_b8 h
    exact lo_tab m hm v hv h1 h2 i c
  · rw [b_and, h i c hi, Bool.false_and, Bool.false_and]
section
variable {O I C N : Nat} {xm xp xq xg xr sg sb sl sr : Int32} {cd wd rs ed gp sq : Nat → Int32}
theorem lo_loop {post : Int32 → Prop} {x : Int32} {v : Nat} (hv : v < 8) (h1 : bt x v = true) (h2 : ∀ w, w < v → bt x w = false) (hp : post (nI v)) :
    ∀ d w, w + d = v → ∀ n, d < n → wX_lowest_2 post x (nI O) (nI I) xm (nI C) xp (nI N) xq xg xr sg sb sl sr cd wd rs ed gp sq n (nI w) := by
  intro d
  induction d with
  | zero =>
    intro w hw n hn
    obtain ⟨n, rfl⟩ : ∃ m, n = m + 1 := ⟨n - 1, by omega⟩
    have : w = v := by omega
    subst this
    exact br_f (nI_ge (b := 8) (by omega) (by decide)) (za_bb hv (fun z => by rw [h1] at z; cases z) (fun _ => hp))
  | succ d ih =>
    intro w hw n hn
    obtain ⟨n, rfl⟩ : ∃ m, n = m + 1 := ⟨n - 1, by omega⟩
    exact br_f (nI_ge (b := 8) (by omega) (by decide)) (za_bb (by omega) (fun _ => nm_r (nI_1 w) (ih (w + 1) (by omega) n (by omega))) (fun z => by rw [h2 w (by omega)] at z; cases z))
theorem lo_walk {post : Int32 → Prop} {x : Int32} (he : ∃ v, v < 8 ∧ bt x v = true) (hp : ∀ v, v < 8 → bt x v = true → (∀ w, w < v → bt x w = false) → post (nI v)) : wpX_lowest post ((nI O), (nI I), xm, (nI C), xp, (nI N), xq, xg, xr, sg, sb, sl, sr, cd, wd, rs, ed, gp, sq) x := by
  obtain ⟨v, ⟨a, b⟩, c⟩ := pk_least (fun v => v < 8 ∧ bt x v = true) he
  have c' : ∀ w, w < v → bt x w = false := fun w hw => za_nt (fun z => c w hw ⟨by omega, z⟩)
  exact ⟨9, lo_loop a b c' (hp v a b c') v 0 (by omega) 9 (by omega)⟩
/-- what the search has done: Q holds the nodes that are through -/
def rc_I (ed : Nat → Int32) (H : Nat → Nat → Prop) (s : Nat) (Q : List Nat) (fd wt : Int32) : Prop :=
  Q.Nodup ∧ (∀ x, x ∈ Q → x < 8 ∧ bt wt x = false ∧ ∀ y, H x y → bt fd y = true) ∧ (∀ x, x < 32 → (bt fd x = true ↔ (x ∈ Q ∨ bt wt x = true))) ∧
  (∀ x, x < 32 → bt fd x = true → x < 8 ∧ (x = s ∨ gr_T H s x)) ∧ bt fd s = true
theorem rc_full : ∀ (k : Nat) (Q : List Nat), Q.Nodup → (∀ x, x ∈ Q → x < k) → Q.length ≤ k := by
  intro k
  induction k with
  | zero =>
    intro Q _ h
    cases Q with
    | nil => exact Nat.le_refl _
    | cons a l => exact absurd (h a (List.mem_cons_self ..)) (Nat.not_lt_zero a)
  | succ k ih =>
    intro Q hn h
    have h1 := ih (Q.erase k) (hn.erase k) (fun x hx => by
      have h2 := (List.Nodup.mem_erase_iff hn).mp hx
      have := h x h2.2
      have := h2.1
      omega)
    by_cases c : k ∈ Q
    · have := List.length_erase_of_mem c
      omega
    · rw [List.erase_of_not_mem c] at h1
      omega
theorem rc_loop {post : Int32 → Prop} {b s : Nat} {H : Nat → Nat → Prop} (hb : b + 8 ≤ 32) (hE : ∀ a i, a < 8 → i < 32 → (bt (ed (b + a)) i = true ↔ H a i)) (hH : ∀ a i, H a i → a < 8 ∧ i < 8)
    (hp : ∀ r : Int32, (∀ i, i < 32 → (bt r i = true ↔ (i = s ∨ gr_T H s i))) → post r) :
    ∀ (d t : Nat) (Q : List Nat) (fd wt : Int32), t + d = 8 → Q.length = t → rc_I ed H s Q fd wt → ∀ n, d < n → wX_reach_10 post (nI b) (nI O) (nI I) xm (nI C) xp (nI N) xq xg xr sg sb sl sr cd wd rs ed gp sq n fd wt (nI t) := by
  have fin : ∀ (Q : List Nat) (fd wt : Int32), rc_I ed H s Q fd wt → (∀ i, i < 32 → bt wt i = false) → post fd := by
    intro Q fd wt hI hz
    obtain ⟨h1, h2, h3, h4, h5⟩ := hI
    refine hp fd (fun i hi => ⟨fun z => (h4 i hi z).2, ?_⟩)
    rintro (z | z)
    · rw [z]; exact h5
    · induction z with
      | single h =>
        have := hH _ _ h
        have hs : s ∈ Q := by
          rcases (h3 s (by omega)).mp h5 with c | c
          · exact c
          · rw [hz s (by omega)] at c; cases c
        exact (h2 s hs).2.2 _ h
      | tail _ h ih =>
        have hb := hH _ _ h
        have q := ih (by omega)
        rcases (h3 _ (by omega)).mp q with c | c
        · exact (h2 _ c).2.2 _ h
        · rw [hz _ (by omega)] at c; cases c
  intro d
  induction d with
  | zero =>
    intro t Q fd wt ht hl hI n hn
    obtain ⟨n, rfl⟩ : ∃ m, n = m + 1 := ⟨n - 1, by omega⟩
    refine br_t (nI_le (a := 8) (by omega) (by omega)) (fin Q fd wt hI ?_)
    intro i hi
    apply za_nt
    intro z
    obtain ⟨h1, h2, h3, h4, h5⟩ := hI
    have hi8 := (h4 i hi ((h3 i hi).mpr (Or.inr z))).1
    have hq : i ∉ Q := by
      intro m
      rw [(h2 i m).2.1] at z; cases z
    have := rc_full 8 (i :: Q) (List.nodup_cons.mpr ⟨hq, h1⟩) (by
      intro x hx
      rcases List.mem_cons.mp hx with e | e
      · omega
      · exact (h2 x e).1)
    rw [List.length_cons] at this
    omega
  | succ d ih =>
    intro t Q fd wt ht hl hI n hn
    obtain ⟨n, rfl⟩ : ∃ m, n = m + 1 := ⟨n - 1, by omega⟩
    refine br_f (nI_ge (b := 8) (by omega) (by decide)) (br_c (fun hw => fin Q fd wt hI (fun i _ => by rw [hw, b_0])) (fun hw => ?_))
    obtain ⟨h1, h2, h3, h4, h5⟩ := hI
    have w8 : ∀ i, i < 32 → bt wt i = true → i < 8 := fun i hi z => (h4 i hi ((h3 i hi).mpr (Or.inr z))).1
    have wz : ∀ i, 8 ≤ i → i < 32 → bt wt i = false := fun i a c => za_nt (fun z => by have := w8 i c z; omega)
    refine lo_walk ?_ ?_
    · obtain ⟨i, a, c⟩ := za_nz hw
      exact ⟨i, w8 i a c, c⟩
    · intro v hv hb1 hb2
      have hfv : bt fd v = true := (h3 v (by omega)).mpr (Or.inr hb1)
      have hvq : v ∉ Q := by
        intro m
        rw [(h2 v m).2.1] at hb1; cases hb1
      refine ⟨za_s (P := fun x => vp_in x 32) (nI_add b v) (vp_in_nI (by omega) (by decide)), nm_r (e' := ed (b + v) &&& (fd ^^^ (-1))) (by rw [nI_add, nI_clamp (by omega)]) (nm_e (nm_e (nm_r (nI_1 t) ?_)))⟩
      have fr : ∀ i, i < 32 → (bt (ed (b + v) &&& (fd ^^^ (-1))) i = true ↔ (H v i ∧ bt fd i = false)) := by
        intro i hi
        rw [b_and, za_not fd hi, Bool.and_eq_true, hE v i hv hi, Bool.not_eq_true']
      have fw : ∀ i, i < 32 → (bt (wt &&& (wt - 1) ||| ed (b + v) &&& (fd ^^^ (-1))) i = true ↔ ((bt wt i = true ∧ i ≠ v) ∨ (H v i ∧ bt fd i = false))) := by
        intro i hi
        rw [b_or, Bool.or_eq_true, fr i hi, lo_clr wz hv hb1 hb2 hi, Bool.and_eq_true, Bool.not_eq_true', decide_eq_false_iff_not]
      have ff : ∀ i, i < 32 → (bt (fd ||| ed (b + v) &&& (fd ^^^ (-1))) i = true ↔ (bt fd i = true ∨ H v i)) := by
        intro i hi
        rw [b_or, Bool.or_eq_true, fr i hi]
        constructor
        · rintro (z | z)
          · exact Or.inl z
          · exact Or.inr z.1
        · rintro (z | z)
          · exact Or.inl z
          · cases c : bt fd i
            · exact Or.inr ⟨z, rfl⟩
            · exact Or.inl rfl
      refine ih (t + 1) (v :: Q) _ _ (by omega) (by rw [List.length_cons, hl]) ⟨List.nodup_cons.mpr ⟨hvq, h1⟩, ?_, ?_, ?_, ?_⟩ n (by omega)
      · intro x hx
        rcases List.mem_cons.mp hx with e | e
        · subst e
          refine ⟨hv, za_nt (fun z => ?_), fun y hy => ?_⟩
          · rcases (fw x (by omega)).mp z with ⟨_, c⟩ | ⟨_, c⟩
            · exact c rfl
            · rw [hfv] at c; cases c
          · have := hH _ _ hy
            exact (ff y (by omega)).mpr (Or.inr hy)
        · obtain ⟨e1, e2, e3⟩ := h2 x e
          refine ⟨e1, za_nt (fun z => ?_), fun y hy => ?_⟩
          · rcases (fw x (by omega)).mp z with ⟨c, _⟩ | ⟨_, c⟩
            · rw [e2] at c; cases c
            · rw [(h3 x (by omega)).mpr (Or.inl e)] at c; cases c
          · have := hH _ _ hy
            exact (ff y (by omega)).mpr (Or.inl (e3 y hy))
      · intro x hx
        rw [ff x hx, fw x hx, h3 x hx, List.mem_cons]
        constructor
        · rintro ((z | z) | z)
          · exact Or.inl (Or.inr z)
          · by_cases c : x = v
            · exact Or.inl (Or.inl c)
            · exact Or.inr (Or.inl ⟨z, c⟩)
          · cases c : bt fd x
            · exact Or.inr (Or.inr ⟨z, rfl⟩)
            · rcases (h3 x hx).mp c with y | y
              · exact Or.inl (Or.inr y)
              · by_cases e : x = v
                · exact Or.inl (Or.inl e)
                · exact Or.inr (Or.inl ⟨y, e⟩)
        · rintro ((z | z) | (z | z))
          · exact Or.inl (Or.inr (by rw [z]; exact hb1))
          · exact Or.inl (Or.inl z)
          · exact Or.inl (Or.inr z.1)
          · exact Or.inr z.1
      · intro x hx z
        rcases (ff x hx).mp z with c | c
        · exact h4 x hx c
        · refine ⟨(hH _ _ c).2, Or.inr ?_⟩
          rcases (h4 v (by omega) hfv).2 with e | e
          · rw [← e]; exact Relation.TransGen.single c
          · exact Relation.TransGen.tail e c
      · have := (h4 s ?_ h5).1
        · exact (ff s (by omega)).mpr (Or.inl h5)
        · apply Classical.byContradiction
          intro n
          rw [b_big (by omega)] at h5; cases h5
theorem rc_walk {post : Int32 → Prop} {b s : Nat} {H : Nat → Nat → Prop} {p0 : Int32} (e0 : p0 = nI b) (hb : b + 8 ≤ 32) (hs : s < 8) (hE : ∀ a i, a < 8 → i < 32 → (bt (ed (b + a)) i = true ↔ H a i)) (hH : ∀ a i, H a i → a < 8 ∧ i < 8)
    (hp : ∀ r : Int32, (∀ i, i < 32 → (bt r i = true ↔ (i = s ∨ gr_T H s i))) → post r) : wpX_reach post ((nI O), (nI I), xm, (nI C), xp, (nI N), xq, xg, xr, sg, sb, sl, sr, cd, wd, rs, ed, gp, sq) p0 (nI s) := by
  subst e0
  refine nm_e ⟨9, rc_loop hb hE hH hp 8 0 [] _ _ (by omega) rfl ⟨List.nodup_nil, (fun x hx => absurd hx (List.not_mem_nil)), ?_, ?_, ?_⟩ 9 (by omega)⟩
  · intro x hx
    exact ⟨fun z => Or.inr z, fun z => z.elim (fun y => absurd y (List.not_mem_nil)) id⟩
  · intro x hx z
    rw [za_one (by omega) x hx] at z
    have := of_decide_eq_true z
    exact ⟨by omega, Or.inl this⟩
  · rw [za_one (by omega) s (by omega)]
    exact decide_eq_true rfl
end
end
section
theorem gr_nx_r {G : Nat → Nat → Prop} {N : Nat} {pc : Nat → Nat} {r s x : Nat} (h : gr_Par G N pc r) (hs : s < N) (hx : x < N) (hr : r ≤ pc s) : (gr_nx G pc r s x = r ↔ gr_S G s x) := by
  constructor
  · intro e
    by_cases a : r ≤ pc x
    · by_cases g : gr_S G s x
      · exact g
      · rw [gr_nx2 a g] at e; omega
    · rw [gr_nx3 a] at e; omega
  · intro g
    exact gr_nx1 (gr_par_S h hs hx hr g) g
/-- the sets of successors and of predecessors at b -/
def bg_ok (ed : Nat → Int32) (b : Nat) (R : Nat → Nat → Prop) : Prop :=
  ∀ a i, a < 8 → i < 32 → ((bt (ed (b + a)) i = true ↔ R a i) ∧ (bt (ed (b + 16 + a)) i = true ↔ R i a))
theorem bg_c {ed : Nat → Int32} {b : Nat} {R R' : Nat → Nat → Prop} (e : ∀ a i, R a i ↔ R' a i) (h : bg_ok ed b R) : bg_ok ed b R' :=
  fun a i ha hi => ⟨(h a i ha hi).1.trans (e a i), (h a i ha hi).2.trans (e i a)⟩
theorem bg_upd {ed : Nat → Int32} {b : Nat} {R : Nat → Nat → Prop} (h : bg_ok ed b R) {s t : Nat} (hs : s < 8) (ht : t < 8) :
    bg_ok (upd (upd ed (b + s) (ed (b + s) ||| (1 : Int32) <<< (nI t &&& 31))) (b + 16 + t) (upd ed (b + s) (ed (b + s) ||| (1 : Int32) <<< (nI t &&& 31)) (b + 16 + t) ||| (1 : Int32) <<< (nI s &&& 31))) b (fun a i => R a i ∨ (a = s ∧ i = t)) := by
  intro a i ha hi
  rw [pk_un (show b + 16 + t ≠ b + s by omega)]
  constructor
  · rw [pk_un (show b + a ≠ b + 16 + t by omega)]
    by_cases c : a = s
    · subst c
      rw [pk_us, b_or, Bool.or_eq_true, (h a i ha hi).1, za_one (by omega) i hi, decide_eq_true_eq]
      simp
    · rw [pk_un (show b + a ≠ b + s by omega), (h a i ha hi).1]
      simp [c]
  · by_cases c : a = t
    · subst c
      rw [pk_us, b_or, Bool.or_eq_true, (h a i ha hi).2, za_one (by omega) i hi, decide_eq_true_eq]
      simp
    · rw [pk_un (show b + 16 + a ≠ b + 16 + t by omega), pk_un (show b + 16 + a ≠ b + s by omega), (h a i ha hi).2]
      simp [c]
def bg_out (ed ed' : Nat → Int32) (b : Nat) : Prop := ∀ j, (j < b ∨ (b + 8 ≤ j ∧ j < b + 16) ∨ b + 24 ≤ j) → ed' j = ed j
section
variable {O I C N : Nat} {xm xp xq xg xr sg sb sl sr : Int32} {cd wd rs ed gp sq : Nat → Int32}
theorem bg_21 {post : SX → Prop} {J : ld_JX} {v b s : Nat} (hO : O ≤ 5) (hO1 : 1 ≤ O) (hI : I ≤ 5) (hI1 : 1 ≤ I) (hC : C ≤ 32) (hN : N ≤ 8) (hrow : ∀ s, s < N → ld_row cd O I C s) (hv : 1 ≤ v) (hv2 : v ≤ 2) (hb : b ≤ 8) (hs : s < N)
    (H : ∀ ed' : Nat → Int32, bg_ok ed' b (fun a i => a < s + 1 ∧ ld_G cd O I N v a i) → bg_out ed ed' b → ∀ g b' l r : Int32, J (nI (s + 1)) (nI O) (nI I) xm (nI C) xp (nI N) xq xg xr g b' l r cd wd rs ed' gp sq) :
    ∀ (d t : Nat) (ed' : Nat → Int32), t + d = N → bg_ok ed' b (fun a i => (a < s ∨ (a = s ∧ i < t)) ∧ ld_G cd O I N v a i) → bg_out ed ed' b → ∀ (g b' l r : Int32) (n : Nat), d < n →
    wX_buildGraph_21 post J (nI v) (nI b) (nI s) n (nI t) (nI O) (nI I) xm (nI C) xp (nI N) xq xg xr g b' l r cd wd rs ed' gp sq := by
  intro d
  induction d with
  | zero =>
    intro t ed' hd h1 h2 g b' l r n hn
    obtain ⟨n, rfl⟩ : ∃ m, n = m + 1 := ⟨n - 1, by omega⟩
    refine br_t (nI_le (by omega) (by omega)) (nm_r (nI_1 s) (H ed' (bg_c (fun a i => ?_) h1) h2 g b' l r))
    constructor
    · rintro ⟨z, y⟩
      exact ⟨by omega, y⟩
    · rintro ⟨z, y⟩
      have := y.2.1
      exact ⟨by omega, y⟩
  | succ d ih =>
    intro t ed' hd h1 h2 g b' l r n hn
    obtain ⟨n, rfl⟩ : ∃ m, n = m + 1 := ⟨n - 1, by omega⟩
    refine br_f (nI_ge (by omega) (by omega)) (jo_walk hO hO1 hI hI1 hC (by omega) (by omega) (hrow s hs) (hrow t (by omega)) hv hv2 ?_ ?_)
    · intro hE g b' l r
      have e1 : nI b + nI s = nI (b + s) := nI_add b s
      have e2 : nI b + 16 + nI t = nI (b + 16 + t) := by rw [show nI b + 16 = nI (b + 16) from nI_add b 16, nI_add]
      refine br_f (by decide) ?_
      rw [e1, e2, nI_clamp (show b + s < 2 ^ 31 by omega), nI_clamp (show b + 16 + t < 2 ^ 31 by omega)]
      refine ⟨vp_in_nI (by omega) (by decide), vp_in_nI (by omega) (by decide), nm_e ⟨vp_in_nI (by omega) (by decide), vp_in_nI (by omega) (by decide), nm_e (nm_r (nI_1 t) (ih (t + 1) _ (by omega) (bg_c (fun a i => ?_) (bg_upd h1 (show s < 8 by omega) (show t < 8 by omega))) ?_ g b' l r n (by omega)))⟩⟩
      · constructor
        · rintro (⟨z, y⟩ | ⟨z, y⟩)
          · exact ⟨by omega, y⟩
          · subst z y
            exact ⟨Or.inr ⟨rfl, by omega⟩, hs, by omega, hE⟩
        · rintro ⟨z, y⟩
          by_cases c : a = s ∧ i = t
          · exact Or.inr c
          · exact Or.inl ⟨by omega, y⟩
      · intro j hj
        rw [pk_un (by omega), pk_un (by omega)]
        exact h2 j hj
    · intro hE g b' l r
      refine br_t rfl (nm_r (nI_1 t) (ih (t + 1) ed' (by omega) (bg_c (fun a i => ?_) h1) h2 g b' l r n (by omega)))
      constructor
      · rintro ⟨z, y⟩
        exact ⟨by omega, y⟩
      · rintro ⟨z, y⟩
        refine ⟨?_, y⟩
        by_cases c : a = s ∧ i = t
        · obtain ⟨c1, c2⟩ := c
          subst c1 c2
          exact absurd y.2.2 hE
        · omega
theorem bg_10 {post : SX → Prop} {v b : Nat} (hO : O ≤ 5) (hO1 : 1 ≤ O) (hI : I ≤ 5) (hI1 : 1 ≤ I) (hC : C ≤ 32) (hN : N ≤ 8) (hrow : ∀ s, s < N → ld_row cd O I C s) (hv : 1 ≤ v) (hv2 : v ≤ 2) (hb : b ≤ 8)
    (H : ∀ ed' : Nat → Int32, bg_ok ed' b (ld_G cd O I N v) → bg_out ed ed' b → ∀ g b' l r : Int32, post ((nI O), (nI I), xm, (nI C), xp, (nI N), xq, xg, xr, g, b', l, r, cd, wd, rs, ed', gp, sq)) :
    ∀ (d s : Nat) (ed' : Nat → Int32), s + d = N → bg_ok ed' b (fun a i => a < s ∧ ld_G cd O I N v a i) → bg_out ed ed' b → ∀ (g b' l r : Int32) (n : Nat), d < n →
    wX_buildGraph_10 post (nI v) (nI b) n (nI s) (nI O) (nI I) xm (nI C) xp (nI N) xq xg xr g b' l r cd wd rs ed' gp sq := by
  intro d
  induction d with
  | zero =>
    intro s ed' hd h1 h2 g b' l r n hn
    obtain ⟨n, rfl⟩ : ∃ m, n = m + 1 := ⟨n - 1, by omega⟩
    refine br_t (nI_le (by omega) (by omega)) (H ed' (bg_c (fun a i => ?_) h1) h2 g b' l r)
    exact ⟨fun z => z.2, fun z => ⟨by have := z.1; omega, z⟩⟩
  | succ d ih =>
    intro s ed' hd h1 h2 g b' l r n hn
    obtain ⟨n, rfl⟩ : ∃ m, n = m + 1 := ⟨n - 1, by omega⟩
    refine br_f (nI_ge (by omega) (by omega)) ⟨N + 1, ?_⟩
    refine bg_21 (ed := ed) hO hO1 hI hI1 hC hN hrow hv hv2 hb (by omega) ?_ N 0 ed' (by omega) (bg_c (fun a i => ?_) h1) h2 g b' l r (N + 1) (by omega)
    · intro ed2 k1 k2 g b' l r
      exact ih (s + 1) ed2 (by omega) k1 k2 g b' l r n (by omega)
    · constructor
      · exact fun z => ⟨Or.inl z.1, z.2⟩
      · rintro ⟨z, y⟩
        exact ⟨by omega, y⟩
theorem xb_base {v : Nat} (hv : 1 ≤ v) : nI v * 8 - 8 = nI (v * 8 - 8) := by
  rw [show nI v * 8 = nI (v * 8) from pk_mul v 8]
  exact pk_sub (b := 8) (by omega)
theorem bg_walk {post : SX → Prop} {v : Nat} {p0 : Int32} (e0 : p0 = nI v) (hO : O ≤ 5) (hO1 : 1 ≤ O) (hI : I ≤ 5) (hI1 : 1 ≤ I) (hC : C ≤ 32) (hN : N ≤ 8) (hrow : ∀ s, s < N → ld_row cd O I C s) (hv : 1 ≤ v) (hv2 : v ≤ 2)
    (hz : ∀ a, a < 8 → ed (v * 8 - 8 + a) = 0 ∧ ed (v * 8 - 8 + 16 + a) = 0)
    (H : ∀ ed' : Nat → Int32, bg_ok ed' (v * 8 - 8) (ld_G cd O I N v) → bg_out ed ed' (v * 8 - 8) → ∀ g b' l r : Int32, post ((nI O), (nI I), xm, (nI C), xp, (nI N), xq, xg, xr, g, b', l, r, cd, wd, rs, ed', gp, sq)) :
    wpX_buildGraph post ((nI O), (nI I), xm, (nI C), xp, (nI N), xq, xg, xr, sg, sb, sl, sr, cd, wd, rs, ed, gp, sq) p0 := by
  subst e0
  refine nm_r (xb_base hv) ⟨N + 1, bg_10 (ed := ed) hO hO1 hI hI1 hC hN hrow hv hv2 (by omega) H N 0 ed (by omega) ?_ (fun j _ => rfl) _ _ _ _ _ (by omega)⟩
  intro a i ha hi
  rw [(hz a ha).1, (hz a ha).2, b_0]
  exact ⟨⟨fun z => Bool.noConfusion z, fun z => absurd z.1 (Nat.not_lt_zero _)⟩, ⟨fun z => Bool.noConfusion z, fun z => absurd z.1 (Nat.not_lt_zero _)⟩⟩
/-- both searches from s -/
theorem rc_f {post : Int32 → Prop} {b s : Nat} {G : Nat → Nat → Prop} {p0 : Int32} (e0 : p0 = nI b) (hb : b ≤ 8) (hs : s < 8) (hE : bg_ok ed b G) (hG : ∀ a i, G a i → a < 8 ∧ i < 8)
    (hp : ∀ r : Int32, (∀ i, i < 32 → (bt r i = true ↔ (i = s ∨ gr_T G s i))) → post r) : wpX_reach post ((nI O), (nI I), xm, (nI C), xp, (nI N), xq, xg, xr, sg, sb, sl, sr, cd, wd, rs, ed, gp, sq) p0 (nI s) :=
  rc_walk e0 (by omega) hs (fun a i ha hi => (hE a i ha hi).1) hG hp
theorem rc_b {post : Int32 → Prop} {b s : Nat} {G : Nat → Nat → Prop} {p0 : Int32} (e0 : p0 = nI (b + 16)) (hb : b ≤ 8) (hs : s < 8) (hE : bg_ok ed b G) (hG : ∀ a i, G a i → a < 8 ∧ i < 8)
    (hp : ∀ r : Int32, (∀ i, i < 32 → (bt r i = true ↔ (i = s ∨ gr_T G i s))) → post r) : wpX_reach post ((nI O), (nI I), xm, (nI C), xp, (nI N), xq, xg, xr, sg, sb, sl, sr, cd, wd, rs, ed, gp, sq) p0 (nI s) := by
  refine rc_walk (H := fun x y => G y x) e0 (by omega) hs (fun a i ha hi => (hE a i ha hi).2) (fun a i h => ⟨(hG i a h).2, (hG i a h).1⟩) ?_
  intro r h
  refine hp r (fun i hi => ?_)
  rw [h i hi]
  constructor
  · rintro (z | z)
    · exact Or.inl z
    · exact Or.inr (gr_flip z)
  · rintro (z | z)
    · exact Or.inl z
    · exact Or.inr (gr_flip' z)
def fg_ok (gp : Nat → Int32) (b N : Nat) (G : Nat → Nat → Prop) : Prop := ∀ s i, s < N → i < 32 → (bt (gp (b + s)) i = true ↔ gr_S G s i)
theorem fg_10 {post : SX → Prop} {b : Nat} {G : Nat → Nat → Prop} (hN : N ≤ 8) (hb : b ≤ 8) (hE : bg_ok ed b G) (hG : ∀ a i, G a i → a < 8 ∧ i < 8)
    (H : ∀ gp' : Nat → Int32, fg_ok gp' b N G → (∀ j, (j < b ∨ b + 8 ≤ j) → gp' j = gp j) → post ((nI O), (nI I), xm, (nI C), xp, (nI N), xq, xg, xr, sg, sb, sl, sr, cd, wd, rs, ed, gp', sq)) :
    ∀ (d s : Nat) (gp' : Nat → Int32), s + d = N → fg_ok gp' b s G → (∀ j, (j < b ∨ b + 8 ≤ j) → gp' j = gp j) → ∀ n : Nat, d < n →
    wX_findGroups_10 post (nI b) (nI O) (nI I) xm (nI C) xp (nI N) xq xg xr sg sb sl sr n (nI s) cd wd rs ed gp' sq := by
  intro d
  induction d with
  | zero =>
    intro s gp' hd h1 h2 n hn
    obtain ⟨n, rfl⟩ : ∃ m, n = m + 1 := ⟨n - 1, by omega⟩
    have : s = N := by omega
    subst this
    exact br_t (nI_le (by omega) (by omega)) (H gp' h1 h2)
  | succ d ih =>
    intro s gp' hd h1 h2 n hn
    obtain ⟨n, rfl⟩ : ∃ m, n = m + 1 := ⟨n - 1, by omega⟩
    refine br_f (nI_ge (by omega) (by omega)) (rc_f rfl hb (by omega) hE hG (fun r1 k1 => rc_b (nI_add b 16) hb (by omega) hE hG (fun r2 k2 => ?_)))
    have e1 : nI b + nI s = nI (b + s) := nI_add b s
    rw [e1, nI_clamp (show b + s < 2 ^ 31 by omega)]
    refine ⟨vp_in_nI (by omega) (by decide), nm_e (nm_r (nI_1 s) (ih (s + 1) _ (by omega) ?_ ?_ n (by omega)))⟩
    · intro a i ha hi
      by_cases c : a = s
      · subst c
        rw [pk_us, b_and, Bool.and_eq_true, k1 i hi, k2 i hi]
        unfold gr_S
        constructor
        · rintro ⟨z | z, y | y⟩
          · exact Or.inl z.symm
          · exact Or.inl z.symm
          · exact Or.inl y.symm
          · exact Or.inr ⟨z, y⟩
        · rintro (z | ⟨z, y⟩)
          · exact ⟨Or.inl z.symm, Or.inl z.symm⟩
          · exact ⟨Or.inr z, Or.inr y⟩
      · rw [pk_un (by omega)]
        exact h1 a i (by omega) hi
    · intro j hj
      rw [pk_un (by omega)]
      exact h2 j hj
theorem fg_walk {post : SX → Prop} {v : Nat} {G : Nat → Nat → Prop} {p0 : Int32} (e0 : p0 = nI v) (hN : N ≤ 8) (hv : 1 ≤ v) (hv2 : v ≤ 2) (hE : bg_ok ed (v * 8 - 8) G) (hG : ∀ a i, G a i → a < 8 ∧ i < 8)
    (H : ∀ gp' : Nat → Int32, fg_ok gp' (v * 8 - 8) N G → (∀ j, (j < v * 8 - 8 ∨ v * 8 - 8 + 8 ≤ j) → gp' j = gp j) → post ((nI O), (nI I), xm, (nI C), xp, (nI N), xq, xg, xr, sg, sb, sl, sr, cd, wd, rs, ed, gp', sq)) : wpX_findGroups post ((nI O), (nI I), xm, (nI C), xp, (nI N), xq, xg, xr, sg, sb, sl, sr, cd, wd, rs, ed, gp, sq) p0 := by
  subst e0
  exact nm_r (xb_base hv) ⟨N + 1, fg_10 hN (by omega) hE hG H N 0 gp (by omega) (fun a i ha => absurd ha (Nat.not_lt_zero a)) (fun j _ => rfl) _ (by omega)⟩
theorem ng_loop {post : Int32 → Prop} {b t : Nat} {lf : Int32} {L : Nat → Prop} {G : Nat → Nat → Prop} (hN : N ≤ 8) (hb : b ≤ 8) (hE : bg_ok ed b G) (hG : ∀ a i, G a i → a < 8 ∧ i < 8) (hg : fg_ok gp b N G)
    (hL : ∀ i, i < 32 → (bt lf i = true ↔ L i)) (hLN : ∀ x, L x → x < N) (hF : gr_Fst G L t) (hp : post (gp (b + t))) :
    ∀ d s : Nat, s + d = t → ∀ n, d < n → wX_nextGroup_2 post (nI b) lf (nI O) (nI I) xm (nI C) xp (nI N) xq xg xr sg sb sl sr cd wd rs ed gp sq n (nI s) := by
  have ht : t < N := hLN t hF.1.1
  have cz : ∀ s, s < N → ∀ r : Int32, (∀ i, i < 32 → (bt r i = true ↔ (i = s ∨ gr_T G i s))) → (((r &&& lf) &&& (gp (b + s) ^^^ (-1))) = 0 ↔ ∀ x, L x → gr_T G x s → gr_S G s x) := by
    intro s hs r hr
    constructor
    · intro z x hx ht
      have hx8 : x < 32 := by have := hLN x hx; omega
      have e : bt ((r &&& lf) &&& (gp (b + s) ^^^ (-1))) x = false := by rw [z, b_0]
      rw [b_and, b_and, za_not _ hx8, (hr x hx8).mpr (Or.inr ht), (hL x hx8).mpr hx, Bool.true_and, Bool.true_and, Bool.not_eq_false'] at e
      exact (hg s x hs hx8).mp e
    · intro h
      apply za_z
      intro i hi
      rw [b_and, b_and, za_not _ hi]
      apply za_nt
      intro z
      rw [Bool.and_eq_true, Bool.and_eq_true, hr i hi, hL i hi, Bool.not_eq_true'] at z
      obtain ⟨⟨z1, z2⟩, z3⟩ := z
      have : bt (gp (b + s)) i = true := by
        rw [hg s i hs hi]
        rcases z1 with z1 | z1
        · exact Or.inl z1.symm
        · exact h i z2 z1
      rw [this] at z3; cases z3
  intro d
  induction d with
  | zero =>
    intro s hs n hn
    obtain ⟨n, rfl⟩ : ∃ m, n = m + 1 := ⟨n - 1, by omega⟩
    have : s = t := by omega
    subst this
    have e1 : nI b + nI s = nI (b + s) := nI_add b s
    refine br_f (nI_ge (by omega) (by omega)) ⟨by rw [e1]; exact vp_in_nI (by omega) (by decide), nm_r (e' := gp (b + s)) (by rw [e1, nI_clamp (by omega)]) (rc_b (nI_add b 16) hb (by omega) hE hG (fun r k => nm_e (za_bb (by omega) (fun z => ?_) (fun z => ?_))))⟩
    · rw [(hL s (by omega)).mpr hF.1.1] at z; cases z
    · exact br_t ((cz s ht r k).mpr hF.1.2) hp
  | succ d ih =>
    intro s hs n hn
    obtain ⟨n, rfl⟩ : ∃ m, n = m + 1 := ⟨n - 1, by omega⟩
    have e1 : nI b + nI s = nI (b + s) := nI_add b s
    have nx := ih (s + 1) (by omega) n (by omega)
    refine br_f (nI_ge (by omega) (by omega)) ⟨by rw [e1]; exact vp_in_nI (by omega) (by decide), nm_r (e' := gp (b + s)) (by rw [e1, nI_clamp (by omega)]) (rc_b (nI_add b 16) hb (by omega) hE hG (fun r k => nm_e (za_bb (by omega) (fun z => nm_r (nI_1 s) nx) (fun z => br_f (fun y => ?_) (nm_r (nI_1 s) nx)))))⟩
    exact hF.2 s (by omega) ⟨(hL s (by omega)).mp z, (cz s (by omega) r k).mp y⟩
theorem ng_walk {post : Int32 → Prop} {b t : Nat} {lf : Int32} {L : Nat → Prop} {G : Nat → Nat → Prop} (hN : N ≤ 8) (hb : b ≤ 8) (hE : bg_ok ed b G) (hG : ∀ a i, G a i → a < 8 ∧ i < 8) (hg : fg_ok gp b N G)
    (hL : ∀ i, i < 32 → (bt lf i = true ↔ L i)) (hLN : ∀ x, L x → x < N) (hF : gr_Fst G L t) (hp : post (gp (b + t))) : wpX_nextGroup post ((nI O), (nI I), xm, (nI C), xp, (nI N), xq, xg, xr, sg, sb, sl, sr, cd, wd, rs, ed, gp, sq) (nI b) lf :=
  ⟨t + 1, ng_loop hN hb hE hG hg hL hLN hF hp t 0 (by omega) _ (by omega)⟩
def og_ok (sq : Nat → Int32) (b N : Nat) (pc : Nat → Nat) (K : Nat) : Prop := ∀ p i, p < K → i < 32 → (bt (sq (b + p)) i = true ↔ (i < N ∧ pc i = p))
theorem og_23 {post : Int32 → SX → Prop} {b : Nat} {G : Nat → Nat → Prop} (hN : N ≤ 8) (hb : b ≤ 8) (hE : bg_ok ed b G) (hG : ∀ a i, G a i → a < 8 ∧ i < 8) (hGN : ∀ a i, G a i → a < N ∧ i < N) (hg : fg_ok gp b N G)
    (H : ∀ (pc : Nat → Nat) (K : Nat) (sq' : Nat → Int32), gr_Can G N pc K → og_ok sq' b N pc K → (∀ j, (j < b ∨ b + 8 ≤ j) → sq' j = sq j) → post (nI K) ((nI O), (nI I), xm, (nI C), xp, (nI N), xq, xg, xr, sg, sb, sl, sr, cd, wd, rs, ed, gp, sq')) :
    ∀ (d r : Nat) (lf : Int32) (pc : Nat → Nat) (sq' : Nat → Int32), r + d = N → gr_Par G N pc r → (∀ i, i < 32 → (bt lf i = true ↔ gr_L N pc r i)) → og_ok sq' b N pc r → (∀ j, (j < b ∨ b + 8 ≤ j) → sq' j = sq j) → ∀ n, d < n →
    wX_orderGroups_23 post (nI b) (nI O) (nI I) xm (nI C) xp (nI N) xq xg xr sg sb sl sr n lf (nI r) cd wd rs ed gp sq' := by
  intro d
  induction d with
  | zero =>
    intro r lf pc sq' hd h1 h2 h3 h4 n hn
    obtain ⟨n, rfl⟩ : ∃ m, n = m + 1 := ⟨n - 1, by omega⟩
    refine br_t (nI_le (by omega) (by omega)) (H pc r sq' (gr_fin h1 (fun x hx z => ?_)) h3 h4)
    have := gr_par_lt h1 hx z
    omega
  | succ d ih =>
    intro r lf pc sq' hd h1 h2 h3 h4 n hn
    obtain ⟨n, rfl⟩ : ∃ m, n = m + 1 := ⟨n - 1, by omega⟩
    refine br_f (nI_ge (by omega) (by omega)) (br_c (fun hz => H pc r sq' (gr_fin h1 (fun x hx z => ?_)) h3 h4) (fun hz => ?_))
    · have := (h2 x (by omega)).mpr ⟨hx, z⟩
      rw [hz, b_0] at this; cases this
    · obtain ⟨i, hi, hbi⟩ := za_nz hz
      obtain ⟨t, ht⟩ := gr_fst_ex (G := G) (N := N) (L := gr_L N pc r) (fun x z => z.1) ((h2 i hi).mp hbi)
      have htN : t < N := ht.1.1.1
      have htr : r ≤ pc t := ht.1.1.2
      refine ng_walk hN hb hE hG hg h2 (fun x z => z.1) ht ?_
      have e1 : nI b + nI r = nI (b + r) := nI_add b r
      rw [e1, nI_clamp (show b + r < 2 ^ 31 by omega)]
      refine ⟨vp_in_nI (by omega) (by decide), nm_e ⟨vp_in_nI (by omega) (by decide), nm_r (e' := lf &&& (gp (b + t) ^^^ (-1))) (by rw [pk_us]) (nm_r (nI_1 r) (ih (r + 1) _ (gr_nx G pc r t) _ (by omega) (gr_step h1 htN ht) ?_ ?_ ?_ n (by omega)))⟩⟩
      · intro x hx
        rw [b_and, za_not _ hx, Bool.and_eq_true, h2 x hx, Bool.not_eq_true']
        unfold gr_L
        constructor
        · rintro ⟨⟨z1, z2⟩, z3⟩
          refine ⟨z1, (gr_nx_lt h1 htN z1).mpr ⟨z2, fun y => ?_⟩⟩
          rw [(hg t x htN hx).mpr y] at z3; cases z3
        · rintro ⟨z1, z2⟩
          have z3 := (gr_nx_lt h1 htN z1).mp z2
          exact ⟨⟨z1, z3.1⟩, za_nt (fun y => z3.2 ((hg t x htN hx).mp y))⟩
      · intro p i hp hi
        rcases Nat.lt_or_ge p r with c | c
        · rw [pk_un (by omega), h3 p i c hi, gr_nx_eq c]
        · have : p = r := by omega
          subst this
          rw [pk_us, hg t i htN hi]
          constructor
          · intro z
            have := gr_Sb hGN z htN
            exact ⟨this, (gr_nx_r h1 htN this htr).mpr z⟩
          · rintro ⟨z1, z2⟩
            exact (gr_nx_r h1 htN z1 htr).mp z2
      · intro j hj
        rw [pk_un (by omega)]
        exact h4 j hj
theorem og_walk {post : Int32 → SX → Prop} {v : Nat} {G : Nat → Nat → Prop} {p0 : Int32} (e0 : p0 = nI v) (hN : N ≤ 8) (hv : 1 ≤ v) (hv2 : v ≤ 2) (hE : bg_ok ed (v * 8 - 8) G) (hG : ∀ a i, G a i → a < 8 ∧ i < 8) (hGN : ∀ a i, G a i → a < N ∧ i < N) (hg : fg_ok gp (v * 8 - 8) N G)
    (H : ∀ (pc : Nat → Nat) (K : Nat) (sq' : Nat → Int32), gr_Can G N pc K → og_ok sq' (v * 8 - 8) N pc K → (∀ j, (j < v * 8 - 8 ∨ v * 8 - 8 + 8 ≤ j) → sq' j = sq j) → post (nI K) ((nI O), (nI I), xm, (nI C), xp, (nI N), xq, xg, xr, sg, sb, sl, sr, cd, wd, rs, ed, gp, sq')) : wpX_orderGroups post ((nI O), (nI I), xm, (nI C), xp, (nI N), xq, xg, xr, sg, sb, sl, sr, cd, wd, rs, ed, gp, sq) p0 := by
  subst e0
  refine nm_r (xb_base hv) (nm_e ⟨N + 1, og_23 hN (by omega) hE hG hGN hg H N 0 _ (fun _ => 0) sq (by omega) (gr_par0 G N) ?_ (fun p i hp => absurd hp (Nat.not_lt_zero p)) (fun j _ => rfl) _ (by omega)⟩)
  intro i hi
  rw [za_msk N (by omega) i hi, decide_eq_true_eq]
  exact ⟨fun z => ⟨z, Nat.zero_le _⟩, fun z => z.1⟩
end
end
section
/-- the row at b with its first k parts emptied -/
def ld_dr (cd : Nat → Int32) (b k : Nat) : Nat → Int32 := fun p => if b ≤ p ∧ p < b + k then (if p = b ∨ p = b + 4 ∨ p = b + 8 then -2 else 0) else cd p
theorem ld_dr0 (cd : Nat → Int32) (b : Nat) : ld_dr cd b 0 = cd := by
  funext p; unfold ld_dr; rw [if_neg (by omega)]
theorem ld_dr_m {cd : Nat → Int32} {b k : Nat} (h : k = 0 ∨ k = 4 ∨ k = 8) : upd (ld_dr cd b k) (b + k) (-2) = ld_dr cd b (k + 1) := by
  funext p
  unfold upd
  by_cases c : p = b + k
  · rw [if_pos c]; unfold ld_dr; rw [if_pos (by omega), if_pos (by omega)]
  · rw [if_neg c]; unfold ld_dr
    by_cases d : b ≤ p ∧ p < b + k
    · rw [if_pos d, if_pos (show b ≤ p ∧ p < b + (k + 1) by omega)]
    · rw [if_neg d, if_neg (by omega)]
theorem ld_dr_z {cd : Nat → Int32} {b k : Nat} (h : ¬ (k = 0 ∨ k = 4 ∨ k = 8)) : upd (ld_dr cd b k) (b + k) 0 = ld_dr cd b (k + 1) := by
  funext p
  unfold upd
  by_cases c : p = b + k
  · rw [if_pos c]; unfold ld_dr; rw [if_pos (by omega), if_neg (by omega)]
  · rw [if_neg c]; unfold ld_dr
    by_cases d : b ≤ p ∧ p < b + k
    · rw [if_pos d, if_pos (show b ≤ p ∧ p < b + (k + 1) by omega)]
    · rw [if_neg d, if_neg (by omega)]
theorem ld_dr_lo {cd : Nat → Int32} {b k p : Nat} (h : p < b) : ld_dr cd b k p = cd p := by unfold ld_dr; rw [if_neg (by omega)]
theorem ld_dr_0 (cd : Nat → Int32) (b : Nat) : ld_dr cd b 13 b = -2 := by unfold ld_dr; rw [if_pos (by omega), if_pos (by omega)]
theorem ld_dr_4 (cd : Nat → Int32) (b : Nat) : ld_dr cd b 13 (b + 4) = -2 := by unfold ld_dr; rw [if_pos (by omega), if_pos (by omega)]
theorem ld_dr_8 (cd : Nat → Int32) (b : Nat) : ld_dr cd b 13 (b + 8) = -2 := by unfold ld_dr; rw [if_pos (by omega), if_pos (by omega)]
def ld_pt (cd : Nat → Int32) (b : Nat) (p0 p1 p2 p3 : Int32) : Nat → Int32 := upd (upd (upd (upd cd b p0) (b + 1) p1) (b + 2) p2) (b + 3) p3
theorem ld_pt_o {cd : Nat → Int32} {b j : Nat} {p0 p1 p2 p3 : Int32} (h : j < b ∨ b + 4 ≤ j) : ld_pt cd b p0 p1 p2 p3 j = cd j := by
  unfold ld_pt; rw [pk_un (by omega), pk_un (by omega), pk_un (by omega), pk_un (by omega)]
theorem ld_pt_0 {cd : Nat → Int32} {b : Nat} {p0 p1 p2 p3 : Int32} : ld_pt cd b p0 p1 p2 p3 b = p0 := by
  unfold ld_pt; rw [pk_un (by omega), pk_un (by omega), pk_un (by omega), pk_us]
theorem ld_pt_1 {cd : Nat → Int32} {b : Nat} {p0 p1 p2 p3 : Int32} : ld_pt cd b p0 p1 p2 p3 (b + 1) = p1 := by
  unfold ld_pt; rw [pk_un (by omega), pk_un (by omega), pk_us]
theorem ld_pt_2 {cd : Nat → Int32} {b : Nat} {p0 p1 p2 p3 : Int32} : ld_pt cd b p0 p1 p2 p3 (b + 2) = p2 := by
  unfold ld_pt; rw [pk_un (by omega), pk_us]
theorem ld_pt_3 {cd : Nat → Int32} {b : Nat} {p0 p1 p2 p3 : Int32} : ld_pt cd b p0 p1 p2 p3 (b + 3) = p3 := by
  unfold ld_pt; rw [pk_us]
def ac_R (C : Nat) (p0 p1 p2 p3 : Int32) : Prop := (0 ≤ p0.toInt ∧ p0.toInt ≤ 3) ∧ (-31 ≤ p1.toInt ∧ p1.toInt ≤ 31) ∧ (-31 ≤ p2.toInt ∧ p2.toInt ≤ 31) ∧ (0 ≤ p3.toInt ∧ p3.toInt < C)
def ac_In (O I C : Nat) (A B D : Int) : Prop := ∀ i j : Nat, i < O → j < I → 0 ≤ A * i + B * j + D ∧ A * i + B * j + D < C
theorem ac_lin {P o i : Int} (h0 : 0 ≤ i) (h1 : i ≤ o) : (0 ≤ P → 0 ≤ P * i ∧ P * i ≤ P * o) ∧ (P ≤ 0 → P * o ≤ P * i ∧ P * i ≤ 0) := by
  constructor
  · intro h
    exact ⟨Int.mul_nonneg h h0, Int.mul_le_mul_of_nonneg_left h1 h⟩
  · intro h
    exact ⟨Int.mul_le_mul_of_nonpos_left h h1, Int.mul_nonpos_of_nonpos_of_nonneg h h0⟩
def ac_mn (x : Int) : Int := if 0 ≤ x then 0 else x
def ac_mx (x : Int) : Int := if x ≤ 0 then 0 else x
theorem ac_key (o n C : Nat) (A B D : Int) : ac_In (o + 1) (n + 1) C A B D ↔ (0 ≤ D + ac_mn (A * o) + ac_mn (B * n) ∧ D + ac_mx (A * o) + ac_mx (B * n) < C) := by
  unfold ac_mn ac_mx
  constructor
  · intro h
    have a := h 0 0 (by omega) (by omega)
    have b := h o 0 (by omega) (by omega)
    have c := h 0 n (by omega) (by omega)
    have d := h o n (by omega) (by omega)
    generalize A * (o : Int) = X at *
    generalize B * (n : Int) = Y at *
    have z1 : A * ((0 : Nat) : Int) = 0 := by simp
    have z2 : B * ((0 : Nat) : Int) = 0 := by simp
    rw [z1] at a c
    rw [z2] at a b
    repeat' split
    all_goals omega
  · rintro ⟨h1, h2⟩ i j hi hj
    have a := ac_lin (P := A) (o := (o : Int)) (i := (i : Int)) (by omega) (by omega)
    have b := ac_lin (P := B) (o := (n : Int)) (i := (j : Int)) (by omega) (by omega)
    generalize A * (o : Int) = X at *
    generalize B * (n : Int) = Y at *
    generalize A * (i : Int) = U at *
    generalize B * (j : Int) = V at *
    split at h1 <;> split at h1 <;> split at h2 <;> split at h2 <;> omega
theorem ac_mk {cd : Nat → Int32} {O I C b : Nat} {p0 p1 p2 p3 : Int32} (hC : C ≤ 32) (h : ac_R C p0 p1 p2 p3) (h2 : ac_In O I C p1.toInt p2.toInt p3.toInt) : ld_ac (ld_pt cd b p0 p1 p2 p3) O I C b := by
  obtain ⟨⟨a1, a2⟩, ⟨a3, a4⟩, ⟨a5, a6⟩, a7, a8⟩ := h
  refine ⟨p0.toInt.toNat, by omega, ?_, ?_⟩
  · rw [ld_pt_0]; exact za_cm (by omega)
  · rw [ld_pt_1, ld_pt_2, ld_pt_3]
    exact ⟨a3, a4, a5, a6, a7, by omega, h2⟩
section
variable {O I C N : Nat} {xm xp xq xg xr sg sb sl sr : Int32} {cd wd rs ed gp sq : Nat → Int32}
theorem dx_loop {post : SX → Prop} (hN : N ≤ 8) (H : post ((nI O), (nI I), xm, (nI C), xp, (nI N), xq, xg, xr, sg, sb, sl, sr, ld_dr cd (N * 13) 13, wd, rs, ed, gp, sq)) :
    ∀ d k : Nat, k + d = 13 → ∀ n, d < n → wX_clearDraft_2 post (nI O) (nI I) xm (nI C) xp (nI N) xq xg xr sg sb sl sr n (nI k) (ld_dr cd (N * 13) k) wd rs ed gp sq := by
  intro d
  induction d with
  | zero =>
    intro k hd n hn
    obtain ⟨n, rfl⟩ : ∃ m, n = m + 1 := ⟨n - 1, by omega⟩
    have : k = 13 := by omega
    subst this
    exact br_t (nI_le (a := 13) (by omega) (by omega)) H
  | succ d ih =>
    intro k hd n hn
    obtain ⟨n, rfl⟩ : ∃ m, n = m + 1 := ⟨n - 1, by omega⟩
    have e1 : nI N * 13 + nI k = nI (N * 13 + k) := by rw [show nI N * 13 = nI (N * 13) from pk_mul N 13, nI_add]
    have e2 : nI k - nI k / 4 * 4 = nI (k % 4) := pk_rem (d := 4) (by omega) (by decide) (by decide)
    have nx := ih (k + 1) (by omega) n (by omega)
    refine br_f (nI_ge (b := 13) (by omega) (by decide)) ⟨by decide, ?_⟩
    rw [e1, e2, nI_clamp (show N * 13 + k < 2 ^ 31 by omega)]
    have hv : vp_in (nI (N * 13 + k)) 117 := vp_in_nI (by omega) (by decide)
    refine pk_eq (k % 4) 0 (fun h4 => pk_le 12 k (fun h12 => ⟨hv, nm_r (ld_dr_z (by omega)) (nm_r (nI_1 k) nx)⟩) (fun h12 => ⟨hv, nm_r (ld_dr_m (by omega)) (nm_r (nI_1 k) nx)⟩)) (fun h4 => ⟨hv, nm_r (ld_dr_z (by omega)) (nm_r (nI_1 k) nx)⟩)
theorem dx_walk {post : SX → Prop} (hN : N ≤ 8) (H : post ((nI O), (nI I), xm, (nI C), xp, (nI N), xq, xg, xr, sg, sb, sl, sr, ld_dr cd (N * 13) 13, wd, rs, ed, gp, sq)) : wpX_clearDraft post ((nI O), (nI I), xm, (nI C), xp, (nI N), xq, xg, xr, sg, sb, sl, sr, cd, wd, rs, ed, gp, sq) := by
  have h := dx_loop (post := post) hN H 13 0 (by omega) 14 (by omega)
  rw [ld_dr0] at h
  exact ⟨14, h⟩
theorem xp_walk {post : SX → Prop} {b : Nat} {p p0 p1 p2 p3 : Int32} (e : p = nI b) (hb : b + 3 < 117) (H : post ((nI O), (nI I), xm, (nI C), xp, (nI N), xq, xg, xr, sg, sb, sl, sr, ld_pt cd b p0 p1 p2 p3, wd, rs, ed, gp, sq)) : wpX_put post ((nI O), (nI I), xm, (nI C), xp, (nI N), xq, xg, xr, sg, sb, sl, sr, cd, wd, rs, ed, gp, sq) p p0 p1 p2 p3 := by
  subst e
  refine ⟨vp_in_nI (by omega) (by decide), nm_r (e' := upd cd b p0) (by rw [nI_clamp (by omega)]) ⟨za_ai 1 (by omega), nm_r (e' := upd (upd cd b p0) (b + 1) p1) (by rw [za_ac 1 (by omega)]) ⟨za_ai 2 (by omega), nm_r (e' := upd (upd (upd cd b p0) (b + 1) p1) (b + 2) p2) (by rw [za_ac 2 (by omega)]) ⟨za_ai 3 (by omega), nm_r (e' := ld_pt cd b p0 p1 p2 p3) (by rw [za_ac 3 (by omega)]; rfl) H⟩⟩⟩⟩
theorem xi_walk {post : Int32 → Prop} {p0 p1 : Int32} (hC : C ≤ 32) (h1 : 0 ≤ p0.toInt ∧ p0.toInt ≤ 3 → 0 ≤ p1.toInt ∧ p1.toInt < C → post 1) (h0 : ¬ ((0 ≤ p0.toInt ∧ p0.toInt ≤ 3) ∧ 0 ≤ p1.toInt ∧ p1.toInt < C) → post 0) : wpX_isCell post ((nI O), (nI I), xm, (nI C), xp, (nI N), xq, xg, xr, sg, sb, sl, sr, cd, wd, rs, ed, gp, sq) p0 p1 := by
  have e3 : (3 : Int32).toInt = 3 := by decide
  have eC : (nI C).toInt = C := nI_toInt (by omega)
  refine za_lt (fun a => h0 ?_) (fun a => za_lt (fun b => h0 ?_) (fun b => za_lt (fun c => h0 ?_) (fun c => za_le (fun d => h0 ?_) (fun d => h1 ?_ ?_))))
  · rw [za_0] at a; omega
  · rw [e3] at b; omega
  · rw [za_0] at c; omega
  · rw [eC] at d; omega
  · rw [za_0] at a; rw [e3] at b; omega
  · rw [za_0] at c; rw [eC] at d; omega
theorem xa_113 {post : Int32 → Prop} {x7 z0 z1 : Int32} {mn mx : Int} {P : Prop} (hC : C ≤ 32) (e7 : x7.toInt = mn) (e8 : (z1 + z0).toInt = mx) (key : P ↔ (0 ≤ mn ∧ mx < C)) (h0 : P → post 0) (h4 : ¬ P → post (-4)) : wX_accessRefusal_113 post x7 z0 z1 (nI O) (nI I) xm (nI C) xp (nI N) xq xg xr sg sb sl sr cd wd rs ed gp sq := by
  have eC : (nI C).toInt = C := nI_toInt (by omega)
  refine nm_e (za_lt (fun a => h4 (fun z => ?_)) (fun a => za_lt (fun b => h0 (key.mpr ?_)) (fun b => h4 (fun z => ?_))))
  · have := key.mp z; rw [za_0] at a; omega
  · rw [za_0] at a; rw [eC] at b; omega
  · have := key.mp z; rw [eC] at b; omega
theorem xa_walk {post : Int32 → Prop} {p0 p1 p2 p3 : Int32} (hO : O ≤ 5) (hO1 : 1 ≤ O) (hI : I ≤ 5) (hI1 : 1 ≤ I) (hC : C ≤ 32)
    (h3 : ¬ ac_R C p0 p1 p2 p3 → post (-3)) (h4 : ac_R C p0 p1 p2 p3 → ¬ ac_In O I C p1.toInt p2.toInt p3.toInt → post (-4)) (h0 : ac_R C p0 p1 p2 p3 → ac_In O I C p1.toInt p2.toInt p3.toInt → post 0) :
    wpX_accessRefusal post ((nI O), (nI I), xm, (nI C), xp, (nI N), xq, xg, xr, sg, sb, sl, sr, cd, wd, rs, ed, gp, sq) p0 p1 p2 p3 := by
  have em : (-31 : Int32).toInt = -31 := by decide
  have ep : (31 : Int32).toInt = 31 := by decide
  unfold wpX_accessRefusal
  dsimp only
  refine xi_walk hC (fun a b => br_f (by decide) ?_) (fun a => br_t rfl (h3 (fun z => a ⟨z.1, z.2.2.2⟩)))
  refine za_lt (fun c => h3 (fun z => ?_)) (fun c => za_lt (fun d => h3 (fun z => ?_)) (fun d => za_lt (fun e => h3 (fun z => ?_)) (fun e => za_le (fun f => ?_) (fun f => h3 (fun z => ?_)))))
  · have := z.2.1; rw [em] at c; omega
  · have := z.2.1; rw [ep] at d; omega
  · have := z.2.2.1; rw [em] at e; omega
  · rw [em] at c e; rw [ep] at d f
    have hR : ac_R C p0 p1 p2 p3 := ⟨a, ⟨by omega, by omega⟩, ⟨by omega, by omega⟩, b⟩
    obtain ⟨o, rfl⟩ : ∃ o, O = o + 1 := ⟨O - 1, by omega⟩
    obtain ⟨n, rfl⟩ : ∃ n, I = n + 1 := ⟨I - 1, by omega⟩
    have key := ac_key o n C p1.toInt p2.toInt p3.toInt
    have eo : (nI (o + 1) - 1).toInt = o := by rw [nI_pred, nI_toInt (by omega)]
    have en : (nI (n + 1) - 1).toInt = n := by rw [nI_pred, nI_toInt (by omega)]
    have e5 : (p1 * (nI (o + 1) - 1)).toInt = p1.toInt * o := by rw [za_mulB (m := 31) (n := 5) (by omega) (by omega) (by omega) (by omega) (by decide), eo]
    have e6 : (p2 * (nI (n + 1) - 1)).toInt = p2.toInt * n := by rw [za_mulB (m := 31) (n := 5) (by omega) (by omega) (by omega) (by omega) (by decide), en]
    have b5 := za_pb (a := p1.toInt) (b := (o : Int)) (m := 31) (n := 5) (by omega) (by omega) (by omega) (by omega)
    have b6 := za_pb (a := p2.toInt) (b := (n : Int)) (m := 31) (n := 5) (by omega) (by omega) (by omega) (by omega)
    refine nm_e (nm_e ?_)
    generalize p1 * (nI (o + 1) - 1) = x5 at *
    generalize p2 * (nI (n + 1) - 1) = x6 at *
    rw [← e5] at b5 key
    rw [← e6] at b6 key
    have st : ∀ z5 z6 y5 y6 : Int32, z5.toInt = ac_mn x5.toInt → z6.toInt = ac_mn x6.toInt → y5.toInt = ac_mx x5.toInt → y6.toInt = ac_mx x6.toInt → wX_accessRefusal_113 post (p3 + z5 + z6) y6 (p3 + y5) (nI (o + 1)) (nI (n + 1)) xm (nI C) xp (nI N) xq xg xr sg sb sl sr cd wd rs ed gp sq := by
      intro z5 z6 y5 y6 k1 k2 k3 k4
      have g1 : z5.toInt.natAbs ≤ 155 := by rw [k1]; unfold ac_mn; split <;> omega
      have g2 : z6.toInt.natAbs ≤ 155 := by rw [k2]; unfold ac_mn; split <;> omega
      have g3 : y5.toInt.natAbs ≤ 155 := by rw [k3]; unfold ac_mx; split <;> omega
      have g4 : y6.toInt.natAbs ≤ 155 := by rw [k4]; unfold ac_mx; split <;> omega
      have q1 : (p3 + z5).toInt = p3.toInt + z5.toInt := za_add (by omega) (by omega)
      have q2 : (p3 + z5 + z6).toInt = p3.toInt + z5.toInt + z6.toInt := by rw [za_add (by rw [q1]; omega) (by rw [q1]; omega), q1]
      have q3 : (p3 + y5).toInt = p3.toInt + y5.toInt := za_add (by omega) (by omega)
      have q4 : (p3 + y5 + y6).toInt = p3.toInt + y5.toInt + y6.toInt := by rw [za_add (by rw [q3]; omega) (by rw [q3]; omega), q3]
      rw [← k1, ← k2, ← k3, ← k4] at key
      exact xa_113 hC q2 q4 key (h0 hR) (h4 hR)
    have mn1 : ∀ {x : Int32}, (0 : Int32).toInt ≤ x.toInt → (0 : Int32).toInt = ac_mn x.toInt := by
      intro x h; unfold ac_mn; rw [za_0] at h; rw [za_0, if_pos h]
    have mn2 : ∀ {x : Int32}, x.toInt < (0 : Int32).toInt → x.toInt = ac_mn x.toInt := by
      intro x h; unfold ac_mn; rw [za_0] at h; rw [if_neg (by omega)]
    have mx1 : ∀ {x : Int32}, x.toInt ≤ (0 : Int32).toInt → (0 : Int32).toInt = ac_mx x.toInt := by
      intro x h; unfold ac_mx; rw [za_0] at h; rw [za_0, if_pos h]
    have mx2 : ∀ {x : Int32}, (0 : Int32).toInt < x.toInt → x.toInt = ac_mx x.toInt := by
      intro x h; unfold ac_mx; rw [za_0] at h; rw [if_neg (by omega)]
    have s101 : ∀ z5 z6 y5 : Int32, z5.toInt = ac_mn x5.toInt → z6.toInt = ac_mn x6.toInt → y5.toInt = ac_mx x5.toInt → wX_accessRefusal_101 post x6 (p3 + z5 + z6) y5 p3 (nI (o + 1)) (nI (n + 1)) xm (nI C) xp (nI N) xq xg xr sg sb sl sr cd wd rs ed gp sq := by
      intro z5 z6 y5 k1 k2 k3
      exact za_le (fun h => st z5 z6 y5 0 k1 k2 k3 (mx1 h)) (fun h => st z5 z6 y5 x6 k1 k2 k3 (mx2 h))
    have s85 : ∀ z5 z6 : Int32, z5.toInt = ac_mn x5.toInt → z6.toInt = ac_mn x6.toInt → wX_accessRefusal_85 post p3 x5 x6 z6 (p3 + z5) (nI (o + 1)) (nI (n + 1)) xm (nI C) xp (nI N) xq xg xr sg sb sl sr cd wd rs ed gp sq := by
      intro z5 z6 k1 k2
      exact nm_e (za_le (fun h => s101 z5 z6 0 k1 k2 (mx1 h)) (fun h => s101 z5 z6 x5 k1 k2 (mx2 h)))
    have s73 : ∀ z5 : Int32, z5.toInt = ac_mn x5.toInt → wX_accessRefusal_73 post p3 x5 x6 z5 p3 (nI (o + 1)) (nI (n + 1)) xm (nI C) xp (nI N) xq xg xr sg sb sl sr cd wd rs ed gp sq := by
      intro z5 k1
      exact za_le (fun h => s85 z5 0 k1 (mn1 h)) (fun h => s85 z5 x6 k1 (mn2 h))
    exact za_le (fun h => s73 0 (mn1 h)) (fun h => s73 x5 (mn2 h))
  · have := z.2.2.1; rw [ep] at f; omega
end
section
variable {O I C N : Nat} {xm xp xq xr : Int32} {cd wd ye yp yc : Nat → Int32}
theorem dy_loop {post : SY → Prop} (hN : N ≤ 8) (H : post ((nI O), (nI I), xm, (nI C), xp, (nI N), xq, xr, ld_dr cd (N * 13) 13, wd, ye, yp, yc)) :
    ∀ d k : Nat, k + d = 13 → ∀ n, d < n → wY_emptyDraft_2 post (nI O) (nI I) xm (nI C) xp (nI N) xq xr n (nI k) (ld_dr cd (N * 13) k) wd ye yp yc := by
  intro d
  induction d with
  | zero =>
    intro k hd n hn
    obtain ⟨n, rfl⟩ : ∃ m, n = m + 1 := ⟨n - 1, by omega⟩
    have : k = 13 := by omega
    subst this
    exact br_t (nI_le (a := 13) (by omega) (by omega)) H
  | succ d ih =>
    intro k hd n hn
    obtain ⟨n, rfl⟩ : ∃ m, n = m + 1 := ⟨n - 1, by omega⟩
    have e1 : nI N * 13 + nI k = nI (N * 13 + k) := by rw [show nI N * 13 = nI (N * 13) from pk_mul N 13, nI_add]
    have nx := ih (k + 1) (by omega) n (by omega)
    refine br_f (nI_ge (b := 13) (by omega) (by decide)) ?_
    rw [e1, nI_clamp (show N * 13 + k < 2 ^ 31 by omega)]
    have hv : vp_in (nI (N * 13 + k)) 117 := vp_in_nI (by omega) (by decide)
    exact pk_eq k 0 (fun h => ⟨hv, nm_r (ld_dr_m (by omega)) (nm_r (nI_1 k) nx)⟩) (fun h => pk_eq k 4 (fun h => ⟨hv, nm_r (ld_dr_m (by omega)) (nm_r (nI_1 k) nx)⟩) (fun h => pk_eq k 8 (fun h => ⟨hv, nm_r (ld_dr_m (by omega)) (nm_r (nI_1 k) nx)⟩) (fun h => ⟨hv, nm_r (ld_dr_z (by omega)) (nm_r (nI_1 k) nx)⟩)))
theorem dy_walk {post : SY → Prop} (hN : N ≤ 8) (H : post ((nI O), (nI I), xm, (nI C), xp, (nI N), xq, xr, ld_dr cd (N * 13) 13, wd, ye, yp, yc)) : wpY_emptyDraft post ((nI O), (nI I), xm, (nI C), xp, (nI N), xq, xr, cd, wd, ye, yp, yc) := by
  have h := dy_loop (post := post) hN H 13 0 (by omega) 14 (by omega)
  rw [ld_dr0] at h
  exact ⟨14, h⟩
theorem yg_walk {post : SY → Prop} {a b : Nat} {pl p0 p1 p2 p3 : Int32} (e : pl = nI a) (hb : b = N * 13 + a * 4) (hb2 : b + 3 < 117) (H : post ((nI O), (nI I), xm, (nI C), xp, (nI N), xq, xr, ld_pt cd b p0 p1 p2 p3, wd, ye, yp, yc)) : wpY_give post ((nI O), (nI I), xm, (nI C), xp, (nI N), xq, xr, cd, wd, ye, yp, yc) pl p0 p1 p2 p3 := by
  refine nm_r (ys_pl e hb) ⟨vp_in_nI (by omega) (by decide), nm_r (e' := upd cd b p0) (by rw [nI_clamp (by omega)]) ⟨za_ai 1 (by omega), nm_r (e' := upd (upd cd b p0) (b + 1) p1) (by rw [za_ac 1 (by omega)]) ⟨za_ai 2 (by omega), nm_r (e' := upd (upd (upd cd b p0) (b + 1) p1) (b + 2) p2) (by rw [za_ac 2 (by omega)]) ⟨za_ai 3 (by omega), nm_r (e' := ld_pt cd b p0 p1 p2 p3) (by rw [za_ac 3 (by omega)]; rfl) H⟩⟩⟩⟩
theorem ya_sub {p1 p2 p3 : Int32} {i j : Nat} (h1 : -31 ≤ p1.toInt ∧ p1.toInt ≤ 31) (h2 : -31 ≤ p2.toInt ∧ p2.toInt ≤ 31) (h3 : 0 ≤ p3.toInt ∧ p3.toInt < 32) (hi : i < 5) (hj : j < 5) :
    (p1 * nI i + p2 * nI j + p3).toInt = p1.toInt * i + p2.toInt * j + p3.toInt := by
  have ei : (nI i).toInt = i := nI_toInt (by omega)
  have ej : (nI j).toInt = j := nI_toInt (by omega)
  have a1 : (p1 * nI i).toInt = p1.toInt * i := by rw [za_mulB (m := 31) (n := 5) (by omega) (by omega) (by omega) (by omega) (by decide), ei]
  have a2 : (p2 * nI j).toInt = p2.toInt * j := by rw [za_mulB (m := 31) (n := 5) (by omega) (by omega) (by omega) (by omega) (by decide), ej]
  have b1 := za_pb (a := p1.toInt) (b := (i : Int)) (m := 31) (n := 5) (by omega) (by omega) (by omega) (by omega)
  have b2 := za_pb (a := p2.toInt) (b := (j : Int)) (m := 31) (n := 5) (by omega) (by omega) (by omega) (by omega)
  have a3 : (p1 * nI i + p2 * nI j).toInt = p1.toInt * i + p2.toInt * j := by rw [za_add (by rw [a1, a2]; omega) (by rw [a1, a2]; omega), a1, a2]
  rw [za_add (by rw [a3]; omega) (by rw [a3]; omega), a3]
theorem ya_65 {post J : Int32 → Prop} {p1 p2 p3 : Int32} {i : Nat} (hI : I ≤ 5) (hC : C ≤ 32) (h1 : -31 ≤ p1.toInt ∧ p1.toInt ≤ 31) (h2 : -31 ≤ p2.toInt ∧ p2.toInt ≤ 31) (h3 : 0 ≤ p3.toInt ∧ p3.toInt < C) (hi : i < 5)
    (H4 : (∃ j : Nat, j < I ∧ ¬ (0 ≤ p1.toInt * i + p2.toInt * j + p3.toInt ∧ p1.toInt * i + p2.toInt * j + p3.toInt < C)) → post (-4))
    (H0 : (∀ j : Nat, j < I → 0 ≤ p1.toInt * i + p2.toInt * j + p3.toInt ∧ p1.toInt * i + p2.toInt * j + p3.toInt < C) → J (nI (i + 1))) :
    ∀ d j : Nat, j + d = I → (∀ j' : Nat, j' < j → 0 ≤ p1.toInt * i + p2.toInt * j' + p3.toInt ∧ p1.toInt * i + p2.toInt * j' + p3.toInt < C) → ∀ n, d < n → wY_checkAccess_65 post J p1 p2 p3 (nI i) (nI O) (nI I) xm (nI C) xp (nI N) xq xr cd wd ye yp yc n (nI j) := by
  intro d
  induction d with
  | zero =>
    intro j hd hQ n hn
    obtain ⟨n, rfl⟩ : ∃ m, n = m + 1 := ⟨n - 1, by omega⟩
    exact br_t (nI_le (by omega) (by omega)) (nm_r (nI_1 i) (H0 (fun j' z => hQ j' (by omega))))
  | succ d ih =>
    intro j hd hQ n hn
    obtain ⟨n, rfl⟩ : ∃ m, n = m + 1 := ⟨n - 1, by omega⟩
    have e := ya_sub (i := i) (j := j) h1 h2 (show 0 ≤ p3.toInt ∧ p3.toInt < 32 by omega) hi (by omega)
    have eC : (nI C).toInt = C := nI_toInt (by omega)
    refine br_f (nI_ge (by omega) (by omega)) (za_lt (fun a => H4 ⟨j, by omega, fun z => ?_⟩) (fun a => za_lt (fun b => nm_r (nI_1 j) (ih (j + 1) (by omega) ?_ n (by omega))) (fun b => H4 ⟨j, by omega, fun z => ?_⟩)))
    · rw [e, za_0] at a; omega
    · intro j' hj'
      rcases Nat.lt_or_ge j' j with c | c
      · exact hQ j' c
      · rw [show j' = j by omega]
        rw [e, za_0] at a; rw [e, eC] at b; omega
    · rw [e, eC] at b; omega
theorem ya_53 {post : Int32 → Prop} {p1 p2 p3 : Int32} (hO : O ≤ 5) (hI : I ≤ 5) (hC : C ≤ 32) (h1 : -31 ≤ p1.toInt ∧ p1.toInt ≤ 31) (h2 : -31 ≤ p2.toInt ∧ p2.toInt ≤ 31) (h3 : 0 ≤ p3.toInt ∧ p3.toInt < C)
    (H4 : ¬ ac_In O I C p1.toInt p2.toInt p3.toInt → post (-4)) (H0 : ac_In O I C p1.toInt p2.toInt p3.toInt → post 0) :
    ∀ d i : Nat, i + d = O → (∀ i' j : Nat, i' < i → j < I → 0 ≤ p1.toInt * i' + p2.toInt * j + p3.toInt ∧ p1.toInt * i' + p2.toInt * j + p3.toInt < C) → ∀ n, d < n → wY_checkAccess_53 post p1 p2 p3 (nI O) (nI I) xm (nI C) xp (nI N) xq xr cd wd ye yp yc n (nI i) := by
  intro d
  induction d with
  | zero =>
    intro i hd hQ n hn
    obtain ⟨n, rfl⟩ : ∃ m, n = m + 1 := ⟨n - 1, by omega⟩
    exact br_t (nI_le (by omega) (by omega)) (H0 (fun i' j a b => hQ i' j (by omega) b))
  | succ d ih =>
    intro i hd hQ n hn
    obtain ⟨n, rfl⟩ : ∃ m, n = m + 1 := ⟨n - 1, by omega⟩
    refine br_f (nI_ge (by omega) (by omega)) ⟨I + 1, ya_65 hI hC h1 h2 h3 (by omega) ?_ (fun h => ih (i + 1) (by omega) ?_ n (by omega)) I 0 (by omega) (fun j' z => absurd z (Nat.not_lt_zero _)) _ (by omega)⟩
    · rintro ⟨j, a, b⟩
      exact H4 (fun z => b (z i j (by omega) a))
    · intro i' j a b
      rcases Nat.lt_or_ge i' i with c | c
      · exact hQ i' j c b
      · rw [show i' = i by omega]; exact h j b
theorem ya_walk {post : Int32 → Prop} {p0 p1 p2 p3 : Int32} (hO : O ≤ 5) (hI : I ≤ 5) (hC : C ≤ 32)
    (h3 : ¬ ac_R C p0 p1 p2 p3 → post (-3)) (h4 : ac_R C p0 p1 p2 p3 → ¬ ac_In O I C p1.toInt p2.toInt p3.toInt → post (-4)) (h0 : ac_R C p0 p1 p2 p3 → ac_In O I C p1.toInt p2.toInt p3.toInt → post 0) :
    wpY_checkAccess post ((nI O), (nI I), xm, (nI C), xp, (nI N), xq, xr, cd, wd, ye, yp, yc) p0 p1 p2 p3 := by
  have em : (-31 : Int32).toInt = -31 := by decide
  have ep : (31 : Int32).toInt = 31 := by decide
  have e3 : (3 : Int32).toInt = 3 := by decide
  have eC : (nI C).toInt = C := nI_toInt (by omega)
  refine za_lt (fun a => h3 (fun z => ?_)) (fun a => za_lt (fun b => h3 (fun z => ?_)) (fun b => za_lt (fun c => h3 (fun z => ?_)) (fun c => za_lt (fun d => h3 (fun z => ?_)) (fun d => za_lt (fun e => h3 (fun z => ?_)) (fun e => za_lt (fun f => h3 (fun z => ?_)) (fun f => za_lt (fun g => h3 (fun z => ?_)) (fun g => za_lt (fun h => ?_) (fun h => h3 (fun z => ?_)))))))))
  · have := z.1; rw [za_0] at a; omega
  · have := z.1; rw [e3] at b; omega
  · have := z.2.1; rw [em] at c; omega
  · have := z.2.1; rw [ep] at d; omega
  · have := z.2.2.1; rw [em] at e; omega
  · have := z.2.2.1; rw [ep] at f; omega
  · have := z.2.2.2; rw [za_0] at g; omega
  · rw [za_0] at a g; rw [e3] at b; rw [em] at c e; rw [ep] at d f; rw [eC] at h
    have hR : ac_R C p0 p1 p2 p3 := ⟨⟨a, b⟩, ⟨c, d⟩, ⟨e, f⟩, g, h⟩
    exact ⟨O + 1, ya_53 hO hI hC hR.2.1 hR.2.2.1 hR.2.2.2 (h4 hR) (h0 hR) O 0 (by omega) (fun i' j z => absurd z (Nat.not_lt_zero _)) _ (by omega)⟩
  · have := z.2.2.2; rw [eC] at h; omega
end
end
section
theorem yo_ix (b s t : Nat) : nI b + nI s * 8 + nI t = nI (b + s * 8 + t) := by
  rw [show nI s * 8 = nI (s * 8) from pk_mul s 8, nI_add, nI_add]
theorem yo_b {v : Nat} (hv : 1 ≤ v) : nI v * 64 - 64 = nI (v * 64 - 64) := by
  rw [show nI v * 64 = nI (v * 64) from pk_mul v 64]
  exact pk_sub (b := 64) (by omega)
abbrev ld_JZ : Type := Int32 → (Nat → Int32) → (Nat → Int32) → (Nat → Int32) → (Nat → Int32) → (Nat → Int32) → Prop
/-- the square at b holds the relation R -/
def yo_ok (y : Nat → Int32) (b N : Nat) (R : Nat → Nat → Prop) : Prop := ∀ a c, a < N → c < N → (¬ y (b + a * 8 + c) = 0 ↔ R a c)
def yo_out (y y' : Nat → Int32) (b : Nat) : Prop := ∀ j, (j < b ∨ b + 64 ≤ j) → y' j = y j
theorem yo_tr {y y' y2 : Nat → Int32} {b : Nat} (h : yo_out y y' b) (g : yo_out y' y2 b) : yo_out y y2 b := fun j hj => (g j hj).trans (h j hj)
section
variable {O I C N : Nat} {xm xp xq xr : Int32} {cd wd ye yp yc : Nat → Int32}
theorem fe_12 {post : SY → Prop} {J : ld_JZ} {v s : Nat} (hO : O ≤ 5) (hI : I ≤ 5) (hN : N ≤ 8) (hv : 1 ≤ v) (hv2 : v ≤ 2) (hs : s < N)
    (H : ∀ ye' yp' : Nat → Int32, (∀ a c, a < s + 1 → c < N → (¬ ye' (v * 64 - 64 + a * 8 + c) = 0 ↔ ld_G cd O I N v a c) ∧ (¬ yp' (v * 64 - 64 + a * 8 + c) = 0 ↔ ld_G cd O I N v a c)) → yo_out ye ye' (v * 64 - 64) → yo_out yp yp' (v * 64 - 64) → J (nI (s + 1)) cd wd ye' yp' yc) :
    ∀ (d t : Nat) (ye' yp' : Nat → Int32), t + d = N → (∀ a c, a < N → c < N → (a < s ∨ (a = s ∧ c < t)) → (¬ ye' (v * 64 - 64 + a * 8 + c) = 0 ↔ ld_G cd O I N v a c) ∧ (¬ yp' (v * 64 - 64 + a * 8 + c) = 0 ↔ ld_G cd O I N v a c)) → yo_out ye ye' (v * 64 - 64) → yo_out yp yp' (v * 64 - 64) → ∀ n, d < n →
    wY_findEdges_12 post J (nI v) (nI s) (nI O) (nI I) xm (nI C) xp (nI N) xq xr n (nI t) cd wd ye' yp' yc := by
  intro d
  induction d with
  | zero =>
    intro t ye' yp' hd h1 h2 h3 n hn
    obtain ⟨n, rfl⟩ : ∃ m, n = m + 1 := ⟨n - 1, by omega⟩
    exact br_t (nI_le (by omega) (by omega)) (nm_r (nI_1 s) (H ye' yp' (fun a c ha hc => h1 a c (by omega) hc (by omega)) h2 h3))
  | succ d ih =>
    intro t ye' yp' hd h1 h2 h3 n hn
    obtain ⟨n, rfl⟩ : ∃ m, n = m + 1 := ⟨n - 1, by omega⟩
    have ei : nI v * 64 - 64 + nI s * 8 + nI t = nI (v * 64 - 64 + s * 8 + t) := by rw [yo_b hv, yo_ix]
    have hin : vp_in (nI (v * 64 - 64 + s * 8 + t)) 128 := vp_in_nI (by omega) (by decide)
    have go : ∀ r : Int32, vp_nar .boolean r = r → (¬ r = 0 ↔ ld_G cd O I N v s t) → wY_findEdges_12 post J (nI v) (nI s) (nI O) (nI I) xm (nI C) xp (nI N) xq xr n (nI (t + 1)) cd wd (upd ye' (v * 64 - 64 + s * 8 + t) r) (upd yp' (v * 64 - 64 + s * 8 + t) r) yc := by
      intro r hr hG
      refine ih (t + 1) _ _ (by omega) ?_ ?_ ?_ n (by omega)
      · intro a c ha hc hD
        by_cases e : a = s ∧ c = t
        · obtain ⟨e1, e2⟩ := e
          subst e1 e2
          rw [pk_us, pk_us]; exact ⟨hG, hG⟩
        · rw [pk_un (by omega), pk_un (by omega)]
          exact h1 a c ha hc (by omega)
      · intro j hj
        rw [pk_un (by omega)]; exact h2 j hj
      · intro j hj
        rw [pk_un (by omega)]; exact h3 j hj
    refine br_f (nI_ge (by omega) (by omega)) (ye_walk (by omega) (by omega) hv hv2 hO hI (fun hE => ?_) (fun hE => ?_))
    · rw [ei, nI_clamp (show v * 64 - 64 + s * 8 + t < 2 ^ 31 by omega)]
      exact ⟨hin, nm_r (e' := upd ye' (v * 64 - 64 + s * 8 + t) 1) rfl ⟨hin, hin, nm_r (e' := upd yp' (v * 64 - 64 + s * 8 + t) 1) (by rw [pk_us]; rfl) (nm_r (nI_1 t) (go 1 rfl ⟨fun _ => ⟨hs, by omega, hE⟩, fun _ => by decide⟩))⟩⟩
    · rw [ei, nI_clamp (show v * 64 - 64 + s * 8 + t < 2 ^ 31 by omega)]
      exact ⟨hin, nm_r (e' := upd ye' (v * 64 - 64 + s * 8 + t) 0) rfl ⟨hin, hin, nm_r (e' := upd yp' (v * 64 - 64 + s * 8 + t) 0) (by rw [pk_us]; rfl) (nm_r (nI_1 t) (go 0 rfl ⟨fun z => absurd rfl z, fun z => absurd z.2.2 hE⟩))⟩⟩
theorem fe_2 {post : SY → Prop} {v : Nat} (hO : O ≤ 5) (hI : I ≤ 5) (hN : N ≤ 8) (hv : 1 ≤ v) (hv2 : v ≤ 2)
    (H : ∀ ye' yp' : Nat → Int32, yo_ok ye' (v * 64 - 64) N (ld_G cd O I N v) → yo_ok yp' (v * 64 - 64) N (ld_G cd O I N v) → yo_out ye ye' (v * 64 - 64) → yo_out yp yp' (v * 64 - 64) → post ((nI O), (nI I), xm, (nI C), xp, (nI N), xq, xr, cd, wd, ye', yp', yc)) :
    ∀ (d s : Nat) (ye' yp' : Nat → Int32), s + d = N → (∀ a c, a < s → c < N → (¬ ye' (v * 64 - 64 + a * 8 + c) = 0 ↔ ld_G cd O I N v a c) ∧ (¬ yp' (v * 64 - 64 + a * 8 + c) = 0 ↔ ld_G cd O I N v a c)) → yo_out ye ye' (v * 64 - 64) → yo_out yp yp' (v * 64 - 64) → ∀ n, d < n →
    wY_findEdges_2 post (nI v) (nI O) (nI I) xm (nI C) xp (nI N) xq xr n (nI s) cd wd ye' yp' yc := by
  intro d
  induction d with
  | zero =>
    intro s ye' yp' hd h1 h2 h3 n hn
    obtain ⟨n, rfl⟩ : ∃ m, n = m + 1 := ⟨n - 1, by omega⟩
    exact br_t (nI_le (by omega) (by omega)) (H ye' yp' (fun a c ha hc => (h1 a c (by omega) hc).1) (fun a c ha hc => (h1 a c (by omega) hc).2) h2 h3)
  | succ d ih =>
    intro s ye' yp' hd h1 h2 h3 n hn
    obtain ⟨n, rfl⟩ : ∃ m, n = m + 1 := ⟨n - 1, by omega⟩
    refine br_f (nI_ge (by omega) (by omega)) ⟨N + 1, fe_12 (ye := ye) (yp := yp) hO hI hN hv hv2 (by omega) (fun ye2 yp2 k1 k2 k3 => ih (s + 1) ye2 yp2 (by omega) k1 k2 k3 n (by omega)) N 0 ye' yp' (by omega) ?_ h2 h3 _ (by omega)⟩
    intro a c ha hc hD
    exact h1 a c (by omega) hc
theorem fe_walk {post : SY → Prop} {v : Nat} {p0 : Int32} (e0 : p0 = nI v) (hO : O ≤ 5) (hI : I ≤ 5) (hN : N ≤ 8) (hv : 1 ≤ v) (hv2 : v ≤ 2)
    (H : ∀ ye' yp' : Nat → Int32, yo_ok ye' (v * 64 - 64) N (ld_G cd O I N v) → yo_ok yp' (v * 64 - 64) N (ld_G cd O I N v) → yo_out ye ye' (v * 64 - 64) → yo_out yp yp' (v * 64 - 64) → post ((nI O), (nI I), xm, (nI C), xp, (nI N), xq, xr, cd, wd, ye', yp', yc)) : wpY_findEdges post ((nI O), (nI I), xm, (nI C), xp, (nI N), xq, xr, cd, wd, ye, yp, yc) p0 := by
  subst e0
  exact ⟨N + 1, fe_2 (ye := ye) (yp := yp) hO hI hN hv hv2 H N 0 ye yp (by omega) (fun a c ha => absurd ha (Nat.not_lt_zero a)) (fun j _ => rfl) (fun j _ => rfl) _ (by omega)⟩
theorem jp_23 {post : SY → Prop} {J : ld_JZ} {b k s : Nat} {M : Nat → Nat → Prop} (hN : N ≤ 8) (hb : b ≤ 64) (hk : k < N) (hs : s < N)
    (H : ∀ yp' : Nat → Int32, yo_ok yp' b N (fun a c => M a c ∨ (a < s + 1 ∧ M a k ∧ M k c)) → yo_out yp yp' b → J (nI (s + 1)) cd wd ye yp' yc) :
    ∀ (d t : Nat) (yp' : Nat → Int32), t + d = N → yo_ok yp' b N (fun a c => M a c ∨ ((a < s ∨ (a = s ∧ c < t)) ∧ M a k ∧ M k c)) → yo_out yp yp' b → ∀ n, d < n →
    wY_joinPaths_23 post J (nI k) (nI b) (nI s) (nI O) (nI I) xm (nI C) xp (nI N) xq xr n (nI t) cd wd ye yp' yc := by
  intro d
  induction d with
  | zero =>
    intro t yp' hd h1 h2 n hn
    obtain ⟨n, rfl⟩ : ∃ m, n = m + 1 := ⟨n - 1, by omega⟩
    refine br_t (nI_le (by omega) (by omega)) (nm_r (nI_1 s) (H yp' (fun a c ha hc => (h1 a c ha hc).trans ?_) h2))
    constructor
    · rintro (z | ⟨z, y⟩)
      · exact Or.inl z
      · exact Or.inr ⟨by omega, y⟩
    · rintro (z | ⟨z, y⟩)
      · exact Or.inl z
      · exact Or.inr ⟨by omega, y⟩
  | succ d ih =>
    intro t yp' hd h1 h2 n hn
    obtain ⟨n, rfl⟩ : ∃ m, n = m + 1 := ⟨n - 1, by omega⟩
    have skip : ¬ (M s k ∧ M k t) → wY_joinPaths_23 post J (nI k) (nI b) (nI s) (nI O) (nI I) xm (nI C) xp (nI N) xq xr n (nI (t + 1)) cd wd ye yp' yc := by
      intro hn'
      refine ih (t + 1) yp' (by omega) (fun a c ha hc => (h1 a c ha hc).trans ?_) h2 n (by omega)
      constructor
      · rintro (z | ⟨z, y⟩)
        · exact Or.inl z
        · exact Or.inr ⟨by omega, y⟩
      · rintro (z | ⟨z, y⟩)
        · exact Or.inl z
        · by_cases e : a = s ∧ c = t
          · obtain ⟨e1, e2⟩ := e
            subst e1 e2
            exact absurd y hn'
          · exact Or.inr ⟨by omega, y⟩
    have r1 : ¬ yp' (b + s * 8 + k) = 0 ↔ M s k := by
      rw [h1 s k hs hk]
      exact ⟨fun z => z.elim id (fun y => y.2.1), Or.inl⟩
    have r2 : ¬ yp' (b + k * 8 + t) = 0 ↔ M k t := by
      rw [h1 k t hk (by omega)]
      exact ⟨fun z => z.elim id (fun y => y.2.2), Or.inl⟩
    refine br_f (nI_ge (by omega) (by omega)) ?_
    rw [yo_ix b s k, yo_ix b k t, yo_ix b s t, nI_clamp (show b + s * 8 + k < 2 ^ 31 by omega), nI_clamp (show b + k * 8 + t < 2 ^ 31 by omega), nI_clamp (show b + s * 8 + t < 2 ^ 31 by omega)]
    refine ⟨vp_in_nI (by omega) (by decide), br_c (fun z => nm_r (nI_1 t) (skip (fun y => r1.mpr y.1 z))) (fun z => ⟨vp_in_nI (by omega) (by decide), br_c (fun w => nm_r (nI_1 t) (skip (fun y => r2.mpr y.2 w))) (fun w => ⟨vp_in_nI (by omega) (by decide), nm_r (e' := upd yp' (b + s * 8 + t) 1) rfl (nm_r (nI_1 t) (ih (t + 1) _ (by omega) ?_ ?_ n (by omega)))⟩)⟩)⟩
    · intro a c ha hc
      by_cases e : a = s ∧ c = t
      · obtain ⟨e1, e2⟩ := e
        subst e1 e2
        rw [pk_us]
        exact ⟨fun _ => Or.inr ⟨Or.inr ⟨rfl, by omega⟩, r1.mp z, r2.mp w⟩, fun _ => by decide⟩
      · rw [pk_un (by omega)]
        refine (h1 a c ha hc).trans ?_
        constructor
        · rintro (z | ⟨z, y⟩)
          · exact Or.inl z
          · exact Or.inr ⟨by omega, y⟩
        · rintro (z | ⟨z, y⟩)
          · exact Or.inl z
          · exact Or.inr ⟨by omega, y⟩
    · intro j hj
      rw [pk_un (by omega)]; exact h2 j hj
theorem jp_11 {post : SY → Prop} {b k : Nat} {M : Nat → Nat → Prop} (hN : N ≤ 8) (hb : b ≤ 64) (hk : k < N)
    (H : ∀ yp' : Nat → Int32, yo_ok yp' b N (fun a c => M a c ∨ (M a k ∧ M k c)) → yo_out yp yp' b → post ((nI O), (nI I), xm, (nI C), xp, (nI N), xq, xr, cd, wd, ye, yp', yc)) :
    ∀ (d s : Nat) (yp' : Nat → Int32), s + d = N → yo_ok yp' b N (fun a c => M a c ∨ (a < s ∧ M a k ∧ M k c)) → yo_out yp yp' b → ∀ n, d < n →
    wY_joinPaths_11 post (nI k) (nI b) (nI O) (nI I) xm (nI C) xp (nI N) xq xr n (nI s) cd wd ye yp' yc := by
  intro d
  induction d with
  | zero =>
    intro s yp' hd h1 h2 n hn
    obtain ⟨n, rfl⟩ : ∃ m, n = m + 1 := ⟨n - 1, by omega⟩
    refine br_t (nI_le (by omega) (by omega)) (H yp' (fun a c ha hc => (h1 a c ha hc).trans ?_) h2)
    exact ⟨fun z => z.elim Or.inl (fun y => Or.inr y.2), fun z => z.elim Or.inl (fun y => Or.inr ⟨by omega, y⟩)⟩
  | succ d ih =>
    intro s yp' hd h1 h2 n hn
    obtain ⟨n, rfl⟩ : ∃ m, n = m + 1 := ⟨n - 1, by omega⟩
    refine br_f (nI_ge (by omega) (by omega)) ⟨N + 1, jp_23 (yp := yp) (M := M) hN hb hk (by omega) (fun yp2 k1 k2 => ih (s + 1) yp2 (by omega) k1 k2 n (by omega)) N 0 yp' (by omega) (fun a c ha hc => (h1 a c ha hc).trans ?_) h2 _ (by omega)⟩
    constructor
    · rintro (z | ⟨z, y⟩)
      · exact Or.inl z
      · exact Or.inr ⟨by omega, y⟩
    · rintro (z | ⟨z, y⟩)
      · exact Or.inl z
      · exact Or.inr ⟨by omega, y⟩
theorem jp_walk {post : SY → Prop} {v k : Nat} {M : Nat → Nat → Prop} {p0 : Int32} (e0 : p0 = nI v) (hN : N ≤ 8) (hv : 1 ≤ v) (hv2 : v ≤ 2) (hk : k < N) (hM : yo_ok yp (v * 64 - 64) N M)
    (H : ∀ yp' : Nat → Int32, yo_ok yp' (v * 64 - 64) N (fun a c => M a c ∨ (M a k ∧ M k c)) → yo_out yp yp' (v * 64 - 64) → post ((nI O), (nI I), xm, (nI C), xp, (nI N), xq, xr, cd, wd, ye, yp', yc)) : wpY_joinPaths post ((nI O), (nI I), xm, (nI C), xp, (nI N), xq, xr, cd, wd, ye, yp, yc) p0 (nI k) := by
  subst e0
  refine nm_r (yo_b hv) ⟨N + 1, jp_11 (yp := yp) (M := M) hN (by omega) hk H N 0 yp (by omega) (fun a c ha hc => (hM a c ha hc).trans ?_) (fun j _ => rfl) _ (by omega)⟩
  exact ⟨Or.inl, fun z => z.elim id (fun y => absurd y.1 (Nat.not_lt_zero _))⟩
/-- what the joining has reached when k is next -/
def jp_W (N : Nat) (G M : Nat → Nat → Prop) (k : Nat) : Prop := (∀ a c, a < N → c < N → M a c → gr_T G a c) ∧ (∀ a c, G a c → M a c) ∧ ∀ j a c, j < k → a < N → c < N → M a j → M j c → M a c
theorem jp_Ws {N k : Nat} {G M : Nat → Nat → Prop} (hk : k < N) (h : jp_W N G M k) : jp_W N G (fun a c => M a c ∨ (M a k ∧ M k c)) (k + 1) := by
  obtain ⟨h1, h2, h3⟩ := h
  refine ⟨?_, fun a c g => Or.inl (h2 a c g), ?_⟩
  · rintro a c ha hc (z | ⟨z, y⟩)
    · exact h1 a c ha hc z
    · exact (h1 a k ha hk z).trans (h1 k c hk hc y)
  · intro j a c hj ha hc z y
    rcases Nat.lt_or_ge j k with e | e
    · rcases z with z | ⟨z1, z2⟩ <;> rcases y with y | ⟨y1, y2⟩
      · exact Or.inl (h3 j a c e ha hc z y)
      · exact Or.inr ⟨h3 j a k e ha hk z y1, y2⟩
      · exact Or.inr ⟨z1, h3 j k c e hk hc z2 y⟩
      · exact Or.inr ⟨z1, y2⟩
    · have : j = k := by omega
      subst this
      have z' : M a j := z.elim id (fun w => w.1)
      have y' : M j c := y.elim id (fun w => w.2)
      exact Or.inr ⟨z', y'⟩
theorem jp_We {N : Nat} {G M : Nat → Nat → Prop} (hG : ∀ a b, G a b → a < N ∧ b < N) (h : jp_W N G M N) {a c : Nat} (ha : a < N) (hc : c < N) : M a c ↔ gr_T G a c := by
  obtain ⟨h1, h2, h3⟩ := h
  refine ⟨h1 a c ha hc, ?_⟩
  intro t
  induction t with
  | single g => exact h2 _ _ g
  | tail t g ih =>
    have gb := hG _ _ g
    exact h3 _ _ _ gb.1 ha hc (ih gb.1) (h2 _ _ g)
theorem sm_walk {post : Int32 → Prop} {v s t : Nat} {G : Nat → Nat → Prop} {p2 : Int32} (e2 : p2 = nI v) (hN : N ≤ 8) (hv : 1 ≤ v) (hv2 : v ≤ 2) (hs : s < N) (ht : t < N) (hP : yo_ok yp (v * 64 - 64) N (gr_T G))
    (h1 : gr_S G s t → post 1) (h0 : ¬ gr_S G s t → post 0) : wpY_same post ((nI O), (nI I), xm, (nI C), xp, (nI N), xq, xr, cd, wd, ye, yp, yc) (nI s) (nI t) p2 := by
  subst e2
  refine pk_eq s t (fun e => h1 (Or.inl e)) (fun e => ?_)
  rw [yo_b hv, yo_ix, yo_ix, nI_clamp (show v * 64 - 64 + s * 8 + t < 2 ^ 31 by omega), nI_clamp (show v * 64 - 64 + t * 8 + s < 2 ^ 31 by omega)]
  have a := hP s t hs ht
  have b := hP t s ht hs
  refine ⟨vp_in_nI (by omega) (by decide), br_c (fun z => h0 ?_) (fun z => ⟨vp_in_nI (by omega) (by decide), br_c (fun w => h0 ?_) (fun w => h1 (Or.inr ⟨a.mp z, b.mp w⟩))⟩)⟩
  · rintro (y | y)
    · exact e y
    · exact a.mpr y.1 z
  · rintro (y | y)
    · exact e y
    · exact b.mpr y.2 w
def en_B (G : Nat → Nat → Prop) (L : Nat → Prop) (s x y : Nat) : Prop := L x ∧ ¬ gr_S G x s ∧ gr_S G y s ∧ G x y
theorem en_12 {post J : Int32 → Prop} {s x : Nat} {G : Nat → Nat → Prop} {L : Nat → Prop} (hN : N ≤ 8) (hs : s < N) (hx : x < N) (hP : yo_ok yp 0 N (gr_T G)) (hE : yo_ok ye 0 N G) (hL : ∀ x, x < N → (0 ≤ yc x ↔ ¬ L x))
    (H1 : ∀ y, y < N → en_B G L s x y → post 1) (H0 : (∀ y, y < N → ¬ en_B G L s x y) → J (nI (x + 1))) :
    ∀ d y : Nat, y + d = N → (∀ y', y' < y → ¬ en_B G L s x y') → ∀ n, d < n → wY_entered_12 post J (nI s) (nI x) (nI O) (nI I) xm (nI C) xp (nI N) xq xr cd wd ye yp yc n (nI y) := by
  intro d
  induction d with
  | zero =>
    intro y hd hQ n hn
    obtain ⟨n, rfl⟩ : ∃ m, n = m + 1 := ⟨n - 1, by omega⟩
    exact br_t (nI_le (by omega) (by omega)) (nm_r (nI_1 x) (H0 (fun y' z => hQ y' (by omega))))
  | succ d ih =>
    intro y hd hQ n hn
    obtain ⟨n, rfl⟩ : ∃ m, n = m + 1 := ⟨n - 1, by omega⟩
    have nx : ¬ en_B G L s x y → wY_entered_12 post J (nI s) (nI x) (nI O) (nI I) xm (nI C) xp (nI N) xq xr cd wd ye yp yc n (nI (y + 1)) := by
      intro h
      refine ih (y + 1) (by omega) ?_ n (by omega)
      intro y' c
      rcases Nat.lt_or_ge y' y with e | e
      · exact hQ y' e
      · rw [show y' = y by omega]; exact h
    have ei : nI x * 8 + nI y = nI (0 + x * 8 + y) := by rw [show nI x * 8 = nI (x * 8) from pk_mul x 8, nI_add, Nat.zero_add]
    refine br_f (nI_ge (by omega) (by omega)) ⟨vp_in_nI (by omega) (by decide), ?_⟩
    rw [nI_clamp (show x < 2 ^ 31 by omega), ei, nI_clamp (show 0 + x * 8 + y < 2 ^ 31 by omega)]
    refine br_c (fun z => nm_r (nI_1 y) (nx (fun w => (hL x hx).mp z w.1))) (fun z => ?_)
    have lx : L x := Classical.byContradiction (fun w => z ((hL x hx).mpr w))
    refine sm_walk (v := 1) rfl hN (by omega) (by omega) hx hs hP (fun c => br_f (by decide) (nm_r (nI_1 y) (nx (fun w => w.2.1 c)))) (fun c => br_t rfl ?_)
    refine sm_walk (v := 1) rfl hN (by omega) (by omega) (by omega) hs hP (fun e => br_f (by decide) ?_) (fun e => br_t rfl (nm_r (nI_1 y) (nx (fun w => e w.2.2.1))))
    refine ⟨vp_in_nI (by omega) (by decide), br_c (fun w => nm_r (nI_1 y) (nx (fun q => (hE x y hx (by omega)).mpr q.2.2.2 w))) (fun w => H1 y (by omega) ⟨lx, c, e, (hE x y hx (by omega)).mp w⟩)⟩
theorem en_2 {post : Int32 → Prop} {s : Nat} {G : Nat → Nat → Prop} {L : Nat → Prop} (hN : N ≤ 8) (hs : s < N) (hP : yo_ok yp 0 N (gr_T G)) (hE : yo_ok ye 0 N G) (hL : ∀ x, x < N → (0 ≤ yc x ↔ ¬ L x))
    (H1 : (∃ x y, x < N ∧ y < N ∧ en_B G L s x y) → post 1) (H0 : (∀ x y, x < N → y < N → ¬ en_B G L s x y) → post 0) :
    ∀ d x : Nat, x + d = N → (∀ x' y, x' < x → y < N → ¬ en_B G L s x' y) → ∀ n, d < n → wY_entered_2 post (nI s) (nI O) (nI I) xm (nI C) xp (nI N) xq xr cd wd ye yp yc n (nI x) := by
  intro d
  induction d with
  | zero =>
    intro x hd hQ n hn
    obtain ⟨n, rfl⟩ : ∃ m, n = m + 1 := ⟨n - 1, by omega⟩
    exact br_t (nI_le (by omega) (by omega)) (H0 (fun x' y a b => hQ x' y (by omega) b))
  | succ d ih =>
    intro x hd hQ n hn
    obtain ⟨n, rfl⟩ : ∃ m, n = m + 1 := ⟨n - 1, by omega⟩
    refine br_f (nI_ge (by omega) (by omega)) ⟨N + 1, en_12 hN hs (by omega) hP hE hL (fun y a b => H1 ⟨x, y, by omega, a, b⟩) (fun h => ih (x + 1) (by omega) ?_ n (by omega)) N 0 (by omega) (fun y' z => absurd z (Nat.not_lt_zero _)) _ (by omega)⟩
    intro x' y a b
    rcases Nat.lt_or_ge x' x with c | c
    · exact hQ x' y c b
    · rw [show x' = x by omega]; exact h y b
theorem en_walk {post : Int32 → Prop} {s : Nat} {G : Nat → Nat → Prop} {L : Nat → Prop} (hN : N ≤ 8) (hs : s < N) (hP : yo_ok yp 0 N (gr_T G)) (hE : yo_ok ye 0 N G) (hL : ∀ x, x < N → (0 ≤ yc x ↔ ¬ L x))
    (H1 : (∃ x y, x < N ∧ y < N ∧ en_B G L s x y) → post 1) (H0 : (∀ x y, x < N → y < N → ¬ en_B G L s x y) → post 0) : wpY_entered post ((nI O), (nI I), xm, (nI C), xp, (nI N), xq, xr, cd, wd, ye, yp, yc) (nI s) :=
  ⟨N + 1, en_2 hN hs hP hE hL H1 H0 N 0 (by omega) (fun x' y z => absurd z (Nat.not_lt_zero _)) _ (by omega)⟩
theorem nf_some {post : Int32 → Prop} {t : Nat} {G : Nat → Nat → Prop} {L : Nat → Prop} (hN : N ≤ 8) (hG : ∀ a b, G a b → a < N ∧ b < N) (hP : yo_ok yp 0 N (gr_T G)) (hE : yo_ok ye 0 N G) (hL : ∀ x, x < N → (0 ≤ yc x ↔ ¬ L x)) (hLN : ∀ x, L x → x < N) (hc : ∀ x y, G x y → L x → L y)
    (hF : gr_Fst G L t) (hp : post (nI t)) : ∀ d s : Nat, s + d = t → ∀ n, d < n → wY_nextFree_2 post (nI O) (nI I) xm (nI C) xp (nI N) xq xr cd wd ye yp yc n (nI s) := by
  have ht := hLN t hF.1.1
  have src : ∀ s, L s → (gr_Src G L s ↔ ∀ x y, x < N → y < N → ¬ en_B G L s x y) := by
    intro s hs
    rw [← gr_src_iff hc s]
    constructor
    · rintro ⟨_, h⟩ x y _ _ ⟨a, b, c, e⟩
      exact h x y a b c e
    · intro h
      exact ⟨hs, fun x y a b c e => h x y (hLN x a) (hG x y e).2 ⟨a, b, c, e⟩⟩
  intro d
  induction d with
  | zero =>
    intro s hs n hn
    obtain ⟨n, rfl⟩ : ∃ m, n = m + 1 := ⟨n - 1, by omega⟩
    have : s = t := by omega
    subst this
    refine br_f (nI_ge (by omega) (by omega)) ⟨vp_in_nI (by omega) (by decide), ?_⟩
    rw [nI_clamp (show s < 2 ^ 31 by omega)]
    refine br_f (fun z => (hL s ht).mp z hF.1.1) (en_walk hN ht hP hE hL (fun h => ?_) (fun h => br_t rfl hp))
    obtain ⟨x, y, a, b, c⟩ := h
    exact absurd c ((src s hF.1.1).mp hF.1 x y a b)
  | succ d ih =>
    intro s hs n hn
    obtain ⟨n, rfl⟩ : ∃ m, n = m + 1 := ⟨n - 1, by omega⟩
    have nx := ih (s + 1) (by omega) n (by omega)
    refine br_f (nI_ge (by omega) (by omega)) ⟨vp_in_nI (by omega) (by decide), ?_⟩
    rw [nI_clamp (show s < 2 ^ 31 by omega)]
    refine br_c (fun z => nm_r (nI_1 s) nx) (fun z => en_walk hN (by omega) hP hE hL (fun h => br_f (by decide) (nm_r (nI_1 s) nx)) (fun h => ?_))
    have ls : L s := Classical.byContradiction (fun w => z ((hL s (by omega)).mpr w))
    exact absurd ((src s ls).mpr h) (hF.2 s (by omega))
theorem nf_none {post : Int32 → Prop} (hN : N ≤ 8) (hL : ∀ x, x < N → 0 ≤ yc x) (hp : post (-1)) : ∀ d s : Nat, s + d = N → ∀ n, d < n → wY_nextFree_2 post (nI O) (nI I) xm (nI C) xp (nI N) xq xr cd wd ye yp yc n (nI s) := by
  intro d
  induction d with
  | zero =>
    intro s hs n hn
    obtain ⟨n, rfl⟩ : ∃ m, n = m + 1 := ⟨n - 1, by omega⟩
    exact br_t (nI_le (by omega) (by omega)) hp
  | succ d ih =>
    intro s hs n hn
    obtain ⟨n, rfl⟩ : ∃ m, n = m + 1 := ⟨n - 1, by omega⟩
    refine br_f (nI_ge (by omega) (by omega)) ⟨vp_in_nI (by omega) (by decide), ?_⟩
    rw [nI_clamp (show s < 2 ^ 31 by omega)]
    exact br_t (hL s (by omega)) (nm_r (nI_1 s) (ih (s + 1) (by omega) n (by omega)))
end
end
section
abbrev ld_JW : Type := Int32 → Int32 → (Nat → Int32) → (Nat → Int32) → (Nat → Int32) → (Nat → Int32) → (Nat → Int32) → Prop
theorem ld_GN {cd : Nat → Int32} {O I N v : Nat} : ∀ a b, ld_G cd O I N v a b → a < N ∧ b < N := fun _ _ h => ⟨h.1, h.2.1⟩
theorem ld_G8 {cd : Nat → Int32} {O I N v : Nat} (hN : N ≤ 8) : ∀ a b, ld_G cd O I N v a b → a < 8 ∧ b < 8 := fun _ _ h => ⟨by have := h.1; omega, by have := h.2.1; omega⟩
theorem ld_ac_c {cd cd' : Nat → Int32} {O I C pl : Nat} (h : ∀ j, j < 4 → cd' (pl + j) = cd (pl + j)) (g : ld_ac cd O I C pl) : ld_ac cd' O I C pl := by
  unfold ld_ac
  have h0 : cd' pl = cd pl := h 0 (by omega)
  rw [h0, h 1 (by omega), h 2 (by omega), h 3 (by omega)]
  exact g
theorem ld_op_c {cd cd' : Nat → Int32} {O I C pl : Nat} (h : ∀ j, j < 4 → cd' (pl + j) = cd (pl + j)) (g : ld_op cd O I C pl) : ld_op cd' O I C pl := by
  rcases g with g | g
  · have h0 : cd' pl = cd pl := h 0 (by omega)
    exact Or.inl (by rw [h0]; exact g)
  · exact Or.inr (ld_ac_c h g)
theorem ld_row_c {cd cd' : Nat → Int32} {O I C s : Nat} (h : ∀ j, j < 12 → cd' (s * 13 + j) = cd (s * 13 + j)) (g : ld_row cd O I C s) : ld_row cd' O I C s := by
  refine ⟨ld_ac_c (fun j hj => h j (by omega)) g.1, ld_op_c (fun j hj => ?_) g.2.1, ld_op_c (fun j hj => ?_) g.2.2⟩
  · have := h (4 + j) (by omega); rw [← Nat.add_assoc] at this; exact this
  · have := h (8 + j) (by omega); rw [← Nat.add_assoc] at this; exact this
theorem ld_rows_dr {cd : Nat → Int32} {O I C N : Nat} (g : ∀ s, s < N → ld_row cd O I C s) : ∀ s, s < N → ld_row (ld_dr cd (N * 13) 13) O I C s :=
  fun s hs => ld_row_c (fun j hj => ld_dr_lo (by omega)) (g s hs)
section
variable {O I C N : Nat} {xm xp xq xr : Int32} {cd wd ye yp yc : Nat → Int32}
theorem yk_119a {post : Int32 → SY → Prop} {J : ld_JW} {r s : Nat} {G : Nat → Nat → Prop} (hN : N ≤ 8) (hs : s < N) (hP : yo_ok yp 0 N (gr_T G))
    (H : ∀ yc' : Nat → Int32, (∀ x, x < N → (gr_S G s x → yc' x = nI r) ∧ (¬ gr_S G s x → yc' x = yc x)) → J (nI (r + 1)) xq cd wd ye yp yc') :
    ∀ (d t : Nat) (yc' : Nat → Int32), t + d = N → (∀ x, x < N → (x < t → gr_S G s x → yc' x = nI r) ∧ (¬ (x < t ∧ gr_S G s x) → yc' x = yc x)) → ∀ n, d < n → wY_compile_119 post J (nI r) (nI s) (nI O) (nI I) xm (nI C) xp (nI N) xq xr n (nI t) cd wd ye yp yc' := by
  intro d
  induction d with
  | zero =>
    intro t yc' hd h1 n hn
    obtain ⟨n, rfl⟩ : ∃ m, n = m + 1 := ⟨n - 1, by omega⟩
    exact br_t (nI_le (by omega) (by omega)) (nm_r (nI_1 r) (H yc' (fun x hx => ⟨(h1 x hx).1 (by omega), fun z => (h1 x hx).2 (fun w => z w.2)⟩)))
  | succ d ih =>
    intro t yc' hd h1 n hn
    obtain ⟨n, rfl⟩ : ∃ m, n = m + 1 := ⟨n - 1, by omega⟩
    refine br_f (nI_ge (by omega) (by omega)) (br_f (nI_pos (by omega)) (sm_walk (v := 1) rfl hN (by omega) (by omega) hs (by omega) hP (fun c => br_f (by decide) ⟨vp_in_nI (by omega) (by decide), nm_r (e' := upd yc' t (nI r)) (by rw [nI_clamp (by omega)]) (nm_r (nI_1 t) (ih (t + 1) _ (by omega) ?_ n (by omega)))⟩) (fun c => br_t rfl (nm_r (nI_1 t) (ih (t + 1) yc' (by omega) ?_ n (by omega))))))
    · intro x hx
      by_cases e : x = t
      · subst e
        rw [pk_us]
        exact ⟨fun _ _ => rfl, fun z => absurd ⟨by omega, c⟩ z⟩
      · rw [pk_un e]
        exact ⟨fun a b => (h1 x hx).1 (by omega) b, fun z => (h1 x hx).2 (fun w => z ⟨by omega, w.2⟩)⟩
    · intro x hx
      refine ⟨fun a b => ?_, fun z => (h1 x hx).2 (fun w => z ⟨by omega, w.2⟩)⟩
      by_cases e : x = t
      · subst e; exact absurd b c
      · exact (h1 x hx).1 (by omega) b
theorem yk_119b {post : Int32 → SY → Prop} {J : ld_JW} {r : Nat} (hN : N ≤ 8) (H : J (nI (r + 1)) xq cd wd ye yp yc) :
    ∀ (d t : Nat), t + d = N → ∀ n, d < n → wY_compile_119 post J (nI r) (-1) (nI O) (nI I) xm (nI C) xp (nI N) xq xr n (nI t) cd wd ye yp yc := by
  intro d
  induction d with
  | zero =>
    intro t hd n hn
    obtain ⟨n, rfl⟩ : ∃ m, n = m + 1 := ⟨n - 1, by omega⟩
    exact br_t (nI_le (by omega) (by omega)) (nm_r (nI_1 r) H)
  | succ d ih =>
    intro t hd n hn
    obtain ⟨n, rfl⟩ : ∃ m, n = m + 1 := ⟨n - 1, by omega⟩
    exact br_f (nI_ge (by omega) (by omega)) (br_t (by decide) (nm_r (nI_1 t) (ih (t + 1) (by omega) n (by omega))))
theorem yk_93 {post : Int32 → SY → Prop} {G : Nat → Nat → Prop} (hN : N ≤ 8) (hG : ∀ a b, G a b → a < N ∧ b < N) (hP : yo_ok yp 0 N (gr_T G)) (hE : yo_ok ye 0 N G)
    (H : ∀ (pc : Nat → Nat) (K : Nat) (yc' : Nat → Int32), gr_Can G N pc K → (∀ x, x < N → yc' x = nI (pc x)) → post (nI K) ((nI O), (nI I), xm, (nI C), xp, (nI N), nI K, xr, cd, wd, ye, yp, yc')) :
    ∀ (d m r : Nat) (pc : Nat → Nat) (yc' : Nat → Int32), m + d = N → gr_Par G N pc r → r ≤ m → (r = m ∨ ∀ x, x < N → ¬ r ≤ pc x) → (∀ x, x < N → (pc x < r → yc' x = nI (pc x)) ∧ (¬ pc x < r → yc' x = -1)) → ∀ n, d < n →
    wY_compile_93 post (nI O) (nI I) xm (nI C) xp (nI N) xr n (nI m) (nI r) cd wd ye yp yc' := by
  intro d
  induction d with
  | zero =>
    intro m r pc yc' hd h1 h2 h3 h4 n hn
    obtain ⟨n, rfl⟩ : ∃ m, n = m + 1 := ⟨n - 1, by omega⟩
    have hno : ∀ x, x < N → ¬ r ≤ pc x := by
      rcases h3 with e | e
      · intro x hx z
        have := gr_par_lt h1 hx z
        omega
      · exact e
    exact br_t (nI_le (by omega) (by omega)) (H pc r yc' (gr_fin h1 hno) (fun x hx => (h4 x hx).1 (by have := hno x hx; omega)))
  | succ d ih =>
    intro m r pc yc' hd h1 h2 h3 h4 n hn
    obtain ⟨n, rfl⟩ : ∃ m, n = m + 1 := ⟨n - 1, by omega⟩
    have hm1 : (-1 : Int32).toInt = -1 := by decide
    have hL : ∀ x, x < N → (0 ≤ yc' x ↔ ¬ gr_L N pc r x) := by
      intro x hx
      have hp := h1.1 x hx
      by_cases c : pc x < r
      · rw [(h4 x hx).1 c]
        exact ⟨fun _ z => by have := z.2; omega, fun _ => nI_pos' (by omega)⟩
      · rw [(h4 x hx).2 c]
        exact ⟨fun z => absurd z (by decide), fun z => absurd ⟨hx, by omega⟩ z⟩
    refine br_f (nI_ge (by omega) (by omega)) ?_
    by_cases hx : ∃ x, x < N ∧ r ≤ pc x
    · obtain ⟨x, hxN, hxr⟩ := hx
      have hrm : r = m := h3.elim id (fun e => absurd hxr (e x hxN))
      obtain ⟨t, ht⟩ := gr_fst_ex (G := G) (N := N) (L := gr_L N pc r) (fun x z => z.1) (show gr_L N pc r x from ⟨hxN, hxr⟩)
      have htN : t < N := ht.1.1.1
      have htr : r ≤ pc t := ht.1.1.2
      refine ⟨t + 1, nf_some hN hG hP hE hL (fun x z => z.1) (gr_par_cl hG h1) ht ?_ t 0 (by omega) _ (by omega)⟩
      refine br_f (nI_pos (by omega)) (nm_r (nI_1 m) ⟨N + 1, yk_119a (yc := yc') hN htN hP ?_ N 0 yc' (by omega) (fun x hx => ⟨fun z => absurd z (Nat.not_lt_zero _), fun _ => rfl⟩) _ (by omega)⟩)
      intro yc2 k
      subst hrm
      refine ih (r + 1) (r + 1) (gr_nx G pc r t) yc2 (by omega) (gr_step h1 htN ht) (by omega) (Or.inl rfl) ?_ n (by omega)
      intro x hx
      have hp := h1.1 x hx
      by_cases c : gr_S G t x
      · have hr : r ≤ pc x := gr_par_S h1 htN hx htr c
        rw [gr_nx1 hr c]
        exact ⟨fun _ => (k x hx).1 c, fun z => absurd (Nat.lt_succ_self r) z⟩
      · rw [(k x hx).2 c]
        by_cases e : r ≤ pc x
        · rw [gr_nx2 e c]
          exact ⟨fun z => absurd z (Nat.lt_irrefl _), fun _ => (h4 x hx).2 (by omega)⟩
        · rw [gr_nx3 e]
          exact ⟨fun _ => (h4 x hx).1 (by omega), fun z => absurd (show pc x < r + 1 by omega) z⟩
    · have hno : ∀ x, x < N → ¬ r ≤ pc x := fun x a b => hx ⟨x, a, b⟩
      refine ⟨N + 1, nf_none hN (fun x hx => (hL x hx).mpr (fun z => hno x hx z.2)) ?_ N 0 (by omega) _ (by omega)⟩
      exact br_t (by decide) ⟨N + 1, yk_119b hN (ih (m + 1) r pc yc' (by omega) h1 (by omega) (Or.inr hno) h4 n (by omega)) N 0 (by omega) _ (by omega)⟩
theorem yk_70 {post : Int32 → SY → Prop} (hN : N ≤ 8)
    (H : ∀ yc' : Nat → Int32, (∀ x, x < N → yc' x = -1) → ∃ n, wY_compile_93 post (nI O) (nI I) xm (nI C) xp (nI N) xr n 0 xq cd wd ye yp yc') :
    ∀ (d t : Nat) (yc' : Nat → Int32), t + d = N → (∀ x, x < t → yc' x = -1) → ∀ n, d < n → wY_compile_70 post (nI O) (nI I) xm (nI C) xp (nI N) xq xr n (nI t) cd wd ye yp yc' := by
  intro d
  induction d with
  | zero =>
    intro t yc' hd h1 n hn
    obtain ⟨n, rfl⟩ : ∃ m, n = m + 1 := ⟨n - 1, by omega⟩
    exact br_t (nI_le (by omega) (by omega)) (H yc' (fun x hx => h1 x (by omega)))
  | succ d ih =>
    intro t yc' hd h1 n hn
    obtain ⟨n, rfl⟩ : ∃ m, n = m + 1 := ⟨n - 1, by omega⟩
    refine br_f (nI_ge (by omega) (by omega)) ⟨vp_in_nI (by omega) (by decide), nm_r (e' := upd yc' t (-1)) (by rw [nI_clamp (by omega)]) (nm_r (nI_1 t) (ih (t + 1) _ (by omega) ?_ n (by omega)))⟩
    intro x hx
    by_cases e : x = t
    · subst e; rw [pk_us]
    · rw [pk_un e]; exact h1 x (by omega)
theorem yk_42 {post : Int32 → SY → Prop} {J : ld_JY} {v : Nat} {G : Nat → Nat → Prop} (hN : N ≤ 8) (hv : 1 ≤ v) (hv2 : v ≤ 2) (hG : ∀ a b, G a b → a < N ∧ b < N)
    (H : ∀ yp' : Nat → Int32, yo_ok yp' (v * 64 - 64) N (gr_T G) → yo_out yp yp' (v * 64 - 64) → J (nI (v + 1)) (nI O) (nI I) xm (nI C) xp (nI N) xq xr cd wd ye yp' yc) :
    ∀ (d k : Nat) (yp' : Nat → Int32) (M : Nat → Nat → Prop), k + d = N → yo_ok yp' (v * 64 - 64) N M → jp_W N G M k → yo_out yp yp' (v * 64 - 64) → ∀ n, d < n → wY_compile_42 post J (nI v) n (nI k) (nI O) (nI I) xm (nI C) xp (nI N) xq xr cd wd ye yp' yc := by
  intro d
  induction d with
  | zero =>
    intro k yp' M hd h1 h2 h3 n hn
    obtain ⟨n, rfl⟩ : ∃ m, n = m + 1 := ⟨n - 1, by omega⟩
    have : k = N := by omega
    subst this
    exact br_t (nI_le (by omega) (by omega)) (nm_r (nI_1 v) (H yp' (fun a c ha hc => (h1 a c ha hc).trans (jp_We hG h2 ha hc)) h3))
  | succ d ih =>
    intro k yp' M hd h1 h2 h3 n hn
    obtain ⟨n, rfl⟩ : ∃ m, n = m + 1 := ⟨n - 1, by omega⟩
    exact br_f (nI_ge (by omega) (by omega)) (jp_walk rfl hN hv hv2 (by omega) h1 (fun yp2 k1 k2 => nm_r (nI_1 k) (ih (k + 1) yp2 _ (by omega) k1 (jp_Ws (by omega) h2) (yo_tr h3 k2) n (by omega))))
theorem yk_W0 {G : Nat → Nat → Prop} : jp_W N G G 0 := ⟨fun _ _ _ _ g => Relation.TransGen.single g, fun _ _ g => g, fun j _ _ hj => absurd hj (Nat.not_lt_zero j)⟩
theorem yk_walk {post : Int32 → SY → Prop} (hO : O ≤ 5) (hI : I ≤ 5) (hN : N ≤ 8) (hN1 : 1 ≤ N)
    (H : ∀ (pc : Nat → Nat) (K : Nat) (ye' yp' yc' : Nat → Int32), gr_Can (ld_G (ld_dr cd (N * 13) 13) O I N 1) N pc K → yo_ok yp' 0 N (gr_T (ld_G (ld_dr cd (N * 13) 13) O I N 1)) → yo_ok yp' 64 N (gr_T (ld_G (ld_dr cd (N * 13) 13) O I N 2)) → (∀ x, x < N → yc' x = nI (pc x)) →
      post (nI K) ((nI O), (nI I), xm, (nI C), 1, (nI N), nI K, xr, ld_dr cd (N * 13) 13, wd, ye', yp', yc')) : wpY_compile post ((nI O), (nI I), xm, (nI C), 0, (nI N), 0, xr, cd, wd, ye, yp, yc) := by
  refine br_t rfl (br_f (nI_ne0 (by omega) (by omega)) (dy_walk hN ?_))
  generalize ld_dr cd (N * 13) 13 = cd' at *
  refine ⟨3, br_f (by decide) (fe_walk (v := 1) rfl hO hI hN (by omega) (by omega) ?_)⟩
  intro ye1 yp1 a1 a2 a3 a4
  refine ⟨N + 1, yk_42 (v := 1) hN (by omega) (by omega) ld_GN ?_ N 0 yp1 _ (by omega) a2 yk_W0 (fun j _ => rfl) _ (by omega)⟩
  intro yp2 b1 b2
  refine br_f (by decide) (fe_walk (v := 2) rfl hO hI hN (by omega) (by omega) ?_)
  intro ye3 yp3 c1 c2 c3 c4
  refine ⟨N + 1, yk_42 (v := 2) hN (by omega) (by omega) ld_GN ?_ N 0 yp3 _ (by omega) c2 yk_W0 (fun j _ => rfl) _ (by omega)⟩
  intro yp4 e1 e2
  have hP1 : yo_ok yp4 0 N (gr_T (ld_G cd' O I N 1)) := by
    intro a c ha hc
    have x1 := e2 (0 + a * 8 + c) (by omega)
    have x2 := c4 (0 + a * 8 + c) (by omega)
    rw [x1, x2]; exact b1 a c ha hc
  have hE1 : yo_ok ye3 0 N (ld_G cd' O I N 1) := by
    intro a c ha hc
    have x2 := c3 (0 + a * 8 + c) (by omega)
    rw [x2]; exact a1 a c ha hc
  refine br_t (by decide) ⟨N + 1, yk_70 hN ?_ N 0 yc (by omega) (fun x z => absurd z (Nat.not_lt_zero _)) _ (by omega)⟩
  intro yc1 z1
  refine ⟨N + 1, yk_93 hN ld_GN hP1 hE1 (fun pc K yc2 w1 w2 => H pc K ye3 yp4 yc2 w1 hP1 e1 w2) N 0 0 (fun _ => 0) yc1 (by omega) (gr_par0 _ N) (by omega) (Or.inl rfl) ?_ _ (by omega)⟩
  intro x hx
  exact ⟨fun z => absurd z (Nat.not_lt_zero _), fun _ => z1 x hx⟩
end
section
variable {O I C N : Nat} {xm xp xq xg xr sg sb sl sr : Int32} {cd wd rs ed gp sq : Nat → Int32}
theorem xk_25 {post : Int32 → SX → Prop} (H : ∀ ed' : Nat → Int32, (∀ j, j < 32 → ed' j = 0) → ∃ n, wX_compile_46 post n 1 (nI O) (nI I) xm (nI C) xp (nI N) xq xg xr sg sb sl sr cd wd rs ed' gp sq) :
    ∀ (d k : Nat) (ed' : Nat → Int32), k + d = 32 → (∀ j, j < k → ed' j = 0) → ∀ n, d < n → wX_compile_25 post (nI O) (nI I) xm (nI C) xp (nI N) xq xg xr sg sb sl sr n (nI k) cd wd rs ed' gp sq := by
  intro d
  induction d with
  | zero =>
    intro k ed' hd h1 n hn
    obtain ⟨n, rfl⟩ : ∃ m, n = m + 1 := ⟨n - 1, by omega⟩
    exact br_t (nI_le (a := 32) (by omega) (by omega)) (H ed' (fun j hj => h1 j (by omega)))
  | succ d ih =>
    intro k ed' hd h1 n hn
    obtain ⟨n, rfl⟩ : ∃ m, n = m + 1 := ⟨n - 1, by omega⟩
    refine br_f (nI_ge (b := 32) (by omega) (by decide)) ⟨vp_in_nI (by omega) (by decide), nm_r (e' := upd ed' k 0) (by rw [nI_clamp (by omega)]) (nm_r (nI_1 k) (ih (k + 1) _ (by omega) ?_ n (by omega)))⟩
    intro j hj
    by_cases e : j = k
    · subst e; rw [pk_us]
    · rw [pk_un e]; exact h1 j (by omega)
theorem xk_walk {post : Int32 → SX → Prop} (hO : O ≤ 5) (hO1 : 1 ≤ O) (hI : I ≤ 5) (hI1 : 1 ≤ I) (hC : C ≤ 32) (hN : N ≤ 8) (hN1 : 1 ≤ N) (hrow : ∀ s, s < N → ld_row cd O I C s)
    (H : ∀ (pc rk : Nat → Nat) (K1 K2 : Nat) (ed' gp' sq' : Nat → Int32) (g b l r : Int32), gr_Can (ld_G (ld_dr cd (N * 13) 13) O I N 1) N pc K1 → gr_Can (ld_G (ld_dr cd (N * 13) 13) O I N 2) N rk K2 →
      bg_ok ed' 0 (ld_G (ld_dr cd (N * 13) 13) O I N 1) → bg_ok ed' 8 (ld_G (ld_dr cd (N * 13) 13) O I N 2) → fg_ok gp' 0 N (ld_G (ld_dr cd (N * 13) 13) O I N 1) → fg_ok gp' 8 N (ld_G (ld_dr cd (N * 13) 13) O I N 2) →
      og_ok sq' 0 N pc K1 → og_ok sq' 8 N rk K2 → post (nI K1) ((nI O), (nI I), xm, (nI C), 1, (nI N), nI K1, nI K2, xr, g, b, l, r, ld_dr cd (N * 13) 13, wd, rs, ed', gp', sq')) : wpX_compile post ((nI O), (nI I), xm, (nI C), 0, (nI N), xq, xg, xr, sg, sb, sl, sr, cd, wd, rs, ed, gp, sq) := by
  refine br_t rfl (br_f (nI_ne0 (by omega) (by omega)) (dx_walk hN ?_))
  have hrow' := ld_rows_dr hrow
  generalize ld_dr cd (N * 13) 13 = cd' at *
  refine ⟨33, xk_25 ?_ 32 0 ed (by omega) (fun j z => absurd z (Nat.not_lt_zero _)) _ (by omega)⟩
  intro ed0 z0
  refine ⟨3, br_f (by decide) (bg_walk (v := 1) rfl hO hO1 hI hI1 hC hN hrow' (by omega) (by omega) (fun a ha => ⟨z0 _ (by omega), z0 _ (by omega)⟩) ?_)⟩
  intro ed1 a1 a2 g1 b1 l1 r1
  refine fg_walk (v := 1) rfl hN (by omega) (by omega) a1 (ld_G8 hN) ?_
  intro gp1 c1 c2
  refine nm_e (br_f (by decide) (bg_walk (v := 2) rfl hO hO1 hI hI1 hC hN hrow' (by omega) (by omega) (fun a ha => ⟨?_, ?_⟩) ?_))
  · rw [a2 _ (by omega)]; exact z0 _ (by omega)
  · rw [a2 _ (by omega)]; exact z0 _ (by omega)
  intro ed2 e1 e2 g2 b2 l2 r2
  refine fg_walk (v := 2) rfl hN (by omega) (by omega) e1 (ld_G8 hN) ?_
  intro gp2 f1 f2
  have q1 : bg_ok ed2 0 (ld_G cd' O I N 1) := by
    intro a i ha hi
    have x1 := e2 (0 + a) (by omega)
    have x2 := e2 (0 + 16 + a) (by omega)
    rw [x1, x2]; exact a1 a i ha hi
  have q2 : fg_ok gp2 0 N (ld_G cd' O I N 1) := by
    intro s i hs hi
    have x1 := f2 (0 + s) (by omega)
    rw [x1]; exact c1 s i hs hi
  refine nm_e (br_t (by decide) (og_walk (v := 1) rfl hN (by omega) (by omega) q1 (ld_G8 hN) ld_GN q2 ?_))
  intro pc K1 sq1 h1 h2 h3
  refine og_walk (v := 2) rfl hN (by omega) (by omega) e1 (ld_G8 hN) ld_GN f1 ?_
  intro rk K2 sq2 k1 k2 k3
  refine H pc rk K1 K2 ed2 gp2 sq2 g2 b2 l2 r2 h1 k1 q1 e1 q2 f1 ?_ k2
  intro p i hp hi
  have := gr_can_le h1
  have x1 := k3 (0 + p) (by omega)
  rw [x1]; exact h2 p i hp hi
/-- a statement is on a cycle -/
theorem cy_walk {post : Int32 → Prop} {v s : Nat} {G : Nat → Nat → Prop} {p1 : Int32} (e1 : p1 = nI v) (hN : N ≤ 8) (hv : 1 ≤ v) (hv2 : v ≤ 2) (hs : s < N) (hE : bg_ok ed (v * 8 - 8) G) (hG : ∀ a b, G a b → a < N ∧ b < N) (hg : fg_ok gp (v * 8 - 8) N G)
    (h1 : gr_T G s s → post 1) (h0 : ¬ gr_T G s s → (∀ x, gr_S G s x → x = s) → ¬ G s s → post 0) : wpX_cyclic post ((nI O), (nI I), xm, (nI C), xp, (nI N), xq, xg, xr, sg, sb, sl, sr, cd, wd, rs, ed, gp, sq) (nI s) p1 := by
  subst e1
  unfold wpX_cyclic
  dsimp only
  rw [xb_base hv, nI_add, nI_clamp (show v * 8 - 8 + s < 2 ^ 31 by omega)]
  refine ⟨vp_in_nI (by omega) (by decide), nm_e ?_⟩
  have gs := hg s
  have hz : ∀ i, 8 ≤ i → i < 32 → bt (gp (v * 8 - 8 + s)) i = false := by
    intro i a b
    apply za_nt
    intro z
    have := gr_Sb hG ((gs i hs b).mp z) hs
    omega
  have hss : bt (gp (v * 8 - 8 + s)) s = true := (gs s hs (by omega)).mpr (Or.inl rfl)
  obtain ⟨w, ⟨w1, w2⟩, w3⟩ := pk_least (fun w => w < 8 ∧ bt (gp (v * 8 - 8 + s)) w = true) ⟨s, by omega, hss⟩
  have w3' : ∀ i, i < w → bt (gp (v * 8 - 8 + s)) i = false := fun i hi => za_nt (fun z => w3 i hi ⟨by omega, z⟩)
  have cl := fun (i : Nat) (hi : i < 32) => lo_clr hz w1 w2 w3' hi
  refine br_c (fun c => ⟨vp_in_nI (by omega) (by decide), ?_⟩) (fun c => h1 ?_)
  · have only : ∀ x, gr_S G s x → x = s := by
      have uq : ∀ x, gr_S G s x → x = w := by
        intro x hx
        have hx8 : x < 32 := by have := gr_Sb hG hx hs; omega
        have e := cl x hx8
        rw [c, b_0, (gs x hs hx8).mpr hx, Bool.true_and] at e
        apply Classical.byContradiction
        intro n
        rw [decide_eq_false n] at e
        cases e
      intro x hx
      rw [uq x hx, uq s (Or.inl rfl)]
    have self : gr_T G s s → G s s := by
      intro t
      have : ∀ {b}, gr_T G s b → b = s → G s s := by
        intro b t
        induction t with
        | single g => intro e; rw [e] at g; exact g
        | tail t g ih =>
          intro e
          rw [e] at g
          have := only _ (Or.inr ⟨t, Relation.TransGen.single g⟩)
          exact ih this
      exact this t rfl
    refine za_bb (by omega) (fun z => ?_) (fun z => h1 (Relation.TransGen.single (((hE s s (by omega) (by omega)).1).mp z)))
    have ng : ¬ G s s := by
      intro g
      rw [((hE s s (by omega) (by omega)).1).mpr g] at z; cases z
    exact h0 (fun t => ng (self t)) only ng
  · obtain ⟨i, hi, hb⟩ := za_nz c
    rw [cl i hi, Bool.and_eq_true, Bool.not_eq_true', decide_eq_false_iff_not] at hb
    have sw := (gs w hs (by omega)).mp w2
    have si := (gs i hs hi).mp hb.1
    rcases sw with e | ⟨a, b⟩
    · rcases si with e' | ⟨a', b'⟩
      · exact absurd (e'.symm.trans e) hb.2
      · exact a'.trans b'
    · exact a.trans b
end
end
section
abbrev ex_M : Type := Nat → Int32
theorem fo_cg {α β : Type} {F G : β → α → β} {l : List α} (h : ∀ a, a ∈ l → ∀ w, F w a = G w a) : ∀ w, l.foldl F w = l.foldl G w := by
  induction l with
  | nil => intro w; rfl
  | cons a l ih =>
    intro w
    rw [List.foldl_cons, List.foldl_cons, h a (List.mem_cons_self ..)]
    exact ih (fun b hb => h b (List.mem_cons_of_mem _ hb)) _
theorem fo_comm {α β : Type} {f : α → β → β} {a : α} {l : List α} (h : ∀ b, b ∈ l → ∀ w, f b (f a w) = f a (f b w)) : ∀ w, l.foldl (fun w b => f b w) (f a w) = f a (l.foldl (fun w b => f b w) w) := by
  induction l with
  | nil => intro w; rfl
  | cons b l ih =>
    intro w
    rw [List.foldl_cons, List.foldl_cons, h b (List.mem_cons_self ..)]
    exact ih (fun c hc => h c (List.mem_cons_of_mem _ hc)) _
theorem fo_part {α β : Type} {f : α → β → β} {P : α → Bool} {l : List α} (h : l.Pairwise (fun a b => P a = false → P b = true → ∀ w, f b (f a w) = f a (f b w))) :
    ∀ w, l.foldl (fun w b => f b w) w = (l.filter (fun a => !P a)).foldl (fun w b => f b w) ((l.filter P).foldl (fun w b => f b w) w) := by
  induction l with
  | nil => intro w; rfl
  | cons a l ih =>
    intro w
    obtain ⟨h1, h2⟩ := List.pairwise_cons.mp h
    cases c : P a
    · rw [List.filter_cons_of_neg (by rw [c]; decide), List.filter_cons_of_pos (by rw [c]; decide), List.foldl_cons, List.foldl_cons, ih h2]
      congr 1
      apply fo_comm
      intro b hb
      exact h1 b (List.mem_filter.mp hb).1 c (List.mem_filter.mp hb).2
    · rw [List.filter_cons_of_pos c, List.filter_cons_of_neg (by rw [c]; decide), List.foldl_cons, List.foldl_cons, ih h2]
/-- a run in the order of the list = the run by rising keys, if what is turned round commutes -/
theorem fo_sort {α β : Type} {f : α → β → β} {κ : α → Nat} : ∀ (K : Nat) (l : List α), (∀ a, a ∈ l → κ a < K) → l.Pairwise (fun a b => κ b < κ a → ∀ w, f b (f a w) = f a (f b w)) →
    ∀ w, l.foldl (fun w b => f b w) w = (List.range' 0 K).foldl (fun w g => (l.filter (fun a => decide (κ a = g))).foldl (fun w b => f b w) w) w := by
  intro K
  induction K with
  | zero =>
    intro l hK _ w
    cases l with
    | nil => rfl
    | cons a l => exact absurd (hK a (List.mem_cons_self ..)) (Nat.not_lt_zero _)
  | succ K ih =>
    intro l hK hp w
    have hp' : l.Pairwise (fun a b => decide (κ a < K) = false → decide (κ b < K) = true → ∀ w, f b (f a w) = f a (f b w)) :=
      hp.imp (fun {a b} h c d => h (by have := of_decide_eq_false c; have := of_decide_eq_true d; omega))
    rw [fo_part (P := fun a => decide (κ a < K)) hp' w, List.range'_1_concat, List.foldl_append, List.foldl_cons, List.foldl_nil, Nat.zero_add]
    have e1 : l.filter (fun a => !decide (κ a < K)) = l.filter (fun a => decide (κ a = K)) := by
      apply List.filter_congr
      intro a ha
      have := hK a ha
      by_cases c : κ a < K
      · rw [decide_eq_true c, decide_eq_false (by omega)]; rfl
      · rw [decide_eq_false c, decide_eq_true (by omega)]; rfl
    have e2 := ih (l.filter (fun a => decide (κ a < K))) (fun a ha => of_decide_eq_true (List.mem_filter.mp ha).2) (hp.filter _) w
    rw [e1, e2]
    congr 1
    apply fo_cg
    intro g hg w
    have hg2 := List.mem_range'_1.mp hg
    congr 1
    rw [List.filter_filter]
    apply List.filter_congr
    intro a _
    by_cases c : κ a = g
    · rw [decide_eq_true c, decide_eq_true (show κ a < K by omega)]; rfl
    · rw [decide_eq_false c]; rfl
theorem fo_none {β : Type} {f : Nat → β → β} {S : Nat → Bool} : ∀ (d b : Nat), (∀ s, b ≤ s → s < b + d → S s = false) → ∀ w, (List.range' b d).foldl (fun w s => if S s = true then f s w else w) w = w := by
  intro d
  induction d with
  | zero => intro b _ w; rfl
  | succ d ih =>
    intro b h w
    rw [List.range'_succ, List.foldl_cons, h b (by omega) (by omega)]
    exact ih (b + 1) (fun s h1 h2 => h s (by omega) (by omega)) w
theorem fo_one {β : Type} {f : Nat → β → β} {S : Nat → Bool} {s0 : Nat} : ∀ (d b : Nat), b ≤ s0 → s0 < b + d → (∀ s, b ≤ s → s < b + d → (S s = true ↔ s = s0)) → ∀ w, (List.range' b d).foldl (fun w s => if S s = true then f s w else w) w = f s0 w := by
  intro d
  induction d with
  | zero => intro b h1 h2; omega
  | succ d ih =>
    intro b h1 h2 h w
    rw [List.range'_succ, List.foldl_cons]
    by_cases c : b = s0
    · subst c
      rw [if_pos ((h b (by omega) (by omega)).mpr rfl)]
      apply fo_none
      intro s a1 a2
      apply za_nt
      intro z
      have := (h s (by omega) (by omega)).mp z
      omega
    · rw [if_neg (fun z => c ((h b (by omega) (by omega)).mp z))]
      exact ih (b + 1) (by omega) (by omega) (fun s a1 a2 => h s (by omega) (by omega)) w
/-- the cell of memory m that place pl names -/
def ex_ix (cd : Nat → Int32) (m pl i j : Nat) : Nat := (nI m * 128 + cd pl * 32 + ld_sub cd pl i j).toNatClampNeg
def ex_ft (cd : Nat → Int32) (m pl i j : Nat) (w : ex_M) : Int32 := if 0 ≤ cd pl then w (ex_ix cd m pl i j) else ld_sub cd pl i j
def ex_ev (cd : Nat → Int32) (m s i j : Nat) (w : ex_M) : Int32 :=
  if cd (s * 13 + 12) = 0 then ex_ft cd m (s * 13 + 4) i j w + ex_ft cd m (s * 13 + 8) i j w
  else if cd (s * 13 + 12) = 1 then ex_ft cd m (s * 13 + 4) i j w - ex_ft cd m (s * 13 + 8) i j w
  else ex_ft cd m (s * 13 + 4) i j w * ex_ft cd m (s * 13 + 8) i j w
def ex_ac (cd : Nat → Int32) (m s i j : Nat) (w : ex_M) : ex_M := upd w (ex_ix cd m (s * 13) i j) (ex_ev cd m s i j w)
def ex_cell (cd : Nat → Int32) (m : Nat) (S : Nat → Bool) (N i j : Nat) (w : ex_M) : ex_M := (List.range' 0 N).foldl (fun w s => if S s = true then ex_ac cd m s i j w else w) w
def ex_row (cd : Nat → Int32) (m : Nat) (S : Nat → Bool) (N I i : Nat) (w : ex_M) : ex_M := (List.range' 0 I).foldl (fun w j => ex_cell cd m S N i j w) w
def ex_nest (cd : Nat → Int32) (m : Nat) (S : Nat → Bool) (N I O : Nat) (w : ex_M) : ex_M := (List.range' 0 O).foldl (fun w i => ex_row cd m S N I i w) w
/-- statement s over rows b .. b + d - 1, all values out of w0 -/
def ex_vec (cd : Nat → Int32) (s I b d : Nat) (w0 w : ex_M) : ex_M := (List.range' b d).foldl (fun w i => (List.range' 0 I).foldl (fun w j => upd w (ex_ix cd 2 (s * 13) i j) (ex_ev cd 2 s i j w0)) w) w
theorem ex_cell_c {cd : Nat → Int32} {m N i j : Nat} {S S' : Nat → Bool} (h : ∀ s, s < N → S s = S' s) (w : ex_M) : ex_cell cd m S N i j w = ex_cell cd m S' N i j w := by
  apply fo_cg
  intro s hs w
  have := List.mem_range'_1.mp hs
  rw [h s (by omega)]
theorem ex_row_c {cd : Nat → Int32} {m N I i : Nat} {S S' : Nat → Bool} (h : ∀ s, s < N → S s = S' s) (w : ex_M) : ex_row cd m S N I i w = ex_row cd m S' N I i w := by
  apply fo_cg
  intro j _ w
  exact ex_cell_c h w
theorem ex_nest_c {cd : Nat → Int32} {m N I O : Nat} {S S' : Nat → Bool} (h : ∀ s, s < N → S s = S' s) (w : ex_M) : ex_nest cd m S N I O w = ex_nest cd m S' N I O w := by
  apply fo_cg
  intro i _ w
  exact ex_row_c h w
theorem ex_pl {cd : Nat → Int32} {O I C pl i j m : Nat} (h : ld_ac cd O I C pl) (hO : O ≤ 5) (hI : I ≤ 5) (hC : C ≤ 32) (hi : i < O) (hj : j < I) (hm : m ≤ 2) :
    ∃ ar q : Nat, ar ≤ 3 ∧ q < C ∧ cd pl = nI ar ∧ ld_sub cd pl i j = nI q ∧ nI m * 128 + cd pl * 32 + ld_sub cd pl i j = nI (m * 128 + ar * 32 + q) ∧ ex_ix cd m pl i j = m * 128 + ar * 32 + q := by
  have hb := ld_subB h hO hI hi hj
  obtain ⟨ar, h0, h1, _⟩ := h
  have hq : ld_sub cd pl i j = nI (ld_sub cd pl i j).toInt.toNat := za_cm (by omega)
  have e : nI m * 128 + cd pl * 32 + ld_sub cd pl i j = nI (m * 128 + ar * 32 + (ld_sub cd pl i j).toInt.toNat) := by
    rw [h1, show nI m * 128 = nI (m * 128) from pk_mul m 128, show nI ar * 32 = nI (ar * 32) from pk_mul ar 32, nI_add, ← nI_add _ (ld_sub cd pl i j).toInt.toNat, ← hq]
  refine ⟨ar, (ld_sub cd pl i j).toInt.toNat, h0, by omega, h1, hq, e, ?_⟩
  unfold ex_ix
  rw [e, nI_clamp (by omega)]
theorem ex_inj {cd : Nat → Int32} {O I C f g i j k l m : Nat} (hf : ld_ac cd O I C f) (hg : ld_ac cd O I C g) (hO : O ≤ 5) (hI : I ≤ 5) (hC : C ≤ 32) (hi : i < O) (hj : j < I) (hk : k < O) (hl : l < I) (hm : m ≤ 2)
    (e : ex_ix cd m f i j = ex_ix cd m g k l) : cd f = cd g ∧ ld_sub cd f i j = ld_sub cd g k l := by
  obtain ⟨a, q, a1, a2, a3, a4, _, a5⟩ := ex_pl hf hO hI hC hi hj hm
  obtain ⟨b, r, b1, b2, b3, b4, _, b5⟩ := ex_pl hg hO hI hC hk hl hm
  rw [a5, b5] at e
  have e1 : a = b := by omega
  have e2 : q = r := by omega
  rw [a3, b3, a4, b4, e1, e2]
  exact ⟨rfl, rfl⟩
theorem ex_m1 : ¬ (0 : Int32) ≤ -1 := by decide
theorem ex_oa {cd : Nat → Int32} {O I C pl : Nat} (h : ld_op cd O I C pl) (h0 : 0 ≤ cd pl) : ld_ac cd O I C pl := by
  rcases h with h | h
  · rw [h] at h0; exact absurd h0 ex_m1
  · exact h
/-- no meeting: other cells -/
theorem ex_nc {cd : Nat → Int32} {O I C f g i j k l m lv : Nat} (hf : ld_ac cd O I C f) (hg : ld_ac cd O I C g) (hO : O ≤ 5) (hI : I ≤ 5) (hC : C ≤ 32) (hi : i < O) (hj : j < I) (hk : k < O) (hl : l < I) (hm : m ≤ 2)
    (hlv : ld_lv lv i j k l) (hn : ¬ ld_Met cd O I f g lv) : ex_ix cd m f i j ≠ ex_ix cd m g k l := by
  intro e
  obtain ⟨e1, e2⟩ := ex_inj hf hg hO hI hC hi hj hk hl hm e
  exact hn ⟨e1, i, j, k, l, hi, hj, hk, hl, hlv, e2⟩
theorem ex_ft_u {cd : Nat → Int32} {m pl i j c : Nat} {w : ex_M} {v : Int32} (h : 0 ≤ cd pl → ex_ix cd m pl i j ≠ c) : ex_ft cd m pl i j (upd w c v) = ex_ft cd m pl i j w := by
  unfold ex_ft
  by_cases z : 0 ≤ cd pl
  · rw [if_pos z, if_pos z, pk_un (h z)]
  · rw [if_neg z, if_neg z]
theorem ex_ev_u {cd : Nat → Int32} {m s i j c : Nat} {w : ex_M} {v : Int32} (h4 : 0 ≤ cd (s * 13 + 4) → ex_ix cd m (s * 13 + 4) i j ≠ c) (h8 : 0 ≤ cd (s * 13 + 8) → ex_ix cd m (s * 13 + 8) i j ≠ c) : ex_ev cd m s i j (upd w c v) = ex_ev cd m s i j w := by
  unfold ex_ev
  rw [ex_ft_u h4, ex_ft_u h8]
theorem ex_upc {w : ex_M} {a b : Nat} {x y : Int32} (h : a ≠ b) : upd (upd w a x) b y = upd (upd w b y) a x := by
  funext p
  unfold upd
  by_cases c : p = b
  · rw [if_pos c, if_neg (by omega), if_pos c]
  · rw [if_neg c]
    by_cases d : p = a
    · rw [if_pos d, if_pos d]
    · rw [if_neg d, if_neg d, if_neg c]
theorem ex_cm {cd : Nat → Int32} {m s i j t k l : Nat} (hw : ex_ix cd m (s * 13) i j ≠ ex_ix cd m (t * 13) k l)
    (h1 : 0 ≤ cd (t * 13 + 4) → ex_ix cd m (t * 13 + 4) k l ≠ ex_ix cd m (s * 13) i j) (h2 : 0 ≤ cd (t * 13 + 8) → ex_ix cd m (t * 13 + 8) k l ≠ ex_ix cd m (s * 13) i j)
    (h3 : 0 ≤ cd (s * 13 + 4) → ex_ix cd m (s * 13 + 4) i j ≠ ex_ix cd m (t * 13) k l) (h4 : 0 ≤ cd (s * 13 + 8) → ex_ix cd m (s * 13 + 8) i j ≠ ex_ix cd m (t * 13) k l) (w : ex_M) :
    ex_ac cd m t k l (ex_ac cd m s i j w) = ex_ac cd m s i j (ex_ac cd m t k l w) := by
  unfold ex_ac
  rw [ex_ev_u h1 h2, ex_ev_u h3 h4]
  exact ex_upc hw
/-- two instances of statements without an edge commute -/
theorem ex_free {cd : Nat → Int32} {O I C s t i j k l m lv v : Nat} (hO : O ≤ 5) (hI : I ≤ 5) (hC : C ≤ 32) (hi : i < O) (hj : j < I) (hk : k < O) (hl : l < I) (hm : m ≤ 2) (hs : ld_row cd O I C s) (ht : ld_row cd O I C t)
    (hst : s ≠ t) (hlv : ld_lv lv i j k l) (h3 : lv = 3 → s < t) (hv : v ≤ lv) (hl3 : lv ≤ 3) (hn : ¬ ld_E cd O I v s t) (w : ex_M) : ex_ac cd m t k l (ex_ac cd m s i j w) = ex_ac cd m s i j (ex_ac cd m t k l w) := by
  have nd : ∀ kd, kd < 3 → ¬ ld_Dep cd O I s t kd lv := fun kd hk z => hn ⟨lv, kd, hv, hl3, hk, fun e => hst e.1, z⟩
  have n0 := nd 0 (by omega)
  have n1 := nd 1 (by omega)
  have n2 := nd 2 (by omega)
  obtain ⟨s0, s4, s8⟩ := hs
  obtain ⟨t0, t4, t8⟩ := ht
  apply ex_cm
  · exact ex_nc s0 t0 hO hI hC hi hj hk hl hm hlv (fun z => n2 ⟨h3, Or.inr (Or.inr ⟨rfl, z⟩)⟩)
  · intro z
    exact (ex_nc s0 (ex_oa t4 z) hO hI hC hi hj hk hl hm hlv (fun z => n0 ⟨h3, Or.inl ⟨rfl, Or.inl z⟩⟩)).symm
  · intro z
    exact (ex_nc s0 (ex_oa t8 z) hO hI hC hi hj hk hl hm hlv (fun z => n0 ⟨h3, Or.inl ⟨rfl, Or.inr z⟩⟩)).symm
  · intro z
    exact ex_nc (ex_oa s4 z) t0 hO hI hC hi hj hk hl hm hlv (fun z => n1 ⟨h3, Or.inr (Or.inl ⟨rfl, Or.inl z⟩)⟩)
  · intro z
    exact ex_nc (ex_oa s8 z) t0 hO hI hC hi hj hk hl hm hlv (fun z => n1 ⟨h3, Or.inr (Or.inl ⟨rfl, Or.inr z⟩)⟩)
/-- pairs (outer, inner) in order -/
def ex_L (b d N : Nat) : List (Nat × Nat) := (List.range' b d).flatMap (fun j => (List.range' 0 N).map (fun s => (j, s)))
theorem ex_Lm {b d N : Nat} {e : Nat × Nat} (h : e ∈ ex_L b d N) : b ≤ e.1 ∧ e.1 < b + d ∧ e.2 < N := by
  unfold ex_L at h
  rw [List.mem_flatMap] at h
  obtain ⟨j, h1, h2⟩ := h
  rw [List.mem_map] at h2
  obtain ⟨s, h3, rfl⟩ := h2
  have a := List.mem_range'_1.mp h1
  have c := List.mem_range'_1.mp h3
  exact ⟨a.1, a.2, by show s < N; omega⟩
theorem ex_Lp (b d N : Nat) : (ex_L b d N).Pairwise (fun x y => x.1 < y.1 ∨ (x.1 = y.1 ∧ x.2 < y.2)) := by
  unfold ex_L
  rw [List.pairwise_flatMap]
  constructor
  · intro j _
    rw [List.pairwise_map]
    exact List.Pairwise.imp (fun h => Or.inr ⟨rfl, h⟩) (List.pairwise_lt_range' (s := 0) (n := N))
  · refine List.Pairwise.imp ?_ (List.pairwise_lt_range' (s := b) (n := d))
    intro j j' h x hx y hy
    rw [List.mem_map] at hx hy
    obtain ⟨s, _, rfl⟩ := hx
    obtain ⟨t, _, rfl⟩ := hy
    exact Or.inl h
theorem ex_Lf {β : Type} (b d N : Nat) (f : Nat → Nat → β → β) (w : β) : (ex_L b d N).foldl (fun w e => f e.1 e.2 w) w = (List.range' b d).foldl (fun w j => (List.range' 0 N).foldl (fun w s => f j s w) w) w := by
  unfold ex_L
  rw [List.foldl_flatMap]
  apply fo_cg
  intro j _ w
  rw [List.foldl_map]
theorem ex_rowL {cd : Nat → Int32} {m : Nat} {S : Nat → Bool} {N I i : Nat} (w : ex_M) : ex_row cd m S N I i w = ((ex_L 0 I N).filter (fun e => S e.2)).foldl (fun w e => ex_ac cd m e.2 i e.1 w) w := by
  rw [List.foldl_filter]
  unfold ex_row ex_cell
  exact (ex_Lf 0 I N (fun j s w => if S s = true then ex_ac cd m s i j w else w) w).symm
/-- a row of the piece = its inner groups one behind another -/
theorem ex_groups {cd : Nat → Int32} {O I C N i K : Nat} {S : Nat → Bool} {rk : Nat → Nat} (hO : O ≤ 5) (hI : I ≤ 5) (hC : C ≤ 32) (hrow : ∀ s, s < N → ld_row cd O I C s) (hi : i < O)
    (hrk : gr_Can (ld_G cd O I N 2) N rk K) (hS : ∀ s t, s < N → t < N → rk s = rk t → S s = S t) (w : ex_M) :
    ex_row cd 2 S N I i w = (List.range' 0 K).foldl (fun w g => ex_row cd 2 (fun s => decide (rk s = g) && S s) N I i w) w := by
  rw [ex_rowL, fo_sort (f := fun (e : Nat × Nat) (w : ex_M) => ex_ac cd 2 e.2 i e.1 w) (κ := fun (e : Nat × Nat) => rk e.2) K]
  · apply fo_cg
    intro g _ w
    rw [ex_rowL, List.filter_filter]
  · intro e he
    exact hrk.1 _ (ex_Lm (List.mem_filter.mp he).1).2.2
  · apply List.Pairwise.imp_of_mem (R := fun x y => x.1 < y.1 ∨ (x.1 = y.1 ∧ x.2 < y.2)) _ ((ex_Lp 0 I N).filter _)
    intro a b ha hb hab hk w
    have ma := ex_Lm (List.mem_filter.mp ha).1
    have mb := ex_Lm (List.mem_filter.mp hb).1
    have hne : a.2 ≠ b.2 := by intro e; rw [e] at hk; exact Nat.lt_irrefl _ hk
    have hE : ¬ ld_E cd O I 2 a.2 b.2 := by
      intro z
      have := gr_can_E ld_GN hrk (show ld_G cd O I N 2 a.2 b.2 from ⟨ma.2.2, mb.2.2, z⟩)
      have : rk b.2 < rk a.2 := hk
      omega
    rcases hab with c | ⟨c, d⟩
    · exact ex_free (lv := 2) (v := 2) hO hI hC hi (by omega) hi (by omega) (by omega) (hrow _ ma.2.2) (hrow _ mb.2.2) hne (Or.inr (Or.inl ⟨rfl, rfl, c⟩)) (fun z => by omega) (by omega) (by omega) hE w
    · exact ex_free (lv := 3) (v := 2) hO hI hC hi (by omega) hi (by omega) (by omega) (hrow _ ma.2.2) (hrow _ mb.2.2) hne (Or.inr (Or.inr ⟨rfl, rfl, c⟩)) (fun _ => d) (by omega) (by omega) hE w
/-- all values first, or each in its turn -/
theorem fo_vec {α : Type} {ix : α → Nat} {ev : α → ex_M → Int32} {l : List α} (h : l.Pairwise (fun a b => ∀ w v, ev b (upd w (ix a) v) = ev b w)) (w0 : ex_M) :
    ∀ w, (∀ a, a ∈ l → ev a w = ev a w0) → l.foldl (fun w a => upd w (ix a) (ev a w0)) w = l.foldl (fun w a => upd w (ix a) (ev a w)) w := by
  induction l with
  | nil => intro w _; rfl
  | cons a l ih =>
    intro w hw
    obtain ⟨h1, h2⟩ := List.pairwise_cons.mp h
    rw [List.foldl_cons, List.foldl_cons, hw a (List.mem_cons_self ..)]
    exact ih h2 _ (fun b hb => by rw [h1 b hb]; exact hw b (List.mem_cons_of_mem _ hb))
theorem ex_vecL {cd : Nat → Int32} {s I b d : Nat} (w0 w : ex_M) : ex_vec cd s I b d w0 w = (ex_L b d I).foldl (fun w e => upd w (ex_ix cd 2 (s * 13) e.1 e.2) (ex_ev cd 2 s e.1 e.2 w0)) w := by
  unfold ex_vec
  exact (ex_Lf b d I (fun i j w => upd w (ex_ix cd 2 (s * 13) i j) (ex_ev cd 2 s i j w0)) w).symm
/-- a vector statement = the same statement in serial order, where it does not flow into itself -/
theorem ex_vec_ok {cd : Nat → Int32} {O I C s b d v : Nat} (hO : O ≤ 5) (hI : I ≤ 5) (hC : C ≤ 32) (hs : ld_row cd O I C s) (hb : b + d ≤ O) (hv : v = 1 ∨ (v = 2 ∧ d ≤ 1)) (hn : ¬ ld_E cd O I v s s) (w : ex_M) :
    ex_vec cd s I b d w w = (List.range' b d).foldl (fun w i => (List.range' 0 I).foldl (fun w j => ex_ac cd 2 s i j w) w) w := by
  rw [ex_vecL, fo_vec (ix := fun (e : Nat × Nat) => ex_ix cd 2 (s * 13) e.1 e.2) (ev := fun (e : Nat × Nat) => ex_ev cd 2 s e.1 e.2) (l := ex_L b d I) _ w w (fun _ _ => rfl)]
  · exact ex_Lf b d I (fun i j w => ex_ac cd 2 s i j w) w
  · obtain ⟨s0, s4, s8⟩ := hs
    have nm : ∀ lv, v ≤ lv → lv ≤ 2 → ¬ ld_Met cd O I (s * 13) (s * 13 + 4) lv ∧ ¬ ld_Met cd O I (s * 13) (s * 13 + 8) lv := by
      intro lv h1 h2
      constructor
      · exact fun z => hn ⟨lv, 0, h1, by omega, by omega, fun e => by omega, fun e => by omega, Or.inl ⟨rfl, Or.inl z⟩⟩
      · exact fun z => hn ⟨lv, 0, h1, by omega, by omega, fun e => by omega, fun e => by omega, Or.inl ⟨rfl, Or.inr z⟩⟩
    apply List.Pairwise.imp_of_mem (R := fun x y => x.1 < y.1 ∨ (x.1 = y.1 ∧ x.2 < y.2)) _ (ex_Lp b d I)
    intro x y hx hy hxy w u
    have mx := ex_Lm hx
    have my := ex_Lm hy
    obtain ⟨lv, l1, l2, l3⟩ : ∃ lv, v ≤ lv ∧ lv ≤ 2 ∧ ld_lv lv x.1 x.2 y.1 y.2 := by
      rcases hxy with c | ⟨c, e⟩
      · exact ⟨1, by omega, by omega, Or.inl ⟨rfl, c⟩⟩
      · exact ⟨2, by omega, by omega, Or.inr (Or.inl ⟨rfl, c, e⟩)⟩
    have nn := nm lv l1 l2
    apply ex_ev_u
    · intro z
      exact (ex_nc s0 (ex_oa s4 z) hO hI hC (by omega) (by omega) (by omega) (by omega) (by omega) l3 nn.1).symm
    · intro z
      exact (ex_nc s0 (ex_oa s8 z) hO hI hC (by omega) (by omega) (by omega) (by omega) (by omega) l3 nn.2).symm
theorem ex_cell_1 {cd : Nat → Int32} {m N i j s0 : Nat} {S : Nat → Bool} (h0 : s0 < N) (h : ∀ s, s < N → (S s = true ↔ s = s0)) (w : ex_M) : ex_cell cd m S N i j w = ex_ac cd m s0 i j w :=
  fo_one N 0 (by omega) (by omega) (fun s _ h2 => h s (by omega)) w
theorem ex_row_1 {cd : Nat → Int32} {m N I i s0 : Nat} {S : Nat → Bool} (h0 : s0 < N) (h : ∀ s, s < N → (S s = true ↔ s = s0)) (w : ex_M) : ex_row cd m S N I i w = (List.range' 0 I).foldl (fun w j => ex_ac cd m s0 i j w) w :=
  fo_cg (fun _ _ w => ex_cell_1 h0 h w) w
theorem ex_nest_1 {cd : Nat → Int32} {m N I O s0 : Nat} {S : Nat → Bool} (h0 : s0 < N) (h : ∀ s, s < N → (S s = true ↔ s = s0)) (w : ex_M) : ex_nest cd m S N I O w = (List.range' 0 O).foldl (fun w i => (List.range' 0 I).foldl (fun w j => ex_ac cd m s0 i j w) w) w :=
  fo_cg (fun _ _ w => ex_row_1 h0 h w) w
/-- the reference's 25 places -/
theorem ex_25 {β : Type} {O I : Nat} (hO : O ≤ 5) (hO1 : 1 ≤ O) (hI : I ≤ 5) (hI1 : 1 ≤ I) (f : Nat → Nat → β → β) (w : β) :
    (List.range' 0 25).foldl (fun w n => if n / 5 < O ∧ n % 5 < I then f (n / 5) (n % 5) w else w) w = (List.range' 0 O).foldl (fun w i => (List.range' 0 I).foldl (fun w j => f i j w) w) w := by
  have a : O = 1 ∨ O = 2 ∨ O = 3 ∨ O = 4 ∨ O = 5 := by omega
  have b : I = 1 ∨ I = 2 ∨ I = 3 ∨ I = 4 ∨ I = 5 := by omega
  rcases a with rfl | rfl | rfl | rfl | rfl <;> rcases b with rfl | rfl | rfl | rfl | rfl <;> rfl
end
section
theorem xx_13 {s : Nat} : nI s * 13 = nI (s * 13) := pk_mul s 13
section
variable {O I C N : Nat} {xm xp xq xg xr sg sb sl sr : Int32} {cd wd rs ed gp sq : Nat → Int32}
theorem xf_aff {post : Int32 → Prop} {pl i j : Nat} (hpl : pl + 3 < 117) (h : post (ld_sub cd pl i j)) : wpX_affine post ((nI O), (nI I), xm, (nI C), xp, (nI N), xq, xg, xr, sg, sb, sl, sr, cd, wd, rs, ed, gp, sq) (nI pl) (nI i) (nI j) := by
  refine ⟨za_ai 1 (by omega), za_ai 2 (by omega), za_ai 3 (by omega), ?_⟩
  rw [za_ac 1 (by omega), za_ac 2 (by omega), za_ac 3 (by omega)]
  exact h
theorem xf_walk {post : Int32 → Prop} {m pl i j : Nat} {p0 p1 : Int32} (e0 : p0 = nI m) (e1 : p1 = nI pl) (hO : O ≤ 5) (hI : I ≤ 5) (hC : C ≤ 32) (hm : m ≤ 2) (hi : i < O) (hj : j < I) (hpl : pl + 3 < 117) (hop : ld_op cd O I C pl)
    (h : post (ex_ft cd m pl i j wd)) : wpX_fetch post ((nI O), (nI I), xm, (nI C), xp, (nI N), xq, xg, xr, sg, sb, sl, sr, cd, wd, rs, ed, gp, sq) p0 p1 (nI i) (nI j) := by
  subst e0 e1
  unfold wpX_fetch
  dsimp only
  refine xf_aff hpl ⟨vp_in_nI (by omega) (by decide), ?_⟩
  rw [nI_clamp (show pl < 2 ^ 31 by omega)]
  refine br_c (fun z => ?_) (fun z => ?_)
  · obtain ⟨ar, q, a1, a2, a3, a4, a5, a6⟩ := ex_pl (ex_oa hop z) hO hI hC hi hj hm
    unfold ex_ft at h
    rw [if_pos z] at h
    refine ⟨vp_in_nI (by omega) (by decide), ?_, h⟩
    rw [a5]
    exact vp_in_nI (by omega) (by decide)
  · unfold ex_ft at h
    rw [if_neg z] at h
    exact h
theorem xe_walk {post : Int32 → Prop} {m s i j : Nat} {p0 : Int32} (e0 : p0 = nI m) (hO : O ≤ 5) (hI : I ≤ 5) (hC : C ≤ 32) (hm : m ≤ 2) (hi : i < O) (hj : j < I) (hs : s < 8) (hr : ld_row cd O I C s)
    (h : post (ex_ev cd m s i j wd)) : wpX_evaluate post ((nI O), (nI I), xm, (nI C), xp, (nI N), xq, xg, xr, sg, sb, sl, sr, cd, wd, rs, ed, gp, sq) p0 (nI s) (nI i) (nI j) := by
  unfold wpX_evaluate
  dsimp only
  rw [xx_13]
  refine xf_walk e0 (nI_add (s * 13) 4) hO hI hC hm hi hj (by omega) hr.2.1 (xf_walk e0 (nI_add (s * 13) 8) hO hI hC hm hi hj (by omega) hr.2.2 ⟨za_ai 12 (by omega), ?_⟩)
  unfold ex_ev at h
  rw [za_ac 12 (by omega)]
  refine br_c (fun z => ?_) (fun z => ⟨za_ai 12 (by omega), br_c (fun y => ?_) (fun y => ?_)⟩)
  · rw [if_pos z] at h; exact h
  · rw [if_neg z, if_pos y] at h; exact h
  · rw [if_neg z, if_neg y] at h; exact h
theorem xw_walk {post : SX → Prop} {m s i j : Nat} {p0 v : Int32} (e0 : p0 = nI m) (hO : O ≤ 5) (hI : I ≤ 5) (hC : C ≤ 32) (hm : m ≤ 2) (hi : i < O) (hj : j < I) (hs : s < 8) (hr : ld_row cd O I C s)
    (h : post ((nI O), (nI I), xm, (nI C), xp, (nI N), xq, xg, xr, sg, sb, sl, sr, cd, upd wd (ex_ix cd m (s * 13) i j) v, rs, ed, gp, sq)) : wpX_write post ((nI O), (nI I), xm, (nI C), xp, (nI N), xq, xg, xr, sg, sb, sl, sr, cd, wd, rs, ed, gp, sq) p0 (nI s) (nI i) (nI j) v := by
  subst e0
  unfold wpX_write
  dsimp only
  rw [xx_13, nI_clamp (show s * 13 < 2 ^ 31 by omega)]
  obtain ⟨ar, q, a1, a2, a3, a4, a5, a6⟩ := ex_pl hr.1 hO hI hC hi hj hm
  refine xf_aff (by omega) ⟨vp_in_nI (by omega) (by decide), ?_, nm_e h⟩
  rw [a5]
  exact vp_in_nI (by omega) (by decide)
theorem xr_15 {post : SX → Prop} {J : ld_JX} {m i j : Nat} {mem : Int32} (hO : O ≤ 5) (hI : I ≤ 5) (hC : C ≤ 32) (hN : N ≤ 8) (hm : m ≤ 2) (hi : i < O) (hj : j < I) (hrow : ∀ s, s < N → ld_row cd O I C s) :
    ∀ (d s : Nat) (w : ex_M), s + d = N → J (nI (j + 1)) (nI O) (nI I) xm (nI C) xp (nI N) xq xg xr sg sb sl sr cd ((List.range' s d).foldl (fun w s => if bt mem s = true then ex_ac cd m s i j w else w) w) rs ed gp sq → ∀ n, d < n → wX_runRow_15 post J (nI m) mem (nI i) (nI j) n (nI s) (nI O) (nI I) xm (nI C) xp (nI N) xq xg xr sg sb sl sr cd w rs ed gp sq := by
  intro d
  induction d with
  | zero =>
    intro s w hd h n hn
    obtain ⟨n, rfl⟩ : ∃ m, n = m + 1 := ⟨n - 1, by omega⟩
    exact br_t (nI_le (by omega) (by omega)) (nm_r (nI_1 j) h)
  | succ d ih =>
    intro s w hd h n hn
    obtain ⟨n, rfl⟩ : ∃ m, n = m + 1 := ⟨n - 1, by omega⟩
    rw [List.range'_succ, List.foldl_cons] at h
    refine br_f (nI_ge (by omega) (by omega)) (za_bb (by omega) (fun z => nm_r (nI_1 s) (ih (s + 1) w (by omega) ?_ n (by omega))) (fun z => ?_))
    · rw [z] at h; exact h
    · rw [if_pos z] at h
      refine xe_walk rfl hO hI hC hm hi hj (by omega) (hrow s (by omega)) (xw_walk rfl hO hI hC hm hi hj (by omega) (hrow s (by omega)) (nm_r (nI_1 s) (ih (s + 1) _ (by omega) ?_ n (by omega))))
      exact h
theorem xr_3 {post : SX → Prop} {m i : Nat} {mem : Int32} (hO : O ≤ 5) (hI : I ≤ 5) (hC : C ≤ 32) (hN : N ≤ 8) (hm : m ≤ 2) (hi : i < O) (hrow : ∀ s, s < N → ld_row cd O I C s) :
    ∀ (d j : Nat) (w : ex_M), j + d = I → post ((nI O), (nI I), xm, (nI C), xp, (nI N), xq, xg, xr, sg, sb, sl, sr, cd, (List.range' j d).foldl (fun w j => ex_cell cd m (bt mem) N i j w) w, rs, ed, gp, sq) → ∀ n, d < n → wX_runRow_3 post (nI m) mem (nI i) n (nI j) (nI O) (nI I) xm (nI C) xp (nI N) xq xg xr sg sb sl sr cd w rs ed gp sq := by
  intro d
  induction d with
  | zero =>
    intro j w hd h n hn
    obtain ⟨n, rfl⟩ : ∃ m, n = m + 1 := ⟨n - 1, by omega⟩
    exact br_t (nI_le (by omega) (by omega)) h
  | succ d ih =>
    intro j w hd h n hn
    obtain ⟨n, rfl⟩ : ∃ m, n = m + 1 := ⟨n - 1, by omega⟩
    rw [List.range'_succ, List.foldl_cons] at h
    exact br_f (nI_ge (by omega) (by omega)) ⟨N + 1, xr_15 hO hI hC hN hm hi (by omega) hrow N 0 w (by omega) (ih (j + 1) _ (by omega) h n (by omega)) _ (by omega)⟩
theorem xr_walk {post : SX → Prop} {m i : Nat} {mem p0 : Int32} (e0 : p0 = nI m) (hO : O ≤ 5) (hI : I ≤ 5) (hC : C ≤ 32) (hN : N ≤ 8) (hm : m ≤ 2) (hi : i < O) (hrow : ∀ s, s < N → ld_row cd O I C s)
    (h : post ((nI O), (nI I), xm, (nI C), xp, (nI N), xq, xg, xr, sg, sb, sl, sr, cd, ex_row cd m (bt mem) N I i wd, rs, ed, gp, sq)) : wpX_runRow post ((nI O), (nI I), xm, (nI C), xp, (nI N), xq, xg, xr, sg, sb, sl, sr, cd, wd, rs, ed, gp, sq) p0 mem (nI i) := by
  subst e0
  exact ⟨I + 1, xr_3 hO hI hC hN hm hi hrow I 0 wd (by omega) h _ (by omega)⟩
theorem xs_59 {post : Int32 → SX → Prop} (hO : O ≤ 5) (hI : I ≤ 5) (hC : C ≤ 32) (hN : N ≤ 8) (hrow : ∀ s, s < N → ld_row cd O I C s) :
    ∀ (d i : Nat) (w : ex_M), i + d = O → post xq ((nI O), (nI I), xm, (nI C), 2, (nI N), xq, xg, 0, sg, sb, sl, sr, cd, (List.range' i d).foldl (fun w i => ex_row cd 1 (fun _ => true) N I i w) w, rs, ed, gp, sq) → ∀ n, d < n → wX_start_59 post n (nI i) (nI O) (nI I) xm (nI C) xp (nI N) xq xg xr sg sb sl sr cd w rs ed gp sq := by
  intro d
  induction d with
  | zero =>
    intro i w hd h n hn
    obtain ⟨n, rfl⟩ : ∃ m, n = m + 1 := ⟨n - 1, by omega⟩
    exact br_t (nI_le (by omega) (by omega)) h
  | succ d ih =>
    intro i w hd h n hn
    obtain ⟨n, rfl⟩ : ∃ m, n = m + 1 := ⟨n - 1, by omega⟩
    rw [List.range'_succ, List.foldl_cons] at h
    refine br_f (nI_ge (by omega) (by omega)) (xr_walk (m := 1) rfl hO hI hC hN (by omega) (by omega) hrow (nm_r (nI_1 i) (ih (i + 1) _ (by omega) ?_ n (by omega))))
    rw [ex_row_c (S' := fun _ => true)]
    · exact h
    · intro s hs
      rw [za_msk N (by omega) s (by omega)]
      exact decide_eq_true hs
/-- the copying of memory 0 -/
def st_cp : Nat → Nat → ex_M → ex_M
  | 0, _, w => w
  | d + 1, k, w => st_cp d (k + 1) (upd (upd w (128 + k) (w k)) (256 + k) (upd w (128 + k) (w k) k))
theorem st_ix {k a : Nat} (h : a + k < 2 ^ 31) {x : Int32} (hx : x = nI a) : (x + nI k).toNatClampNeg = a + k := by
  subst hx; rw [nI_add]; exact nI_clamp h
theorem st_in {k a : Nat} (h : a + k < 384) {x : Int32} (hx : x = nI a) : vp_in (x + nI k) 384 := by
  subst hx; rw [nI_add]; exact vp_in_nI h (by decide)
theorem xs_12 {post : Int32 → SX → Prop} :
    ∀ (d k : Nat) (w : ex_M), k + d = 128 → (∃ n, wX_start_59 post n 0 (nI O) (nI I) xm (nI C) xp (nI N) xq xg xr sg sb sl sr cd (st_cp d k w) rs ed gp sq) → ∀ n, d < n → wX_start_12 post (nI O) (nI I) xm (nI C) xp (nI N) xq xg xr sg sb sl sr n (nI k) cd w rs ed gp sq := by
  intro d
  induction d with
  | zero =>
    intro k w hd h n hn
    obtain ⟨n, rfl⟩ : ∃ m, n = m + 1 := ⟨n - 1, by omega⟩
    exact br_t (nI_le (a := 128) (by omega) (by omega)) h
  | succ d ih =>
    intro k w hd h n hn
    obtain ⟨n, rfl⟩ : ∃ m, n = m + 1 := ⟨n - 1, by omega⟩
    refine br_f (nI_ge (b := 128) (by omega) (by decide)) ⟨vp_in_nI (by omega) (by decide), st_in (a := 128) (by omega) rfl, nm_r (e' := upd w (128 + k) (w k)) (by rw [st_ix (a := 128) (x := 128) (by omega) rfl, nI_clamp (by omega)]) ⟨vp_in_nI (by omega) (by decide), st_in (a := 256) (by omega) rfl, nm_r (e' := upd (upd w (128 + k) (w k)) (256 + k) (upd w (128 + k) (w k) k)) (by rw [st_ix (a := 256) (x := 256) (by omega) rfl, nI_clamp (by omega)]) (nm_r (nI_1 k) (ih (k + 1) _ (by omega) h n (by omega)))⟩⟩
theorem xs_walk {post : Int32 → SX → Prop} (hO : O ≤ 5) (hI : I ≤ 5) (hC : C ≤ 32) (hN : N ≤ 8) (hrow : ∀ s, s < N → ld_row cd O I C s) (hp : ¬ xp = 0)
    (h : post xq ((nI O), (nI I), xm, (nI C), 2, (nI N), xq, xg, 0, sg, sb, sl, sr, cd, ex_nest cd 1 (fun _ => true) N I O (st_cp 128 0 wd), rs, ed, gp, sq)) : wpX_start post ((nI O), (nI I), xm, (nI C), xp, (nI N), xq, xg, xr, sg, sb, sl, sr, cd, wd, rs, ed, gp, sq) :=
  br_f hp ⟨129, xs_12 128 0 wd (by omega) ⟨O + 1, xs_59 hO hI hC hN hrow O 0 _ (by omega) h _ (by omega)⟩ _ (by omega)⟩
theorem rv_12 {post : SX → Prop} {J : Int32 → (Nat → Int32) → (Nat → Int32) → (Nat → Int32) → (Nat → Int32) → (Nat → Int32) → (Nat → Int32) → Prop} {s b e i : Nat} (hO : O ≤ 5) (hI : I ≤ 5) (hC : C ≤ 32) (hs : s < 8) (hr : ld_row cd O I C s) (hi : i < O)
    (H : ∀ rs' : Nat → Int32, (∀ j, j < I → rs' (i * 5 + j) = ex_ev cd 2 s i j wd) → (∀ p, (p < i * 5 ∨ i * 5 + I ≤ p) → rs' p = rs p) → J (nI (i + 1)) cd wd rs' ed gp sq) :
    ∀ (d j : Nat) (rs' : Nat → Int32), j + d = I → (∀ j', j' < j → rs' (i * 5 + j') = ex_ev cd 2 s i j' wd) → (∀ p, (p < i * 5 ∨ i * 5 + I ≤ p) → rs' p = rs p) → ∀ n, d < n →
    wX_runVector_12 post J (nI s) (nI b) (nI e) (nI i) (nI O) (nI I) xm (nI C) xp (nI N) xq xg xr sg sb sl sr n (nI j) cd wd rs' ed gp sq := by
  intro d
  induction d with
  | zero =>
    intro j rs' hd h1 h2 n hn
    obtain ⟨n, rfl⟩ : ∃ m, n = m + 1 := ⟨n - 1, by omega⟩
    exact br_t (nI_le (by omega) (by omega)) (nm_r (nI_1 i) (H rs' (fun j' z => h1 j' (by omega)) h2))
  | succ d ih =>
    intro j rs' hd h1 h2 n hn
    obtain ⟨n, rfl⟩ : ∃ m, n = m + 1 := ⟨n - 1, by omega⟩
    refine br_f (nI_ge (by omega) (by omega)) (xe_walk (m := 2) rfl hO hI hC (by omega) hi (by omega) hs hr ?_)
    rw [show nI i * 5 = nI (i * 5) from pk_mul i 5, nI_add, nI_clamp (show i * 5 + j < 2 ^ 31 by omega)]
    refine ⟨vp_in_nI (by omega) (by decide), nm_e (nm_r (nI_1 j) (ih (j + 1) _ (by omega) ?_ ?_ n (by omega)))⟩
    · intro j' hj'
      by_cases c : j' = j
      · subst c; rw [pk_us]
      · rw [pk_un (by omega)]; exact h1 j' (by omega)
    · intro p hp
      rw [pk_un (by omega)]; exact h2 p hp
theorem rv_3 {post : SX → Prop} {s b e : Nat} (hO : O ≤ 5) (hI : I ≤ 5) (hC : C ≤ 32) (hs : s < 8) (hr : ld_row cd O I C s) (he : e ≤ O)
    (H : ∀ rs' : Nat → Int32, (∀ i j, b ≤ i → i < e → j < I → rs' (i * 5 + j) = ex_ev cd 2 s i j wd) → ∃ n, wX_runVector_58 post (nI s) (nI e) n (nI b) (nI O) (nI I) xm (nI C) xp (nI N) xq xg xr sg sb sl sr cd wd rs' ed gp sq) :
    ∀ (d i : Nat) (rs' : Nat → Int32), i + d = e → b ≤ i → (∀ i' j, b ≤ i' → i' < i → j < I → rs' (i' * 5 + j) = ex_ev cd 2 s i' j wd) → ∀ n, d < n →
    wX_runVector_3 post (nI s) (nI b) (nI e) (nI O) (nI I) xm (nI C) xp (nI N) xq xg xr sg sb sl sr n (nI i) cd wd rs' ed gp sq := by
  intro d
  induction d with
  | zero =>
    intro i rs' hd hb h1 n hn
    obtain ⟨n, rfl⟩ : ∃ m, n = m + 1 := ⟨n - 1, by omega⟩
    exact br_t (nI_le (by omega) (by omega)) (H rs' (fun i' j a1 a2 a3 => h1 i' j a1 (by omega) a3))
  | succ d ih =>
    intro i rs' hd hb h1 n hn
    obtain ⟨n, rfl⟩ : ∃ m, n = m + 1 := ⟨n - 1, by omega⟩
    refine br_f (nI_ge (by omega) (by omega)) ⟨I + 1, rv_12 (rs := rs') hO hI hC hs hr (by omega) ?_ I 0 rs' (by omega) (fun j' z => absurd z (Nat.not_lt_zero _)) (fun p _ => rfl) _ (by omega)⟩
    intro rs2 k1 k2
    refine ih (i + 1) rs2 (by omega) (by omega) ?_ n (by omega)
    intro i' j a1 a2 a3
    by_cases c : i' = i
    · subst c; exact k1 j a3
    · rw [k2 _ (by omega)]; exact h1 i' j a1 (by omega) a3
theorem rv_67 {post : SX → Prop} {J : ld_JX} {s e i : Nat} (hO : O ≤ 5) (hI : I ≤ 5) (hC : C ≤ 32) (hs : s < 8) (hr : ld_row cd O I C s) (hi : i < O) :
    ∀ (d j : Nat) (w : ex_M), j + d = I → J (nI (i + 1)) (nI O) (nI I) xm (nI C) xp (nI N) xq xg xr sg sb sl sr cd ((List.range' j d).foldl (fun w j => upd w (ex_ix cd 2 (s * 13) i j) (rs (i * 5 + j))) w) rs ed gp sq → ∀ n, d < n → wX_runVector_67 post J (nI s) (nI e) (nI i) n (nI j) (nI O) (nI I) xm (nI C) xp (nI N) xq xg xr sg sb sl sr cd w rs ed gp sq := by
  intro d
  induction d with
  | zero =>
    intro j w hd h n hn
    obtain ⟨n, rfl⟩ : ∃ m, n = m + 1 := ⟨n - 1, by omega⟩
    exact br_t (nI_le (by omega) (by omega)) (nm_r (nI_1 i) h)
  | succ d ih =>
    intro j w hd h n hn
    obtain ⟨n, rfl⟩ : ∃ m, n = m + 1 := ⟨n - 1, by omega⟩
    rw [List.range'_succ, List.foldl_cons] at h
    refine br_f (nI_ge (by omega) (by omega)) ?_
    rw [show nI i * 5 = nI (i * 5) from pk_mul i 5, nI_add, nI_clamp (show i * 5 + j < 2 ^ 31 by omega)]
    exact ⟨vp_in_nI (by omega) (by decide), xw_walk (m := 2) rfl hO hI hC (by omega) hi (by omega) hs hr (nm_r (nI_1 j) (ih (j + 1) _ (by omega) h n (by omega)))⟩
theorem rv_58 {post : SX → Prop} {s e : Nat} (hO : O ≤ 5) (hI : I ≤ 5) (hC : C ≤ 32) (hs : s < 8) (hr : ld_row cd O I C s) (he : e ≤ O) :
    ∀ (d i : Nat) (w : ex_M), i + d = e → post ((nI O), (nI I), xm, (nI C), xp, (nI N), xq, xg, xr, sg, sb, sl, sr, cd, (List.range' i d).foldl (fun w i => (List.range' 0 I).foldl (fun w j => upd w (ex_ix cd 2 (s * 13) i j) (rs (i * 5 + j))) w) w, rs, ed, gp, sq) → ∀ n, d < n → wX_runVector_58 post (nI s) (nI e) n (nI i) (nI O) (nI I) xm (nI C) xp (nI N) xq xg xr sg sb sl sr cd w rs ed gp sq := by
  intro d
  induction d with
  | zero =>
    intro i w hd h n hn
    obtain ⟨n, rfl⟩ : ∃ m, n = m + 1 := ⟨n - 1, by omega⟩
    exact br_t (nI_le (by omega) (by omega)) h
  | succ d ih =>
    intro i w hd h n hn
    obtain ⟨n, rfl⟩ : ∃ m, n = m + 1 := ⟨n - 1, by omega⟩
    rw [List.range'_succ, List.foldl_cons] at h
    exact br_f (nI_ge (by omega) (by omega)) ⟨I + 1, rv_67 hO hI hC hs hr (by omega) I 0 w (by omega) (ih (i + 1) _ (by omega) h n (by omega)) _ (by omega)⟩
theorem rv_walk {post : SX → Prop} {s b e : Nat} {p1 p2 : Int32} (e1 : p1 = nI b) (e2 : p2 = nI e) (hO : O ≤ 5) (hI : I ≤ 5) (hC : C ≤ 32) (hs : s < 8) (hr : ld_row cd O I C s) (hb : b ≤ e) (he : e ≤ O)
    (h : ∀ rs' : Nat → Int32, post ((nI O), (nI I), xm, (nI C), xp, (nI N), xq, xg, xr, sg, sb, sl, sr, cd, ex_vec cd s I b (e - b) wd wd, rs', ed, gp, sq)) : wpX_runVector post ((nI O), (nI I), xm, (nI C), xp, (nI N), xq, xg, xr, sg, sb, sl, sr, cd, wd, rs, ed, gp, sq) (nI s) p1 p2 := by
  subst e1 e2
  refine ⟨e - b + 1, rv_3 hO hI hC hs hr he ?_ (e - b) b rs (by omega) (by omega) (fun i' j a1 a2 => by omega) _ (by omega)⟩
  intro rs' k
  refine ⟨e - b + 1, rv_58 hO hI hC hs hr he (e - b) b wd (by omega) ?_ _ (by omega)⟩
  have e3 : (List.range' b (e - b)).foldl (fun w i => (List.range' 0 I).foldl (fun w j => upd w (ex_ix cd 2 (s * 13) i j) (rs' (i * 5 + j))) w) wd = ex_vec cd s I b (e - b) wd wd := by
    unfold ex_vec
    apply fo_cg
    intro i hi w
    have hi2 := List.mem_range'_1.mp hi
    apply fo_cg
    intro j hj w
    have hj2 := List.mem_range'_1.mp hj
    rw [k i j (by omega) (by omega) (by omega)]
  rw [e3]
  exact h rs'
/-- the inner groups as sets -/
theorem rg_walk {post : SX → Prop} {i g K : Nat} {rk : Nat → Nat} (hO : O ≤ 5) (hI : I ≤ 5) (hC : C ≤ 32) (hN : N ≤ 8) (hi : i < O) (hrow : ∀ s, s < N → ld_row cd O I C s) (hE : bg_ok ed 8 (ld_G cd O I N 2)) (hg : fg_ok gp 8 N (ld_G cd O I N 2))
    (hK : gr_Can (ld_G cd O I N 2) N rk K) (hq : og_ok sq 8 N rk K) (hgK : g < K)
    (h : ∀ rs' : Nat → Int32, post ((nI O), (nI I), xm, (nI C), xp, (nI N), xq, xg, xr, sg, sb, sl, sr, cd, ex_row cd 2 (fun s => decide (rk s = g)) N I i wd, rs', ed, gp, sq)) : wpX_runGroup post ((nI O), (nI I), xm, (nI C), xp, (nI N), xq, xg, xr, sg, sb, sl, sr, cd, wd, rs, ed, gp, sq) (sq (8 + g)) (nI i) := by
  have bits := hq g
  have sel : ∀ s, s < N → bt (sq (8 + g)) s = decide (rk s = g) := by
    intro s hs
    by_cases c : rk s = g
    · rw [decide_eq_true c]; exact (bits s hgK (by omega)).mpr ⟨hs, c⟩
    · rw [decide_eq_false c]; exact za_nt (fun z => c ((bits s hgK (by omega)).mp z).2)
  obtain ⟨t, t1, t2, _⟩ := hK.2 g hgK
  unfold wpX_runGroup
  dsimp only
  refine lo_walk ⟨t, by omega, (bits t hgK (by omega)).mpr ⟨t1, t2⟩⟩ ?_
  intro s hs8 hs1 _
  obtain ⟨hsN, hsg⟩ := (bits s hgK (by omega)).mp hs1
  refine cy_walk (v := 2) rfl hN (by omega) (by omega) hsN hE ld_GN hg (fun _ => br_f (by decide) ?_) (fun nt only ns => br_t rfl ?_)
  · refine xr_walk (m := 2) rfl hO hI hC hN (by omega) hi hrow ?_
    rw [ex_row_c sel]
    exact h rs
  · refine rv_walk (b := i) (e := i + 1) rfl (nI_1 i) hO hI hC hs8 (hrow s hsN) (by omega) (by omega) ?_
    intro rs'
    have hE2 : ¬ ld_E cd O I 2 s s := fun z => ns ⟨hsN, hsN, z⟩
    rw [show i + 1 - i = 1 by omega, ex_vec_ok (v := 2) hO hI hC (hrow s hsN) (by omega) (Or.inr ⟨rfl, by omega⟩) hE2]
    have := h rs'
    rw [ex_row_1 (s0 := s) hsN] at this
    · exact this
    · intro x hx
      rw [decide_eq_true_eq]
      constructor
      · intro z
        exact only x ((gr_can_S hK hsN hx).mp (by rw [hsg, z]))
      · intro z
        rw [z]; exact hsg
theorem rp_54 {post : SX → Prop} {J : ld_JX} {i K p K1 : Nat} {rk pc : Nat → Nat} {x3 mem : Int32} (hO : O ≤ 5) (hI : I ≤ 5) (hC : C ≤ 32) (hN : N ≤ 8) (hi : i < O) (hrow : ∀ s, s < N → ld_row cd O I C s) (hE : bg_ok ed 8 (ld_G cd O I N 2)) (hg : fg_ok gp 8 N (ld_G cd O I N 2))
    (hK : gr_Can (ld_G cd O I N 2) N rk K) (hq : og_ok sq 8 N rk K) (hm : ∀ s, s < 32 → (bt mem s = true ↔ (s < N ∧ pc s = p))) (hrp : ∀ s t, s < N → t < N → rk s = rk t → pc s = pc t) :
    ∀ (d g : Nat) (w : ex_M) (rs : Nat → Int32), g + d = K → (∀ rs' : Nat → Int32, J (nI (i + 1)) (nI O) (nI I) xm (nI C) xp (nI N) xq (nI K) xr sg sb sl sr cd ((List.range' g d).foldl (fun w g => ex_row cd 2 (fun s => decide (rk s = g) && decide (pc s = p)) N I i w) w) rs' ed gp sq) → ∀ n, d < n →
    wX_runPiece_54 post J mem x3 (nI i) n (nI g) (nI O) (nI I) xm (nI C) xp (nI N) xq (nI K) xr sg sb sl sr cd w rs ed gp sq := by
  have hKN := gr_can_le hK
  intro d
  induction d with
  | zero =>
    intro g w rs hd h n hn
    obtain ⟨n, rfl⟩ : ∃ m, n = m + 1 := ⟨n - 1, by omega⟩
    exact br_t (nI_le (by omega) (by omega)) (nm_r (nI_1 i) (h rs))
  | succ d ih =>
    intro g w rs hd h n hn
    obtain ⟨n, rfl⟩ : ∃ m, n = m + 1 := ⟨n - 1, by omega⟩
    have bits := hq g
    obtain ⟨t, t1, t2, _⟩ := hK.2 g (by omega)
    rw [List.range'_succ] at h
    refine br_f (nI_ge (by omega) (by omega)) ?_
    rw [show (8 : Int32) + nI g = nI (8 + g) from nI_add 8 g, nI_clamp (show 8 + g < 2 ^ 31 by omega)]
    have hin : vp_in (nI (8 + g)) 16 := vp_in_nI (by omega) (by decide)
    refine ⟨hin, br_c (fun z => nm_r (nI_1 g) (ih (g + 1) w rs (by omega) ?_ n (by omega))) (fun z => ⟨hin, rg_walk hO hI hC hN hi hrow hE hg hK hq (by omega) ?_⟩)⟩
    · intro rs'
      have h' := h rs'
      rw [List.foldl_cons] at h'
      have e : ex_row cd 2 (fun s => decide (rk s = g) && decide (pc s = p)) N I i w = w := by
        have none : ∀ s, s < N → (decide (rk s = g) && decide (pc s = p)) = false := by
          intro s hs
          apply za_nt
          intro y
          rw [Bool.and_eq_true, decide_eq_true_eq, decide_eq_true_eq] at y
          have b1 := (bits s (by omega) (by omega)).mpr ⟨hs, y.1⟩
          have b2 := (hm s (by omega)).mpr ⟨hs, y.2⟩
          have := b_and (sq (8 + g)) mem s
          rw [z, b_0, b1, b2] at this
          cases this
        have cell : ∀ j w, ex_cell cd 2 (fun s => decide (rk s = g) && decide (pc s = p)) N i j w = w := by
          intro j w
          exact fo_none N 0 (fun s _ hs => none s (by omega)) w
        unfold ex_row
        have : ∀ (l : List Nat) (w : ex_M), l.foldl (fun w j => ex_cell cd 2 (fun s => decide (rk s = g) && decide (pc s = p)) N i j w) w = w := by
          intro l
          induction l with
          | nil => intro w; rfl
          | cons a l ih' =>
            intro w
            rw [List.foldl_cons, cell]
            exact ih' w
        exact this _ w
      rw [e] at h'
      exact h'
    · intro rs'
      refine nm_r (nI_1 g) (ih (g + 1) _ rs' (by omega) ?_ n (by omega))
      intro rs2
      have h' := h rs2
      rw [List.foldl_cons] at h'
      obtain ⟨s, hs, hbs⟩ := za_nz z
      rw [b_and, Bool.and_eq_true, bits s (by omega) hs, hm s hs] at hbs
      have e : ex_row cd 2 (fun s => decide (rk s = g) && decide (pc s = p)) N I i w = ex_row cd 2 (fun s => decide (rk s = g)) N I i w := by
        apply ex_row_c
        intro x hx
        by_cases c : rk x = g
        · rw [decide_eq_true c, decide_eq_true (show pc x = p from by rw [← hbs.2.2]; exact hrp x s hx hbs.1.1 (by rw [c, hbs.1.2])), Bool.and_true]
        · rw [decide_eq_false c, Bool.false_and]
      rw [e] at h'
      exact h'
theorem rp_38 {post : SX → Prop} {K p : Nat} {rk pc : Nat → Nat} {mem : Int32} (hO : O ≤ 5) (hI : I ≤ 5) (hC : C ≤ 32) (hN : N ≤ 8) (hrow : ∀ s, s < N → ld_row cd O I C s) (hE : bg_ok ed 8 (ld_G cd O I N 2)) (hg : fg_ok gp 8 N (ld_G cd O I N 2))
    (hK : gr_Can (ld_G cd O I N 2) N rk K) (hq : og_ok sq 8 N rk K) (hm : ∀ s, s < 32 → (bt mem s = true ↔ (s < N ∧ pc s = p))) (hrp : ∀ s t, s < N → t < N → rk s = rk t → pc s = pc t) :
    ∀ (d i : Nat) (w : ex_M) (rs : Nat → Int32), i + d = O → (∀ rs' : Nat → Int32, post ((nI O), (nI I), xm, (nI C), xp, (nI N), xq, nI K, xr, sg, sb, sl, sr, cd, (List.range' i d).foldl (fun w i => ex_row cd 2 (fun s => decide (pc s = p)) N I i w) w, rs', ed, gp, sq)) → ∀ n, d < n →
    wX_runPiece_38 post mem 0 n (nI i) (nI O) (nI I) xm (nI C) xp (nI N) xq (nI K) xr sg sb sl sr cd w rs ed gp sq := by
  intro d
  induction d with
  | zero =>
    intro i w rs hd h n hn
    obtain ⟨n, rfl⟩ : ∃ m, n = m + 1 := ⟨n - 1, by omega⟩
    exact br_t (nI_le (by omega) (by omega)) (h rs)
  | succ d ih =>
    intro i w rs hd h n hn
    obtain ⟨n, rfl⟩ : ∃ m, n = m + 1 := ⟨n - 1, by omega⟩
    rw [List.range'_succ] at h
    refine br_f (nI_ge (by omega) (by omega)) (br_t rfl ⟨K + 1, rp_54 (p := p) (pc := pc) (K1 := 0) hO hI hC hN (by omega) hrow hE hg hK hq hm hrp K 0 w rs (by omega) ?_ _ (by omega)⟩)
    intro rs'
    refine ih (i + 1) _ rs' (by omega) ?_ n (by omega)
    intro rs2
    have h' := h rs2
    rw [List.foldl_cons, ex_groups hO hI hC hrow (by omega) hK] at h'
    · exact h'
    · intro s t hs ht e
      rw [hrp s t hs ht e]
/-- one piece -/
theorem rp_walk {post : SX → Prop} {K K1 p : Nat} {rk pc : Nat → Nat} (hO : O ≤ 5) (hO1 : 1 ≤ O) (hI : I ≤ 5) (hC : C ≤ 32) (hN : N ≤ 8) (hrow : ∀ s, s < N → ld_row cd O I C s)
    (hE1 : bg_ok ed 0 (ld_G cd O I N 1)) (hg1 : fg_ok gp 0 N (ld_G cd O I N 1)) (hK1 : gr_Can (ld_G cd O I N 1) N pc K1) (hq1 : og_ok sq 0 N pc K1)
    (hE : bg_ok ed 8 (ld_G cd O I N 2)) (hg : fg_ok gp 8 N (ld_G cd O I N 2)) (hK : gr_Can (ld_G cd O I N 2) N rk K) (hq : og_ok sq 8 N rk K) (hp : p < K1)
    (h : ∀ rs' : Nat → Int32, post ((nI O), (nI I), xm, (nI C), xp, (nI N), xq, nI K, xr, sg, sb, sl, sr, cd, ex_nest cd 2 (fun s => decide (pc s = p)) N I O wd, rs', ed, gp, sq)) : wpX_runPiece post ((nI O), (nI I), xm, (nI C), xp, (nI N), xq, nI K, xr, sg, sb, sl, sr, cd, wd, rs, ed, gp, sq) (sq p) := by
  have bits : ∀ i, i < 32 → (bt (sq p) i = true ↔ (i < N ∧ pc i = p)) := by
    intro i hi
    have := hq1 p i hp hi
    rw [Nat.zero_add] at this
    exact this
  have hrp : ∀ s t, s < N → t < N → rk s = rk t → pc s = pc t := by
    intro s t hs ht e
    exact (gr_can_S hK1 hs ht).mpr (gr_Smono (fun a b z => ⟨z.1, z.2.1, ld_E_mono z.2.2⟩) ((gr_can_S hK hs ht).mp e))
  obtain ⟨t, t1, t2, _⟩ := hK1.2 p hp
  unfold wpX_runPiece
  dsimp only
  refine lo_walk ⟨t, by omega, (bits t (by omega)).mpr ⟨t1, t2⟩⟩ ?_
  intro s hs8 hs1 _
  obtain ⟨hsN, hsp⟩ := (bits s (by omega)).mp hs1
  refine cy_walk (v := 1) rfl hN (by omega) (by omega) hsN hE1 ld_GN hg1 (fun _ => br_f (by decide) ?_) (fun nt only ns => br_t rfl ?_)
  · exact br_t rfl ⟨O + 1, rp_38 (p := p) (pc := pc) hO hI hC hN hrow hE hg hK hq bits hrp O 0 wd rs (by omega) h _ (by omega)⟩
  · refine br_f (by decide) (rv_walk (b := 0) (e := O) rfl rfl hO hI hC hs8 (hrow s hsN) (by omega) (by omega) ?_)
    intro rs'
    have hE2 : ¬ ld_E cd O I 1 s s := fun z => ns ⟨hsN, hsN, z⟩
    rw [Nat.sub_zero, ex_vec_ok (v := 1) hO hI hC (hrow s hsN) (by omega) (Or.inl rfl) hE2]
    have := h rs'
    rw [ex_nest_1 (s0 := s) hsN] at this
    · exact ⟨1, br_f (nI_nle (by omega) (by omega)) (br_f (by decide) this)⟩
    · intro x hx
      rw [decide_eq_true_eq]
      constructor
      · intro z
        exact only x ((gr_can_S hK1 hsN hx).mp (by rw [hsp, z]))
      · intro z
        rw [z]; exact hsp
end
end
section
section
variable {O I C N : Nat} {xm xp xq xr : Int32} {cd wd ye yp yc : Nat → Int32}
theorem yr_ix {m ar q : Nat} : nI m * 128 + nI ar * 32 + nI q = nI (m * 128 + ar * 32 + q) := by
  rw [show nI m * 128 = nI (m * 128) from pk_mul m 128, show nI ar * 32 = nI (ar * 32) from pk_mul ar 32, nI_add, nI_add]
theorem yr_walk {post : Int32 → Prop} {m ar q : Nat} (hC : C ≤ 32) (hm : m ≤ 2) (ha : ar ≤ 3) (hq : q < C) (h : post (wd (m * 128 + ar * 32 + q))) : wpY_read post ((nI O), (nI I), xm, (nI C), xp, (nI N), xq, xr, cd, wd, ye, yp, yc) (nI m) (nI ar) (nI q) := by
  refine br_f (nI_pos (by omega)) (br_f (nI_nlt (b := m) (a := 2) (by omega) (by omega)) (br_f (nI_pos (by omega)) (br_f (nI_nlt (b := ar) (a := 3) (by omega) (by omega)) (br_f (nI_pos (by omega)) (br_t (nI_lt hq (by omega)) ?_)))))
  rw [yr_ix, nI_clamp (show m * 128 + ar * 32 + q < 2 ^ 31 by omega)]
  exact ⟨vp_in_nI (by omega) (by decide), h⟩
theorem yt_walk {post : Int32 → SY → Prop} {m ar q : Nat} {v : Int32} (hC : C ≤ 32) (hm : m ≤ 2) (ha : ar ≤ 3) (hq : q < C) (h : post 0 ((nI O), (nI I), xm, (nI C), xp, (nI N), xq, xr, cd, upd wd (m * 128 + ar * 32 + q) v, ye, yp, yc)) : wpY_put post ((nI O), (nI I), xm, (nI C), xp, (nI N), xq, xr, cd, wd, ye, yp, yc) (nI m) (nI ar) (nI q) v := by
  refine br_f (nI_pos (by omega)) (br_f (nI_nlt (b := ar) (a := 3) (by omega) (by omega)) (br_f (nI_pos (by omega)) (br_t (nI_lt hq (by omega)) ?_)))
  rw [yr_ix, nI_clamp (show m * 128 + ar * 32 + q < 2 ^ 31 by omega)]
  exact ⟨vp_in_nI (by omega) (by decide), nm_e h⟩
theorem yf_walk {post : Int32 → Prop} {m s a pl n : Nat} {p0 p2 : Int32} (e0 : p0 = nI m) (e2 : p2 = nI a) (hpl : pl = s * 13 + a * 4) (hO : O ≤ 5) (hI : I ≤ 5) (hC : C ≤ 32) (hm : m ≤ 2) (hn : n < 25) (hi : n / 5 < O) (hj : n % 5 < I) (hb : pl + 3 < 117) (hop : ld_op cd O I C pl)
    (h : post (ex_ft cd m pl (n / 5) (n % 5) wd)) : wpY_fetch post ((nI O), (nI I), xm, (nI C), xp, (nI N), xq, xr, cd, wd, ye, yp, yc) p0 (nI s) p2 (nI n) := by
  subst e0
  unfold wpY_fetch
  dsimp only
  refine ys_walk e2 hpl hb hn ?_
  rw [ys_pl e2 hpl]
  refine ⟨vp_in_nI (by omega) (by decide), nm_r (e' := cd pl) (by rw [nI_clamp (by omega)]) (br_c (fun z => ?_) (fun z => ?_))⟩
  · unfold ex_ft at h
    rw [if_neg (by rw [z]; exact ex_m1)] at h
    exact h
  · have ha : ld_ac cd O I C pl := hop.elim (fun w => absurd w z) id
    obtain ⟨ar, q, a1, a2, a3, a4, a5, a6⟩ := ex_pl ha hO hI hC hi hj hm
    unfold ex_ft at h
    rw [if_pos (by rw [a3]; exact nI_pos' (by omega)), a6] at h
    rw [a3, a4]
    exact yr_walk hC hm a1 a2 h
theorem yx_walk {post : SY → Prop} {m s n : Nat} {p0 : Int32} (e0 : p0 = nI m) (hO : O ≤ 5) (hI : I ≤ 5) (hC : C ≤ 32) (hm : m ≤ 2) (hn : n < 25) (hi : n / 5 < O) (hj : n % 5 < I) (hs : s < 8) (hr : ld_row cd O I C s)
    (h : post ((nI O), (nI I), xm, (nI C), xp, (nI N), xq, xr, cd, ex_ac cd m s (n / 5) (n % 5) wd, ye, yp, yc)) : wpY_execute post ((nI O), (nI I), xm, (nI C), xp, (nI N), xq, xr, cd, wd, ye, yp, yc) p0 (nI s) (nI n) := by
  subst e0
  obtain ⟨ar, q, a1, a2, a3, a4, a5, a6⟩ := ex_pl hr.1 hO hI hC hi hj hm
  unfold ex_ac at h
  rw [a6] at h
  unfold ex_ev at h
  unfold wpY_execute
  dsimp only
  refine yf_walk (a := 1) (pl := s * 13 + 4) rfl rfl (by omega) hO hI hC hm hn hi hj (by omega) hr.2.1 (yf_walk (a := 2) (pl := s * 13 + 8) rfl rfl (by omega) hO hI hC hm hn hi hj (by omega) hr.2.2 ?_)
  rw [xx_13]
  refine ⟨za_ai 12 (by omega), nm_r (e' := cd (s * 13 + 12)) (by rw [za_ac 12 (by omega)]) (ys_walk (a := 0) (f := s * 13) rfl (by omega) (by omega) hn ⟨vp_in_nI (by omega) (by decide), ?_⟩)⟩
  rw [nI_clamp (show s * 13 < 2 ^ 31 by omega), a3, a4]
  refine br_c (fun z => ?_) (fun z => br_c (fun y => ?_) (fun y => ?_))
  · rw [if_pos z] at h
    exact yt_walk hC hm a1 a2 h
  · rw [if_neg z, if_pos y] at h
    exact yt_walk hC hm a1 a2 h
  · rw [if_neg z, if_neg y] at h
    exact yt_walk hC hm a1 a2 h
theorem yu_11a {post : SY → Prop} {J : ld_JY} {m n : Nat} {x2 : Int32} {S : Nat → Bool} (hO : O ≤ 5) (hI : I ≤ 5) (hC : C ≤ 32) (hN : N ≤ 8) (hm : m ≤ 2) (hn : n < 25) (hi : n / 5 < O) (hj : n % 5 < I) (hrow : ∀ s, s < N → ld_row cd O I C s)
    (hS : ∀ s, s < N → (S s = true → (x2 < 0 ∨ (¬ x2 < 0 ∧ yc s = x2))) ∧ (S s = false → ¬ x2 < 0 ∧ ¬ yc s = x2)) :
    ∀ (d s : Nat) (w : ex_M), s + d = N → J (nI (n + 1)) (nI O) (nI I) xm (nI C) xp (nI N) xq xr cd ((List.range' s d).foldl (fun w s => if S s = true then ex_ac cd m s (n / 5) (n % 5) w else w) w) ye yp yc → ∀ k, d < k → wY_run_11 post J (nI m) x2 (nI n) k (nI s) (nI O) (nI I) xm (nI C) xp (nI N) xq xr cd w ye yp yc := by
  intro d
  induction d with
  | zero =>
    intro s w hd h k hk
    obtain ⟨k, rfl⟩ : ∃ m, k = m + 1 := ⟨k - 1, by omega⟩
    exact br_t (nI_le (by omega) (by omega)) (nm_r (nI_1 n) h)
  | succ d ih =>
    intro s w hd h k hk
    obtain ⟨k, rfl⟩ : ∃ m, k = m + 1 := ⟨k - 1, by omega⟩
    rw [List.range'_succ, List.foldl_cons] at h
    refine br_f (nI_ge (by omega) (by omega)) (yn_walk hn hO hI (fun _ _ => br_f (by decide) ?_) (fun z => absurd ⟨hi, hj⟩ z))
    rw [nI_clamp (show s < 2 ^ 31 by omega)]
    have hin : vp_in (nI s) 8 := vp_in_nI (by omega) (by decide)
    cases c : S s
    · obtain ⟨z1, z2⟩ := (hS s (by omega)).2 c
      rw [c] at h
      exact br_f z1 ⟨hin, br_f z2 (nm_r (nI_1 s) (ih (s + 1) w (by omega) h k (by omega)))⟩
    · rw [c] at h
      have go : wY_run_43 post J (wY_run_11 post J (nI m) x2 (nI n) k) (nI m) x2 (nI n) (nI s) (nI O) (nI I) xm (nI C) xp (nI N) xq xr cd w ye yp yc :=
        yx_walk rfl hO hI hC hm hn hi hj (by omega) (hrow s (by omega)) (nm_r (nI_1 s) (ih (s + 1) _ (by omega) h k (by omega)))
      rcases (hS s (by omega)).1 c with z | ⟨z1, z2⟩
      · exact br_t z go
      · exact br_f z1 ⟨hin, br_t z2 go⟩
theorem yu_11b {post : SY → Prop} {J : ld_JY} {m n : Nat} {x2 : Int32} (hO : O ≤ 5) (hI : I ≤ 5) (hN : N ≤ 8) (hn : n < 25) (hij : ¬ (n / 5 < O ∧ n % 5 < I)) :
    ∀ (d s : Nat), s + d = N → J (nI (n + 1)) (nI O) (nI I) xm (nI C) xp (nI N) xq xr cd wd ye yp yc → ∀ k, d < k → wY_run_11 post J (nI m) x2 (nI n) k (nI s) (nI O) (nI I) xm (nI C) xp (nI N) xq xr cd wd ye yp yc := by
  intro d
  induction d with
  | zero =>
    intro s hd h k hk
    obtain ⟨k, rfl⟩ : ∃ m, k = m + 1 := ⟨k - 1, by omega⟩
    exact br_t (nI_le (by omega) (by omega)) (nm_r (nI_1 n) h)
  | succ d ih =>
    intro s hd h k hk
    obtain ⟨k, rfl⟩ : ∃ m, k = m + 1 := ⟨k - 1, by omega⟩
    exact br_f (nI_ge (by omega) (by omega)) (yn_walk hn hO hI (fun a b => absurd ⟨a, b⟩ hij) (fun _ => br_t rfl (nm_r (nI_1 s) (ih (s + 1) (by omega) h k (by omega)))))
theorem yu_2 {post : SY → Prop} {m : Nat} {x2 : Int32} {S : Nat → Bool} (hO : O ≤ 5) (hI : I ≤ 5) (hC : C ≤ 32) (hN : N ≤ 8) (hm : m ≤ 2) (hrow : ∀ s, s < N → ld_row cd O I C s)
    (hS : ∀ s, s < N → (S s = true → (x2 < 0 ∨ (¬ x2 < 0 ∧ yc s = x2))) ∧ (S s = false → ¬ x2 < 0 ∧ ¬ yc s = x2)) :
    ∀ (d n : Nat) (w : ex_M), n + d = 25 → post ((nI O), (nI I), xm, (nI C), xp, (nI N), xq, xr, cd, (List.range' n d).foldl (fun w n => if n / 5 < O ∧ n % 5 < I then ex_cell cd m S N (n / 5) (n % 5) w else w) w, ye, yp, yc) → ∀ k, d < k → wY_run_2 post (nI m) x2 k (nI n) (nI O) (nI I) xm (nI C) xp (nI N) xq xr cd w ye yp yc := by
  intro d
  induction d with
  | zero =>
    intro n w hd h k hk
    obtain ⟨k, rfl⟩ : ∃ m, k = m + 1 := ⟨k - 1, by omega⟩
    exact br_t (nI_le (a := 25) (by omega) (by omega)) h
  | succ d ih =>
    intro n w hd h k hk
    obtain ⟨k, rfl⟩ : ∃ m, k = m + 1 := ⟨k - 1, by omega⟩
    rw [List.range'_succ, List.foldl_cons] at h
    refine br_f (nI_ge (b := 25) (by omega) (by decide)) ⟨N + 1, ?_⟩
    by_cases c : n / 5 < O ∧ n % 5 < I
    · rw [if_pos c] at h
      exact yu_11a hO hI hC hN hm (by omega) c.1 c.2 hrow hS N 0 w (by omega) (ih (n + 1) _ (by omega) h k (by omega)) _ (by omega)
    · rw [if_neg c] at h
      exact yu_11b hO hI hN (by omega) c N 0 (by omega) (ih (n + 1) _ (by omega) h k (by omega)) _ (by omega)
theorem yu_walk {post : SY → Prop} {m : Nat} {x2 p0 : Int32} {S : Nat → Bool} (e0 : p0 = nI m) (hO : O ≤ 5) (hO1 : 1 ≤ O) (hI : I ≤ 5) (hI1 : 1 ≤ I) (hC : C ≤ 32) (hN : N ≤ 8) (hm : m ≤ 2) (hrow : ∀ s, s < N → ld_row cd O I C s)
    (hS : ∀ s, s < N → (S s = true → (x2 < 0 ∨ (¬ x2 < 0 ∧ yc s = x2))) ∧ (S s = false → ¬ x2 < 0 ∧ ¬ yc s = x2))
    (h : post ((nI O), (nI I), xm, (nI C), xp, (nI N), xq, xr, cd, ex_nest cd m S N I O wd, ye, yp, yc)) : wpY_run post ((nI O), (nI I), xm, (nI C), xp, (nI N), xq, xr, cd, wd, ye, yp, yc) p0 x2 := by
  subst e0
  refine ⟨26, yu_2 hO hI hC hN hm hrow hS 25 0 wd (by omega) ?_ _ (by omega)⟩
  rw [ex_25 hO hO1 hI hI1 (fun i j w => ex_cell cd m S N i j w)]
  exact h
theorem yz_12 {post : Int32 → SY → Prop} :
    ∀ (d k : Nat) (w : ex_M), k + d = 128 → wpY_run (fun u => match u with | (f_outer_4, f_inner_5, f_maxStatements_6, f_cells_7, f_phase_8, f_count_9, f_pieces_10, f_done_11, a_parts_12, a_words_13, a_edges_14, a_paths_15, a_piece_16) => post f_pieces_10 (f_outer_4, f_inner_5, f_maxStatements_6, f_cells_7, 2, f_count_9, f_pieces_10, 0, a_parts_12, a_words_13, a_edges_14, a_paths_15, a_piece_16)) ((nI O), (nI I), xm, (nI C), xp, (nI N), xq, xr, cd, st_cp d k w, ye, yp, yc) 1 (-1) → ∀ n, d < n → wY_start_12 post (nI O) (nI I) xm (nI C) xp (nI N) xq xr n (nI k) cd w ye yp yc := by
  intro d
  induction d with
  | zero =>
    intro k w hd h n hn
    obtain ⟨n, rfl⟩ : ∃ m, n = m + 1 := ⟨n - 1, by omega⟩
    exact br_t (nI_le (a := 128) (by omega) (by omega)) h
  | succ d ih =>
    intro k w hd h n hn
    obtain ⟨n, rfl⟩ : ∃ m, n = m + 1 := ⟨n - 1, by omega⟩
    refine br_f (nI_ge (b := 128) (by omega) (by decide)) ⟨vp_in_nI (by omega) (by decide), st_in (a := 128) (by omega) rfl, nm_r (e' := upd w (128 + k) (w k)) (by rw [st_ix (a := 128) (x := 128) (by omega) rfl, nI_clamp (by omega)]) ⟨vp_in_nI (by omega) (by decide), st_in (a := 256) (by omega) rfl, nm_r (e' := upd (upd w (128 + k) (w k)) (256 + k) (upd w (128 + k) (w k) k)) (by rw [st_ix (a := 256) (x := 256) (by omega) rfl, nI_clamp (by omega)]) (nm_r (nI_1 k) (ih (k + 1) _ (by omega) h n (by omega)))⟩⟩
theorem yz_walk {post : Int32 → SY → Prop} (hO : O ≤ 5) (hO1 : 1 ≤ O) (hI : I ≤ 5) (hI1 : 1 ≤ I) (hC : C ≤ 32) (hN : N ≤ 8) (hrow : ∀ s, s < N → ld_row cd O I C s) (hp : ¬ xp = 0)
    (h : post xq ((nI O), (nI I), xm, (nI C), 2, (nI N), xq, 0, cd, ex_nest cd 1 (fun _ => true) N I O (st_cp 128 0 wd), ye, yp, yc)) : wpY_start post ((nI O), (nI I), xm, (nI C), xp, (nI N), xq, xr, cd, wd, ye, yp, yc) :=
  br_f hp ⟨129, yz_12 128 0 wd (by omega) (yu_walk (m := 1) (S := fun _ => true) rfl hO hO1 hI hI1 hC hN (by omega) hrow (fun s _ => ⟨fun _ => Or.inl (by decide), fun z => Bool.noConfusion z⟩) h) _ (by omega)⟩
/-- the clearing of memories 1 and 2 -/
def ds_z : Nat → Nat → ex_M → ex_M
  | 0, _, w => w
  | d + 1, k, w => ds_z d (k + 1) (upd w k 0)
theorem yd_33 {post : Int32 → SY → Prop} {x1 : Int32} :
    ∀ (d k : Nat) (w : ex_M), k + d = 384 → post x1 ((nI O), (nI I), xm, (nI C), xp, (nI N), xq, xr, cd, ds_z d k w, ye, yp, yc) → ∀ n, d < n → wY_discard_33 post x1 (nI O) (nI I) xm (nI C) xp (nI N) xq xr n (nI k) cd w ye yp yc := by
  intro d
  induction d with
  | zero =>
    intro k w hd h n hn
    obtain ⟨n, rfl⟩ : ∃ m, n = m + 1 := ⟨n - 1, by omega⟩
    exact br_t (nI_le (a := 384) (by omega) (by omega)) h
  | succ d ih =>
    intro k w hd h n hn
    obtain ⟨n, rfl⟩ : ∃ m, n = m + 1 := ⟨n - 1, by omega⟩
    exact br_f (nI_ge (b := 384) (by omega) (by decide)) ⟨vp_in_nI (by omega) (by decide), nm_r (e' := upd w k 0) (by rw [nI_clamp (by omega)]) (nm_r (nI_1 k) (ih (k + 1) _ (by omega) h n (by omega)))⟩
theorem yq_walk {post : Int32 → SY → Prop} (h : post (nI N) ((nI O), (nI I), xm, (nI C), 0, 0, 0, 0, ld_dr cd 0 13, ds_z 256 128 wd, ye, yp, yc)) : wpY_discard post ((nI O), (nI I), xm, (nI C), xp, (nI N), xq, xr, cd, wd, ye, yp, yc) := by
  refine dy_walk (N := 0) (by omega) ?_
  exact ⟨257, yd_33 256 128 wd (by omega) h _ (by omega)⟩
end
section
variable {O I C N : Nat} {xm xp xq xg xr sg sb sl sr : Int32} {cd wd rs ed gp sq : Nat → Int32}
theorem xd_33 {post : Int32 → SX → Prop} {x1 : Int32} :
    ∀ (d k : Nat) (w : ex_M), k + d = 384 → post x1 ((nI O), (nI I), xm, (nI C), xp, (nI N), xq, xg, xr, sg, sb, sl, sr, cd, ds_z d k w, rs, ed, gp, sq) → ∀ n, d < n → wX_discard_33 post x1 (nI O) (nI I) xm (nI C) xp (nI N) xq xg xr sg sb sl sr n (nI k) cd w rs ed gp sq := by
  intro d
  induction d with
  | zero =>
    intro k w hd h n hn
    obtain ⟨n, rfl⟩ : ∃ m, n = m + 1 := ⟨n - 1, by omega⟩
    exact br_t (nI_le (a := 384) (by omega) (by omega)) h
  | succ d ih =>
    intro k w hd h n hn
    obtain ⟨n, rfl⟩ : ∃ m, n = m + 1 := ⟨n - 1, by omega⟩
    exact br_f (nI_ge (b := 384) (by omega) (by decide)) ⟨vp_in_nI (by omega) (by decide), nm_r (e' := upd w k 0) (by rw [nI_clamp (by omega)]) (nm_r (nI_1 k) (ih (k + 1) _ (by omega) h n (by omega)))⟩
theorem xq_walk {post : Int32 → SX → Prop} (h : post (nI N) ((nI O), (nI I), xm, (nI C), 0, 0, 0, xg, 0, sg, sb, sl, sr, ld_dr cd 0 13, ds_z 256 128 wd, rs, ed, gp, sq)) : wpX_discard post ((nI O), (nI I), xm, (nI C), xp, (nI N), xq, xg, xr, sg, sb, sl, sr, cd, wd, rs, ed, gp, sq) := by
  refine dx_walk (N := 0) (by omega) ?_
  exact ⟨257, xd_33 (N := 0) 256 128 wd (by omega) h _ (by omega)⟩
end
end
section
/-- the draft at b -/
def ld_df (cd : Nat → Int32) (O I C b : Nat) : Prop :=
  (cd b = -2 ∨ ld_ac cd O I C b) ∧ (cd (b + 4) = -2 ∨ ld_op cd O I C (b + 4)) ∧ (cd (b + 8) = -2 ∨ ld_op cd O I C (b + 8)) ∧ (cd b = -2 → cd (b + 4) = -2) ∧ (cd (b + 4) = -2 → cd (b + 8) = -2)
/-- the code: good rows, a good draft -/
def ld_cd (cd : Nat → Int32) (O I C N : Nat) : Prop := (∀ s, s < N → ld_row cd O I C s) ∧ ld_df cd O I C (N * 13)
theorem ld_cd_dr {cd : Nat → Int32} {O I C N : Nat} (h : ∀ s, s < N → ld_row cd O I C s) : ld_cd (ld_dr cd (N * 13) 13) O I C N :=
  ⟨ld_rows_dr h, Or.inl (ld_dr_0 _ _), Or.inl (ld_dr_4 _ _), Or.inl (ld_dr_8 _ _), fun _ => ld_dr_4 _ _, fun _ => ld_dr_8 _ _⟩
theorem ld_rows_pt {cd : Nat → Int32} {O I C N b : Nat} {p0 p1 p2 p3 : Int32} (hb : N * 13 ≤ b) (h : ∀ s, s < N → ld_row cd O I C s) : ∀ s, s < N → ld_row (ld_pt cd b p0 p1 p2 p3) O I C s :=
  fun s hs => ld_row_c (fun j hj => ld_pt_o (by omega)) (h s hs)
theorem ld_cd_tg {cd : Nat → Int32} {O I C N : Nat} {p0 p1 p2 p3 : Int32} (h : ∀ s, s < N → ld_row cd O I C s) (ha : ld_ac (ld_pt cd (N * 13) p0 p1 p2 p3) O I C (N * 13)) (h4 : cd (N * 13 + 4) = -2) (h8 : cd (N * 13 + 8) = -2) : ld_cd (ld_pt cd (N * 13) p0 p1 p2 p3) O I C N := by
  have e4 : ld_pt cd (N * 13) p0 p1 p2 p3 (N * 13 + 4) = -2 := by rw [ld_pt_o (by omega)]; exact h4
  have e8 : ld_pt cd (N * 13) p0 p1 p2 p3 (N * 13 + 8) = -2 := by rw [ld_pt_o (by omega)]; exact h8
  exact ⟨ld_rows_pt (by omega) h, Or.inr ha, Or.inl e4, Or.inl e8, fun _ => e4, fun _ => e8⟩
theorem ld_cd_o4 {cd : Nat → Int32} {O I C N : Nat} {p0 p1 p2 p3 : Int32} (h : ld_cd cd O I C N) (ht : ¬ cd (N * 13) = -2) (h8 : cd (N * 13 + 8) = -2) (ha : ld_op (ld_pt cd (N * 13 + 4) p0 p1 p2 p3) O I C (N * 13 + 4)) : ld_cd (ld_pt cd (N * 13 + 4) p0 p1 p2 p3) O I C N := by
  obtain ⟨h1, h2, h3, h4, h5, h6⟩ := h
  have e0 : ld_pt cd (N * 13 + 4) p0 p1 p2 p3 (N * 13) = cd (N * 13) := ld_pt_o (by omega)
  have e8 : ld_pt cd (N * 13 + 4) p0 p1 p2 p3 (N * 13 + 8) = -2 := by rw [ld_pt_o (by omega)]; exact h8
  refine ⟨ld_rows_pt (by omega) h1, Or.inr (ld_ac_c (fun j hj => ld_pt_o (by omega)) (h2.elim (fun z => absurd z ht) id)), Or.inr ha, Or.inl e8, fun z => ?_, fun _ => e8⟩
  rw [e0] at z; exact absurd z ht
theorem ld_cd_o8 {cd : Nat → Int32} {O I C N : Nat} {p0 p1 p2 p3 : Int32} (h : ld_cd cd O I C N) (ht : ¬ cd (N * 13) = -2) (h4 : ¬ cd (N * 13 + 4) = -2) (ha : ld_op (ld_pt cd (N * 13 + 8) p0 p1 p2 p3) O I C (N * 13 + 8)) : ld_cd (ld_pt cd (N * 13 + 8) p0 p1 p2 p3) O I C N := by
  obtain ⟨h1, h2, h3, h5, h6, h7⟩ := h
  have e0 : ld_pt cd (N * 13 + 8) p0 p1 p2 p3 (N * 13) = cd (N * 13) := ld_pt_o (by omega)
  have e4 : ld_pt cd (N * 13 + 8) p0 p1 p2 p3 (N * 13 + 4) = cd (N * 13 + 4) := ld_pt_o (by omega)
  refine ⟨ld_rows_pt (by omega) h1, Or.inr (ld_ac_c (fun j hj => ld_pt_o (by omega)) (h2.elim (fun z => absurd z ht) id)), Or.inr (ld_op_c (fun j hj => ld_pt_o (by omega)) (h3.elim (fun z => absurd z h4) id)), Or.inr ha, fun z => ?_, fun z => ?_⟩
  · rw [e0] at z; exact absurd z ht
  · rw [e4] at z; exact absurd z h4
theorem ld_cd_cm {cd : Nat → Int32} {O I C N : Nat} {p : Int32} (h : ld_cd cd O I C N) (h8 : ¬ cd (N * 13 + 8) = -2) : ld_cd (ld_dr (upd cd (N * 13 + 12) p) ((N + 1) * 13) 13) O I C (N + 1) := by
  obtain ⟨h1, h2, h3, h4, h5, h6⟩ := h
  have h4' : ¬ cd (N * 13 + 4) = -2 := fun z => h8 (h6 z)
  have h0' : ¬ cd (N * 13) = -2 := fun z => h4' (h5 z)
  apply ld_cd_dr
  intro s hs
  refine ld_row_c (fun j hj => pk_un (by omega)) ?_
  by_cases c : s = N
  · subst c
    exact ⟨h2.elim (fun z => absurd z h0') id, h3.elim (fun z => absurd z h4') id, h4.elim (fun z => absurd z h8) id⟩
  · exact h1 s (by omega)
section
variable {O I C N M ph : Nat} {xq xg xr sg sb sl sr : Int32} {cd wd rs ed gp sq ye yp yc : Nat → Int32}
/-- one answer and one code for both -/
def tg_Q (N' : Nat) (PX : (Int32 → SX → Prop) → Prop) (PY : (Int32 → SY → Prop) → Prop) (O I C N M ph : Nat) (xq xg xr sg sb sl sr : Int32) (cd wd rs ed gp sq ye yp yc : Nat → Int32) : Prop :=
  ∃ (r : Int32) (N' : Nat) (cd' : Nat → Int32), ld_cd cd' O I C N' ∧ N' ≤ M ∧ ((N' = N ∧ cd' = cd) ∨ ph = 0) ∧ (∀ post, post r ((nI O), (nI I), nI M, (nI C), nI ph, nI N', xq, xg, xr, sg, sb, sl, sr, cd', wd, rs, ed, gp, sq) → PX post) ∧ (∀ post, post r ((nI O), (nI I), nI M, (nI C), nI ph, nI N', xq, xr, cd', wd, ye, yp, yc) → PY post)
theorem tg_out {p0 p1 p2 p3 : Int32} (hO : O ≤ 5) (hO1 : 1 ≤ O) (hI : I ≤ 5) (hI1 : 1 ≤ I) (hC : C ≤ 32) (hM : M ≤ 8) (hNM : N ≤ M) (hph : ph ≤ 2) (hc : ld_cd cd O I C N) :
    tg_Q N (fun post => wpX_target post ((nI O), (nI I), nI M, (nI C), nI ph, (nI N), xq, xg, xr, sg, sb, sl, sr, cd, wd, rs, ed, gp, sq) p0 p1 p2 p3) (fun post => wpY_target post ((nI O), (nI I), nI M, (nI C), nI ph, (nI N), xq, xr, cd, wd, ye, yp, yc) p0 p1 p2 p3) O I C N M ph xq xg xr sg sb sl sr cd wd rs ed gp sq ye yp yc := by
  by_cases c0 : ph = 0
  · by_cases c1 : N < M
    · have h1 : nI ph = 0 := by rw [c0]; rfl
      have h2 : nI N < nI M := nI_lt c1 (by omega)
      by_cases c2 : ac_R C p0 p1 p2 p3
      · by_cases c3 : ac_In O I C p1.toInt p2.toInt p3.toInt
        · refine ⟨0, N, ld_pt (ld_dr cd (N * 13) 13) (N * 13) p0 p1 p2 p3, ld_cd_tg (ld_rows_dr hc.1) (ac_mk hC c2 c3) (ld_dr_4 _ _) (ld_dr_8 _ _), hNM, Or.inr c0, fun post h => br_t h1 (br_t h2 (xa_walk hO hO1 hI hI1 hC (fun z => absurd c2 z) (fun _ z => absurd c3 z) (fun _ _ => br_t rfl (dx_walk (by omega) (xp_walk xx_13 (by omega) h))))), fun post h => br_t h1 (br_t h2 (ya_walk hO hI hC (fun z => absurd c2 z) (fun _ z => absurd c3 z) (fun _ _ => br_t rfl (dy_walk (by omega) (yg_walk (a := 0) (b := N * 13) rfl (by omega) (by omega) h)))))⟩
        · exact ⟨-4, N, cd, hc, hNM, Or.inl ⟨rfl, rfl⟩, fun post h => br_t h1 (br_t h2 (xa_walk hO hO1 hI hI1 hC (fun z => absurd c2 z) (fun _ _ => br_f (by decide) h) (fun _ z => absurd z c3))), fun post h => br_t h1 (br_t h2 (ya_walk hO hI hC (fun z => absurd c2 z) (fun _ _ => br_f (by decide) h) (fun _ z => absurd z c3)))⟩
      · exact ⟨-3, N, cd, hc, hNM, Or.inl ⟨rfl, rfl⟩, fun post h => br_t h1 (br_t h2 (xa_walk hO hO1 hI hI1 hC (fun _ => br_f (by decide) h) (fun z => absurd z c2) (fun z => absurd z c2))), fun post h => br_t h1 (br_t h2 (ya_walk hO hI hC (fun _ => br_f (by decide) h) (fun z => absurd z c2) (fun z => absurd z c2)))⟩
    · have h1 : nI ph = 0 := by rw [c0]; rfl
      have h2 : ¬ nI N < nI M := nI_nlt (by omega) (by omega)
      exact ⟨-2, N, cd, hc, hNM, Or.inl ⟨rfl, rfl⟩, fun post h => br_t h1 (br_f h2 h), fun post h => br_t h1 (br_f h2 h)⟩
  · have h1 : ¬ nI ph = 0 := nI_ne0 (by omega) (by omega)
    exact ⟨-1, N, cd, hc, hNM, Or.inl ⟨rfl, rfl⟩, fun post h => br_f h1 h, fun post h => br_f h1 h⟩
/-- what both say of the next operand -/
theorem ro_out (hN : N ≤ 8) (hph : ph ≤ 2) (hc : ld_cd cd O I C N) :
    (∃ r : Int32, ¬ r = 0 ∧ ¬ 0 ≤ r ∧ (∀ post : Int32 → Prop, post r → wpX_operandRefusal post ((nI O), (nI I), nI M, (nI C), nI ph, (nI N), xq, xg, xr, sg, sb, sl, sr, cd, wd, rs, ed, gp, sq)) ∧ (∀ post : Int32 → Prop, post r → wpY_operandPlace post ((nI O), (nI I), nI M, (nI C), nI ph, (nI N), xq, xr, cd, wd, ye, yp, yc))) ∨
    (ph = 0 ∧ ¬ cd (N * 13) = -2 ∧ cd (N * 13 + 8) = -2 ∧ (∀ post : Int32 → Prop, post 0 → wpX_operandRefusal post ((nI O), (nI I), nI M, (nI C), nI ph, (nI N), xq, xg, xr, sg, sb, sl, sr, cd, wd, rs, ed, gp, sq)) ∧
      ((cd (N * 13 + 4) = -2 ∧ ∀ post : Int32 → Prop, post 1 → wpY_operandPlace post ((nI O), (nI I), nI M, (nI C), nI ph, (nI N), xq, xr, cd, wd, ye, yp, yc)) ∨ (¬ cd (N * 13 + 4) = -2 ∧ ∀ post : Int32 → Prop, post 2 → wpY_operandPlace post ((nI O), (nI I), nI M, (nI C), nI ph, (nI N), xq, xr, cd, wd, ye, yp, yc)))) := by
  have c13 : (nI N * 13).toNatClampNeg = N * 13 := by rw [xx_13, nI_clamp (by omega)]
  have c4 : (nI N * 13 + 4).toNatClampNeg = N * 13 + 4 := by rw [xx_13, za_ac 4 (by omega)]
  have c8 : (nI N * 13 + 8).toNatClampNeg = N * 13 + 8 := by rw [xx_13, za_ac 8 (by omega)]
  have i13 : vp_in (nI N * 13) 117 := by rw [xx_13]; exact vp_in_nI (by omega) (by decide)
  have i4 : vp_in (nI N * 13 + 4) 117 := by rw [xx_13]; exact za_ai 4 (by omega)
  have i8 : vp_in (nI N * 13 + 8) 117 := by rw [xx_13]; exact za_ai 8 (by omega)
  obtain ⟨_, _, _, _, h5, h6⟩ := hc
  by_cases c0 : ph = 0
  · have h1 : nI ph = 0 := by rw [c0]; rfl
    by_cases t : cd (N * 13) = -2
    · exact Or.inl ⟨-5, by decide, by decide, fun post h => br_t h1 ⟨i13, br_t (by rw [c13]; exact t) h⟩, fun post h => br_t h1 ⟨i13, br_t (by rw [c13]; exact t) h⟩⟩
    · by_cases o8 : cd (N * 13 + 8) = -2
      · refine Or.inr ⟨c0, t, o8, fun post h => br_t h1 ⟨i13, br_f (by rw [c13]; exact t) ⟨i8, br_t (by rw [c8]; exact o8) h⟩⟩, ?_⟩
        by_cases o4 : cd (N * 13 + 4) = -2
        · exact Or.inl ⟨o4, fun post h => br_t h1 ⟨i13, br_f (by rw [c13]; exact t) ⟨i4, br_t (by rw [c4]; exact o4) h⟩⟩⟩
        · exact Or.inr ⟨o4, fun post h => br_t h1 ⟨i13, br_f (by rw [c13]; exact t) ⟨i4, br_f (by rw [c4]; exact o4) ⟨i8, br_t (by rw [c8]; exact o8) h⟩⟩⟩⟩
      · have o4 : ¬ cd (N * 13 + 4) = -2 := fun z => o8 (h6 z)
        exact Or.inl ⟨-2, by decide, by decide, fun post h => br_t h1 ⟨i13, br_f (by rw [c13]; exact t) ⟨i8, br_f (by rw [c8]; exact o8) h⟩⟩, fun post h => br_t h1 ⟨i13, br_f (by rw [c13]; exact t) ⟨i4, br_f (by rw [c4]; exact o4) ⟨i8, br_f (by rw [c8]; exact o8) h⟩⟩⟩⟩
  · have h1 : ¬ nI ph = 0 := nI_ne0 (by omega) (by omega)
    exact Or.inl ⟨-1, by decide, by decide, fun post h => br_f h1 h, fun post h => br_f h1 h⟩
theorem xg_4 {post : SX → Prop} {xm xp p0 p1 p2 p3 : Int32} (hN : N ≤ 8) (h4 : cd (N * 13 + 4) = -2) (h : post ((nI O), (nI I), xm, (nI C), xp, (nI N), xq, xg, xr, sg, sb, sl, sr, ld_pt cd (N * 13 + 4) p0 p1 p2 p3, wd, rs, ed, gp, sq)) : wpX_giveOperand post ((nI O), (nI I), xm, (nI C), xp, (nI N), xq, xg, xr, sg, sb, sl, sr, cd, wd, rs, ed, gp, sq) p0 p1 p2 p3 := by
  refine nm_r (e' := nI (N * 13 + 4)) (by rw [xx_13]; exact nI_add _ 4) ⟨vp_in_nI (by omega) (by decide), br_t (by rw [nI_clamp (by omega)]; exact h4) ?_⟩
  exact xp_walk rfl (by omega) h
theorem xg_8 {post : SX → Prop} {xm xp p0 p1 p2 p3 : Int32} (hN : N ≤ 8) (h4 : ¬ cd (N * 13 + 4) = -2) (h : post ((nI O), (nI I), xm, (nI C), xp, (nI N), xq, xg, xr, sg, sb, sl, sr, ld_pt cd (N * 13 + 8) p0 p1 p2 p3, wd, rs, ed, gp, sq)) : wpX_giveOperand post ((nI O), (nI I), xm, (nI C), xp, (nI N), xq, xg, xr, sg, sb, sl, sr, cd, wd, rs, ed, gp, sq) p0 p1 p2 p3 := by
  refine nm_r (e' := nI (N * 13 + 4)) (by rw [xx_13]; exact nI_add _ 4) ⟨vp_in_nI (by omega) (by decide), br_f (by rw [nI_clamp (by omega)]; exact h4) ?_⟩
  exact xp_walk (nI_add (N * 13 + 4) 4) (by omega) h
theorem rd_out {p0 p1 p2 p3 : Int32} (hO : O ≤ 5) (hO1 : 1 ≤ O) (hI : I ≤ 5) (hI1 : 1 ≤ I) (hC : C ≤ 32) (hM : M ≤ 8) (hNM : N ≤ M) (hph : ph ≤ 2) (hc : ld_cd cd O I C N) :
    tg_Q N (fun post => wpX_readOperand post ((nI O), (nI I), nI M, (nI C), nI ph, (nI N), xq, xg, xr, sg, sb, sl, sr, cd, wd, rs, ed, gp, sq) p0 p1 p2 p3) (fun post => wpY_readOperand post ((nI O), (nI I), nI M, (nI C), nI ph, (nI N), xq, xr, cd, wd, ye, yp, yc) p0 p1 p2 p3) O I C N M ph xq xg xr sg sb sl sr cd wd rs ed gp sq ye yp yc := by
  rcases ro_out (M := M) (xq := xq) (xg := xg) (xr := xr) (sg := sg) (sb := sb) (sl := sl) (sr := sr) (wd := wd) (rs := rs) (ed := ed) (gp := gp) (sq := sq) (ye := ye) (yp := yp) (yc := yc) (show N ≤ 8 by omega) hph hc with ⟨r, r1, r2, hx, hy⟩ | ⟨c0, ht, h8, hx, hy⟩
  · refine ⟨r, N, cd, hc, hNM, Or.inl ⟨rfl, rfl⟩, fun post h => ?_, fun post h => ?_⟩
    · unfold wpX_readOperand
      exact hx _ (br_f r1 (br_f r1 h))
    · unfold wpY_readOperand
      exact hy _ (br_f r2 h)
  · by_cases c2 : ac_R C p0 p1 p2 p3
    · by_cases c3 : ac_In O I C p1.toInt p2.toInt p3.toInt
      · rcases hy with ⟨h4, hy⟩ | ⟨h4, hy⟩
        · refine ⟨0, N, ld_pt cd (N * 13 + 4) p0 p1 p2 p3, ld_cd_o4 hc ht h8 (Or.inr (ac_mk hC c2 c3)), hNM, Or.inr c0, fun post h => ?_, fun post h => ?_⟩
          · unfold wpX_readOperand
            exact hx _ (br_t rfl (xa_walk hO hO1 hI hI1 hC (fun z => absurd c2 z) (fun _ z => absurd c3 z) (fun _ _ => br_t rfl (xg_4 (by omega) h4 h))))
          · unfold wpY_readOperand
            exact hy _ (br_t (by decide) (ya_walk hO hI hC (fun z => absurd c2 z) (fun _ z => absurd c3 z) (fun _ _ => br_t rfl (yg_walk (a := 1) (b := N * 13 + 4) rfl (by omega) (by omega) h))))
        · refine ⟨0, N, ld_pt cd (N * 13 + 8) p0 p1 p2 p3, ld_cd_o8 hc ht h4 (Or.inr (ac_mk hC c2 c3)), hNM, Or.inr c0, fun post h => ?_, fun post h => ?_⟩
          · unfold wpX_readOperand
            exact hx _ (br_t rfl (xa_walk hO hO1 hI hI1 hC (fun z => absurd c2 z) (fun _ z => absurd c3 z) (fun _ _ => br_t rfl (xg_8 (by omega) h4 h))))
          · unfold wpY_readOperand
            exact hy _ (br_t (by decide) (ya_walk hO hI hC (fun z => absurd c2 z) (fun _ z => absurd c3 z) (fun _ _ => br_t rfl (yg_walk (a := 2) (b := N * 13 + 8) rfl (by omega) (by omega) h))))
      · refine ⟨-4, N, cd, hc, hNM, Or.inl ⟨rfl, rfl⟩, fun post h => ?_, fun post h => ?_⟩
        · unfold wpX_readOperand
          exact hx _ (br_t rfl (xa_walk hO hO1 hI hI1 hC (fun z => absurd c2 z) (fun _ _ => br_f (by decide) h) (fun _ z => absurd z c3)))
        · unfold wpY_readOperand
          rcases hy with ⟨h4, hy⟩ | ⟨h4, hy⟩
          · exact hy _ (br_t (by decide) (ya_walk hO hI hC (fun z => absurd c2 z) (fun _ _ => br_f (by decide) h) (fun _ z => absurd z c3)))
          · exact hy _ (br_t (by decide) (ya_walk hO hI hC (fun z => absurd c2 z) (fun _ _ => br_f (by decide) h) (fun _ z => absurd z c3)))
    · refine ⟨-3, N, cd, hc, hNM, Or.inl ⟨rfl, rfl⟩, fun post h => ?_, fun post h => ?_⟩
      · unfold wpX_readOperand
        exact hx _ (br_t rfl (xa_walk hO hO1 hI hI1 hC (fun _ => br_f (by decide) h) (fun z => absurd z c2) (fun z => absurd z c2)))
      · unfold wpY_readOperand
        rcases hy with ⟨h4, hy⟩ | ⟨h4, hy⟩
        · exact hy _ (br_t (by decide) (ya_walk hO hI hC (fun _ => br_f (by decide) h) (fun z => absurd z c2) (fun z => absurd z c2)))
        · exact hy _ (br_t (by decide) (ya_walk hO hI hC (fun _ => br_f (by decide) h) (fun z => absurd z c2) (fun z => absurd z c2)))
theorem vo_out {p1 p2 p3 : Int32} (hM : M ≤ 8) (hNM : N ≤ M) (hph : ph ≤ 2) (hc : ld_cd cd O I C N) :
    tg_Q N (fun post => wpX_valueOperand post ((nI O), (nI I), nI M, (nI C), nI ph, (nI N), xq, xg, xr, sg, sb, sl, sr, cd, wd, rs, ed, gp, sq) p1 p2 p3) (fun post => wpY_valueOperand post ((nI O), (nI I), nI M, (nI C), nI ph, (nI N), xq, xr, cd, wd, ye, yp, yc) p1 p2 p3) O I C N M ph xq xg xr sg sb sl sr cd wd rs ed gp sq ye yp yc := by
  rcases ro_out (M := M) (xq := xq) (xg := xg) (xr := xr) (sg := sg) (sb := sb) (sl := sl) (sr := sr) (wd := wd) (rs := rs) (ed := ed) (gp := gp) (sq := sq) (ye := ye) (yp := yp) (yc := yc) (show N ≤ 8 by omega) hph hc with ⟨r, r1, r2, hx, hy⟩ | ⟨c0, ht, h8, hx, ⟨h4, hy⟩ | ⟨h4, hy⟩⟩
  · refine ⟨r, N, cd, hc, hNM, Or.inl ⟨rfl, rfl⟩, fun post h => ?_, fun post h => ?_⟩
    · unfold wpX_valueOperand
      exact hx _ (br_f r1 h)
    · unfold wpY_valueOperand
      exact hy _ (br_f r2 h)
  · refine ⟨0, N, ld_pt cd (N * 13 + 4) (-1) p1 p2 p3, ld_cd_o4 hc ht h8 (Or.inl ld_pt_0), hNM, Or.inr c0, fun post h => ?_, fun post h => ?_⟩
    · unfold wpX_valueOperand
      exact hx _ (br_t rfl (xg_4 (by omega) h4 h))
    · unfold wpY_valueOperand
      exact hy _ (br_t (by decide) (yg_walk (a := 1) (b := N * 13 + 4) rfl (by omega) (by omega) h))
  · refine ⟨0, N, ld_pt cd (N * 13 + 8) (-1) p1 p2 p3, ld_cd_o8 hc ht h4 (Or.inl ld_pt_0), hNM, Or.inr c0, fun post h => ?_, fun post h => ?_⟩
    · unfold wpX_valueOperand
      exact hx _ (br_t rfl (xg_8 (by omega) h4 h))
    · unfold wpY_valueOperand
      exact hy _ (br_t (by decide) (yg_walk (a := 2) (b := N * 13 + 8) rfl (by omega) (by omega) h))
theorem cm_out {p : Int32} (hM : M ≤ 8) (hNM : N ≤ M) (hph : ph ≤ 2) (hc : ld_cd cd O I C N) :
    tg_Q N (fun post => wpX_commit post ((nI O), (nI I), nI M, (nI C), nI ph, (nI N), xq, xg, xr, sg, sb, sl, sr, cd, wd, rs, ed, gp, sq) p) (fun post => wpY_commit post ((nI O), (nI I), nI M, (nI C), nI ph, (nI N), xq, xr, cd, wd, ye, yp, yc) p) O I C N M ph xq xg xr sg sb sl sr cd wd rs ed gp sq ye yp yc := by
  have c8 : (nI N * 13 + 8).toNatClampNeg = N * 13 + 8 := by rw [xx_13, za_ac 8 (by omega)]
  have c12 : (nI N * 13 + 12).toNatClampNeg = N * 13 + 12 := by rw [xx_13, za_ac 12 (by omega)]
  have i8 : vp_in (nI N * 13 + 8) 117 := by rw [xx_13]; exact za_ai 8 (by omega)
  have i12 : vp_in (nI N * 13 + 12) 117 := by rw [xx_13]; exact za_ai 12 (by omega)
  by_cases c0 : ph = 0
  · have h1 : nI ph = 0 := by rw [c0]; rfl
    by_cases c1 : N < M
    · have h2 : nI N < nI M := nI_lt c1 (by omega)
      by_cases d0 : p < 0
      · exact ⟨-3, N, cd, hc, hNM, Or.inl ⟨rfl, rfl⟩, fun post h => br_t h1 (br_t h2 (br_t d0 h)), fun post h => br_t h1 (br_t h2 (br_t d0 h))⟩
      · by_cases d2 : p ≤ 2
        · by_cases d8 : cd (N * 13 + 8) = -2
          · exact ⟨-5, N, cd, hc, hNM, Or.inl ⟨rfl, rfl⟩, fun post h => br_t h1 (br_t h2 (br_f d0 (br_t d2 ⟨i8, br_t (by rw [c8]; exact d8) h⟩))), fun post h => br_t h1 (br_t h2 (br_f d0 (br_t d2 ⟨i8, br_t (by rw [c8]; exact d8) h⟩)))⟩
          · exact ⟨nI (N + 1) - 1, N + 1, ld_dr (upd cd (N * 13 + 12) p) ((N + 1) * 13) 13, ld_cd_cm hc d8, by omega, Or.inr c0,
              fun post h => br_t h1 (br_t h2 (br_f d0 (br_t d2 ⟨i8, br_f (by rw [c8]; exact d8) ⟨i12, nm_r (e' := upd cd (N * 13 + 12) p) (by rw [c12]) (nm_r (nI_1 N) (dx_walk (N := N + 1) (by omega) h))⟩⟩))),
              fun post h => br_t h1 (br_t h2 (br_f d0 (br_t d2 ⟨i8, br_f (by rw [c8]; exact d8) ⟨i12, nm_r (e' := upd cd (N * 13 + 12) p) (by rw [c12]) (nm_r (nI_1 N) (dy_walk (N := N + 1) (by omega) h))⟩⟩)))⟩
        · exact ⟨-3, N, cd, hc, hNM, Or.inl ⟨rfl, rfl⟩, fun post h => br_t h1 (br_t h2 (br_f d0 (br_f d2 h))), fun post h => br_t h1 (br_t h2 (br_f d0 (br_f d2 h)))⟩
    · have h2 : ¬ nI N < nI M := nI_nlt (by omega) (by omega)
      exact ⟨-2, N, cd, hc, hNM, Or.inl ⟨rfl, rfl⟩, fun post h => br_t h1 (br_f h2 h), fun post h => br_t h1 (br_f h2 h)⟩
  · have h1 : ¬ nI ph = 0 := nI_ne0 (by omega) (by omega)
    exact ⟨-1, N, cd, hc, hNM, Or.inl ⟨rfl, rfl⟩, fun post h => br_f h1 h, fun post h => br_f h1 h⟩
/-- both refusals of a graph question -/
theorem rf_out {p0 p1 : Int32} (hN : N ≤ 8) (hph : ph ≤ 2) :
    (∃ r : Int32, ¬ r = 0 ∧ (∀ post : Int32 → Prop, post r → wpX_graphRefusal post ((nI O), (nI I), nI M, (nI C), nI ph, (nI N), xq, xg, xr, sg, sb, sl, sr, cd, wd, rs, ed, gp, sq) p0 p1) ∧ (∀ post : Int32 → Prop, post r → wpY_refusal post ((nI O), (nI I), nI M, (nI C), nI ph, (nI N), xq, xr, cd, wd, ye, yp, yc) p0 p1)) ∨
    (ph ≠ 0 ∧ ∃ s v : Nat, p0 = nI s ∧ p1 = nI v ∧ s < N ∧ 1 ≤ v ∧ v ≤ 2 ∧ (∀ post : Int32 → Prop, post 0 → wpX_graphRefusal post ((nI O), (nI I), nI M, (nI C), nI ph, (nI N), xq, xg, xr, sg, sb, sl, sr, cd, wd, rs, ed, gp, sq) p0 p1) ∧ (∀ post : Int32 → Prop, post 0 → wpY_refusal post ((nI O), (nI I), nI M, (nI C), nI ph, (nI N), xq, xr, cd, wd, ye, yp, yc) p0 p1)) := by
  by_cases c0 : ph = 0
  · have h1 : nI ph = 0 := by rw [c0]; rfl
    exact Or.inl ⟨-6, by decide, fun post h => br_t h1 h, fun post h => br_t h1 h⟩
  · have h1 : ¬ nI ph = 0 := nI_ne0 (by omega) (by omega)
    by_cases d0 : p0 < 0
    · exact Or.inl ⟨-3, by decide, fun post h => br_f h1 (br_t d0 h), fun post h => br_f h1 (br_t d0 h)⟩
    · by_cases d1 : nI N ≤ p0
      · exact Or.inl ⟨-3, by decide, fun post h => br_f h1 (br_f d0 (br_t d1 h)), fun post h => br_f h1 (br_f d0 (br_t d1 h))⟩
      · by_cases d2 : p1 < 1
        · exact Or.inl ⟨-3, by decide, fun post h => br_f h1 (br_f d0 (br_f d1 (br_t d2 h))), fun post h => br_f h1 (br_f d0 (br_f d1 (br_t d2 h)))⟩
        · by_cases d3 : p1 ≤ 2
          · refine Or.inr ⟨c0, ?_⟩
            obtain ⟨s, hs, rfl⟩ := nI_of d0
            have e2 : (2 : Int32).toInt = 2 := by decide
            rw [Int32.lt_iff_toInt_lt, za_1] at d2
            have d3' := Int32.le_iff_toInt_le.mp d3
            rw [e2] at d3'
            have d2' : ¬ p1 < 1 := by rw [Int32.lt_iff_toInt_lt, za_1]; exact d2
            refine ⟨s, p1.toInt.toNat, rfl, za_cm (by omega), ?_, by omega, by omega, fun post h => br_f h1 (br_f d0 (br_f d1 (br_f d2' (br_t d3 h)))), fun post h => br_f h1 (br_f d0 (br_f d1 (br_f d2' (br_t d3 h))))⟩
            rw [nI_leI (by omega) hs] at d1
            omega
          · exact Or.inl ⟨-3, by decide, fun post h => br_f h1 (br_f d0 (br_f d1 (br_f d2 (br_f d3 h)))), fun post h => br_f h1 (br_f d0 (br_f d1 (br_f d2 (br_f d3 h))))⟩
end
end
section
section
variable {O I C N : Nat} {xm xp xq xr : Int32} {cd wd ye yp yc : Nat → Int32}
theorem gw_16 {post : Int32 → Prop} {v s w : Nat} {G : Nat → Nat → Prop} (hN : N ≤ 8) (hv : 1 ≤ v) (hv2 : v ≤ 2) (hs : s < N) (hP : yo_ok yp (v * 64 - 64) N (gr_T G)) (hw : gr_S G s w) (hm : ∀ x, x < w → ¬ gr_S G s x) (hp : post (nI w)) :
    ∀ d t : Nat, t + d = w → ∀ n, d < n → wY_groupOf_16 post (nI s) (nI v) (nI O) (nI I) xm (nI C) xp (nI N) xq xr cd wd ye yp yc n (nI t) := by
  have hws : w ≤ s := by
    apply Classical.byContradiction
    intro z
    exact hm s (by omega) (Or.inl rfl)
  intro d
  induction d with
  | zero =>
    intro t ht n hn
    obtain ⟨n, rfl⟩ : ∃ m, n = m + 1 := ⟨n - 1, by omega⟩
    have : t = w := by omega
    subst this
    by_cases c : t = s
    · subst c
      exact br_t (nI_le (by omega) (by omega)) hp
    · exact br_f (nI_ge (by omega) (by omega)) (sm_walk rfl hN hv hv2 (by omega) hs hP (fun _ => br_f (by decide) hp) (fun z => absurd (gr_Ss hw) z))
  | succ d ih =>
    intro t ht n hn
    obtain ⟨n, rfl⟩ : ∃ m, n = m + 1 := ⟨n - 1, by omega⟩
    exact br_f (nI_ge (by omega) (by omega)) (sm_walk rfl hN hv hv2 (by omega) hs hP (fun z => absurd (gr_Ss z) (hm t (by omega))) (fun _ => br_t rfl (nm_r (nI_1 t) (ih (t + 1) (by omega) n (by omega)))))
end
section
variable {O I C N : Nat} {xm xp xq xg xr sg sb sl sr : Int32} {cd wd rs ed gp sq : Nat → Int32}
theorem pw_18 {post : Int32 → Prop} {s Q : Nat} {pc : Nat → Nat} (hN : N ≤ 8) (hs : s < N) (hQ : Q ≤ 8) (hq : og_ok sq 0 N pc Q) (hpc : pc s < Q) (hp : post (nI (pc s))) :
    ∀ (d p a : Nat), p + d = Q → (pc s < p → a = pc s) → ∀ n, d < n → wX_pieceOf_18 post (nI s) (nI O) (nI I) xm (nI C) xp (nI N) (nI Q) xg xr sg sb sl sr cd wd rs ed gp sq n (nI a) (nI p) := by
  intro d
  induction d with
  | zero =>
    intro p a hd ha n hn
    obtain ⟨n, rfl⟩ : ∃ m, n = m + 1 := ⟨n - 1, by omega⟩
    rw [ha (by omega)]
    exact br_t (nI_le (by omega) (by omega)) hp
  | succ d ih =>
    intro p a hd ha n hn
    obtain ⟨n, rfl⟩ : ∃ m, n = m + 1 := ⟨n - 1, by omega⟩
    have b := hq p s (by omega) (by omega)
    rw [Nat.zero_add] at b
    refine br_f (nI_ge (by omega) (by omega)) ⟨vp_in_nI (by omega) (by decide), ?_⟩
    rw [nI_clamp (show p < 2 ^ 31 by omega)]
    refine za_bb (by omega) (fun z => nm_r (nI_1 p) (ih (p + 1) a (by omega) (fun w => ?_) n (by omega))) (fun z => nm_r (nI_1 p) (ih (p + 1) p (by omega) (fun w => (b.mp z).2.symm) n (by omega)))
    have : pc s ≠ p := by
      intro e
      rw [b.mpr ⟨hs, e⟩] at z; cases z
    exact ha (by omega)
end
/-- the compiled facts -/
def rl_C (O I N Q : Nat) (xg : Int32) (cd ed gp sq yp yc : Nat → Int32) : Prop :=
  1 ≤ N ∧ ∃ (pc rk : Nat → Nat) (K : Nat), xg = nI K ∧ gr_Can (ld_G cd O I N 1) N pc Q ∧ gr_Can (ld_G cd O I N 2) N rk K ∧ bg_ok ed 0 (ld_G cd O I N 1) ∧ bg_ok ed 8 (ld_G cd O I N 2) ∧
    fg_ok gp 0 N (ld_G cd O I N 1) ∧ fg_ok gp 8 N (ld_G cd O I N 2) ∧ og_ok sq 0 N pc Q ∧ og_ok sq 8 N rk K ∧ yo_ok yp 0 N (gr_T (ld_G cd O I N 1)) ∧ yo_ok yp 64 N (gr_T (ld_G cd O I N 2)) ∧ ∀ x, x < N → yc x = nI (pc x)
def rl_F (O I M C ph N Q D : Nat) (xg : Int32) (cd ed gp sq yp yc : Nat → Int32) : Prop :=
  (1 ≤ O ∧ O ≤ 5) ∧ (1 ≤ I ∧ I ≤ 5) ∧ M ≤ 8 ∧ C ≤ 32 ∧ ph ≤ 2 ∧ N ≤ M ∧ Q ≤ 8 ∧ D ≤ Q ∧ (ph = 0 → Q = 0) ∧ ld_cd cd O I C N ∧ (ph ≠ 0 → rl_C O I N Q xg cd ed gp sq yp yc)
/-- the relation: shared sizes, code, words, counts; the graphs as facts -/
def i_Rel (_ : Nat) (u : SX) (v : SY) : Prop :=
  ∃ (O I M C ph N Q D : Nat) (xg sg sb sl sr : Int32) (cd wd rs ed gp sq ye yp yc : Nat → Int32), u = ((nI O), (nI I), nI M, (nI C), nI ph, (nI N), nI Q, xg, nI D, sg, sb, sl, sr, cd, wd, rs, ed, gp, sq) ∧ v = ((nI O), (nI I), nI M, (nI C), nI ph, (nI N), nI Q, nI D, cd, wd, ye, yp, yc) ∧ rl_F O I M C ph N Q D xg cd ed gp sq yp yc
theorem zz_el {P : SX → SY → Prop} {k : Nat} {u : SX} {v : SY}
    (h : ∀ (O I M C ph N Q D : Nat) (xg sg sb sl sr : Int32) (cd wd rs ed gp sq ye yp yc : Nat → Int32), rl_F O I M C ph N Q D xg cd ed gp sq yp yc → P ((nI O), (nI I), nI M, (nI C), nI ph, (nI N), nI Q, xg, nI D, sg, sb, sl, sr, cd, wd, rs, ed, gp, sq) ((nI O), (nI I), nI M, (nI C), nI ph, (nI N), nI Q, nI D, cd, wd, ye, yp, yc))
    (R : i_Rel k u v) : P u v :=
  Exists.elim R fun O R => Exists.elim R fun I R => Exists.elim R fun M R => Exists.elim R fun C R => Exists.elim R fun ph R => Exists.elim R fun N R => Exists.elim R fun Q R => Exists.elim R fun D R =>
  Exists.elim R fun xg R => Exists.elim R fun sg R => Exists.elim R fun sb R => Exists.elim R fun sl R => Exists.elim R fun sr R => Exists.elim R fun cd R => Exists.elim R fun wd R => Exists.elim R fun rs R => Exists.elim R fun ed R => Exists.elim R fun gp R => Exists.elim R fun sq R => Exists.elim R fun ye R => Exists.elim R fun yp R => Exists.elim R fun yc R =>
  R.1.symm ▸ R.2.1.symm ▸ h O I M C ph N Q D xg sg sb sl sr cd wd rs ed gp sq ye yp yc R.2.2
theorem zz_mk {k O I M C ph N Q D : Nat} {xg sg sb sl sr : Int32} {cd wd rs ed gp sq ye yp yc : Nat → Int32} (h : rl_F O I M C ph N Q D xg cd ed gp sq yp yc) : i_Rel k ((nI O), (nI I), nI M, (nI C), nI ph, (nI N), nI Q, xg, nI D, sg, sb, sl, sr, cd, wd, rs, ed, gp, sq) ((nI O), (nI I), nI M, (nI C), nI ph, (nI N), nI Q, nI D, cd, wd, ye, yp, yc) :=
  ⟨O, I, M, C, ph, N, Q, D, xg, sg, sb, sl, sr, cd, wd, rs, ed, gp, sq, ye, yp, yc, rfl, rfl, h⟩
theorem i_up {k : Nat} {u : SX} {v : SY} (h : i_Rel k u v) : i_Rel (k + 5) u v := h
def cl_v (p : Int32) (lo hi : Nat) : Nat := if p.toInt < lo then lo else if (hi : Int) < p.toInt then hi else p.toInt.toNat
theorem cl_b (p : Int32) {lo hi : Nat} (h : lo ≤ hi) : lo ≤ cl_v p lo hi ∧ cl_v p lo hi ≤ hi := by
  unfold cl_v
  split
  · omega
  · split <;> omega
theorem cl_c {p x y : Int32} {lo hi : Nat} {A : Int32 → Prop} (ex : x = nI lo) (ey : y = nI hi) (h : lo ≤ hi) (hh : hi < 100) (k : A (nI (cl_v p lo hi))) : ((x ≤ p → (((p ≤ y → A p) ∧ (¬ p ≤ y → A y)))) ∧ (¬ x ≤ p → A x)) := by
  subst ex ey
  have e1 : (nI lo).toInt = lo := nI_toInt (by omega)
  have e2 : (nI hi).toInt = hi := nI_toInt (by omega)
  unfold cl_v at k
  refine za_le (fun a => za_le (fun b => ?_) (fun b => ?_)) (fun a => ?_)
  · rw [e1] at a; rw [e2] at b
    rw [if_neg (by omega), if_neg (by omega)] at k
    rw [za_cm (x := p) (n := p.toInt.toNat) (by omega)]
    exact k
  · rw [e1] at a; rw [e2] at b
    rw [if_neg (by omega), if_pos b] at k
    exact k
  · rw [e1] at a
    rw [if_pos a] at k
    exact k
theorem cl_x {post : Int32 → Prop} {p x y : Int32} {lo hi : Nat} {xo xi xm xc xp xn xq xg xr sg sb sl sr : Int32} {cd wd rs ed gp sq : Nat → Int32} (ex : x = nI lo) (ey : y = nI hi) (h : lo ≤ hi) (hh : hi < 100) (k : post (nI (cl_v p lo hi))) : wpX_clamp post (xo, xi, xm, xc, xp, xn, xq, xg, xr, sg, sb, sl, sr, cd, wd, rs, ed, gp, sq) p x y := cl_c (A := post) ex ey h hh k
theorem cl_y {post : Int32 → Prop} {p x y : Int32} {lo hi : Nat} {xo xi xm xc xp xn xq xr : Int32} {cd wd ye yp yc : Nat → Int32} (ex : x = nI lo) (ey : y = nI hi) (h : lo ≤ hi) (hh : hi < 100) (k : post (nI (cl_v p lo hi))) : wpY_clamp post (xo, xi, xm, xc, xp, xn, xq, xr, cd, wd, ye, yp, yc) p x y := cl_c (A := post) ex ey h hh k
theorem i_vc0 (k0 : Int32) (k1 : Int32) (k2 : Int32) (k3 : Int32) : wpX_init (fun u => wpY_init (fun v => i_Rel 4 u v) k0 k1 k2 k3) k0 k1 k2 k3 := by
  have b0 := cl_b k0 (show 1 ≤ 5 by decide)
  have b1 := cl_b k1 (show 1 ≤ 5 by decide)
  have b2 := cl_b k2 (show 1 ≤ 8 by decide)
  have b3 := cl_b k3 (show 8 ≤ 32 by decide)
  unfold wpX_init wpY_init
  refine cl_x (lo := 1) (hi := 5) rfl rfl (by decide) (by decide) ?_
  refine cl_x (lo := 1) (hi := 5) rfl rfl (by decide) (by decide) ?_
  refine cl_x (lo := 1) (hi := 8) rfl rfl (by decide) (by decide) ?_
  refine cl_x (lo := 8) (hi := 32) rfl rfl (by decide) (by decide) ?_
  refine dx_walk (N := 0) (by decide) ?_
  refine cl_y (lo := 1) (hi := 5) rfl rfl (by decide) (by decide) ?_
  refine cl_y (lo := 1) (hi := 5) rfl rfl (by decide) (by decide) ?_
  refine cl_y (lo := 1) (hi := 8) rfl rfl (by decide) (by decide) ?_
  refine cl_y (lo := 8) (hi := 32) rfl rfl (by decide) (by decide) ?_
  refine dy_walk (N := 0) (by decide) ?_
  refine zz_mk (ph := 0) (N := 0) (Q := 0) (D := 0) ⟨b0, b1, b2.2, b3.2, by decide, by omega, by decide, by decide, fun _ => rfl, ld_cd_dr (fun s hs => absurd hs (Nat.not_lt_zero s)), fun z => absurd rfl z⟩
/-- an outcome of a loading call keeps the relation -/
theorem tg_fin {PX : (Int32 → SX → Prop) → Prop} {PY : (Int32 → SY → Prop) → Prop} {k O I M C ph N Q D : Nat} {xg sg sb sl sr : Int32} {cd wd rs ed gp sq ye yp yc : Nat → Int32} (hF : rl_F O I M C ph N Q D xg cd ed gp sq yp yc)
    (q : tg_Q N PX PY O I C N M ph (nI Q) xg (nI D) sg sb sl sr cd wd rs ed gp sq ye yp yc) : PX (fun r u' => PY (fun r' v' => r' = r ∧ i_Rel k u' v')) := by
  obtain ⟨r, N', cd', h1, h2, h3, hx, hy⟩ := q
  refine hx _ (hy _ ⟨rfl, zz_mk ?_⟩)
  rcases h3 with ⟨e1, e2⟩ | e
  · subst e1 e2
    exact hF
  · obtain ⟨f1, f2, f3, f4, f5, f6, f7, f8, f9, f10, f11⟩ := hF
    exact ⟨f1, f2, f3, f4, f5, h2, f7, f8, f9, h1, fun z => absurd e z⟩
end
section
theorem i_vc_target {k : Nat} {u : SX} {v : SY} (I : i_Rel k u v) (hk : k + 5 ≤ 2564) (v1 : Int32) (v2 : Int32) (v3 : Int32) (v4 : Int32) : wpX_target (fun r u' => wpY_target (fun r' v' => r' = r ∧ i_Rel (k + 5) u' v') v v1 v2 v3 v4) u v1 v2 v3 v4 := by
  refine zz_el (P := fun u v => wpX_target (fun r u' => wpY_target (fun r' v' => r' = r ∧ i_Rel (k + 5) u' v') v v1 v2 v3 v4) u v1 v2 v3 v4) ?_ I
  intro O I M C ph N Q D xg sg sb sl sr cd wd rs ed gp sq ye yp yc hF
  have hF' := hF
  obtain ⟨f1, f2, f3, f4, f5, f6, f7, f8, f9, f10, f11⟩ := hF'
  exact tg_fin hF (tg_out f1.2 f1.1 f2.2 f2.1 f4 f3 f6 f5 f10)
theorem i_vc_readOperand {k : Nat} {u : SX} {v : SY} (I : i_Rel k u v) (hk : k + 5 ≤ 2564) (v1 : Int32) (v2 : Int32) (v3 : Int32) (v4 : Int32) : wpX_readOperand (fun r u' => wpY_readOperand (fun r' v' => r' = r ∧ i_Rel (k + 5) u' v') v v1 v2 v3 v4) u v1 v2 v3 v4 := by
  refine zz_el (P := fun u v => wpX_readOperand (fun r u' => wpY_readOperand (fun r' v' => r' = r ∧ i_Rel (k + 5) u' v') v v1 v2 v3 v4) u v1 v2 v3 v4) ?_ I
  intro O I M C ph N Q D xg sg sb sl sr cd wd rs ed gp sq ye yp yc hF
  have hF' := hF
  obtain ⟨f1, f2, f3, f4, f5, f6, f7, f8, f9, f10, f11⟩ := hF'
  exact tg_fin hF (rd_out f1.2 f1.1 f2.2 f2.1 f4 f3 f6 f5 f10)
theorem i_vc_valueOperand {k : Nat} {u : SX} {v : SY} (I : i_Rel k u v) (hk : k + 5 ≤ 2564) (v1 : Int32) (v2 : Int32) (v3 : Int32) : wpX_valueOperand (fun r u' => wpY_valueOperand (fun r' v' => r' = r ∧ i_Rel (k + 5) u' v') v v1 v2 v3) u v1 v2 v3 := by
  refine zz_el (P := fun u v => wpX_valueOperand (fun r u' => wpY_valueOperand (fun r' v' => r' = r ∧ i_Rel (k + 5) u' v') v v1 v2 v3) u v1 v2 v3) ?_ I
  intro O I M C ph N Q D xg sg sb sl sr cd wd rs ed gp sq ye yp yc hF
  have hF' := hF
  obtain ⟨f1, f2, f3, f4, f5, f6, f7, f8, f9, f10, f11⟩ := hF'
  exact tg_fin hF (vo_out f3 f6 f5 f10)
theorem i_vc_commit {k : Nat} {u : SX} {v : SY} (I : i_Rel k u v) (hk : k + 5 ≤ 2564) (v1 : Int32) : wpX_commit (fun r u' => wpY_commit (fun r' v' => r' = r ∧ i_Rel (k + 5) u' v') v v1) u v1 := by
  refine zz_el (P := fun u v => wpX_commit (fun r u' => wpY_commit (fun r' v' => r' = r ∧ i_Rel (k + 5) u' v') v v1) u v1) ?_ I
  intro O I M C ph N Q D xg sg sb sl sr cd wd rs ed gp sq ye yp yc hF
  have hF' := hF
  obtain ⟨f1, f2, f3, f4, f5, f6, f7, f8, f9, f10, f11⟩ := hF'
  exact tg_fin hF (cm_out f3 f6 f5 f10)
theorem i_vc_compile {k : Nat} {u : SX} {v : SY} (I : i_Rel k u v) (hk : k + 5 ≤ 2564) : wpX_compile (fun r u' => wpY_compile (fun r' v' => r' = r ∧ i_Rel (k + 5) u' v') v) u := by
  refine zz_el (P := fun u v => wpX_compile (fun r u' => wpY_compile (fun r' v' => r' = r ∧ i_Rel (k + 5) u' v') v) u) ?_ I
  intro O I M C ph N Q D xg sg sb sl sr cd wd rs ed gp sq ye yp yc hF
  have hF' := hF
  obtain ⟨f1, f2, f3, f4, f5, f6, f7, f8, f9, f10, f11⟩ := hF'
  by_cases c0 : ph = 0
  · by_cases c1 : N = 0
    · have h1 : nI ph = 0 := by rw [c0]; rfl
      have h2 : nI N = 0 := by rw [c1]; rfl
      exact br_t h1 (br_t h2 (br_t h1 (br_t h2 ⟨rfl, zz_mk hF⟩)))
    · have hQ := f9 c0
      subst c0 hQ
      refine xk_walk f1.2 f1.1 f2.2 f2.1 f4 (by omega) (by omega) f10.1 ?_
      intro pc rk K1 K2 ed' gp' sq' g b l r h1 h2 h3 h4 h5 h6 h7 h8
      refine yk_walk f1.2 f2.2 (by omega) (by omega) ?_
      intro pc' K' ye' yp' yc' k1 k2 k3 k4
      obtain ⟨e1, e2⟩ := gr_can_u h1 k1
      subst e1
      have hK := gr_can_le h1
      refine ⟨rfl, zz_mk (ph := 1) ⟨f1, f2, f3, f4, by decide, f6, by omega, by omega, fun z => absurd z (by decide), ld_cd_dr f10.1, fun _ => ⟨by omega, pc, rk, K2, rfl, h1, h2, h3, h4, h5, h6, h7, h8, k2, k3, ?_⟩⟩⟩
      intro x hx
      rw [k4 x hx, e2 x hx]
  · have h1 : ¬ nI ph = 0 := nI_ne0 (by omega) (by omega)
    exact br_f h1 (br_f h1 ⟨rfl, zz_mk hF⟩)
theorem i_vc_discard {k : Nat} {u : SX} {v : SY} (I : i_Rel k u v) (hk : k + 5 ≤ 2564) : wpX_discard (fun r u' => wpY_discard (fun r' v' => r' = r ∧ i_Rel (k + 5) u' v') v) u := by
  refine zz_el (P := fun u v => wpX_discard (fun r u' => wpY_discard (fun r' v' => r' = r ∧ i_Rel (k + 5) u' v') v) u) ?_ I
  intro O I M C ph N Q D xg sg sb sl sr cd wd rs ed gp sq ye yp yc hF
  obtain ⟨f1, f2, f3, f4, f5, f6, f7, f8, f9, f10, f11⟩ := hF
  refine xq_walk (yq_walk ⟨rfl, zz_mk (ph := 0) (N := 0) (Q := 0) (D := 0) ⟨f1, f2, f3, f4, by decide, by omega, by decide, by decide, fun _ => rfl, ld_cd_dr (fun s hs => absurd hs (Nat.not_lt_zero s)), fun z => absurd rfl z⟩⟩)
theorem i_vc_store {k : Nat} {u : SX} {v : SY} (I : i_Rel k u v) (hk : k + 5 ≤ 2564) (v1 : Int32) (v2 : Int32) (v3 : Int32) : wpX_store (fun r u' => wpY_store (fun r' v' => r' = r ∧ i_Rel (k + 5) u' v') v v1 v2 v3) u v1 v2 v3 := by
  refine zz_el (P := fun u v => wpX_store (fun r u' => wpY_store (fun r' v' => r' = r ∧ i_Rel (k + 5) u' v') v v1 v2 v3) u v1 v2 v3) ?_ I
  intro O I M C ph N Q D xg sg sb sl sr cd wd rs ed gp sq ye yp yc hF
  have hF' := hF
  obtain ⟨f1, f2, f3, f4, f5, f6, f7, f8, f9, f10, f11⟩ := hF'
  have e3 : (3 : Int32).toInt = 3 := by decide
  have eC : (nI C).toInt = C := nI_toInt (by omega)
  unfold wpX_store
  dsimp only
  refine xi_walk f4 (fun a b => br_f (by decide) ?_) (fun n => br_t rfl ?_)
  · have e1 : v1 = nI v1.toInt.toNat := za_cm (by omega)
    have e2 : v2 = nI v2.toInt.toNat := za_cm (by omega)
    generalize h1 : v1.toInt.toNat = ar at *
    generalize h2 : v2.toInt.toNat = q at *
    subst e1 e2
    rw [show nI ar * 32 = nI (ar * 32) from pk_mul ar 32, nI_add, nI_clamp (show ar * 32 + q < 2 ^ 31 by omega)]
    refine ⟨vp_in_nI (by omega) (by decide), nm_e ?_⟩
    unfold wpY_store
    dsimp only
    refine yt_walk (m := 0) f4 (by omega) (by omega) (by omega) ?_
    rw [show 0 * 128 + ar * 32 + q = ar * 32 + q by omega]
    exact ⟨rfl, zz_mk hF⟩
  · unfold wpY_store
    dsimp only
    have go : (-3 : Int32) = -3 ∧ i_Rel (k + 5) ((nI O), (nI I), nI M, (nI C), nI ph, (nI N), nI Q, xg, nI D, sg, sb, sl, sr, cd, wd, rs, ed, gp, sq) ((nI O), (nI I), nI M, (nI C), nI ph, (nI N), nI Q, nI D, cd, wd, ye, yp, yc) := ⟨rfl, zz_mk hF⟩
    refine za_lt (fun _ => go) (fun a => za_lt (fun _ => go) (fun b => za_lt (fun _ => go) (fun c => za_lt (fun d => absurd ?_ n) (fun _ => go))))
    rw [za_0] at a c; rw [e3] at b; rw [eC] at d
    exact ⟨⟨a, b⟩, c, d⟩
theorem i_vc_start {k : Nat} {u : SX} {v : SY} (I : i_Rel k u v) (hk : k + 5 ≤ 2564) : wpX_start (fun r u' => wpY_start (fun r' v' => r' = r ∧ i_Rel (k + 5) u' v') v) u := by
  refine zz_el (P := fun u v => wpX_start (fun r u' => wpY_start (fun r' v' => r' = r ∧ i_Rel (k + 5) u' v') v) u) ?_ I
  intro O I M C ph N Q D xg sg sb sl sr cd wd rs ed gp sq ye yp yc hF
  have hF' := hF
  obtain ⟨f1, f2, f3, f4, f5, f6, f7, f8, f9, f10, f11⟩ := hF'
  by_cases c0 : ph = 0
  · have h1 : nI ph = 0 := by rw [c0]; rfl
    exact br_t h1 (br_t h1 ⟨rfl, zz_mk hF⟩)
  · have h1 : ¬ nI ph = 0 := nI_ne0 (by omega) (by omega)
    refine xs_walk f1.2 f2.2 f4 (by omega) f10.1 h1 (yz_walk f1.2 f1.1 f2.2 f2.1 f4 (by omega) f10.1 h1 ⟨rfl, zz_mk (ph := 2) (D := 0) ⟨f1, f2, f3, f4, by decide, f6, f7, by omega, fun z => absurd z (by decide), f10, fun _ => f11 c0⟩⟩)
theorem i_vc_step {k : Nat} {u : SX} {v : SY} (I : i_Rel k u v) (hk : k + 5 ≤ 2564) : wpX_step (fun r u' => wpY_step (fun r' v' => r' = r ∧ i_Rel (k + 5) u' v') v) u := by
  refine zz_el (P := fun u v => wpX_step (fun r u' => wpY_step (fun r' v' => r' = r ∧ i_Rel (k + 5) u' v') v) u) ?_ I
  intro O I M C ph N Q D xg sg sb sl sr cd wd rs ed gp sq ye yp yc hF
  have hF' := hF
  obtain ⟨f1, f2, f3, f4, f5, f6, f7, f8, f9, f10, f11⟩ := hF'
  by_cases c0 : ph = 0
  · have h1 : nI ph = 0 := by rw [c0]; rfl
    exact br_t h1 (br_t h1 ⟨rfl, zz_mk hF⟩)
  · have h1 : ¬ nI ph = 0 := nI_ne0 (by omega) (by omega)
    by_cases c1 : ph = 1
    · have h2 : nI ph = 1 := by rw [c1]; rfl
      exact br_f h1 (br_t h2 (br_f h1 (br_t h2 ⟨rfl, zz_mk hF⟩)))
    · have h2 : ¬ nI ph = 1 := fun z => c1 ((nI_eq (b := 1) (by omega) (by omega)).mp z)
      by_cases c2 : D < Q
      · have h3 : nI D < nI Q := nI_lt c2 (by omega)
        obtain ⟨hN1, pc, rk, K, e, g1, g2, g3, g4, g5, g6, g7, g8, g9, g10, g11⟩ := f11 c0
        subst e
        refine br_f h1 (br_f h2 (br_t h3 ⟨vp_in_nI (by omega) (by decide), ?_⟩))
        rw [nI_clamp (show D < 2 ^ 31 by omega)]
        refine rp_walk (p := D) f1.2 f1.1 f2.2 f4 (by omega) f10.1 g3 g5 g1 g7 g4 g6 g2 g8 c2 ?_
        intro rs'
        refine nm_r (nI_1 D) (br_f h1 (br_f h2 (br_t h3 ?_)))
        refine yu_walk (m := 2) (S := fun s => decide (pc s = D)) rfl f1.2 f1.1 f2.2 f2.1 f4 (by omega) (by omega) f10.1 ?_ ?_
        · intro s hs
          have hps := g1.1 s hs
          rw [g11 s hs]
          refine ⟨fun z => Or.inr ⟨nI_pos (by omega), ?_⟩, fun z => ⟨nI_pos (by omega), fun w => ?_⟩⟩
          · rw [of_decide_eq_true z]
          · exact of_decide_eq_false z ((nI_eq (by omega) (by omega)).mp w)
        · refine nm_r (nI_1 D) ⟨rfl, zz_mk (D := D + 1) ⟨f1, f2, f3, f4, f5, f6, f7, by omega, f9, f10, f11⟩⟩
      · have h3 : ¬ nI D < nI Q := nI_nlt (by omega) (by omega)
        exact br_f h1 (br_f h2 (br_f h3 (br_f h1 (br_f h2 (br_f h3 ⟨rfl, zz_mk hF⟩)))))
theorem i_vc_depends {k : Nat} {u : SX} {v : SY} (I : i_Rel k u v) (hk : k + 5 ≤ 2564) (v1 : Int32) (v2 : Int32) (v3 : Int32) (v4 : Int32) : wpX_depends (fun r u' => wpY_depends (fun r' => r' = r ∧ i_Rel (k + 5) u' v) v v1 v2 v3 v4) u v1 v2 v3 v4 := by
  refine zz_el (P := fun u v => wpX_depends (fun r u' => wpY_depends (fun r' => r' = r ∧ i_Rel (k + 5) u' v) v v1 v2 v3 v4) u v1 v2 v3 v4) ?_ I
  intro O I M C ph N Q D xg sg sb sl sr cd wd rs ed gp sq ye yp yc hF
  have hF' := hF
  obtain ⟨f1, f2, f3, f4, f5, f6, f7, f8, f9, f10, f11⟩ := hF'
  by_cases c0 : ph = 0
  · have h1 : nI ph = 0 := by rw [c0]; rfl
    exact br_t h1 (br_t h1 ⟨rfl, zz_mk hF⟩)
  have h1 : ¬ nI ph = 0 := nI_ne0 (by omega) (by omega)
  by_cases a1 : v1 < 0
  · exact br_f h1 (br_t a1 (br_f h1 (br_t a1 ⟨rfl, zz_mk hF⟩)))
  by_cases a2 : nI N ≤ v1
  · exact br_f h1 (br_f a1 (br_t a2 (br_f h1 (br_f a1 (br_t a2 ⟨rfl, zz_mk hF⟩)))))
  by_cases a3 : v2 < 0
  · exact br_f h1 (br_f a1 (br_f a2 (br_t a3 (br_f h1 (br_f a1 (br_f a2 (br_t a3 ⟨rfl, zz_mk hF⟩)))))))
  by_cases a4 : nI N ≤ v2
  · have a4' : ¬ v2 < nI N := Int32.not_lt.mpr a4
    exact br_f h1 (br_f a1 (br_f a2 (br_f a3 (br_f a4' (br_f h1 (br_f a1 (br_f a2 (br_f a3 (br_t a4 ⟨rfl, zz_mk hF⟩)))))))))
  have a4' : v2 < nI N := Int32.not_le.mp a4
  by_cases a5 : v3 < 0
  · exact br_f h1 (br_f a1 (br_f a2 (br_f a3 (br_t a4' (br_t a5 (br_f h1 (br_f a1 (br_f a2 (br_f a3 (br_f a4 (br_t a5 ⟨rfl, zz_mk hF⟩)))))))))))
  by_cases a6 : 2 < v3
  · exact br_f h1 (br_f a1 (br_f a2 (br_f a3 (br_t a4' (br_f a5 (br_t a6 (br_f h1 (br_f a1 (br_f a2 (br_f a3 (br_f a4 (br_f a5 (br_t a6 ⟨rfl, zz_mk hF⟩)))))))))))))
  by_cases a7 : v4 < 1
  · exact br_f h1 (br_f a1 (br_f a2 (br_f a3 (br_t a4' (br_f a5 (br_f a6 (br_t a7 (br_f h1 (br_f a1 (br_f a2 (br_f a3 (br_f a4 (br_f a5 (br_f a6 (br_t a7 ⟨rfl, zz_mk hF⟩)))))))))))))))
  by_cases a8 : v4 ≤ 3
  · refine br_f h1 (br_f a1 (br_f a2 (br_f a3 (br_t a4' (br_f a5 (br_f a6 (br_f a7 (br_t a8 ?_))))))))
    obtain ⟨s, hs, rfl⟩ := nI_of a1
    obtain ⟨t, ht, rfl⟩ := nI_of a3
    obtain ⟨kd, hkd, rfl⟩ := nI_of a5
    have sN : s < N := by
      rw [nI_leI (by omega) hs] at a2; omega
    have tN : t < N := by
      rw [nI_leI (by omega) ht] at a4; omega
    have k3 : kd < 3 := by
      have := a6
      rw [show (2 : Int32) = nI 2 from rfl, nI_ltI (by decide) hkd] at this; omega
    have e1 := Int32.le_iff_toInt_le.mp a8
    have e2 : ¬ v4.toInt < 1 := by
      have := a7
      rw [Int32.lt_iff_toInt_lt, za_1] at this; exact this
    have e3 : (3 : Int32).toInt = 3 := by decide
    rw [e3] at e1
    have e4 : v4 = nI v4.toInt.toNat := za_cm (by omega)
    generalize hlv : v4.toInt.toNat = lv at *
    subst e4
    refine de_walk f1.2 f1.1 f2.2 f2.1 f4 (by omega) (by omega) (f10.1 s sN) (f10.1 t tN) k3 (by omega) (by omega) ?_ ?_
    · intro hd g b l r
      refine br_f (by decide) (br_f h1 (br_f a1 (br_f a2 (br_f a3 (br_f a4 (br_f a5 (br_f a6 (br_f a7 (br_t a8 ?_)))))))))
      exact yd_walk (by omega) (by omega) k3 (by omega) (by omega) f1.2 f2.2 (fun _ => br_f (by decide) ⟨rfl, zz_mk hF⟩) (fun z => absurd hd z)
    · intro hd g b l r
      refine br_t rfl (br_f h1 (br_f a1 (br_f a2 (br_f a3 (br_f a4 (br_f a5 (br_f a6 (br_f a7 (br_t a8 ?_)))))))))
      exact yd_walk (by omega) (by omega) k3 (by omega) (by omega) f1.2 f2.2 (fun z => absurd z hd) (fun _ => br_t rfl ⟨rfl, zz_mk hF⟩)
  · exact br_f h1 (br_f a1 (br_f a2 (br_f a3 (br_t a4' (br_f a5 (br_f a6 (br_f a7 (br_f a8 (br_f h1 (br_f a1 (br_f a2 (br_f a3 (br_f a4 (br_f a5 (br_f a6 (br_f a7 (br_f a8 ⟨rfl, zz_mk hF⟩)))))))))))))))))
theorem i_vc_serialAt {k : Nat} {u : SX} {v : SY} (I : i_Rel k u v) (hk : k + 5 ≤ 2564) (v1 : Int32) (v2 : Int32) : wpX_serialAt (fun r => wpY_serialAt (fun r' => r' = r ∧ i_Rel (k + 5) u v) v v1 v2) u v1 v2 := by
  refine zz_el (P := fun u v => wpX_serialAt (fun r => wpY_serialAt (fun r' => r' = r ∧ i_Rel (k + 5) u v) v v1 v2) u v1 v2) ?_ I
  intro O I M C ph N Q D xg sg sb sl sr cd wd rs ed gp sq ye yp yc hF
  have hR : i_Rel (k + 5) ((nI O), (nI I), nI M, (nI C), nI ph, (nI N), nI Q, xg, nI D, sg, sb, sl, sr, cd, wd, rs, ed, gp, sq) ((nI O), (nI I), nI M, (nI C), nI ph, (nI N), nI Q, nI D, cd, wd, ye, yp, yc) := zz_mk hF
  obtain ⟨f1, f2, f3, f4, f5, f6, f7, f8, f9, f10, f11⟩ := hF
  unfold wpX_serialAt wpY_serialAt
  rcases rf_out (O := O) (I := I) (C := C) (M := M) (xq := nI Q) (xg := xg) (xr := nI D) (sg := sg) (sb := sb) (sl := sl) (sr := sr) (cd := cd) (wd := wd) (rs := rs) (ed := ed) (gp := gp) (sq := sq) (ye := ye) (yp := yp) (yc := yc) (p0 := v1) (p1 := v2) (show N ≤ 8 by omega) f5 with ⟨r, r1, hx, hy⟩ | ⟨c0, s, lv, e1, e2, hs, l1, l2, hx, hy⟩
  · exact hx _ (br_f r1 (hy _ (br_f r1 ⟨rfl, hR⟩)))
  · obtain ⟨hN1, pc, rk, K, e, g1, g2, g3, g4, g5, g6, g7, g8, g9, g10, g11⟩ := f11 c0
    subst e1 e2
    have hE : bg_ok ed (lv * 8 - 8) (ld_G cd O I N lv) := by
      rcases (show lv = 1 ∨ lv = 2 by omega) with rfl | rfl
      · exact g3
      · exact g4
    have hG : fg_ok gp (lv * 8 - 8) N (ld_G cd O I N lv) := by
      rcases (show lv = 1 ∨ lv = 2 by omega) with rfl | rfl
      · exact g5
      · exact g6
    have hP : yo_ok yp (lv * 64 - 64) N (gr_T (ld_G cd O I N lv)) := by
      rcases (show lv = 1 ∨ lv = 2 by omega) with rfl | rfl
      · exact g9
      · exact g10
    have yfin : ∀ post : Int32 → Prop, (gr_T (ld_G cd O I N lv) s s → post 1) → (¬ gr_T (ld_G cd O I N lv) s s → post 0) → (vp_in ((((nI lv * 64) - 64) + (nI s * 8)) + nI s) 128 ∧ (((yp ((((nI lv * 64) - 64) + (nI s * 8)) + nI s).toNatClampNeg) = 0 → (post 0)) ∧ (¬ (yp ((((nI lv * 64) - 64) + (nI s * 8)) + nI s).toNatClampNeg) = 0 → (post 1)))) := by
      intro post p1 p0
      rw [yo_b l1, yo_ix, nI_clamp (show lv * 64 - 64 + s * 8 + s < 2 ^ 31 by omega)]
      exact ⟨vp_in_nI (by omega) (by decide), br_c (fun z => p0 (fun w => (hP s s hs hs).mpr w z)) (fun z => p1 ((hP s s hs hs).mp z))⟩
    refine hx _ (br_t rfl (cy_walk rfl (by omega) l1 l2 hs hE ld_GN hG (fun ht => br_f (by decide) (hy _ (br_t rfl ?_))) (fun ht _ _ => br_t rfl (hy _ (br_t rfl ?_)))))
    · exact yfin (fun r' => r' = 1 ∧ _) (fun _ => ⟨rfl, hR⟩) (fun z => absurd ht z)
    · exact yfin (fun r' => r' = 0 ∧ _) (fun z => absurd z ht) (fun _ => ⟨rfl, hR⟩)
theorem i_vc_groupOf {k : Nat} {u : SX} {v : SY} (I : i_Rel k u v) (hk : k + 5 ≤ 2564) (v1 : Int32) (v2 : Int32) : wpX_groupOf (fun r => wpY_groupOf (fun r' => r' = r ∧ i_Rel (k + 5) u v) v v1 v2) u v1 v2 := by
  refine zz_el (P := fun u v => wpX_groupOf (fun r => wpY_groupOf (fun r' => r' = r ∧ i_Rel (k + 5) u v) v v1 v2) u v1 v2) ?_ I
  intro O I M C ph N Q D xg sg sb sl sr cd wd rs ed gp sq ye yp yc hF
  have hR : i_Rel (k + 5) ((nI O), (nI I), nI M, (nI C), nI ph, (nI N), nI Q, xg, nI D, sg, sb, sl, sr, cd, wd, rs, ed, gp, sq) ((nI O), (nI I), nI M, (nI C), nI ph, (nI N), nI Q, nI D, cd, wd, ye, yp, yc) := zz_mk hF
  obtain ⟨f1, f2, f3, f4, f5, f6, f7, f8, f9, f10, f11⟩ := hF
  unfold wpX_groupOf wpY_groupOf
  rcases rf_out (O := O) (I := I) (C := C) (M := M) (xq := nI Q) (xg := xg) (xr := nI D) (sg := sg) (sb := sb) (sl := sl) (sr := sr) (cd := cd) (wd := wd) (rs := rs) (ed := ed) (gp := gp) (sq := sq) (ye := ye) (yp := yp) (yc := yc) (p0 := v1) (p1 := v2) (show N ≤ 8 by omega) f5 with ⟨r, r1, hx, hy⟩ | ⟨c0, s, lv, e1, e2, hs, l1, l2, hx, hy⟩
  · exact hx _ (br_f r1 (hy _ (br_f r1 ⟨rfl, hR⟩)))
  · obtain ⟨hN1, pc, rk, K, e, g1, g2, g3, g4, g5, g6, g7, g8, g9, g10, g11⟩ := f11 c0
    subst e1 e2
    have hG : fg_ok gp (lv * 8 - 8) N (ld_G cd O I N lv) := by
      rcases (show lv = 1 ∨ lv = 2 by omega) with rfl | rfl
      · exact g5
      · exact g6
    have hP : yo_ok yp (lv * 64 - 64) N (gr_T (ld_G cd O I N lv)) := by
      rcases (show lv = 1 ∨ lv = 2 by omega) with rfl | rfl
      · exact g9
      · exact g10
    refine hx _ (br_t rfl ?_)
    rw [xb_base l1, nI_add, nI_clamp (show lv * 8 - 8 + s < 2 ^ 31 by omega)]
    refine ⟨vp_in_nI (by omega) (by decide), lo_walk ⟨s, by omega, (hG s s hs (by omega)).mpr (Or.inl rfl)⟩ ?_⟩
    intro w hw8 hw hmin
    have sw := (hG s w hs (by omega)).mp hw
    refine hy _ (br_t rfl ⟨w + 1, gw_16 (by omega) l1 l2 hs hP sw (fun x hx z => ?_) ⟨rfl, hR⟩ w 0 (by omega) _ (by omega)⟩)
    have := hmin x hx
    rw [(hG s x hs (by omega)).mpr z] at this; cases this
theorem i_vc_pieceOf {k : Nat} {u : SX} {v : SY} (I : i_Rel k u v) (hk : k + 5 ≤ 2564) (v1 : Int32) : wpX_pieceOf (fun r => wpY_pieceOf (fun r' => r' = r ∧ i_Rel (k + 5) u v) v v1) u v1 := by
  refine zz_el (P := fun u v => wpX_pieceOf (fun r => wpY_pieceOf (fun r' => r' = r ∧ i_Rel (k + 5) u v) v v1) u v1) ?_ I
  intro O I M C ph N Q D xg sg sb sl sr cd wd rs ed gp sq ye yp yc hF
  have hR : i_Rel (k + 5) ((nI O), (nI I), nI M, (nI C), nI ph, (nI N), nI Q, xg, nI D, sg, sb, sl, sr, cd, wd, rs, ed, gp, sq) ((nI O), (nI I), nI M, (nI C), nI ph, (nI N), nI Q, nI D, cd, wd, ye, yp, yc) := zz_mk hF
  obtain ⟨f1, f2, f3, f4, f5, f6, f7, f8, f9, f10, f11⟩ := hF
  unfold wpX_pieceOf wpY_pieceOf
  rcases rf_out (O := O) (I := I) (C := C) (M := M) (xq := nI Q) (xg := xg) (xr := nI D) (sg := sg) (sb := sb) (sl := sl) (sr := sr) (cd := cd) (wd := wd) (rs := rs) (ed := ed) (gp := gp) (sq := sq) (ye := ye) (yp := yp) (yc := yc) (p0 := v1) (p1 := 1) (show N ≤ 8 by omega) f5 with ⟨r, r1, hx, hy⟩ | ⟨c0, s, lv, e1, e2, hs, l1, l2, hx, hy⟩
  · exact hx _ (br_f r1 (hy _ (br_f r1 ⟨rfl, hR⟩)))
  · obtain ⟨hN1, pc, rk, K, e, g1, g2, g3, g4, g5, g6, g7, g8, g9, g10, g11⟩ := f11 c0
    subst e1
    refine hx _ (br_t rfl ⟨Q + 1, pw_18 (by omega) hs f7 g7 (g1.1 s hs) ?_ Q 0 0 (by omega) (fun z => absurd z (Nat.not_lt_zero _)) _ (by omega)⟩)
    refine hy _ (br_t rfl ⟨vp_in_nI (by omega) (by decide), ?_, hR⟩)
    rw [nI_clamp (show s < 2 ^ 31 by omega)]
    exact g11 s hs
theorem i_vc_read {k : Nat} {u : SX} {v : SY} (I : i_Rel k u v) (hk : k + 5 ≤ 2564) (v1 : Int32) (v2 : Int32) (v3 : Int32) : wpX_read (fun r => wpY_read (fun r' => r' = r ∧ i_Rel (k + 5) u v) v v1 v2 v3) u v1 v2 v3 := by
  refine zz_el (P := fun u v => wpX_read (fun r => wpY_read (fun r' => r' = r ∧ i_Rel (k + 5) u v) v v1 v2 v3) u v1 v2 v3) ?_ I
  intro O I M C ph N Q D xg sg sb sl sr cd wd rs ed gp sq ye yp yc hF
  have hR : i_Rel (k + 5) ((nI O), (nI I), nI M, (nI C), nI ph, (nI N), nI Q, xg, nI D, sg, sb, sl, sr, cd, wd, rs, ed, gp, sq) ((nI O), (nI I), nI M, (nI C), nI ph, (nI N), nI Q, nI D, cd, wd, ye, yp, yc) := zz_mk hF
  obtain ⟨f1, f2, f3, f4, f5, f6, f7, f8, f9, f10, f11⟩ := hF
  have e3 : (3 : Int32).toInt = 3 := by decide
  have e2 : (2 : Int32).toInt = 2 := by decide
  have eC : (nI C).toInt = C := nI_toInt (by omega)
  refine br_c (fun a => br_t a ⟨rfl, hR⟩) (fun a => br_c (fun b => br_f a (br_t b ⟨rfl, hR⟩)) (fun b => ?_))
  refine xi_walk f4 (fun c d => br_f (by decide) ?_) (fun n => br_t rfl (br_f a (br_f b ?_)))
  · have a' := a
    have b' := b
    rw [Int32.lt_iff_toInt_lt, za_0] at a'
    rw [Int32.lt_iff_toInt_lt, e2] at b'
    have q1 : v1 = nI v1.toInt.toNat := za_cm (by omega)
    have q2 : v2 = nI v2.toInt.toNat := za_cm (by omega)
    have q3 : v3 = nI v3.toInt.toNat := za_cm (by omega)
    generalize h1 : v1.toInt.toNat = m at *
    generalize h2 : v2.toInt.toNat = ar at *
    generalize h3 : v3.toInt.toNat = q at *
    subst q1 q2 q3
    rw [yr_ix, nI_clamp (show m * 128 + ar * 32 + q < 2 ^ 31 by omega)]
    exact ⟨vp_in_nI (by omega) (by decide), yr_walk f4 (by omega) (by omega) (by omega) ⟨rfl, hR⟩⟩
  · refine za_lt (fun _ => ⟨rfl, hR⟩) (fun c => za_lt (fun _ => ⟨rfl, hR⟩) (fun d => za_lt (fun _ => ⟨rfl, hR⟩) (fun e => za_lt (fun f => absurd ?_ n) (fun _ => ⟨rfl, hR⟩))))
    rw [za_0] at c e; rw [e3] at d; rw [eC] at f
    exact ⟨⟨c, d⟩, e, f⟩
theorem i_vc_field {k : Nat} {u : SX} {v : SY} (I : i_Rel k u v) (hk : k + 5 ≤ 2564) (v1 : Int32) (v2 : Int32) : wpX_field (fun r => wpY_field (fun r' => r' = r ∧ i_Rel (k + 5) u v) v v1 v2) u v1 v2 := by
  refine zz_el (P := fun u v => wpX_field (fun r => wpY_field (fun r' => r' = r ∧ i_Rel (k + 5) u v) v v1 v2) u v1 v2) ?_ I
  intro O I M C ph N Q D xg sg sb sl sr cd wd rs ed gp sq ye yp yc hF
  have hR : i_Rel (k + 5) ((nI O), (nI I), nI M, (nI C), nI ph, (nI N), nI Q, xg, nI D, sg, sb, sl, sr, cd, wd, rs, ed, gp, sq) ((nI O), (nI I), nI M, (nI C), nI ph, (nI N), nI Q, nI D, cd, wd, ye, yp, yc) := zz_mk hF
  obtain ⟨f1, f2, f3, f4, f5, f6, f7, f8, f9, f10, f11⟩ := hF
  refine br_c (fun a => br_t a ⟨rfl, hR⟩) (fun a => br_c (fun b => br_f a (br_t b ⟨rfl, hR⟩)) (fun b => br_c (fun c => br_f a (br_f b (br_t c ⟨rfl, hR⟩))) (fun c => br_c (fun d => ?_) (fun d => br_f a (br_f b (br_f c (br_f d ⟨rfl, hR⟩)))))))
  have hin : vp_in (v1 * 13 + v2) 117 := by
    obtain ⟨s, hs, rfl⟩ := nI_of a
    obtain ⟨p, hp, rfl⟩ := nI_of c
    rw [nI_ltI (by omega) hs] at b
    rw [show (12 : Int32) = nI 12 from rfl, nI_leI hp (by decide)] at d
    rw [xx_13, nI_add]
    exact vp_in_nI (by omega) (by decide)
  exact ⟨hin, br_f a (br_f b (br_f c (br_t d ⟨hin, rfl, hR⟩)))⟩
theorem i_vc_status {k : Nat} {u : SX} {v : SY} (I : i_Rel k u v) (hk : k + 5 ≤ 2564) (v1 : Int32) : wpX_status (fun r => wpY_status (fun r' => r' = r ∧ i_Rel (k + 5) u v) v v1) u v1 := by
  refine zz_el (P := fun u v => wpX_status (fun r => wpY_status (fun r' => r' = r ∧ i_Rel (k + 5) u v) v v1) u v1) ?_ I
  intro O I M C ph N Q D xg sg sb sl sr cd wd rs ed gp sq ye yp yc hF
  have hR : i_Rel (k + 5) ((nI O), (nI I), nI M, (nI C), nI ph, (nI N), nI Q, xg, nI D, sg, sb, sl, sr, cd, wd, rs, ed, gp, sq) ((nI O), (nI I), nI M, (nI C), nI ph, (nI N), nI Q, nI D, cd, wd, ye, yp, yc) := zz_mk hF
  exact br_c (fun a => br_t a ⟨rfl, hR⟩) (fun a => br_c (fun b => br_f a (br_t b ⟨rfl, hR⟩)) (fun b => br_c (fun c => br_f a (br_f b (br_t c ⟨rfl, hR⟩))) (fun c => br_c (fun d => br_f a (br_f b (br_f c (br_t d ⟨rfl, hR⟩)))) (fun d => br_c (fun e => br_f a (br_f b (br_f c (br_f d (br_t e ⟨rfl, hR⟩))))) (fun e => br_c (fun f => br_f a (br_f b (br_f c (br_f d (br_f e (br_t f ⟨rfl, hR⟩)))))) (fun f => br_c (fun g => br_f a (br_f b (br_f c (br_f d (br_f e (br_f f (br_t g ⟨rfl, hR⟩))))))) (fun g => br_c (fun h => br_f a (br_f b (br_f c (br_f d (br_f e (br_f f (br_f g (br_t h ⟨rfl, hR⟩)))))))) (fun h => br_f a (br_f b (br_f c (br_f d (br_f e (br_f f (br_f g (br_f h ⟨rfl, hR⟩)))))))))))))))
end
