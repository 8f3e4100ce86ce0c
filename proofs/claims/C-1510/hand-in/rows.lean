section
section
/-! sums of naturals over 0 .. n-1 -/
def hk_sm (f : Nat → Nat) : Nat → Nat
  | 0 => 0
  | n + 1 => hk_sm f n + f n
theorem hk_sm_s (f : Nat → Nat) (n : Nat) : hk_sm f (n + 1) = hk_sm f n + f n := rfl
theorem hk_sm_congr {f g : Nat → Nat} : ∀ {n : Nat}, (∀ i, i < n → f i = g i) → hk_sm f n = hk_sm g n
  | 0, _ => rfl
  | n + 1, h => by
    rw [hk_sm_s, hk_sm_s, hk_sm_congr (f := f) (g := g) (n := n) (fun i hi => h i (by omega)), h n (by omega)]
theorem hk_sm_le {f : Nat → Nat} {b : Nat} : ∀ {n : Nat}, (∀ i, i < n → f i ≤ b) → hk_sm f n ≤ b * n
  | 0, _ => Nat.zero_le _
  | n + 1, h => by
    have a := hk_sm_le (f := f) (b := b) (n := n) (fun i hi => h i (by omega))
    have c := h n (by omega)
    rw [hk_sm_s, Nat.mul_succ]; omega
theorem hk_sm_mono {f g : Nat → Nat} : ∀ {n : Nat}, (∀ i, i < n → f i ≤ g i) → hk_sm f n ≤ hk_sm g n
  | 0, _ => Nat.le_refl _
  | n + 1, h => by
    have a := hk_sm_mono (f := f) (g := g) (n := n) (fun i hi => h i (by omega))
    have c := h n (by omega)
    rw [hk_sm_s, hk_sm_s]; omega
theorem hk_sm_upd {f g : Nat → Nat} {k : Nat} : ∀ {n : Nat}, k < n → (∀ i, i < n → i ≠ k → g i = f i) → hk_sm g n + f k = hk_sm f n + g k
  | 0, h, _ => by omega
  | n + 1, hk, h => by
    rw [hk_sm_s, hk_sm_s]
    by_cases e : k = n
    · subst e
      rw [hk_sm_congr (f := g) (g := f) (n := k) (fun i hi => h i (by omega) (by omega))]; omega
    · have a := hk_sm_upd (f := f) (g := g) (k := k) (n := n) (by omega) (fun i hi => h i (by omega))
      have c := h n (by omega) (fun z => e z.symm)
      omega
theorem hk_sm_add {f g : Nat → Nat} : ∀ {n : Nat}, hk_sm (fun i => f i + g i) n = hk_sm f n + hk_sm g n
  | 0 => rfl
  | n + 1 => by
    rw [hk_sm_s, hk_sm_s, hk_sm_s, hk_sm_add (f := f) (g := g) (n := n)]; omega
theorem hk_sm_0 {f : Nat → Nat} {n : Nat} (h : ∀ i, i < n → f i = 0) : hk_sm f n = 0 := by
  have := hk_sm_le (f := f) (b := 0) (n := n) (fun i hi => Nat.le_of_eq (h i hi))
  omega
theorem hk_sm_z {n : Nat} : hk_sm (fun _ => 0) n = 0 := hk_sm_0 (fun _ _ => rfl)
theorem hk_sm_1 {f : Nat → Nat} {k n : Nat} (hk : k < n) (h : ∀ i, i < n → i ≠ k → f i = 0) : hk_sm f n = f k := by
  have a := hk_sm_upd (f := fun _ => 0) (g := f) (k := k) (n := n) hk h
  rw [hk_sm_z] at a; omega
theorem hk_sm_ge {f : Nat → Nat} {k n : Nat} (hk : k < n) : f k ≤ hk_sm f n := by
  have a := hk_sm_upd (f := f) (g := fun i => if i = k then 0 else f i) (k := k) (n := n) hk (fun i _ h => if_neg h)
  simp only [if_pos] at a; omega
theorem hk_sm_swap {F : Nat → Nat → Nat} {m : Nat} : ∀ {n : Nat}, hk_sm (fun i => hk_sm (fun j => F i j) m) n = hk_sm (fun j => hk_sm (fun i => F i j) n) m
  | 0 => (hk_sm_z).symm
  | n + 1 => by
    rw [hk_sm_s, hk_sm_swap (F := F) (m := m) (n := n), ← hk_sm_add]; rfl
theorem hk_sm_sh {f : Nat → Nat} : ∀ {n : Nat}, hk_sm f (n + 1) = f 0 + hk_sm (fun i => f (i + 1)) n
  | 0 => by show 0 + f 0 = f 0 + 0; omega
  | n + 1 => by
    rw [hk_sm_s, hk_sm_sh (f := f) (n := n), hk_sm_s]; omega
theorem hk_least {P : Nat → Prop} [DecidablePred P] : ∀ {n : Nat}, (∃ k, k < n ∧ P k) → ∃ k, k < n ∧ P k ∧ ∀ i, i < k → ¬ P i
  | 0, h => by obtain ⟨k, hk, _⟩ := h; omega
  | n + 1, h => by
    by_cases e : ∃ k, k < n ∧ P k
    · obtain ⟨k, hk, hp, hm⟩ := hk_least (P := P) (n := n) e
      exact ⟨k, by omega, hp, hm⟩
    · obtain ⟨k, hk, hp⟩ := h
      have hkn : k = n := by
        by_cases z : k < n
        · exact absurd ⟨k, z, hp⟩ e
        · omega
      subst hkn
      exact ⟨k, hk, hp, fun i hi hpi => e ⟨i, hi, hpi⟩⟩
theorem hk_sm_pos {f : Nat → Nat} {n : Nat} (h : 0 < hk_sm f n) : ∃ k, k < n ∧ 0 < f k := by
  by_cases e : ∃ k, k < n ∧ 0 < f k
  · exact e
  · have := hk_sm_0 (f := f) (n := n) (fun i hi => by
      by_cases z : 0 < f i
      · exact absurd ⟨i, hi, z⟩ e
      · omega)
    omega
theorem hk_sm_lt {f : Nat → Nat} {n : Nat} (h : hk_sm f n < n) : ∃ k, k < n ∧ f k = 0 := by
  by_cases e : ∃ k, k < n ∧ f k = 0
  · exact e
  · have := hk_sm_mono (f := fun _ => 1) (g := f) (n := n) (fun i hi => by
      by_cases z : f i = 0
      · exact absurd ⟨i, hi, z⟩ e
      · show 1 ≤ f i; omega)
    have l : ∀ m, hk_sm (fun _ => 1) m = m := by
      intro m
      induction m with
      | zero => rfl
      | succ m ih => rw [hk_sm_s, ih]
    rw [l] at this; omega
theorem hk_sm_c : ∀ m, hk_sm (fun _ => 1) m = m
  | 0 => rfl
  | m + 1 => by rw [hk_sm_s, hk_sm_c m]
/-! numbers -/
theorem hk_us {f : Nat → Int32} {k : Nat} {x : Int32} : upd f k x k = x := if_pos rfl
theorem hk_un {f : Nat → Int32} {k j : Nat} {x : Int32} (h : j ≠ k) : upd f k x j = f j := if_neg h
theorem hk_uu {f : Nat → Int32} {k : Nat} {x y : Int32} : upd (upd f k x) k y = upd f k y := by
  funext i
  by_cases h : i = k
  · subst h; rw [hk_us, hk_us]
  · rw [hk_un h, hk_un h, hk_un h]
theorem hk_ui {f : Nat → Int32} {k : Nat} {x : Int32} (h : x = f k) : upd f k x = f := by
  funext i
  by_cases e : i = k
  · subst e; rw [hk_us, h]
  · rw [hk_un e]
theorem hk_uc {f : Nat → Int32} {k l : Nat} {x y : Int32} (h : k ≠ l) : upd (upd f k x) l y = upd (upd f l y) k x := by
  funext i
  by_cases e : i = k
  · subst e; rw [hk_un h, hk_us, hk_us]
  · by_cases e2 : i = l
    · subst e2; rw [hk_us, hk_un e, hk_us]
    · rw [hk_un e2, hk_un e, hk_un e, hk_un e2]
theorem hk_cl {n : Nat} (h : n < 2147483648) : (nI n).toNatClampNeg = n := nI_clamp h
theorem hk_mul (a b : Nat) : nI a * nI b = nI (a * b) := (Int32.ofNat_mul a b).symm
theorem hk_10 (a b : Nat) : 10 * nI a + nI b = nI (10 * a + b) := by
  rw [show (10 : Int32) = nI 10 from rfl, hk_mul, nI_add]
theorem hk_8 (a b : Nat) : 8 * nI a + nI b = nI (8 * a + b) := by
  rw [show (8 : Int32) = nI 8 from rfl, hk_mul, nI_add]
theorem hk_6 (a b : Nat) : 6 * nI a + nI b = nI (6 * a + b) := by
  rw [show (6 : Int32) = nI 6 from rfl, hk_mul, nI_add]
theorem hk_4 (a b : Nat) : 4 * nI a + nI b = nI (4 * a + b) := by
  rw [show (4 : Int32) = nI 4 from rfl, hk_mul, nI_add]
theorem hk_m10 (a : Nat) : 10 * nI a = nI (10 * a) := by
  rw [show (10 : Int32) = nI 10 from rfl, hk_mul]
theorem hk_m8 (a : Nat) : 8 * nI a = nI (8 * a) := by
  rw [show (8 : Int32) = nI 8 from rfl, hk_mul]
theorem hk_m6 (a : Nat) : 6 * nI a = nI (6 * a) := by
  rw [show (6 : Int32) = nI 6 from rfl, hk_mul]
theorem hk_m4 (a : Nat) : 4 * nI a = nI (4 * a) := by
  rw [show (4 : Int32) = nI 4 from rfl, hk_mul]
theorem hk_a8 (a : Nat) : nI a + 8 = nI (a + 8) := by
  rw [show (8 : Int32) = nI 8 from rfl, nI_add]
theorem hk_a10 (a : Nat) : nI a + 10 = nI (a + 10) := by
  rw [show (10 : Int32) = nI 10 from rfl, nI_add]
theorem hk_s1 {n : Nat} (h : 0 < n) : nI n - 1 = nI (n - 1) := by
  obtain ⟨m, rfl⟩ : ∃ m, n = m + 1 := ⟨n - 1, by omega⟩
  exact nI_pred m
theorem hk_am1 (n : Nat) : nI (n + 1) + (-1) = nI n := by
  rw [← nI_1, Int32.add_assoc, show (1 : Int32) + (-1) = 0 from rfl, Int32.add_zero]
theorem hk_0m : (nI 0) - 1 = -1 := rfl
theorem hk_eq {a b : Nat} (ha : a < 2147483648) (hb : b < 2147483648) : nI a = nI b ↔ a = b := nI_eq ha hb
theorem hk_le {a b : Nat} (ha : a < 2147483648) (hb : b < 2147483648) : nI a ≤ nI b ↔ a ≤ b := nI_leI ha hb
theorem hk_lt {a b : Nat} (ha : a < 2147483648) (hb : b < 2147483648) : nI a < nI b ↔ a < b := nI_ltI ha hb
theorem hk_e0 {a : Nat} (ha : a < 2147483648) : nI a = 0 ↔ a = 0 := hk_eq (b := 0) ha (by decide)
theorem hk_l0 {a : Nat} (ha : a < 2147483648) : nI a ≤ 0 ↔ a = 0 := by
  rw [show (0 : Int32) = nI 0 from rfl, hk_le ha (by decide)]; omega
theorem hk_n0 {a : Nat} (ha : a < 2147483648) : ¬ nI a < 0 := nI_pos ha
theorem hk_0l {a : Nat} (ha : a < 2147483648) : 0 ≤ nI a := nI_pos' ha
theorem hk_m1lt : (-1 : Int32) < 0 := by decide
theorem hk_m1le : ¬ (0 : Int32) ≤ -1 := by decide
theorem hk_nm1 {a : Nat} (ha : a < 2147483648) : ¬ nI a = -1 := fun e => hk_n0 ha (e ▸ hk_m1lt)
theorem hk_toI {n : Nat} (h : n < 2147483648) : (nI n).toInt = (n : Int) := nI_toInt h
theorem hk_b8 {k : Nat} (h : k < 128) : (nI k).toInt8.toInt32 = nI k :=
  lg_i2b_small (by rw [hk_toI (by omega)]; omega) (by rw [hk_toI (by omega)]; omega)
theorem hk_b16 {k : Nat} (h : k < 32768) : (nI k).toInt16.toInt32 = nI k :=
  lg_i2s_small (by rw [hk_toI (by omega)]; omega) (by rw [hk_toI (by omega)]; omega)
theorem hk_vb {k : Nat} (h : k < 128) : vp_nar .byte (nI k) = nI k := by rw [vp_nar_byte, hk_b8 h]
theorem hk_vs {k : Nat} (h : k < 32768) : vp_nar .short (nI k) = nI k := by rw [vp_nar_short, hk_b16 h]
theorem hk_vb' {k : Nat} (h : k < 128) : vp_nar .byte (nI k).toInt8.toInt32 = nI k := by rw [hk_b8 h, hk_vb h]
theorem hk_vs' {k : Nat} (h : k < 32768) : vp_nar .short (nI k).toInt16.toInt32 = nI k := by rw [hk_b16 h, hk_vs h]
theorem hk_vbm : vp_nar .byte (-1) = -1 := by rw [vp_nar_byte]; decide
theorem hk_vb0 : vp_nar .byte 0 = 0 := by rw [vp_nar_byte]; decide
theorem hk_vb1 : vp_nar .byte 1 = 1 := by rw [vp_nar_byte]; decide
theorem hk_vs0 : vp_nar .short 0 = 0 := by rw [vp_nar_short]; decide
theorem hk_vt : vp_nar .boolean 1 = 1 := by decide
theorem hk_vf : vp_nar .boolean 0 = 0 := by decide
theorem hk_in {n N : Nat} (h : n < N) (hN : N < 2147483648 := by decide) : vp_in (nI n) N := vp_in_nI h hN
theorem hk_tn {n : Nat} (h : n < 4294967296) : (nI n).toBitVec.toNat = n := Nat.mod_eq_of_lt h
theorem hk_and (a b : Nat) : nI a &&& nI b = nI (a &&& b) := by
  apply Int32.toBitVec_inj.mp
  apply BitVec.eq_of_toNat_eq
  rw [Int32.toBitVec_and, BitVec.toNat_and]
  show (a % 2 ^ 32) &&& (b % 2 ^ 32) = (a &&& b) % 2 ^ 32
  rw [Nat.and_mod_two_pow]
theorem hk_or (a b : Nat) : nI a ||| nI b = nI (a ||| b) := by
  apply Int32.toBitVec_inj.mp
  apply BitVec.eq_of_toNat_eq
  rw [Int32.toBitVec_or, BitVec.toNat_or]
  show (a % 2 ^ 32) ||| (b % 2 ^ 32) = (a ||| b) % 2 ^ 32
  rw [Nat.or_mod_two_pow]
theorem hk_and3 (a : Nat) : nI a &&& 3 = nI (a % 4) := by
  rw [show (3 : Int32) = nI 3 from rfl, hk_and]
  exact congrArg nI (Nat.and_two_pow_sub_one_eq_mod a 2)
theorem hk_div {a d : Nat} (ha : a < 2147483648) (h0 : 0 < d) (h1 : d < 2147483648) : nI a / nI d = nI (a / d) := by
  apply Int32.toInt_inj.mp
  rw [lg_idiv_nonneg (by rw [hk_toI ha]; omega) (by rw [hk_toI h1]; omega), hk_toI ha, hk_toI h1, hk_toI (Nat.lt_of_le_of_lt (Nat.div_le_self a d) ha)]
  first | rfl | exact (Int.natCast_ediv _ _).symm
theorem hk_sub {a b : Nat} (h : b ≤ a) : nI a - nI b = nI (a - b) := by
  obtain ⟨c, rfl⟩ : ∃ c, a = c + b := ⟨a - b, by omega⟩
  rw [← nI_add, Int32.add_sub_cancel, Nat.add_sub_cancel]
theorem hk_rem6 {a : Nat} (ha : a < 2147483648) : nI a - nI a / 6 * 6 = nI (a % 6) := by
  rw [show (6 : Int32) = nI 6 from rfl, hk_div ha (by decide) (by decide), hk_mul, hk_sub (Nat.div_mul_le_self a 6)]
  exact congrArg nI (by have := Nat.div_add_mod' a 6; omega)
/-- an int is within 0 .. n-1, or not -/
theorem hk_rng (x : Int32) {n : Nat} (hn : n < 2147483648) : x < 0 ∨ nI n ≤ x ∨ ∃ j : Nat, j < n ∧ x = nI j := by
  by_cases h : x < 0
  · exact Or.inl h
  · obtain ⟨j, hj, rfl⟩ := nI_of h
    by_cases h2 : j < n
    · exact Or.inr (Or.inr ⟨j, h2, rfl⟩)
    · exact Or.inr (Or.inl ((hk_le hn hj).mpr (by omega)))
/-- a store: the index is within, and the array gets its value -/
theorem hk_st {f : Nat → Int32} {x v w : Int32} {N j : Nat} {P : (Nat → Int32) → Prop} (hx : x = nI j) (hj : j < N) (hv : v = w) (h : P (upd f j w)) (hN : N < 2147483648 := by decide) : vp_in x N ∧ ∀ z, z = upd f x.toNatClampNeg v → P z := by
  subst hx hv
  refine ⟨vp_in_nI hj hN, fun z hz => ?_⟩
  rw [hz, nI_clamp (by omega)]
  exact h
/-- a read: the index is within -/
theorem hk_rd {f : Nat → Int32} {x v : Int32} {N j : Nat} {P : Int32 → Prop} (hx : x = nI j) (hj : j < N) (hv : f j = v) (h : P v) (hN : N < 2147483648 := by decide) : vp_in x N ∧ P (f x.toNatClampNeg) := by
  subst hx hv
  refine ⟨vp_in_nI hj hN, ?_⟩
  rw [nI_clamp (by omega)]
  exact h
end
end
section
section
/-! the relation's pieces -/
def hk_K (x : Int32) : Prop := x = -1 ∨ x = 0 ∨ x = 1 ∨ x = 2 ∨ x = 3 ∨ x = 4
def hk_H (kd : Nat → Int32) (x y : Int32) : Prop := (x = 0 ∧ y = -1) ∨ ∃ o, o < 16 ∧ x = nI (o + 1) ∧ y = nI o ∧ ¬ kd o < 0
def hk_V (n : Nat) (x : Int32) : Prop := ∃ r, r < n ∧ x = nI r
def hk_mc (t1 t2 : Nat → Int32) (x : Int32) (m : Nat) : Nat := (if t1 m = x then 1 else 0) + (if t2 m = x then 1 else 0)
def hk_RE (kd wt t1 t2 : Nat → Int32) (x : Int32) (e : Nat) : Nat := if kd e = 1 then hk_sm (fun j => hk_mc t1 t2 x (4 * e + j)) (wt e).toNatClampNeg else 0
def hk_HC (rf : Nat → Int32) (o : Nat) : Nat := hk_sm (fun h => if rf h = nI o then 1 else 0) 40
def hk_MC (kd wt t1 t2 : Nat → Int32) (o : Nat) : Nat := hk_sm (hk_RE kd wt t1 t2 (nI o)) 16
def hk_RF (kd rf wt t1 t2 : Nat → Int32) (o : Nat) : Nat := hk_HC rf o + hk_MC kd wt t1 t2 o
def hk_sh (lo hi : Nat) (f : Nat → Int32) : Nat → Int32 := fun i => if lo ≤ i ∧ i < hi then f (i + 1) else f i
def hk_S (kd ev wt pe pa ow rn : Nat → Int32) (e : Nat) : Int32 :=
  if kd e = 0 then ev e else if kd e = 1 then (if wt e ≤ 0 then 0 else 256) + (if 0 ≤ pe e then 0 else 512)
  else if kd e = 3 then (if pa e ≤ 0 then 0 else 256) else if kd e = 4 then (if rn (ow e).toNatClampNeg = 0 then 1024 else 0) else 0
def hk_M (kd va f1 g1 f2 g2 vy t1 r1 t2 r2 : Nat → Int32) (i m : Nat) : Prop :=
  va i = vy m ∧ hk_H kd (f1 i) (t1 m) ∧ hk_H kd (f2 i) (t2 m) ∧ g1 i = r1 m ∧ g2 i = r2 m ∧ hk_V 64 (r1 m) ∧ hk_V 64 (r2 m)
def hk_N (pk pn ps qk qn qs : Nat → Int32) (i m : Nat) : Prop := pk i = qk m ∧ pn i = qn m ∧ ps i = qs m
def hk_W (kd : Nat → Int32) (x y z : Int32) : Prop := (∃ o, o < 16 ∧ x = nI o ∧ ¬ kd o < 0) ∧ (∃ q, q < 16 ∧ y = nI q ∧ kd q = 3) ∧ hk_V 2048 z
def hk_P1 (kd : Nat → Int32) : Prop := ∀ o, hk_K (kd o)
def hk_P2 (fo : Int32) (kd : Nat → Int32) : Prop := fo = nI (hk_sm (fun o => if kd o < 0 then 0 else 1) 16)
def hk_P3 (fr : Int32) (rn : Nat → Int32) : Prop := ∃ r, r < 16 ∧ fr = nI r ∧ ∀ p, p < 4 → rn p = nI (r / 2 ^ p % 2)
def hk_P4 (kd ob rf : Nat → Int32) : Prop := ∀ h, h < 40 → hk_H kd (ob h) (rf h)
def hk_P5 (kd re rf wt t1 t2 : Nat → Int32) : Prop := ∀ o, o < 16 → ¬ kd o < 0 → re o = nI (hk_RF kd rf wt t1 t2 o)
def hk_P6 (kd hd ct va f1 g1 f2 g2 wt vy t1 r1 t2 r2 : Nat → Int32) : Prop :=
  ∀ e, e < 16 → kd e = 1 → ∃ c h, c ≤ 4 ∧ h < 4 ∧ ct e = nI c ∧ wt e = nI c ∧ hd e = nI h ∧ ∀ j, j < c → hk_M kd va f1 g1 f2 g2 vy t1 r1 t2 r2 (4 * e + (h + j) % 4) (4 * e + j)
def hk_PP (kd ot pe : Nat → Int32) : Prop := ∀ e, e < 16 → kd e = 1 → ot e = pe e ∧ (pe e = -1 ∨ ∃ q, q < 16 ∧ pe e = nI q ∧ kd q = 1 ∧ pe q = nI e)
def hk_P7 (kd hd ct pk pn ps pa qk qn qs : Nat → Int32) : Prop :=
  ∀ e, e < 16 → kd e = 3 → ∃ c h, c ≤ 6 ∧ h < 6 ∧ ct e = nI c ∧ pa e = nI c ∧ hd e = nI h ∧ ∀ j, j < c → hk_N pk pn ps qk qn qs (6 * e + (h + j) % 6) (6 * e + j)
def hk_P8 (kd pg us ce cy : Nat → Int32) : Prop :=
  (∀ e, e < 16 → kd e = 2 → ∃ g, g < 16 ∧ pg e = nI g ∧ ∀ c, c < 8 → ce (8 * g + c) = cy (8 * e + c)) ∧
  ∀ g, g < 16 → us g = nI (hk_sm (fun e => if kd e = 2 ∧ pg e = nI g then 1 else 0) 16)
def hk_P9 (kd ot ow : Nat → Int32) : Prop :=
  (∀ e, e < 16 → kd e = 4 → ∃ p, p < 4 ∧ ot e = nI p ∧ ow e = nI p) ∧ ∀ e e', e < 16 → e' < 16 → kd e = 4 → kd e' = 4 → ow e = ow e' → e = e'
def hk_PS (kd sg ev wt pe pa ow rn : Nat → Int32) : Prop := ∀ e, e < 16 → ¬ kd e < 0 → sg e = hk_S kd ev wt pe pa ow rn e ∧ hk_V 2048 (sg e)
def hk_PW (nw : Nat) (kd wd tp bt : Nat → Int32) : Prop := nw ≤ 12 ∧ ∀ w, w < nw → hk_W kd (wd w) (tp w) (bt w)
def hk_PR (ri : Nat → Int32) : Prop := ∀ h, hk_V 64 (ri h)
def hk_Q (nw : Nat) (sg wd bt : Nat → Int32) : Prop := ∀ w, w < nw → sg (wd w).toNatClampNeg &&& bt w = 0
def hk_Z (rn rf : Nat → Int32) : Prop := ∀ p, p < 4 → rn p = 0 → ∀ j, j < 10 → rf (10 * p + j) = -1
def hk_R (fo fr : Int32) (nw : Nat) (kd re sg ot ob ri va f1 g1 f2 g2 hd ct pg us ce pk pn ps wd tp bt ev pe ow cy rf rn wt vy t1 r1 t2 r2 pa qk qn qs : Nat → Int32) : Prop :=
  hk_P1 kd ∧ hk_P2 fo kd ∧ hk_P3 fr rn ∧ hk_P4 kd ob rf ∧ hk_P5 kd re rf wt t1 t2 ∧ hk_P6 kd hd ct va f1 g1 f2 g2 wt vy t1 r1 t2 r2 ∧ hk_PP kd ot pe ∧
  hk_P7 kd hd ct pk pn ps pa qk qn qs ∧ hk_P8 kd pg us ce cy ∧ hk_P9 kd ot ow ∧ hk_PS kd sg ev wt pe pa ow rn ∧ hk_PW nw kd wd tp bt ∧ hk_PR ri
def i_Rel (k : Nat) (u : SX) (v : SY) : Prop := ∃ (fo fm fr : Int32) (nw : Nat) (kd nu re sg ot ob ri va f1 g1 f2 g2 hd ct pg us ce pk pn ps wd tp bt ky gv ga gb ev pe ow cy rf rn wt vy t1 r1 t2 r2 pa qk qn qs : Nat → Int32), u = (fo, fm, fr, nI nw, kd, nu, re, sg, ot, ob, ri, va, f1, g1, f2, g2, hd, ct, pg, us, ce, pk, pn, ps, wd, tp, bt, ky, gv, ga, gb) ∧ v = (fm, nI nw, kd, nu, ev, pe, ow, cy, rf, ri, rn, gv, ga, gb, wt, vy, t1, r1, t2, r2, pa, qk, qn, qs, wd, bt, tp, ky) ∧ hk_R fo fr nw kd re sg ot ob ri va f1 g1 f2 g2 hd ct pg us ce pk pn ps wd tp bt ev pe ow cy rf rn wt vy t1 r1 t2 r2 pa qk qn qs ∧ hk_Q nw sg wd bt ∧ hk_Z rn rf
theorem hk_el {P : SX → SY → Prop} {k : Nat} {u : SX} {v : SY} (h : ∀ (fo fm fr : Int32) (nw : Nat) (kd nu re sg ot ob ri va f1 g1 f2 g2 hd ct pg us ce pk pn ps wd tp bt ky gv ga gb ev pe ow cy rf rn wt vy t1 r1 t2 r2 pa qk qn qs : Nat → Int32), hk_R fo fr nw kd re sg ot ob ri va f1 g1 f2 g2 hd ct pg us ce pk pn ps wd tp bt ev pe ow cy rf rn wt vy t1 r1 t2 r2 pa qk qn qs → hk_Q nw sg wd bt → hk_Z rn rf → P (fo, fm, fr, nI nw, kd, nu, re, sg, ot, ob, ri, va, f1, g1, f2, g2, hd, ct, pg, us, ce, pk, pn, ps, wd, tp, bt, ky, gv, ga, gb) (fm, nI nw, kd, nu, ev, pe, ow, cy, rf, ri, rn, gv, ga, gb, wt, vy, t1, r1, t2, r2, pa, qk, qn, qs, wd, bt, tp, ky)) (I : i_Rel k u v) : P u v :=
  Exists.elim I fun fo I => Exists.elim I fun fm I => Exists.elim I fun fr I => Exists.elim I fun nw I => Exists.elim I fun kd I => Exists.elim I fun nu I => Exists.elim I fun re I => Exists.elim I fun sg I => Exists.elim I fun ot I => Exists.elim I fun ob I => Exists.elim I fun ri I => Exists.elim I fun va I => Exists.elim I fun f1 I => Exists.elim I fun g1 I => Exists.elim I fun f2 I => Exists.elim I fun g2 I => Exists.elim I fun hd I => Exists.elim I fun ct I => Exists.elim I fun pg I => Exists.elim I fun us I => Exists.elim I fun ce I => Exists.elim I fun pk I => Exists.elim I fun pn I => Exists.elim I fun ps I => Exists.elim I fun wd I => Exists.elim I fun tp I => Exists.elim I fun bt I => Exists.elim I fun ky I => Exists.elim I fun gv I => Exists.elim I fun ga I => Exists.elim I fun gb I => Exists.elim I fun ev I => Exists.elim I fun pe I => Exists.elim I fun ow I => Exists.elim I fun cy I => Exists.elim I fun rf I => Exists.elim I fun rn I => Exists.elim I fun wt I => Exists.elim I fun vy I => Exists.elim I fun t1 I => Exists.elim I fun r1 I => Exists.elim I fun t2 I => Exists.elim I fun r2 I => Exists.elim I fun pa I => Exists.elim I fun qk I => Exists.elim I fun qn I => Exists.elim I fun qs I => by rw [I.1, I.2.1]; exact h fo fm fr nw kd nu re sg ot ob ri va f1 g1 f2 g2 hd ct pg us ce pk pn ps wd tp bt ky gv ga gb ev pe ow cy rf rn wt vy t1 r1 t2 r2 pa qk qn qs I.2.2.1 I.2.2.2.1 I.2.2.2.2
theorem hk_il {k : Nat} {fo fm fr : Int32} {nw : Nat} {kd nu re sg ot ob ri va f1 g1 f2 g2 hd ct pg us ce pk pn ps wd tp bt ky gv ga gb ev pe ow cy rf rn wt vy t1 r1 t2 r2 pa qk qn qs : Nat → Int32} (R : hk_R fo fr nw kd re sg ot ob ri va f1 g1 f2 g2 hd ct pg us ce pk pn ps wd tp bt ev pe ow cy rf rn wt vy t1 r1 t2 r2 pa qk qn qs) (Q : hk_Q nw sg wd bt) (Z : hk_Z rn rf) : i_Rel k (fo, fm, fr, nI nw, kd, nu, re, sg, ot, ob, ri, va, f1, g1, f2, g2, hd, ct, pg, us, ce, pk, pn, ps, wd, tp, bt, ky, gv, ga, gb) (fm, nI nw, kd, nu, ev, pe, ow, cy, rf, ri, rn, gv, ga, gb, wt, vy, t1, r1, t2, r2, pa, qk, qn, qs, wd, bt, tp, ky) :=
  ⟨fo, fm, fr, nw, kd, nu, re, sg, ot, ob, ri, va, f1, g1, f2, g2, hd, ct, pg, us, ce, pk, pn, ps, wd, tp, bt, ky, gv, ga, gb, ev, pe, ow, cy, rf, rn, wt, vy, t1, r1, t2, r2, pa, qk, qn, qs, rfl, rfl, R, Q, Z⟩
theorem i_up {k : Nat} {u : SX} {v : SY} (h : i_Rel k u v) : i_Rel (k + 6) u v := h
end
end
section
section
theorem hk_H_mono {kd kd' : Nat → Int32} (h : ∀ o, o < 16 → ¬ kd o < 0 → ¬ kd' o < 0) {x y : Int32} (a : hk_H kd x y) : hk_H kd' x y := by
  rcases a with a | ⟨o, ho, hx, hy, hl⟩
  · exact Or.inl a
  · exact Or.inr ⟨o, ho, hx, hy, h o ho hl⟩
theorem hk_H_0 {kd : Nat → Int32} {x y : Int32} (a : hk_H kd x y) : x = 0 ↔ y < 0 := by
  rcases a with ⟨hx, hy⟩ | ⟨o, ho, hx, hy, hl⟩
  · rw [hx, hy]; exact ⟨fun _ => hk_m1lt, fun _ => rfl⟩
  · rw [hx, hy, hk_e0 (by omega)]
    exact ⟨fun z => by omega, fun z => absurd z (hk_n0 (by omega))⟩
theorem hk_HC_up {rf : Nat → Int32} {h o : Nat} {y : Int32} (hh : h < 40) : hk_HC (upd rf h y) o + (if rf h = nI o then 1 else 0) = hk_HC rf o + (if y = nI o then 1 else 0) := by
  have a := hk_sm_upd (f := fun i => if rf i = nI o then 1 else 0) (g := fun i => if upd rf h y i = nI o then 1 else 0) (k := h) (n := 40) hh (fun i _ hi => by simp only [hk_un hi])
  simp only [hk_us] at a
  unfold hk_HC
  exact a
theorem hk_RF_rf {kd rf wt t1 t2 : Nat → Int32} {h o : Nat} {y : Int32} (hh : h < 40) :
    hk_RF kd (upd rf h y) wt t1 t2 o + (if rf h = nI o then 1 else 0) = hk_RF kd rf wt t1 t2 o + (if y = nI o then 1 else 0) := by
  have a := hk_HC_up (rf := rf) (h := h) (o := o) (y := y) hh
  unfold hk_RF
  omega
theorem hk_mc_le (t1 t2 : Nat → Int32) (x : Int32) (m : Nat) : hk_mc t1 t2 x m ≤ 2 := by
  unfold hk_mc; split <;> split <;> omega
theorem hk_RE_le {kd wt t1 t2 : Nat → Int32} {x : Int32} {e : Nat} (h : kd e = 1 → ∃ c, c ≤ 4 ∧ wt e = nI c) : hk_RE kd wt t1 t2 x e ≤ 8 := by
  unfold hk_RE
  split
  · obtain ⟨c, hc, e1⟩ := h (by assumption)
    rw [e1, hk_cl (by omega)]
    have := hk_sm_le (f := fun j => hk_mc t1 t2 x (4 * e + j)) (b := 2) (n := c) (fun i _ => hk_mc_le _ _ _ _)
    omega
  · omega
theorem hk_RF_b {kd rf wt t1 t2 : Nat → Int32} {o : Nat} (h : ∀ e, e < 16 → kd e = 1 → ∃ c, c ≤ 4 ∧ wt e = nI c) : hk_RF kd rf wt t1 t2 o ≤ 168 := by
  have a := hk_sm_le (f := fun i => if rf i = nI o then 1 else 0) (b := 1) (n := 40) (fun i _ => by split <;> omega)
  have b := hk_sm_le (f := hk_RE kd wt t1 t2 (nI o)) (b := 8) (n := 16) (fun i hi => hk_RE_le (h i hi))
  unfold hk_RF hk_HC hk_MC
  omega
theorem hk_P6w {kd hd ct va f1 g1 f2 g2 wt vy t1 r1 t2 r2 : Nat → Int32} (h : hk_P6 kd hd ct va f1 g1 f2 g2 wt vy t1 r1 t2 r2) : ∀ e, e < 16 → kd e = 1 → ∃ c, c ≤ 4 ∧ wt e = nI c := by
  intro e he hk
  obtain ⟨c, h1, hc, -, -, hw, -⟩ := h e he hk
  exact ⟨c, hc, hw⟩
theorem hk_reb {fo fr : Int32} {nw : Nat} {kd re sg ot ob ri va f1 g1 f2 g2 hd ct pg us ce pk pn ps wd tp bt ev pe ow cy rf rn wt vy t1 r1 t2 r2 pa qk qn qs : Nat → Int32} (R : hk_R fo fr nw kd re sg ot ob ri va f1 g1 f2 g2 hd ct pg us ce pk pn ps wd tp bt ev pe ow cy rf rn wt vy t1 r1 t2 r2 pa qk qn qs) {o : Nat} (ho : o < 16) (hl : ¬ kd o < 0) : ∃ m, m ≤ 168 ∧ re o = nI m ∧ m = hk_RF kd rf wt t1 t2 o := by
  obtain ⟨K1, K2, K3, K4, K5, K6, KP, K7, K8, K9, KS, KW, KR⟩ := R
  exact ⟨_, hk_RF_b (hk_P6w K6), K5 o ho hl, rfl⟩
theorem hk_P4_up {kd ob rf : Nat → Int32} {h : Nat} {x y : Int32} (K : hk_P4 kd ob rf) (hv : hk_H kd x y) : hk_P4 kd (upd ob h x) (upd rf h y) := by
  intro i hi
  by_cases e : i = h
  · subst e; rw [hk_us, hk_us]; exact hv
  · rw [hk_un e, hk_un e]; exact K i hi
theorem hk_PR_up {ri : Nat → Int32} {h : Nat} {x : Int32} (K : hk_PR ri) (hv : hk_V 64 x) : hk_PR (upd ri h x) := by
  intro i
  by_cases e : i = h
  · subst e; rw [hk_us]; exact hv
  · rw [hk_un e]; exact K i
theorem hk_nIne {a b : Nat} (ha : a < 2147483648) (hb : b < 2147483648) (h : a ≠ b) : ¬ nI a = nI b := fun z => h ((hk_eq ha hb).mp z)
/-- a handle gets a place, and counts -/
theorem hk_grant {fo fr : Int32} {nw : Nat} {kd re sg ot ob ri va f1 g1 f2 g2 hd ct pg us ce pk pn ps wd tp bt ev pe ow cy rf rn wt vy t1 r1 t2 r2 pa qk qn qs : Nat → Int32} (R : hk_R fo fr nw kd re sg ot ob ri va f1 g1 f2 g2 hd ct pg us ce pk pn ps wd tp bt ev pe ow cy rf rn wt vy t1 r1 t2 r2 pa qk qn qs) {h o : Nat} {r : Int32} (hh : h < 40) (h0 : rf h = -1) (ho : o < 16) (hl : ¬ kd o < 0) (hr : hk_V 64 r) :
    hk_R fo fr nw kd (upd re o (re o + 1)) sg ot (upd ob h (nI (o + 1))) (upd ri h r) va f1 g1 f2 g2 hd ct pg us ce pk pn ps wd tp bt ev pe ow cy (upd rf h (nI o)) rn wt vy t1 r1 t2 r2 pa qk qn qs := by
  obtain ⟨K1, K2, K3, K4, K5, K6, KP, K7, K8, K9, KS, KW, KR⟩ := R
  refine ⟨K1, K2, K3, hk_P4_up K4 (Or.inr ⟨o, ho, rfl, rfl, hl⟩), ?_, K6, KP, K7, K8, K9, KS, KW, hk_PR_up KR hr⟩
  intro x hx hlx
  have a := hk_RF_rf (kd := kd) (rf := rf) (wt := wt) (t1 := t1) (t2 := t2) (h := h) (o := x) (y := nI o) hh
  rw [h0, if_neg (fun z => hk_nm1 (by omega) z.symm)] at a
  by_cases e : x = o
  · subst e
    rw [hk_us, K5 x hx hlx, nI_1]
    rw [if_pos rfl] at a
    exact congrArg nI (by omega)
  · rw [hk_un e, K5 x hx hlx]
    rw [if_neg (hk_nIne (by omega) (by omega) (fun z => e z.symm))] at a
    exact congrArg nI (by omega)
/-- a handle is no more -/
theorem hk_drop {fo fr : Int32} {nw : Nat} {kd re sg ot ob ri va f1 g1 f2 g2 hd ct pg us ce pk pn ps wd tp bt ev pe ow cy rf rn wt vy t1 r1 t2 r2 pa qk qn qs : Nat → Int32} (R : hk_R fo fr nw kd re sg ot ob ri va f1 g1 f2 g2 hd ct pg us ce pk pn ps wd tp bt ev pe ow cy rf rn wt vy t1 r1 t2 r2 pa qk qn qs) {h o : Nat} (hh : h < 40) (h0 : rf h = nI o) (ho : o < 16) (hl : ¬ kd o < 0) :
    hk_R fo fr nw kd (upd re o (re o - 1)) sg ot (upd ob h 0) ri va f1 g1 f2 g2 hd ct pg us ce pk pn ps wd tp bt ev pe ow cy (upd rf h (-1)) rn wt vy t1 r1 t2 r2 pa qk qn qs := by
  obtain ⟨K1, K2, K3, K4, K5, K6, KP, K7, K8, K9, KS, KW, KR⟩ := R
  refine ⟨K1, K2, K3, hk_P4_up K4 (Or.inl ⟨rfl, rfl⟩), ?_, K6, KP, K7, K8, K9, KS, KW, KR⟩
  intro x hx hlx
  have a := hk_RF_rf (kd := kd) (rf := rf) (wt := wt) (t1 := t1) (t2 := t2) (h := h) (o := x) (y := -1) hh
  rw [h0, if_neg (c := (-1 : Int32) = nI x) (fun z => hk_nm1 (by omega) z.symm)] at a
  by_cases e : x = o
  · subst e
    rw [hk_us, K5 x hx hlx]
    rw [if_pos rfl] at a
    rw [hk_s1 (by omega)]
    exact congrArg nI (by omega)
  · rw [hk_un e, K5 x hx hlx]
    rw [if_neg (hk_nIne (by omega) (by omega) (fun z => e z.symm))] at a
    exact congrArg nI (by omega)
/-- a live object with a handle counts at least one -/
theorem hk_dropb {fo fr : Int32} {nw : Nat} {kd re sg ot ob ri va f1 g1 f2 g2 hd ct pg us ce pk pn ps wd tp bt ev pe ow cy rf rn wt vy t1 r1 t2 r2 pa qk qn qs : Nat → Int32} (R : hk_R fo fr nw kd re sg ot ob ri va f1 g1 f2 g2 hd ct pg us ce pk pn ps wd tp bt ev pe ow cy rf rn wt vy t1 r1 t2 r2 pa qk qn qs) {h o : Nat} (hh : h < 40) (h0 : rf h = nI o) (ho : o < 16) (hl : ¬ kd o < 0) : ∃ m, m < 168 ∧ re o = nI (m + 1) := by
  obtain ⟨m, hm, e, e2⟩ := hk_reb R ho hl
  have a := hk_RF_rf (kd := kd) (rf := rf) (wt := wt) (t1 := t1) (t2 := t2) (h := h) (o := o) (y := -1) hh
  rw [h0, if_neg (c := (-1 : Int32) = nI o) (fun z => hk_nm1 (by omega) z.symm), if_pos rfl] at a
  exact ⟨m - 1, by omega, by rw [e]; exact congrArg nI (by omega)⟩
/-- rights are narrowed -/
theorem hk_restr {fo fr : Int32} {nw : Nat} {kd re sg ot ob ri va f1 g1 f2 g2 hd ct pg us ce pk pn ps wd tp bt ev pe ow cy rf rn wt vy t1 r1 t2 r2 pa qk qn qs : Nat → Int32} (R : hk_R fo fr nw kd re sg ot ob ri va f1 g1 f2 g2 hd ct pg us ce pk pn ps wd tp bt ev pe ow cy rf rn wt vy t1 r1 t2 r2 pa qk qn qs) {h : Nat} {r : Int32} (hr : hk_V 64 r) : hk_R fo fr nw kd re sg ot ob (upd ri h r) va f1 g1 f2 g2 hd ct pg us ce pk pn ps wd tp bt ev pe ow cy rf rn wt vy t1 r1 t2 r2 pa qk qn qs := by
  obtain ⟨K1, K2, K3, K4, K5, K6, KP, K7, K8, K9, KS, KW, KR⟩ := R
  exact ⟨K1, K2, K3, K4, K5, K6, KP, K7, K8, K9, KS, KW, hk_PR_up KR hr⟩
end
end
section
section
theorem hk_MC_up {kd wt t1 t2 wt' t1' t2' : Nat → Int32} {e o : Nat} (he : e < 16) (h : ∀ i, i < 16 → i ≠ e → hk_RE kd wt' t1' t2' (nI o) i = hk_RE kd wt t1 t2 (nI o) i) :
    hk_MC kd wt' t1' t2' o + hk_RE kd wt t1 t2 (nI o) e = hk_MC kd wt t1 t2 o + hk_RE kd wt' t1' t2' (nI o) e :=
  hk_sm_upd (f := hk_RE kd wt t1 t2 (nI o)) (g := hk_RE kd wt' t1' t2' (nI o)) he h
theorem hk_RE_1 {kd wt t1 t2 : Nat → Int32} {x : Int32} {e c : Nat} (hk : kd e = 1) (hw : wt e = nI c) (hc : c ≤ 4) : hk_RE kd wt t1 t2 x e = hk_sm (fun j => hk_mc t1 t2 x (4 * e + j)) c := by
  unfold hk_RE
  rw [if_pos hk, hw, hk_cl (by omega)]
theorem hk_RE_c {kd wt t1 t2 wt' t1' t2' : Nat → Int32} {x : Int32} {e : Nat} (hw : wt' e = wt e) (h : kd e = 1 → ∃ c, c ≤ 4 ∧ wt e = nI c) (h1 : ∀ j, j < 4 → t1' (4 * e + j) = t1 (4 * e + j)) (h2 : ∀ j, j < 4 → t2' (4 * e + j) = t2 (4 * e + j)) :
    hk_RE kd wt' t1' t2' x e = hk_RE kd wt t1 t2 x e := by
  unfold hk_RE
  split
  · obtain ⟨c, hc, e1⟩ := h (by assumption)
    rw [hw, e1, hk_cl (by omega)]
    refine hk_sm_congr fun i hi => ?_
    unfold hk_mc
    rw [h1 i (by omega), h2 i (by omega)]
  · rfl
/-- a message more -/
theorem hk_MC_push {kd wt t1 t2 : Nat → Int32} {e c o : Nat} {y1 y2 : Int32} (he : e < 16) (hk : kd e = 1) (hw : wt e = nI c) (hc : c < 4) (H : ∀ e, e < 16 → kd e = 1 → ∃ c, c ≤ 4 ∧ wt e = nI c) :
    hk_MC kd (upd wt e (nI (c + 1))) (upd t1 (4 * e + c) y1) (upd t2 (4 * e + c) y2) o = hk_MC kd wt t1 t2 o + (if y1 = nI o then 1 else 0) + (if y2 = nI o then 1 else 0) := by
  have a := hk_MC_up (kd := kd) (wt := wt) (t1 := t1) (t2 := t2) (wt' := upd wt e (nI (c + 1))) (t1' := upd t1 (4 * e + c) y1) (t2' := upd t2 (4 * e + c) y2) (o := o) he (fun i hi hne => hk_RE_c (hk_un hne) (H i hi) (fun j hj => hk_un (by omega)) (fun j hj => hk_un (by omega)))
  rw [hk_RE_1 hk hw (by omega), hk_RE_1 (c := c + 1) hk hk_us (by omega), hk_sm_s] at a
  have b : hk_sm (fun j => hk_mc (upd t1 (4 * e + c) y1) (upd t2 (4 * e + c) y2) (nI o) (4 * e + j)) c = hk_sm (fun j => hk_mc t1 t2 (nI o) (4 * e + j)) c :=
    hk_sm_congr fun i hi => by unfold hk_mc; rw [hk_un (by omega), hk_un (by omega)]
  have d : hk_mc (upd t1 (4 * e + c) y1) (upd t2 (4 * e + c) y2) (nI o) (4 * e + c) = (if y1 = nI o then 1 else 0) + (if y2 = nI o then 1 else 0) := by
    unfold hk_mc; rw [hk_us, hk_us]
  omega
theorem hk_sh_in {lo hi i : Nat} {f : Nat → Int32} (h1 : lo ≤ i) (h2 : i < hi) : hk_sh lo hi f i = f (i + 1) := if_pos ⟨h1, h2⟩
theorem hk_sh_lo {lo hi i : Nat} {f : Nat → Int32} (h1 : i < lo) : hk_sh lo hi f i = f i := if_neg (by omega)
theorem hk_sh_hi {lo hi i : Nat} {f : Nat → Int32} (h1 : hi ≤ i) : hk_sh lo hi f i = f i := if_neg (by omega)
/-- the first message less -/
theorem hk_MC_pop {kd wt t1 t2 : Nat → Int32} {e c o : Nat} (he : e < 16) (hk : kd e = 1) (hw : wt e = nI (c + 1)) (hc : c < 4) (H : ∀ e, e < 16 → kd e = 1 → ∃ c, c ≤ 4 ∧ wt e = nI c) :
    hk_MC kd (upd wt e (nI c)) (hk_sh (4 * e) (4 * e + c) t1) (hk_sh (4 * e) (4 * e + c) t2) o + (if t1 (4 * e) = nI o then 1 else 0) + (if t2 (4 * e) = nI o then 1 else 0) = hk_MC kd wt t1 t2 o := by
  have q : ∀ i j : Nat, i ≠ e → j < 4 → 4 * i + j < 4 * e ∨ 4 * e + c ≤ 4 * i + j := fun i j h1 h2 => by omega
  have g : ∀ (f : Nat → Int32) (i j : Nat), i ≠ e → j < 4 → hk_sh (4 * e) (4 * e + c) f (4 * i + j) = f (4 * i + j) := fun f i j h1 h2 => by
    rcases q i j h1 h2 with z | z
    · exact hk_sh_lo z
    · exact hk_sh_hi z
  have a := hk_MC_up (kd := kd) (wt := wt) (t1 := t1) (t2 := t2) (wt' := upd wt e (nI c)) (t1' := hk_sh (4 * e) (4 * e + c) t1) (t2' := hk_sh (4 * e) (4 * e + c) t2) (o := o) he (fun i hi hne => hk_RE_c (hk_un hne) (H i hi) (fun j hj => g _ i j hne hj) (fun j hj => g _ i j hne hj))
  rw [hk_RE_1 hk hw (by omega), hk_RE_1 (c := c) hk hk_us (by omega), hk_sm_sh] at a
  have b : hk_sm (fun j => hk_mc (hk_sh (4 * e) (4 * e + c) t1) (hk_sh (4 * e) (4 * e + c) t2) (nI o) (4 * e + j)) c = hk_sm (fun i => hk_mc t1 t2 (nI o) (4 * e + (i + 1))) c :=
    hk_sm_congr fun i hi => by
      unfold hk_mc; rw [hk_sh_in (by omega) (by omega), hk_sh_in (by omega) (by omega)]; rfl
  have d : hk_mc t1 t2 (nI o) (4 * e + 0) = (if t1 (4 * e) = nI o then 1 else 0) + (if t2 (4 * e) = nI o then 1 else 0) := rfl
  omega
theorem hk_S_1 {kd ev wt pe pa ow rn : Nat → Int32} {e : Nat} (h : kd e = 1) : hk_S kd ev wt pe pa ow rn e = (if wt e ≤ 0 then 0 else 256) + (if 0 ≤ pe e then 0 else 512) := by
  unfold hk_S
  rw [if_neg (by rw [h]; decide), if_pos h]
theorem hk_S_0 {kd ev wt pe pa ow rn : Nat → Int32} {e : Nat} (h : kd e = 0) : hk_S kd ev wt pe pa ow rn e = ev e := by
  unfold hk_S
  rw [if_pos h]
theorem hk_S_2 {kd ev wt pe pa ow rn : Nat → Int32} {e : Nat} (h : kd e = 2) : hk_S kd ev wt pe pa ow rn e = 0 := by
  unfold hk_S
  rw [if_neg (by rw [h]; decide), if_neg (by rw [h]; decide), if_neg (by rw [h]; decide), if_neg (by rw [h]; decide)]
theorem hk_S_3 {kd ev wt pe pa ow rn : Nat → Int32} {e : Nat} (h : kd e = 3) : hk_S kd ev wt pe pa ow rn e = (if pa e ≤ 0 then 0 else 256) := by
  unfold hk_S
  rw [if_neg (by rw [h]; decide), if_neg (by rw [h]; decide), if_pos h]
theorem hk_S_4 {kd ev wt pe pa ow rn : Nat → Int32} {e : Nat} (h : kd e = 4) : hk_S kd ev wt pe pa ow rn e = (if rn (ow e).toNatClampNeg = 0 then 1024 else 0) := by
  unfold hk_S
  rw [if_neg (by rw [h]; decide), if_neg (by rw [h]; decide), if_neg (by rw [h]; decide), if_pos h]
/-- signals elsewhere stay -/
theorem hk_S_c {kd ev wt pe pa ow rn kd' ev' wt' pe' pa' ow' rn' : Nat → Int32} {e : Nat} (h1 : kd' e = kd e) (h2 : ev' e = ev e) (h3 : wt' e = wt e) (h4 : pe' e = pe e) (h5 : pa' e = pa e) (h6 : ow' e = ow e) (h7 : kd e = 4 → rn' (ow e).toNatClampNeg = rn (ow e).toNatClampNeg) :
    hk_S kd' ev' wt' pe' pa' ow' rn' e = hk_S kd ev wt pe pa ow rn e := by
  unfold hk_S
  rw [h1, h2, h3, h4, h5, h6]
  by_cases z : kd e = 4
  · rw [h7 z]
  · rw [if_neg z, if_neg z]
theorem hk_M_mono {kd kd' va f1 g1 f2 g2 vy t1 r1 t2 r2 : Nat → Int32} {i m : Nat} (h : ∀ o, o < 16 → ¬ kd o < 0 → ¬ kd' o < 0) (a : hk_M kd va f1 g1 f2 g2 vy t1 r1 t2 r2 i m) : hk_M kd' va f1 g1 f2 g2 vy t1 r1 t2 r2 i m := by
  obtain ⟨a1, a2, a3, a4⟩ := a
  exact ⟨a1, hk_H_mono h a2, hk_H_mono h a3, a4⟩
theorem hk_M_c {kd va f1 g1 f2 g2 vy t1 r1 t2 r2 va' f1' g1' f2' g2' vy' t1' r1' t2' r2' : Nat → Int32} {i m i' m' : Nat} (a : hk_M kd va f1 g1 f2 g2 vy t1 r1 t2 r2 i m)
    (h1 : va' i' = va i) (h2 : f1' i' = f1 i) (h3 : g1' i' = g1 i) (h4 : f2' i' = f2 i) (h5 : g2' i' = g2 i) (k1 : vy' m' = vy m) (k2 : t1' m' = t1 m) (k3 : r1' m' = r1 m) (k4 : t2' m' = t2 m) (k5 : r2' m' = r2 m) :
    hk_M kd va' f1' g1' f2' g2' vy' t1' r1' t2' r2' i' m' := by
  unfold hk_M at a ⊢
  rw [h1, h2, h3, h4, h5, k1, k2, k3, k4, k5]
  exact a
theorem hk_1n0 {x : Int32} (h : x = 1) : ¬ x < 0 := by rw [h]; decide
theorem hk_3n0 {x : Int32} (h : x = 3) : ¬ x < 0 := by rw [h]; decide
theorem hk_4n0 {x : Int32} (h : x = 4) : ¬ x < 0 := by rw [h]; decide
theorem hk_2n0 {x : Int32} (h : x = 2) : ¬ x < 0 := by rw [h]; decide
theorem hk_0n0 {x : Int32} (h : x = 0) : ¬ x < 0 := by rw [h]; decide
/-- sending: a message more at an end, its handles come from places -/
theorem hk_push {fo fr : Int32} {nw : Nat} {kd re sg ot ob ri va f1 g1 f2 g2 hd ct pg us ce pk pn ps wd tp bt ev pe ow cy rf rn wt vy t1 r1 t2 r2 pa qk qn qs : Nat → Int32} (R : hk_R fo fr nw kd re sg ot ob ri va f1 g1 f2 g2 hd ct pg us ce pk pn ps wd tp bt ev pe ow cy rf rn wt vy t1 r1 t2 r2 pa qk qn qs) {ob' rf' : Nat → Int32} {e c h : Nat} {v x1 y1 s1 x2 y2 s2 : Int32} (he : e < 16) (hk : kd e = 1) (hct : ct e = nI c) (hc : c < 4) (hhd : hd e = nI h) (hh : h < 4)
    (H1 : hk_H kd x1 y1) (H2 : hk_H kd x2 y2) (V1 : hk_V 64 s1) (V2 : hk_V 64 s2) (H4 : hk_P4 kd ob' rf') (HH : ∀ o, o < 16 → hk_HC rf' o + (if y1 = nI o then 1 else 0) + (if y2 = nI o then 1 else 0) = hk_HC rf o) :
    hk_R fo fr nw kd re (upd sg e (sg e ||| 256)) ot ob' ri (upd va (4 * e + (h + c) % 4) v) (upd f1 (4 * e + (h + c) % 4) x1) (upd g1 (4 * e + (h + c) % 4) s1) (upd f2 (4 * e + (h + c) % 4) x2) (upd g2 (4 * e + (h + c) % 4) s2) hd (upd ct e (nI (c + 1))) pg us ce pk pn ps wd tp bt ev pe ow cy rf' rn (upd wt e (nI (c + 1))) (upd vy (4 * e + c) v) (upd t1 (4 * e + c) y1) (upd r1 (4 * e + c) s1) (upd t2 (4 * e + c) y2) (upd r2 (4 * e + c) s2) pa qk qn qs := by
  obtain ⟨K1, K2, K3, K4, K5, K6, KP, K7, K8, K9, KS, KW, KR⟩ := R
  obtain ⟨c', h', hc', hh', ect, ewt, ehd, eM⟩ := K6 e he hk
  have hcc : c' = c := (hk_eq (by omega) (by omega)).mp (ect.symm.trans hct)
  have hhh : h' = h := (hk_eq (by omega) (by omega)).mp (ehd.symm.trans hhd)
  subst hcc hhh
  refine ⟨K1, K2, K3, H4, ?_, ?_, KP, ?_, K8, K9, ?_, KW, KR⟩
  · intro o ho hl
    rw [K5 o ho hl]
    refine congrArg nI ?_
    have a := hk_MC_push (kd := kd) (wt := wt) (t1 := t1) (t2 := t2) (o := o) (y1 := y1) (y2 := y2) he hk ewt hc (hk_P6w K6)
    have b := HH o ho
    unfold hk_RF
    omega
  · intro i hi hki
    by_cases z : i = e
    · subst z
      refine ⟨c' + 1, h', by omega, hh', hk_us, hk_us, ehd, fun j hj => ?_⟩
      by_cases y : j = c'
      · subst y
        exact ⟨by rw [hk_us, hk_us], by rw [hk_us, hk_us]; exact H1, by rw [hk_us, hk_us]; exact H2, by rw [hk_us, hk_us], by rw [hk_us, hk_us], by rw [hk_us]; exact V1, by rw [hk_us]; exact V2⟩
      · have n1 : 4 * i + (h' + j) % 4 ≠ 4 * i + (h' + c') % 4 := by omega
        have n2 : 4 * i + j ≠ 4 * i + c' := by omega
        exact hk_M_c (eM j (by omega)) (hk_un n1) (hk_un n1) (hk_un n1) (hk_un n1) (hk_un n1) (hk_un n2) (hk_un n2) (hk_un n2) (hk_un n2) (hk_un n2)
    · obtain ⟨a, b, ha, hb, e1, e2, e3, e4⟩ := K6 i hi hki
      refine ⟨a, b, ha, hb, by rw [hk_un z]; exact e1, by rw [hk_un z]; exact e2, e3, fun j hj => ?_⟩
      have n1 : 4 * i + (b + j) % 4 ≠ 4 * e + (h' + c') % 4 := by omega
      have n2 : 4 * i + j ≠ 4 * e + c' := by omega
      exact hk_M_c (e4 j hj) (hk_un n1) (hk_un n1) (hk_un n1) (hk_un n1) (hk_un n1) (hk_un n2) (hk_un n2) (hk_un n2) (hk_un n2) (hk_un n2)
  · intro i hi hki
    have z : i ≠ e := fun z => absurd (hki.symm.trans (z ▸ hk)) (by decide)
    rw [hk_un z]
    exact K7 i hi hki
  · intro i hi hl
    by_cases z : i = e
    · subst z
      have a := (KS i hi hl).1
      rw [hk_S_1 hk, ewt] at a
      rw [hk_us, hk_S_1 hk, hk_us, a, if_neg (c := nI (c' + 1) ≤ 0) (by rw [hk_l0 (by omega)]; omega)]
      by_cases p1 : nI c' ≤ 0 <;> by_cases p2 : 0 ≤ pe i <;> simp only [p1, p2, if_true, if_false]
      · exact ⟨by decide, 256, by decide, by decide⟩
      · exact ⟨by decide, 768, by decide, by decide⟩
      · exact ⟨by decide, 256, by decide, by decide⟩
      · exact ⟨by decide, 768, by decide, by decide⟩
    · rw [hk_un z, hk_S_c rfl rfl (hk_un z) rfl rfl rfl (fun _ => rfl)]
      exact KS i hi hl
/-- receiving: the first message of an end goes, its handles go to places -/
theorem hk_pop {fo fr : Int32} {nw : Nat} {kd re sg ot ob ri va f1 g1 f2 g2 hd ct pg us ce pk pn ps wd tp bt ev pe ow cy rf rn wt vy t1 r1 t2 r2 pa qk qn qs : Nat → Int32} (R : hk_R fo fr nw kd re sg ot ob ri va f1 g1 f2 g2 hd ct pg us ce pk pn ps wd tp bt ev pe ow cy rf rn wt vy t1 r1 t2 r2 pa qk qn qs) {ob' rf' ri' : Nat → Int32} {e c h : Nat} {s : Int32} (he : e < 16) (hk : kd e = 1) (hct : ct e = nI (c + 1)) (hc : c < 4) (hhd : hd e = nI h) (hh : h < 4)
    (hs : s = if c = 0 then sg e &&& (-257) else sg e) (H4 : hk_P4 kd ob' rf') (HR : hk_PR ri') (HH : ∀ o, o < 16 → hk_HC rf' o = hk_HC rf o + (if t1 (4 * e) = nI o then 1 else 0) + (if t2 (4 * e) = nI o then 1 else 0)) :
    hk_R fo fr nw kd re (upd sg e s) ot ob' ri' va f1 g1 f2 g2 (upd hd e (nI ((h + 1) % 4))) (upd ct e (nI c)) pg us ce pk pn ps wd tp bt ev pe ow cy rf' rn (upd wt e (nI c)) (hk_sh (4 * e) (4 * e + c) vy) (hk_sh (4 * e) (4 * e + c) t1) (hk_sh (4 * e) (4 * e + c) r1) (hk_sh (4 * e) (4 * e + c) t2) (hk_sh (4 * e) (4 * e + c) r2) pa qk qn qs := by
  obtain ⟨K1, K2, K3, K4, K5, K6, KP, K7, K8, K9, KS, KW, KR⟩ := R
  obtain ⟨c', h', hc', hh', ect, ewt, ehd, eM⟩ := K6 e he hk
  have hcc : c' = c + 1 := (hk_eq (by omega) (by omega)).mp (ect.symm.trans hct)
  have hhh : h' = h := (hk_eq (by omega) (by omega)).mp (ehd.symm.trans hhd)
  subst hcc hhh
  refine ⟨K1, K2, K3, H4, ?_, ?_, KP, ?_, K8, K9, ?_, KW, HR⟩
  · intro o ho hl
    rw [K5 o ho hl]
    refine congrArg nI ?_
    have a := hk_MC_pop (kd := kd) (wt := wt) (t1 := t1) (t2 := t2) (o := o) he hk ewt hc (hk_P6w K6)
    have b := HH o ho
    unfold hk_RF
    omega
  · intro i hi hki
    by_cases z : i = e
    · subst z
      refine ⟨c, (h' + 1) % 4, by omega, by omega, hk_us, hk_us, hk_us, fun j hj => ?_⟩
      have n1 : 4 * i + ((h' + 1) % 4 + j) % 4 = 4 * i + (h' + (j + 1)) % 4 := by omega
      have n2 : ∀ f : Nat → Int32, hk_sh (4 * i) (4 * i + c) f (4 * i + j) = f (4 * i + (j + 1)) := fun f => hk_sh_in (by omega) (by omega)
      rw [n1]
      exact hk_M_c (eM (j + 1) (by omega)) rfl rfl rfl rfl rfl (n2 _) (n2 _) (n2 _) (n2 _) (n2 _)
    · obtain ⟨a, b, ha, hb, e1, e2, e3, e4⟩ := K6 i hi hki
      refine ⟨a, b, ha, hb, by rw [hk_un z]; exact e1, by rw [hk_un z]; exact e2, by rw [hk_un z]; exact e3, fun j hj => ?_⟩
      have n2 : ∀ f : Nat → Int32, hk_sh (4 * e) (4 * e + c) f (4 * i + j) = f (4 * i + j) := fun f => by
        rcases Nat.lt_or_ge i e with y | y
        · exact hk_sh_lo (by omega)
        · exact hk_sh_hi (by omega)
      exact hk_M_c (e4 j hj) rfl rfl rfl rfl rfl (n2 _) (n2 _) (n2 _) (n2 _) (n2 _)
  · intro i hi hki
    have z : i ≠ e := fun z => absurd (hki.symm.trans (z ▸ hk)) (by decide)
    rw [hk_un z, hk_un z]
    exact K7 i hi hki
  · intro i hi hl
    by_cases z : i = e
    · subst z
      have a := (KS i hi hl).1
      rw [hk_S_1 hk, ewt, if_neg (c := nI (c + 1) ≤ 0) (by rw [hk_l0 (by omega)]; omega)] at a
      rw [hk_us, hk_S_1 hk, hk_us, hs, a]
      by_cases p1 : c = 0
      · subst p1
        by_cases p2 : 0 ≤ pe i <;> simp only [p2, if_true, if_false]
        · exact ⟨by decide, 0, by decide, by decide⟩
        · exact ⟨by decide, 512, by decide, by decide⟩
      · rw [if_neg p1, if_neg (c := nI c ≤ 0) (by rw [hk_l0 (by omega)]; omega)]
        by_cases p2 : 0 ≤ pe i <;> simp only [p2, if_true, if_false]
        · exact ⟨by decide, 256, by decide, by decide⟩
        · exact ⟨by decide, 768, by decide, by decide⟩
    · rw [hk_un z, hk_S_c rfl rfl (hk_un z) rfl rfl rfl (fun _ => rfl)]
      exact KS i hi hl
end
end
section
section
theorem hk_N_c {pk pn ps qk qn qs pk' pn' ps' qk' qn' qs' : Nat → Int32} {i m i' m' : Nat} (a : hk_N pk pn ps qk qn qs i m) (h1 : pk' i' = pk i) (h2 : pn' i' = pn i) (h3 : ps' i' = ps i) (k1 : qk' m' = qk m) (k2 : qn' m' = qn m) (k3 : qs' m' = qs m) :
    hk_N pk' pn' ps' qk' qn' qs' i' m' := by
  unfold hk_N at a ⊢
  rw [h1, h2, h3, k1, k2, k3]
  exact a
/-- a packet more at a port -/
theorem hk_pkin {fo fr : Int32} {nw : Nat} {kd re sg ot ob ri va f1 g1 f2 g2 hd ct pg us ce pk pn ps wd tp bt ev pe ow cy rf rn wt vy t1 r1 t2 r2 pa qk qn qs : Nat → Int32} (R : hk_R fo fr nw kd re sg ot ob ri va f1 g1 f2 g2 hd ct pg us ce pk pn ps wd tp bt ev pe ow cy rf rn wt vy t1 r1 t2 r2 pa qk qn qs) {e c h : Nat} {v1 v2 v3 : Int32} (he : e < 16) (hk : kd e = 3) (hct : ct e = nI c) (hc : c < 6) (hhd : hd e = nI h) (hh : h < 6) :
    hk_R fo fr nw kd re (upd sg e (sg e ||| 256)) ot ob ri va f1 g1 f2 g2 hd (upd ct e (nI (c + 1))) pg us ce (upd pk (6 * e + (h + c) % 6) v1) (upd pn (6 * e + (h + c) % 6) v2) (upd ps (6 * e + (h + c) % 6) v3) wd tp bt ev pe ow cy rf rn wt vy t1 r1 t2 r2 (upd pa e (nI (c + 1))) (upd qk (6 * e + c) v1) (upd qn (6 * e + c) v2) (upd qs (6 * e + c) v3) := by
  obtain ⟨K1, K2, K3, K4, K5, K6, KP, K7, K8, K9, KS, KW, KR⟩ := R
  obtain ⟨c', h', hc', hh', ect, epa, ehd, eM⟩ := K7 e he hk
  have hcc : c' = c := (hk_eq (by omega) (by omega)).mp (ect.symm.trans hct)
  have hhh : h' = h := (hk_eq (by omega) (by omega)).mp (ehd.symm.trans hhd)
  subst hcc hhh
  refine ⟨K1, K2, K3, K4, K5, ?_, KP, ?_, K8, K9, ?_, KW, KR⟩
  · intro i hi hki
    have z : i ≠ e := fun z => absurd (hki.symm.trans (z ▸ hk)) (by decide)
    rw [hk_un z]
    exact K6 i hi hki
  · intro i hi hki
    by_cases z : i = e
    · subst z
      refine ⟨c' + 1, h', by omega, hh', hk_us, hk_us, ehd, fun j hj => ?_⟩
      by_cases y : j = c'
      · subst y
        exact ⟨by rw [hk_us, hk_us], by rw [hk_us, hk_us], by rw [hk_us, hk_us]⟩
      · have n1 : 6 * i + (h' + j) % 6 ≠ 6 * i + (h' + c') % 6 := by omega
        have n2 : 6 * i + j ≠ 6 * i + c' := by omega
        exact hk_N_c (eM j (by omega)) (hk_un n1) (hk_un n1) (hk_un n1) (hk_un n2) (hk_un n2) (hk_un n2)
    · obtain ⟨a, b, ha, hb, e1, e2, e3, e4⟩ := K7 i hi hki
      refine ⟨a, b, ha, hb, by rw [hk_un z]; exact e1, by rw [hk_un z]; exact e2, e3, fun j hj => ?_⟩
      have n1 : 6 * i + (b + j) % 6 ≠ 6 * e + (h' + c') % 6 := by omega
      have n2 : 6 * i + j ≠ 6 * e + c' := by omega
      exact hk_N_c (e4 j hj) (hk_un n1) (hk_un n1) (hk_un n1) (hk_un n2) (hk_un n2) (hk_un n2)
  · intro i hi hl
    by_cases z : i = e
    · subst z
      have a := (KS i hi hl).1
      rw [hk_S_3 hk, epa] at a
      rw [hk_us, hk_S_3 hk, hk_us, a, if_neg (c := nI (c' + 1) ≤ 0) (by rw [hk_l0 (by omega)]; omega)]
      by_cases p1 : nI c' ≤ 0 <;> simp only [p1, if_true, if_false]
      · exact ⟨by decide, 256, by decide, by decide⟩
      · exact ⟨by decide, 256, by decide, by decide⟩
    · rw [hk_un z, hk_S_c rfl rfl rfl rfl (hk_un z) rfl (fun _ => rfl)]
      exact KS i hi hl
/-- the first packet of a port goes -/
theorem hk_pkout {fo fr : Int32} {nw : Nat} {kd re sg ot ob ri va f1 g1 f2 g2 hd ct pg us ce pk pn ps wd tp bt ev pe ow cy rf rn wt vy t1 r1 t2 r2 pa qk qn qs : Nat → Int32} (R : hk_R fo fr nw kd re sg ot ob ri va f1 g1 f2 g2 hd ct pg us ce pk pn ps wd tp bt ev pe ow cy rf rn wt vy t1 r1 t2 r2 pa qk qn qs) {e c h : Nat} {s : Int32} (he : e < 16) (hk : kd e = 3) (hct : ct e = nI (c + 1)) (hc : c < 6) (hhd : hd e = nI h) (hh : h < 6) (hs : s = if c = 0 then sg e &&& (-257) else sg e) :
    hk_R fo fr nw kd re (upd sg e s) ot ob ri va f1 g1 f2 g2 (upd hd e (nI ((h + 1) % 6))) (upd ct e (nI c)) pg us ce pk pn ps wd tp bt ev pe ow cy rf rn wt vy t1 r1 t2 r2 (upd pa e (nI c)) (hk_sh (6 * e) (6 * e + c) qk) (hk_sh (6 * e) (6 * e + c) qn) (hk_sh (6 * e) (6 * e + c) qs) := by
  obtain ⟨K1, K2, K3, K4, K5, K6, KP, K7, K8, K9, KS, KW, KR⟩ := R
  obtain ⟨c', h', hc', hh', ect, epa, ehd, eM⟩ := K7 e he hk
  have hcc : c' = c + 1 := (hk_eq (by omega) (by omega)).mp (ect.symm.trans hct)
  have hhh : h' = h := (hk_eq (by omega) (by omega)).mp (ehd.symm.trans hhd)
  subst hcc hhh
  refine ⟨K1, K2, K3, K4, K5, ?_, KP, ?_, K8, K9, ?_, KW, KR⟩
  · intro i hi hki
    have z : i ≠ e := fun z => absurd (hki.symm.trans (z ▸ hk)) (by decide)
    rw [hk_un z, hk_un z]
    exact K6 i hi hki
  · intro i hi hki
    by_cases z : i = e
    · subst z
      refine ⟨c, (h' + 1) % 6, by omega, by omega, hk_us, hk_us, hk_us, fun j hj => ?_⟩
      have n1 : 6 * i + ((h' + 1) % 6 + j) % 6 = 6 * i + (h' + (j + 1)) % 6 := by omega
      have n2 : ∀ f : Nat → Int32, hk_sh (6 * i) (6 * i + c) f (6 * i + j) = f (6 * i + (j + 1)) := fun f => hk_sh_in (by omega) (by omega)
      rw [n1]
      exact hk_N_c (eM (j + 1) (by omega)) rfl rfl rfl (n2 _) (n2 _) (n2 _)
    · obtain ⟨a, b, ha, hb, e1, e2, e3, e4⟩ := K7 i hi hki
      refine ⟨a, b, ha, hb, by rw [hk_un z]; exact e1, by rw [hk_un z]; exact e2, by rw [hk_un z]; exact e3, fun j hj => ?_⟩
      have n2 : ∀ f : Nat → Int32, hk_sh (6 * e) (6 * e + c) f (6 * i + j) = f (6 * i + j) := fun f => by
        rcases Nat.lt_or_ge i e with y | y
        · exact hk_sh_lo (by omega)
        · exact hk_sh_hi (by omega)
      exact hk_N_c (e4 j hj) rfl rfl rfl (n2 _) (n2 _) (n2 _)
  · intro i hi hl
    by_cases z : i = e
    · subst z
      have a := (KS i hi hl).1
      rw [hk_S_3 hk, epa, if_neg (c := nI (c + 1) ≤ 0) (by rw [hk_l0 (by omega)]; omega)] at a
      rw [hk_us, hk_S_3 hk, hk_us, hs, a]
      by_cases p1 : c = 0
      · subst p1
        exact ⟨by decide, 0, by decide, by decide⟩
      · rw [if_neg p1, if_neg (c := nI c ≤ 0) (by rw [hk_l0 (by omega)]; omega)]
        exact ⟨rfl, 256, by decide, rfl⟩
    · rw [hk_un z, hk_S_c rfl rfl rfl rfl (hk_un z) rfl (fun _ => rfl)]
      exact KS i hi hl
/-- a watch ends -/
theorem hk_unw {fo fr : Int32} {kd re sg ot ob ri va f1 g1 f2 g2 hd ct pg us ce pk pn ps wd tp bt ev pe ow cy rf rn wt vy t1 r1 t2 r2 pa qk qn qs : Nat → Int32} {m : Nat} (R : hk_R fo fr (m + 1) kd re sg ot ob ri va f1 g1 f2 g2 hd ct pg us ce pk pn ps wd tp bt ev pe ow cy rf rn wt vy t1 r1 t2 r2 pa qk qn qs) {w : Nat} (hw : w ≤ m) : hk_R fo fr m kd re sg ot ob ri va f1 g1 f2 g2 hd ct pg us ce pk pn ps (hk_sh w m wd) (hk_sh w m tp) (hk_sh w m bt) ev pe ow cy rf rn wt vy t1 r1 t2 r2 pa qk qn qs := by
  obtain ⟨K1, K2, K3, K4, K5, K6, KP, K7, K8, K9, KS, KW, KR⟩ := R
  refine ⟨K1, K2, K3, K4, K5, K6, KP, K7, K8, K9, KS, ⟨by have := KW.1; omega, fun i hi => ?_⟩, KR⟩
  by_cases z : w ≤ i
  · rw [hk_sh_in z hi, hk_sh_in z hi, hk_sh_in z hi]; exact KW.2 (i + 1) (by omega)
  · rw [hk_sh_lo (by omega), hk_sh_lo (by omega), hk_sh_lo (by omega)]; exact KW.2 i (by omega)
theorem hk_Qunw {m w : Nat} {sg wd bt : Nat → Int32} (Q : hk_Q (m + 1) sg wd bt) : hk_Q m sg (hk_sh w m wd) (hk_sh w m bt) := by
  intro i hi
  by_cases z : w ≤ i
  · rw [hk_sh_in z hi, hk_sh_in z hi]; exact Q (i + 1) (by omega)
  · rw [hk_sh_lo (by omega), hk_sh_lo (by omega)]; exact Q i (by omega)
/-- signals go: no watch wakes -/
theorem hk_Qless {m e : Nat} {sg wd bt : Nat → Int32} {s x : Int32} (hs : s = sg e &&& x) (Q : hk_Q m sg wd bt) : hk_Q m (upd sg e s) wd bt := by
  intro i hi
  by_cases z : (wd i).toNatClampNeg = e
  · have a := Q i hi
    rw [z] at a ⊢
    rw [hk_us, hs, Int32.and_assoc, Int32.and_comm x, ← Int32.and_assoc, a, Int32.zero_and]
  · rw [hk_un z]; exact Q i hi
/-- a watch more -/
theorem hk_addw {fo fr : Int32} {nw : Nat} {kd re sg ot ob ri va f1 g1 f2 g2 hd ct pg us ce pk pn ps wd tp bt ev pe ow cy rf rn wt vy t1 r1 t2 r2 pa qk qn qs : Nat → Int32} (R : hk_R fo fr nw kd re sg ot ob ri va f1 g1 f2 g2 hd ct pg us ce pk pn ps wd tp bt ev pe ow cy rf rn wt vy t1 r1 t2 r2 pa qk qn qs) {o q b : Nat} (hn : nw < 12) (ho : o < 16) (hl : ¬ kd o < 0) (hq : q < 16) (hkq : kd q = 3) (hb : b < 2048) : hk_R fo fr (nw + 1) kd re sg ot ob ri va f1 g1 f2 g2 hd ct pg us ce pk pn ps (upd wd nw (nI o)) (upd tp nw (nI q)) (upd bt nw (nI b)) ev pe ow cy rf rn wt vy t1 r1 t2 r2 pa qk qn qs := by
  obtain ⟨K1, K2, K3, K4, K5, K6, KP, K7, K8, K9, KS, KW, KR⟩ := R
  refine ⟨K1, K2, K3, K4, K5, K6, KP, K7, K8, K9, KS, ⟨by omega, fun i hi => ?_⟩, KR⟩
  by_cases z : i = nw
  · subst z
    rw [hk_us, hk_us, hk_us]
    exact ⟨⟨o, ho, rfl, hl⟩, ⟨q, hq, rfl, hkq⟩, b, hb, rfl⟩
  · rw [hk_un z, hk_un z, hk_un z]; exact KW.2 i (by omega)
/-- an event's signals -/
theorem hk_sig {fo fr : Int32} {nw : Nat} {kd re sg ot ob ri va f1 g1 f2 g2 hd ct pg us ce pk pn ps wd tp bt ev pe ow cy rf rn wt vy t1 r1 t2 r2 pa qk qn qs : Nat → Int32} (R : hk_R fo fr nw kd re sg ot ob ri va f1 g1 f2 g2 hd ct pg us ce pk pn ps wd tp bt ev pe ow cy rf rn wt vy t1 r1 t2 r2 pa qk qn qs) {o : Nat} {s : Int32} (hk : kd o = 0) (hs : hk_V 2048 s) : hk_R fo fr nw kd re (upd sg o s) ot ob ri va f1 g1 f2 g2 hd ct pg us ce pk pn ps wd tp bt (upd ev o s) pe ow cy rf rn wt vy t1 r1 t2 r2 pa qk qn qs := by
  obtain ⟨K1, K2, K3, K4, K5, K6, KP, K7, K8, K9, KS, KW, KR⟩ := R
  refine ⟨K1, K2, K3, K4, K5, K6, KP, K7, K8, K9, ?_, KW, KR⟩
  intro i hi hl
  by_cases z : i = o
  · subst z
    rw [hk_us, hk_S_0 hk, hk_us]
    exact ⟨rfl, hs⟩
  · rw [hk_un z, hk_S_c rfl (hk_un z) rfl rfl rfl rfl (fun _ => rfl)]
    exact KS i hi hl
/-! processes' bits -/
theorem hk_bit : ∀ r, r < 16 → ∀ p, p < 4 → (nI r >>> (nI p &&& 31)) &&& 1 = nI (r / 2 ^ p % 2) := by decide +kernel
theorem hk_bset : ∀ r, r < 16 → ∀ p, p < 4 → nI r ||| ((1 : Int32) <<< (nI p &&& 31)) = nI (r ||| 2 ^ p) ∧ r ||| 2 ^ p < 16 ∧ ∀ q, q < 4 → (r ||| 2 ^ p) / 2 ^ q % 2 = if q = p then 1 else r / 2 ^ q % 2 := by decide +kernel
theorem hk_bclr : ∀ r, r < 16 → ∀ p, p < 4 → nI r &&& (((1 : Int32) <<< (nI p &&& 31)) ^^^ (-1)) = nI (r &&& (15 - 2 ^ p)) ∧ r &&& (15 - 2 ^ p) < 16 ∧ ∀ q, q < 4 → (r &&& (15 - 2 ^ p)) / 2 ^ q % 2 = if q = p then 0 else r / 2 ^ q % 2 := by decide +kernel
theorem hk_P3_set {fr : Int32} {rn : Nat → Int32} {p : Nat} (K : hk_P3 fr rn) (hp : p < 4) : hk_P3 (fr ||| ((1 : Int32) <<< (nI p &&& 31))) (upd rn p 1) := by
  obtain ⟨r, hr, rfl, h⟩ := K
  obtain ⟨a, b, c⟩ := hk_bset r hr p hp
  refine ⟨r ||| 2 ^ p, b, a, fun q hq => ?_⟩
  rw [c q hq]
  by_cases z : q = p
  · subst z; rw [hk_us, if_pos rfl]; rfl
  · rw [hk_un z, if_neg z]; exact h q hq
theorem hk_P3_clr {fr : Int32} {rn : Nat → Int32} {p : Nat} (K : hk_P3 fr rn) (hp : p < 4) : hk_P3 (fr &&& (((1 : Int32) <<< (nI p &&& 31)) ^^^ (-1))) (upd rn p 0) := by
  obtain ⟨r, hr, rfl, h⟩ := K
  obtain ⟨a, b, c⟩ := hk_bclr r hr p hp
  refine ⟨r &&& (15 - 2 ^ p), b, a, fun q hq => ?_⟩
  rw [c q hq]
  by_cases z : q = p
  · subst z; rw [hk_us, if_pos rfl]; rfl
  · rw [hk_un z, if_neg z]; exact h q hq
theorem hk_P3_r {fr : Int32} {rn : Nat → Int32} {p : Nat} (K : hk_P3 fr rn) (hp : p < 4) : (fr >>> (nI p &&& 31)) &&& 1 = rn p := by
  obtain ⟨r, hr, rfl, h⟩ := K
  rw [hk_bit r hr p hp, h p hp]
/-- a process starts: no object of it is there -/
theorem hk_start {fo fr : Int32} {nw : Nat} {kd re sg ot ob ri va f1 g1 f2 g2 hd ct pg us ce pk pn ps wd tp bt ev pe ow cy rf rn wt vy t1 r1 t2 r2 pa qk qn qs : Nat → Int32} (R : hk_R fo fr nw kd re sg ot ob ri va f1 g1 f2 g2 hd ct pg us ce pk pn ps wd tp bt ev pe ow cy rf rn wt vy t1 r1 t2 r2 pa qk qn qs) {p : Nat} (hp : p < 4) (hno : ∀ e, e < 16 → kd e = 4 → ¬ ow e = nI p) : hk_R fo (fr ||| ((1 : Int32) <<< (nI p &&& 31))) nw kd re sg ot ob ri va f1 g1 f2 g2 hd ct pg us ce pk pn ps wd tp bt ev pe ow cy rf (upd rn p 1) wt vy t1 r1 t2 r2 pa qk qn qs := by
  obtain ⟨K1, K2, K3, K4, K5, K6, KP, K7, K8, K9, KS, KW, KR⟩ := R
  refine ⟨K1, K2, hk_P3_set K3 hp, K4, K5, K6, KP, K7, K8, K9, ?_, KW, KR⟩
  intro i hi hl
  rw [hk_S_c rfl rfl rfl rfl rfl rfl (fun z => ?_)]
  · exact KS i hi hl
  · obtain ⟨q, hq, e1, e2⟩ := K9.1 i hi z
    refine hk_un fun y => hno i hi z ?_
    rw [e2, hk_cl (by omega)] at y
    rw [e2, y]
/-- a process ends: its object tells -/
theorem hk_stop {fo fr : Int32} {nw : Nat} {kd re sg ot ob ri va f1 g1 f2 g2 hd ct pg us ce pk pn ps wd tp bt ev pe ow cy rf rn wt vy t1 r1 t2 r2 pa qk qn qs : Nat → Int32} (R : hk_R fo fr nw kd re sg ot ob ri va f1 g1 f2 g2 hd ct pg us ce pk pn ps wd tp bt ev pe ow cy rf rn wt vy t1 r1 t2 r2 pa qk qn qs) {p o : Nat} (hp : p < 4) (ho : o < 16) (hk : kd o = 4) (how : ow o = nI p) : hk_R fo (fr &&& (((1 : Int32) <<< (nI p &&& 31)) ^^^ (-1))) nw kd re (upd sg o (sg o ||| 1024)) ot ob ri va f1 g1 f2 g2 hd ct pg us ce pk pn ps wd tp bt ev pe ow cy rf (upd rn p 0) wt vy t1 r1 t2 r2 pa qk qn qs := by
  obtain ⟨K1, K2, K3, K4, K5, K6, KP, K7, K8, K9, KS, KW, KR⟩ := R
  refine ⟨K1, K2, hk_P3_clr K3 hp, K4, K5, K6, KP, K7, K8, K9, ?_, KW, KR⟩
  intro i hi hl
  by_cases y : i = o
  · subst y
    have a := (KS i hi hl).1
    rw [hk_S_4 hk, how, hk_cl (by omega)] at a
    rw [hk_us, hk_S_4 hk, how, hk_cl (by omega), hk_us, if_pos rfl, a]
    by_cases z : rn p = 0 <;> simp only [z, if_true, if_false]
    · exact ⟨by decide, 1024, by decide, by decide⟩
    · exact ⟨by decide, 1024, by decide, by decide⟩
  · rw [hk_un y, hk_S_c rfl rfl rfl rfl rfl rfl (fun z => ?_)]
    · exact KS i hi hl
    · obtain ⟨q, hq, e1, e2⟩ := K9.1 i hi z
      refine hk_un fun x => y ?_
      rw [e2, hk_cl (by omega)] at x
      exact K9.2 i o hi ho z hk (by rw [e2, how, x])
end
end
section
section
theorem hk_kv {kd : Nat → Int32} (K : hk_P1 kd) {o : Nat} (h : kd o < 0) : kd o = -1 := by
  rcases K o with e | e | e | e | e | e
  · exact e
  all_goals (rw [e] at h; exact absurd h (by decide))
theorem hk_lne {kd : Nat → Int32} {o x : Nat} {k : Int32} (h0 : kd o < 0) (h : ¬ kd x < 0) : upd kd o k x = kd x := hk_un fun z => h (z ▸ h0)
/-- nothing refers to what is dead -/
theorem hk_HC_dead {kd ob rf : Nat → Int32} (K4 : hk_P4 kd ob rf) {o : Nat} (ho : o < 16) (h0 : kd o < 0) : hk_HC rf o = 0 := by
  refine hk_sm_0 fun i hi => if_neg fun z => ?_
  rcases K4 i hi with ⟨-, e⟩ | ⟨x, hx, -, e, hl⟩
  · exact hk_nm1 (a := o) (by omega) (z.symm.trans e)
  · have : o = x := (hk_eq (by omega) (by omega)).mp (z.symm.trans e)
    exact hl (this ▸ h0)
theorem hk_H_dead {kd : Nat → Int32} {x y : Int32} {o : Nat} (a : hk_H kd x y) (ho : o < 16) (h0 : kd o < 0) : ¬ y = nI o := by
  intro z
  rcases a with ⟨-, e⟩ | ⟨q, hq, -, e, hl⟩
  · exact hk_nm1 (a := o) (by omega) (z.symm.trans e)
  · have : o = q := (hk_eq (by omega) (by omega)).mp (z.symm.trans e)
    exact hl (this ▸ h0)
theorem hk_MC_dead {kd hd ct va f1 g1 f2 g2 wt vy t1 r1 t2 r2 : Nat → Int32} (K6 : hk_P6 kd hd ct va f1 g1 f2 g2 wt vy t1 r1 t2 r2) {o : Nat} (ho : o < 16) (h0 : kd o < 0) : hk_MC kd wt t1 t2 o = 0 := by
  refine hk_sm_0 fun e he => ?_
  by_cases hk : kd e = 1
  · obtain ⟨c, h, hc, -, -, hw, -, eM⟩ := K6 e he hk
    rw [hk_RE_1 hk hw hc]
    refine hk_sm_0 fun j hj => ?_
    obtain ⟨-, a, b, -⟩ := eM j hj
    unfold hk_mc
    rw [if_neg (hk_H_dead a ho h0), if_neg (hk_H_dead b ho h0)]
  · unfold hk_RE; rw [if_neg hk]
/-- a new end has no messages: the counts stay -/
theorem hk_MC_new {kd wt t1 t2 : Nat → Int32} {o x : Nat} {k : Int32} (ho : o < 16) (h0 : kd o < 0) : hk_MC (upd kd o k) (upd wt o 0) t1 t2 x = hk_MC kd wt t1 t2 x := by
  refine hk_sm_congr fun e he => ?_
  by_cases z : e = o
  · subst z
    unfold hk_RE
    rw [hk_us, hk_us, if_neg (c := kd e = 1) (fun z => by rw [z] at h0; exact absurd h0 (by decide))]
    split
    · rfl
    · rfl
  · unfold hk_RE
    rw [hk_un z, hk_un z]
theorem hk_Pk1 {kd : Nat → Int32} {o : Nat} {k : Int32} (K1 : hk_P1 kd) (hK : hk_K k) : hk_P1 (upd kd o k) := by
  intro i
  by_cases z : i = o
  · subst z; rw [hk_us]; exact hK
  · rw [hk_un z]; exact K1 i
/-- an object is made at a dead place -/
theorem hk_crea {fo fr : Int32} {nw : Nat} {kd re sg ot ob ri va f1 g1 f2 g2 hd ct pg us ce pk pn ps wd tp bt ev pe ow cy rf rn wt vy t1 r1 t2 r2 pa qk qn qs : Nat → Int32} (R : hk_R fo fr nw kd re sg ot ob ri va f1 g1 f2 g2 hd ct pg us ce pk pn ps wd tp bt ev pe ow cy rf rn wt vy t1 r1 t2 r2 pa qk qn qs) {o : Nat} {k xo xp xw s : Int32} {pg' us' ce' cy' : Nat → Int32} (ho : o < 16) (h0 : kd o < 0) (hK : hk_K k) (hl : ¬ k < 0) (h1 : k = 1 → xo = -1 ∧ xp = -1)
    (h8 : hk_P8 (upd kd o k) pg' us' ce' cy') (h4 : k = 4 → ∃ p, p < 4 ∧ xo = nI p ∧ xw = nI p ∧ ∀ e, e < 16 → kd e = 4 → ¬ ow e = nI p)
    (hs : s = hk_S (upd kd o k) (upd ev o 0) (upd wt o 0) (upd pe o xp) (upd pa o 0) (upd ow o xw) rn o) (hv : hk_V 2048 s) :
    hk_R (fo + 1) fr nw (upd kd o k) (upd re o 0) (upd sg o s) (upd ot o xo) ob ri va f1 g1 f2 g2 (upd hd o 0) (upd ct o 0) pg' us' ce' pk pn ps wd tp bt (upd ev o 0) (upd pe o xp) (upd ow o xw) cy' rf rn (upd wt o 0) vy t1 r1 t2 r2 (upd pa o 0) qk qn qs := by
  obtain ⟨K1, K2, K3, K4, K5, K6, KP, K7, K8, K9, KS, KW, KR⟩ := R
  have mono : ∀ x, x < 16 → ¬ kd x < 0 → ¬ upd kd o k x < 0 := fun x _ h => by rw [hk_lne h0 h]; exact h
  have ne : ∀ x (c : Int32), ¬ c < 0 → kd x = c → x ≠ o := fun x c hc h z => hc (by rw [← h, z]; exact h0)
  refine ⟨hk_Pk1 K1 hK, ?_, K3, ?_, ?_, ?_, ?_, ?_, h8, ?_, ?_, ?_, KR⟩
  · have a := hk_sm_upd (f := fun x => if kd x < 0 then 0 else 1) (g := fun x => if upd kd o k x < 0 then 0 else 1) (k := o) (n := 16) ho (fun i _ hi => by simp only [hk_un hi])
    simp only [hk_us, if_pos h0, if_neg hl] at a
    unfold hk_P2 at K2 ⊢
    rw [K2, nI_1]
    exact congrArg nI (by omega)
  · exact fun h hh => hk_H_mono mono (K4 h hh)
  · intro x hx hlx
    have e : hk_RF (upd kd o k) rf (upd wt o 0) t1 t2 x = hk_RF kd rf wt t1 t2 x := by
      unfold hk_RF; rw [hk_MC_new ho h0]
    rw [e]
    by_cases z : x = o
    · subst z
      unfold hk_RF
      rw [hk_us, hk_HC_dead K4 hx h0, hk_MC_dead K6 hx h0]; rfl
    · rw [hk_un z] at hlx ⊢; exact K5 x hx hlx
  · intro e he hke
    by_cases z : e = o
    · subst z
      exact ⟨0, 0, by omega, by omega, hk_us, hk_us, hk_us, fun j hj => by omega⟩
    · rw [hk_un z] at hke
      obtain ⟨c, h, hc, hh, e1, e2, e3, e4⟩ := K6 e he hke
      exact ⟨c, h, hc, hh, by rw [hk_un z]; exact e1, by rw [hk_un z]; exact e2, by rw [hk_un z]; exact e3, fun j hj => hk_M_mono mono (e4 j hj)⟩
  · intro e he hke
    by_cases z : e = o
    · subst z
      rw [hk_us] at hke
      rw [hk_us, hk_us]
      exact ⟨(h1 hke).1.trans (h1 hke).2.symm, Or.inl (h1 hke).2⟩
    · rw [hk_un z] at hke
      obtain ⟨a, b⟩ := KP e he hke
      rw [hk_un z, hk_un z]
      refine ⟨a, ?_⟩
      rcases b with b | ⟨q, hq, b1, b2, b3⟩
      · exact Or.inl b
      · have y : q ≠ o := ne q 1 (by decide) b2
        exact Or.inr ⟨q, hq, b1, by rw [hk_un y]; exact b2, by rw [hk_un y]; exact b3⟩
  · intro e he hke
    by_cases z : e = o
    · subst z
      exact ⟨0, 0, by omega, by omega, hk_us, hk_us, hk_us, fun j hj => by omega⟩
    · rw [hk_un z] at hke
      obtain ⟨c, h, hc, hh, e1, e2, e3, e4⟩ := K7 e he hke
      exact ⟨c, h, hc, hh, by rw [hk_un z]; exact e1, by rw [hk_un z]; exact e2, by rw [hk_un z]; exact e3, e4⟩
  · refine ⟨fun e he hke => ?_, fun e e' he he' hke hke' heq => ?_⟩
    · by_cases z : e = o
      · subst z
        rw [hk_us] at hke
        obtain ⟨p, hp, a1, a2, -⟩ := h4 hke
        exact ⟨p, hp, by rw [hk_us]; exact a1, by rw [hk_us]; exact a2⟩
      · rw [hk_un z] at hke
        obtain ⟨p, hp, a1, a2⟩ := K9.1 e he hke
        exact ⟨p, hp, by rw [hk_un z]; exact a1, by rw [hk_un z]; exact a2⟩
    · by_cases z : e = o
      · by_cases z' : e' = o
        · rw [z, z']
        · subst z
          rw [hk_us] at hke
          rw [hk_un z'] at hke'
          obtain ⟨p, hp, a1, a2, a3⟩ := h4 hke
          rw [hk_us, hk_un z', a2] at heq
          exact absurd heq.symm (a3 e' he' hke')
      · by_cases z' : e' = o
        · subst z'
          rw [hk_us] at hke'
          rw [hk_un z] at hke
          obtain ⟨p, hp, a1, a2, a3⟩ := h4 hke'
          rw [hk_us, hk_un z, a2] at heq
          exact absurd heq (a3 e he hke)
        · rw [hk_un z] at hke
          rw [hk_un z'] at hke'
          rw [hk_un z, hk_un z'] at heq
          exact K9.2 e e' he he' hke hke' heq
  · intro e he hle
    by_cases z : e = o
    · subst z
      rw [hk_us]
      exact ⟨hs, hv⟩
    · rw [hk_un z] at hle
      rw [hk_un z, hk_S_c (hk_un z) (hk_un z) (hk_un z) (hk_un z) (hk_un z) (hk_un z) (fun _ => rfl)]
      exact KS e he hle
  · refine ⟨KW.1, fun w hw => ?_⟩
    obtain ⟨⟨x, hx, e1, e2⟩, ⟨q, hq, e3, e4⟩, b⟩ := KW.2 w hw
    exact ⟨⟨x, hx, e1, mono x hx e2⟩, ⟨q, hq, e3, by rw [hk_un (ne q 3 (by decide) e4)]; exact e4⟩, b⟩
/-- two new ends become peers -/
theorem hk_link {fo fr : Int32} {nw : Nat} {kd re sg ot ob ri va f1 g1 f2 g2 hd ct pg us ce pk pn ps wd tp bt ev pe ow cy rf rn wt vy t1 r1 t2 r2 pa qk qn qs : Nat → Int32} (R : hk_R fo fr nw kd re sg ot ob ri va f1 g1 f2 g2 hd ct pg us ce pk pn ps wd tp bt ev pe ow cy rf rn wt vy t1 r1 t2 r2 pa qk qn qs) {o q : Nat} (ho : o < 16) (hq : q < 16) (hne : o ≠ q) (ko : kd o = 1) (kq : kd q = 1) (po : pe o = -1) (pq : pe q = -1) (wo : wt o = 0) (wq : wt q = 0) :
    hk_R fo fr nw kd re (upd (upd sg o 0) q 0) (upd (upd ot o (nI q)) q (nI o)) ob ri va f1 g1 f2 g2 hd ct pg us ce pk pn ps wd tp bt ev (upd (upd pe o (nI q)) q (nI o)) ow cy rf rn wt vy t1 r1 t2 r2 pa qk qn qs := by
  obtain ⟨K1, K2, K3, K4, K5, K6, KP, K7, K8, K9, KS, KW, KR⟩ := R
  refine ⟨K1, K2, K3, K4, K5, K6, ?_, K7, K8, ?_, ?_, KW, KR⟩
  · intro e he hke
    by_cases z : e = q
    · subst z
      rw [hk_us, hk_us]
      exact ⟨rfl, Or.inr ⟨o, ho, rfl, ko, by rw [hk_un hne, hk_us]⟩⟩
    · by_cases y : e = o
      · subst y
        rw [hk_un z, hk_un z, hk_us, hk_us]
        exact ⟨rfl, Or.inr ⟨q, hq, rfl, kq, by rw [hk_us]⟩⟩
      · rw [hk_un z, hk_un z, hk_un y, hk_un y]
        obtain ⟨a, b⟩ := KP e he hke
        refine ⟨a, ?_⟩
        rcases b with b | ⟨x, hx, b1, b2, b3⟩
        · exact Or.inl b
        · have n1 : x ≠ q := fun h => hk_nm1 (a := e) (by omega) (b3.symm.trans (h ▸ pq))
          have n2 : x ≠ o := fun h => hk_nm1 (a := e) (by omega) (b3.symm.trans (h ▸ po))
          exact Or.inr ⟨x, hx, b1, b2, by rw [hk_un n1, hk_un n2]; exact b3⟩
  · refine ⟨fun e he hke => ?_, K9.2⟩
    have n1 : e ≠ q := fun h => absurd (hke.symm.trans (h ▸ kq)) (by decide)
    have n2 : e ≠ o := fun h => absurd (hke.symm.trans (h ▸ ko)) (by decide)
    rw [hk_un n1, hk_un n2]
    exact K9.1 e he hke
  · intro e he hle
    by_cases z : e = q
    · subst z
      rw [hk_us, hk_S_1 kq, hk_us, wq, if_pos (by decide), if_pos (hk_0l (by omega))]
      exact ⟨by decide, 0, by decide, rfl⟩
    · by_cases y : e = o
      · subst y
        rw [hk_un z, hk_us, hk_S_1 ko, hk_un z, hk_us, wo, if_pos (by decide), if_pos (hk_0l (by omega))]
        exact ⟨by decide, 0, by decide, rfl⟩
      · rw [hk_un z, hk_un y, hk_S_c rfl rfl rfl (by rw [hk_un z, hk_un y]) rfl rfl (fun _ => rfl)]
        exact KS e he hle
end
end
section
section
def hk_fz (b : Nat) (f : Nat → Int32) : Nat → Int32 := fun i => if b ≤ i ∧ i < b + 8 then 0 else f i
def hk_cp (b a : Nat) (f : Nat → Int32) : Nat → Int32 := fun i => if b ≤ i ∧ i < b + 8 then f (a + (i - b)) else f i
theorem hk_fz_in {b i : Nat} {f : Nat → Int32} (h : b ≤ i) (h2 : i < b + 8) : hk_fz b f i = 0 := if_pos ⟨h, h2⟩
theorem hk_fz_out {b i : Nat} {f : Nat → Int32} (h : i < b ∨ b + 8 ≤ i) : hk_fz b f i = f i := if_neg (by omega)
theorem hk_cp_in {b a c : Nat} {f : Nat → Int32} (h : c < 8) : hk_cp b a f (b + c) = f (a + c) := by
  unfold hk_cp
  rw [if_pos ⟨by omega, by omega⟩]
  exact congrArg f (by omega)
theorem hk_cp_out {b a i : Nat} {f : Nat → Int32} (h : i < b ∨ b + 8 ≤ i) : hk_cp b a f i = f i := if_neg (by omega)
def hk_UC (kd pg : Nat → Int32) (g : Nat) : Nat := hk_sm (fun e => if kd e = 2 ∧ pg e = nI g then 1 else 0) 16
theorem hk_usU {kd pg us ce cy : Nat → Int32} (K : hk_P8 kd pg us ce cy) {g : Nat} (hg : g < 16) : us g = nI (hk_UC kd pg g) := K.2 g hg
theorem hk_UC_le (kd pg : Nat → Int32) (g : Nat) : hk_UC kd pg g ≤ 16 := by
  have := hk_sm_le (f := fun e => if kd e = 2 ∧ pg e = nI g then 1 else 0) (b := 1) (n := 16) (fun i _ => by split <;> omega)
  unfold hk_UC
  omega
/-- the users of a page when the object e changes its kind or page -/
theorem hk_UC_up {kd pg kd' pg' : Nat → Int32} {e g : Nat} (he : e < 16) (h1 : ∀ i, i ≠ e → kd' i = kd i) (h2 : ∀ i, i ≠ e → pg' i = pg i) :
    hk_UC kd' pg' g + (if kd e = 2 ∧ pg e = nI g then 1 else 0) = hk_UC kd pg g + (if kd' e = 2 ∧ pg' e = nI g then 1 else 0) :=
  hk_sm_upd (f := fun e => if kd e = 2 ∧ pg e = nI g then 1 else 0) (g := fun e => if kd' e = 2 ∧ pg' e = nI g then 1 else 0) (k := e) he (fun i _ hi => by simp only [h1 i hi, h2 i hi])
theorem hk_UC_in {kd pg : Nat → Int32} {e g : Nat} (he : e < 16) (hk : kd e = 2) (hg : pg e = nI g) : 0 < hk_UC kd pg g := by
  have := hk_sm_ge (f := fun e => if kd e = 2 ∧ pg e = nI g then 1 else 0) (k := e) (n := 16) he
  simp only [hk, hg, and_self, if_true] at this
  exact this
theorem hk_d2 {x : Int32} (h : x < 0) : ¬ x = 2 := fun z => by rw [z] at h; exact absurd h (by decide)
theorem hk_P8_none {kd pg us ce cy cy' : Nat → Int32} {o : Nat} {k : Int32} (K : hk_P8 kd pg us ce cy) (ho : o < 16) (h0 : ¬ kd o = 2) (hk : ¬ k = 2) (hc : ∀ i, i < 8 * o ∨ 8 * o + 8 ≤ i → cy' i = cy i) : hk_P8 (upd kd o k) pg us ce cy' := by
  refine ⟨fun e he hke => ?_, fun g hg => ?_⟩
  · have z : e ≠ o := fun z => hk (by rw [← hke, z, hk_us])
    rw [hk_un z] at hke
    obtain ⟨g, hg, e1, e2⟩ := K.1 e he hke
    exact ⟨g, hg, e1, fun c hc2 => by rw [hc _ (by omega)]; exact e2 c hc2⟩
  · have a := hk_UC_up (kd := kd) (pg := pg) (kd' := upd kd o k) (pg' := pg) (g := g) ho (fun i hi => hk_un hi) (fun i hi => rfl)
    rw [if_neg (fun z => h0 z.1), hk_us, if_neg (fun z => hk z.1)] at a
    rw [hk_usU K hg]
    exact congrArg nI a.symm
theorem hk_us0 {kd pg us ce cy : Nat → Int32} {g : Nat} (K : hk_P8 kd pg us ce cy) (hg : g < 16) (h : us g ≤ 0) : hk_UC kd pg g = 0 := by
  rw [hk_usU K hg, hk_l0 (Nat.lt_of_le_of_lt (hk_UC_le kd pg g) (by decide))] at h
  exact h
theorem hk_P8_new {kd pg us ce cy : Nat → Int32} {o g : Nat} (K : hk_P8 kd pg us ce cy) (ho : o < 16) (h0 : kd o < 0) (hg : g < 16) (hu : us g ≤ 0) : hk_P8 (upd kd o 2) (upd pg o (nI g)) (upd us g 1) (hk_fz (8 * g) ce) (hk_fz (8 * o) cy) := by
  have u0 := hk_us0 K hg hu
  refine ⟨fun e he hke => ?_, fun x hx => ?_⟩
  · by_cases z : e = o
    · subst z
      exact ⟨g, hg, hk_us, fun c hc => by rw [hk_fz_in (by omega) (by omega), hk_fz_in (by omega) (by omega)]⟩
    · rw [hk_un z] at hke
      obtain ⟨y, hy, e1, e2⟩ := K.1 e he hke
      have n : y ≠ g := fun n => by
        have := hk_UC_in (kd := kd) (pg := pg) (g := g) he hke (n ▸ e1)
        omega
      refine ⟨y, hy, by rw [hk_un z]; exact e1, fun c hc => ?_⟩
      rw [hk_fz_out (by omega), hk_fz_out (by omega)]
      exact e2 c hc
  · have a := hk_UC_up (kd := kd) (pg := pg) (kd' := upd kd o 2) (pg' := upd pg o (nI g)) (g := x) ho (fun i hi => hk_un hi) (fun i hi => hk_un hi)
    rw [if_neg (c := kd o = 2 ∧ pg o = nI x) (fun z => hk_d2 h0 z.1), hk_us, hk_us] at a
    show _ = nI (hk_UC (upd kd o 2) (upd pg o (nI g)) x)
    by_cases z : x = g
    · subst z
      rw [if_pos ⟨rfl, rfl⟩, u0] at a
      rw [hk_us, show hk_UC (upd kd o 2) (upd pg o (nI x)) x = 1 from by omega]
      rfl
    · rw [if_neg (fun y => z ((hk_eq (by omega) (by omega)).mp y.2).symm)] at a
      rw [hk_un z, hk_usU K hx]
      exact congrArg nI a.symm
theorem hk_P8_twin {kd pg us ce cy : Nat → Int32} {o q g : Nat} (K : hk_P8 kd pg us ce cy) (ho : o < 16) (h0 : kd o < 0) (hq : q < 16) (hk : kd q = 2) (hg : g < 16) (hpg : pg q = nI g) :
    hk_P8 (upd kd o 2) (upd pg o (nI g)) (upd us g (us g + 1)) ce (hk_cp (8 * o) (8 * q) (hk_fz (8 * o) cy)) := by
  have nqo : q ≠ o := fun z => hk_d2 h0 (z ▸ hk)
  refine ⟨fun e he hke => ?_, fun x hx => ?_⟩
  · by_cases z : e = o
    · subst z
      refine ⟨g, hg, hk_us, fun c hc => ?_⟩
      obtain ⟨y, hy, e1, e2⟩ := K.1 q hq hk
      have : y = g := (hk_eq (by omega) (by omega)).mp (e1.symm.trans hpg)
      subst this
      rw [hk_cp_in hc, hk_fz_out (by omega)]
      exact e2 c hc
    · rw [hk_un z] at hke
      obtain ⟨y, hy, e1, e2⟩ := K.1 e he hke
      refine ⟨y, hy, by rw [hk_un z]; exact e1, fun c hc => ?_⟩
      rw [hk_cp_out (by omega), hk_fz_out (by omega)]
      exact e2 c hc
  · have a := hk_UC_up (kd := kd) (pg := pg) (kd' := upd kd o 2) (pg' := upd pg o (nI g)) (g := x) ho (fun i hi => hk_un hi) (fun i hi => hk_un hi)
    rw [if_neg (c := kd o = 2 ∧ pg o = nI x) (fun z => hk_d2 h0 z.1), hk_us, hk_us] at a
    show _ = nI (hk_UC (upd kd o 2) (upd pg o (nI g)) x)
    by_cases z : x = g
    · subst z
      rw [if_pos ⟨rfl, rfl⟩] at a
      rw [hk_us, hk_usU K hx, nI_1]
      exact congrArg nI a.symm
    · rw [if_neg (fun y => z ((hk_eq (by omega) (by omega)).mp y.2).symm)] at a
      rw [hk_un z, hk_usU K hx]
      exact congrArg nI a.symm
/-- the only user writes -/
theorem hk_P8_w1 {kd pg us ce cy : Nat → Int32} {e g c : Nat} {v : Int32} (K : hk_P8 kd pg us ce cy) (he : e < 16) (hk : kd e = 2) (hg : g < 16) (hpg : pg e = nI g) (hu : us g ≤ 1) (hc : c < 8) : hk_P8 kd pg us (upd ce (8 * g + c) v) (upd cy (8 * e + c) v) := by
  have u1 : hk_UC kd pg g ≤ 1 := by
    rw [hk_usU K hg, show (1 : Int32) = nI 1 from rfl, hk_le (Nat.lt_of_le_of_lt (hk_UC_le kd pg g) (by decide)) (by decide)] at hu
    exact hu
  refine ⟨fun x hx hkx => ?_, K.2⟩
  obtain ⟨y, hy, e1, e2⟩ := K.1 x hx hkx
  by_cases z : x = e
  · subst z
    have : y = g := (hk_eq (by omega) (by omega)).mp (e1.symm.trans hpg)
    subst this
    refine ⟨y, hy, e1, fun d h1 => ?_⟩
    by_cases w : d = c
    · subst w; rw [hk_us, hk_us]
    · rw [hk_un (by omega), hk_un (by omega)]; exact e2 d h1
  · have n : y ≠ g := fun n => by
      subst n
      have a := hk_UC_up (kd := kd) (pg := pg) (kd' := upd kd e 0) (pg' := pg) (g := y) he (fun i hi => hk_un hi) (fun i hi => rfl)
      rw [if_pos ⟨hk, hpg⟩, hk_us, if_neg (fun z => absurd z.1 (by decide))] at a
      have b := hk_UC_in (kd := upd kd e 0) (pg := pg) (g := y) hx (by rw [hk_un z]; exact hkx) e1
      omega
    refine ⟨y, hy, e1, fun d h1 => ?_⟩
    rw [hk_un (by omega), hk_un (by omega)]; exact e2 d h1
/-- a sharer takes a page of its own -/
theorem hk_P8_split {kd pg us ce cy : Nat → Int32} {e g b : Nat} (K : hk_P8 kd pg us ce cy) (he : e < 16) (hk : kd e = 2) (hg : g < 16) (hpg : pg e = nI g) (hb : b < 16) (hu : us b ≤ 0) :
    hk_P8 kd (upd pg e (nI b)) (upd (upd us b 1) g (us g - 1)) (hk_cp (8 * b) (8 * g) (hk_fz (8 * b) ce)) cy := by
  have u0 := hk_us0 K hb hu
  have ug := hk_UC_in he hk hpg
  have ngb : g ≠ b := fun z => by rw [z] at ug; omega
  refine ⟨fun x hx hkx => ?_, fun x hx => ?_⟩
  · obtain ⟨y, hy, e1, e2⟩ := K.1 x hx hkx
    by_cases z : x = e
    · subst z
      have : y = g := (hk_eq (by omega) (by omega)).mp (e1.symm.trans hpg)
      subst this
      refine ⟨b, hb, hk_us, fun c hc => ?_⟩
      rw [hk_cp_in hc, hk_fz_out (by omega)]; exact e2 c hc
    · have n : y ≠ b := fun n => by
        have := hk_UC_in (kd := kd) (pg := pg) (g := b) hx hkx (n ▸ e1)
        omega
      refine ⟨y, hy, by rw [hk_un z]; exact e1, fun c hc => ?_⟩
      rw [hk_cp_out (by omega), hk_fz_out (by omega)]; exact e2 c hc
  · have a := hk_UC_up (kd := kd) (pg := pg) (kd' := kd) (pg' := upd pg e (nI b)) (g := x) he (fun i hi => rfl) (fun i hi => hk_un hi)
    rw [hk_us] at a
    show _ = nI (hk_UC kd (upd pg e (nI b)) x)
    by_cases z : x = g
    · subst z
      rw [if_pos ⟨hk, hpg⟩, if_neg (fun y => ngb ((hk_eq (by omega) (by omega)).mp y.2).symm)] at a
      rw [hk_us, hk_usU K hx]
      show nI (hk_UC kd pg x) - 1 = _
      rw [hk_s1 ug]
      exact congrArg nI (by omega)
    · rw [hk_un z]
      rw [if_neg (c := kd e = 2 ∧ pg e = nI x) (fun y => z ((hk_eq (by omega) (by omega)).mp (y.2.symm.trans hpg)))] at a
      by_cases w : x = b
      · subst w
        rw [if_pos ⟨hk, rfl⟩, u0] at a
        rw [hk_us, show hk_UC kd (upd pg e (nI x)) x = 1 from by omega]
        rfl
      · rw [if_neg (fun y => w ((hk_eq (by omega) (by omega)).mp y.2).symm)] at a
        rw [hk_un w, hk_usU K hx]
        exact congrArg nI a.symm
/-- there is a page that nobody uses -/
theorem hk_UCs {kd pg us ce cy : Nat → Int32} (K : hk_P8 kd pg us ce cy) : hk_sm (hk_UC kd pg) 16 = hk_sm (fun e => if kd e = 2 then 1 else 0) 16 := by
  show hk_sm (fun g => hk_sm (fun e => if kd e = 2 ∧ pg e = nI g then 1 else 0) 16) 16 = _
  rw [hk_sm_swap]
  refine hk_sm_congr fun e he => ?_
  by_cases h : kd e = 2
  · obtain ⟨y, hy, e1, e2⟩ := K.1 e he h
    rw [if_pos h, hk_sm_1 (k := y) hy (fun i hi hne => if_neg fun z => hne ((hk_eq (by omega) (by omega)).mp (z.2.symm.trans e1)))]
    exact if_pos ⟨h, e1⟩
  · rw [if_neg h]
    exact hk_sm_0 fun i hi => if_neg fun z => h z.1
theorem hk_pageL {kd pg us ce cy : Nat → Int32} (K : hk_P8 kd pg us ce cy) (h : ∃ g, g < 16 ∧ hk_UC kd pg g = 0) : ∃ g, g < 16 ∧ us g ≤ 0 ∧ ∀ i, i < g → ¬ us i ≤ 0 := by
  have e : ∀ g, g < 16 → (us g ≤ 0 ↔ hk_UC kd pg g = 0) := fun g hg => by
    rw [hk_usU K hg]
    exact hk_l0 (Nat.lt_of_le_of_lt (hk_UC_le kd pg g) (by decide))
  obtain ⟨g, hg, h1⟩ := h
  obtain ⟨k, hk, a, b⟩ := hk_least (P := fun g => us g ≤ 0) (n := 16) ⟨g, hg, (e g hg).mpr h1⟩
  exact ⟨k, hk, a, b⟩
theorem hk_page1 {kd pg us ce cy : Nat → Int32} (K : hk_P8 kd pg us ce cy) {o : Nat} (ho : o < 16) (h0 : ¬ kd o = 2) : ∃ g, g < 16 ∧ us g ≤ 0 ∧ ∀ i, i < g → ¬ us i ≤ 0 := by
  refine hk_pageL K (hk_sm_lt ?_)
  rw [hk_UCs K]
  have a := hk_sm_upd (f := fun e => if kd e = 2 then 1 else 0) (g := fun e => if e = o then 1 else if kd e = 2 then 1 else 0) (k := o) (n := 16) ho (fun i _ hi => if_neg hi)
  have b := hk_sm_le (f := fun e => if e = o then 1 else if kd e = 2 then 1 else 0) (b := 1) (n := 16) (fun i _ => by split; omega; split <;> omega)
  simp only [if_neg h0, if_true] at a
  omega
theorem hk_page2 {kd pg us ce cy : Nat → Int32} (K : hk_P8 kd pg us ce cy) {g : Nat} (hg : g < 16) (h0 : ¬ us g ≤ 1) : ∃ g, g < 16 ∧ us g ≤ 0 ∧ ∀ i, i < g → ¬ us i ≤ 0 := by
  have u1 : 1 < hk_UC kd pg g := by
    rw [hk_usU K hg, show (1 : Int32) = nI 1 from rfl, hk_le (Nat.lt_of_le_of_lt (hk_UC_le kd pg g) (by decide)) (by decide)] at h0
    omega
  refine hk_pageL K ?_
  by_cases e : ∃ x, x < 16 ∧ hk_UC kd pg x = 0
  · exact e
  · have a := hk_sm_upd (f := fun _ => 1) (g := fun x => if x = g then hk_UC kd pg g else 1) (k := g) (n := 16) hg (fun i _ hi => if_neg hi)
    have b := hk_sm_mono (f := fun x => if x = g then hk_UC kd pg g else 1) (g := hk_UC kd pg) (n := 16) (fun i hi => by
      split
      · rename_i z; rw [z]; exact Nat.le_refl _
      · by_cases z : hk_UC kd pg i = 0
        · exact absurd ⟨i, hi, z⟩ e
        · omega)
    have c := hk_sm_le (f := fun e => if kd e = 2 then 1 else 0) (b := 1) (n := 16) (fun i _ => by split <;> omega)
    rw [hk_UCs K] at b
    rw [hk_sm_c] at a
    simp only [if_true] at a
    omega
/-- an object of memory dies -/
theorem hk_P8_die {kd pg us ce cy : Nat → Int32} {e g : Nat} (K : hk_P8 kd pg us ce cy) (he : e < 16) (hk : kd e = 2) (hg : g < 16) (hpg : pg e = nI g) : hk_P8 (upd kd e (-1)) pg (upd us g (us g - 1)) ce cy := by
  have ug := hk_UC_in he hk hpg
  refine ⟨fun x hx hkx => ?_, fun x hx => ?_⟩
  · have z : x ≠ e := fun z => by rw [z, hk_us] at hkx; exact absurd hkx (by decide)
    rw [hk_un z] at hkx
    exact K.1 x hx hkx
  · have a := hk_UC_up (kd := kd) (pg := pg) (kd' := upd kd e (-1)) (pg' := pg) (g := x) he (fun i hi => hk_un hi) (fun i hi => rfl)
    rw [hk_us, if_neg (c := (-1 : Int32) = 2 ∧ pg e = nI x) (fun z => absurd z.1 (by decide))] at a
    show _ = nI (hk_UC (upd kd e (-1)) pg x)
    by_cases z : x = g
    · subst z
      rw [if_pos ⟨hk, hpg⟩] at a
      rw [hk_us, hk_usU K hx]
      show nI (hk_UC kd pg x) - 1 = _
      rw [hk_s1 ug]
      exact congrArg nI (by omega)
    · rw [if_neg (fun y => z ((hk_eq (by omega) (by omega)).mp (y.2.symm.trans hpg)))] at a
      rw [hk_un z, hk_usU K hx]
      exact congrArg nI a.symm
end
end
section
section
theorem hk_HC_0 {rf : Nat → Int32} {o h : Nat} (h0 : hk_HC rf o = 0) (hh : h < 40) : ¬ rf h = nI o := by
  intro z
  have := hk_sm_ge (f := fun h => if rf h = nI o then 1 else 0) (k := h) (n := 40) hh
  simp only [z, if_true] at this
  unfold hk_HC at h0
  omega
theorem hk_MC_0 {kd wt t1 t2 : Nat → Int32} {o e c j : Nat} (h0 : hk_MC kd wt t1 t2 o = 0) (he : e < 16) (hk : kd e = 1) (hw : wt e = nI c) (hc : c ≤ 4) (hj : j < c) : ¬ t1 (4 * e + j) = nI o ∧ ¬ t2 (4 * e + j) = nI o := by
  have a := hk_sm_ge (f := hk_RE kd wt t1 t2 (nI o)) (k := e) (n := 16) he
  rw [hk_RE_1 hk hw hc] at a
  have b := hk_sm_ge (f := fun j => hk_mc t1 t2 (nI o) (4 * e + j)) (k := j) (n := c) hj
  unfold hk_MC at h0
  have d : hk_mc t1 t2 (nI o) (4 * e + j) = 0 := by
    omega
  unfold hk_mc at d
  refine ⟨fun z => ?_, fun z => ?_⟩
  · rw [if_pos z] at d; omega
  · rw [if_pos z] at d; omega
theorem hk_H_die {kd : Nat → Int32} {x y : Int32} {o : Nat} (ho : o < 16) (a : hk_H kd x y) (h : ¬ y = nI o) : hk_H (upd kd o (-1)) x y := by
  rcases a with a | ⟨q, hq, hx, hy, hl⟩
  · exact Or.inl a
  · have n : q ≠ o := fun n => h (n ▸ hy)
    exact Or.inr ⟨q, hq, hx, hy, by rw [hk_un n]; exact hl⟩
theorem hk_MC_die {kd wt t1 t2 : Nat → Int32} {o x : Nat} (ho : o < 16) : hk_MC (upd kd o (-1)) wt t1 t2 x + hk_RE kd wt t1 t2 (nI x) o = hk_MC kd wt t1 t2 x := by
  have a := hk_sm_upd (f := hk_RE kd wt t1 t2 (nI x)) (g := hk_RE (upd kd o (-1)) wt t1 t2 (nI x)) (k := o) (n := 16) ho (fun i _ hi => by unfold hk_RE; rw [hk_un hi])
  have b : hk_RE (upd kd o (-1)) wt t1 t2 (nI x) o = 0 := by
    unfold hk_RE; rw [hk_us, if_neg (by decide)]
  unfold hk_MC
  omega
theorem hk_dne {kd : Nat → Int32} {o x : Nat} {k : Int32} (hk : ¬ k = -1) (h : upd kd o (-1) x = k) : x ≠ o ∧ kd x = k := by
  have z : x ≠ o := fun z => by rw [z, hk_us] at h; exact hk h.symm
  rw [hk_un z] at h
  exact ⟨z, h⟩
theorem hk_dnl {kd : Nat → Int32} {o x : Nat} (h : ¬ upd kd o (-1) x < 0) : x ≠ o ∧ ¬ kd x < 0 := by
  have z : x ≠ o := fun z => by rw [z, hk_us] at h; exact h hk_m1lt
  rw [hk_un z] at h
  exact ⟨z, h⟩
/-- an object without handles dies -/
theorem hk_dest {fo fr : Int32} {nw : Nat} {kd re sg ot ob ri va f1 g1 f2 g2 hd ct pg us ce pk pn ps wd tp bt ev pe ow cy rf rn wt vy t1 r1 t2 r2 pa qk qn qs : Nat → Int32} (R : hk_R fo fr nw kd re sg ot ob ri va f1 g1 f2 g2 hd ct pg us ce pk pn ps wd tp bt ev pe ow cy rf rn wt vy t1 r1 t2 r2 pa qk qn qs) {o : Nat} {us' re' ot' pe' sg' : Nat → Int32} (ho : o < 16) (hl : ¬ kd o < 0) (h0 : hk_RF kd rf wt t1 t2 o = 0) (hw : ∀ w, w < nw → ¬ wd w = nI o ∧ ¬ tp w = nI o)
    (h8 : hk_P8 (upd kd o (-1)) pg us' ce cy) (h5 : hk_P5 (upd kd o (-1)) re' rf wt t1 t2) (hP : hk_PP (upd kd o (-1)) ot' pe') (h9 : ∀ e, kd e = 4 → ot' e = ot e) (hS : hk_PS (upd kd o (-1)) sg' ev wt pe' pa ow rn) :
    hk_R (fo - 1) fr nw (upd kd o (-1)) re' sg' ot' ob ri va f1 g1 f2 g2 hd ct pg us' ce pk pn ps wd tp bt ev pe' ow cy rf rn wt vy t1 r1 t2 r2 pa qk qn qs := by
  obtain ⟨K1, K2, K3, K4, K5, K6, KP, K7, K8, K9, KS, KW, KR⟩ := R
  have z1 : hk_HC rf o = 0 := by unfold hk_RF at h0; omega
  have z2 : hk_MC kd wt t1 t2 o = 0 := by unfold hk_RF at h0; omega
  refine ⟨hk_Pk1 K1 (Or.inl rfl), ?_, K3, ?_, h5, ?_, hP, ?_, h8, ?_, hS, ?_, KR⟩
  · have a := hk_sm_upd (f := fun x => if kd x < 0 then 0 else 1) (g := fun x => if upd kd o (-1) x < 0 then 0 else 1) (k := o) (n := 16) ho (fun i _ hi => by simp only [hk_un hi])
    simp only [hk_us, if_neg hl, if_pos hk_m1lt] at a
    unfold hk_P2 at K2 ⊢
    rw [K2, hk_s1 (by omega)]
    exact congrArg nI (by omega)
  · exact fun h hh => hk_H_die ho (K4 h hh) (hk_HC_0 z1 hh)
  · intro e he hke
    obtain ⟨z, hke⟩ := hk_dne (by decide) hke
    obtain ⟨c, h, hc, hh, e1, e2, e3, e4⟩ := K6 e he hke
    refine ⟨c, h, hc, hh, e1, e2, e3, fun j hj => ?_⟩
    obtain ⟨m1, m2, m3, m4⟩ := e4 j hj
    have n := hk_MC_0 z2 he hke e2 hc hj
    exact ⟨m1, hk_H_die ho m2 n.1, hk_H_die ho m3 n.2, m4⟩
  · intro e he hke
    obtain ⟨z, hke⟩ := hk_dne (by decide) hke
    exact K7 e he hke
  · refine ⟨fun e he hke => ?_, fun e e' he he' hke hke' h => ?_⟩
    · obtain ⟨z, hke⟩ := hk_dne (by decide) hke
      rw [h9 e hke]
      exact K9.1 e he hke
    · obtain ⟨z, hke⟩ := hk_dne (by decide) hke
      obtain ⟨z, hke'⟩ := hk_dne (by decide) hke'
      exact K9.2 e e' he he' hke hke' h
  · refine ⟨KW.1, fun w hw2 => ?_⟩
    obtain ⟨⟨x, hx, e1, e2⟩, ⟨q, hq, e3, e4⟩, b⟩ := KW.2 w hw2
    obtain ⟨n1, n2⟩ := hw w hw2
    have n3 : x ≠ o := fun z => n1 (z ▸ e1)
    have n4 : q ≠ o := fun z => n2 (z ▸ e3)
    exact ⟨⟨x, hx, e1, by rw [hk_un n3]; exact e2⟩, ⟨q, hq, e3, by rw [hk_un n4]; exact e4⟩, b⟩
theorem hk_P5_d {kd re rf wt t1 t2 : Nat → Int32} {o : Nat} (K5 : hk_P5 kd re rf wt t1 t2) (ho : o < 16) (hk : ¬ kd o = 1) : hk_P5 (upd kd o (-1)) re rf wt t1 t2 := by
  intro x hx hlx
  obtain ⟨z, hlx⟩ := hk_dnl hlx
  rw [K5 x hx hlx]
  have a := hk_MC_die (kd := kd) (wt := wt) (t1 := t1) (t2 := t2) (x := x) ho
  have b : hk_RE kd wt t1 t2 (nI x) o = 0 := by unfold hk_RE; rw [if_neg hk]
  unfold hk_RF
  exact congrArg nI (by omega)
theorem hk_PP_d1 {kd ot pe : Nat → Int32} {o : Nat} (K : hk_PP kd ot pe) (hk : ¬ kd o = 1) : hk_PP (upd kd o (-1)) ot pe := by
  intro e he hke
  obtain ⟨z, hke⟩ := hk_dne (by decide) hke
  obtain ⟨a, b⟩ := K e he hke
  refine ⟨a, ?_⟩
  rcases b with b | ⟨x, hx, b1, b2, b3⟩
  · exact Or.inl b
  · have n : x ≠ o := fun n => hk (n ▸ b2)
    exact Or.inr ⟨x, hx, b1, by rw [hk_un n]; exact b2, b3⟩
theorem hk_PP_d2 {kd ot pe : Nat → Int32} {o : Nat} (K : hk_PP kd ot pe) (hp : pe o = -1) : hk_PP (upd kd o (-1)) ot pe := by
  intro e he hke
  obtain ⟨z, hke⟩ := hk_dne (by decide) hke
  obtain ⟨a, b⟩ := K e he hke
  refine ⟨a, ?_⟩
  rcases b with b | ⟨x, hx, b1, b2, b3⟩
  · exact Or.inl b
  · have n : x ≠ o := fun n => hk_nm1 (a := e) (by omega) (b3.symm.trans (n ▸ hp))
    exact Or.inr ⟨x, hx, b1, by rw [hk_un n]; exact b2, b3⟩
theorem hk_PP_d3 {kd ot pe : Nat → Int32} {o q : Nat} (K : hk_PP kd ot pe) (hq : q < 16) (ho : o < 16) (hko : kd o = 1) (hp : pe o = nI q) : hk_PP (upd kd o (-1)) (upd ot q (-1)) (upd pe q (-1)) := by
  intro e he hke
  obtain ⟨z, hke⟩ := hk_dne (by decide) hke
  by_cases y : e = q
  · subst y
    rw [hk_us, hk_us]
    exact ⟨rfl, Or.inl rfl⟩
  · obtain ⟨a, b⟩ := K e he hke
    rw [hk_un y, hk_un y]
    refine ⟨a, ?_⟩
    rcases b with b | ⟨x, hx, b1, b2, b3⟩
    · exact Or.inl b
    · have n : x ≠ o := fun n => by
        subst n
        exact y ((hk_eq (by omega) (by omega)).mp (b3.symm.trans hp))
      by_cases w : x = q
      · subst w
        exfalso
        obtain ⟨-, d⟩ := K o ho hko
        rcases d with d | ⟨x', hx', c1, c2, c3⟩
        · exact hk_nm1 (a := x) (by omega) (hp.symm.trans d)
        · have : x' = x := (hk_eq (by omega) (by omega)).mp (c1.symm.trans hp)
          subst this
          exact z ((hk_eq (by omega) (by omega)).mp (b3.symm.trans c3))
      · exact Or.inr ⟨x, hx, b1, by rw [hk_un n]; exact b2, by rw [hk_un w]; exact b3⟩
theorem hk_PS_d {kd sg ev wt pe pa ow rn : Nat → Int32} {o : Nat} (K : hk_PS kd sg ev wt pe pa ow rn) : hk_PS (upd kd o (-1)) sg ev wt pe pa ow rn := by
  intro e he hle
  obtain ⟨z, hle⟩ := hk_dnl hle
  rw [hk_S_c (hk_un z) rfl rfl rfl rfl rfl (fun _ => rfl)]
  exact K e he hle
theorem hk_PS_d3 {kd sg ev wt pe pa ow rn : Nat → Int32} {o q : Nat} (K : hk_PS kd sg ev wt pe pa ow rn) (hk : kd q = 1) : hk_PS (upd kd o (-1)) (upd sg q (sg q ||| 512)) ev wt (upd pe q (-1)) pa ow rn := by
  intro e he hle
  obtain ⟨z, hle⟩ := hk_dnl hle
  by_cases y : e = q
  · subst y
    have a := (K e he hle).1
    rw [hk_S_1 hk] at a
    rw [hk_us, hk_S_1 (by rw [hk_un z]; exact hk), hk_us, a, if_neg hk_m1le]
    by_cases p1 : wt e ≤ 0 <;> by_cases p2 : 0 ≤ pe e <;> simp only [p1, p2, if_true, if_false]
    · exact ⟨by decide, 512, by decide, by decide⟩
    · exact ⟨by decide, 512, by decide, by decide⟩
    · exact ⟨by decide, 768, by decide, by decide⟩
    · exact ⟨by decide, 768, by decide, by decide⟩
  · rw [hk_un y, hk_S_c (hk_un z) rfl rfl (hk_un y) rfl rfl (fun _ => rfl)]
    exact K e he hle
end
end
section
section
theorem hk_not4 {x : Int32} (h : nI 4 ≤ x) : ¬ x < 0 := fun z => by
  rw [Int32.le_iff_toInt_le] at h
  rw [Int32.lt_iff_toInt_lt] at z
  rw [show (nI 4).toInt = 4 from by decide] at h
  rw [show (0 : Int32).toInt = 0 from by decide] at z
  omega
theorem hk_notn {n : Nat} (hn : n < 2147483648) {x : Int32} (h : nI n ≤ x) : ¬ x < 0 := fun z => by
  rw [Int32.le_iff_toInt_le, hk_toI hn] at h
  rw [Int32.lt_iff_toInt_lt, show (0 : Int32).toInt = 0 from by decide] at z
  omega
theorem hk_sgt {n : Nat} (hn : n + 1 < 2147483648) {x : Int32} (h : nI (n + 1) ≤ x) : nI n < x := by
  rw [Int32.le_iff_toInt_le, hk_toI hn] at h
  rw [Int32.lt_iff_toInt_lt, hk_toI (by omega)]
  omega
/-- is x within a..b -/
theorem hk_inY {post : Int32 → Prop} {x : Int32} {n : Nat} (hn : n + 1 < 2147483648) (h0 : x < 0 ∨ nI (n + 1) ≤ x → post 0) (h1 : ∀ j, j < n + 1 → x = nI j → post 1) : wpY_in post x 0 (nI n) := by
  rcases hk_rng x hn with h | h | ⟨j, hj, rfl⟩
  · exact br_t h (h0 (Or.inl h))
  · exact br_f (hk_notn hn h) (br_t (hk_sgt hn h) (h0 (Or.inr h)))
  · exact br_f (hk_n0 (by omega)) (br_f (by rw [hk_lt (by omega) (by omega)]; omega) (h1 j hj rfl))
theorem hk_runs {fo fm fr : Int32} {nw : Nat} {kd nu re sg ot ob ri va f1 g1 f2 g2 hd ct pg us ce pk pn ps wd tp bt ky gv ga gb ev pe ow cy rf rn wt vy t1 r1 t2 r2 pa qk qn qs : Nat → Int32} (R : hk_R fo fr nw kd re sg ot ob ri va f1 g1 f2 g2 hd ct pg us ce pk pn ps wd tp bt ev pe ow cy rf rn wt vy t1 r1 t2 r2 pa qk qn qs) (p : Int32) : ∃ r, (∀ post : Int32 → Prop, post r → wpX_runs post (fo, fm, fr, nI nw, kd, nu, re, sg, ot, ob, ri, va, f1, g1, f2, g2, hd, ct, pg, us, ce, pk, pn, ps, wd, tp, bt, ky, gv, ga, gb) p) ∧ (∀ post : Int32 → Prop, post r → wpY_isRunning post (fm, nI nw, kd, nu, ev, pe, ow, cy, rf, ri, rn, gv, ga, gb, wt, vy, t1, r1, t2, r2, pa, qk, qn, qs, wd, bt, tp, ky) p) ∧ (¬ r = 0 → ∃ j, j < 4 ∧ p = nI j ∧ ¬ rn j = 0) := by
  obtain ⟨K1, K2, K3, -⟩ := R
  rcases hk_rng p (n := 4) (by decide) with h | h | ⟨j, hj, rfl⟩
  · refine ⟨0, fun post hp => br_t h hp, fun post hp => ?_, fun z => absurd rfl z⟩
    exact br_t h (br_t rfl hp)
  · refine ⟨0, fun post hp => br_f (hk_not4 h) (br_t h hp), fun post hp => ?_, fun z => absurd rfl z⟩
    exact br_f (hk_not4 h) (br_t (hk_sgt (n := 3) (by decide) h) (br_t rfl hp))
  · have e := hk_P3_r K3 hj
    have a1 : ¬ nI j < 0 := hk_n0 (by omega)
    have a2 : ¬ (4 : Int32) ≤ nI j := nI_ge (b := 4) (by omega) (by decide)
    have a3 : ¬ (3 : Int32) < nI j := nI_nlt (a := 3) (by omega) (by decide)
    by_cases z : rn j = 0
    · refine ⟨0, fun post hp => br_f a1 (br_f a2 (br_t (e.trans z) hp)), fun post hp => ?_, fun z => absurd rfl z⟩
      exact br_f a1 (br_f a3 (br_f (by decide) (hk_rd (P := fun x => (x = 0 → post 0) ∧ (¬ x = 0 → post 1)) rfl hj z (br_t rfl hp))))
    · refine ⟨1, fun post hp => br_f a1 (br_f a2 (br_f (fun y => z (e.symm.trans y)) hp)), fun post hp => ?_, fun _ => ⟨j, hj, rfl, z⟩⟩
      exact br_f a1 (br_f a3 (br_f (by decide) (hk_rd (P := fun x => (x = 0 → post 0) ∧ (¬ x = 0 → post 1)) rfl hj rfl (br_f z hp))))
theorem hk_test {fo fm fr : Int32} {nw : Nat} {kd nu re sg ot ob ri va f1 g1 f2 g2 hd ct pg us ce pk pn ps wd tp bt ky gv ga gb ev pe ow cy rf rn wt vy t1 r1 t2 r2 pa qk qn qs : Nat → Int32} (R : hk_R fo fr nw kd re sg ot ob ri va f1 g1 f2 g2 hd ct pg us ce pk pn ps wd tp bt ev pe ow cy rf rn wt vy t1 r1 t2 r2 pa qk qn qs) {p : Nat} (hp : p < 4) (h w n : Int32) : ∃ r, (∀ post : Int32 → Prop, post r → wpX_test post (fo, fm, fr, nI nw, kd, nu, re, sg, ot, ob, ri, va, f1, g1, f2, g2, hd, ct, pg, us, ce, pk, pn, ps, wd, tp, bt, ky, gv, ga, gb) (nI p) h w n) ∧ (∀ post : Int32 → Prop, post r → wpY_test post (fm, nI nw, kd, nu, ev, pe, ow, cy, rf, ri, rn, gv, ga, gb, wt, vy, t1, r1, t2, r2, pa, qk, qn, qs, wd, bt, tp, ky) (nI p) h w n) ∧
    (r = 0 → ∃ j o, j < 10 ∧ h = nI j ∧ o < 16 ∧ ob (10 * p + j) = nI (o + 1) ∧ rf (10 * p + j) = nI o ∧ ¬ kd o < 0 ∧ (¬ w < 0 → kd o = w)) := by
  obtain ⟨K1, K2, K3, K4, -⟩ := R
  have m2 : ¬ (-2 : Int32) = 0 := by decide
  rcases hk_rng h (n := 10) (by decide) with z | z | ⟨j, hj, rfl⟩
  · exact ⟨-2, fun post hp => br_t z hp, fun post hp => br_t z (br_t rfl hp), fun y => absurd y m2⟩
  · exact ⟨-2, fun post hp => br_f (hk_notn (by decide) z) (br_t (hk_sgt (n := 9) (by decide) z) hp), fun post hp => br_f (hk_notn (by decide) z) (br_t (hk_sgt (n := 9) (by decide) z) (br_t rfl hp)), fun y => absurd y m2⟩
  · have a1 : ¬ nI j < 0 := hk_n0 (by omega)
    have a2 : ¬ (9 : Int32) < nI j := nI_nlt (a := 9) (by omega) (by decide)
    have i1 : (10 : Int32) * nI p + nI j = nI (10 * p + j) := hk_10 p j
    have i2 : 10 * p + j < 40 := by omega
    have i3 : (nI (10 * p + j)).toNatClampNeg = 10 * p + j := hk_cl (by omega)
    have i4 : vp_in (nI (10 * p + j)) 40 := hk_in i2
    rcases K4 (10 * p + j) i2 with ⟨e1, e2⟩ | ⟨o, ho, e1, e2, hl⟩
    · refine ⟨-2, fun post hp => br_f a1 (br_f a2 ?_), fun post hp => br_f a1 (br_f a2 (br_f (by decide) ?_)), fun y => absurd y m2⟩
      · rw [i1, i3]; exact ⟨i4, br_t e1 hp⟩
      · rw [i1, i3]; exact ⟨i4, br_f (by rw [e2]; exact hk_m1le) hp⟩
    · have b1 : ¬ nI (o + 1) = 0 := by rw [hk_e0 (by omega)]; omega
      have b2 : (0 : Int32) ≤ nI o := hk_0l (by omega)
      have b3 : nI (o + 1) - 1 = nI o := nI_pred o
      have b4 : vp_in (nI o) 16 := hk_in ho
      have b5 : (nI o).toNatClampNeg = o := hk_cl (by omega)
      have X56 : ∀ (post : Int32 → Prop) r, post r → r = (if ri (10 * p + j) &&& n = n then 0 else -4) → wX_test_56 post (nI p) (nI j) n fo fm fr (nI nw) kd nu re sg ot ob ri va f1 g1 f2 g2 hd ct pg us ce pk pn ps wd tp bt ky gv ga gb := by
        intro post r hp hr
        unfold wX_test_56
        rw [i1, i3]
        refine ⟨i4, ?_⟩
        by_cases q : ri (10 * p + j) &&& n = n
        · rw [if_pos q] at hr; exact br_t q (hr ▸ hp)
        · rw [if_neg q] at hr; exact br_f q (hr ▸ hp)
      have Y58 : ∀ (post : Int32 → Prop) r, post r → r = (if ri (10 * p + j) &&& n = n then 0 else -4) → wY_test_58 post n (nI (10 * p + j)) fm (nI nw) kd nu ev pe ow cy rf ri rn gv ga gb wt vy t1 r1 t2 r2 pa qk qn qs wd bt tp ky := by
        intro post r hp hr
        unfold wY_test_58
        rw [i3]
        refine ⟨i4, ?_⟩
        by_cases q : ri (10 * p + j) &&& n = n
        · rw [if_pos q] at hr; exact br_t q (hr ▸ hp)
        · rw [if_neg q] at hr; exact br_f q (hr ▸ hp)
      by_cases y : w < 0
      · refine ⟨if ri (10 * p + j) &&& n = n then 0 else -4, fun post hp => br_f a1 (br_f a2 ?_), fun post hp => br_f a1 (br_f a2 (br_f (by decide) ?_)), fun _ => ⟨j, o, hj, rfl, ho, e1, e2, hl, fun q => absurd y q⟩⟩
        · rw [i1, i3, e1]; exact ⟨i4, br_f b1 (br_t y (X56 post _ hp rfl))⟩
        · rw [i1, i3, e2]; exact ⟨i4, br_t b2 (nm_e (br_t y (Y58 post _ hp rfl)))⟩
      · by_cases q : kd o = w
        · refine ⟨if ri (10 * p + j) &&& n = n then 0 else -4, fun post hp => br_f a1 (br_f a2 ?_), fun post hp => br_f a1 (br_f a2 (br_f (by decide) ?_)), fun _ => ⟨j, o, hj, rfl, ho, e1, e2, hl, fun _ => q⟩⟩
          · rw [i1, i3, e1, b3, b5]; exact ⟨i4, br_f b1 (br_f y ⟨i4, b4, br_t q (X56 post _ hp rfl)⟩)⟩
          · rw [i1, i3, e2]; exact ⟨i4, br_t b2 (nm_e (br_f y (by rw [i3, e2, b5]; exact ⟨i4, b4, br_t q (Y58 post _ hp rfl)⟩)))⟩
        · refine ⟨-3, fun post hp => br_f a1 (br_f a2 ?_), fun post hp => br_f a1 (br_f a2 (br_f (by decide) ?_)), fun y => absurd y (by decide)⟩
          · rw [i1, i3, e1, b3, b5]; exact ⟨i4, br_f b1 (br_f y ⟨i4, b4, br_f q hp⟩)⟩
          · rw [i1, i3, e2]; exact ⟨i4, br_t b2 (nm_e (br_f y (by rw [i3, e2, b5]; exact ⟨i4, b4, br_f q hp⟩)))⟩
end
end
section
section
theorem hk_first {fo fm fr : Int32} {nw : Nat} {kd nu re sg ot ob ri va f1 g1 f2 g2 hd ct pg us ce pk pn ps wd tp bt ky gv ga gb ev pe ow cy rf rn wt vy t1 r1 t2 r2 pa qk qn qs : Nat → Int32} (R : hk_R fo fr nw kd re sg ot ob ri va f1 g1 f2 g2 hd ct pg us ce pk pn ps wd tp bt ev pe ow cy rf rn wt vy t1 r1 t2 r2 pa qk qn qs) (p h w n : Int32) : ∃ r, (∀ post : Int32 → Prop, post r → wpX_first post (fo, fm, fr, nI nw, kd, nu, re, sg, ot, ob, ri, va, f1, g1, f2, g2, hd, ct, pg, us, ce, pk, pn, ps, wd, tp, bt, ky, gv, ga, gb) p h w n) ∧ (∀ post : Int32 → Prop, post r → wpY_check post (fm, nI nw, kd, nu, ev, pe, ow, cy, rf, ri, rn, gv, ga, gb, wt, vy, t1, r1, t2, r2, pa, qk, qn, qs, wd, bt, tp, ky) p h w n) ∧
    (r = 0 → ∃ i j o, i < 4 ∧ p = nI i ∧ ¬ rn i = 0 ∧ j < 10 ∧ h = nI j ∧ o < 16 ∧ ob (10 * i + j) = nI (o + 1) ∧ rf (10 * i + j) = nI o ∧ ¬ kd o < 0 ∧ (¬ w < 0 → kd o = w)) := by
  obtain ⟨a, aX, aY, a0⟩ := hk_runs (nu := nu) (ky := ky) (gv := gv) (ga := ga) (gb := gb) (fm := fm) R p
  by_cases z : a = 0
  · exact ⟨-1, fun post hp => by unfold wpX_first; exact aX _ (br_t z hp), fun post hp => by unfold wpY_check; exact aY _ (br_t z hp), fun y => absurd y (by decide)⟩
  · obtain ⟨i, hi, rfl, hr⟩ := a0 z
    obtain ⟨r, rX, rY, r0⟩ := hk_test (nu := nu) (ky := ky) (gv := gv) (ga := ga) (gb := gb) (fm := fm) R hi h w n
    refine ⟨r, fun post hp => by unfold wpX_first; exact aX _ (br_f z (rX _ hp)), fun post hp => by unfold wpY_check; exact aY _ (br_f z (rY _ hp)), fun y => ?_⟩
    obtain ⟨j, o, h1, h2, h3, h4, h5, h6, h7⟩ := r0 y
    exact ⟨i, j, o, hi, rfl, hr, h1, h2, h3, h4, h5, h6, h7⟩
theorem hk_objX {fo fm fr : Int32} {nw : Nat} {kd nu re sg ot ob ri va f1 g1 f2 g2 hd ct pg us ce pk pn ps wd tp bt ky gv ga gb : Nat → Int32} {post : Int32 → Prop} {p j o : Nat} (hp : p < 4) (hj : j < 10) (h : ob (10 * p + j) = nI (o + 1)) (H : post (nI o)) : wpX_objectOf post (fo, fm, fr, nI nw, kd, nu, re, sg, ot, ob, ri, va, f1, g1, f2, g2, hd, ct, pg, us, ce, pk, pn, ps, wd, tp, bt, ky, gv, ga, gb) (nI p) (nI j) := by
  refine hk_rd (f := ob) (P := fun x => post (x - 1)) (hk_10 p j) (by omega) h ?_
  rw [nI_pred]; exact H
theorem hk_objY {fm : Int32} {nw : Nat} {kd nu ev pe ow cy rf ri rn gv ga gb wt vy t1 r1 t2 r2 pa qk qn qs wd bt tp ky : Nat → Int32} {post : Int32 → Prop} {p j o : Nat} (hp : p < 4) (hj : j < 10) (h : rf (10 * p + j) = nI o) (H : post (nI o)) : wpY_object post (fm, nI nw, kd, nu, ev, pe, ow, cy, rf, ri, rn, gv, ga, gb, wt, vy, t1, r1, t2, r2, pa, qk, qn, qs, wd, bt, tp, ky) (nI p) (nI j) :=
  hk_rd (f := rf) (P := fun x => post x) (hk_10 p j) (by omega) h H
/-! room -/
def hk_RM (rf : Nat → Int32) (p : Nat) : Nat := hk_sm (fun j => if rf (10 * p + j) < 0 then 1 else 0) 10
theorem hk_roomX {fo fm fr : Int32} {nw : Nat} {kd nu re sg ot ob ri va f1 g1 f2 g2 hd ct pg us ce pk pn ps wd tp bt ky gv ga gb : Nat → Int32} {rf : Nat → Int32} {post : Int32 → Prop} {p : Nat} (hp : p < 4) (hH : ∀ j, j < 10 → (ob (10 * p + j) = 0 ↔ rf (10 * p + j) < 0)) (H : post (nI (hk_RM rf p))) : wpX_room post (fo, fm, fr, nI nw, kd, nu, re, sg, ot, ob, ri, va, f1, g1, f2, g2, hd, ct, pg, us, ce, pk, pn, ps, wd, tp, bt, ky, gv, ga, gb) (nI p) := by
  have key : ∀ d i, i + d = 10 → wX_room_4 post (nI p) fo fm fr (nI nw) kd nu re sg ot ob ri va f1 g1 f2 g2 hd ct pg us ce pk pn ps wd tp bt ky gv ga gb (d + 1) (nI (hk_sm (fun j => if rf (10 * p + j) < 0 then 1 else 0) i)) (nI i) := by
    intro d
    induction d with
    | zero =>
      intro i hi
      obtain rfl : i = 10 := by omega
      exact br_t (nI_le (a := 10) (Nat.le_refl _) (by decide)) H
    | succ d ih =>
      intro i hi
      refine br_f (nI_ge (b := 10) (by omega) (by decide)) ?_
      rw [hk_10, hk_cl (by omega)]
      refine ⟨hk_in (by omega), ?_⟩
      have a := ih (i + 1) (by omega)
      rw [hk_sm_s] at a
      by_cases z : rf (10 * p + i) < 0
      · rw [if_pos z] at a
        exact br_t ((hH i (by omega)).mpr z) (nm_r (nI_1 _) (nm_r (nI_1 _) a))
      · rw [if_neg z] at a
        exact br_f (fun y => z ((hH i (by omega)).mp y)) (nm_r (nI_1 _) a)
  exact ⟨11, key 10 0 rfl⟩
theorem hk_roomY {fm : Int32} {nw : Nat} {kd nu ev pe ow cy rf ri rn gv ga gb wt vy t1 r1 t2 r2 pa qk qn qs wd bt tp ky : Nat → Int32} {post : Int32 → Prop} {p : Nat} (hp : p < 4) (hn : ∀ j, j < 10 → (¬ 0 ≤ rf (10 * p + j) ↔ rf (10 * p + j) < 0)) (H : post (nI (hk_RM rf p))) : wpY_room post (fm, nI nw, kd, nu, ev, pe, ow, cy, rf, ri, rn, gv, ga, gb, wt, vy, t1, r1, t2, r2, pa, qk, qn, qs, wd, bt, tp, ky) (nI p) := by
  have key : ∀ d i, i + d = 10 → wY_room_4 post (nI p) fm (nI nw) kd nu ev pe ow cy rf ri rn gv ga gb wt vy t1 r1 t2 r2 pa qk qn qs wd bt tp ky (d + 1) (nI (hk_sm (fun j => if rf (10 * p + j) < 0 then 1 else 0) i)) (nI i) := by
    intro d
    induction d with
    | zero =>
      intro i hi
      obtain rfl : i = 10 := by omega
      exact br_t (nI_le (a := 10) (Nat.le_refl _) (by decide)) H
    | succ d ih =>
      intro i hi
      refine br_f (nI_ge (b := 10) (by omega) (by decide)) ?_
      rw [hk_10, hk_cl (by omega)]
      refine ⟨hk_in (by omega), ?_⟩
      have a := ih (i + 1) (by omega)
      rw [hk_sm_s] at a
      by_cases z : rf (10 * p + i) < 0
      · rw [if_pos z] at a
        exact br_f ((hn i (by omega)).mpr z) (nm_r (nI_1 _) (nm_r (nI_1 _) a))
      · rw [if_neg z] at a
        exact br_t (Decidable.not_not.mp fun y => z ((hn i (by omega)).mp y)) (nm_r (nI_1 _) a)
  exact ⟨11, key 10 0 rfl⟩
theorem hk_ltle (x : Int32) : ¬ 0 ≤ x ↔ x < 0 := Int32.not_le
theorem hk_RM_le (rf : Nat → Int32) (p : Nat) : hk_RM rf p ≤ 10 := by
  have := hk_sm_le (f := fun j => if rf (10 * p + j) < 0 then 1 else 0) (b := 1) (n := 10) (fun i _ => by split <;> omega)
  unfold hk_RM
  omega
theorem hk_room {fo fm fr : Int32} {nw : Nat} {kd nu re sg ot ob ri va f1 g1 f2 g2 hd ct pg us ce pk pn ps wd tp bt ky gv ga gb ev pe ow cy rf rn wt vy t1 r1 t2 r2 pa qk qn qs : Nat → Int32} (R : hk_R fo fr nw kd re sg ot ob ri va f1 g1 f2 g2 hd ct pg us ce pk pn ps wd tp bt ev pe ow cy rf rn wt vy t1 r1 t2 r2 pa qk qn qs) {p : Nat} (hp : p < 4) : (∀ post : Int32 → Prop, post (nI (hk_RM rf p)) → wpX_room post (fo, fm, fr, nI nw, kd, nu, re, sg, ot, ob, ri, va, f1, g1, f2, g2, hd, ct, pg, us, ce, pk, pn, ps, wd, tp, bt, ky, gv, ga, gb) (nI p)) ∧ (∀ post : Int32 → Prop, post (nI (hk_RM rf p)) → wpY_room post (fm, nI nw, kd, nu, ev, pe, ow, cy, rf, ri, rn, gv, ga, gb, wt, vy, t1, r1, t2, r2, pa, qk, qn, qs, wd, bt, tp, ky) (nI p)) :=
  ⟨fun post H => hk_roomX hp (fun j hj => hk_H_0 (R.2.2.2.1 (10 * p + j) (by omega))) H, fun post H => hk_roomY hp (fun j _ => hk_ltle _) H⟩
/-- there is a least free place -/
theorem hk_place {kd ob rf : Nat → Int32} (K4 : hk_P4 kd ob rf) {p : Nat} (hp : p < 4) (h : 0 < hk_RM rf p) : ∃ j, j < 10 ∧ ob (10 * p + j) = 0 ∧ rf (10 * p + j) = -1 ∧ (∀ i, i < j → ¬ ob (10 * p + i) = 0) ∧ (∀ i, i < j → ¬ rf (10 * p + i) < 0) := by
  obtain ⟨k, hk, h1⟩ := hk_sm_pos h
  have h2 : rf (10 * p + k) < 0 := by
    by_cases z : rf (10 * p + k) < 0
    · exact z
    · rw [if_neg z] at h1; omega
  obtain ⟨j, hj, a, b⟩ := hk_least (P := fun j => rf (10 * p + j) < 0) (n := 10) ⟨k, hk, h2⟩
  refine ⟨j, hj, (hk_H_0 (K4 _ (by omega))).mpr a, ?_, fun i hi z => b i hi ((hk_H_0 (K4 _ (by omega))).mp z), b⟩
  rcases K4 (10 * p + j) (by omega) with ⟨-, e⟩ | ⟨o, ho, -, e, -⟩
  · exact e
  · rw [e] at a; exact absurd a (hk_n0 (by omega))
theorem hk_RM_up {rf : Nat → Int32} {p j : Nat} {x : Int32} (hj : j < 10) (h : rf (10 * p + j) < 0) (hx : ¬ x < 0) : hk_RM (upd rf (10 * p + j) x) p + 1 = hk_RM rf p := by
  have a := hk_sm_upd (f := fun j => if rf (10 * p + j) < 0 then 1 else 0) (g := fun i => if upd rf (10 * p + j) x (10 * p + i) < 0 then 1 else 0) (k := j) (n := 10) hj (fun i _ hi => by rw [hk_un (by omega)])
  simp only [hk_us, if_pos h, if_neg hx] at a
  unfold hk_RM
  omega
theorem hk_freeX {fo fm fr : Int32} {nw : Nat} {kd nu re sg ot ob ri va f1 g1 f2 g2 hd ct pg us ce pk pn ps wd tp bt ky gv ga gb : Nat → Int32} {post : Int32 → Prop} {p j : Nat} (hp : p < 4) (hj : j < 10) (h0 : ob (10 * p + j) = 0) (hm : ∀ i, i < j → ¬ ob (10 * p + i) = 0) (H : post (nI j)) : wpX_free post (fo, fm, fr, nI nw, kd, nu, re, sg, ot, ob, ri, va, f1, g1, f2, g2, hd, ct, pg, us, ce, pk, pn, ps, wd, tp, bt, ky, gv, ga, gb) (nI p) 0 := by
  have key : ∀ d i, i + d = j → wX_free_2 post (nI p) fo fm fr (nI nw) kd nu re sg ot ob ri va f1 g1 f2 g2 hd ct pg us ce pk pn ps wd tp bt ky gv ga gb (d + 1) (nI i) := by
    intro d
    induction d with
    | zero =>
      intro i hi
      obtain rfl : i = j := by omega
      refine br_f (nI_ge (b := 10) (by omega) (by decide)) ?_
      rw [hk_10, hk_cl (by omega)]
      exact ⟨hk_in (by omega), br_t h0 H⟩
    | succ d ih =>
      intro i hi
      refine br_f (nI_ge (b := 10) (by omega) (by decide)) ?_
      rw [hk_10, hk_cl (by omega)]
      exact ⟨hk_in (by omega), br_f (hm i (by omega)) (nm_r (nI_1 _) (ih (i + 1) (by omega)))⟩
  exact ⟨j + 1, key j 0 (by omega)⟩
theorem hk_landX {fo fm fr : Int32} {nw : Nat} {kd nu re sg ot ob ri va f1 g1 f2 g2 hd ct pg us ce pk pn ps wd tp bt ky gv ga gb : Nat → Int32} {post : Int32 → SX → Prop} {p j o r : Nat} (hp : p < 4) (hj : j < 10) (h0 : ob (10 * p + j) = 0) (hm : ∀ i, i < j → ¬ ob (10 * p + i) = 0) (ho : o < 16) (hr : r < 64)
    (H : post (nI j) (fo, fm, fr, nI nw, kd, nu, re, sg, ot, upd ob (10 * p + j) (nI (o + 1)), upd ri (10 * p + j) (nI r), va, f1, g1, f2, g2, hd, ct, pg, us, ce, pk, pn, ps, wd, tp, bt, ky, gv, ga, gb)) : wpX_land post (fo, fm, fr, nI nw, kd, nu, re, sg, ot, ob, ri, va, f1, g1, f2, g2, hd, ct, pg, us, ce, pk, pn, ps, wd, tp, bt, ky, gv, ga, gb) (nI p) (nI o) (nI r) := by
  refine hk_freeX hp hj h0 hm ?_
  exact hk_st (hk_10 p j) (by omega) (by rw [nI_1, hk_vb' (by omega)]) (hk_st (hk_10 p j) (by omega) (hk_vb' (by omega)) H)
theorem hk_grantX {fo fm fr : Int32} {nw : Nat} {kd nu re sg ot ob ri va f1 g1 f2 g2 hd ct pg us ce pk pn ps wd tp bt ky gv ga gb : Nat → Int32} {post : Int32 → SX → Prop} {p j o r m : Nat} (hp : p < 4) (hj : j < 10) (h0 : ob (10 * p + j) = 0) (hm : ∀ i, i < j → ¬ ob (10 * p + i) = 0) (ho : o < 16) (hr : r < 64) (hre : re o = nI m) (hm2 : m ≤ 1000)
    (H : post (nI j) (fo, fm, fr, nI nw, kd, nu, upd re o (re o + 1), sg, ot, upd ob (10 * p + j) (nI (o + 1)), upd ri (10 * p + j) (nI r), va, f1, g1, f2, g2, hd, ct, pg, us, ce, pk, pn, ps, wd, tp, bt, ky, gv, ga, gb)) : wpX_grant post (fo, fm, fr, nI nw, kd, nu, re, sg, ot, ob, ri, va, f1, g1, f2, g2, hd, ct, pg, us, ce, pk, pn, ps, wd, tp, bt, ky, gv, ga, gb) (nI p) (nI o) (nI r) := by
  refine ⟨hk_in ho, hk_st rfl ho (w := re o + 1) (by rw [hk_cl (by omega), hre, nI_1, hk_vs' (by omega)]) ?_⟩
  exact hk_landX hp hj h0 hm ho hr H
theorem hk_placeY {fm : Int32} {nw : Nat} {kd nu ev pe ow cy rf ri rn gv ga gb wt vy t1 r1 t2 r2 pa qk qn qs wd bt tp ky : Nat → Int32} {post : Int32 → SY → Prop} {p j : Nat} {o r : Int32} (hp : p < 4) (hj : j < 10) (h0 : rf (10 * p + j) = -1) (hm : ∀ i, i < j → ¬ rf (10 * p + i) < 0)
    (H : post (nI j) (fm, nI nw, kd, nu, ev, pe, ow, cy, upd rf (10 * p + j) o, upd ri (10 * p + j) r, rn, gv, ga, gb, wt, vy, t1, r1, t2, r2, pa, qk, qn, qs, wd, bt, tp, ky)) : wpY_place post (fm, nI nw, kd, nu, ev, pe, ow, cy, rf, ri, rn, gv, ga, gb, wt, vy, t1, r1, t2, r2, pa, qk, qn, qs, wd, bt, tp, ky) (nI p) o r := by
  have key : ∀ d i, i + d = j → wY_place_3 post (nI p) o r fm (nI nw) kd nu ev pe ow cy rf ri rn gv ga gb wt vy t1 r1 t2 r2 pa qk qn qs wd bt tp ky (d + 1) (nI i) := by
    intro d
    induction d with
    | zero =>
      intro i hi
      obtain rfl : i = j := by omega
      refine And.intro ?_ (br_t ?_ (hk_st (hk_10 p i) (by omega) rfl (hk_st (hk_10 p i) (by omega) rfl H)))
      · rw [hk_10]; exact hk_in (by omega)
      · rw [hk_10, hk_cl (by omega), h0]; exact hk_m1lt
    | succ d ih =>
      intro i hi
      refine And.intro ?_ (br_f ?_ (nm_r (nI_1 _) (ih (i + 1) (by omega))))
      · rw [hk_10]; exact hk_in (by omega)
      · rw [hk_10, hk_cl (by omega)]; exact hm i (by omega)
  exact ⟨j + 1, key j 0 (by omega)⟩
/-! creation -/
theorem hk_creX {fo fm fr : Int32} {nw : Nat} {kd nu re sg ot ob ri va f1 g1 f2 g2 hd ct pg us ce pk pn ps wd tp bt ky gv ga gb : Nat → Int32} {post : Int32 → SX → Prop} {o k : Nat} (ho : o < 16) (h0 : kd o < 0) (hm : ∀ i, i < o → ¬ kd i < 0) (hk : k < 128)
    (H : post (nI o) (fo + 1, fm + 1, fr, nI nw, upd kd o (nI k), upd nu o fm, upd re o 0, upd sg o 0, upd ot o (-1), ob, ri, va, f1, g1, f2, g2, upd hd o 0, upd ct o 0, pg, us, ce, pk, pn, ps, wd, tp, bt, ky, gv, ga, gb)) : wpX_create post (fo, fm, fr, nI nw, kd, nu, re, sg, ot, ob, ri, va, f1, g1, f2, g2, hd, ct, pg, us, ce, pk, pn, ps, wd, tp, bt, ky, gv, ga, gb) (nI k) := by
  have key : ∀ d i, i + d = o → wX_create_2 post (nI k) fo fm fr (nI nw) kd nu re sg ot ob ri va f1 g1 f2 g2 hd ct pg us ce pk pn ps wd tp bt ky gv ga gb (d + 1) (nI i) := by
    intro d
    induction d with
    | zero =>
      intro i hi
      obtain rfl : i = o := by omega
      refine And.intro (hk_in ho) (br_t (by rw [hk_cl (by omega)]; exact h0) ?_)
      exact hk_st rfl ho (hk_vb' hk) (nm_e (hk_st rfl ho rfl (hk_st rfl ho hk_vs0 (hk_st rfl ho hk_vs0 (hk_st rfl ho hk_vbm (hk_st rfl ho hk_vb0 (hk_st rfl ho hk_vb0 (nm_e H))))))))
    | succ d ih =>
      intro i hi
      exact And.intro (hk_in (by omega)) (br_f (by rw [hk_cl (by omega)]; exact hm i (by omega)) (nm_r (nI_1 _) (ih (i + 1) (by omega))))
  exact ⟨o + 1, key o 0 (by omega)⟩
def hk_fzn (b n : Nat) (f : Nat → Int32) : Nat → Int32 := fun i => if b ≤ i ∧ i < b + n then 0 else f i
theorem hk_fzn_0 {b : Nat} {f : Nat → Int32} : hk_fzn b 0 f = f := by
  funext i; exact if_neg (by omega)
theorem hk_fzn_s {b n : Nat} {f : Nat → Int32} : upd (hk_fzn b n f) (b + n) 0 = hk_fzn b (n + 1) f := by
  funext i
  by_cases z : i = b + n
  · subst z; rw [hk_us]; exact (if_pos (by omega)).symm
  · rw [hk_un z]
    unfold hk_fzn
    by_cases y : b ≤ i ∧ i < b + n
    · rw [if_pos y, if_pos (by omega)]
    · rw [if_neg y, if_neg (by omega)]
theorem hk_creY {fm : Int32} {nw : Nat} {kd nu ev pe ow cy rf ri rn gv ga gb wt vy t1 r1 t2 r2 pa qk qn qs wd bt tp ky : Nat → Int32} {post : Int32 → SY → Prop} {o : Nat} {k : Int32} (ho : o < 16) (h0 : kd o < 0) (hm : ∀ i, i < o → ¬ kd i < 0)
    (H : post (nI o) (fm + 1, nI nw, upd kd o k, upd nu o fm, upd ev o 0, upd pe o (-1), upd ow o (-1), hk_fz (8 * o) cy, rf, ri, rn, gv, ga, gb, upd wt o 0, vy, t1, r1, t2, r2, upd pa o 0, qk, qn, qs, wd, bt, tp, ky)) : wpY_create post (fm, nI nw, kd, nu, ev, pe, ow, cy, rf, ri, rn, gv, ga, gb, wt, vy, t1, r1, t2, r2, pa, qk, qn, qs, wd, bt, tp, ky) k := by
  have loop : ∀ d i, i + d = 8 → wY_create_84 post (nI o) (fm + 1) (nI nw) (d + 1) (nI (8 * o + i)) (upd kd o k) (upd nu o fm) (upd ev o 0) (upd pe o (-1)) (upd ow o (-1)) (hk_fzn (8 * o) i cy) rf ri rn gv ga gb (upd wt o 0) vy t1 r1 t2 r2 (upd pa o 0) qk qn qs wd bt tp ky := by
    intro d
    induction d with
    | zero =>
      intro i hi
      obtain rfl : i = 8 := by omega
      refine br_t ?_ H
      rw [hk_m8, hk_a8]; exact nI_le (Nat.le_refl _) (by omega)
    | succ d ih =>
      intro i hi
      refine br_f ?_ (hk_st rfl (by omega) rfl (nm_r (nI_1 _) ?_))
      · rw [hk_m8, hk_a8]; exact nI_ge (by omega) (by omega)
      · rw [hk_fzn_s]; exact ih (i + 1) (by omega)
  have key : ∀ d i, i + d = o → wY_create_2 post k fm (nI nw) kd nu ev pe ow cy rf ri rn gv ga gb wt vy t1 r1 t2 r2 pa qk qn qs wd bt tp ky (d + 1) (nI i) := by
    intro d
    induction d with
    | zero =>
      intro i hi
      obtain rfl : i = o := by omega
      refine And.intro (hk_in ho) (br_t (by rw [hk_cl (by omega)]; exact h0) ?_)
      refine hk_st rfl ho rfl (hk_st rfl ho rfl (nm_e (hk_st rfl ho rfl (hk_st rfl ho rfl (hk_st rfl ho rfl (hk_st rfl ho rfl (hk_st rfl ho rfl (nm_r (hk_m8 i) ⟨9, ?_⟩))))))))
      have a := loop 8 0 rfl
      rw [hk_fzn_0] at a
      exact a
    | succ d ih =>
      intro i hi
      exact And.intro (hk_in (by omega)) (br_f (by rw [hk_cl (by omega)]; exact hm i (by omega)) (nm_r (nI_1 _) (ih (i + 1) (by omega))))
  exact ⟨o + 1, key o 0 (by omega)⟩
end
end
section
section
theorem hk_sq {f : Nat → Int32} {x v w : Int32} {N j : Nat} {P : (Nat → Int32) → Prop} (hx : vp_in x N) (hv : v = w) (h : P (upd f j w)) : vp_in x N ∧ ∀ z, z = upd f j v → P z := by
  subst hv
  exact ⟨hx, fun z hz => hz ▸ h⟩
theorem hk_nIof (y : Int32) : y = nI y.toBitVec.toNat := by
  apply Int32.toBitVec_inj.mp
  apply BitVec.eq_of_toNat_eq
  exact (hk_tn y.toBitVec.isLt).symm
theorem hk_V_or {x y : Int32} (h : hk_V 2048 x) (h2 : hk_V 2048 y) : hk_V 2048 (x ||| y) := by
  obtain ⟨a, ha, rfl⟩ := h
  obtain ⟨b, hb, rfl⟩ := h2
  exact ⟨a ||| b, Nat.or_lt_two_pow (n := 11) ha hb, hk_or a b⟩
theorem hk_V_and {x y : Int32} {n : Nat} (h : hk_V n x) : hk_V n (x &&& y) := by
  obtain ⟨a, ha, rfl⟩ := h
  rw [hk_nIof y, hk_and]
  exact ⟨_, Nat.lt_of_le_of_lt Nat.and_le_left ha, rfl⟩
theorem hk_V_s {x : Int32} (h : hk_V 2048 x) : vp_nar .short x = x := by
  obtain ⟨a, ha, rfl⟩ := h
  exact hk_vs (by omega)
theorem hk_V_s' {x : Int32} (h : hk_V 2048 x) : vp_nar .short x.toInt16.toInt32 = x := by
  obtain ⟨a, ha, rfl⟩ := h
  exact hk_vs' (by omega)
theorem hk_sh_0 {w : Nat} {f : Nat → Int32} : hk_sh w w f = f := by
  funext i; exact if_neg (by omega)
theorem hk_sh_s {w i : Nat} {f : Nat → Int32} (h : w ≤ i) : upd (hk_sh w i f) i (f (i + 1)) = hk_sh w (i + 1) f := by
  funext t
  by_cases z : t = i
  · subst z; rw [hk_us, hk_sh_in h (by omega)]
  · rw [hk_un z]
    by_cases y : w ≤ t ∧ t < i
    · rw [hk_sh_in y.1 y.2, hk_sh_in y.1 (by omega)]
    · by_cases x : w ≤ t
      · rw [hk_sh_hi (by omega), hk_sh_hi (by omega)]
      · rw [hk_sh_lo (by omega), hk_sh_lo (by omega)]
/-- one store of a shift -/
theorem hk_shst {f : Nat → Int32} {i w N : Nat} {v : Int32} {P : (Nat → Int32) → Prop} (hw : w ≤ i) (hi : i + 1 < N) (hv : v = f (i + 1)) (h : P (hk_sh w (i + 1) f)) (hN : N < 2147483648 := by decide) :
    vp_in (nI i + 1) N ∧ (vp_in (nI i) N ∧ ∀ z, z = upd (hk_sh w i f) (nI i).toNatClampNeg v → P z) := by
  refine ⟨by rw [nI_1]; exact vp_in_nI hi hN, vp_in_nI (by omega) hN, fun z hz => ?_⟩
  rw [hz, hk_cl (by omega), hv, hk_sh_s hw]
  exact h
theorem hk_shv {f : Nat → Int32} {i w : Nat} (hi : i + 1 < 2147483648) : hk_sh w i f (nI i + 1).toNatClampNeg = f (i + 1) := by
  rw [nI_1, hk_cl hi, hk_sh_hi (by omega)]
theorem hk_unwX {fo fm fr : Int32} {kd nu re sg ot ob ri va f1 g1 f2 g2 hd ct pg us ce pk pn ps wd tp bt ky gv ga gb : Nat → Int32} {post : SX → Prop} {m w : Nat} (hw : w ≤ m) (hm : m < 12) (h1 : ∀ i, i < m + 1 → hk_W kd (wd i) (tp i) (bt i))
    (H : post (fo, fm, fr, nI m, kd, nu, re, sg, ot, ob, ri, va, f1, g1, f2, g2, hd, ct, pg, us, ce, pk, pn, ps, hk_sh w m wd, hk_sh w m tp, hk_sh w m bt, hk_sh w m ky, gv, ga, gb)) : wpX_unwatch post (fo, fm, fr, nI (m + 1), kd, nu, re, sg, ot, ob, ri, va, f1, g1, f2, g2, hd, ct, pg, us, ce, pk, pn, ps, wd, tp, bt, ky, gv, ga, gb) (nI w) := by
  have key : ∀ d i, w ≤ i → i + d = m → wX_unwatch_12 post fo fm fr (nI m) (d + 1) (nI i) kd nu re sg ot ob ri va f1 g1 f2 g2 hd ct pg us ce pk pn ps (hk_sh w i wd) (hk_sh w i tp) (hk_sh w i bt) (hk_sh w i ky) gv ga gb := by
    intro d
    induction d with
    | zero =>
      intro i hwi hi
      obtain rfl : i = m := by omega
      exact br_t (nI_le (Nat.le_refl _) (by omega)) H
    | succ d ih =>
      intro i hwi hi
      obtain ⟨⟨o, ho, e1, -⟩, ⟨q, hq, e2, -⟩, ⟨b, hb, e3⟩⟩ := h1 (i + 1) (by omega)
      refine br_f (nI_ge (by omega) (by omega)) ?_
      refine hk_shst hwi (by omega) (by rw [hk_shv (by omega), e1, hk_vb (by omega)]) ?_
      refine hk_shst hwi (by omega) (by rw [hk_shv (by omega), e2, hk_vb (by omega)]) ?_
      refine hk_shst hwi (by omega) (by rw [hk_shv (by omega), e3, hk_vs (by omega)]) ?_
      refine hk_shst hwi (by omega) (hk_shv (by omega)) ?_
      exact nm_r (nI_1 i) (ih (i + 1) (by omega) (by omega))
  have a := key (m - w) w (Nat.le_refl _) (by omega)
  rw [hk_sh_0, hk_sh_0, hk_sh_0, hk_sh_0] at a
  exact nm_r (nI_pred m) ⟨_, a⟩
theorem hk_unwY {fm : Int32} {kd nu ev pe ow cy rf ri rn gv ga gb wt vy t1 r1 t2 r2 pa qk qn qs wd bt tp ky : Nat → Int32} {post : SY → Prop} {m w : Nat} (hw : w ≤ m) (hm : m < 12)
    (H : post (fm, nI m, kd, nu, ev, pe, ow, cy, rf, ri, rn, gv, ga, gb, wt, vy, t1, r1, t2, r2, pa, qk, qn, qs, hk_sh w m wd, hk_sh w m bt, hk_sh w m tp, hk_sh w m ky)) : wpY_unwatch post (fm, nI (m + 1), kd, nu, ev, pe, ow, cy, rf, ri, rn, gv, ga, gb, wt, vy, t1, r1, t2, r2, pa, qk, qn, qs, wd, bt, tp, ky) (nI w) := by
  have key : ∀ d i, w ≤ i → i + d = m → wY_unwatch_12 post fm (nI m) (d + 1) (nI i) kd nu ev pe ow cy rf ri rn gv ga gb wt vy t1 r1 t2 r2 pa qk qn qs (hk_sh w i wd) (hk_sh w i bt) (hk_sh w i tp) (hk_sh w i ky) := by
    intro d
    induction d with
    | zero =>
      intro i hwi hi
      obtain rfl : i = m := by omega
      exact br_t (nI_le (Nat.le_refl _) (by omega)) H
    | succ d ih =>
      intro i hwi hi
      refine br_f (nI_ge (by omega) (by omega)) ?_
      refine hk_shst hwi (by omega) (hk_shv (by omega)) ?_
      refine hk_shst hwi (by omega) (hk_shv (by omega)) ?_
      refine hk_shst hwi (by omega) (hk_shv (by omega)) ?_
      refine hk_shst hwi (by omega) (hk_shv (by omega)) ?_
      exact nm_r (nI_1 i) (ih (i + 1) (by omega) (by omega))
  have a := key (m - w) w (Nat.le_refl _) (by omega)
  rw [hk_sh_0, hk_sh_0, hk_sh_0, hk_sh_0] at a
  exact nm_r (nI_pred m) ⟨_, a⟩
theorem hk_sigY {fm : Int32} {nw : Nat} {kd nu ev pe ow cy rf ri rn gv ga gb wt vy t1 r1 t2 r2 pa qk qn qs wd bt tp ky : Nat → Int32} {post : Int32 → Prop} {o : Nat} (ho : o < 16) (K1 : hk_K (kd o)) (hl : ¬ kd o < 0) (h4 : kd o = 4 → ∃ p, p < 4 ∧ ow o = nI p) (H : post (hk_S kd ev wt pe pa ow rn o)) : wpY_signals post (fm, nI nw, kd, nu, ev, pe, ow, cy, rf, ri, rn, gv, ga, gb, wt, vy, t1, r1, t2, r2, pa, qk, qn, qs, wd, bt, tp, ky) (nI o) := by
  refine And.intro (hk_in ho) (nm_r (e' := kd o) (by rw [hk_cl (by omega)]) ?_)
  rw [hk_cl (by omega)]
  rcases K1 with e | e | e | e | e | e
  · rw [e] at hl; exact absurd hk_m1lt hl
  · rw [hk_S_0 e] at H
    rw [e]
    exact br_f (by decide) (br_f (by decide) (br_t rfl ⟨hk_in ho, H⟩))
  · rw [hk_S_1 e] at H
    rw [e]
    refine br_f (by decide) (br_f (by decide) (br_f (by decide) (br_t rfl ⟨hk_in ho, ?_⟩)))
    have a : ∀ z, post (z + (if 0 ≤ pe o then 0 else 512)) → wY_signals_63 post (nI o) z fm (nI nw) kd nu ev pe ow cy rf ri rn gv ga gb wt vy t1 r1 t2 r2 pa qk qn qs wd bt tp ky := by
      intro z hz
      unfold wY_signals_63
      rw [hk_cl (by omega)]
      refine ⟨hk_in ho, ?_⟩
      by_cases y : 0 ≤ pe o
      · rw [if_pos y] at hz; exact br_t y hz
      · rw [if_neg y] at hz; exact br_f y hz
    by_cases y : wt o ≤ 0
    · rw [if_pos y] at H; exact br_t y (a 0 H)
    · rw [if_neg y] at H; exact br_f y (a 256 H)
  · rw [hk_S_2 e] at H
    rw [e]
    exact br_f (by decide) (br_f (by decide) (br_f (by decide) (br_f (by decide) (br_t rfl H))))
  · rw [hk_S_3 e] at H
    rw [e]
    refine br_f (by decide) (br_f (by decide) (br_f (by decide) (br_f (by decide) (br_f (by decide) (br_t rfl ⟨hk_in ho, ?_⟩)))))
    by_cases y : pa o ≤ 0
    · rw [if_pos y] at H; exact br_t y H
    · rw [if_neg y] at H; exact br_f y H
  · obtain ⟨p, hp, ep⟩ := h4 e
    rw [hk_S_4 e, ep, hk_cl (by omega)] at H
    rw [e]
    refine br_f (by decide) (br_f (by decide) (br_f (by decide) (br_f (by decide) (br_f (by decide) (br_f (by decide) (br_t rfl ⟨hk_in ho, ?_⟩))))))
    rw [ep, hk_cl (by omega)]
    refine br_f (hk_n0 (by omega)) ⟨hk_in ho, hk_in hp, ?_⟩
    by_cases y : rn p = 0
    · rw [if_pos y] at H; exact br_t y H
    · rw [if_neg y] at H; exact br_f y H
end
end
section
section
/-- one watch is reported, on both sides -/
theorem hk_fire {fo fm fr : Int32} {kd nu re sg ot ob ri va f1 g1 f2 g2 hd ct pg us ce pk pn ps wd tp bt ky gv ga gb ev pe ow cy rf rn wt vy t1 r1 t2 r2 pa qk qn qs : Nat → Int32} {m : Nat} (R : hk_R fo fr (m + 1) kd re sg ot ob ri va f1 g1 f2 g2 hd ct pg us ce pk pn ps wd tp bt ev pe ow cy rf rn wt vy t1 r1 t2 r2 pa qk qn qs) {w : Nat} (hw : w ≤ m) (hf : ¬ sg (wd w).toNatClampNeg &&& bt w = 0) :
    ∃ sg' ct' pk' pn' ps' pa' qk' qn' qs' : Nat → Int32, hk_R fo fr m kd re sg' ot ob ri va f1 g1 f2 g2 hd ct' pg us ce pk' pn' ps' (hk_sh w m wd) (hk_sh w m tp) (hk_sh w m bt) ev pe ow cy rf rn wt vy t1 r1 t2 r2 pa' qk' qn' qs' ∧ (∀ e, ¬ kd e = 3 → sg' e = sg e ∧ ct' e = ct e) ∧
      (∀ post : SX → Prop, post (fo, fm, fr, nI m, kd, nu, re, sg', ot, ob, ri, va, f1, g1, f2, g2, hd, ct', pg, us, ce, pk', pn', ps', hk_sh w m wd, hk_sh w m tp, hk_sh w m bt, hk_sh w m ky, gv, ga, gb) → wpX_report post (fo, fm, fr, nI (m + 1), kd, nu, re, sg, ot, ob, ri, va, f1, g1, f2, g2, hd, ct, pg, us, ce, pk, pn, ps, wd, tp, bt, ky, gv, ga, gb) (nI w)) ∧
      (∀ (post : SY → Prop) (n : Nat), wY_tell_2 post n 0 fm (nI m) kd nu ev pe ow cy rf ri rn gv ga gb wt vy t1 r1 t2 r2 pa' qk' qn' qs' (hk_sh w m wd) (hk_sh w m bt) (hk_sh w m tp) (hk_sh w m ky) → wY_tell_2 post (n + 1) (nI w) fm (nI (m + 1)) kd nu ev pe ow cy rf ri rn gv ga gb wt vy t1 r1 t2 r2 pa qk qn qs wd bt tp ky) := by
  have R0 := R
  obtain ⟨K1, K2, K3, K4, K5, K6, KP, K7, K8, K9, KS, KW, KR⟩ := R
  have hm : m < 12 := by have := KW.1; omega
  obtain ⟨⟨o, ho, ewd, hl⟩, ⟨q, hq, etp, hkq⟩, -⟩ := KW.2 w (by omega)
  obtain ⟨c, h, hc, hh, ect, epa, ehd, -⟩ := K7 q hq hkq
  obtain ⟨eS, vS⟩ := KS o ho hl
  obtain ⟨-, vQ⟩ := KS q hq (hk_3n0 hkq)
  have cw : (nI w).toNatClampNeg = w := hk_cl (by omega)
  have co : (nI o).toNatClampNeg = o := hk_cl (by omega)
  have cq : (nI q).toNatClampNeg = q := hk_cl (by omega)
  have iw : vp_in (nI w) 12 := hk_in (by omega)
  have io : vp_in (nI o) 16 := hk_in ho
  have iq : vp_in (nI q) 16 := hk_in hq
  rw [ewd, co] at hf
  have tellY : ∀ (post : SY → Prop) (n : Nat) (pa' qk' qn' qs' : Nat → Int32), wY_tell_2 post n 0 fm (nI m) kd nu ev pe ow cy rf ri rn gv ga gb wt vy t1 r1 t2 r2 pa' qk' qn' qs' (hk_sh w m wd) (hk_sh w m bt) (hk_sh w m tp) (hk_sh w m ky) →
      ((6 ≤ c ∧ pa' = pa ∧ qk' = qk ∧ qn' = qn ∧ qs' = qs) ∨ (c < 6 ∧ pa' = upd pa q (nI (c + 1)) ∧ qk' = upd qk (6 * q + c) (ky w) ∧ qn' = upd qn (6 * q + c) (nu o) ∧ qs' = upd qs (6 * q + c) (sg o))) →
      wY_tell_2 post (n + 1) (nI w) fm (nI (m + 1)) kd nu ev pe ow cy rf ri rn gv ga gb wt vy t1 r1 t2 r2 pa qk qn qs wd bt tp ky := by
    intro post n pa' qk' qn' qs' H hcase
    refine br_f (nI_ge (by omega) (by omega)) ⟨iw, nm_r (e' := nI o) (by rw [cw]; exact ewd) ?_⟩
    refine hk_sigY ho (K1 o) hl (fun z => by obtain ⟨p, hp, -, e⟩ := K9.1 o ho z; exact ⟨p, hp, e⟩) ?_
    rw [← eS]
    refine ⟨iw, nm_r (e' := nI q) (by rw [cw]; exact etp) ⟨iw, nm_r (e' := ky w) (by rw [cw]) ⟨iw, ?_⟩⟩⟩
    rw [cw]
    refine br_f hf (hk_unwY hw hm ⟨iq, ?_⟩)
    rw [cq, epa]
    rcases hcase with ⟨h6, rfl, rfl, rfl, rfl⟩ | ⟨h6, rfl, rfl, rfl, rfl⟩
    · exact br_t (nI_le (a := 6) h6 (by omega)) H
    · refine br_f (nI_ge (b := 6) h6 (by decide)) ⟨iq, nm_r (hk_6 q c) ?_⟩
      refine hk_st rfl (by omega) rfl ⟨io, hk_st rfl (by omega) (by rw [co]) (hk_st rfl (by omega) rfl ⟨iq, hk_sq iq (nI_1 c) H⟩)⟩
  by_cases h6 : 6 ≤ c
  · refine ⟨sg, ct, pk, pn, ps, pa, qk, qn, qs, hk_unw R0 hw, fun _ _ => ⟨rfl, rfl⟩, fun post H => ?_, fun post n H => tellY post n _ _ _ _ H (Or.inl ⟨h6, rfl, rfl, rfl, rfl⟩)⟩
    refine And.intro iw (nm_r (e' := nI q) (by rw [cw]; exact etp) ⟨iw, nm_r (e' := nI o) (by rw [cw]; exact ewd) ⟨iq, ?_⟩⟩)
    rw [cq, ect]
    exact br_t (nI_le (a := 6) h6 (by omega)) (hk_unwX hw hm KW.2 H)
  · have R1 := hk_pkin R0 (v1 := ky w) (v2 := nu o) (v3 := sg o) hq hkq ect (by omega) ehd hh
    refine ⟨_, _, _, _, _, _, _, _, _, hk_unw R1 hw, fun e he => ?_, fun post H => ?_, fun post n H => tellY post n _ _ _ _ H (Or.inr ⟨by omega, rfl, rfl, rfl, rfl⟩)⟩
    · have z : e ≠ q := fun z => he (z ▸ hkq)
      rw [hk_un z, hk_un z]
      exact ⟨rfl, rfl⟩
    · refine And.intro iw (nm_r (e' := nI q) (by rw [cw]; exact etp) ⟨iw, nm_r (e' := nI o) (by rw [cw]; exact ewd) ⟨iq, ?_⟩⟩)
      rw [cq, co, cw, ect, ehd]
      refine br_f (nI_ge (b := 6) (by omega) (by decide)) ⟨iq, iq, by decide, nm_r (e' := nI (6 * q + (h + c) % 6)) (by rw [nI_add, hk_rem6 (by omega), hk_6]) ?_⟩
      refine ⟨iw, hk_st rfl (by omega) rfl ⟨io, hk_st rfl (by omega) rfl ⟨io, hk_st rfl (by omega) (hk_V_s vS) ⟨iq, hk_sq iq (w := nI (c + 1)) (by rw [nI_1, hk_vb' (by omega)]) ⟨iq, ?_⟩⟩⟩⟩⟩
      refine hk_sq iq (hk_V_s' (hk_V_or vQ ⟨256, by decide, rfl⟩)) ?_
      exact hk_unwX hw hm KW.2 H
/-- no watch before w wakes: X's scan comes to w -/
theorem hk_scanX {fo fm fr : Int32} {nw : Nat} {kd nu re sg ot ob ri va f1 g1 f2 g2 hd ct pg us ce pk pn ps wd tp bt ky gv ga gb : Nat → Int32} {post : SX → Prop} {J : Int32 → Int32 → Int32 → Int32 → Int32 → (Nat → Int32) → (Nat → Int32) → (Nat → Int32) → (Nat → Int32) → (Nat → Int32) → (Nat → Int32) → (Nat → Int32) → (Nat → Int32) → (Nat → Int32) → (Nat → Int32) → (Nat → Int32) → (Nat → Int32) → (Nat → Int32) → (Nat → Int32) → (Nat → Int32) → (Nat → Int32) → (Nat → Int32) → (Nat → Int32) → (Nat → Int32) → (Nat → Int32) → (Nat → Int32) → (Nat → Int32) → (Nat → Int32) → (Nat → Int32) → (Nat → Int32) → (Nat → Int32) → (Nat → Int32) → Prop}
    {w : Nat} (hw : w ≤ nw) (hn : nw ≤ 12) (hW : ∀ i, i < nw → hk_W kd (wd i) (tp i) (bt i)) (h0 : ∀ i, i < w → sg (wd i).toNatClampNeg &&& bt i = 0) (h1 : w = nw ∨ ¬ sg (wd w).toNatClampNeg &&& bt w = 0) (H : wX_change_55 post J (nI w) fo fm fr (nI nw) kd nu re sg ot ob ri va f1 g1 f2 g2 hd ct pg us ce pk pn ps wd tp bt ky gv ga gb) :
    ∃ n, wX_change_17 post J fo fm fr (nI nw) kd nu re sg ot ob ri va f1 g1 f2 g2 hd ct pg us ce pk pn ps wd tp bt ky gv ga gb n 0 := by
  have key : ∀ d i, i + d = w → wX_change_17 post J fo fm fr (nI nw) kd nu re sg ot ob ri va f1 g1 f2 g2 hd ct pg us ce pk pn ps wd tp bt ky gv ga gb (d + 1) (nI i) := by
    intro d
    induction d with
    | zero =>
      intro i hi
      obtain rfl : i = w := by omega
      by_cases z : i = nw
      · exact br_t (by rw [z]; exact nI_le (Nat.le_refl _) (by omega)) H
      · obtain ⟨⟨o, ho, e1, -⟩, -⟩ := hW i (by omega)
        refine br_f (nI_ge (by omega) (by omega)) ?_
        rw [hk_cl (by omega)]
        refine ⟨hk_in (by omega), by rw [e1]; exact hk_in ho, hk_in (by omega), br_f ?_ H⟩
        exact h1.resolve_left z
    | succ d ih =>
      intro i hi
      obtain ⟨⟨o, ho, e1, -⟩, -⟩ := hW i (by omega)
      refine br_f (nI_ge (by omega) (by omega)) ?_
      rw [hk_cl (by omega)]
      exact ⟨hk_in (by omega), by rw [e1]; exact hk_in ho, hk_in (by omega), br_t (h0 i (by omega)) (nm_r (nI_1 i) (ih (i + 1) (by omega)))⟩
  exact ⟨w + 1, key w 0 (by omega)⟩
/-- Y's scan likewise -/
theorem hk_scanY {fo fm fr : Int32} {nw : Nat} {kd nu re sg ot ob ri va f1 g1 f2 g2 hd ct pg us ce pk pn ps wd tp bt ky gv ga gb ev pe ow cy rf rn wt vy t1 r1 t2 r2 pa qk qn qs : Nat → Int32} (R : hk_R fo fr nw kd re sg ot ob ri va f1 g1 f2 g2 hd ct pg us ce pk pn ps wd tp bt ev pe ow cy rf rn wt vy t1 r1 t2 r2 pa qk qn qs) {post : SY → Prop} {w n : Nat} (hw : w ≤ nw) (h0 : ∀ i, i < w → sg (wd i).toNatClampNeg &&& bt i = 0) (H : wY_tell_2 post n (nI w) fm (nI nw) kd nu ev pe ow cy rf ri rn gv ga gb wt vy t1 r1 t2 r2 pa qk qn qs wd bt tp ky) : ∀ d i, i + d = w → wY_tell_2 post (n + d) (nI i) fm (nI nw) kd nu ev pe ow cy rf ri rn gv ga gb wt vy t1 r1 t2 r2 pa qk qn qs wd bt tp ky := by
  obtain ⟨K1, K2, K3, K4, K5, K6, KP, K7, K8, K9, KS, KW, KR⟩ := R
  intro d
  induction d with
  | zero =>
    intro i hi
    obtain rfl : i = w := by omega
    exact H
  | succ d ih =>
    intro i hi
    have hn := KW.1
    obtain ⟨⟨o, ho, e1, hl⟩, -⟩ := KW.2 i (by omega)
    have ci : (nI i).toNatClampNeg = i := hk_cl (by omega)
    have ii : vp_in (nI i) 12 := hk_in (by omega)
    have z := h0 i (by omega)
    rw [e1, hk_cl (by omega), (KS o ho hl).1] at z
    refine br_f (nI_ge (by omega) (by omega)) ⟨ii, nm_r (e' := nI o) (by rw [ci]; exact e1) ?_⟩
    refine hk_sigY ho (K1 o) hl (fun z => by obtain ⟨p, hp, -, e⟩ := K9.1 o ho z; exact ⟨p, hp, e⟩) ?_
    refine ⟨ii, nm_e ⟨ii, nm_e ⟨ii, ?_⟩⟩⟩
    rw [ci]
    exact br_t z (nm_r (nI_1 i) (ih (i + 1) (by omega)))
/-- change and tell, in step -/
theorem hk_chg : ∀ (N : Nat) (fo fm fr : Int32) (nw : Nat) (kd nu re sg ot ob ri va f1 g1 f2 g2 hd ct pg us ce pk pn ps wd tp bt ky gv ga gb ev pe ow cy rf rn wt vy t1 r1 t2 r2 pa qk qn qs : Nat → Int32), nw = N → hk_R fo fr nw kd re sg ot ob ri va f1 g1 f2 g2 hd ct pg us ce pk pn ps wd tp bt ev pe ow cy rf rn wt vy t1 r1 t2 r2 pa qk qn qs → ∃ (m : Nat) (sg' ct' pk' pn' ps' pa' qk' qn' qs' wd' tp' bt' ky' : Nat → Int32),
      hk_R fo fr m kd re sg' ot ob ri va f1 g1 f2 g2 hd ct' pg us ce pk' pn' ps' wd' tp' bt' ev pe ow cy rf rn wt vy t1 r1 t2 r2 pa' qk' qn' qs' ∧ hk_Q m sg' wd' bt' ∧ (∀ e, ¬ kd e = 3 → sg' e = sg e ∧ ct' e = ct e) ∧
      (∀ (post : SX → Prop), post (fo, fm, fr, nI m, kd, nu, re, sg', ot, ob, ri, va, f1, g1, f2, g2, hd, ct', pg, us, ce, pk', pn', ps', wd', tp', bt', ky', gv, ga, gb) → ∀ n, N + 1 < n → wX_change_10 post n 1 fo fm fr (nI nw) kd nu re sg ot ob ri va f1 g1 f2 g2 hd ct pg us ce pk pn ps wd tp bt ky gv ga gb) ∧
      (∀ (post : SY → Prop), post (fm, nI m, kd, nu, ev, pe, ow, cy, rf, ri, rn, gv, ga, gb, wt, vy, t1, r1, t2, r2, pa', qk', qn', qs', wd', bt', tp', ky') → ∀ n, 14 * N + 13 < n → wY_tell_2 post n 0 fm (nI nw) kd nu ev pe ow cy rf ri rn gv ga gb wt vy t1 r1 t2 r2 pa qk qn qs wd bt tp ky) := by
  intro N
  induction N with
  | zero =>
    intro fo fm fr nw kd nu re sg ot ob ri va f1 g1 f2 g2 hd ct pg us ce pk pn ps wd tp bt ky gv ga gb ev pe ow cy rf rn wt vy t1 r1 t2 r2 pa qk qn qs hN R
    subst hN
    have hn := R.2.2.2.2.2.2.2.2.2.2.2.1.1
    refine ⟨0, sg, ct, pk, pn, ps, pa, qk, qn, qs, wd, tp, bt, ky, R, fun w hw => by omega, fun _ _ => ⟨rfl, rfl⟩, fun post H n hn => ?_, fun post H n hn => ?_⟩
    · obtain ⟨k, rfl⟩ : ∃ k, n = k + 2 := ⟨n - 2, by omega⟩
      refine br_f (by decide) ?_
      refine hk_scanX (w := 0) (Nat.le_refl _) (by omega) (fun i hi => by omega) (fun i hi => by omega) (Or.inl rfl) ?_
      exact br_t (nI_le (a := 0) (b := 0) (Nat.le_refl _) (by decide)) (br_t rfl (br_t rfl H))
    · obtain ⟨k, rfl⟩ : ∃ k, n = k + 1 := ⟨n - 1, by omega⟩
      exact br_t (nI_le (a := 0) (b := 0) (Nat.le_refl _) (by decide)) H
  | succ N ih =>
    intro fo fm fr nw kd nu re sg ot ob ri va f1 g1 f2 g2 hd ct pg us ce pk pn ps wd tp bt ky gv ga gb ev pe ow cy rf rn wt vy t1 r1 t2 r2 pa qk qn qs hN R
    subst hN
    have KW := R.2.2.2.2.2.2.2.2.2.2.2.1
    have hn := KW.1
    by_cases hx : ∃ w, w < N + 1 ∧ ¬ sg (wd w).toNatClampNeg &&& bt w = 0
    · obtain ⟨w, hw, hf, hmin⟩ := hk_least (P := fun w => ¬ sg (wd w).toNatClampNeg &&& bt w = 0) hx
      have h0 : ∀ i, i < w → sg (wd i).toNatClampNeg &&& bt i = 0 := fun i hi => Decidable.not_not.mp (hmin i hi)
      obtain ⟨sg', ct', pk', pn', ps', pa', qk', qn', qs', R1, keep, fX, fY⟩ := hk_fire (nu := nu) (ky := ky) (gv := gv) (ga := ga) (gb := gb) (fm := fm) R (by omega : w ≤ N) hf
      obtain ⟨m, sg2, ct2, pk2, pn2, ps2, pa2, qk2, qn2, qs2, wd2, tp2, bt2, ky2, R2, Q2, keep2, gX, gY⟩ := ih fo fm fr N kd nu re sg' ot ob ri va f1 g1 f2 g2 hd ct' pg us ce pk' pn' ps' (hk_sh w N wd) (hk_sh w N tp) (hk_sh w N bt) (hk_sh w N ky) gv ga gb ev pe ow cy rf rn wt vy t1 r1 t2 r2 pa' qk' qn' qs' rfl R1
      refine ⟨m, sg2, ct2, pk2, pn2, ps2, pa2, qk2, qn2, qs2, wd2, tp2, bt2, ky2, R2, Q2, fun e he => ⟨(keep2 e he).1.trans (keep e he).1, (keep2 e he).2.trans (keep e he).2⟩, fun post H n hn => ?_, fun post H n hn => ?_⟩
      · obtain ⟨k, rfl⟩ : ∃ k, n = k + 1 := ⟨n - 1, by omega⟩
        refine br_f (by decide) ?_
        refine hk_scanX (w := w) (by omega) (by omega) KW.2 h0 (Or.inr hf) ?_
        refine br_f (nI_ge (by omega) (by omega)) (br_f (by decide) ?_)
        exact fX _ (gX post H k (by omega))
      · have a := fY post (n - w - 1) (gY post H (n - w - 1) (by omega))
        have b := hk_scanY R (post := post) (n := n - w - 1 + 1) (by omega) h0 a w 0 (by omega)
        have e : n - w - 1 + 1 + w = n := by omega
        rw [e] at b
        exact b
    · have Q : hk_Q (N + 1) sg wd bt := fun w hw => Decidable.not_not.mp fun z => hx ⟨w, hw, z⟩
      refine ⟨N + 1, sg, ct, pk, pn, ps, pa, qk, qn, qs, wd, tp, bt, ky, R, Q, fun _ _ => ⟨rfl, rfl⟩, fun post H n hn => ?_, fun post H n hn => ?_⟩
      · obtain ⟨k, rfl⟩ : ∃ k, n = k + 2 := ⟨n - 2, by omega⟩
        refine br_f (by decide) ?_
        refine hk_scanX (w := N + 1) (Nat.le_refl _) (by omega) KW.2 Q (Or.inl rfl) ?_
        exact br_t (nI_le (Nat.le_refl _) (by omega)) (br_t rfl (br_t rfl H))
      · have a : wY_tell_2 post (n - (N + 1)) (nI (N + 1)) fm (nI (N + 1)) kd nu ev pe ow cy rf ri rn gv ga gb wt vy t1 r1 t2 r2 pa qk qn qs wd bt tp ky := by
          obtain ⟨k, hk⟩ : ∃ k, n - (N + 1) = k + 1 := ⟨n - (N + 1) - 1, by omega⟩
          rw [hk]
          exact br_t (nI_le (Nat.le_refl _) (by omega)) H
        have b := hk_scanY R (post := post) (n := n - (N + 1)) (Nat.le_refl _) Q a (N + 1) 0 (by omega)
        have e : n - (N + 1) + (N + 1) = n := by omega
        rw [e] at b
        exact b
end
end
section
section
/-- change and tell -/
theorem hk_change {fo fm fr : Int32} {nw : Nat} {kd nu re sg ot ob ri va f1 g1 f2 g2 hd ct pg us ce pk pn ps wd tp bt ky gv ga gb ev pe ow cy rf rn wt vy t1 r1 t2 r2 pa qk qn qs : Nat → Int32} (R : hk_R fo fr nw kd re sg ot ob ri va f1 g1 f2 g2 hd ct pg us ce pk pn ps wd tp bt ev pe ow cy rf rn wt vy t1 r1 t2 r2 pa qk qn qs) : ∃ (m : Nat) (sg' ct' pk' pn' ps' pa' qk' qn' qs' wd' tp' bt' ky' : Nat → Int32),
      hk_R fo fr m kd re sg' ot ob ri va f1 g1 f2 g2 hd ct' pg us ce pk' pn' ps' wd' tp' bt' ev pe ow cy rf rn wt vy t1 r1 t2 r2 pa' qk' qn' qs' ∧ hk_Q m sg' wd' bt' ∧ (∀ e, ¬ kd e = 3 → sg' e = sg e ∧ ct' e = ct e) ∧
      (∀ (post : SX → Prop) (o : Nat) (s : Int32) (sg0 : Nat → Int32), o < 16 → hk_V 2048 s → sg = upd sg0 o s → post (fo, fm, fr, nI m, kd, nu, re, sg', ot, ob, ri, va, f1, g1, f2, g2, hd, ct', pg, us, ce, pk', pn', ps', wd', tp', bt', ky', gv, ga, gb) → wpX_change post (fo, fm, fr, nI nw, kd, nu, re, sg0, ot, ob, ri, va, f1, g1, f2, g2, hd, ct, pg, us, ce, pk, pn, ps, wd, tp, bt, ky, gv, ga, gb) (nI o) s) ∧
      (∀ (post : SY → Prop), post (fm, nI m, kd, nu, ev, pe, ow, cy, rf, ri, rn, gv, ga, gb, wt, vy, t1, r1, t2, r2, pa', qk', qn', qs', wd', bt', tp', ky') → wpY_tell post (fm, nI nw, kd, nu, ev, pe, ow, cy, rf, ri, rn, gv, ga, gb, wt, vy, t1, r1, t2, r2, pa, qk, qn, qs, wd, bt, tp, ky)) := by
  obtain ⟨m, sg', ct', pk', pn', ps', pa', qk', qn', qs', wd', tp', bt', ky', R1, Q1, keep, cX, cY⟩ := hk_chg nw fo fm fr nw kd nu re sg ot ob ri va f1 g1 f2 g2 hd ct pg us ce pk pn ps wd tp bt ky gv ga gb ev pe ow cy rf rn wt vy t1 r1 t2 r2 pa qk qn qs rfl R
  refine ⟨m, sg', ct', pk', pn', ps', pa', qk', qn', qs', wd', tp', bt', ky', R1, Q1, keep, fun post o s sg0 ho hs e H => ?_, fun post H => ⟨_, cY post H (14 * nw + 14) (by omega)⟩⟩
  refine hk_st rfl ho (hk_V_s' hs) ⟨nw + 2, ?_⟩
  rw [← e]
  exact cX post H (nw + 2) (by omega)
/-- a change that wakes nobody -/
theorem hk_quiet {fo fm fr : Int32} {nw : Nat} {kd nu re sg ot ob ri va f1 g1 f2 g2 hd ct pg us ce pk pn ps wd tp bt ky gv ga gb ev pe ow cy rf rn wt vy t1 r1 t2 r2 pa qk qn qs : Nat → Int32} (R : hk_R fo fr nw kd re sg ot ob ri va f1 g1 f2 g2 hd ct pg us ce pk pn ps wd tp bt ev pe ow cy rf rn wt vy t1 r1 t2 r2 pa qk qn qs) (Q : hk_Q nw sg wd bt) {post : SX → Prop} {o : Nat} {s : Int32} {sg0 : Nat → Int32} (ho : o < 16) (hs : hk_V 2048 s) (e : sg = upd sg0 o s) (H : post (fo, fm, fr, nI nw, kd, nu, re, sg, ot, ob, ri, va, f1, g1, f2, g2, hd, ct, pg, us, ce, pk, pn, ps, wd, tp, bt, ky, gv, ga, gb)) : wpX_change post (fo, fm, fr, nI nw, kd, nu, re, sg0, ot, ob, ri, va, f1, g1, f2, g2, hd, ct, pg, us, ce, pk, pn, ps, wd, tp, bt, ky, gv, ga, gb) (nI o) s := by
  have KW := R.2.2.2.2.2.2.2.2.2.2.2.1
  have hn := KW.1
  refine hk_st rfl ho (hk_V_s' hs) ⟨2, ?_⟩
  rw [← e]
  refine br_f (by decide) ?_
  refine hk_scanX (w := nw) (Nat.le_refl _) (by omega) KW.2 Q (Or.inl rfl) ?_
  exact br_t (nI_le (Nat.le_refl _) (by omega)) (br_t rfl (br_t rfl H))
/-! references -/
theorem hk_refY {fm : Int32} {nw : Nat} {kd nu ev pe ow cy rf ri rn gv ga gb wt vy t1 r1 t2 r2 pa qk qn qs wd bt tp ky : Nat → Int32} {post : Int32 → Prop} {o : Nat} (hw : ∀ e, e < 16 → kd e = 1 → ∃ c, c ≤ 4 ∧ wt e = nI c) (H : post (nI (hk_RF kd rf wt t1 t2 o))) : wpY_references post (fm, nI nw, kd, nu, ev, pe, ow, cy, rf, ri, rn, gv, ga, gb, wt, vy, t1, r1, t2, r2, pa, qk, qn, qs, wd, bt, tp, ky) (nI o) := by
  have l42 : ∀ (J : Int32 → Int32 → Prop) (A e c : Nat), e < 16 → kd e = 1 → wt e = nI c → c ≤ 4 → J (nI (A + hk_sm (fun j => hk_mc t1 t2 (nI o) (4 * e + j)) c)) (nI (e + 1)) → ∀ d j, j + d = c →
      wY_references_42 post J (nI o) (nI e) fm (nI nw) kd nu ev pe ow cy rf ri rn gv ga gb wt vy t1 r1 t2 r2 pa qk qn qs wd bt tp ky (d + 1) (nI (A + hk_sm (fun j => hk_mc t1 t2 (nI o) (4 * e + j)) j)) (nI (4 * e + j)) := by
    intro J A e c he hk hwe hc HJ d
    induction d with
    | zero =>
      intro j hj
      obtain rfl : j = c := by omega
      refine And.intro (hk_in he) (br_t (by rw [hk_cl (by omega)]; exact hk) ⟨hk_in he, br_t ?_ (nm_r (nI_1 e) HJ)⟩)
      rw [hk_cl (by omega), hwe, hk_4]; exact nI_le (Nat.le_refl _) (by omega)
    | succ d ih =>
      intro j hj
      refine And.intro (hk_in he) (br_t (by rw [hk_cl (by omega)]; exact hk) ⟨hk_in he, br_f ?_ ⟨hk_in (by omega), ?_⟩⟩)
      · rw [hk_cl (by omega), hwe, hk_4]; exact nI_ge (by omega) (by omega)
      · have a := ih (j + 1) (by omega)
        rw [hk_sm_s] at a
        unfold hk_mc at a
        rw [hk_cl (by omega)]
        have b : ∀ z : Nat, wY_references_42 post J (nI o) (nI e) fm (nI nw) kd nu ev pe ow cy rf ri rn gv ga gb wt vy t1 r1 t2 r2 pa qk qn qs wd bt tp ky (d + 1) (nI (A + (hk_sm (fun j => hk_mc t1 t2 (nI o) (4 * e + j)) j + (z + (if t2 (4 * e + j) = nI o then 1 else 0))))) (nI (4 * e + j + 1)) →
            wY_references_84 post J (wY_references_42 post J (nI o) (nI e) fm (nI nw) kd nu ev pe ow cy rf ri rn gv ga gb wt vy t1 r1 t2 r2 pa qk qn qs wd bt tp ky (d + 1)) (nI o) (nI e) (nI (4 * e + j)) (nI z) (nI (A + hk_sm (fun j => hk_mc t1 t2 (nI o) (4 * e + j)) j)) fm (nI nw) kd nu ev pe ow cy rf ri rn gv ga gb wt vy t1 r1 t2 r2 pa qk qn qs wd bt tp ky := by
          intro z hz
          unfold wY_references_84
          rw [hk_cl (by omega)]
          refine ⟨hk_in (by omega), ?_⟩
          by_cases y : t2 (4 * e + j) = nI o
          · rw [if_pos y] at hz
            refine br_t y (nm_r ?_ (nm_r (nI_1 _) hz))
            rw [nI_1, nI_add, Nat.add_assoc]
          · rw [if_neg y] at hz
            refine br_f y (nm_r ?_ (nm_r (nI_1 _) hz))
            rw [show (0 : Int32) = nI 0 from rfl, nI_add, nI_add, Nat.add_assoc]
        by_cases y : t1 (4 * e + j) = nI o
        · rw [if_pos y] at a
          exact br_t y (b 1 a)
        · rw [if_neg y] at a
          exact br_f y (b 0 a)
  have l31 : ∀ d e, e + d = 16 → wY_references_31 post (nI o) fm (nI nw) kd nu ev pe ow cy rf ri rn gv ga gb wt vy t1 r1 t2 r2 pa qk qn qs wd bt tp ky (d + 1) (nI (hk_HC rf o + hk_sm (hk_RE kd wt t1 t2 (nI o)) e)) (nI e) := by
    intro d
    induction d with
    | zero =>
      intro e he
      obtain rfl : e = 16 := by omega
      exact br_t (nI_le (a := 16) (Nat.le_refl _) (by decide)) H
    | succ d ih =>
      intro e he
      have a := ih (e + 1) (by omega)
      rw [hk_sm_s] at a
      refine br_f (nI_ge (b := 16) (by omega) (by decide)) (nm_r (hk_m4 e) ?_)
      by_cases hk : kd e = 1
      · obtain ⟨c, hc, hwe⟩ := hw e (by omega) hk
        rw [hk_RE_1 hk hwe hc, ← Nat.add_assoc] at a
        exact ⟨_, l42 _ (hk_HC rf o + hk_sm (hk_RE kd wt t1 t2 (nI o)) e) e c (by omega) hk hwe hc a c 0 (by omega)⟩
      · have z : hk_RE kd wt t1 t2 (nI o) e = 0 := by unfold hk_RE; rw [if_neg hk]
        rw [z] at a
        exact ⟨1, And.intro (hk_in (by omega)) (br_f (by rw [hk_cl (by omega)]; exact hk) (nm_r (nI_1 e) a))⟩
  have l4 : ∀ d h, h + d = 40 → wY_references_4 post (nI o) fm (nI nw) kd nu ev pe ow cy rf ri rn gv ga gb wt vy t1 r1 t2 r2 pa qk qn qs wd bt tp ky (d + 1) (nI (hk_sm (fun h => if rf h = nI o then 1 else 0) h)) (nI h) := by
    intro d
    induction d with
    | zero =>
      intro h hh
      obtain rfl : h = 40 := by omega
      exact br_t (nI_le (a := 40) (Nat.le_refl _) (by decide)) ⟨17, l31 16 0 rfl⟩
    | succ d ih =>
      intro h hh
      have a := ih (h + 1) (by omega)
      rw [hk_sm_s] at a
      refine br_f (nI_ge (b := 40) (by omega) (by decide)) ⟨hk_in (by omega), ?_⟩
      rw [hk_cl (by omega)]
      by_cases y : rf h = nI o
      · rw [if_pos y] at a
        exact br_t y (nm_r (nI_1 _) (nm_r (nI_1 _) a))
      · rw [if_neg y] at a
        exact br_f y (nm_r (nI_1 _) a)
  exact ⟨41, l4 40 0 rfl⟩
def hk_G (kd re : Nat → Int32) (r : Int32) : Prop := r = -1 ∨ ∃ o, o < 16 ∧ r = nI o ∧ ¬ kd o < 0 ∧ re o = 0
theorem hk_garb {fo fm fr : Int32} {nw : Nat} {kd nu re sg ot ob ri va f1 g1 f2 g2 hd ct pg us ce pk pn ps wd tp bt ky gv ga gb ev pe ow cy rf rn wt vy t1 r1 t2 r2 pa qk qn qs : Nat → Int32} (R : hk_R fo fr nw kd re sg ot ob ri va f1 g1 f2 g2 hd ct pg us ce pk pn ps wd tp bt ev pe ow cy rf rn wt vy t1 r1 t2 r2 pa qk qn qs) : ∃ r, (∀ post : Int32 → Prop, post r → wpX_garbage post (fo, fm, fr, nI nw, kd, nu, re, sg, ot, ob, ri, va, f1, g1, f2, g2, hd, ct, pg, us, ce, pk, pn, ps, wd, tp, bt, ky, gv, ga, gb)) ∧ (∀ post : Int32 → Prop, post r → wpY_unused post (fm, nI nw, kd, nu, ev, pe, ow, cy, rf, ri, rn, gv, ga, gb, wt, vy, t1, r1, t2, r2, pa, qk, qn, qs, wd, bt, tp, ky)) ∧ hk_G kd re r := by
  obtain ⟨K1, K2, K3, K4, K5, K6, KP, K7, K8, K9, KS, KW, KR⟩ := R
  have key : ∀ d i x, i + d = 16 → hk_G kd re x → ∃ r, (∀ post : Int32 → Prop, post r → wX_garbage_4 post fo fm fr (nI nw) kd nu re sg ot ob ri va f1 g1 f2 g2 hd ct pg us ce pk pn ps wd tp bt ky gv ga gb (d + 1) x (nI i)) ∧ (∀ post : Int32 → Prop, post r → wY_unused_4 post fm (nI nw) kd nu ev pe ow cy rf ri rn gv ga gb wt vy t1 r1 t2 r2 pa qk qn qs wd bt tp ky (d + 1) x (nI i)) ∧ hk_G kd re r := by
    intro d
    induction d with
    | zero =>
      intro i x hi hx
      obtain rfl : i = 16 := by omega
      have z : (16 : Int32) ≤ nI 16 := nI_le (a := 16) (Nat.le_refl _) (by decide)
      exact ⟨x, fun post hp => br_t z hp, fun post hp => br_t z hp, hx⟩
    | succ d ih =>
      intro i x hi hx
      have ci : (nI i).toNatClampNeg = i := hk_cl (by omega)
      have ii : vp_in (nI i) 16 := hk_in (by omega)
      have z : ¬ (16 : Int32) ≤ nI i := nI_ge (b := 16) (by omega) (by decide)
      by_cases hl : kd i < 0
      · obtain ⟨r, rX, rY, g⟩ := ih (i + 1) x (by omega) hx
        refine ⟨r, fun post hp => br_f z ⟨ii, br_t (by rw [ci]; exact hl) (nm_r (nI_1 i) (rX post hp))⟩, fun post hp => br_f z ⟨ii, br_t (by rw [ci]; exact hl) (nm_r (nI_1 i) (rY post hp))⟩, g⟩
      · have e := K5 i (by omega) hl
        by_cases h0 : re i = 0
        · have g1 : hk_G kd re (nI i) := Or.inr ⟨i, by omega, rfl, hl, h0⟩
          by_cases hx0 : x < 0
          · obtain ⟨r, rX, rY, g⟩ := ih (i + 1) (nI i) (by omega) g1
            refine ⟨r, fun post hp => br_f z ⟨ii, br_f (by rw [ci]; exact hl) ⟨ii, br_t (by rw [ci]; exact h0) (br_t hx0 (nm_r (nI_1 i) (rX post hp)))⟩⟩, fun post hp => br_f z ⟨ii, br_f (by rw [ci]; exact hl) ?_⟩, g⟩
            exact hk_refY (hk_P6w K6) (br_t (e.symm.trans h0) (br_t hx0 (nm_r (nI_1 i) (rY post hp))))
          · rcases hx with hx | ⟨b, hb, rfl, hbl, hb0⟩
            · rw [hx] at hx0; exact absurd hk_m1lt hx0
            · have cb : (nI b).toNatClampNeg = b := hk_cl (by omega)
              have ib : vp_in (nI b) 16 := hk_in hb
              by_cases hn : nu b ≤ nu i
              · obtain ⟨r, rX, rY, g⟩ := ih (i + 1) (nI b) (by omega) (Or.inr ⟨b, hb, rfl, hbl, hb0⟩)
                refine ⟨r, fun post hp => br_f z ⟨ii, br_f (by rw [ci]; exact hl) ⟨ii, br_t (by rw [ci]; exact h0) (br_f hx0 ⟨ii, ib, br_t (by rw [ci, cb]; exact hn) (nm_r (nI_1 i) (rX post hp))⟩)⟩⟩, fun post hp => br_f z ⟨ii, br_f (by rw [ci]; exact hl) ?_⟩, g⟩
                exact hk_refY (hk_P6w K6) (br_t (e.symm.trans h0) (br_f hx0 ⟨ii, ib, br_t (by rw [ci, cb]; exact hn) (nm_r (nI_1 i) (rY post hp))⟩))
              · obtain ⟨r, rX, rY, g⟩ := ih (i + 1) (nI i) (by omega) g1
                refine ⟨r, fun post hp => br_f z ⟨ii, br_f (by rw [ci]; exact hl) ⟨ii, br_t (by rw [ci]; exact h0) (br_f hx0 ⟨ii, ib, br_f (by rw [ci, cb]; exact hn) (nm_r (nI_1 i) (rX post hp))⟩)⟩⟩, fun post hp => br_f z ⟨ii, br_f (by rw [ci]; exact hl) ?_⟩, g⟩
                exact hk_refY (hk_P6w K6) (br_t (e.symm.trans h0) (br_f hx0 ⟨ii, ib, br_f (by rw [ci, cb]; exact hn) (nm_r (nI_1 i) (rY post hp))⟩))
        · obtain ⟨r, rX, rY, g⟩ := ih (i + 1) x (by omega) hx
          refine ⟨r, fun post hp => br_f z ⟨ii, br_f (by rw [ci]; exact hl) ⟨ii, br_f (by rw [ci]; exact h0) (nm_r (nI_1 i) (rX post hp))⟩⟩, fun post hp => br_f z ⟨ii, br_f (by rw [ci]; exact hl) ?_⟩, g⟩
          exact hk_refY (hk_P6w K6) (br_f (fun y => h0 (e.trans y)) (nm_r (nI_1 i) (rY post hp)))
  obtain ⟨r, rX, rY, g⟩ := key 16 0 (-1) rfl (Or.inl rfl)
  exact ⟨r, fun post hp => ⟨17, rX post hp⟩, fun post hp => ⟨17, rY post hp⟩, g⟩
end
end
section
section
theorem hk_m1s (t : Nat) : nI t + (-1) = nI t - 1 := by rw [Int32.sub_eq_add_neg]
/-- the watches of o end, on both sides -/
theorem hk_unwo {o : Nat} (ho : o < 16) : ∀ (t : Nat) (fo fm fr : Int32) (nw : Nat) (kd nu re sg ot ob ri va f1 g1 f2 g2 hd ct pg us ce pk pn ps wd tp bt ky gv ga gb ev pe ow cy rf rn wt vy t1 r1 t2 r2 pa qk qn qs : Nat → Int32), t ≤ nw → hk_R fo fr nw kd re sg ot ob ri va f1 g1 f2 g2 hd ct pg us ce pk pn ps wd tp bt ev pe ow cy rf rn wt vy t1 r1 t2 r2 pa qk qn qs → (∀ w, t ≤ w → w < nw → ¬ wd w = nI o ∧ ¬ tp w = nI o) → ∃ (m : Nat) (wd' tp' bt' ky' : Nat → Int32),
      hk_R fo fr m kd re sg ot ob ri va f1 g1 f2 g2 hd ct pg us ce pk pn ps wd' tp' bt' ev pe ow cy rf rn wt vy t1 r1 t2 r2 pa qk qn qs ∧ (hk_Q nw sg wd bt → hk_Q m sg wd' bt') ∧ (∀ w, w < m → ¬ wd' w = nI o ∧ ¬ tp' w = nI o) ∧
      (∀ (post : SX → Prop) (x2 : Int32) (k : Nat), wX_destroy_14 post (nI o) x2 (k + 1) (-1) fo fm fr (nI m) kd nu re sg ot ob ri va f1 g1 f2 g2 hd ct pg us ce pk pn ps wd' tp' bt' ky' gv ga gb → wX_destroy_14 post (nI o) x2 (k + 1 + t) (nI t - 1) fo fm fr (nI nw) kd nu re sg ot ob ri va f1 g1 f2 g2 hd ct pg us ce pk pn ps wd tp bt ky gv ga gb) ∧
      (∀ (post : SY → Prop) (J : Int32 → Int32 → Int32 → (Nat → Int32) → (Nat → Int32) → (Nat → Int32) → (Nat → Int32) → (Nat → Int32) → (Nat → Int32) → (Nat → Int32) → (Nat → Int32) → (Nat → Int32) → (Nat → Int32) → (Nat → Int32) → (Nat → Int32) → (Nat → Int32) → (Nat → Int32) → (Nat → Int32) → (Nat → Int32) → (Nat → Int32) → (Nat → Int32) → (Nat → Int32) → (Nat → Int32) → (Nat → Int32) → (Nat → Int32) → (Nat → Int32) → (Nat → Int32) → (Nat → Int32) → (Nat → Int32) → Prop) (k : Nat), wY_sweep_16 post J (nI o) (k + 1) (-1) fm (nI m) kd nu ev pe ow cy rf ri rn gv ga gb wt vy t1 r1 t2 r2 pa qk qn qs wd' bt' tp' ky' → wY_sweep_16 post J (nI o) (k + 1 + t) (nI t - 1) fm (nI nw) kd nu ev pe ow cy rf ri rn gv ga gb wt vy t1 r1 t2 r2 pa qk qn qs wd bt tp ky) := by
  intro t
  induction t with
  | zero =>
    intro fo fm fr nw kd nu re sg ot ob ri va f1 g1 f2 g2 hd ct pg us ce pk pn ps wd tp bt ky gv ga gb ev pe ow cy rf rn wt vy t1 r1 t2 r2 pa qk qn qs ht R hno
    exact ⟨nw, wd, tp, bt, ky, R, fun Q => Q, fun w hw => hno w (by omega) hw, fun post x2 k H => H, fun post J k H => H⟩
  | succ t ih =>
    intro fo fm fr nw kd nu re sg ot ob ri va f1 g1 f2 g2 hd ct pg us ce pk pn ps wd tp bt ky gv ga gb ev pe ow cy rf rn wt vy t1 r1 t2 r2 pa qk qn qs ht R hno
    have KW := R.2.2.2.2.2.2.2.2.2.2.2.1
    have hn := KW.1
    have ct' : (nI t).toNatClampNeg = t := hk_cl (by omega)
    have it : vp_in (nI t) 12 := hk_in (by omega)
    have nt : ¬ nI t < 0 := hk_n0 (by omega)
    by_cases hz : wd t = nI o ∨ tp t = nI o
    · obtain ⟨M, rfl⟩ : ∃ M, nw = M + 1 := ⟨nw - 1, by omega⟩
      obtain ⟨m, wd', tp', bt', ky', R', Q', no', X', Y'⟩ := ih fo fm fr M kd nu re sg ot ob ri va f1 g1 f2 g2 hd ct pg us ce pk pn ps (hk_sh t M wd) (hk_sh t M tp) (hk_sh t M bt) (hk_sh t M ky) gv ga gb ev pe ow cy rf rn wt vy t1 r1 t2 r2 pa qk qn qs (by omega) (hk_unw R (by omega)) (fun w h1 h2 => by
        rw [hk_sh_in h1 h2, hk_sh_in h1 h2]; exact hno (w + 1) (by omega) (by omega))
      refine ⟨m, wd', tp', bt', ky', R', fun Q => Q' (hk_Qunw Q), no', fun post x2 k H => ?_, fun post J k H => ?_⟩
      · rw [nI_pred]
        refine br_f nt ⟨it, ?_⟩
        rw [ct']
        have a : wX_destroy_38 post (wX_destroy_14 post (nI o) x2 (k + 1 + t)) (nI o) x2 (nI t) fo fm fr (nI (M + 1)) kd nu re sg ot ob ri va f1 g1 f2 g2 hd ct pg us ce pk pn ps wd tp bt ky gv ga gb :=
          hk_unwX (by omega) (by omega) KW.2 (nm_r (hk_m1s t) (X' post x2 k H))
        by_cases hw : wd t = nI o
        · exact br_t hw a
        · refine br_f hw ⟨it, br_t (hz.resolve_left hw) a⟩
      · rw [nI_pred]
        refine br_f nt ⟨it, ?_⟩
        rw [ct']
        have a : wY_sweep_40 post J (wY_sweep_16 post J (nI o) (k + 1 + t)) (nI o) (nI t) fm (nI (M + 1)) kd nu ev pe ow cy rf ri rn gv ga gb wt vy t1 r1 t2 r2 pa qk qn qs wd bt tp ky :=
          hk_unwY (by omega) (by omega) (nm_r (hk_m1s t) (Y' post J k H))
        by_cases hw : wd t = nI o
        · exact br_t hw a
        · refine br_f hw ⟨it, br_t (hz.resolve_left hw) a⟩
    · have h1 : ¬ wd t = nI o := fun z => hz (Or.inl z)
      have h2 : ¬ tp t = nI o := fun z => hz (Or.inr z)
      obtain ⟨m, wd', tp', bt', ky', R', Q', no', X', Y'⟩ := ih fo fm fr nw kd nu re sg ot ob ri va f1 g1 f2 g2 hd ct pg us ce pk pn ps wd tp bt ky gv ga gb ev pe ow cy rf rn wt vy t1 r1 t2 r2 pa qk qn qs (by omega) R (fun w h3 h4 => by
        by_cases e : w = t
        · rw [e]; exact ⟨h1, h2⟩
        · exact hno w (by omega) h4)
      refine ⟨m, wd', tp', bt', ky', R', Q', no', fun post x2 k H => ?_, fun post J k H => ?_⟩
      · rw [nI_pred]
        refine br_f nt ⟨it, ?_⟩
        rw [ct']
        exact br_f h1 ⟨it, br_f h2 (nm_r (hk_m1s t) (X' post x2 k H))⟩
      · rw [nI_pred]
        refine br_f nt ⟨it, ?_⟩
        rw [ct']
        exact br_f h1 ⟨it, br_f h2 (nm_r (hk_m1s t) (Y' post J k H))⟩
/-- a handle of a lost message counts no more -/
theorem hk_dec {kd re : Nat → Int32} {o : Nat} {f y : Int32} {A : Nat → Nat} (a : hk_H kd f y) (hyo : ¬ y = nI o) (hre : ∀ x, x < 16 → x ≠ o → ¬ kd x < 0 → A x ≤ 1000 ∧ re x = nI (A x + (if y = nI x then 1 else 0))) :
    ∃ re' : Nat → Int32, (∀ x, x < 16 → x ≠ o → ¬ kd x < 0 → re' x = nI (A x)) ∧
      ((f ≤ 0 ∧ re' = re) ∨ (¬ f ≤ 0 ∧ ∃ q, q < 16 ∧ f = nI (q + 1) ∧ ∃ v, vp_nar .short ((re q - 1).toInt16.toInt32) = v ∧ re' = upd re q v)) := by
  rcases a with ⟨e1, e2⟩ | ⟨q, hq, e1, e2, hl⟩
  · refine ⟨re, fun x hx hxo hlx => ?_, Or.inl ⟨by rw [e1]; decide, rfl⟩⟩
    have := (hre x hx hxo hlx).2
    rw [if_neg (fun z => hk_nm1 (a := x) (by omega) (z.symm.trans e2))] at this
    exact this
  · have hqo : q ≠ o := fun z => hyo (z ▸ e2)
    obtain ⟨b, e⟩ := hre q hq hqo hl
    rw [if_pos e2] at e
    have ev : vp_nar .short ((re q - 1).toInt16.toInt32) = nI (A q) := by
      rw [e, nI_pred, hk_vs' (by omega)]
    refine ⟨upd re q (nI (A q)), fun x hx hxo hlx => ?_, Or.inr ⟨by rw [e1, hk_l0 (by omega)]; omega, q, hq, e1, nI (A q), ev, rfl⟩⟩
    by_cases z : x = q
    · subst z; rw [hk_us]
    · rw [hk_un z]
      have := (hre x hx hxo hlx).2
      rw [if_neg (fun y2 => z ((hk_eq (by omega) (by omega)).mp (y2.symm.trans e2)))] at this
      exact this
/-- X's loop over the messages of an end that dies -/
theorem hk_dloop {fo fm fr : Int32} {nw : Nat} {kd nu re sg ot ob ri va f1 g1 f2 g2 hd ct pg us ce pk pn ps wd tp bt ky gv ga gb : Nat → Int32} {kd0 t1 t2 : Nat → Int32} {o c h : Nat} {G : Nat → Nat} (ho : o < 16) (hc : c ≤ 4) (hh : h < 4) (ect : ct o = nI c) (ehd : hd o = nI h)
    (hM : ∀ j, j < c → hk_H kd0 (f1 (4 * o + (h + j) % 4)) (t1 (4 * o + j)) ∧ hk_H kd0 (f2 (4 * o + (h + j) % 4)) (t2 (4 * o + j)))
    (hno : ∀ j, j < c → ¬ t1 (4 * o + j) = nI o ∧ ¬ t2 (4 * o + j) = nI o) :
    ∀ (d j : Nat) (re : Nat → Int32), j + d = c → (∀ x, x < 16 → x ≠ o → ¬ kd0 x < 0 → G x + hk_sm (fun i => hk_mc t1 t2 (nI x) (4 * o + (j + i))) d ≤ 900 ∧ re x = nI (G x + hk_sm (fun i => hk_mc t1 t2 (nI x) (4 * o + (j + i))) d)) →
      ∃ re' : Nat → Int32, (∀ x, x < 16 → x ≠ o → ¬ kd0 x < 0 → re' x = nI (G x)) ∧
      ∀ (post : SX → Prop) (k : Nat), wX_destroy_95 post (nI o) fo fm fr (nI nw) (k + 1) (nI c) kd nu re' sg ot ob ri va f1 g1 f2 g2 hd ct pg us ce pk pn ps wd tp bt ky gv ga gb → wX_destroy_95 post (nI o) fo fm fr (nI nw) (k + 1 + d) (nI j) kd nu re sg ot ob ri va f1 g1 f2 g2 hd ct pg us ce pk pn ps wd tp bt ky gv ga gb := by
  intro d
  induction d with
  | zero =>
    intro j re hj hre
    obtain rfl : j = c := by omega
    exact ⟨re, fun x hx hxo hl => (hre x hx hxo hl).2, fun post k H => H⟩
  | succ d ih =>
    intro j re hj hre
    have e1 : ∀ x, hk_sm (fun i => hk_mc t1 t2 (nI x) (4 * o + (j + i))) (d + 1) = hk_sm (fun i => hk_mc t1 t2 (nI x) (4 * o + (j + 1 + i))) d + (if t2 (4 * o + j) = nI x then 1 else 0) + (if t1 (4 * o + j) = nI x then 1 else 0) := by
      intro x
      rw [hk_sm_sh]
      have b : hk_sm (fun i => hk_mc t1 t2 (nI x) (4 * o + (j + (i + 1)))) d = hk_sm (fun i => hk_mc t1 t2 (nI x) (4 * o + (j + 1 + i))) d := hk_sm_congr fun i _ => by rw [show j + (i + 1) = j + 1 + i from by omega]
      rw [b]
      show hk_mc t1 t2 (nI x) (4 * o + j) + _ = _
      unfold hk_mc
      omega
    obtain ⟨r1, A1, B1⟩ := hk_dec (A := fun x => G x + hk_sm (fun i => hk_mc t1 t2 (nI x) (4 * o + (j + 1 + i))) d + (if t2 (4 * o + j) = nI x then 1 else 0)) (hM j (by omega)).1 (hno j (by omega)).1 (re := re) (fun x hx hxo hl => by
      obtain ⟨a, b⟩ := hre x hx hxo hl
      rw [e1 x] at a b
      refine ⟨by omega, ?_⟩
      rw [b]
      exact congrArg nI (by omega))
    obtain ⟨r2, A2, B2⟩ := hk_dec (A := fun x => G x + hk_sm (fun i => hk_mc t1 t2 (nI x) (4 * o + (j + 1 + i))) d) (hM j (by omega)).2 (hno j (by omega)).2 (re := r1) (fun x hx hxo hl => by
      obtain ⟨a, b⟩ := hre x hx hxo hl
      rw [e1 x] at a
      exact ⟨by omega, A1 x hx hxo hl⟩)
    obtain ⟨re', A3, L⟩ := ih (j + 1) r2 (by omega) (fun x hx hxo hl => by
      obtain ⟨a, b⟩ := hre x hx hxo hl
      rw [e1 x] at a
      exact ⟨by omega, A2 x hx hxo hl⟩)
    refine ⟨re', A3, fun post k H => ?_⟩
    have co : (nI o).toNatClampNeg = o := hk_cl (by omega)
    have io : vp_in (nI o) 16 := hk_in ho
    have i64 : 4 * o + (h + j) % 4 < 64 := by omega
    have ci : (nI (4 * o + (h + j) % 4)).toNatClampNeg = 4 * o + (h + j) % 4 := hk_cl (by omega)
    have ii : vp_in (nI (4 * o + (h + j) % 4)) 64 := hk_in i64
    refine And.intro io (br_f (by rw [co, ect]; exact nI_ge (by omega) (by omega)) ⟨io, nm_r (e' := nI (4 * o + (h + j) % 4)) (by rw [co, ehd, nI_add, hk_and3, hk_4]) ⟨ii, ?_⟩⟩)
    rw [ci]
    have S : wX_destroy_150 post (wX_destroy_95 post (nI o) fo fm fr (nI nw) (k + 1 + d)) (nI o) (nI j) (nI (4 * o + (h + j) % 4)) fo fm fr (nI nw) kd nu r1 sg ot ob ri va f1 g1 f2 g2 hd ct pg us ce pk pn ps wd tp bt ky gv ga gb := by
      refine And.intro ii ?_
      rw [ci]
      rcases B2 with ⟨f0, e⟩ | ⟨f0, q, hq, ef, v, ev, e⟩
      · rw [e] at L
        exact br_t f0 (nm_r (nI_1 j) (L post k H))
      · rw [e] at L
        refine br_f f0 ⟨ii, ?_⟩
        rw [ef, nI_pred, hk_cl (by omega)]
        exact ⟨hk_in hq, hk_sq (hk_in hq) ev (nm_r (nI_1 j) (L post k H))⟩
    rcases B1 with ⟨f0, e⟩ | ⟨f0, q, hq, ef, v, ev, e⟩
    · rw [e] at S
      exact br_t f0 S
    · rw [e] at S
      refine br_f f0 ⟨ii, ?_⟩
      rw [ef, nI_pred, hk_cl (by omega)]
      exact ⟨hk_in hq, hk_sq (hk_in hq) ev S⟩
end
end
section
section
/-- an object without handles is destroyed, on both sides -/
theorem hk_die {fo fm fr : Int32} {nw : Nat} {kd nu re sg ot ob ri va f1 g1 f2 g2 hd ct pg us ce pk pn ps wd tp bt ky gv ga gb ev pe ow cy rf rn wt vy t1 r1 t2 r2 pa qk qn qs : Nat → Int32} (R : hk_R fo fr nw kd re sg ot ob ri va f1 g1 f2 g2 hd ct pg us ce pk pn ps wd tp bt ev pe ow cy rf rn wt vy t1 r1 t2 r2 pa qk qn qs) (Q : hk_Q nw sg wd bt) {o : Nat} (ho : o < 16) (hl : ¬ kd o < 0) (h0 : re o = 0) :
    ∃ (m : Nat) (re' sg' ot' ct' us' pk' pn' ps' wd' tp' bt' ky' pe' pa' qk' qn' qs' : Nat → Int32),
      hk_R (fo - 1) fr m (upd kd o (-1)) re' sg' ot' ob ri va f1 g1 f2 g2 hd ct' pg us' ce pk' pn' ps' wd' tp' bt' ev pe' ow cy rf rn wt vy t1 r1 t2 r2 pa' qk' qn' qs' ∧ hk_Q m sg' wd' bt' ∧
      (∀ post : SX → Prop, post (fo - 1, fm, fr, nI m, upd kd o (-1), nu, re', sg', ot', ob, ri, va, f1, g1, f2, g2, hd, ct', pg, us', ce, pk', pn', ps', wd', tp', bt', ky', gv, ga, gb) → wpX_destroy post (fo, fm, fr, nI nw, kd, nu, re, sg, ot, ob, ri, va, f1, g1, f2, g2, hd, ct, pg, us, ce, pk, pn, ps, wd, tp, bt, ky, gv, ga, gb) (nI o)) ∧
      (∀ (post : SY → Prop) (J : Int32 → Int32 → Int32 → (Nat → Int32) → (Nat → Int32) → (Nat → Int32) → (Nat → Int32) → (Nat → Int32) → (Nat → Int32) → (Nat → Int32) → (Nat → Int32) → (Nat → Int32) → (Nat → Int32) → (Nat → Int32) → (Nat → Int32) → (Nat → Int32) → (Nat → Int32) → (Nat → Int32) → (Nat → Int32) → (Nat → Int32) → (Nat → Int32) → (Nat → Int32) → (Nat → Int32) → (Nat → Int32) → (Nat → Int32) → (Nat → Int32) → (Nat → Int32) → (Nat → Int32) → (Nat → Int32) → Prop),
        wpY_unused (fun r => J r fm (nI m) (upd kd o (-1)) nu ev pe' ow cy rf ri rn gv ga gb wt vy t1 r1 t2 r2 pa' qk' qn' qs' wd' bt' tp' ky') (fm, nI m, upd kd o (-1), nu, ev, pe', ow, cy, rf, ri, rn, gv, ga, gb, wt, vy, t1, r1, t2, r2, pa', qk', qn', qs', wd', bt', tp', ky') →
        ∃ n, wY_sweep_16 post J (nI o) n (nI nw - 1) fm (nI nw) kd nu ev pe ow cy rf ri rn gv ga gb wt vy t1 r1 t2 r2 pa qk qn qs wd bt tp ky) := by
  obtain ⟨v, hv, Ev, Ev2⟩ := hk_reb R ho hl
  have z0 : hk_RF kd rf wt t1 t2 o = 0 := by
    rw [h0] at Ev
    have := (hk_e0 (a := v) (by omega)).mp Ev.symm
    omega
  obtain ⟨m, wd', tp', bt', ky', R1, Q1, no1, X1, Y1⟩ := hk_unwo ho nw fo fm fr nw kd nu re sg ot ob ri va f1 g1 f2 g2 hd ct pg us ce pk pn ps wd tp bt ky gv ga gb ev pe ow cy rf rn wt vy t1 r1 t2 r2 pa qk qn qs (Nat.le_refl _) R (fun w h1 h2 => by omega)
  have Q2 := Q1 Q
  have K := R1
  obtain ⟨K1, K2, K3, K4, K5, K6, KP, K7, K8, K9, KS, KW, KR⟩ := K
  have co : (nI o).toNatClampNeg = o := hk_cl (by omega)
  have io : vp_in (nI o) 16 := hk_in ho
  by_cases k1 : kd o = 1
  · obtain ⟨c, h, hc, hh, ect, ewt, ehd, eM⟩ := K6 o ho k1
    have z2 : hk_MC kd wt t1 t2 o = 0 := by unfold hk_RF at z0; omega
    obtain ⟨re', A, L⟩ := hk_dloop (fo := fo - 1) (fm := fm) (fr := fr) (nw := m) (kd := upd kd o (-1)) (nu := nu) (re := re) (sg := sg) (ot := ot) (ob := ob) (ri := ri) (va := va) (f1 := f1) (g1 := g1) (f2 := f2) (g2 := g2) (hd := hd) (ct := ct) (pg := pg) (us := us) (ce := ce) (pk := pk) (pn := pn) (ps := ps) (wd := wd') (tp := tp') (bt := bt') (ky := ky') (gv := gv) (ga := ga) (gb := gb)
      (kd0 := kd) (t1 := t1) (t2 := t2) (G := fun x => hk_RF (upd kd o (-1)) rf wt t1 t2 x) ho hc hh ect ehd (fun j hj => ⟨(eM j hj).2.1, (eM j hj).2.2.1⟩) (fun j hj => hk_MC_0 z2 ho k1 ewt hc hj) c 0 re (by omega) (fun x hx hxo hlx => by
        have a := hk_MC_die (kd := kd) (wt := wt) (t1 := t1) (t2 := t2) (x := x) ho
        rw [hk_RE_1 k1 ewt hc] at a
        have b : hk_sm (fun i => hk_mc t1 t2 (nI x) (4 * o + (0 + i))) c = hk_sm (fun j => hk_mc t1 t2 (nI x) (4 * o + j)) c := hk_sm_congr fun i _ => by rw [Nat.zero_add]
        have d := hk_RF_b (kd := kd) (rf := rf) (wt := wt) (t1 := t1) (t2 := t2) (o := x) (hk_P6w K6)
        have e := K5 x hx hlx
        unfold hk_RF at d e ⊢
        rw [b]
        exact ⟨by omega, by rw [e]; exact congrArg nI (by omega)⟩)
    have P5' : hk_P5 (upd kd o (-1)) re' rf wt t1 t2 := fun x hx hlx => A x hx (hk_dnl hlx).1 (hk_dnl hlx).2
    have P8' := hk_P8_none K8 ho (by rw [k1]; decide) (k := -1) (by decide) (cy' := cy) (fun _ _ => rfl)
    obtain ⟨eot, epe⟩ := KP o ho k1
    rcases epe with epe | ⟨q, hq, epe, kq, -⟩
    · refine ⟨m, re', sg, ot, ct, us, pk, pn, ps, wd', tp', bt', ky', pe, pa, qk, qn, qs, hk_dest R1 ho hl z0 no1 P8' P5' (hk_PP_d2 KP epe) (fun _ _ => rfl) (hk_PS_d KS), Q2, fun post H => ?_, fun post J H => ?_⟩
      · refine And.intro io (nm_r (e' := 1) (by rw [co]; exact k1) (nm_e ⟨0 + 1 + nw, X1 post 1 0 ?_⟩))
        refine br_t hk_m1lt (hk_st rfl ho hk_vbm (nm_e (br_f (by decide) (br_t rfl ⟨0 + 1 + c, L post 0 ?_⟩))))
        refine And.intro io (br_t ?_ ⟨io, nm_r (e' := -1) (by rw [co, eot]; exact epe) (br_f hk_m1le H)⟩)
        rw [co, ect]; exact nI_le (Nat.le_refl _) (by omega)
      · refine ⟨_, Y1 post J 0 (br_t hk_m1lt ⟨io, br_t (by rw [co]; exact k1) ⟨io, ?_⟩⟩)⟩
        rw [co, epe]
        exact hk_st rfl ho rfl (br_t hk_m1lt H)
    · have iq : vp_in (nI q) 16 := hk_in hq
      have cq : (nI q).toNatClampNeg = q := hk_cl (by omega)
      have R2 := hk_dest R1 ho hl z0 no1 P8' P5' (hk_PP_d3 KP hq ho k1 epe) (fun e he => hk_un fun z => absurd (he.symm.trans (z ▸ kq)) (by decide)) (hk_PS_d3 KS kq)
      obtain ⟨m2, sg2, ct2, pk2, pn2, ps2, pa2, qk2, qn2, qs2, wd2, tp2, bt2, ky2, R3, Q3, -, cX, cY⟩ := hk_change (nu := nu) (ky := ky') (gv := gv) (ga := ga) (gb := gb) (fm := fm) R2
      refine ⟨m2, re', sg2, upd ot q (-1), ct2, us, pk2, pn2, ps2, wd2, tp2, bt2, ky2, upd pe q (-1), pa2, qk2, qn2, qs2, R3, Q3, fun post H => ?_, fun post J H => ?_⟩
      · refine And.intro io (nm_r (e' := 1) (by rw [co]; exact k1) (nm_e ⟨0 + 1 + nw, X1 post 1 0 ?_⟩))
        refine br_t hk_m1lt (hk_st rfl ho hk_vbm (nm_e (br_f (by decide) (br_t rfl ⟨0 + 1 + c, L post 0 ?_⟩))))
        refine And.intro io (br_t ?_ ⟨io, nm_r (e' := nI q) (by rw [co, eot]; exact epe) (br_t (hk_0l (by omega)) (hk_st rfl hq hk_vbm ⟨iq, ?_⟩))⟩)
        · rw [co, ect]; exact nI_le (Nat.le_refl _) (by omega)
        · rw [cq]
          exact cX _ q _ sg hq (hk_V_or (KS q hq (hk_1n0 kq)).2 ⟨512, by decide, rfl⟩) rfl H
      · refine ⟨_, Y1 post J 0 (br_t hk_m1lt ⟨io, br_t (by rw [co]; exact k1) ⟨io, ?_⟩⟩)⟩
        rw [co, epe]
        exact hk_st rfl ho rfl (br_f (hk_n0 (by omega)) (hk_st rfl hq rfl (cY _ H)))
  · have Yend : ∀ (post : SY → Prop) (J : Int32 → Int32 → Int32 → (Nat → Int32) → (Nat → Int32) → (Nat → Int32) → (Nat → Int32) → (Nat → Int32) → (Nat → Int32) → (Nat → Int32) → (Nat → Int32) → (Nat → Int32) → (Nat → Int32) → (Nat → Int32) → (Nat → Int32) → (Nat → Int32) → (Nat → Int32) → (Nat → Int32) → (Nat → Int32) → (Nat → Int32) → (Nat → Int32) → (Nat → Int32) → (Nat → Int32) → (Nat → Int32) → (Nat → Int32) → (Nat → Int32) → (Nat → Int32) → (Nat → Int32) → (Nat → Int32) → Prop),
        wpY_unused (fun r => J r fm (nI m) (upd kd o (-1)) nu ev pe ow cy rf ri rn gv ga gb wt vy t1 r1 t2 r2 pa qk qn qs wd' bt' tp' ky') (fm, nI m, upd kd o (-1), nu, ev, pe, ow, cy, rf, ri, rn, gv, ga, gb, wt, vy, t1, r1, t2, r2, pa, qk, qn, qs, wd', bt', tp', ky') → ∃ n, wY_sweep_16 post J (nI o) n (nI nw - 1) fm (nI nw) kd nu ev pe ow cy rf ri rn gv ga gb wt vy t1 r1 t2 r2 pa qk qn qs wd bt tp ky := by
      intro post J H
      exact ⟨_, Y1 post J 0 (br_t hk_m1lt ⟨io, br_f (by rw [co]; exact k1) (hk_st rfl ho rfl (br_t hk_m1lt H))⟩)⟩
    have P5' := hk_P5_d K5 ho k1
    by_cases k2 : kd o = 2
    · obtain ⟨g, hg, epg, -⟩ := K8.1 o ho k2
      have ug := hk_UC_in ho k2 epg
      have ul := hk_UC_le kd pg g
      have ig : vp_in (nI g) 16 := hk_in hg
      have cg : (nI g).toNatClampNeg = g := hk_cl (by omega)
      have eu : vp_nar .byte ((us g - 1).toInt8.toInt32) = us g - 1 := by
        rw [hk_usU K8 hg, hk_s1 ug, hk_vb' (by omega)]
      refine ⟨m, re, sg, ot, ct, upd us g (us g - 1), pk, pn, ps, wd', tp', bt', ky', pe, pa, qk, qn, qs, hk_dest R1 ho hl z0 no1 (hk_P8_die K8 ho k2 hg epg) P5' (hk_PP_d1 KP k1) (fun _ _ => rfl) (hk_PS_d KS), Q2, fun post H => ?_, Yend⟩
      refine And.intro io (nm_r (e' := 2) (by rw [co]; exact k2) (nm_e ⟨0 + 1 + nw, X1 post 2 0 ?_⟩))
      refine br_t hk_m1lt (hk_st rfl ho hk_vbm (nm_e (br_t rfl ⟨io, ?_⟩)))
      rw [co, epg, cg]
      exact ⟨ig, hk_sq ig eu (br_f (by decide) H)⟩
    · refine ⟨m, re, sg, ot, ct, us, pk, pn, ps, wd', tp', bt', ky', pe, pa, qk, qn, qs, hk_dest R1 ho hl z0 no1 (hk_P8_none K8 ho k2 (k := -1) (by decide) (cy' := cy) (fun _ _ => rfl)) P5' (hk_PP_d1 KP k1) (fun _ _ => rfl) (hk_PS_d KS), Q2, fun post H => ?_, Yend⟩
      refine And.intro io (nm_r (e' := kd o) (by rw [co]) (nm_e ⟨0 + 1 + nw, X1 post (kd o) 0 ?_⟩))
      exact br_t hk_m1lt (hk_st rfl ho hk_vbm (nm_e (br_f k2 (br_f k1 H))))
def hk_LC (kd : Nat → Int32) : Nat := hk_sm (fun o => if kd o < 0 then 0 else 1) 16
theorem hk_LC_die {kd : Nat → Int32} {o : Nat} (ho : o < 16) (hl : ¬ kd o < 0) : hk_LC (upd kd o (-1)) + 1 = hk_LC kd := by
  have a := hk_sm_upd (f := fun x => if kd x < 0 then 0 else 1) (g := fun x => if upd kd o (-1) x < 0 then 0 else 1) (k := o) (n := 16) ho (fun i _ hi => by simp only [hk_un hi])
  simp only [hk_us, if_neg hl, if_pos hk_m1lt] at a
  unfold hk_LC
  omega
theorem hk_coll : ∀ (N : Nat) (fo fm fr : Int32) (nw : Nat) (kd nu re sg ot ob ri va f1 g1 f2 g2 hd ct pg us ce pk pn ps wd tp bt ky gv ga gb ev pe ow cy rf rn wt vy t1 r1 t2 r2 pa qk qn qs : Nat → Int32), hk_LC kd = N → hk_R fo fr nw kd re sg ot ob ri va f1 g1 f2 g2 hd ct pg us ce pk pn ps wd tp bt ev pe ow cy rf rn wt vy t1 r1 t2 r2 pa qk qn qs → hk_Q nw sg wd bt → ∃ (fo' : Int32) (m : Nat) (kd' re' sg' ot' ct' us' pk' pn' ps' wd' tp' bt' ky' pe' pa' qk' qn' qs' : Nat → Int32) (r : Int32),
      hk_R fo' fr m kd' re' sg' ot' ob ri va f1 g1 f2 g2 hd ct' pg us' ce pk' pn' ps' wd' tp' bt' ev pe' ow cy rf rn wt vy t1 r1 t2 r2 pa' qk' qn' qs' ∧ hk_Q m sg' wd' bt' ∧
      (∀ post : Int32 → Prop, post r → wpX_garbage post (fo, fm, fr, nI nw, kd, nu, re, sg, ot, ob, ri, va, f1, g1, f2, g2, hd, ct, pg, us, ce, pk, pn, ps, wd, tp, bt, ky, gv, ga, gb)) ∧ (∀ post : Int32 → Prop, post r → wpY_unused post (fm, nI nw, kd, nu, ev, pe, ow, cy, rf, ri, rn, gv, ga, gb, wt, vy, t1, r1, t2, r2, pa, qk, qn, qs, wd, bt, tp, ky)) ∧
      (∀ post : SX → Prop, post (fo', fm, fr, nI m, kd', nu, re', sg', ot', ob, ri, va, f1, g1, f2, g2, hd, ct', pg, us', ce, pk', pn', ps', wd', tp', bt', ky', gv, ga, gb) → ∀ n, N < n → wX_collect_5 post n r fo fm fr (nI nw) kd nu re sg ot ob ri va f1 g1 f2 g2 hd ct pg us ce pk pn ps wd tp bt ky gv ga gb) ∧
      (∀ post : SY → Prop, post (fm, nI m, kd', nu, ev, pe', ow, cy, rf, ri, rn, gv, ga, gb, wt, vy, t1, r1, t2, r2, pa', qk', qn', qs', wd', bt', tp', ky') → ∀ n, N < n → wY_sweep_5 post n r fm (nI nw) kd nu ev pe ow cy rf ri rn gv ga gb wt vy t1 r1 t2 r2 pa qk qn qs wd bt tp ky) := by
  intro N
  induction N with
  | zero =>
    intro fo fm fr nw kd nu re sg ot ob ri va f1 g1 f2 g2 hd ct pg us ce pk pn ps wd tp bt ky gv ga gb ev pe ow cy rf rn wt vy t1 r1 t2 r2 pa qk qn qs hN R Q
    obtain ⟨r, gX, gY, g⟩ := hk_garb (nu := nu) (ky := ky) (gv := gv) (ga := ga) (gb := gb) (fm := fm) R
    rcases g with rfl | ⟨o, ho, rfl, hl, h0⟩
    · refine ⟨fo, nw, kd, re, sg, ot, ct, us, pk, pn, ps, wd, tp, bt, ky, pe, pa, qk, qn, qs, -1, R, Q, gX, gY, fun post H n hn => ?_, fun post H n hn => ?_⟩
      · obtain ⟨k, rfl⟩ : ∃ k, n = k + 1 := ⟨n - 1, by omega⟩
        exact br_t hk_m1lt H
      · obtain ⟨k, rfl⟩ : ∃ k, n = k + 1 := ⟨n - 1, by omega⟩
        exact br_t hk_m1lt H
    · have := hk_LC_die ho hl; omega
  | succ N ih =>
    intro fo fm fr nw kd nu re sg ot ob ri va f1 g1 f2 g2 hd ct pg us ce pk pn ps wd tp bt ky gv ga gb ev pe ow cy rf rn wt vy t1 r1 t2 r2 pa qk qn qs hN R Q
    obtain ⟨r, gX, gY, g⟩ := hk_garb (nu := nu) (ky := ky) (gv := gv) (ga := ga) (gb := gb) (fm := fm) R
    rcases g with rfl | ⟨o, ho, rfl, hl, h0⟩
    · refine ⟨fo, nw, kd, re, sg, ot, ct, us, pk, pn, ps, wd, tp, bt, ky, pe, pa, qk, qn, qs, -1, R, Q, gX, gY, fun post H n hn => ?_, fun post H n hn => ?_⟩
      · obtain ⟨k, rfl⟩ : ∃ k, n = k + 1 := ⟨n - 1, by omega⟩
        exact br_t hk_m1lt H
      · obtain ⟨k, rfl⟩ : ∃ k, n = k + 1 := ⟨n - 1, by omega⟩
        exact br_t hk_m1lt H
    · obtain ⟨m, re', sg', ot', ct', us', pk', pn', ps', wd', tp', bt', ky', pe', pa', qk', qn', qs', R1, Q1, dX, dY⟩ := hk_die (nu := nu) (ky := ky) (gv := gv) (ga := ga) (gb := gb) (fm := fm) R Q ho hl h0
      obtain ⟨fo2, m2, kd2, re2, sg2, ot2, ct2, us2, pk2, pn2, ps2, wd2, tp2, bt2, ky2, pe2, pa2, qk2, qn2, qs2, r2, R2, Q2, aX, aY, bX, bY⟩ := ih (fo - 1) fm fr m (upd kd o (-1)) nu re' sg' ot' ob ri va f1 g1 f2 g2 hd ct' pg us' ce pk' pn' ps' wd' tp' bt' ky' gv ga gb ev pe' ow cy rf rn wt vy t1 r1 t2 r2 pa' qk' qn' qs' (by have := hk_LC_die ho hl; omega) R1 Q1
      refine ⟨fo2, m2, kd2, re2, sg2, ot2, ct2, us2, pk2, pn2, ps2, wd2, tp2, bt2, ky2, pe2, pa2, qk2, qn2, qs2, nI o, R2, Q2, gX, gY, fun post H n hn => ?_, fun post H n hn => ?_⟩
      · obtain ⟨k, rfl⟩ : ∃ k, n = k + 1 := ⟨n - 1, by omega⟩
        exact br_f (hk_n0 (by omega)) (dX _ (aX _ (bX post H k (by omega))))
      · obtain ⟨k, rfl⟩ : ∃ k, n = k + 1 := ⟨n - 1, by omega⟩
        exact br_f (hk_n0 (by omega)) (nm_e (dY post _ (aY _ (bY post H k (by omega)))))
theorem hk_collect {fo fm fr : Int32} {nw : Nat} {kd nu re sg ot ob ri va f1 g1 f2 g2 hd ct pg us ce pk pn ps wd tp bt ky gv ga gb ev pe ow cy rf rn wt vy t1 r1 t2 r2 pa qk qn qs : Nat → Int32} (R : hk_R fo fr nw kd re sg ot ob ri va f1 g1 f2 g2 hd ct pg us ce pk pn ps wd tp bt ev pe ow cy rf rn wt vy t1 r1 t2 r2 pa qk qn qs) (Q : hk_Q nw sg wd bt) : ∃ (fo' : Int32) (m : Nat) (kd' re' sg' ot' ct' us' pk' pn' ps' wd' tp' bt' ky' pe' pa' qk' qn' qs' : Nat → Int32),
      hk_R fo' fr m kd' re' sg' ot' ob ri va f1 g1 f2 g2 hd ct' pg us' ce pk' pn' ps' wd' tp' bt' ev pe' ow cy rf rn wt vy t1 r1 t2 r2 pa' qk' qn' qs' ∧ hk_Q m sg' wd' bt' ∧
      (∀ post : SX → Prop, post (fo', fm, fr, nI m, kd', nu, re', sg', ot', ob, ri, va, f1, g1, f2, g2, hd, ct', pg, us', ce, pk', pn', ps', wd', tp', bt', ky', gv, ga, gb) → wpX_collect post (fo, fm, fr, nI nw, kd, nu, re, sg, ot, ob, ri, va, f1, g1, f2, g2, hd, ct, pg, us, ce, pk, pn, ps, wd, tp, bt, ky, gv, ga, gb)) ∧
      (∀ post : SY → Prop, post (fm, nI m, kd', nu, ev, pe', ow, cy, rf, ri, rn, gv, ga, gb, wt, vy, t1, r1, t2, r2, pa', qk', qn', qs', wd', bt', tp', ky') → wpY_sweep post (fm, nI nw, kd, nu, ev, pe, ow, cy, rf, ri, rn, gv, ga, gb, wt, vy, t1, r1, t2, r2, pa, qk, qn, qs, wd, bt, tp, ky)) := by
  obtain ⟨fo', m, kd', re', sg', ot', ct', us', pk', pn', ps', wd', tp', bt', ky', pe', pa', qk', qn', qs', r, R1, Q1, gX, gY, cX, cY⟩ := hk_coll (hk_LC kd) fo fm fr nw kd nu re sg ot ob ri va f1 g1 f2 g2 hd ct pg us ce pk pn ps wd tp bt ky gv ga gb ev pe ow cy rf rn wt vy t1 r1 t2 r2 pa qk qn qs rfl R Q
  refine ⟨fo', m, kd', re', sg', ot', ct', us', pk', pn', ps', wd', tp', bt', ky', pe', pa', qk', qn', qs', R1, Q1, fun post H => ?_, fun post H => ?_⟩
  · unfold wpX_collect; exact gX _ ⟨_, cX post H (hk_LC kd + 1) (by omega)⟩
  · unfold wpY_sweep; exact gY _ ⟨_, cY post H (hk_LC kd + 1) (by omega)⟩
end
end
section
section
def hk_fm (n : Nat) : Nat → Int32 := fun t => if t < n then -1 else 0
theorem hk_fm_0 : hk_fm 0 = fun _ => 0 := by funext t; exact if_neg (by omega)
theorem hk_fm_s {n : Nat} : upd (hk_fm n) n (-1) = hk_fm (n + 1) := by
  funext t
  by_cases z : t = n
  · subst z; rw [hk_us]; exact (if_pos (by omega)).symm
  · rw [hk_un z]
    unfold hk_fm
    by_cases y : t < n
    · rw [if_pos y, if_pos (by omega)]
    · rw [if_neg y, if_neg (by omega)]
theorem hk_fm_in {n t : Nat} (h : t < n) : hk_fm n t = -1 := if_pos h
theorem hk_initX {post : SX → Prop} (H : post (0, 0, 1, 0, hk_fm 16, fun _ => 0, fun _ => 0, fun _ => 0, fun _ => 0, fun _ => 0, fun _ => 0, fun _ => 0, fun _ => 0, fun _ => 0, fun _ => 0, fun _ => 0, fun _ => 0, fun _ => 0, fun _ => 0, fun _ => 0, fun _ => 0, fun _ => 0, fun _ => 0, fun _ => 0, fun _ => 0, fun _ => 0, fun _ => 0, fun _ => 0, fun _ => 0, hk_fm 4, hk_fm 4)) : wpX_init post := by
  have l2 : ∀ d i, i + d = 4 → wX_init_246 post 0 0 1 0 (d + 1) (nI i) (hk_fm 16) (fun _ => 0) (fun _ => 0) (fun _ => 0) (fun _ => 0) (fun _ => 0) (fun _ => 0) (fun _ => 0) (fun _ => 0) (fun _ => 0) (fun _ => 0) (fun _ => 0) (fun _ => 0) (fun _ => 0) (fun _ => 0) (fun _ => 0) (fun _ => 0) (fun _ => 0) (fun _ => 0) (fun _ => 0) (fun _ => 0) (fun _ => 0) (fun _ => 0) (fun _ => 0) (fun _ => 0) (hk_fm i) (hk_fm i) := by
    intro d
    induction d with
    | zero =>
      intro i hi
      obtain rfl : i = 4 := by omega
      exact br_t (nI_le (a := 4) (Nat.le_refl _) (by decide)) H
    | succ d ih =>
      intro i hi
      refine br_f (nI_ge (b := 4) (by omega) (by decide)) (hk_st rfl (by omega) hk_vbm (hk_st rfl (by omega) hk_vbm (nm_r (nI_1 i) ?_)))
      rw [hk_fm_s]
      exact ih (i + 1) (by omega)
  have l1 : ∀ d i, i + d = 16 → wX_init_225 post 0 0 1 0 (d + 1) (nI i) (hk_fm i) (fun _ => 0) (fun _ => 0) (fun _ => 0) (fun _ => 0) (fun _ => 0) (fun _ => 0) (fun _ => 0) (fun _ => 0) (fun _ => 0) (fun _ => 0) (fun _ => 0) (fun _ => 0) (fun _ => 0) (fun _ => 0) (fun _ => 0) (fun _ => 0) (fun _ => 0) (fun _ => 0) (fun _ => 0) (fun _ => 0) (fun _ => 0) (fun _ => 0) (fun _ => 0) (fun _ => 0) (fun _ => 0) (fun _ => 0) := by
    intro d
    induction d with
    | zero =>
      intro i hi
      obtain rfl : i = 16 := by omega
      refine br_t (nI_le (a := 16) (Nat.le_refl _) (by decide)) ⟨5, ?_⟩
      have a := l2 4 0 rfl
      rw [hk_fm_0] at a
      exact a
    | succ d ih =>
      intro i hi
      refine br_f (nI_ge (b := 16) (by omega) (by decide)) (hk_st rfl (by omega) hk_vbm (nm_r (nI_1 i) ?_))
      rw [hk_fm_s]
      exact ih (i + 1) (by omega)
  have a := l1 16 0 rfl
  rw [hk_fm_0] at a
  exact ⟨17, a⟩
theorem hk_nothY {fm : Int32} {nw : Nat} {kd nu ev pe ow cy rf ri rn gv ga gb wt vy t1 r1 t2 r2 pa qk qn qs wd bt tp ky : Nat → Int32} {post : SY → Prop} {p : Nat} (hp : p < 4) (H : post (fm, nI nw, kd, nu, ev, pe, ow, cy, rf, ri, rn, upd gv p 0, upd ga p (-1), upd gb p (-1), wt, vy, t1, r1, t2, r2, pa, qk, qn, qs, wd, bt, tp, ky)) : wpY_nothing post (fm, nI nw, kd, nu, ev, pe, ow, cy, rf, ri, rn, gv, ga, gb, wt, vy, t1, r1, t2, r2, pa, qk, qn, qs, wd, bt, tp, ky) (nI p) :=
  hk_st rfl hp rfl (hk_st rfl hp rfl (hk_st rfl hp rfl H))
theorem hk_initY {post : SY → Prop} (H : post (0, 0, hk_fm 16, fun _ => 0, fun _ => 0, fun _ => 0, fun _ => 0, fun _ => 0, hk_fm 40, fun _ => 0, upd (fun _ => 0) 0 1, fun _ => 0, hk_fm 4, hk_fm 4, fun _ => 0, fun _ => 0, fun _ => 0, fun _ => 0, fun _ => 0, fun _ => 0, fun _ => 0, fun _ => 0, fun _ => 0, fun _ => 0, fun _ => 0, fun _ => 0, fun _ => 0, fun _ => 0)) : wpY_init post := by
  have l3 : ∀ d i, i + d = 4 → wY_init_253 post (d + 1) (nI i) 0 (nI 0) (hk_fm 16) (fun _ => 0) (fun _ => 0) (fun _ => 0) (fun _ => 0) (fun _ => 0) (hk_fm 40) (fun _ => 0) (fun _ => 0) (fun _ => 0) (hk_fm i) (hk_fm i) (fun _ => 0) (fun _ => 0) (fun _ => 0) (fun _ => 0) (fun _ => 0) (fun _ => 0) (fun _ => 0) (fun _ => 0) (fun _ => 0) (fun _ => 0) (fun _ => 0) (fun _ => 0) (fun _ => 0) (fun _ => 0) := by
    intro d
    induction d with
    | zero =>
      intro i hi
      obtain rfl : i = 4 := by omega
      refine br_t (nI_le (a := 4) (Nat.le_refl _) (by decide)) ?_
      exact nm_r (congrArg (upd (fun _ => 0) 0) hk_vt) H
    | succ d ih =>
      intro i hi
      refine br_f (nI_ge (b := 4) (by omega) (by decide)) (hk_nothY (by omega) (nm_r (nI_1 i) ?_))
      rw [hk_fm_s, hk_ui rfl]
      exact ih (i + 1) (by omega)
  have l2 : ∀ d i, i + d = 40 → wY_init_232 post 0 (nI 0) (d + 1) (nI i) (hk_fm 16) (fun _ => 0) (fun _ => 0) (fun _ => 0) (fun _ => 0) (fun _ => 0) (hk_fm i) (fun _ => 0) (fun _ => 0) (fun _ => 0) (fun _ => 0) (fun _ => 0) (fun _ => 0) (fun _ => 0) (fun _ => 0) (fun _ => 0) (fun _ => 0) (fun _ => 0) (fun _ => 0) (fun _ => 0) (fun _ => 0) (fun _ => 0) (fun _ => 0) (fun _ => 0) (fun _ => 0) (fun _ => 0) := by
    intro d
    induction d with
    | zero =>
      intro i hi
      obtain rfl : i = 40 := by omega
      refine br_t (nI_le (a := 40) (Nat.le_refl _) (by decide)) ⟨5, ?_⟩
      have a := l3 4 0 rfl
      rw [hk_fm_0] at a
      exact a
    | succ d ih =>
      intro i hi
      refine br_f (nI_ge (b := 40) (by omega) (by decide)) (hk_st rfl (by omega) rfl (nm_r (nI_1 i) ?_))
      rw [hk_fm_s]
      exact ih (i + 1) (by omega)
  have l1 : ∀ d i, i + d = 16 → wY_init_211 post 0 (nI 0) (d + 1) (nI i) (hk_fm i) (fun _ => 0) (fun _ => 0) (fun _ => 0) (fun _ => 0) (fun _ => 0) (fun _ => 0) (fun _ => 0) (fun _ => 0) (fun _ => 0) (fun _ => 0) (fun _ => 0) (fun _ => 0) (fun _ => 0) (fun _ => 0) (fun _ => 0) (fun _ => 0) (fun _ => 0) (fun _ => 0) (fun _ => 0) (fun _ => 0) (fun _ => 0) (fun _ => 0) (fun _ => 0) (fun _ => 0) (fun _ => 0) := by
    intro d
    induction d with
    | zero =>
      intro i hi
      obtain rfl : i = 16 := by omega
      refine br_t (nI_le (a := 16) (Nat.le_refl _) (by decide)) ⟨41, ?_⟩
      have a := l2 40 0 rfl
      rw [hk_fm_0] at a
      exact a
    | succ d ih =>
      intro i hi
      refine br_f (nI_ge (b := 16) (by omega) (by decide)) (hk_st rfl (by omega) rfl (nm_r (nI_1 i) ?_))
      rw [hk_fm_s]
      exact ih (i + 1) (by omega)
  have a := l1 16 0 rfl
  rw [hk_fm_0] at a
  exact ⟨17, a⟩
theorem hk_init0 {e : Nat} {k : Int32} (he : e < 16) (hk : ¬ k = -1) : ¬ hk_fm 16 e = k := fun z => hk (z.symm.trans (hk_fm_in he))
theorem hk_R0 : hk_R 0 1 0 (hk_fm 16) (fun _ => 0) (fun _ => 0) (fun _ => 0) (fun _ => 0) (fun _ => 0) (fun _ => 0) (fun _ => 0) (fun _ => 0) (fun _ => 0) (fun _ => 0) (fun _ => 0) (fun _ => 0) (fun _ => 0) (fun _ => 0) (fun _ => 0) (fun _ => 0) (fun _ => 0) (fun _ => 0) (fun _ => 0) (fun _ => 0) (fun _ => 0) (fun _ => 0) (fun _ => 0) (fun _ => 0) (fun _ => 0) (hk_fm 40) (upd (fun _ => 0) 0 1) (fun _ => 0) (fun _ => 0) (fun _ => 0) (fun _ => 0) (fun _ => 0) (fun _ => 0) (fun _ => 0) (fun _ => 0) (fun _ => 0) (fun _ => 0) := by
  have dead : ∀ e, e < 16 → hk_fm 16 e < 0 := fun e he => by rw [hk_fm_in he]; exact hk_m1lt
  refine ⟨fun o => ?_, ?_, ⟨1, by decide, rfl, fun p hp => ?_⟩, fun h hh => Or.inl ⟨rfl, hk_fm_in hh⟩, fun o ho hl => absurd (dead o ho) hl, fun e he hk => absurd hk (hk_init0 he (by decide)), fun e he hk => absurd hk (hk_init0 he (by decide)),
    fun e he hk => absurd hk (hk_init0 he (by decide)), ⟨fun e he hk => absurd hk (hk_init0 he (by decide)), fun g hg => ?_⟩, ⟨fun e he hk => absurd hk (hk_init0 he (by decide)), fun e e' he he' hk => absurd hk (hk_init0 he (by decide))⟩, fun e he hl => absurd (dead e he) hl, ⟨by decide, fun w hw => by omega⟩, fun h => ⟨0, by decide, rfl⟩⟩
  · by_cases z : o < 16
    · exact Or.inl (hk_fm_in z)
    · exact Or.inr (Or.inl (if_neg z))
  · unfold hk_P2
    rw [hk_sm_0 (fun i hi => if_pos (dead i hi))]; rfl
  · by_cases z : p = 0
    · subst z; rw [hk_us]; rfl
    · rw [hk_un z]
      have : p = 1 ∨ p = 2 ∨ p = 3 := by omega
      rcases this with rfl | rfl | rfl <;> rfl
  · rw [hk_sm_0 (fun i hi => if_neg (fun z => absurd z.1 (hk_init0 hi (by decide))))]; rfl
theorem i_vc0 : wpX_init (fun u => wpY_init (fun v => i_Rel 0 u v)) := by
  refine hk_initX (hk_initY ?_)
  refine hk_il (nw := 0) hk_R0 (fun w hw => by omega) (fun p hp _ j hj => hk_fm_in (by omega))
end
end
section
section
theorem hk_le3 {x : Int32} (h : nI 4 ≤ x) : ¬ x ≤ 3 := by
  rw [Int32.le_iff_toInt_le, show (nI 4).toInt = 4 from by decide] at h
  rw [Int32.le_iff_toInt_le, show (3 : Int32).toInt = 3 from by decide]
  omega
theorem hk_got {fo fm fr : Int32} {nw : Nat} {kd nu re sg ot ob ri va f1 g1 f2 g2 hd ct pg us ce pk pn ps wd tp bt ky gv ga gb ev pe ow cy rf rn wt vy t1 r1 t2 r2 pa qk qn qs : Nat → Int32} (v1 v2 : Int32) : ∃ r, (∀ post : Int32 → Prop, post r → wpX_got post (fo, fm, fr, nI nw, kd, nu, re, sg, ot, ob, ri, va, f1, g1, f2, g2, hd, ct, pg, us, ce, pk, pn, ps, wd, tp, bt, ky, gv, ga, gb) v1 v2) ∧ (∀ post : Int32 → Prop, post r → wpY_got post (fm, nI nw, kd, nu, ev, pe, ow, cy, rf, ri, rn, gv, ga, gb, wt, vy, t1, r1, t2, r2, pa, qk, qn, qs, wd, bt, tp, ky) v1 v2) := by
  have n10 : ¬ (1 : Int32) = 0 := by decide
  have out : (∀ post : Int32 → Prop, wX_got_9 post v2 fo fm fr (nI nw) kd nu re sg ot ob ri va f1 g1 f2 g2 hd ct pg us ce pk pn ps wd tp bt ky gv ga gb → wpX_got post (fo, fm, fr, nI nw, kd, nu, re, sg, ot, ob, ri, va, f1, g1, f2, g2, hd, ct, pg, us, ce, pk, pn, ps, wd, tp, bt, ky, gv, ga, gb) v1 v2) → (∀ post : Int32 → Prop, ((v2 = 1 → wY_got_17 post v1 v2 0 fm (nI nw) kd nu ev pe ow cy rf ri rn gv ga gb wt vy t1 r1 t2 r2 pa qk qn qs wd bt tp ky) ∧ (¬ v2 = 1 → ((v2 = 2 → wY_got_17 post v1 v2 0 fm (nI nw) kd nu ev pe ow cy rf ri rn gv ga gb wt vy t1 r1 t2 r2 pa qk qn qs wd bt tp ky) ∧ (¬ v2 = 2 → ((v2 = 0 → (((0 : Int32) = 0 → post 0) ∧ (¬ (0 : Int32) = 0 → (vp_in v1 4 ∧ post (gv v1.toNatClampNeg))))) ∧ (¬ v2 = 0 → post 0)))))) → wpY_got post (fm, nI nw, kd, nu, ev, pe, ow, cy, rf, ri, rn, gv, ga, gb, wt, vy, t1, r1, t2, r2, pa, qk, qn, qs, wd, bt, tp, ky) v1 v2) →
      ∃ r, (∀ post : Int32 → Prop, post r → wpX_got post (fo, fm, fr, nI nw, kd, nu, re, sg, ot, ob, ri, va, f1, g1, f2, g2, hd, ct, pg, us, ce, pk, pn, ps, wd, tp, bt, ky, gv, ga, gb) v1 v2) ∧ (∀ post : Int32 → Prop, post r → wpY_got post (fm, nI nw, kd, nu, ev, pe, ow, cy, rf, ri, rn, gv, ga, gb, wt, vy, t1, r1, t2, r2, pa, qk, qn, qs, wd, bt, tp, ky) v1 v2) := by
    intro hX hY
    by_cases z1 : v2 = 1
    · exact ⟨-1, fun post hp => hX post (br_t z1 hp), fun post hp => hY post (br_t z1 (br_t rfl hp))⟩
    · by_cases z2 : v2 = 2
      · exact ⟨-1, fun post hp => hX post (br_f z1 (br_t z2 hp)), fun post hp => hY post (br_f z1 (br_t z2 (br_t rfl hp)))⟩
      · refine ⟨0, fun post hp => hX post (br_f z1 (br_f z2 hp)), fun post hp => hY post (br_f z1 (br_f z2 ?_))⟩
        by_cases z0 : v2 = 0
        · exact br_t z0 (br_t rfl hp)
        · exact br_f z0 hp
  rcases hk_rng v1 (n := 4) (by decide) with h | h | ⟨j, hj, rfl⟩
  · exact out (fun post H => br_t h H) (fun post H => br_t h H)
  · exact out (fun post H => br_f (hk_not4 h) (br_f (hk_le3 h) H)) (fun post H => br_f (hk_not4 h) (br_t (hk_sgt (n := 3) (by decide) h) H))
  · have a1 : ¬ nI j < 0 := hk_n0 (by omega)
    have a2 : nI j ≤ 3 := nI_le (b := 3) (by omega) (by decide)
    have a3 : ¬ (3 : Int32) < nI j := nI_nlt (a := 3) (by omega) (by decide)
    have ij : vp_in (nI j) 4 := hk_in hj
    by_cases z0 : v2 = 0
    · have z1 : ¬ v2 = 1 := by rw [z0]; decide
      have z2 : ¬ v2 = 2 := by rw [z0]; decide
      exact ⟨gv (nI j).toNatClampNeg, fun post hp => br_f a1 (br_t a2 (br_t z0 ⟨ij, hp⟩)), fun post hp => br_f a1 (br_f a3 (br_f z1 (br_f z2 (br_t z0 (br_f n10 ⟨ij, hp⟩)))))⟩
    · by_cases z1 : v2 = 1
      · exact ⟨ga (nI j).toNatClampNeg, fun post hp => br_f a1 (br_t a2 (br_f z0 (br_t z1 ⟨ij, hp⟩))), fun post hp => br_f a1 (br_f a3 (br_t z1 (br_f n10 (br_t z1 ⟨ij, hp⟩))))⟩
      · by_cases z2 : v2 = 2
        · exact ⟨gb (nI j).toNatClampNeg, fun post hp => br_f a1 (br_t a2 (br_f z0 (br_f z1 (br_t z2 ⟨ij, hp⟩)))), fun post hp => br_f a1 (br_f a3 (br_f z1 (br_t z2 (br_f n10 (br_f z1 ⟨ij, hp⟩)))))⟩
        · exact ⟨0, fun post hp => br_f a1 (br_t a2 (br_f z0 (br_f z1 (br_f z2 hp)))), fun post hp => br_f a1 (br_f a3 (br_f z1 (br_f z2 (br_f z0 hp))))⟩
theorem i_vc_got {k : Nat} {u : SX} {v : SY} (I : i_Rel k u v) (hk : k + 6 ≤ 3072) (v1 : Int32) (v2 : Int32) : wpX_got (fun r => wpY_got (fun r' => r' = r ∧ i_Rel (k + 6) u v) v v1 v2) u v1 v2 := by
  refine hk_el (P := fun u v => wpX_got (fun r => wpY_got (fun r' => r' = r ∧ i_Rel (k + 6) u v) v v1 v2) u v1 v2) ?_ I
  intro fo fm fr nw kd nu re sg ot ob ri va f1 g1 f2 g2 hd ct pg us ce pk pn ps wd tp bt ky gv ga gb ev pe ow cy rf rn wt vy t1 r1 t2 r2 pa qk qn qs R Q Z
  obtain ⟨r, rX, rY⟩ := hk_got (fo := fo) (fm := fm) (fr := fr) (nw := nw) (kd := kd) (nu := nu) (re := re) (sg := sg) (ot := ot) (ob := ob) (ri := ri) (va := va) (f1 := f1) (g1 := g1) (f2 := f2) (g2 := g2) (hd := hd) (ct := ct) (pg := pg) (us := us) (ce := ce) (pk := pk) (pn := pn) (ps := ps) (wd := wd) (tp := tp) (bt := bt) (ky := ky) (gv := gv) (ga := ga) (gb := gb) (ev := ev) (pe := pe) (ow := ow) (cy := cy) (rf := rf) (rn := rn) (wt := wt) (vy := vy) (t1 := t1) (r1 := r1) (t2 := t2) (r2 := r2) (pa := pa) (qk := qk) (qn := qn) (qs := qs) v1 v2
  exact rX _ (rY _ ⟨rfl, hk_il R Q Z⟩)
theorem hk_Vw {r : Nat} (h : r < 64) : hk_V 64 (nI r) := ⟨r, h, rfl⟩
theorem i_vc_restrict {k : Nat} {u : SX} {v : SY} (I : i_Rel k u v) (hk : k + 6 ≤ 3072) (v1 : Int32) (v2 : Int32) (v3 : Int32) : wpX_restrict (fun r u' => wpY_restrict (fun r' v' => r' = r ∧ i_Rel (k + 6) u' v') v v1 v2 v3) u v1 v2 v3 := by
  refine hk_el (P := fun u v => wpX_restrict (fun r u' => wpY_restrict (fun r' v' => r' = r ∧ i_Rel (k + 6) u' v') v v1 v2 v3) u v1 v2 v3) ?_ I
  intro fo fm fr nw kd nu re sg ot ob ri va f1 g1 f2 g2 hd ct pg us ce pk pn ps wd tp bt ky gv ga gb ev pe ow cy rf rn wt vy t1 r1 t2 r2 pa qk qn qs R Q Z
  obtain ⟨r, rX, rY, r0⟩ := hk_first (fo := fo) (fm := fm) (fr := fr) (nw := nw) (kd := kd) (nu := nu) (re := re) (sg := sg) (ot := ot) (ob := ob) (ri := ri) (va := va) (f1 := f1) (g1 := g1) (f2 := f2) (g2 := g2) (hd := hd) (ct := ct) (pg := pg) (us := us) (ce := ce) (pk := pk) (pn := pn) (ps := ps) (wd := wd) (tp := tp) (bt := bt) (ky := ky) (gv := gv) (ga := ga) (gb := gb) (ev := ev) (pe := pe) (ow := ow) (cy := cy) (rf := rf) (rn := rn) (wt := wt) (vy := vy) (t1 := t1) (r1 := r1) (t2 := t2) (r2 := r2) (pa := pa) (qk := qk) (qn := qn) (qs := qs) R v1 v2 (-1) 0
  unfold wpX_restrict
  refine rX _ ?_
  by_cases z : r = 0
  · obtain ⟨p, j, o, hp, rfl, hr, hj, rfl, ho, e1, e2, hl, -⟩ := r0 z
    have KR := R.2.2.2.2.2.2.2.2.2.2.2.2
    have i40 : 10 * p + j < 40 := by omega
    have ci : (nI (10 * p + j)).toNatClampNeg = 10 * p + j := hk_cl (by omega)
    have ii : vp_in (nI (10 * p + j)) 40 := hk_in i40
    obtain ⟨s, hs, es⟩ := hk_V_and (y := v3) (KR (10 * p + j))
    have en : vp_nar .byte ((ri (10 * p + j) &&& v3).toInt8.toInt32) = ri (10 * p + j) &&& v3 := by rw [es, hk_vb' (by omega)]
    refine br_t z ?_
    rw [hk_10, ci]
    refine ⟨ii, hk_sq ii en ⟨ii, ?_⟩⟩
    unfold wpY_restrict
    refine rY _ (br_t z ?_)
    rw [hk_10, ci]
    exact ⟨ii, hk_sq ii rfl ⟨ii, rfl, hk_il (hk_restr R (hk_V_and (KR _))) Q Z⟩⟩
  · exact br_f z (by unfold wpY_restrict; exact rY _ (br_f z ⟨rfl, hk_il R Q Z⟩))
theorem hk_Zup {rn rf : Nat → Int32} {p j : Nat} {x : Int32} (Z : hk_Z rn rf) (hp : p < 4) (hj : j < 10) (hr : ¬ rn p = 0) : hk_Z rn (upd rf (10 * p + j) x) := by
  intro q hq hz i hi
  have n : q ≠ p := fun z => hr (z ▸ hz)
  rw [hk_un (by omega)]
  exact Z q hq hz i hi
theorem i_vc_copy {k : Nat} {u : SX} {v : SY} (I : i_Rel k u v) (hk : k + 6 ≤ 3072) (v1 : Int32) (v2 : Int32) (v3 : Int32) : wpX_copy (fun r u' => wpY_copy (fun r' v' => r' = r ∧ i_Rel (k + 6) u' v') v v1 v2 v3) u v1 v2 v3 := by
  refine hk_el (P := fun u v => wpX_copy (fun r u' => wpY_copy (fun r' v' => r' = r ∧ i_Rel (k + 6) u' v') v v1 v2 v3) u v1 v2 v3) ?_ I
  intro fo fm fr nw kd nu re sg ot ob ri va f1 g1 f2 g2 hd ct pg us ce pk pn ps wd tp bt ky gv ga gb ev pe ow cy rf rn wt vy t1 r1 t2 r2 pa qk qn qs R Q Z
  obtain ⟨r, rX, rY, r0⟩ := hk_first (fo := fo) (fm := fm) (fr := fr) (nw := nw) (kd := kd) (nu := nu) (re := re) (sg := sg) (ot := ot) (ob := ob) (ri := ri) (va := va) (f1 := f1) (g1 := g1) (f2 := f2) (g2 := g2) (hd := hd) (ct := ct) (pg := pg) (us := us) (ce := ce) (pk := pk) (pn := pn) (ps := ps) (wd := wd) (tp := tp) (bt := bt) (ky := ky) (gv := gv) (ga := ga) (gb := gb) (ev := ev) (pe := pe) (ow := ow) (cy := cy) (rf := rf) (rn := rn) (wt := wt) (vy := vy) (t1 := t1) (r1 := r1) (t2 := t2) (r2 := r2) (pa := pa) (qk := qk) (qn := qn) (qs := qs) R v1 v2 (-1) 4
  unfold wpX_copy
  refine rX _ ?_
  by_cases z : r = 0
  · obtain ⟨p, j, o, hp, rfl, hr, hj, rfl, ho, e1, e2, hl, -⟩ := r0 z
    obtain ⟨mX, mY⟩ := hk_room (fo := fo) (fm := fm) (fr := fr) (nw := nw) (kd := kd) (nu := nu) (re := re) (sg := sg) (ot := ot) (ob := ob) (ri := ri) (va := va) (f1 := f1) (g1 := g1) (f2 := f2) (g2 := g2) (hd := hd) (ct := ct) (pg := pg) (us := us) (ce := ce) (pk := pk) (pn := pn) (ps := ps) (wd := wd) (tp := tp) (bt := bt) (ky := ky) (gv := gv) (ga := ga) (gb := gb) (ev := ev) (pe := pe) (ow := ow) (cy := cy) (rf := rf) (rn := rn) (wt := wt) (vy := vy) (t1 := t1) (r1 := r1) (t2 := t2) (r2 := r2) (pa := pa) (qk := qk) (qn := qn) (qs := qs) R hp
    have KR := R.2.2.2.2.2.2.2.2.2.2.2.2
    have ci : (nI (10 * p + j)).toNatClampNeg = 10 * p + j := hk_cl (by omega)
    have ii : vp_in (nI (10 * p + j)) 40 := hk_in (by omega)
    refine br_t z (mX _ ?_)
    have ml := hk_RM_le rf p
    by_cases y : hk_RM rf p = 0
    · have y' : nI (hk_RM rf p) = 0 := by rw [y]; rfl
      exact br_t y' (by unfold wpY_copy; exact rY _ (br_t z (mY _ (br_t y' ⟨rfl, hk_il R Q Z⟩))))
    · have y' : ¬ nI (hk_RM rf p) = 0 := by rw [hk_e0 (by omega)]; exact y
      obtain ⟨i, hi, f0, f1', f2', f3'⟩ := hk_place R.2.2.2.1 hp (by omega)
      obtain ⟨m, hm, em, -⟩ := hk_reb R ho hl
      obtain ⟨s, hs, es⟩ := hk_V_and (y := v3) (KR (10 * p + j))
      refine br_f y' (hk_objX hp hj e1 ?_)
      rw [hk_10, ci, es]
      refine ⟨ii, hk_grantX hp hi f0 f2' ho hs em (by omega) ?_⟩
      unfold wpY_copy
      refine rY _ (br_t z (mY _ (br_f y' (hk_objY hp hj e2 ?_))))
      rw [hk_10, ci, es]
      refine ⟨ii, hk_placeY hp hi f1' f3' ⟨rfl, ?_⟩⟩
      exact hk_il (hk_grant R (by omega) f1' ho hl (hk_Vw hs)) Q (hk_Zup Z hp hi hr)
  · exact br_f z (by unfold wpY_copy; exact rY _ (br_f z ⟨rfl, hk_il R Q Z⟩))
end
end
section
section
theorem hk_relX {fo fm fr : Int32} {nw : Nat} {kd nu re sg ot ob ri va f1 g1 f2 g2 hd ct pg us ce pk pn ps wd tp bt ky gv ga gb : Nat → Int32} {post : SX → Prop} {p j o m : Nat} (hp : p < 4) (hj : j < 10) (ho : o < 16) (h : ob (10 * p + j) = nI (o + 1)) (hre : re o = nI (m + 1)) (hm : m < 1000) (H : post (fo, fm, fr, nI nw, kd, nu, upd re o (re o - 1), sg, ot, upd ob (10 * p + j) 0, ri, va, f1, g1, f2, g2, hd, ct, pg, us, ce, pk, pn, ps, wd, tp, bt, ky, gv, ga, gb)) : wpX_release post (fo, fm, fr, nI nw, kd, nu, re, sg, ot, ob, ri, va, f1, g1, f2, g2, hd, ct, pg, us, ce, pk, pn, ps, wd, tp, bt, ky, gv, ga, gb) (nI p) (nI j) := by
  unfold wpX_release
  refine hk_objX hp hj h (br_t (hk_0l (by omega)) (hk_st (hk_10 p j) (by omega) hk_vb0 ⟨hk_in ho, ?_⟩))
  exact hk_st rfl ho (by rw [hk_cl (by omega), hre, nI_pred, hk_vs' (by omega)]) H
theorem hk_relX0 {fo fm fr : Int32} {nw : Nat} {kd nu re sg ot ob ri va f1 g1 f2 g2 hd ct pg us ce pk pn ps wd tp bt ky gv ga gb : Nat → Int32} {post : SX → Prop} {p j : Nat} (hp : p < 4) (hj : j < 10) (h : ob (10 * p + j) = 0) (H : post (fo, fm, fr, nI nw, kd, nu, re, sg, ot, ob, ri, va, f1, g1, f2, g2, hd, ct, pg, us, ce, pk, pn, ps, wd, tp, bt, ky, gv, ga, gb)) : wpX_release post (fo, fm, fr, nI nw, kd, nu, re, sg, ot, ob, ri, va, f1, g1, f2, g2, hd, ct, pg, us, ce, pk, pn, ps, wd, tp, bt, ky, gv, ga, gb) (nI p) (nI j) := by
  unfold wpX_release
  refine hk_rd (f := ob) (P := fun x => (0 ≤ x - 1 → _) ∧ (¬ 0 ≤ x - 1 → _)) (hk_10 p j) (by omega) h ?_
  exact br_f (by decide) H
theorem hk_Zdrop {rn rf : Nat → Int32} {i : Nat} (Z : hk_Z rn rf) : hk_Z rn (upd rf i (-1)) := by
  intro q hq hz j hj
  by_cases e : 10 * q + j = i
  · rw [e, hk_us]
  · rw [hk_un e]; exact Z q hq hz j hj
theorem i_vc_close {k : Nat} {u : SX} {v : SY} (I : i_Rel k u v) (hk : k + 6 ≤ 3072) (v1 : Int32) (v2 : Int32) : wpX_close (fun r u' => wpY_close (fun r' v' => r' = r ∧ i_Rel (k + 6) u' v') v v1 v2) u v1 v2 := by
  refine hk_el (P := fun u v => wpX_close (fun r u' => wpY_close (fun r' v' => r' = r ∧ i_Rel (k + 6) u' v') v v1 v2) u v1 v2) ?_ I
  intro fo fm fr nw kd nu re sg ot ob ri va f1 g1 f2 g2 hd ct pg us ce pk pn ps wd tp bt ky gv ga gb ev pe ow cy rf rn wt vy t1 r1 t2 r2 pa qk qn qs R Q Z
  obtain ⟨r, rX, rY, r0⟩ := hk_first (fo := fo) (fm := fm) (fr := fr) (nw := nw) (kd := kd) (nu := nu) (re := re) (sg := sg) (ot := ot) (ob := ob) (ri := ri) (va := va) (f1 := f1) (g1 := g1) (f2 := f2) (g2 := g2) (hd := hd) (ct := ct) (pg := pg) (us := us) (ce := ce) (pk := pk) (pn := pn) (ps := ps) (wd := wd) (tp := tp) (bt := bt) (ky := ky) (gv := gv) (ga := ga) (gb := gb) (ev := ev) (pe := pe) (ow := ow) (cy := cy) (rf := rf) (rn := rn) (wt := wt) (vy := vy) (t1 := t1) (r1 := r1) (t2 := t2) (r2 := r2) (pa := pa) (qk := qk) (qn := qn) (qs := qs) R v1 v2 (-1) 0
  unfold wpX_close
  refine rX _ ?_
  by_cases z : r = 0
  · obtain ⟨p, j, o, hp, rfl, hr, hj, rfl, ho, e1, e2, hl, -⟩ := r0 z
    obtain ⟨m, hm, em⟩ := hk_dropb R (by omega) e2 ho hl
    obtain ⟨fo', m', kd', re', sg', ot', ct', us', pk', pn', ps', wd', tp', bt', ky', pe', pa', qk', qn', qs', R1, Q1, cX, cY⟩ := hk_collect (nu := nu) (ky := ky) (gv := gv) (ga := ga) (gb := gb) (fm := fm) (hk_drop R (by omega) e2 ho hl) Q
    refine br_t z (hk_relX hp hj ho e1 em (by omega) (cX _ ?_))
    unfold wpY_close
    refine rY _ (br_t z (hk_st (hk_10 p j) (by omega) rfl (cY _ ⟨rfl, hk_il R1 Q1 (hk_Zdrop Z)⟩)))
  · exact br_f z (by unfold wpY_close; exact rY _ (br_f z ⟨rfl, hk_il R Q Z⟩))
theorem hk_bitV : ∀ j, j < 8 → (1 : Int32) <<< (nI j &&& 31) = nI (2 ^ j) ∧ 2 ^ j < 2048 := by decide +kernel
theorem hk_le7 {n : Nat} (hn : n + 1 < 2147483648) {x : Int32} (h : nI (n + 1) ≤ x) : ¬ x ≤ nI n := by
  rw [Int32.le_iff_toInt_le, hk_toI (by omega)] at h
  rw [Int32.le_iff_toInt_le, hk_toI (by omega)]
  omega
theorem i_vc_signal {k : Nat} {u : SX} {v : SY} (I : i_Rel k u v) (hk : k + 6 ≤ 3072) (v1 : Int32) (v2 : Int32) (v3 : Int32) (v4 : Int32) : wpX_signal (fun r u' => wpY_signal (fun r' v' => r' = r ∧ i_Rel (k + 6) u' v') v v1 v2 v3 (lw_bz v4)) u v1 v2 v3 (lw_bz v4) := by
  refine hk_el (P := fun u v => wpX_signal (fun r u' => wpY_signal (fun r' v' => r' = r ∧ i_Rel (k + 6) u' v') v v1 v2 v3 (lw_bz v4)) u v1 v2 v3 (lw_bz v4)) ?_ I
  intro fo fm fr nw kd nu re sg ot ob ri va f1 g1 f2 g2 hd ct pg us ce pk pn ps wd tp bt ky gv ga gb ev pe ow cy rf rn wt vy t1 r1 t2 r2 pa qk qn qs R Q Z
  obtain ⟨r, rX, rY, r0⟩ := hk_first (fo := fo) (fm := fm) (fr := fr) (nw := nw) (kd := kd) (nu := nu) (re := re) (sg := sg) (ot := ot) (ob := ob) (ri := ri) (va := va) (f1 := f1) (g1 := g1) (f2 := f2) (g2 := g2) (hd := hd) (ct := ct) (pg := pg) (us := us) (ce := ce) (pk := pk) (pn := pn) (ps := ps) (wd := wd) (tp := tp) (bt := bt) (ky := ky) (gv := gv) (ga := ga) (gb := gb) (ev := ev) (pe := pe) (ow := ow) (cy := cy) (rf := rf) (rn := rn) (wt := wt) (vy := vy) (t1 := t1) (r1 := r1) (t2 := t2) (r2 := r2) (pa := pa) (qk := qk) (qn := qn) (qs := qs) R v1 v2 0 2
  unfold wpX_signal
  refine rX _ ?_
  by_cases z : r = 0
  · obtain ⟨p, j, o, hp, rfl, hr, hj, rfl, ho, e1, e2, hl, hw⟩ := r0 z
    have k0 : kd o = 0 := hw (by decide)
    refine br_t z ?_
    rcases hk_rng v3 (n := 8) (by decide) with h | h | ⟨i, hi, rfl⟩
    · refine br_t h ?_
      unfold wpY_signal
      exact rY _ (br_t z (br_t h (br_t rfl ⟨rfl, hk_il R Q Z⟩)))
    · refine br_f (hk_notn (by decide) h) (br_f (hk_le7 (n := 7) (by decide) h) ?_)
      unfold wpY_signal
      exact rY _ (br_t z (br_f (hk_notn (by decide) h) (br_t (hk_sgt (n := 7) (by decide) h) (br_t rfl ⟨rfl, hk_il R Q Z⟩))))
    · have a1 : ¬ nI i < 0 := hk_n0 (by omega)
      have a2 : nI i ≤ 7 := nI_le (b := 7) (by omega) (by decide)
      have a3 : ¬ (7 : Int32) < nI i := nI_nlt (a := 7) (by omega) (by decide)
      have co : (nI o).toNatClampNeg = o := hk_cl (by omega)
      have io : vp_in (nI o) 16 := hk_in ho
      obtain ⟨b1, b2⟩ := hk_bitV i hi
      obtain ⟨eS, vS⟩ := R.2.2.2.2.2.2.2.2.2.2.1 o ho hl
      rw [hk_S_0 k0] at eS
      have fin : ∀ s, hk_V 2048 s → (∀ (post : Int32 → SY → Prop), wY_signal_77 post (nI o) s (nI o) fm (nI nw) kd nu ev pe ow cy rf ri rn gv ga gb wt vy t1 r1 t2 r2 pa qk qn qs wd bt tp ky → wpY_signal post (fm, nI nw, kd, nu, ev, pe, ow, cy, rf, ri, rn, gv, ga, gb, wt, vy, t1, r1, t2, r2, pa, qk, qn, qs, wd, bt, tp, ky) (nI p) (nI j) (nI i) (lw_bz v4)) → wX_signal_74 (fun r u' => wpY_signal (fun r' v' => r' = r ∧ i_Rel (k + 6) u' v') (fm, nI nw, kd, nu, ev, pe, ow, cy, rf, ri, rn, gv, ga, gb, wt, vy, t1, r1, t2, r2, pa, qk, qn, qs, wd, bt, tp, ky) (nI p) (nI j) (nI i) (lw_bz v4)) (nI o) s (nI o) fo fm fr (nI nw) kd nu re sg ot ob ri va f1 g1 f2 g2 hd ct pg us ce pk pn ps wd tp bt ky gv ga gb := by
        intro s hs hY
        obtain ⟨m2, sg2, ct2, pk2, pn2, ps2, pa2, qk2, qn2, qs2, wd2, tp2, bt2, ky2, R3, Q3, keep, cX, cY⟩ := hk_change (nu := nu) (ky := ky) (gv := gv) (ga := ga) (gb := gb) (fm := fm) (hk_sig R k0 hs)
        have ks := (keep o (by rw [k0]; decide)).1
        rw [hk_us] at ks
        refine cX _ o s sg ho hs rfl ⟨io, hY _ (hk_st rfl ho rfl (cY _ ⟨io, ?_, hk_il R3 Q3 Z⟩))⟩
        rw [co, hk_us, ks]
      refine br_f a1 (br_t a2 (hk_objX hp hj e1 ?_))
      by_cases y : lw_bz v4 = 0
      · refine br_t y ⟨io, ?_⟩
        rw [co]
        refine fin _ (hk_V_and vS) (fun post H => ?_)
        unfold wpY_signal
        refine rY _ (br_t z (br_f a1 (br_f a3 (br_f (by decide) (hk_objY hp hj e2 (br_t y ⟨io, ?_⟩))))))
        rw [co, ← eS]
        exact H
      · refine br_f y ⟨io, ?_⟩
        rw [co]
        refine fin _ (hk_V_or vS ⟨2 ^ i, b2, b1⟩) (fun post H => ?_)
        unfold wpY_signal
        refine rY _ (br_t z (br_f a1 (br_f a3 (br_f (by decide) (hk_objY hp hj e2 (br_f y ⟨io, ?_⟩))))))
        rw [co, ← eS]
        exact H
  · exact br_f z (by unfold wpY_signal; exact rY _ (br_f z ⟨rfl, hk_il R Q Z⟩))
theorem hk_2047 (x : Int32) : hk_V 2048 (x &&& 2047) := by
  rw [hk_nIof x, show (2047 : Int32) = nI 2047 from rfl, hk_and]
  exact ⟨_, Nat.lt_of_le_of_lt Nat.and_le_right (by decide), rfl⟩
theorem i_vc_watch {k : Nat} {u : SX} {v : SY} (I : i_Rel k u v) (hk : k + 6 ≤ 3072) (v1 : Int32) (v2 : Int32) (v3 : Int32) (v4 : Int32) (v5 : Int32) : wpX_watch (fun r u' => wpY_watch (fun r' v' => r' = r ∧ i_Rel (k + 6) u' v') v v1 v2 v3 v4 v5) u v1 v2 v3 v4 v5 := by
  refine hk_el (P := fun u v => wpX_watch (fun r u' => wpY_watch (fun r' v' => r' = r ∧ i_Rel (k + 6) u' v') v v1 v2 v3 v4 v5) u v1 v2 v3 v4 v5) ?_ I
  intro fo fm fr nw kd nu re sg ot ob ri va f1 g1 f2 g2 hd ct pg us ce pk pn ps wd tp bt ky gv ga gb ev pe ow cy rf rn wt vy t1 r1 t2 r2 pa qk qn qs R Q Z
  obtain ⟨r, rX, rY, r0⟩ := hk_first (fo := fo) (fm := fm) (fr := fr) (nw := nw) (kd := kd) (nu := nu) (re := re) (sg := sg) (ot := ot) (ob := ob) (ri := ri) (va := va) (f1 := f1) (g1 := g1) (f2 := f2) (g2 := g2) (hd := hd) (ct := ct) (pg := pg) (us := us) (ce := ce) (pk := pk) (pn := pn) (ps := ps) (wd := wd) (tp := tp) (bt := bt) (ky := ky) (gv := gv) (ga := ga) (gb := gb) (ev := ev) (pe := pe) (ow := ow) (cy := cy) (rf := rf) (rn := rn) (wt := wt) (vy := vy) (t1 := t1) (r1 := r1) (t2 := t2) (r2 := r2) (pa := pa) (qk := qk) (qn := qn) (qs := qs) R v1 v2 (-1) 16
  unfold wpX_watch
  refine rX _ ?_
  by_cases z : r = 0
  · obtain ⟨p, j, o, hp, rfl, hr, hj, rfl, ho, e1, e2, hl, -⟩ := r0 z
    obtain ⟨r', rX', rY', r0'⟩ := hk_test (fo := fo) (fm := fm) (fr := fr) (nw := nw) (kd := kd) (nu := nu) (re := re) (sg := sg) (ot := ot) (ob := ob) (ri := ri) (va := va) (f1 := f1) (g1 := g1) (f2 := f2) (g2 := g2) (hd := hd) (ct := ct) (pg := pg) (us := us) (ce := ce) (pk := pk) (pn := pn) (ps := ps) (wd := wd) (tp := tp) (bt := bt) (ky := ky) (gv := gv) (ga := ga) (gb := gb) (ev := ev) (pe := pe) (ow := ow) (cy := cy) (rf := rf) (rn := rn) (wt := wt) (vy := vy) (t1 := t1) (r1 := r1) (t2 := t2) (r2 := r2) (pa := pa) (qk := qk) (qn := qn) (qs := qs) R hp v3 3 2
    refine br_t z (rX' _ ?_)
    by_cases z' : r' = 0
    · obtain ⟨i, q, hi, rfl, hq, e3, e4, hl2, hw⟩ := r0' z'
      have kq : kd q = 3 := hw (by decide)
      have KW := R.2.2.2.2.2.2.2.2.2.2.2.1
      have hn := KW.1
      refine br_t z' ?_
      by_cases y : nw = 12
      · have y' : nI nw = 12 := by rw [y]; rfl
        refine br_t y' ?_
        unfold wpY_watch
        exact rY _ (br_t z (rY' _ (br_t z' (br_t y' ⟨rfl, hk_il R Q Z⟩))))
      · have y' : ¬ nI nw = 12 := hk_nIne (b := 12) (by omega) (by decide) y
        have hn2 : nw < 12 := by omega
        obtain ⟨b, hb, eb⟩ := hk_2047 v4
        obtain ⟨eS, vS⟩ := R.2.2.2.2.2.2.2.2.2.2.1 o ho hl
        have R1 := hk_addw R (b := b) hn2 ho hl hq kq hb
        obtain ⟨m2, sg2, ct2, pk2, pn2, ps2, pa2, qk2, qn2, qs2, wd2, tp2, bt2, ky2, R3, Q3, keep, cX, cY⟩ := hk_change (nu := nu) (ky := upd ky nw v5) (gv := gv) (ga := ga) (gb := gb) (fm := fm) R1
        have co : (nI o).toNatClampNeg = o := hk_cl (by omega)
        have io : vp_in (nI o) 16 := hk_in ho
        refine br_f y' (hk_objX hp hj e1 (hk_st rfl hn2 (hk_vb' (by omega)) (hk_objX hp hi e3 (hk_st rfl hn2 (hk_vb' (by omega)) (hk_st rfl hn2 (w := nI b) ?_ (nm_r (nI_1 nw) (hk_st rfl hn2 rfl ⟨io, ?_⟩)))))))
        · rw [eb, hk_vs' (by omega)]
        · rw [co]
          refine cX _ o (sg o) sg ho vS (hk_ui rfl).symm ?_
          unfold wpY_watch
          refine rY _ (br_t z (rY' _ (br_t z' (br_f y' (hk_objY hp hj e2 (hk_st rfl hn2 rfl (hk_st rfl hn2 eb (hk_objY hp hi e4 (hk_st rfl hn2 rfl (hk_st rfl hn2 rfl (nm_r (nI_1 nw) ?_)))))))))))
          exact cY _ ⟨rfl, hk_il R3 Q3 Z⟩
    · refine br_f z' ?_
      unfold wpY_watch
      exact rY _ (br_t z (rY' _ (br_f z' ⟨rfl, hk_il R Q Z⟩)))
  · refine br_f z (br_f z ?_)
    unfold wpY_watch
    exact rY _ (br_f z (br_f z ⟨rfl, hk_il R Q Z⟩))
end
end
section
section
theorem hk_pkY {fm : Int32} {nw : Nat} {kd nu ev pe ow cy rf ri rn gv ga gb wt vy t1 r1 t2 r2 pa qk qn qs wd bt tp ky : Nat → Int32} {post : Int64 → SY → Prop} {o c : Nat} {x : Int64} (ho : o < 16) (hc : c < 6) (hpa : pa o = nI c) (H : post x (fm, nI nw, kd, nu, ev, pe, ow, cy, rf, ri, rn, gv, ga, gb, wt, vy, t1, r1, t2, r2, pa, hk_sh (6 * o) (6 * o + c) qk, hk_sh (6 * o) (6 * o + c) qn, hk_sh (6 * o) (6 * o + c) qs, wd, bt, tp, ky)) :
    ∃ n, wY_packet_140 post (nI o) (nI (6 * o)) x fm (nI nw) n (nI (6 * o)) kd nu ev pe ow cy rf ri rn gv ga gb wt vy t1 r1 t2 r2 pa qk qn qs wd bt tp ky := by
  have co : (nI o).toNatClampNeg = o := hk_cl (by omega)
  have io : vp_in (nI o) 16 := hk_in ho
  have key : ∀ d i, 6 * o ≤ i → i + d = 6 * o + c → wY_packet_140 post (nI o) (nI (6 * o)) x fm (nI nw) (d + 1) (nI i) kd nu ev pe ow cy rf ri rn gv ga gb wt vy t1 r1 t2 r2 pa (hk_sh (6 * o) i qk) (hk_sh (6 * o) i qn) (hk_sh (6 * o) i qs) wd bt tp ky := by
    intro d
    induction d with
    | zero =>
      intro i h1 h2
      obtain rfl : i = 6 * o + c := by omega
      refine And.intro io (br_t ?_ H)
      rw [co, hpa, nI_add]; exact nI_le (Nat.le_refl _) (by omega)
    | succ d ih =>
      intro i h1 h2
      refine And.intro io (br_f ?_ ?_)
      · rw [co, hpa, nI_add]; exact nI_ge (by omega) (by omega)
      · exact hk_shst h1 (by omega) (hk_shv (by omega)) (hk_shst h1 (by omega) (hk_shv (by omega)) (hk_shst h1 (by omega) (hk_shv (by omega)) (nm_r (nI_1 i) (ih (i + 1) (by omega) (by omega)))))
  have a := key c (6 * o) (Nat.le_refl _) rfl
  rw [hk_sh_0, hk_sh_0, hk_sh_0] at a
  exact ⟨_, a⟩
theorem i_vc_packet {k : Nat} {u : SX} {v : SY} (I : i_Rel k u v) (hk : k + 6 ≤ 3072) (v1 : Int32) (v2 : Int32) (v3 : Int32) : wpX_packet (fun r u' => wpY_packet (fun r' v' => r' = r ∧ i_Rel (k + 6) u' v') v v1 v2 v3) u v1 v2 v3 := by
  refine hk_el (P := fun u v => wpX_packet (fun r u' => wpY_packet (fun r' v' => r' = r ∧ i_Rel (k + 6) u' v') v v1 v2 v3) u v1 v2 v3) ?_ I
  intro fo fm fr nw kd nu re sg ot ob ri va f1 g1 f2 g2 hd ct pg us ce pk pn ps wd tp bt ky gv ga gb ev pe ow cy rf rn wt vy t1 r1 t2 r2 pa qk qn qs R Q Z
  obtain ⟨r, rX, rY, r0⟩ := hk_first (fo := fo) (fm := fm) (fr := fr) (nw := nw) (kd := kd) (nu := nu) (re := re) (sg := sg) (ot := ot) (ob := ob) (ri := ri) (va := va) (f1 := f1) (g1 := g1) (f2 := f2) (g2 := g2) (hd := hd) (ct := ct) (pg := pg) (us := us) (ce := ce) (pk := pk) (pn := pn) (ps := ps) (wd := wd) (tp := tp) (bt := bt) (ky := ky) (gv := gv) (ga := ga) (gb := gb) (ev := ev) (pe := pe) (ow := ow) (cy := cy) (rf := rf) (rn := rn) (wt := wt) (vy := vy) (t1 := t1) (r1 := r1) (t2 := t2) (r2 := r2) (pa := pa) (qk := qk) (qn := qn) (qs := qs) R v1 v2 3 1
  have n9 : ¬ (-9 : Int32) = 0 := by decide
  unfold wpX_packet
  refine rX _ ?_
  by_cases z : r = 0
  · obtain ⟨p, j, o, hp, rfl, hr, hj, rfl, ho, e1, e2, hl, hw⟩ := r0 z
    have k3 : kd o = 3 := hw (by decide)
    refine br_t z ?_
    rcases hk_rng v3 (n := 4) (by decide) with h | h | ⟨i, hi, rfl⟩
    · refine br_t h (br_f n9 ?_)
      unfold wpY_packet
      exact rY _ (br_t z (br_t h (br_t rfl (br_f n9 ⟨rfl, hk_il R Q Z⟩))))
    · refine br_f (hk_notn (by decide) h) (br_f (hk_le7 (n := 3) (by decide) h) (br_f n9 ?_))
      unfold wpY_packet
      exact rY _ (br_t z (br_f (hk_notn (by decide) h) (br_t (hk_sgt (n := 3) (by decide) h) (br_t rfl (br_f n9 ⟨rfl, hk_il R Q Z⟩)))))
    · have a1 : ¬ nI i < 0 := hk_n0 (by omega)
      have a2 : nI i ≤ 3 := nI_le (b := 3) (by omega) (by decide)
      have a3 : ¬ (3 : Int32) < nI i := nI_nlt (a := 3) (by omega) (by decide)
      have co : (nI o).toNatClampNeg = o := hk_cl (by omega)
      have io : vp_in (nI o) 16 := hk_in ho
      obtain ⟨c, h, hc, hh, ect, epa, ehd, eN⟩ := R.2.2.2.2.2.2.2.1 o ho k3
      have Yin : ∀ (post : Int64 → SY → Prop), wY_packet_28 post (nI p) (nI j) (nI i) r fm (nI nw) kd nu ev pe ow cy rf ri rn gv ga gb wt vy t1 r1 t2 r2 pa qk qn qs wd bt tp ky → wpY_packet post (fm, nI nw, kd, nu, ev, pe, ow, cy, rf, ri, rn, gv, ga, gb, wt, vy, t1, r1, t2, r2, pa, qk, qn, qs, wd, bt, tp, ky) (nI p) (nI j) (nI i) := by
        intro post H
        unfold wpY_packet
        exact rY _ (br_t z (br_f a1 (br_f a3 (br_f (by decide) H))))
      refine br_f a1 (br_t a2 (br_t z (hk_objX hp hj e1 ?_)))
      by_cases i3 : i = 3
      · subst i3
        refine br_t rfl ⟨io, Yin _ (br_t z (hk_objY hp hj e2 (nm_r (hk_m6 o) (br_t rfl ⟨io, ?_, hk_il R Q Z⟩))))⟩
        rw [co, ect, epa]
      · have i3' : ¬ nI i = 3 := hk_nIne (b := 3) (by omega) (by decide) i3
        refine br_f i3' ⟨io, ?_⟩
        rw [co, ect]
        by_cases c0 : c = 0
        · subst c0
          refine br_t rfl (Yin _ (br_t z (hk_objY hp hj e2 (nm_r (hk_m6 o) (br_f i3' ⟨io, br_t ?_ ⟨rfl, hk_il R Q Z⟩⟩)))))
          rw [co, epa]; rfl
        · obtain ⟨c', rfl⟩ : ∃ c', c = c' + 1 := ⟨c - 1, by omega⟩
          have n0 : ¬ nI (c' + 1) = 0 := by rw [hk_e0 (by omega)]; omega
          obtain ⟨eS, vS⟩ := R.2.2.2.2.2.2.2.2.2.2.1 o ho hl
          have i96 : 6 * o + h < 96 := by omega
          have c96 : (nI (6 * o + h)).toNatClampNeg = 6 * o + h := hk_cl (by omega)
          have ii : vp_in (nI (6 * o + h)) 96 := hk_in i96
          have y96 : (nI (6 * o)).toNatClampNeg = 6 * o := hk_cl (by omega)
          have yi : vp_in (nI (6 * o)) 96 := hk_in (by omega)
          obtain ⟨N1, N2, N3⟩ := eN 0 (by omega)
          have eh : (h + 0) % 6 = h := by omega
          rw [eh, Nat.add_zero] at N1 N2 N3
          -- the reference's part, once for each part asked
          have fin : ∀ (u' : SX) (x : Int64), (∀ Y1 : SY, Y1 = (fm, nI nw, kd, nu, ev, pe, ow, cy, rf, ri, rn, gv, ga, gb, wt, vy, t1, r1, t2, r2, upd pa o (nI c'), hk_sh (6 * o) (6 * o + c') qk, hk_sh (6 * o) (6 * o + c') qn, hk_sh (6 * o) (6 * o + c') qs, wd, bt, tp, ky) → i_Rel (k + 6) u' Y1) →
              x = (if i = 0 then (qk (6 * o)).toInt64 else if i = 1 then (qn (6 * o)).toInt64 else (qs (6 * o)).toInt64) → wpY_packet (fun r' v' => r' = x ∧ i_Rel (k + 6) u' v') (fm, nI nw, kd, nu, ev, pe, ow, cy, rf, ri, rn, gv, ga, gb, wt, vy, t1, r1, t2, r2, pa, qk, qn, qs, wd, bt, tp, ky) (nI p) (nI j) (nI i) := by
            intro u' x HI hx
            refine Yin _ (br_t z (hk_objY hp hj e2 (nm_r (hk_m6 o) (br_f i3' ⟨io, br_f (by rw [co, epa]; exact n0) ?_⟩))))
            have S : ∀ y, y = x → wY_packet_123 (fun r' v' => r' = x ∧ i_Rel (k + 6) u' v') (nI o) (nI (6 * o)) y fm (nI nw) kd nu ev pe ow cy rf ri rn gv ga gb wt vy t1 r1 t2 r2 pa qk qn qs wd bt tp ky := by
              intro y hy
              refine And.intro io (hk_st rfl ho (w := nI c') (by rw [co, epa, nI_pred]) ?_)
              exact hk_pkY ho (by omega) hk_us ⟨hy, HI _ rfl⟩
            by_cases q0 : i = 0
            · subst q0
              refine br_t rfl ⟨yi, S _ ?_⟩
              rw [hx, if_pos rfl, y96]
            · refine br_f (hk_nIne (b := 0) (by omega) (by decide) q0) ?_
              rw [if_neg q0] at hx
              by_cases q1 : i = 1
              · subst q1
                refine br_t rfl ⟨yi, S _ ?_⟩
                rw [hx, if_pos rfl, y96]
              · refine br_f (hk_nIne (b := 1) (by omega) (by decide) q1) ⟨yi, S _ ?_⟩
                rw [hx, if_neg q1, y96]
          have P151 : ∀ (sg' : Nat → Int32), (∀ Y1 : SY, Y1 = (fm, nI nw, kd, nu, ev, pe, ow, cy, rf, ri, rn, gv, ga, gb, wt, vy, t1, r1, t2, r2, upd pa o (nI c'), hk_sh (6 * o) (6 * o + c') qk, hk_sh (6 * o) (6 * o + c') qn, hk_sh (6 * o) (6 * o + c') qs, wd, bt, tp, ky) → i_Rel (k + 6) (fo, fm, fr, nI nw, kd, nu, re, sg', ot, ob, ri, va, f1, g1, f2, g2, upd hd o (nI ((h + 1) % 6)), upd ct o (nI c'), pg, us, ce, pk, pn, ps, wd, tp, bt, ky, gv, ga, gb) Y1) →
              wX_packet_151 (fun r u' => wpY_packet (fun r' v' => r' = r ∧ i_Rel (k + 6) u' v') (fm, nI nw, kd, nu, ev, pe, ow, cy, rf, ri, rn, gv, ga, gb, wt, vy, t1, r1, t2, r2, pa, qk, qn, qs, wd, bt, tp, ky) (nI p) (nI j) (nI i)) (nI i) (nI (6 * o + h)) fo fm fr (nI nw) kd nu re sg' ot ob ri va f1 g1 f2 g2 (upd hd o (nI ((h + 1) % 6))) (upd ct o (nI c')) pg us ce pk pn ps wd tp bt ky gv ga gb := by
            intro sg' HI
            unfold wX_packet_151
            rw [c96]
            by_cases q0 : i = 0
            · subst q0
              refine br_t rfl ⟨ii, fin _ _ HI ?_⟩
              rw [if_pos rfl, N1]
            · refine br_f (hk_nIne (b := 0) (by omega) (by decide) q0) ?_
              by_cases q1 : i = 1
              · subst q1
                refine br_t rfl ⟨ii, fin _ _ HI ?_⟩
                rw [if_neg q0, if_pos rfl, N2]
              · refine br_f (hk_nIne (b := 1) (by omega) (by decide) q1) ⟨ii, fin _ _ HI ?_⟩
                rw [if_neg q0, if_neg q1, N3]
          rw [ehd]
          refine br_f n0 ⟨io, nm_r (hk_6 o h) ⟨io, by decide, hk_sq io (w := nI ((h + 1) % 6)) ?_ ⟨io, hk_sq io (w := nI c') ?_ ⟨io, ?_⟩⟩⟩⟩
          · rw [nI_1, hk_rem6 (by omega), hk_vb' (by omega)]
          · rw [nI_pred, hk_vb' (by omega)]
          · rw [hk_us]
            by_cases w0 : c' = 0
            · subst w0
              have R1 := hk_pkout R (s := sg o &&& (-257)) ho k3 ect (by omega) ehd hh (by rw [if_pos rfl])
              refine br_t rfl ⟨io, ?_⟩
              refine hk_quiet (nu := nu) (ky := ky) (gv := gv) (ga := ga) (gb := gb) (fm := fm) R1 (hk_Qless rfl Q) ho (hk_V_and vS) rfl ?_
              exact P151 _ (fun Y1 e => e ▸ hk_il R1 (hk_Qless rfl Q) Z)
            · have R1 := hk_pkout R (s := sg o) ho k3 ect (by omega) ehd hh (by rw [if_neg w0])
              rw [hk_ui (f := sg) (k := o) rfl] at R1
              exact br_f (by rw [hk_e0 (by omega)]; exact w0) (P151 _ (fun Y1 e => e ▸ hk_il R1 Q Z))
  · refine br_f z (br_f z ?_)
    unfold wpY_packet
    exact rY _ (br_f z (br_f z ⟨rfl, hk_il R Q Z⟩))
end
end
section
section
theorem i_vc_load {k : Nat} {u : SX} {v : SY} (I : i_Rel k u v) (hk : k + 6 ≤ 3072) (v1 : Int32) (v2 : Int32) (v3 : Int32) : wpX_load (fun r => wpY_load (fun r' => r' = r ∧ i_Rel (k + 6) u v) v v1 v2 v3) u v1 v2 v3 := by
  refine hk_el (P := fun u v => wpX_load (fun r => wpY_load (fun r' => r' = r ∧ i_Rel (k + 6) u v) v v1 v2 v3) u v1 v2 v3) ?_ I
  intro fo fm fr nw kd nu re sg ot ob ri va f1 g1 f2 g2 hd ct pg us ce pk pn ps wd tp bt ky gv ga gb ev pe ow cy rf rn wt vy t1 r1 t2 r2 pa qk qn qs R Q Z
  obtain ⟨r, rX, rY, r0⟩ := hk_first (fo := fo) (fm := fm) (fr := fr) (nw := nw) (kd := kd) (nu := nu) (re := re) (sg := sg) (ot := ot) (ob := ob) (ri := ri) (va := va) (f1 := f1) (g1 := g1) (f2 := f2) (g2 := g2) (hd := hd) (ct := ct) (pg := pg) (us := us) (ce := ce) (pk := pk) (pn := pn) (ps := ps) (wd := wd) (tp := tp) (bt := bt) (ky := ky) (gv := gv) (ga := ga) (gb := gb) (ev := ev) (pe := pe) (ow := ow) (cy := cy) (rf := rf) (rn := rn) (wt := wt) (vy := vy) (t1 := t1) (r1 := r1) (t2 := t2) (r2 := r2) (pa := pa) (qk := qk) (qn := qn) (qs := qs) R v1 v2 2 1
  have n9 : ¬ (-9 : Int32) = 0 := by decide
  unfold wpX_load
  refine rX _ ?_
  by_cases z : r = 0
  · obtain ⟨p, j, o, hp, rfl, hr, hj, rfl, ho, e1, e2, hl, hw⟩ := r0 z
    have k2 : kd o = 2 := hw (by decide)
    refine br_t z ?_
    rcases hk_rng v3 (n := 8) (by decide) with h | h | ⟨i, hi, rfl⟩
    · refine br_t h (br_f n9 ?_)
      unfold wpY_load
      exact rY _ (br_t z (br_t h (br_t rfl (br_f n9 ⟨rfl, hk_il R Q Z⟩))))
    · refine br_f (hk_notn (by decide) h) (br_f (hk_le7 (n := 7) (by decide) h) (br_f n9 ?_))
      unfold wpY_load
      exact rY _ (br_t z (br_f (hk_notn (by decide) h) (br_t (hk_sgt (n := 7) (by decide) h) (br_t rfl (br_f n9 ⟨rfl, hk_il R Q Z⟩)))))
    · have a1 : ¬ nI i < 0 := hk_n0 (by omega)
      have a2 : nI i ≤ 7 := nI_le (b := 7) (by omega) (by decide)
      have a3 : ¬ (7 : Int32) < nI i := nI_nlt (a := 7) (by omega) (by decide)
      have co : (nI o).toNatClampNeg = o := hk_cl (by omega)
      have io : vp_in (nI o) 16 := hk_in ho
      obtain ⟨g, hg, epg, ec⟩ := R.2.2.2.2.2.2.2.2.1.1 o ho k2
      refine br_f a1 (br_t a2 (br_t z (hk_objX hp hj e1 ⟨io, ?_⟩)))
      rw [co, epg, hk_8, hk_cl (by omega)]
      refine ⟨hk_in (by omega), ?_⟩
      unfold wpY_load
      refine rY _ (br_t z (br_f a1 (br_f a3 (br_f (by decide) (br_t z (hk_objY hp hj e2 ?_))))))
      rw [hk_8, hk_cl (by omega)]
      exact ⟨hk_in (by omega), by rw [ec i hi], hk_il R Q Z⟩
  · refine br_f z (br_f z ?_)
    unfold wpY_load
    exact rY _ (br_f z (br_f z ⟨rfl, hk_il R Q Z⟩))
theorem hk_blankX {fo fm fr : Int32} {nw : Nat} {kd nu re sg ot ob ri va f1 g1 f2 g2 hd ct pg us ce pk pn ps wd tp bt ky gv ga gb : Nat → Int32} {post : Int32 → SX → Prop} {g : Nat} (hg : g < 16) (h0 : us g ≤ 0) (hm : ∀ i, i < g → ¬ us i ≤ 0) (H : post (nI g) (fo, fm, fr, nI nw, kd, nu, re, sg, ot, ob, ri, va, f1, g1, f2, g2, hd, ct, pg, upd us g 1, hk_fz (8 * g) ce, pk, pn, ps, wd, tp, bt, ky, gv, ga, gb)) : wpX_blank post (fo, fm, fr, nI nw, kd, nu, re, sg, ot, ob, ri, va, f1, g1, f2, g2, hd, ct, pg, us, ce, pk, pn, ps, wd, tp, bt, ky, gv, ga, gb) := by
  have loop : ∀ d i, i + d = 8 → wX_blank_26 post (nI g) fo fm fr (nI nw) (d + 1) (nI i) kd nu re sg ot ob ri va f1 g1 f2 g2 hd ct pg (upd us g 1) (hk_fzn (8 * g) i ce) pk pn ps wd tp bt ky gv ga gb := by
    intro d
    induction d with
    | zero =>
      intro i hi
      obtain rfl : i = 8 := by omega
      exact br_t (nI_le (a := 8) (Nat.le_refl _) (by decide)) H
    | succ d ih =>
      intro i hi
      refine br_f (nI_ge (b := 8) (by omega) (by decide)) (hk_st (hk_8 g i) (by omega) rfl (nm_r (nI_1 i) ?_))
      rw [hk_fzn_s]; exact ih (i + 1) (by omega)
  have key : ∀ d i, i + d = g → wX_blank_2 post fo fm fr (nI nw) kd nu re sg ot ob ri va f1 g1 f2 g2 hd ct pg us ce pk pn ps wd tp bt ky gv ga gb (d + 1) (nI i) := by
    intro d
    induction d with
    | zero =>
      intro i hi
      obtain rfl : i = g := by omega
      refine And.intro (hk_in hg) (br_t (by rw [hk_cl (by omega)]; exact h0) (hk_st rfl hg hk_vb1 ⟨9, ?_⟩))
      have a := loop 8 0 rfl
      rw [hk_fzn_0] at a
      exact a
    | succ d ih =>
      intro i hi
      exact And.intro (hk_in (by omega)) (br_f (by rw [hk_cl (by omega)]; exact hm i (by omega)) (nm_r (nI_1 _) (ih (i + 1) (by omega))))
  exact ⟨g + 1, key g 0 (by omega)⟩
def hk_cpn (b a n : Nat) (f : Nat → Int32) : Nat → Int32 := fun i => if b ≤ i ∧ i < b + n then f (a + (i - b)) else f i
theorem hk_cpn_0 {b a : Nat} {f : Nat → Int32} : hk_cpn b a 0 f = f := by
  funext i; exact if_neg (by omega)
theorem hk_cpn_s {b a n : Nat} {f : Nat → Int32} (hn : n < 8) (h : a + 8 ≤ b ∨ b + 8 ≤ a) : upd (hk_cpn b a n f) (b + n) (hk_cpn b a n f (a + n)) = hk_cpn b a (n + 1) f := by
  funext i
  by_cases z : i = b + n
  · subst z
    rw [hk_us]
    unfold hk_cpn
    rw [if_neg (by omega), if_pos (by omega)]
    exact congrArg f (by omega)
  · rw [hk_un z]
    unfold hk_cpn
    by_cases y : b ≤ i ∧ i < b + n
    · rw [if_pos y, if_pos (by omega)]
    · rw [if_neg y, if_neg (by omega)]
theorem hk_RP8 {fo fr : Int32} {nw : Nat} {kd re sg ot ob ri va f1 g1 f2 g2 hd ct pg us ce pk pn ps wd tp bt ev pe ow cy rf rn wt vy t1 r1 t2 r2 pa qk qn qs : Nat → Int32} {pg' us' ce' cy' : Nat → Int32} (R : hk_R fo fr nw kd re sg ot ob ri va f1 g1 f2 g2 hd ct pg us ce pk pn ps wd tp bt ev pe ow cy rf rn wt vy t1 r1 t2 r2 pa qk qn qs) (h : hk_P8 kd pg' us' ce' cy') : hk_R fo fr nw kd re sg ot ob ri va f1 g1 f2 g2 hd ct pg' us' ce' pk pn ps wd tp bt ev pe ow cy' rf rn wt vy t1 r1 t2 r2 pa qk qn qs := by
  obtain ⟨K1, K2, K3, K4, K5, K6, KP, K7, K8, K9, KS, KW, KR⟩ := R
  exact ⟨K1, K2, K3, K4, K5, K6, KP, K7, h, K9, KS, KW, KR⟩
theorem hk_storeX {fo fm fr : Int32} {nw : Nat} {kd nu re sg ot ob ri va f1 g1 f2 g2 hd ct pg us ce pk pn ps wd tp bt ky gv ga gb : Nat → Int32} {post : Int32 → SX → Prop} {c o g b : Nat} {v : Int32} (hc : c < 8) (ho : o < 16) (hg : g < 16) (hb : b < 16) (hgb : g ≠ b) {m : Nat} (hus : us g = nI (m + 1)) (hm : m < 100)
    (H : post 0 (fo, fm, fr, nI nw, kd, nu, re, sg, ot, ob, ri, va, f1, g1, f2, g2, hd, ct, upd pg o (nI b), upd us g (us g - 1), upd (hk_cp (8 * b) (8 * g) ce) (8 * b + c) v, pk, pn, ps, wd, tp, bt, ky, gv, ga, gb)) :
    ∃ n, wX_store_85 post (nI c) v (nI o) (nI g) (nI b) fo fm fr (nI nw) n 0 kd nu re sg ot ob ri va f1 g1 f2 g2 hd ct pg us ce pk pn ps wd tp bt ky gv ga gb := by
  have key : ∀ d i, i + d = 8 → wX_store_85 post (nI c) v (nI o) (nI g) (nI b) fo fm fr (nI nw) (d + 1) (nI i) kd nu re sg ot ob ri va f1 g1 f2 g2 hd ct pg us (hk_cpn (8 * b) (8 * g) i ce) pk pn ps wd tp bt ky gv ga gb := by
    intro d
    induction d with
    | zero =>
      intro i hi
      obtain rfl : i = 8 := by omega
      refine br_t (nI_le (a := 8) (Nat.le_refl _) (by decide)) ⟨hk_in hg, hk_st rfl hg (w := us g - 1) ?_ (hk_st rfl ho (hk_vb' (by omega)) (hk_st (hk_8 b c) (by omega) rfl H))⟩
      rw [hk_cl (by omega), hus, nI_pred, hk_vb' (by omega)]
    | succ d ih =>
      intro i hi
      refine br_f (nI_ge (b := 8) (by omega) (by decide)) ⟨by rw [hk_8]; exact hk_in (by omega), hk_st (hk_8 b i) (by omega) rfl (nm_r (nI_1 i) ?_)⟩
      rw [hk_8, hk_cl (by omega), hk_cpn_s (by omega) (by omega)]
      exact ih (i + 1) (by omega)
  have a := key 8 0 rfl
  rw [hk_cpn_0] at a
  exact ⟨9, a⟩
theorem i_vc_store {k : Nat} {u : SX} {v : SY} (I : i_Rel k u v) (hk : k + 6 ≤ 3072) (v1 : Int32) (v2 : Int32) (v3 : Int32) (v4 : Int32) : wpX_store (fun r u' => wpY_store (fun r' v' => r' = r ∧ i_Rel (k + 6) u' v') v v1 v2 v3 v4) u v1 v2 v3 v4 := by
  refine hk_el (P := fun u v => wpX_store (fun r u' => wpY_store (fun r' v' => r' = r ∧ i_Rel (k + 6) u' v') v v1 v2 v3 v4) u v1 v2 v3 v4) ?_ I
  intro fo fm fr nw kd nu re sg ot ob ri va f1 g1 f2 g2 hd ct pg us ce pk pn ps wd tp bt ky gv ga gb ev pe ow cy rf rn wt vy t1 r1 t2 r2 pa qk qn qs R Q Z
  obtain ⟨r, rX, rY, r0⟩ := hk_first (fo := fo) (fm := fm) (fr := fr) (nw := nw) (kd := kd) (nu := nu) (re := re) (sg := sg) (ot := ot) (ob := ob) (ri := ri) (va := va) (f1 := f1) (g1 := g1) (f2 := f2) (g2 := g2) (hd := hd) (ct := ct) (pg := pg) (us := us) (ce := ce) (pk := pk) (pn := pn) (ps := ps) (wd := wd) (tp := tp) (bt := bt) (ky := ky) (gv := gv) (ga := ga) (gb := gb) (ev := ev) (pe := pe) (ow := ow) (cy := cy) (rf := rf) (rn := rn) (wt := wt) (vy := vy) (t1 := t1) (r1 := r1) (t2 := t2) (r2 := r2) (pa := pa) (qk := qk) (qn := qn) (qs := qs) R v1 v2 2 2
  unfold wpX_store
  refine rX _ ?_
  by_cases z : r = 0
  · obtain ⟨p, j, o, hp, rfl, hr, hj, rfl, ho, e1, e2, hl, hw⟩ := r0 z
    have k2 : kd o = 2 := hw (by decide)
    refine br_t z ?_
    rcases hk_rng v3 (n := 8) (by decide) with h | h | ⟨i, hi, rfl⟩
    · refine br_t h ?_
      unfold wpY_store
      exact rY _ (br_t z (br_t h (br_t rfl ⟨rfl, hk_il R Q Z⟩)))
    · refine br_f (hk_notn (by decide) h) (br_f (hk_le7 (n := 7) (by decide) h) ?_)
      unfold wpY_store
      exact rY _ (br_t z (br_f (hk_notn (by decide) h) (br_t (hk_sgt (n := 7) (by decide) h) (br_t rfl ⟨rfl, hk_il R Q Z⟩))))
    · have a1 : ¬ nI i < 0 := hk_n0 (by omega)
      have a2 : nI i ≤ 7 := nI_le (b := 7) (by omega) (by decide)
      have a3 : ¬ (7 : Int32) < nI i := nI_nlt (a := 7) (by omega) (by decide)
      have co : (nI o).toNatClampNeg = o := hk_cl (by omega)
      have io : vp_in (nI o) 16 := hk_in ho
      have K8 := R.2.2.2.2.2.2.2.2.1
      obtain ⟨g, hg, epg, ec⟩ := K8.1 o ho k2
      have cg : (nI g).toNatClampNeg = g := hk_cl (by omega)
      have ig : vp_in (nI g) 16 := hk_in hg
      have Yfin : ∀ (u' : SX), (∀ Y1 : SY, Y1 = (fm, nI nw, kd, nu, ev, pe, ow, upd cy (8 * o + i) v4, rf, ri, rn, gv, ga, gb, wt, vy, t1, r1, t2, r2, pa, qk, qn, qs, wd, bt, tp, ky) → i_Rel (k + 6) u' Y1) → wpY_store (fun r' v' => r' = 0 ∧ i_Rel (k + 6) u' v') (fm, nI nw, kd, nu, ev, pe, ow, cy, rf, ri, rn, gv, ga, gb, wt, vy, t1, r1, t2, r2, pa, qk, qn, qs, wd, bt, tp, ky) (nI p) (nI j) (nI i) v4 := by
        intro u' HI
        unfold wpY_store
        refine rY _ (br_t z (br_f a1 (br_f a3 (br_f (by decide) (hk_objY hp hj e2 (hk_st (hk_8 o i) (by omega) rfl ⟨rfl, HI _ rfl⟩))))))
      refine br_f a1 (br_t a2 (hk_objX hp hj e1 ⟨io, nm_r (e' := nI g) (by rw [co]; exact epg) ⟨ig, ?_⟩⟩))
      rw [cg]
      by_cases u1 : us g ≤ 1
      · refine br_t u1 (hk_st (hk_8 g i) (by omega) rfl (Yfin _ (fun Y1 e => ?_)))
        exact e ▸ hk_il (hk_RP8 R (hk_P8_w1 K8 ho k2 hg epg u1 hi)) Q Z
      · refine br_f u1 ⟨by rw [hk_8]; exact hk_in (by omega), ?_⟩
        rw [hk_8, hk_cl (by omega)]
        by_cases u2 : ce (8 * g + i) = v4
        · refine br_t u2 (hk_st (hk_8 g i) (by omega) rfl (Yfin _ (fun Y1 e => ?_)))
          rw [hk_ui u2.symm, e, hk_ui (u2.symm.trans (ec i hi))]
          exact hk_il R Q Z
        · refine br_f u2 ?_
          obtain ⟨b, hb, ub, um⟩ := hk_page2 K8 hg u1
          have ug := hk_UC_in ho k2 epg
          have ul := hk_UC_le kd pg g
          have u0 := hk_us0 K8 hb ub
          have ngb : g ≠ b := fun e => by rw [e] at ug; omega
          obtain ⟨m, hm⟩ : ∃ m, hk_UC kd pg g = m + 1 := ⟨hk_UC kd pg g - 1, by omega⟩
          have eug : us g = nI (m + 1) := by rw [hk_usU K8 hg, hm]
          have S1 := hk_P8_split K8 ho k2 hg epg hb ub
          have S2 := hk_P8_w1 (v := v4) S1 ho k2 hb hk_us (by rw [hk_un (fun e => ngb e.symm), hk_us]; decide) hi
          refine hk_blankX hb ub um (hk_storeX (m := m) hi ho hg hb ngb (by rw [hk_un ngb]; exact eug) (by omega) (Yfin _ (fun Y1 e => ?_)))
          rw [hk_un ngb, e]
          exact hk_il (hk_RP8 R S2) Q Z
  · refine br_f z ?_
    unfold wpY_store
    exact rY _ (br_f z ⟨rfl, hk_il R Q Z⟩)
end
end
section
section
theorem hk_objsY {fm : Int32} {nw : Nat} {kd nu ev pe ow cy rf ri rn gv ga gb wt vy t1 r1 t2 r2 pa qk qn qs wd bt tp ky : Nat → Int32} {post : Int32 → Prop} (H : post (nI (hk_LC kd))) : wpY_objects post (fm, nI nw, kd, nu, ev, pe, ow, cy, rf, ri, rn, gv, ga, gb, wt, vy, t1, r1, t2, r2, pa, qk, qn, qs, wd, bt, tp, ky) := by
  have key : ∀ d i, i + d = 16 → wY_objects_4 post fm (nI nw) kd nu ev pe ow cy rf ri rn gv ga gb wt vy t1 r1 t2 r2 pa qk qn qs wd bt tp ky (d + 1) (nI (hk_sm (fun o => if kd o < 0 then 0 else 1) i)) (nI i) := by
    intro d
    induction d with
    | zero =>
      intro i hi
      obtain rfl : i = 16 := by omega
      exact br_t (nI_le (a := 16) (Nat.le_refl _) (by decide)) H
    | succ d ih =>
      intro i hi
      have a := ih (i + 1) (by omega)
      rw [hk_sm_s] at a
      refine br_f (nI_ge (b := 16) (by omega) (by decide)) ⟨hk_in (by omega), ?_⟩
      rw [hk_cl (by omega)]
      by_cases z : kd i < 0
      · rw [if_pos z] at a
        exact br_t z (nm_r (nI_1 _) a)
      · rw [if_neg z] at a
        exact br_f z (nm_r (nI_1 _) (nm_r (nI_1 _) a))
  exact ⟨17, key 16 0 rfl⟩
theorem hk_LC_le (kd : Nat → Int32) : hk_LC kd ≤ 16 := by
  have := hk_sm_le (f := fun o => if kd o < 0 then 0 else 1) (b := 1) (n := 16) (fun i _ => by split <;> omega)
  unfold hk_LC
  omega
theorem hk_deadL {kd : Nat → Int32} (h : hk_LC kd < 16) : ∃ o, o < 16 ∧ kd o < 0 ∧ ∀ i, i < o → ¬ kd i < 0 := by
  obtain ⟨k, hk, h1⟩ := hk_sm_lt h
  refine hk_least (P := fun o => kd o < 0) ⟨k, hk, ?_⟩
  by_cases z : kd k < 0
  · exact z
  · rw [if_neg z] at h1; omega
theorem hk_LC_new {kd : Nat → Int32} {o : Nat} {k : Int32} (ho : o < 16) (h0 : kd o < 0) (hk : ¬ k < 0) : hk_LC (upd kd o k) = hk_LC kd + 1 := by
  have a := hk_sm_upd (f := fun x => if kd x < 0 then 0 else 1) (g := fun x => if upd kd o k x < 0 then 0 else 1) (k := o) (n := 16) ho (fun i _ hi => by simp only [hk_un hi])
  simp only [hk_us, if_pos h0, if_neg hk] at a
  unfold hk_LC
  omega
theorem hk_twinY {fm : Int32} {nw : Nat} {kd nu ev pe ow cy rf ri rn gv ga gb wt vy t1 r1 t2 r2 pa qk qn qs wd bt tp ky : Nat → Int32} {post : Int32 → SY → Prop} {p j a b : Nat} (hp : p < 4) (hj : j < 10) (h0 : rf (10 * p + j) = -1) (hm : ∀ i, i < j → ¬ rf (10 * p + i) < 0) (ha : a < 16) (hb : b < 16) (hab : a ≠ b)
    (H : post (nI j) (fm, nI nw, kd, nu, ev, pe, ow, hk_cp (8 * b) (8 * a) cy, upd rf (10 * p + j) (nI b), upd ri (10 * p + j) 63, rn, gv, ga, gb, wt, vy, t1, r1, t2, r2, pa, qk, qn, qs, wd, bt, tp, ky)) : ∃ n, wY_twin_56 post (nI p) (nI a) (nI b) fm (nI nw) n 0 kd nu ev pe ow cy rf ri rn gv ga gb wt vy t1 r1 t2 r2 pa qk qn qs wd bt tp ky := by
  have key : ∀ d i, i + d = 8 → wY_twin_56 post (nI p) (nI a) (nI b) fm (nI nw) (d + 1) (nI i) kd nu ev pe ow (hk_cpn (8 * b) (8 * a) i cy) rf ri rn gv ga gb wt vy t1 r1 t2 r2 pa qk qn qs wd bt tp ky := by
    intro d
    induction d with
    | zero =>
      intro i hi
      obtain rfl : i = 8 := by omega
      exact br_t (nI_le (a := 8) (Nat.le_refl _) (by decide)) (hk_placeY hp hj h0 hm H)
    | succ d ih =>
      intro i hi
      refine br_f (nI_ge (b := 8) (by omega) (by decide)) ⟨by rw [hk_8]; exact hk_in (by omega), hk_st (hk_8 b i) (by omega) rfl (nm_r (nI_1 i) ?_)⟩
      rw [hk_8, hk_cl (by omega), hk_cpn_s (by omega) (by omega)]
      exact ih (i + 1) (by omega)
  have x := key 8 0 rfl
  rw [hk_cpn_0] at x
  exact ⟨9, x⟩
theorem hk_Q0 {m e : Nat} {sg wd bt : Nat → Int32} (Q : hk_Q m sg wd bt) : hk_Q m (upd sg e 0) wd bt := hk_Qless (x := 0) Int32.and_zero.symm Q
theorem hk_e16 {n : Nat} (h : n ≤ 16) : nI n = 16 ↔ n = 16 := hk_eq (b := 16) (by omega) (by decide)
theorem i_vc_twin {k : Nat} {u : SX} {v : SY} (I : i_Rel k u v) (hk : k + 6 ≤ 3072) (v1 : Int32) (v2 : Int32) : wpX_twin (fun r u' => wpY_twin (fun r' v' => r' = r ∧ i_Rel (k + 6) u' v') v v1 v2) u v1 v2 := by
  refine hk_el (P := fun u v => wpX_twin (fun r u' => wpY_twin (fun r' v' => r' = r ∧ i_Rel (k + 6) u' v') v v1 v2) u v1 v2) ?_ I
  intro fo fm fr nw kd nu re sg ot ob ri va f1 g1 f2 g2 hd ct pg us ce pk pn ps wd tp bt ky gv ga gb ev pe ow cy rf rn wt vy t1 r1 t2 r2 pa qk qn qs R Q Z
  obtain ⟨r, rX, rY, r0⟩ := hk_first (fo := fo) (fm := fm) (fr := fr) (nw := nw) (kd := kd) (nu := nu) (re := re) (sg := sg) (ot := ot) (ob := ob) (ri := ri) (va := va) (f1 := f1) (g1 := g1) (f2 := f2) (g2 := g2) (hd := hd) (ct := ct) (pg := pg) (us := us) (ce := ce) (pk := pk) (pn := pn) (ps := ps) (wd := wd) (tp := tp) (bt := bt) (ky := ky) (gv := gv) (ga := ga) (gb := gb) (ev := ev) (pe := pe) (ow := ow) (cy := cy) (rf := rf) (rn := rn) (wt := wt) (vy := vy) (t1 := t1) (r1 := r1) (t2 := t2) (r2 := r2) (pa := pa) (qk := qk) (qn := qn) (qs := qs) R v1 v2 2 5
  unfold wpX_twin
  refine rX _ ?_
  by_cases z : r = 0
  · obtain ⟨p, j, o, hp, rfl, hr, hj, rfl, ho, e1, e2, hl, hw⟩ := r0 z
    have k2 : kd o = 2 := hw (by decide)
    have K2 : fo = nI (hk_LC kd) := R.2.1
    have LL := hk_LC_le kd
    refine br_t z ?_
    by_cases f16 : hk_LC kd = 16
    · have f16' : nI (hk_LC kd) = 16 := by rw [f16]; rfl
      refine br_t (K2.trans f16') ?_
      unfold wpY_twin
      exact rY _ (br_t z (hk_objsY (br_t f16' ⟨rfl, hk_il R Q Z⟩)))
    · have f16' : ¬ nI (hk_LC kd) = 16 := by rw [hk_e16 LL]; exact f16
      obtain ⟨mX, mY⟩ := hk_room (fo := fo) (fm := fm) (fr := fr) (nw := nw) (kd := kd) (nu := nu) (re := re) (sg := sg) (ot := ot) (ob := ob) (ri := ri) (va := va) (f1 := f1) (g1 := g1) (f2 := f2) (g2 := g2) (hd := hd) (ct := ct) (pg := pg) (us := us) (ce := ce) (pk := pk) (pn := pn) (ps := ps) (wd := wd) (tp := tp) (bt := bt) (ky := ky) (gv := gv) (ga := ga) (gb := gb) (ev := ev) (pe := pe) (ow := ow) (cy := cy) (rf := rf) (rn := rn) (wt := wt) (vy := vy) (t1 := t1) (r1 := r1) (t2 := t2) (r2 := r2) (pa := pa) (qk := qk) (qn := qn) (qs := qs) R hp
      have ml := hk_RM_le rf p
      refine br_f (fun e => f16' (K2.symm.trans e)) (mX _ ?_)
      by_cases y : hk_RM rf p = 0
      · have y' : nI (hk_RM rf p) = 0 := by rw [y]; rfl
        refine br_t y' ?_
        unfold wpY_twin
        exact rY _ (br_t z (hk_objsY (br_f f16' (mY _ (br_t y' ⟨rfl, hk_il R Q Z⟩)))))
      · have y' : ¬ nI (hk_RM rf p) = 0 := by rw [hk_e0 (by omega)]; exact y
        obtain ⟨i, hi, c0, c1, c2, c3⟩ := hk_place R.2.2.2.1 hp (by omega)
        obtain ⟨q, hq, d0, dm⟩ := hk_deadL (by omega : hk_LC kd < 16)
        have K8 := R.2.2.2.2.2.2.2.2.1
        obtain ⟨g, hg, epg, ec⟩ := K8.1 o ho k2
        have ul := hk_UC_le kd pg g
        have co : (nI o).toNatClampNeg = o := hk_cl (by omega)
        have noq : o ≠ q := fun e => hl (e ▸ d0)
        have R1 := hk_crea R (k := 2) (xo := -1) (xp := -1) (xw := -1) (s := 0) hq d0 (by unfold hk_K; decide) (by decide) (fun e => absurd e (by decide)) (hk_P8_twin K8 hq d0 ho k2 hg epg) (fun e => absurd e (by decide)) (hk_S_2 hk_us).symm ⟨0, by decide, rfl⟩
        have R2 := hk_grant R1 (h := 10 * p + i) (o := q) (r := 63) (by omega) c1 hq (by rw [hk_us]; decide) ⟨63, by decide, rfl⟩
        have eu : vp_nar .byte ((us g + 1).toInt8.toInt32) = us g + 1 := by rw [hk_usU K8 hg, nI_1, hk_vb' (by omega)]
        refine br_f y' (hk_objX hp hj e1 ⟨hk_in ho, nm_r (e' := nI g) (by rw [co]; exact epg) (hk_creX (k := 2) hq d0 dm (by decide) (hk_st rfl hq (hk_vb' (by omega)) ⟨hk_in hg, hk_st rfl hg (w := us g + 1) (by rw [hk_cl (by omega)]; exact eu) ?_⟩))⟩)
        refine hk_grantX (r := 63) (m := 0) hp hi c0 c2 hq (by decide) hk_us (by decide) ?_
        unfold wpY_twin
        refine rY _ (br_t z (hk_objsY (br_f f16' (mY _ (br_f y' (hk_objY hp hj e2 (hk_creY hq d0 dm (hk_twinY hp hi c1 c3 ho hq noq ⟨rfl, ?_⟩))))))))
        exact hk_il R2 (hk_Q0 Q) (hk_Zup Z hp hi hr)
  · refine br_f z ?_
    unfold wpY_twin
    exact rY _ (br_f z ⟨rfl, hk_il R Q Z⟩)
end
end
section
section
theorem hk_u4 {f : Nat → Int32} {o q : Nat} {x y a b : Int32} (h : o ≠ q) : upd (upd (upd (upd f o x) q y) o a) q b = upd (upd f o a) q b := by
  rw [hk_uc (f := upd f o x) (fun e => h e.symm), hk_uu, hk_uu]
theorem hk_addle {a b : Nat} (ha : a ≤ 16) (hb : b ≤ 2) : nI a + nI b ≤ 16 ↔ a + b ≤ 16 := by
  rw [nI_add]; exact hk_le (b := 16) (by omega) (by decide)
/-- what is not an end is made -/
theorem hk_make1 {fo fm fr : Int32} {nw : Nat} {kd nu re sg ot ob ri va f1 g1 f2 g2 hd ct pg us ce pk pn ps wd tp bt ky gv ga gb ev pe ow cy rf rn wt vy t1 r1 t2 r2 pa qk qn qs : Nat → Int32} (R : hk_R fo fr nw kd re sg ot ob ri va f1 g1 f2 g2 hd ct pg us ce pk pn ps wd tp bt ev pe ow cy rf rn wt vy t1 r1 t2 r2 pa qk qn qs) (Q : hk_Q nw sg wd bt) (Z : hk_Z rn rf) {k p i : Nat} (hp : p < 4) (hr : ¬ rn p = 0) (hi : i < 4) (h1 : i ≠ 1)
    (Yin : ∀ (post : Int32 → SY → Prop), wY_make_32 post (nI p) (nI i) 1 fm (nI nw) kd nu ev pe ow cy rf ri rn gv ga gb wt vy t1 r1 t2 r2 pa qk qn qs wd bt tp ky → wpY_make post (fm, nI nw, kd, nu, ev, pe, ow, cy, rf, ri, rn, gv, ga, gb, wt, vy, t1, r1, t2, r2, pa, qk, qn, qs, wd, bt, tp, ky) (nI p) (nI i)) :
    wX_make_32 (fun r u' => wpY_make (fun r' v' => r' = r ∧ i_Rel k u' v') (fm, nI nw, kd, nu, ev, pe, ow, cy, rf, ri, rn, gv, ga, gb, wt, vy, t1, r1, t2, r2, pa, qk, qn, qs, wd, bt, tp, ky) (nI p) (nI i)) (nI p) (nI i) 1 fo fm fr (nI nw) kd nu re sg ot ob ri va f1 g1 f2 g2 hd ct pg us ce pk pn ps wd tp bt ky gv ga gb := by
  have K2 : fo = nI (hk_LC kd) := R.2.1
  have LL := hk_LC_le kd
  have n1 : ¬ nI i = 1 := hk_nIne (b := 1) (by omega) (by decide) h1
  obtain ⟨mX, mY⟩ := hk_room (fo := fo) (fm := fm) (fr := fr) (nw := nw) (kd := kd) (nu := nu) (re := re) (sg := sg) (ot := ot) (ob := ob) (ri := ri) (va := va) (f1 := f1) (g1 := g1) (f2 := f2) (g2 := g2) (hd := hd) (ct := ct) (pg := pg) (us := us) (ce := ce) (pk := pk) (pn := pn) (ps := ps) (wd := wd) (tp := tp) (bt := bt) (ky := ky) (gv := gv) (ga := ga) (gb := gb) (ev := ev) (pe := pe) (ow := ow) (cy := cy) (rf := rf) (rn := rn) (wt := wt) (vy := vy) (t1 := t1) (r1 := r1) (t2 := t2) (r2 := r2) (pa := pa) (qk := qk) (qn := qn) (qs := qs) R hp
  have ml := hk_RM_le rf p
  have fo1 : fo + 1 ≤ 16 ↔ hk_LC kd + 1 ≤ 16 := by rw [K2]; exact hk_addle (b := 1) LL (by decide)
  have fo1' : nI (hk_LC kd) + 1 ≤ 16 ↔ hk_LC kd + 1 ≤ 16 := hk_addle (b := 1) LL (by decide)
  unfold wX_make_32
  by_cases f16 : hk_LC kd + 1 ≤ 16
  · refine br_t (fo1.mpr f16) (mX _ ?_)
    by_cases y : 1 ≤ hk_RM rf p
    · have y' : (1 : Int32) ≤ nI (hk_RM rf p) := nI_le (a := 1) y (by omega)
      obtain ⟨j, hj, c0, c1, c2, c3⟩ := hk_place R.2.2.2.1 hp (by omega)
      obtain ⟨o, ho, d0, dm⟩ := hk_deadL (by omega : hk_LC kd < 16)
      have K8 := R.2.2.2.2.2.2.2.2.1
      have nd : ∀ {m : Nat}, m < 4 → ¬ nI m < 0 := fun h => hk_n0 (by omega)
      have hKi : hk_K (nI i) := by
        have : i = 0 ∨ i = 1 ∨ i = 2 ∨ i = 3 := by omega
        rcases this with rfl | rfl | rfl | rfl
        · exact Or.inr (Or.inl rfl)
        · exact Or.inr (Or.inr (Or.inl rfl))
        · exact Or.inr (Or.inr (Or.inr (Or.inl rfl)))
        · exact Or.inr (Or.inr (Or.inr (Or.inr (Or.inl rfl))))
      have n4 : ¬ nI i = 4 := hk_nIne (b := 4) (by omega) (by decide) (by omega)
      have hS : (0 : Int32) = hk_S (upd kd o (nI i)) (upd ev o 0) (upd wt o 0) (upd pe o (-1)) (upd pa o 0) (upd ow o (-1)) rn o := by
        have : i = 0 ∨ i = 2 ∨ i = 3 := by omega
        rcases this with rfl | rfl | rfl
        · rw [hk_S_0 (show upd kd o (nI 0) o = 0 from hk_us), hk_us]
        · rw [hk_S_2 (show upd kd o (nI 2) o = 2 from hk_us)]
        · rw [hk_S_3 (show upd kd o (nI 3) o = 3 from hk_us), hk_us, if_pos (by decide)]
      refine br_t y' (hk_creX (k := i) ho d0 dm (by omega) (hk_grantX (r := 63) (m := 0) hp hj c0 c2 ho (by decide) hk_us (by decide) ?_))
      have Yfin : ∀ (u' : SX), (∀ Y1 : SY, Y1 = (fm + 1, nI nw, upd kd o (nI i), upd nu o fm, upd ev o 0, upd pe o (-1), upd ow o (-1), hk_fz (8 * o) cy, upd rf (10 * p + j) (nI o), upd ri (10 * p + j) (nI 63), rn, gv, ga, gb, upd wt o 0, vy, t1, r1, t2, r2, upd pa o 0, qk, qn, qs, wd, bt, tp, ky) → i_Rel k u' Y1) → wpY_make (fun r' v' => r' = nI j ∧ i_Rel k u' v') (fm, nI nw, kd, nu, ev, pe, ow, cy, rf, ri, rn, gv, ga, gb, wt, vy, t1, r1, t2, r2, pa, qk, qn, qs, wd, bt, tp, ky) (nI p) (nI i) := by
        intro u' HI
        refine Yin _ ?_
        unfold wY_make_32
        exact hk_objsY (br_t (fo1'.mpr f16) (mY _ (br_t y' (hk_creY ho d0 dm (hk_placeY hp hj c1 c3 (br_f n1 ⟨rfl, HI _ rfl⟩))))))
      by_cases i2 : i = 2
      · subst i2
        obtain ⟨g, hg, ug, um⟩ := hk_page1 K8 ho (hk_d2 d0)
        have R1 := hk_crea R (k := nI 2) (xo := -1) (xp := -1) (xw := -1) (s := 0) ho d0 hKi (nd (by decide)) (fun e => absurd e n1) (hk_P8_new K8 ho d0 hg ug) (fun e => absurd e n4) hS ⟨0, by decide, rfl⟩
        have R2 := hk_grant R1 (h := 10 * p + j) (o := o) (r := nI 63) (by omega) c1 ho (by rw [hk_us]; exact nd (by decide)) ⟨63, by decide, rfl⟩
        refine br_t rfl (hk_blankX hg ug um (hk_st rfl ho (hk_vb' (by omega)) (br_f n1 (Yfin _ (fun Y1 e => ?_)))))
        exact e ▸ hk_il R2 (hk_Q0 Q) (hk_Zup Z hp hj hr)
      · have i2' : ¬ nI i = 2 := hk_nIne (b := 2) (by omega) (by decide) i2
        have R1 := hk_crea R (k := nI i) (xo := -1) (xp := -1) (xw := -1) (s := 0) ho d0 hKi (nd hi) (fun e => absurd e n1) (hk_P8_none K8 ho (hk_d2 d0) i2' (cy' := hk_fz (8 * o) cy) (fun _ h => hk_fz_out h)) (fun e => absurd e n4) hS ⟨0, by decide, rfl⟩
        have R2 := hk_grant R1 (h := 10 * p + j) (o := o) (r := nI 63) (by omega) c1 ho (by rw [hk_us]; exact nd hi) ⟨63, by decide, rfl⟩
        refine br_f i2' (br_f n1 (Yfin _ (fun Y1 e => ?_)))
        exact e ▸ hk_il R2 (hk_Q0 Q) (hk_Zup Z hp hj hr)
    · have y' : ¬ (1 : Int32) ≤ nI (hk_RM rf p) := nI_ge (b := 1) (by omega) (by decide)
      refine br_f y' (Yin _ ?_)
      unfold wY_make_32
      exact hk_objsY (br_t (fo1'.mpr f16) (mY _ (br_f y' ⟨rfl, hk_il R Q Z⟩)))
  · refine br_f (fun e => f16 (fo1.mp e)) (Yin _ ?_)
    unfold wY_make_32
    exact hk_objsY (br_f (fun e => f16 (fo1'.mp e)) ⟨rfl, hk_il R Q Z⟩)
/-- two ends are made -/
theorem hk_make2 {fo fm fr : Int32} {nw : Nat} {kd nu re sg ot ob ri va f1 g1 f2 g2 hd ct pg us ce pk pn ps wd tp bt ky gv ga gb ev pe ow cy rf rn wt vy t1 r1 t2 r2 pa qk qn qs : Nat → Int32} (R : hk_R fo fr nw kd re sg ot ob ri va f1 g1 f2 g2 hd ct pg us ce pk pn ps wd tp bt ev pe ow cy rf rn wt vy t1 r1 t2 r2 pa qk qn qs) (Q : hk_Q nw sg wd bt) (Z : hk_Z rn rf) {k p : Nat} (hp : p < 4) (hr : ¬ rn p = 0)
    (Yin : ∀ (post : Int32 → SY → Prop), wY_make_32 post (nI p) (nI 1) 2 fm (nI nw) kd nu ev pe ow cy rf ri rn gv ga gb wt vy t1 r1 t2 r2 pa qk qn qs wd bt tp ky → wpY_make post (fm, nI nw, kd, nu, ev, pe, ow, cy, rf, ri, rn, gv, ga, gb, wt, vy, t1, r1, t2, r2, pa, qk, qn, qs, wd, bt, tp, ky) (nI p) (nI 1)) :
    wX_make_32 (fun r u' => wpY_make (fun r' v' => r' = r ∧ i_Rel k u' v') (fm, nI nw, kd, nu, ev, pe, ow, cy, rf, ri, rn, gv, ga, gb, wt, vy, t1, r1, t2, r2, pa, qk, qn, qs, wd, bt, tp, ky) (nI p) (nI 1)) (nI p) (nI 1) 2 fo fm fr (nI nw) kd nu re sg ot ob ri va f1 g1 f2 g2 hd ct pg us ce pk pn ps wd tp bt ky gv ga gb := by
  have K2 : fo = nI (hk_LC kd) := R.2.1
  have LL := hk_LC_le kd
  obtain ⟨mX, mY⟩ := hk_room (fo := fo) (fm := fm) (fr := fr) (nw := nw) (kd := kd) (nu := nu) (re := re) (sg := sg) (ot := ot) (ob := ob) (ri := ri) (va := va) (f1 := f1) (g1 := g1) (f2 := f2) (g2 := g2) (hd := hd) (ct := ct) (pg := pg) (us := us) (ce := ce) (pk := pk) (pn := pn) (ps := ps) (wd := wd) (tp := tp) (bt := bt) (ky := ky) (gv := gv) (ga := ga) (gb := gb) (ev := ev) (pe := pe) (ow := ow) (cy := cy) (rf := rf) (rn := rn) (wt := wt) (vy := vy) (t1 := t1) (r1 := r1) (t2 := t2) (r2 := r2) (pa := pa) (qk := qk) (qn := qn) (qs := qs) R hp
  have ml := hk_RM_le rf p
  have fo1 : fo + 2 ≤ 16 ↔ hk_LC kd + 2 ≤ 16 := by rw [K2]; exact hk_addle (b := 2) LL (by decide)
  have fo1' : nI (hk_LC kd) + 2 ≤ 16 ↔ hk_LC kd + 2 ≤ 16 := hk_addle (b := 2) LL (by decide)
  unfold wX_make_32
  by_cases f16 : hk_LC kd + 2 ≤ 16
  · refine br_t (fo1.mpr f16) (mX _ ?_)
    by_cases y : 2 ≤ hk_RM rf p
    · have y' : (2 : Int32) ≤ nI (hk_RM rf p) := nI_le (a := 2) y (by omega)
      obtain ⟨j, hj, c0, c1, c2, c3⟩ := hk_place R.2.2.2.1 hp (by omega)
      obtain ⟨o, ho, d0, dm⟩ := hk_deadL (by omega : hk_LC kd < 16)
      have K8 := R.2.2.2.2.2.2.2.2.1
      have R1 := hk_crea R (k := nI 1) (xo := -1) (xp := -1) (xw := -1) (s := 512) ho d0 (Or.inr (Or.inr (Or.inl rfl))) (by decide) (fun _ => ⟨rfl, rfl⟩) (hk_P8_none K8 ho (hk_d2 d0) (by decide) (cy' := hk_fz (8 * o) cy) (fun _ h => hk_fz_out h)) (fun e => absurd e (by decide)) (by rw [hk_S_1 (show upd kd o (nI 1) o = 1 from hk_us), hk_us, hk_us]; decide) ⟨512, by decide, rfl⟩
      have R2 := hk_grant R1 (h := 10 * p + j) (o := o) (r := nI 63) (by omega) c1 ho (by rw [hk_us]; decide) ⟨63, by decide, rfl⟩
      have lc := hk_LC_new (k := nI 1) ho d0 (by decide)
      obtain ⟨q, hq, d1, dm1⟩ := hk_deadL (kd := upd kd o (nI 1)) (by omega)
      have noq : o ≠ q := fun e => by rw [← e, hk_us] at d1; exact absurd d1 (by decide)
      have nqo : q ≠ o := fun e => noq e.symm
      have rm := hk_RM_up (rf := rf) (p := p) (x := nI o) hj (by rw [c1]; exact hk_m1lt) (hk_n0 (by omega))
      obtain ⟨j2, hj2, b0, b1, b2, b3⟩ := hk_place R2.2.2.2.1 hp (by omega)
      have R3 := hk_crea R2 (k := nI 1) (xo := -1) (xp := -1) (xw := -1) (s := 512) hq d1 (Or.inr (Or.inr (Or.inl rfl))) (by decide) (fun _ => ⟨rfl, rfl⟩) (hk_P8_none R2.2.2.2.2.2.2.2.2.1 hq (hk_d2 d1) (by decide) (cy' := hk_fz (8 * q) (hk_fz (8 * o) cy)) (fun _ h => hk_fz_out h)) (fun e => absurd e (by decide)) (by rw [hk_S_1 (show upd (upd kd o (nI 1)) q (nI 1) q = 1 from hk_us), hk_us, hk_us]; decide) ⟨512, by decide, rfl⟩
      have R4 := hk_link R3 (o := o) (q := q) ho hq noq (by rw [hk_un noq, hk_us]; rfl) (by rw [hk_us]; rfl) (by rw [hk_un noq, hk_us]) hk_us (by rw [hk_un noq, hk_us]) hk_us
      rw [hk_u4 noq] at R4
      have R5 := hk_grant R4 (h := 10 * p + j2) (o := q) (r := nI 63) (by omega) b1 hq (by rw [hk_us]; decide) ⟨63, by decide, rfl⟩
      refine br_t y' (hk_creX (k := 1) ho d0 dm (by omega) (hk_grantX (r := 63) (m := 0) hp hj c0 c2 ho (by decide) hk_us (by decide) (br_f (by decide) (br_t rfl ?_))))
      refine hk_creX (k := 1) hq d1 dm1 (by omega) (hk_st rfl ho (hk_vb' (by omega)) (hk_st rfl hq (hk_vb' (by omega)) (hk_grantX (r := 63) (m := 0) hp hj2 b0 b2 hq (by decide) hk_us (by decide) (Yin _ ?_))))
      unfold wY_make_32
      refine hk_objsY (br_t (fo1'.mpr f16) (mY _ (br_t y' (hk_creY ho d0 dm (hk_placeY hp hj c1 c3 (br_t rfl (hk_creY hq d1 dm1 (hk_placeY hp hj2 b1 b3 (hk_st rfl ho rfl (hk_st rfl hq rfl ⟨?_, ?_⟩))))))))))
      · exact Int32.add_comm _ _
      · exact hk_il R5 (hk_Q0 (hk_Q0 Q)) (hk_Zup (hk_Zup Z hp hj hr) hp hj2 hr)
    · have y' : ¬ (2 : Int32) ≤ nI (hk_RM rf p) := nI_ge (b := 2) (by omega) (by decide)
      refine br_f y' (Yin _ ?_)
      unfold wY_make_32
      exact hk_objsY (br_t (fo1'.mpr f16) (mY _ (br_f y' ⟨rfl, hk_il R Q Z⟩)))
  · refine br_f (fun e => f16 (fo1.mp e)) (Yin _ ?_)
    unfold wY_make_32
    exact hk_objsY (br_f (fun e => f16 (fo1'.mp e)) ⟨rfl, hk_il R Q Z⟩)
theorem i_vc_make {k : Nat} {u : SX} {v : SY} (I : i_Rel k u v) (hk : k + 6 ≤ 3072) (v1 : Int32) (v2 : Int32) : wpX_make (fun r u' => wpY_make (fun r' v' => r' = r ∧ i_Rel (k + 6) u' v') v v1 v2) u v1 v2 := by
  refine hk_el (P := fun u v => wpX_make (fun r u' => wpY_make (fun r' v' => r' = r ∧ i_Rel (k + 6) u' v') v v1 v2) u v1 v2) ?_ I
  intro fo fm fr nw kd nu re sg ot ob ri va f1 g1 f2 g2 hd ct pg us ce pk pn ps wd tp bt ky gv ga gb ev pe ow cy rf rn wt vy t1 r1 t2 r2 pa qk qn qs R Q Z
  obtain ⟨r, rX, rY, r0⟩ := hk_runs (fo := fo) (fm := fm) (fr := fr) (nw := nw) (kd := kd) (nu := nu) (re := re) (sg := sg) (ot := ot) (ob := ob) (ri := ri) (va := va) (f1 := f1) (g1 := g1) (f2 := f2) (g2 := g2) (hd := hd) (ct := ct) (pg := pg) (us := us) (ce := ce) (pk := pk) (pn := pn) (ps := ps) (wd := wd) (tp := tp) (bt := bt) (ky := ky) (gv := gv) (ga := ga) (gb := gb) (ev := ev) (pe := pe) (ow := ow) (cy := cy) (rf := rf) (rn := rn) (wt := wt) (vy := vy) (t1 := t1) (r1 := r1) (t2 := t2) (r2 := r2) (pa := pa) (qk := qk) (qn := qn) (qs := qs) R v1
  unfold wpX_make
  refine rX _ ?_
  by_cases z : r = 0
  · refine br_t z ?_
    unfold wpY_make
    exact rY _ (br_t z ⟨rfl, hk_il R Q Z⟩)
  · obtain ⟨p, hp, rfl, hr⟩ := r0 z
    refine br_f z ?_
    rcases hk_rng v2 (n := 4) (by decide) with h | h | ⟨i, hi, rfl⟩
    · refine br_t h ?_
      unfold wpY_make
      exact rY _ (br_f z (br_t h (br_t rfl ⟨rfl, hk_il R Q Z⟩)))
    · refine br_f (hk_notn (by decide) h) (br_f (hk_le7 (n := 3) (by decide) h) ?_)
      unfold wpY_make
      exact rY _ (br_f z (br_f (hk_notn (by decide) h) (br_t (hk_sgt (n := 3) (by decide) h) (br_t rfl ⟨rfl, hk_il R Q Z⟩))))
    · have a1 : ¬ nI i < 0 := hk_n0 (by omega)
      have a2 : nI i ≤ 3 := nI_le (b := 3) (by omega) (by decide)
      have a3 : ¬ (3 : Int32) < nI i := nI_nlt (a := 3) (by omega) (by decide)
      refine br_f a1 (br_t a2 ?_)
      by_cases i1 : i = 1
      · subst i1
        refine br_t rfl (hk_make2 R Q Z hp hr (fun post H => ?_))
        unfold wpY_make
        exact rY _ (br_f z (br_f a1 (br_f a3 (br_f (by decide) (br_t rfl H)))))
      · have i1' : ¬ nI i = 1 := hk_nIne (b := 1) (by omega) (by decide) i1
        refine br_f i1' (hk_make1 R Q Z hp hr hi i1 (fun post H => ?_))
        unfold wpY_make
        exact rY _ (br_f z (br_f a1 (br_f a3 (br_f (by decide) (br_f i1' H)))))
end
end
section
section
/-- the test of a handle that may be missing -/
theorem hk_opt {fo fm fr : Int32} {nw : Nat} {kd nu re sg ot ob ri va f1 g1 f2 g2 hd ct pg us ce pk pn ps wd tp bt ky gv ga gb ev pe ow cy rf rn wt vy t1 r1 t2 r2 pa qk qn qs : Nat → Int32} (R : hk_R fo fr nw kd re sg ot ob ri va f1 g1 f2 g2 hd ct pg us ce pk pn ps wd tp bt ev pe ow cy rf rn wt vy t1 r1 t2 r2 pa qk qn qs) {p : Nat} (hp : p < 4) (a : Int32) {r : Int32} (hr : r = 0) : ∃ ra, (∀ K : Int32 → Prop, K ra → ((a = -1 → K r) ∧ (¬ a = -1 → wpX_test (fun x => K x) (fo, fm, fr, nI nw, kd, nu, re, sg, ot, ob, ri, va, f1, g1, f2, g2, hd, ct, pg, us, ce, pk, pn, ps, wd, tp, bt, ky, gv, ga, gb) (nI p) a (-1) 8))) ∧
    (∀ K : Int32 → Prop, K ra → ((a = -1 → K r) ∧ (¬ a = -1 → wpY_test (fun x => K x) (fm, nI nw, kd, nu, ev, pe, ow, cy, rf, ri, rn, gv, ga, gb, wt, vy, t1, r1, t2, r2, pa, qk, qn, qs, wd, bt, tp, ky) (nI p) a (-1) 8))) ∧
    (ra = 0 → a = -1 ∨ ∃ j o, j < 10 ∧ a = nI j ∧ o < 16 ∧ ob (10 * p + j) = nI (o + 1) ∧ rf (10 * p + j) = nI o ∧ ¬ kd o < 0) := by
  by_cases z : a = -1
  · exact ⟨r, fun K h => br_t z h, fun K h => br_t z h, fun _ => Or.inl z⟩
  · obtain ⟨ra, aX, aY, a0⟩ := hk_test (fo := fo) (fm := fm) (fr := fr) (nw := nw) (kd := kd) (nu := nu) (re := re) (sg := sg) (ot := ot) (ob := ob) (ri := ri) (va := va) (f1 := f1) (g1 := g1) (f2 := f2) (g2 := g2) (hd := hd) (ct := ct) (pg := pg) (us := us) (ce := ce) (pk := pk) (pn := pn) (ps := ps) (wd := wd) (tp := tp) (bt := bt) (ky := ky) (gv := gv) (ga := ga) (gb := gb) (ev := ev) (pe := pe) (ow := ow) (cy := cy) (rf := rf) (rn := rn) (wt := wt) (vy := vy) (t1 := t1) (r1 := r1) (t2 := t2) (r2 := r2) (pa := pa) (qk := qk) (qn := qn) (qs := qs) R hp a (-1) 8
    refine ⟨ra, fun K h => br_f z (aX _ h), fun K h => br_f z (aY _ h), fun e => Or.inr ?_⟩
    obtain ⟨j, o, h1, h2, h3, h4, h5, h6, -⟩ := a0 e
    exact ⟨j, o, h1, h2, h3, h4, h5, h6⟩
def hk_av (p : Nat) (ob rf ri : Nat → Int32) (a x y s : Int32) (i : Nat) : Prop := (a = -1 ∧ x = 0 ∧ y = -1 ∧ s = 0) ∨ (∃ j, j < 10 ∧ a = nI j ∧ i = 10 * p + j ∧ x = ob i ∧ y = rf i ∧ s = ri i)
def hk_cx (a : Int32) (i : Nat) (z : Int32) (f : Nat → Int32) : Nat → Int32 := if a < 0 then f else upd f i z
theorem hk_av_o {p i : Nat} {ob rf ri : Nat → Int32} {a x y s : Int32} (hp : p < 4) (V : hk_av p ob rf ri a x y s i) {P : Int32 → Prop} (H : P x) : (0 ≤ a → (vp_in (10 * nI p + a) 40 ∧ P (ob (10 * nI p + a).toNatClampNeg))) ∧ (¬ 0 ≤ a → P 0) := by
  rcases V with ⟨rfl, rfl, rfl, rfl⟩ | ⟨j, hj, rfl, rfl, rfl, rfl, rfl⟩
  · exact br_f hk_m1le H
  · refine br_t (hk_0l (by omega)) ?_
    rw [hk_10, hk_cl (by omega)]
    exact ⟨hk_in (by omega), H⟩
theorem hk_av_s {p i : Nat} {ob rf ri : Nat → Int32} {a x y s : Int32} (hp : p < 4) (V : hk_av p ob rf ri a x y s i) {P : Int32 → Prop} (H : P s) : (0 ≤ a → (vp_in (10 * nI p + a) 40 ∧ P (ri (10 * nI p + a).toNatClampNeg))) ∧ (¬ 0 ≤ a → P 0) := by
  rcases V with ⟨rfl, rfl, rfl, rfl⟩ | ⟨j, hj, rfl, rfl, rfl, rfl, rfl⟩
  · exact br_f hk_m1le H
  · refine br_t (hk_0l (by omega)) ?_
    rw [hk_10, hk_cl (by omega)]
    exact ⟨hk_in (by omega), H⟩
theorem hk_av_c {p i : Nat} {ob rf ri f : Nat → Int32} {a x y s v w : Int32} (hp : p < 4) (V : hk_av p ob rf ri a x y s i) (hv : v = w) {P : (Nat → Int32) → Prop} (H : P (hk_cx a i w f)) : (a < 0 → P f) ∧ (¬ a < 0 → (vp_in (10 * nI p + a) 40 ∧ ∀ z, z = upd f (10 * nI p + a).toNatClampNeg v → P z)) := by
  subst hv
  unfold hk_cx at H
  rcases V with ⟨rfl, rfl, rfl, rfl⟩ | ⟨j, hj, rfl, rfl, rfl, rfl, rfl⟩
  · rw [if_pos hk_m1lt] at H; exact br_t hk_m1lt H
  · have n := hk_n0 (a := j) (by omega)
    rw [if_neg n] at H
    exact br_f n (hk_st (hk_10 p j) (by omega) rfl H)
theorem hk_av_y {fm : Int32} {nw : Nat} {kd nu ev pe ow cy rf ri rn gv ga gb wt vy t1 r1 t2 r2 pa qk qn qs wd bt tp ky : Nat → Int32} {p i : Nat} {ob : Nat → Int32} {a x y s : Int32} (hp : p < 4) (V : hk_av p ob rf ri a x y s i) {P : Int32 → Prop} (H : P y) : (0 ≤ a → wpY_object (fun r => P r) (fm, nI nw, kd, nu, ev, pe, ow, cy, rf, ri, rn, gv, ga, gb, wt, vy, t1, r1, t2, r2, pa, qk, qn, qs, wd, bt, tp, ky) (nI p) a) ∧ (¬ 0 ≤ a → P (-1)) := by
  rcases V with ⟨rfl, rfl, rfl, rfl⟩ | ⟨j, hj, rfl, rfl, rfl, rfl, rfl⟩
  · exact br_f hk_m1le H
  · refine br_t (hk_0l (by omega)) ?_
    exact hk_rd (f := rf) (P := fun x => P x) (hk_10 p j) (by omega) rfl H
theorem hk_av_H {p i : Nat} {kd ob rf ri : Nat → Int32} {a x y s : Int32} (hp : p < 4) (K4 : hk_P4 kd ob rf) (KR : hk_PR ri) (V : hk_av p ob rf ri a x y s i) : hk_H kd x y ∧ hk_V 64 s := by
  rcases V with ⟨rfl, rfl, rfl, rfl⟩ | ⟨j, hj, rfl, rfl, rfl, rfl, rfl⟩
  · exact ⟨Or.inl ⟨rfl, rfl⟩, 0, by decide, rfl⟩
  · exact ⟨K4 _ (by omega), KR _⟩
theorem hk_cx_4 {kd ob rf : Nat → Int32} {a : Int32} {i : Nat} (K4 : hk_P4 kd ob rf) : hk_P4 kd (hk_cx a i 0 ob) (hk_cx a i (-1) rf) := by
  unfold hk_cx
  by_cases z : a < 0
  · rw [if_pos z, if_pos z]; exact K4
  · rw [if_neg z, if_neg z]; exact hk_P4_up K4 (Or.inl ⟨rfl, rfl⟩)
theorem hk_cx_Z {rn rf : Nat → Int32} {a : Int32} {i : Nat} (Z : hk_Z rn rf) : hk_Z rn (hk_cx a i (-1) rf) := by
  unfold hk_cx
  by_cases z : a < 0
  · rw [if_pos z]; exact Z
  · rw [if_neg z]; exact hk_Zdrop Z
theorem hk_cx_HC {p i o : Nat} {ob rf ri g : Nat → Int32} {a x y s : Int32} (hp : p < 4) (ho : o < 16) (V : hk_av p ob rf ri a x y s i) (hg : ¬ a < 0 → g i = rf i) : hk_HC (hk_cx a i (-1) g) o + (if y = nI o then 1 else 0) = hk_HC g o := by
  unfold hk_cx
  have n1 : ¬ (-1 : Int32) = nI o := fun z => hk_nm1 (a := o) (by omega) z.symm
  rcases V with ⟨rfl, rfl, rfl, rfl⟩ | ⟨j, hj, rfl, rfl, rfl, rfl, rfl⟩
  · rw [if_pos hk_m1lt, if_neg n1]; omega
  · have n := hk_n0 (a := j) (by omega)
    rw [if_neg n]
    have a := hk_HC_up (rf := g) (h := 10 * p + j) (o := o) (y := -1) (by omega)
    rw [if_neg (c := (-1 : Int32) = nI o) n1, hg n] at a
    omega
theorem hk_H_b {kd : Nat → Int32} {x y : Int32} (h : hk_H kd x y) : vp_nar .byte x = x := by
  rcases h with ⟨rfl, -⟩ | ⟨o, ho, rfl, -, -⟩
  · exact hk_vb0
  · exact hk_vb (by omega)
theorem hk_V_b {x : Int32} (h : hk_V 64 x) : vp_nar .byte x = x := by
  obtain ⟨r, hr, rfl⟩ := h
  exact hk_vb (by omega)
theorem hk_send77 {fo fm fr : Int32} {nw : Nat} {kd nu re sg ot ob ri va f1 g1 f2 g2 hd ct pg us ce pk pn ps wd tp bt ky gv ga gb ev pe ow cy rf rn wt vy t1 r1 t2 r2 pa qk qn qs : Nat → Int32} (R : hk_R fo fr nw kd re sg ot ob ri va f1 g1 f2 g2 hd ct pg us ce pk pn ps wd tp bt ev pe ow cy rf rn wt vy t1 r1 t2 r2 pa qk qn qs) (Q : hk_Q nw sg wd bt) (Z : hk_Z rn rf) {k p j o i1 i2 : Nat} {v a b x1 y1 s1 x2 y2 s2 : Int32} (hp : p < 4) (hj : j < 10) (ho : o < 16) (e1 : ob (10 * p + j) = nI (o + 1)) (e2 : rf (10 * p + j) = nI o) (hl : ¬ kd o < 0) (k1 : kd o = 1)
    (V1 : hk_av p ob rf ri a x1 y1 s1 i1) (V2 : hk_av p ob rf ri b x2 y2 s2 i2) (hne : ¬ a < 0 → ¬ b < 0 → i1 ≠ i2)
    (Yin : ∀ (post : Int32 → SY → Prop), wY_send_77 post (nI p) (nI j) v a b fm (nI nw) kd nu ev pe ow cy rf ri rn gv ga gb wt vy t1 r1 t2 r2 pa qk qn qs wd bt tp ky → wpY_send post (fm, nI nw, kd, nu, ev, pe, ow, cy, rf, ri, rn, gv, ga, gb, wt, vy, t1, r1, t2, r2, pa, qk, qn, qs, wd, bt, tp, ky) (nI p) (nI j) v a b) :
    wX_send_77 (fun r u' => wpY_send (fun r' v' => r' = r ∧ i_Rel k u' v') (fm, nI nw, kd, nu, ev, pe, ow, cy, rf, ri, rn, gv, ga, gb, wt, vy, t1, r1, t2, r2, pa, qk, qn, qs, wd, bt, tp, ky) (nI p) (nI j) v a b) (nI p) (nI j) v a b fo fm fr (nI nw) kd nu re sg ot ob ri va f1 g1 f2 g2 hd ct pg us ce pk pn ps wd tp bt ky gv ga gb := by
  have K := R
  obtain ⟨K1, K2, K3, K4, K5, K6, KP, K7, K8, K9, KS, KW, KR⟩ := K
  have co : (nI o).toNatClampNeg = o := hk_cl (by omega)
  have io : vp_in (nI o) 16 := hk_in ho
  by_cases z1 : a = nI j
  · exact br_t z1 (Yin _ (br_t z1 ⟨rfl, hk_il R Q Z⟩))
  · by_cases z2 : b = nI j
    · exact br_f z1 (br_t z2 (Yin _ (br_f z1 (br_t z2 ⟨rfl, hk_il R Q Z⟩))))
    · obtain ⟨eot, epe⟩ := KP o ho k1
      have Yin' : ∀ (post : Int32 → SY → Prop), ((0 ≤ pe o → (vp_in (pe o) 16 ∧ ((wt (pe o).toNatClampNeg = 4 → post (-5) (fm, nI nw, kd, nu, ev, pe, ow, cy, rf, ri, rn, gv, ga, gb, wt, vy, t1, r1, t2, r2, pa, qk, qn, qs, wd, bt, tp, ky)) ∧ (¬ wt (pe o).toNatClampNeg = 4 → (vp_in (pe o) 16 ∧ ∀ x8 : Int32, x8 = 4 * pe o + wt (pe o).toNatClampNeg → (vp_in x8 64 ∧ ∀ a_value_73 : Nat → Int32, a_value_73 = upd vy x8.toNatClampNeg v →
          ((0 ≤ a → wpY_object (fun r_75 => wY_send_171 post (nI p) a b (pe o) x8 r_75 x8 fm (nI nw) kd nu ev pe ow cy rf ri rn gv ga gb wt a_value_73 t1 r1 t2 r2 pa qk qn qs wd bt tp ky) (fm, nI nw, kd, nu, ev, pe, ow, cy, rf, ri, rn, gv, ga, gb, wt, a_value_73, t1, r1, t2, r2, pa, qk, qn, qs, wd, bt, tp, ky) (nI p) a) ∧ (¬ 0 ≤ a → wY_send_171 post (nI p) a b (pe o) x8 (-1) x8 fm (nI nw) kd nu ev pe ow cy rf ri rn gv ga gb wt a_value_73 t1 r1 t2 r2 pa qk qn qs wd bt tp ky))))))) ) ∧ (¬ 0 ≤ pe o → post (-7) (fm, nI nw, kd, nu, ev, pe, ow, cy, rf, ri, rn, gv, ga, gb, wt, vy, t1, r1, t2, r2, pa, qk, qn, qs, wd, bt, tp, ky))) → wpY_send post (fm, nI nw, kd, nu, ev, pe, ow, cy, rf, ri, rn, gv, ga, gb, wt, vy, t1, r1, t2, r2, pa, qk, qn, qs, wd, bt, tp, ky) (nI p) (nI j) v a b := by
        intro post H
        refine Yin _ (br_f z1 (br_f z2 (hk_objY hp hj e2 ⟨io, nm_r (e' := pe o) (by rw [co]) H⟩)))
      refine br_f z1 (br_f z2 (hk_objX hp hj e1 ⟨io, nm_r (e' := pe o) (by rw [co, eot]) ?_⟩))
      rcases epe with epe | ⟨q, hq, epe, kq, -⟩
      · rw [epe] at Yin' ⊢
        exact br_f hk_m1le (Yin' _ (br_f hk_m1le ⟨rfl, hk_il R Q Z⟩))
      · rw [epe] at Yin' ⊢
        have cq : (nI q).toNatClampNeg = q := hk_cl (by omega)
        have iq : vp_in (nI q) 16 := hk_in hq
        have q0 : (0 : Int32) ≤ nI q := hk_0l (by omega)
        obtain ⟨c, h, hc, hh, ect, ewt, ehd, -⟩ := K6 q hq kq
        rw [cq, ewt] at Yin'
        refine br_t q0 ⟨iq, ?_⟩
        rw [cq, ect, ehd]
        by_cases c4 : c = 4
        · have c4' : nI c = 4 := by rw [c4]; rfl
          exact br_t c4' (Yin' _ (br_t q0 ⟨iq, br_t c4' ⟨rfl, hk_il R Q Z⟩⟩))
        · have c4' : ¬ nI c = 4 := hk_nIne (b := 4) (by omega) (by decide) c4
          obtain ⟨H1, S1⟩ := hk_av_H hp K4 KR V1
          obtain ⟨H2, S2⟩ := hk_av_H hp K4 KR V2
          have R1 := hk_push R (ob' := hk_cx b i2 0 (hk_cx a i1 0 ob)) (rf' := hk_cx b i2 (-1) (hk_cx a i1 (-1) rf)) (v := v) hq kq ect (by omega) ehd hh H1 H2 S1 S2 (hk_cx_4 (hk_cx_4 K4)) (fun x hx => by
            have A := hk_cx_HC (g := rf) hp hx V1 (fun _ => rfl)
            have B := hk_cx_HC (g := hk_cx a i1 (-1) rf) hp hx V2 (fun hb => by
              unfold hk_cx
              by_cases ha : a < 0
              · rw [if_pos ha]
              · rw [if_neg ha]; exact hk_un (fun e => hne ha hb e.symm))
            omega)
          obtain ⟨m2, sg2, ct2, pk2, pn2, ps2, pa2, qk2, qn2, qs2, wd2, tp2, bt2, ky2, R3, Q3, -, cX, cY⟩ := hk_change (nu := nu) (ky := ky) (gv := gv) (ga := ga) (gb := gb) (fm := fm) R1
          have vQ := (KS q hq (hk_1n0 kq)).2
          refine br_f c4' ⟨iq, iq, nm_r (e' := nI (4 * q + (h + c) % 4)) (by rw [nI_add, hk_and3, hk_4]) (hk_st rfl (by omega) rfl ?_)⟩
          refine hk_av_o hp V1 (P := fun t => wX_send_186 _ (nI p) a b (nI q) (nI (4 * q + (h + c) % 4)) t (nI (4 * q + (h + c) % 4)) fo fm fr (nI nw) kd nu re sg ot ob ri (upd va (4 * q + (h + c) % 4) v) f1 g1 f2 g2 hd ct pg us ce pk pn ps wd tp bt ky gv ga gb) (hk_st rfl (by omega) (hk_H_b H1) ?_)
          refine hk_av_s hp V1 (P := fun t => wX_send_214 _ (nI p) a b (nI q) (nI (4 * q + (h + c) % 4)) t (nI (4 * q + (h + c) % 4)) fo fm fr (nI nw) kd nu re sg ot ob ri (upd va (4 * q + (h + c) % 4) v) (upd f1 (4 * q + (h + c) % 4) x1) g1 f2 g2 hd ct pg us ce pk pn ps wd tp bt ky gv ga gb) (hk_st rfl (by omega) (hk_V_b S1) ?_)
          refine hk_av_o hp V2 (P := fun t => wX_send_242 _ (nI p) a b (nI q) (nI (4 * q + (h + c) % 4)) t (nI (4 * q + (h + c) % 4)) fo fm fr (nI nw) kd nu re sg ot ob ri (upd va (4 * q + (h + c) % 4) v) (upd f1 (4 * q + (h + c) % 4) x1) (upd g1 (4 * q + (h + c) % 4) s1) f2 g2 hd ct pg us ce pk pn ps wd tp bt ky gv ga gb) (hk_st rfl (by omega) (hk_H_b H2) ?_)
          refine hk_av_s hp V2 (P := fun t => wX_send_270 _ (nI p) a b (nI q) t (nI (4 * q + (h + c) % 4)) fo fm fr (nI nw) kd nu re sg ot ob ri (upd va (4 * q + (h + c) % 4) v) (upd f1 (4 * q + (h + c) % 4) x1) (upd g1 (4 * q + (h + c) % 4) s1) (upd f2 (4 * q + (h + c) % 4) x2) g2 hd ct pg us ce pk pn ps wd tp bt ky gv ga gb) (hk_st rfl (by omega) (hk_V_b S2) ?_)
          refine hk_av_c hp V1 hk_vb0 (P := fun t => wX_send_289 _ (nI p) b (nI q) fo fm fr (nI nw) kd nu re sg ot t ri (upd va (4 * q + (h + c) % 4) v) (upd f1 (4 * q + (h + c) % 4) x1) (upd g1 (4 * q + (h + c) % 4) s1) (upd f2 (4 * q + (h + c) % 4) x2) (upd g2 (4 * q + (h + c) % 4) s2) hd ct pg us ce pk pn ps wd tp bt ky gv ga gb) ?_
          refine hk_av_c hp V2 hk_vb0 (P := fun t => wX_send_307 _ (nI q) fo fm fr (nI nw) kd nu re sg ot t ri (upd va (4 * q + (h + c) % 4) v) (upd f1 (4 * q + (h + c) % 4) x1) (upd g1 (4 * q + (h + c) % 4) s1) (upd f2 (4 * q + (h + c) % 4) x2) (upd g2 (4 * q + (h + c) % 4) s2) hd ct pg us ce pk pn ps wd tp bt ky gv ga gb) ?_
          refine And.intro iq (hk_st rfl hq (w := nI (c + 1)) (by rw [cq, ect, nI_1, hk_vb' (by omega)]) ⟨iq, ?_⟩)
          rw [cq]
          refine cX _ q _ sg hq (hk_V_or vQ ⟨256, by decide, rfl⟩) rfl (Yin' _ ?_)
          refine br_t q0 ⟨iq, br_f c4' ⟨iq, nm_r (hk_4 q c) (hk_st rfl (by omega) rfl ?_)⟩⟩
          refine hk_av_y hp V1 (P := fun t => wY_send_171 _ (nI p) a b (nI q) (nI (4 * q + c)) t (nI (4 * q + c)) fm (nI nw) kd nu ev pe ow cy rf ri rn gv ga gb wt (upd vy (4 * q + c) v) t1 r1 t2 r2 pa qk qn qs wd bt tp ky) (hk_st rfl (by omega) rfl ?_)
          refine hk_av_s hp V1 (P := fun t => wY_send_199 _ (nI p) a b (nI q) (nI (4 * q + c)) t (nI (4 * q + c)) fm (nI nw) kd nu ev pe ow cy rf ri rn gv ga gb wt (upd vy (4 * q + c) v) (upd t1 (4 * q + c) y1) r1 t2 r2 pa qk qn qs wd bt tp ky) (hk_st rfl (by omega) rfl ?_)
          refine hk_av_y hp V2 (P := fun t => wY_send_222 _ (nI p) a b (nI q) (nI (4 * q + c)) t (nI (4 * q + c)) fm (nI nw) kd nu ev pe ow cy rf ri rn gv ga gb wt (upd vy (4 * q + c) v) (upd t1 (4 * q + c) y1) (upd r1 (4 * q + c) s1) t2 r2 pa qk qn qs wd bt tp ky) (hk_st rfl (by omega) rfl ?_)
          refine hk_av_s hp V2 (P := fun t => wY_send_250 _ (nI p) a b (nI q) t (nI (4 * q + c)) fm (nI nw) kd nu ev pe ow cy rf ri rn gv ga gb wt (upd vy (4 * q + c) v) (upd t1 (4 * q + c) y1) (upd r1 (4 * q + c) s1) (upd t2 (4 * q + c) y2) r2 pa qk qn qs wd bt tp ky) (hk_st rfl (by omega) rfl ⟨iq, hk_st rfl hq (w := nI (c + 1)) (by rw [cq, ewt, nI_1]) ?_⟩)
          refine hk_av_c hp V1 rfl (P := fun t => wY_send_280 _ (nI p) b fm (nI nw) kd nu ev pe ow cy t ri rn gv ga gb (upd wt q (nI (c + 1))) (upd vy (4 * q + c) v) (upd t1 (4 * q + c) y1) (upd r1 (4 * q + c) s1) (upd t2 (4 * q + c) y2) (upd r2 (4 * q + c) s2) pa qk qn qs wd bt tp ky) ?_
          refine hk_av_c hp V2 rfl (P := fun t => wY_send_298 _ fm (nI nw) kd nu ev pe ow cy t ri rn gv ga gb (upd wt q (nI (c + 1))) (upd vy (4 * q + c) v) (upd t1 (4 * q + c) y1) (upd r1 (4 * q + c) s1) (upd t2 (4 * q + c) y2) (upd r2 (4 * q + c) s2) pa qk qn qs wd bt tp ky) ?_
          exact cY _ ⟨rfl, hk_il R3 Q3 (hk_cx_Z (hk_cx_Z Z))⟩
theorem i_vc_send {k : Nat} {u : SX} {v : SY} (I : i_Rel k u v) (hk : k + 6 ≤ 3072) (v1 : Int32) (v2 : Int32) (v3 : Int32) (v4 : Int32) (v5 : Int32) : wpX_send (fun r u' => wpY_send (fun r' v' => r' = r ∧ i_Rel (k + 6) u' v') v v1 v2 v3 v4 v5) u v1 v2 v3 v4 v5 := by
  refine hk_el (P := fun u v => wpX_send (fun r u' => wpY_send (fun r' v' => r' = r ∧ i_Rel (k + 6) u' v') v v1 v2 v3 v4 v5) u v1 v2 v3 v4 v5) ?_ I
  intro fo fm fr nw kd nu re sg ot ob ri va f1 g1 f2 g2 hd ct pg us ce pk pn ps wd tp bt ky gv ga gb ev pe ow cy rf rn wt vy t1 r1 t2 r2 pa qk qn qs R Q Z
  obtain ⟨r, rX, rY, r0⟩ := hk_first (fo := fo) (fm := fm) (fr := fr) (nw := nw) (kd := kd) (nu := nu) (re := re) (sg := sg) (ot := ot) (ob := ob) (ri := ri) (va := va) (f1 := f1) (g1 := g1) (f2 := f2) (g2 := g2) (hd := hd) (ct := ct) (pg := pg) (us := us) (ce := ce) (pk := pk) (pn := pn) (ps := ps) (wd := wd) (tp := tp) (bt := bt) (ky := ky) (gv := gv) (ga := ga) (gb := gb) (ev := ev) (pe := pe) (ow := ow) (cy := cy) (rf := rf) (rn := rn) (wt := wt) (vy := vy) (t1 := t1) (r1 := r1) (t2 := t2) (r2 := r2) (pa := pa) (qk := qk) (qn := qn) (qs := qs) R v1 v2 1 2
  unfold wpX_send
  refine rX _ ?_
  by_cases z : r = 0
  · obtain ⟨p, j, o, hp, rfl, hr, hj, rfl, ho, e1, e2, hl, hw⟩ := r0 z
    have k1 : kd o = 1 := hw (by decide)
    obtain ⟨ra, aX, aY, a0⟩ := hk_opt (fo := fo) (fm := fm) (fr := fr) (nw := nw) (kd := kd) (nu := nu) (re := re) (sg := sg) (ot := ot) (ob := ob) (ri := ri) (va := va) (f1 := f1) (g1 := g1) (f2 := f2) (g2 := g2) (hd := hd) (ct := ct) (pg := pg) (us := us) (ce := ce) (pk := pk) (pn := pn) (ps := ps) (wd := wd) (tp := tp) (bt := bt) (ky := ky) (gv := gv) (ga := ga) (gb := gb) (ev := ev) (pe := pe) (ow := ow) (cy := cy) (rf := rf) (rn := rn) (wt := wt) (vy := vy) (t1 := t1) (r1 := r1) (t2 := t2) (r2 := r2) (pa := pa) (qk := qk) (qn := qn) (qs := qs) R hp v4 z
    refine br_t z (aX (fun t => wX_send_33 _ (nI p) (nI j) v3 v4 v5 t fo fm fr (nI nw) kd nu re sg ot ob ri va f1 g1 f2 g2 hd ct pg us ce pk pn ps wd tp bt ky gv ga gb) ?_)
    have Y1 : ∀ (post : Int32 → SY → Prop), wY_send_33 post (nI p) (nI j) v3 v4 v5 ra fm (nI nw) kd nu ev pe ow cy rf ri rn gv ga gb wt vy t1 r1 t2 r2 pa qk qn qs wd bt tp ky → wpY_send post (fm, nI nw, kd, nu, ev, pe, ow, cy, rf, ri, rn, gv, ga, gb, wt, vy, t1, r1, t2, r2, pa, qk, qn, qs, wd, bt, tp, ky) (nI p) (nI j) v3 v4 v5 := by
      intro post H
      unfold wpY_send
      exact rY _ (br_t z (aY (fun t => wY_send_33 post (nI p) (nI j) v3 v4 v5 t fm (nI nw) kd nu ev pe ow cy rf ri rn gv ga gb wt vy t1 r1 t2 r2 pa qk qn qs wd bt tp ky) H))
    by_cases za : ra = 0
    · obtain ⟨rb, bX, bY, b0⟩ := hk_opt (fo := fo) (fm := fm) (fr := fr) (nw := nw) (kd := kd) (nu := nu) (re := re) (sg := sg) (ot := ot) (ob := ob) (ri := ri) (va := va) (f1 := f1) (g1 := g1) (f2 := f2) (g2 := g2) (hd := hd) (ct := ct) (pg := pg) (us := us) (ce := ce) (pk := pk) (pn := pn) (ps := ps) (wd := wd) (tp := tp) (bt := bt) (ky := ky) (gv := gv) (ga := ga) (gb := gb) (ev := ev) (pe := pe) (ow := ow) (cy := cy) (rf := rf) (rn := rn) (wt := wt) (vy := vy) (t1 := t1) (r1 := r1) (t2 := t2) (r2 := r2) (pa := pa) (qk := qk) (qn := qn) (qs := qs) R hp v5 za
      refine br_t za (bX (fun t => wX_send_56 _ (nI p) (nI j) v3 v4 v5 t fo fm fr (nI nw) kd nu re sg ot ob ri va f1 g1 f2 g2 hd ct pg us ce pk pn ps wd tp bt ky gv ga gb) ?_)
      have Y2 : ∀ (post : Int32 → SY → Prop), wY_send_56 post (nI p) (nI j) v3 v4 v5 rb fm (nI nw) kd nu ev pe ow cy rf ri rn gv ga gb wt vy t1 r1 t2 r2 pa qk qn qs wd bt tp ky → wpY_send post (fm, nI nw, kd, nu, ev, pe, ow, cy, rf, ri, rn, gv, ga, gb, wt, vy, t1, r1, t2, r2, pa, qk, qn, qs, wd, bt, tp, ky) (nI p) (nI j) v3 v4 v5 := fun post H =>
        Y1 post (br_t za (bY (fun t => wY_send_56 post (nI p) (nI j) v3 v4 v5 t fm (nI nw) kd nu ev pe ow cy rf ri rn gv ga gb wt vy t1 r1 t2 r2 pa qk qn qs wd bt tp ky) H))
      by_cases zb : rb = 0
      · refine br_t zb ?_
        have A : ∃ x y s i, hk_av p ob rf ri v4 x y s i ∧ (¬ v4 < 0 → ∃ j, j < 10 ∧ v4 = nI j ∧ i = 10 * p + j) := by
          rcases a0 za with e | ⟨j1, o1, h1, h2, h3, h4, h5, h6⟩
          · exact ⟨0, -1, 0, 0, Or.inl ⟨e, rfl, rfl, rfl⟩, fun n => absurd (by rw [e]; exact hk_m1lt) n⟩
          · exact ⟨_, _, _, 10 * p + j1, Or.inr ⟨j1, h1, h2, rfl, rfl, rfl, rfl⟩, fun _ => ⟨j1, h1, h2, rfl⟩⟩
        have B : ∃ x y s i, hk_av p ob rf ri v5 x y s i ∧ (¬ v5 < 0 → ∃ j, j < 10 ∧ v5 = nI j ∧ i = 10 * p + j) := by
          rcases b0 zb with e | ⟨j1, o1, h1, h2, h3, h4, h5, h6⟩
          · exact ⟨0, -1, 0, 0, Or.inl ⟨e, rfl, rfl, rfl⟩, fun n => absurd (by rw [e]; exact hk_m1lt) n⟩
          · exact ⟨_, _, _, 10 * p + j1, Or.inr ⟨j1, h1, h2, rfl, rfl, rfl, rfl⟩, fun _ => ⟨j1, h1, h2, rfl⟩⟩
        obtain ⟨x1, y1, s1, i1, V1, n1⟩ := A
        obtain ⟨x2, y2, s2, i2, V2, n2⟩ := B
        by_cases ab : v4 = v5
        · refine br_t ab ?_
          by_cases am : v4 = -1
          · refine br_t am (hk_send77 R Q Z hp hj ho e1 e2 hl k1 V1 V2 (fun h => absurd (by rw [am]; exact hk_m1lt) h) (fun post H => Y2 post (br_t zb (br_t ab (br_t am H)))))
          · exact br_f am (Y2 _ (br_t zb (br_t ab (br_f am ⟨rfl, hk_il R Q Z⟩))))
        · refine br_f ab (hk_send77 R Q Z hp hj ho e1 e2 hl k1 V1 V2 (fun h h' => ?_) (fun post H => Y2 post (br_t zb (br_f ab H))))
          obtain ⟨u1, g1', g2', g3'⟩ := n1 h
          obtain ⟨u2, g4', g5', g6'⟩ := n2 h'
          intro e
          exact ab (by rw [g2', g5']; exact congrArg nI (by omega))
      · exact br_f zb (Y2 _ (br_f zb ⟨rfl, hk_il R Q Z⟩))
    · exact br_f za (br_f za (Y1 _ (br_f za (br_f za ⟨rfl, hk_il R Q Z⟩))))
  · refine br_f z (br_f z (br_f z ?_))
    unfold wpY_send
    exact rY _ (br_f z (br_f z (br_f z ⟨rfl, hk_il R Q Z⟩)))
end
end
section
section
/-- a handle of a message gets a place, if it is there -/
def hk_ld (p : Nat) (ob rf ri : Nat → Int32) (x y s : Int32) (ob' rf' ri' : Nat → Int32) (g : Int32) : Prop :=
  (x = 0 ∧ y = -1 ∧ ob' = ob ∧ rf' = rf ∧ ri' = ri ∧ g = -1) ∨
  (∃ j q r, j < 10 ∧ q < 16 ∧ r < 64 ∧ x = nI (q + 1) ∧ y = nI q ∧ s = nI r ∧ ob (10 * p + j) = 0 ∧ rf (10 * p + j) = -1 ∧ (∀ i, i < j → ¬ ob (10 * p + i) = 0) ∧ (∀ i, i < j → ¬ rf (10 * p + i) < 0) ∧
    ob' = upd ob (10 * p + j) (nI (q + 1)) ∧ rf' = upd rf (10 * p + j) (nI q) ∧ ri' = upd ri (10 * p + j) (nI r) ∧ g = nI j)
theorem hk_land1 {p : Nat} {kd ob rf ri rn : Nat → Int32} {x y s : Int32} (hp : p < 4) (K4 : hk_P4 kd ob rf) (KR : hk_PR ri) (Z : hk_Z rn rf) (hr : ¬ rn p = 0) (H : hk_H kd x y) (V : hk_V 64 s) (hm : ¬ y < 0 → 0 < hk_RM rf p) :
    ∃ (ob' rf' ri' : Nat → Int32) (g : Int32), hk_ld p ob rf ri x y s ob' rf' ri' g ∧ hk_P4 kd ob' rf' ∧ hk_PR ri' ∧ hk_Z rn rf' ∧ (∀ o, o < 16 → hk_HC rf' o = hk_HC rf o + (if y = nI o then 1 else 0)) ∧ hk_RM rf' p + (if y < 0 then 0 else 1) = hk_RM rf p := by
  rcases H with ⟨rfl, rfl⟩ | ⟨q, hq, rfl, rfl, hl⟩
  · refine ⟨ob, rf, ri, -1, Or.inl ⟨rfl, rfl, rfl, rfl, rfl, rfl⟩, K4, KR, Z, fun o ho => ?_, by rw [if_pos hk_m1lt]; omega⟩
    rw [if_neg (fun z => hk_nm1 (a := o) (by omega) z.symm)]; omega
  · obtain ⟨r, hr2, rfl⟩ := V
    obtain ⟨j, hj, c0, c1, c2, c3⟩ := hk_place K4 hp (hm (hk_n0 (by omega)))
    refine ⟨_, _, _, nI j, Or.inr ⟨j, q, r, hj, hq, hr2, rfl, rfl, rfl, c0, c1, c2, c3, rfl, rfl, rfl, rfl⟩, hk_P4_up K4 (Or.inr ⟨q, hq, rfl, rfl, hl⟩), hk_PR_up KR ⟨r, hr2, rfl⟩, hk_Zup Z hp hj hr, fun o ho => ?_, ?_⟩
    · have a := hk_HC_up (rf := rf) (h := 10 * p + j) (o := o) (y := nI q) (by omega)
      rw [c1, if_neg (c := (-1 : Int32) = nI o) (fun z => hk_nm1 (a := o) (by omega) z.symm)] at a
      omega
    · rw [if_neg (hk_n0 (by omega))]
      exact hk_RM_up hj (by rw [c1]; exact hk_m1lt) (hk_n0 (by omega))
theorem hk_rc207 {fo fm fr : Int32} {nw : Nat} {kd nu re sg ot ob ri va f1 g1 f2 g2 hd ct pg us ce pk pn ps wd tp bt ky gv ga gb : Nat → Int32} {post : Int32 → SX → Prop} {p o i : Nat} {x6 y g : Int32} {rf ob' rf' ri' : Nat → Int32} (hp : p < 4) (hi : i < 64) (L : hk_ld p ob rf ri (f2 i) y (g2 i) ob' rf' ri' g)
    (H : wX_receive_245 post (nI o) x6 fo fm fr (nI nw) kd nu re sg ot ob' ri' va f1 g1 f2 g2 hd ct pg us ce pk pn ps wd tp bt ky gv ga (upd gb p g)) : wX_receive_207 post (nI p) (nI o) (nI i) x6 fo fm fr (nI nw) kd nu re sg ot ob ri va f1 g1 f2 g2 hd ct pg us ce pk pn ps wd tp bt ky gv ga (upd gb p (-1)) := by
  have ci : (nI i).toNatClampNeg = i := hk_cl (by omega)
  have ii : vp_in (nI i) 64 := hk_in hi
  refine And.intro ii ?_
  rw [ci]
  rcases L with ⟨e1, -, rfl, rfl, rfl, rfl⟩ | ⟨j, q, r, hj, hq, hr, e1, -, e3, c0, c1, c2, c3, rfl, rfl, rfl, rfl⟩
  · rw [e1]; exact br_t (by decide) H
  · rw [e1, e3, nI_pred]
    refine br_f (by rw [hk_l0 (by omega)]; omega) ⟨ii, ii, hk_landX hp hj c0 c2 hq hr (hk_st rfl hp (hk_vb' (by omega)) ?_)⟩
    rw [hk_uu]; exact H
theorem hk_rc95 {fo fm fr : Int32} {nw : Nat} {kd nu re sg ot ob ri va f1 g1 f2 g2 hd ct pg us ce pk pn ps wd tp bt ky gv ga gb : Nat → Int32} {post : Int32 → SX → Prop} {p o i c h n M : Nat} {z0 z1 y g : Int32} {rf ob' rf' ri' : Nat → Int32} (hp : p < 4) (ho : o < 16) (hi : i < 64) (hM : M ≤ 10) (hroom : ∀ post : Int32 → Prop, post (nI M) → wpX_room post (fo, fm, fr, nI nw, kd, nu, re, sg, ot, ob, ri, va, f1, g1, f2, g2, hd, ct, pg, us, ce, pk, pn, ps, wd, tp, bt, ky, gv, ga, gb) (nI p)) (hn : z1 + z0 = nI n) (hle : n ≤ M) (ect : ct o = nI (c + 1)) (hc : c < 4) (ehd : hd o = nI h) (hh : h < 4)
    (L : hk_ld p ob rf ri (f1 i) y (g1 i) ob' rf' ri' g)
    (H : wX_receive_207 post (nI p) (nI o) (nI i) (nI n) fo fm fr (nI nw) kd nu re sg ot ob' ri' va f1 g1 f2 g2 (upd hd o (nI ((h + 1) % 4))) (upd ct o (nI c)) pg us ce pk pn ps wd tp bt ky (upd gv p (va i)) (upd ga p g) (upd gb p (-1))) : wX_receive_95 post (nI p) (nI o) (nI i) z0 z1 fo fm fr (nI nw) kd nu re sg ot ob ri va f1 g1 f2 g2 hd ct pg us ce pk pn ps wd tp bt ky gv ga gb := by
  have ci : (nI i).toNatClampNeg = i := hk_cl (by omega)
  have ii : vp_in (nI i) 64 := hk_in hi
  have co : (nI o).toNatClampNeg = o := hk_cl (by omega)
  have io : vp_in (nI o) 16 := hk_in ho
  refine nm_r hn (hroom _ (br_t (nI_le hle (by omega)) ⟨io, hk_st rfl ho (w := nI ((h + 1) % 4)) ?_ ⟨io, hk_st rfl ho (w := nI c) ?_ ⟨ii, hk_st rfl hp (w := va i) ?_ (hk_st rfl hp hk_vbm (hk_st rfl hp hk_vbm ⟨ii, ?_⟩))⟩⟩⟩))
  · rw [co, ehd, nI_1, hk_and3, hk_vb' (by omega)]
  · rw [co, ect, nI_pred, hk_vb' (by omega)]
  · rw [ci]
  · rw [ci]
    rcases L with ⟨e1, -, rfl, rfl, rfl, rfl⟩ | ⟨j, q, r, hj, hq, hr, e1, -, e3, c0, c1, c2, c3, rfl, rfl, rfl, rfl⟩
    · rw [e1]; exact br_t (by decide) H
    · rw [e1, e3, nI_pred]
      refine br_f (by rw [hk_l0 (by omega)]; omega) ⟨ii, ii, hk_landX hp hj c0 c2 hq hr (hk_st rfl hp (hk_vb' (by omega)) ?_)⟩
      rw [hk_uu]; exact H
theorem hk_rY86 {fm : Int32} {nw : Nat} {kd nu ev pe ow cy rf ri rn gv ga gb wt vy t1 r1 t2 r2 pa qk qn qs wd bt tp ky : Nat → Int32} {post : Int32 → SY → Prop} {p o i n M : Nat} {x g : Int32} {ob ob' rf' ri' : Nat → Int32} (hp : p < 4) (hi : i < 64) (hM : M ≤ 10) (hroom : ∀ post : Int32 → Prop, post (nI M) → wpY_room post (fm, nI nw, kd, nu, ev, pe, ow, cy, rf, ri, rn, gv, ga, gb, wt, vy, t1, r1, t2, r2, pa, qk, qn, qs, wd, bt, tp, ky) (nI p)) (hle : n ≤ M)
    (L : hk_ld p ob rf ri x (t1 i) (r1 i) ob' rf' ri' g)
    (H : wY_receive_150 post (nI p) (nI o) (nI i) (nI n) g (nI p) fm (nI nw) kd nu ev pe ow cy rf' ri' rn (upd gv p (vy i)) ga gb wt vy t1 r1 t2 r2 pa qk qn qs wd bt tp ky) : wY_receive_86 post (nI p) (nI o) (nI i) (nI n) fm (nI nw) kd nu ev pe ow cy rf ri rn gv ga gb wt vy t1 r1 t2 r2 pa qk qn qs wd bt tp ky := by
  have ci : (nI i).toNatClampNeg = i := hk_cl (by omega)
  have ii : vp_in (nI i) 64 := hk_in hi
  unfold wY_receive_86
  refine hroom _ (br_t (nI_le hle (by omega)) ⟨ii, hk_st rfl hp (w := vy i) (by rw [ci]) ⟨ii, ?_⟩⟩)
  rw [ci]
  rcases L with ⟨-, e1, rfl, rfl, rfl, rfl⟩ | ⟨j, q, r, hj, hq, hr, -, e1, e3, c0, c1, c2, c3, rfl, rfl, rfl, rfl⟩
  · rw [e1]; exact br_f hk_m1le H
  · rw [e1, e3]
    exact br_t (hk_0l (by omega)) ⟨ii, ii, hk_placeY hp hj c1 c3 H⟩
theorem hk_rY150 {fm : Int32} {nw : Nat} {kd nu ev pe ow cy rf ri rn gv ga gb wt vy t1 r1 t2 r2 pa qk qn qs wd bt tp ky : Nat → Int32} {post : Int32 → SY → Prop} {p o i n : Nat} {x g g0 : Int32} {ob ob' rf' ri' : Nat → Int32} (hp : p < 4) (hi : i < 64)
    (L : hk_ld p ob rf ri x (t2 i) (r2 i) ob' rf' ri' g)
    (H : wY_receive_189 post (nI o) (nI i) (nI n) g (nI p) fm (nI nw) kd nu ev pe ow cy rf' ri' rn gv (upd ga p g0) gb wt vy t1 r1 t2 r2 pa qk qn qs wd bt tp ky) : wY_receive_150 post (nI p) (nI o) (nI i) (nI n) g0 (nI p) fm (nI nw) kd nu ev pe ow cy rf ri rn gv ga gb wt vy t1 r1 t2 r2 pa qk qn qs wd bt tp ky := by
  have ci : (nI i).toNatClampNeg = i := hk_cl (by omega)
  have ii : vp_in (nI i) 64 := hk_in hi
  unfold wY_receive_150
  refine hk_st rfl hp rfl ⟨ii, ?_⟩
  rw [ci]
  rcases L with ⟨-, e1, rfl, rfl, rfl, rfl⟩ | ⟨j, q, r, hj, hq, hr, -, e1, e3, c0, c1, c2, c3, rfl, rfl, rfl, rfl⟩
  · rw [e1]; exact br_f hk_m1le H
  · rw [e1, e3]
    exact br_t (hk_0l (by omega)) ⟨ii, ii, hk_placeY hp hj c1 c3 H⟩
theorem hk_rY189 {fm : Int32} {nw : Nat} {kd nu ev pe ow cy rf ri rn gv ga gb wt vy t1 r1 t2 r2 pa qk qn qs wd bt tp ky : Nat → Int32} {post : Int32 → SY → Prop} {p o c n : Nat} {g : Int32} (hp : p < 4) (ho : o < 16) (hc : c < 4) (ewt : wt o = nI (c + 1))
    (H : post (nI n) (fm, nI nw, kd, nu, ev, pe, ow, cy, rf, ri, rn, gv, ga, upd gb p g, upd wt o (nI c), hk_sh (4 * o) (4 * o + c) vy, hk_sh (4 * o) (4 * o + c) t1, hk_sh (4 * o) (4 * o + c) r1, hk_sh (4 * o) (4 * o + c) t2, hk_sh (4 * o) (4 * o + c) r2, pa, qk, qn, qs, wd, bt, tp, ky)) :
    wY_receive_189 post (nI o) (nI (4 * o)) (nI n) g (nI p) fm (nI nw) kd nu ev pe ow cy rf ri rn gv ga gb wt vy t1 r1 t2 r2 pa qk qn qs wd bt tp ky := by
  have co : (nI o).toNatClampNeg = o := hk_cl (by omega)
  have io : vp_in (nI o) 16 := hk_in ho
  have key : ∀ d i, 4 * o ≤ i → i + d = 4 * o + c → wY_receive_205 post (nI o) (nI (4 * o)) (nI n) fm (nI nw) (d + 1) (nI i) kd nu ev pe ow cy rf ri rn gv ga (upd gb p g) (upd wt o (nI c)) (hk_sh (4 * o) i vy) (hk_sh (4 * o) i t1) (hk_sh (4 * o) i r1) (hk_sh (4 * o) i t2) (hk_sh (4 * o) i r2) pa qk qn qs wd bt tp ky := by
    intro d
    induction d with
    | zero =>
      intro i h1 h2
      obtain rfl : i = 4 * o + c := by omega
      refine And.intro io (br_t ?_ H)
      rw [co, hk_us, nI_add]; exact nI_le (Nat.le_refl _) (by omega)
    | succ d ih =>
      intro i h1 h2
      refine And.intro io (br_f ?_ ?_)
      · rw [co, hk_us, nI_add]; exact nI_ge (by omega) (by omega)
      · exact hk_shst h1 (by omega) (hk_shv (by omega)) (hk_shst h1 (by omega) (hk_shv (by omega)) (hk_shst h1 (by omega) (hk_shv (by omega)) (hk_shst h1 (by omega) (hk_shv (by omega)) (hk_shst h1 (by omega) (hk_shv (by omega)) (nm_r (nI_1 i) (ih (i + 1) (by omega) (by omega)))))))
  have a := key c (4 * o) (Nat.le_refl _) rfl
  rw [hk_sh_0, hk_sh_0, hk_sh_0, hk_sh_0, hk_sh_0] at a
  unfold wY_receive_189
  exact hk_st rfl hp rfl ⟨io, hk_st rfl ho (by rw [co, ewt, nI_pred]) ⟨_, a⟩⟩
theorem i_vc_receive {k : Nat} {u : SX} {v : SY} (I : i_Rel k u v) (hk : k + 6 ≤ 3072) (v1 : Int32) (v2 : Int32) : wpX_receive (fun r u' => wpY_receive (fun r' v' => r' = r ∧ i_Rel (k + 6) u' v') v v1 v2) u v1 v2 := by
  refine hk_el (P := fun u v => wpX_receive (fun r u' => wpY_receive (fun r' v' => r' = r ∧ i_Rel (k + 6) u' v') v v1 v2) u v1 v2) ?_ I
  intro fo fm fr nw kd nu re sg ot ob ri va f1 g1 f2 g2 hd ct pg us ce pk pn ps wd tp bt ky gv ga gb ev pe ow cy rf rn wt vy t1 r1 t2 r2 pa qk qn qs R Q Z
  obtain ⟨r, rX, rY, r0⟩ := hk_first (fo := fo) (fm := fm) (fr := fr) (nw := nw) (kd := kd) (nu := nu) (re := re) (sg := sg) (ot := ot) (ob := ob) (ri := ri) (va := va) (f1 := f1) (g1 := g1) (f2 := f2) (g2 := g2) (hd := hd) (ct := ct) (pg := pg) (us := us) (ce := ce) (pk := pk) (pn := pn) (ps := ps) (wd := wd) (tp := tp) (bt := bt) (ky := ky) (gv := gv) (ga := ga) (gb := gb) (ev := ev) (pe := pe) (ow := ow) (cy := cy) (rf := rf) (rn := rn) (wt := wt) (vy := vy) (t1 := t1) (r1 := r1) (t2 := t2) (r2 := r2) (pa := pa) (qk := qk) (qn := qn) (qs := qs) R v1 v2 1 1
  unfold wpX_receive
  refine rX _ ?_
  by_cases z : r = 0
  · obtain ⟨p, j, o, hp, rfl, hr, hj, rfl, ho, e1, e2, hl, hw⟩ := r0 z
    have k1 : kd o = 1 := hw (by decide)
    have K := R
    obtain ⟨K1, K2, K3, K4, K5, K6, KP, K7, K8, K9, KS, KW, KR⟩ := K
    obtain ⟨mX, mY⟩ := hk_room (fo := fo) (fm := fm) (fr := fr) (nw := nw) (kd := kd) (nu := nu) (re := re) (sg := sg) (ot := ot) (ob := ob) (ri := ri) (va := va) (f1 := f1) (g1 := g1) (f2 := f2) (g2 := g2) (hd := hd) (ct := ct) (pg := pg) (us := us) (ce := ce) (pk := pk) (pn := pn) (ps := ps) (wd := wd) (tp := tp) (bt := bt) (ky := ky) (gv := gv) (ga := ga) (gb := gb) (ev := ev) (pe := pe) (ow := ow) (cy := cy) (rf := rf) (rn := rn) (wt := wt) (vy := vy) (t1 := t1) (r1 := r1) (t2 := t2) (r2 := r2) (pa := pa) (qk := qk) (qn := qn) (qs := qs) R hp
    have ml := hk_RM_le rf p
    have co : (nI o).toNatClampNeg = o := hk_cl (by omega)
    have io : vp_in (nI o) 16 := hk_in ho
    obtain ⟨c, h, hc, hh, ect, ewt, ehd, eM⟩ := K6 o ho k1
    obtain ⟨eot, epe⟩ := KP o ho k1
    refine br_t z (hk_objX hp hj e1 ⟨io, ?_⟩)
    rw [co, ect, eot]
    by_cases c0 : c = 0
    · subst c0
      refine br_t rfl ⟨io, ?_⟩
      have Y0 : ∀ (post : Int32 → SY → Prop), ((0 ≤ pe o → post (-8) (fm, nI nw, kd, nu, ev, pe, ow, cy, rf, ri, rn, gv, ga, gb, wt, vy, t1, r1, t2, r2, pa, qk, qn, qs, wd, bt, tp, ky)) ∧ (¬ 0 ≤ pe o → post (-7) (fm, nI nw, kd, nu, ev, pe, ow, cy, rf, ri, rn, gv, ga, gb, wt, vy, t1, r1, t2, r2, pa, qk, qn, qs, wd, bt, tp, ky))) → wpY_receive post (fm, nI nw, kd, nu, ev, pe, ow, cy, rf, ri, rn, gv, ga, gb, wt, vy, t1, r1, t2, r2, pa, qk, qn, qs, wd, bt, tp, ky) (nI p) (nI j) := by
        intro post H
        unfold wpY_receive
        refine rY _ (br_t z (hk_objY hp hj e2 (nm_r (hk_m4 o) ⟨io, br_t (by rw [co]; exact ewt) ⟨io, ?_⟩⟩)))
        rw [co]; exact H
      by_cases q0 : 0 ≤ pe o
      · exact br_t q0 (Y0 _ (br_t q0 ⟨rfl, hk_il R Q Z⟩))
      · exact br_f q0 (Y0 _ (br_f q0 ⟨rfl, hk_il R Q Z⟩))
    · obtain ⟨c', rfl⟩ : ∃ c', c = c' + 1 := ⟨c - 1, by omega⟩
      have n0 : ¬ nI (c' + 1) = 0 := by rw [hk_e0 (by omega)]; omega
      have hc' : c' < 4 := by omega
      have M := eM 0 (by omega)
      have eh : (h + 0) % 4 = h := by omega
      rw [eh, Nat.add_zero] at M
      obtain ⟨M1, M2, M3, M4, M5, M6, M7⟩ := M
      have i64 : 4 * o + h < 64 := by omega
      have ci : (nI (4 * o + h)).toNatClampNeg = 4 * o + h := hk_cl (by omega)
      have ii : vp_in (nI (4 * o + h)) 64 := hk_in i64
      have yi : vp_in (nI (4 * o)) 64 := hk_in (by omega)
      have yc : (nI (4 * o)).toNatClampNeg = 4 * o := hk_cl (by omega)
      -- how many handles the message carries
      have N1 : ∃ n1, n1 ≤ 1 ∧ n1 = (if t1 (4 * o) < 0 then 0 else 1) := ⟨_, by split <;> omega, rfl⟩
      have N2 : ∃ n2, n2 ≤ 1 ∧ n2 = (if t2 (4 * o) < 0 then 0 else 1) := ⟨_, by split <;> omega, rfl⟩
      obtain ⟨n1, hn1, en1⟩ := N1
      obtain ⟨n2, hn2, en2⟩ := N2
      have hX : ∀ {x y : Int32}, hk_H kd x y → (x ≤ 0 ↔ y < 0) := by
        intro x y hH
        rcases hH with ⟨rfl, rfl⟩ | ⟨q, hq, rfl, rfl, -⟩
        · exact ⟨fun _ => hk_m1lt, fun _ => by decide⟩
        · rw [hk_l0 (by omega)]
          exact ⟨fun e => by omega, fun e => absurd e (hk_n0 (by omega))⟩
      have X95 : ∀ (post : Int32 → SX → Prop), (∀ z0 z1 : Int32, z1 + z0 = nI (n1 + n2) → wX_receive_95 post (nI p) (nI o) (nI (4 * o + h)) z0 z1 fo fm fr (nI nw) kd nu re sg ot ob ri va f1 g1 f2 g2 hd ct pg us ce pk pn ps wd tp bt ky gv ga gb) → ((f1 (nI (4 * o + h)).toNatClampNeg ≤ 0 → wX_receive_80 post (nI p) (nI o) (nI (4 * o + h)) 0 fo fm fr (nI nw) kd nu re sg ot ob ri va f1 g1 f2 g2 hd ct pg us ce pk pn ps wd tp bt ky gv ga gb) ∧ (¬ f1 (nI (4 * o + h)).toNatClampNeg ≤ 0 → wX_receive_80 post (nI p) (nI o) (nI (4 * o + h)) 1 fo fm fr (nI nw) kd nu re sg ot ob ri va f1 g1 f2 g2 hd ct pg us ce pk pn ps wd tp bt ky gv ga gb)) := by
        intro post H
        unfold wX_receive_80
        rw [ci]
        by_cases q1 : t1 (4 * o) < 0
        · rw [if_pos q1] at en1
          refine br_t ((hX M2).mpr q1) ⟨ii, ?_⟩
          by_cases q2 : t2 (4 * o) < 0
          · rw [if_pos q2] at en2
            exact br_t ((hX M3).mpr q2) (H 0 0 (by rw [en1, en2]; rfl))
          · rw [if_neg q2] at en2
            exact br_f (fun e => q2 ((hX M3).mp e)) (H 1 0 (by rw [en1, en2]; rfl))
        · rw [if_neg q1] at en1
          refine br_f (fun e => q1 ((hX M2).mp e)) ⟨ii, ?_⟩
          by_cases q2 : t2 (4 * o) < 0
          · rw [if_pos q2] at en2
            exact br_t ((hX M3).mpr q2) (H 0 1 (by rw [en1, en2]; rfl))
          · rw [if_neg q2] at en2
            exact br_f (fun e => q2 ((hX M3).mp e)) (H 1 1 (by rw [en1, en2]; rfl))
      have Y86 : ∀ (post : Int32 → SY → Prop), wY_receive_86 post (nI p) (nI o) (nI (4 * o)) (nI (n1 + n2)) fm (nI nw) kd nu ev pe ow cy rf ri rn gv ga gb wt vy t1 r1 t2 r2 pa qk qn qs wd bt tp ky → wpY_receive post (fm, nI nw, kd, nu, ev, pe, ow, cy, rf, ri, rn, gv, ga, gb, wt, vy, t1, r1, t2, r2, pa, qk, qn, qs, wd, bt, tp, ky) (nI p) (nI j) := by
        intro post H
        unfold wpY_receive
        refine rY _ (br_t z (hk_objY hp hj e2 (nm_r (hk_m4 o) ⟨io, br_f (by rw [co, ewt]; exact n0) ⟨yi, ?_⟩⟩)))
        unfold wY_receive_73
        rw [yc]
        by_cases q1 : t1 (4 * o) < 0
        · rw [if_pos q1] at en1
          refine br_t q1 ⟨yi, ?_⟩
          by_cases q2 : t2 (4 * o) < 0
          · rw [if_pos q2] at en2
            rw [en1, en2] at H
            exact br_t q2 H
          · rw [if_neg q2] at en2
            rw [en1, en2] at H
            exact br_f q2 (nm_r (nI_1 0) H)
        · rw [if_neg q1] at en1
          refine br_f q1 (nm_r (nI_1 0) ⟨yi, ?_⟩)
          by_cases q2 : t2 (4 * o) < 0
          · rw [if_pos q2] at en2
            rw [en1, en2] at H
            exact br_t q2 H
          · rw [if_neg q2] at en2
            rw [en1, en2] at H
            exact br_f q2 (nm_r (nI_1 1) H)
      refine br_f n0 ⟨io, nm_r (e' := nI (4 * o + h)) (by rw [ehd, hk_4]) ⟨ii, X95 _ (fun z0 z1 hz => ?_)⟩⟩
      by_cases room : n1 + n2 ≤ hk_RM rf p
      · obtain ⟨ob1, rf1, ri1, ga1, L1, A4, AR, AZ, AH, AM⟩ := hk_land1 hp K4 KR Z hr M2 M6 (fun e => by rw [if_neg e] at en1; omega)
        obtain ⟨ob2, rf2, ri2, gb2, L2, B4, BR, BZ, BH, BM⟩ := hk_land1 hp A4 AR AZ hr M3 M7 (fun e => by rw [if_neg e] at en2; omega)
        have HH : ∀ x, x < 16 → hk_HC rf2 x = hk_HC rf x + (if t1 (4 * o) = nI x then 1 else 0) + (if t2 (4 * o) = nI x then 1 else 0) := fun x hx => by rw [BH x hx, AH x hx]
        obtain ⟨eS, vS⟩ := KS o ho hl
        have L1' := L1
        have L2' := L2
        rw [← M4] at L1
        rw [← M5] at L2
        refine hk_rc95 hp ho i64 ml mX hz room ect hc' ehd hh L1 (hk_rc207 hp i64 L2 ⟨io, ?_⟩)
        rw [co, hk_us]
        have Yfin : ∀ (u' : SX), (∀ Y1 : SY, Y1 = (fm, nI nw, kd, nu, ev, pe, ow, cy, rf2, ri2, rn, upd gv p (vy (4 * o)), upd ga p ga1, upd gb p gb2, upd wt o (nI c'), hk_sh (4 * o) (4 * o + c') vy, hk_sh (4 * o) (4 * o + c') t1, hk_sh (4 * o) (4 * o + c') r1, hk_sh (4 * o) (4 * o + c') t2, hk_sh (4 * o) (4 * o + c') r2, pa, qk, qn, qs, wd, bt, tp, ky) → i_Rel (k + 6) u' Y1) →
            wpY_receive (fun r' v' => r' = nI (n1 + n2) ∧ i_Rel (k + 6) u' v') (fm, nI nw, kd, nu, ev, pe, ow, cy, rf, ri, rn, gv, ga, gb, wt, vy, t1, r1, t2, r2, pa, qk, qn, qs, wd, bt, tp, ky) (nI p) (nI j) := by
          intro u' HI
          refine Y86 _ (hk_rY86 hp (by omega) ml mY room L1' (hk_rY150 hp (by omega) L2' (hk_rY189 hp ho hc' ewt ⟨rfl, HI _ rfl⟩)))
        by_cases w0 : c' = 0
        · subst w0
          have R1 := hk_pop R (ob' := ob2) (rf' := rf2) (ri' := ri2) (s := sg o &&& (-257)) ho k1 ect hc' ehd hh (by rw [if_pos rfl]) B4 BR HH
          refine br_t rfl ⟨io, ?_⟩
          rw [M1]
          refine hk_quiet (nu := nu) (ky := ky) (gv := upd gv p (vy (4 * o))) (ga := upd ga p ga1) (gb := upd gb p gb2) (fm := fm) R1 (hk_Qless rfl Q) ho (hk_V_and vS) rfl (Yfin _ (fun Y1 e => ?_))
          exact e ▸ hk_il R1 (hk_Qless rfl Q) BZ
        · have R1 := hk_pop R (ob' := ob2) (rf' := rf2) (ri' := ri2) (s := sg o) ho k1 ect hc' ehd hh (by rw [if_neg w0]) B4 BR HH
          rw [hk_ui (f := sg) (k := o) rfl] at R1
          refine br_f (by rw [hk_e0 (by omega)]; exact w0) ?_
          rw [M1]
          exact Yfin _ (fun Y1 e => e ▸ hk_il R1 Q BZ)
      · have nle : ¬ nI (n1 + n2) ≤ nI (hk_RM rf p) := by rw [hk_le (by omega) (by omega)]; exact room
        refine nm_r hz (mX _ (br_f nle (Y86 _ ?_)))
        unfold wY_receive_86
        exact mY _ (br_f nle ⟨rfl, hk_il R Q Z⟩)
  · refine br_f z ?_
    unfold wpY_receive
    exact rY _ (br_f z ⟨rfl, hk_il R Q Z⟩)
end
end
section
section
def hk_TK (kd ow rn : Nat → Int32) (n q : Nat) : Prop := ¬ rn q = 0 ∨ ∃ o, o < n ∧ kd o = 4 ∧ ow o = nI q
theorem hk_idleX {fo fm fr : Int32} {nw : Nat} {kd nu re sg ot ob ri va f1 g1 f2 g2 hd ct pg us ce pk pn ps wd tp bt ky gv ga gb : Nat → Int32} {ow rn : Nat → Int32} {post : Int32 → Prop} {q : Nat} (K3 : hk_P3 fr rn) (h9 : ∀ e, e < 16 → kd e = 4 → ∃ p, p < 4 ∧ ot e = nI p ∧ ow e = nI p) (hq : q ≤ 4) (hq0 : q < 4 → ¬ hk_TK kd ow rn 16 q) (hm : ∀ i, i < q → hk_TK kd ow rn 16 i) (H : post (nI q)) : wpX_idle post (fo, fm, fr, nI nw, kd, nu, re, sg, ot, ob, ri, va, f1, g1, f2, g2, hd, ct, pg, us, ce, pk, pn, ps, wd, tp, bt, ky, gv, ga, gb) := by
  have l42 : ∀ t, t < 16 → (∀ x, x < 4 → (t / 2 ^ x % 2 = 0 ↔ ¬ hk_TK kd ow rn 16 x)) → ∃ n, wX_idle_42 post (nI t) fo fm fr (nI nw) kd nu re sg ot ob ri va f1 g1 f2 g2 hd ct pg us ce pk pn ps wd tp bt ky gv ga gb n 0 := by
    intro t ht hb
    have key : ∀ d j, j + d = q → wX_idle_42 post (nI t) fo fm fr (nI nw) kd nu re sg ot ob ri va f1 g1 f2 g2 hd ct pg us ce pk pn ps wd tp bt ky gv ga gb (d + 1) (nI j) := by
      intro d
      induction d with
      | zero =>
        intro j hj
        obtain rfl : j = q := by omega
        by_cases z : j = 4
        · exact br_t (by rw [z]; decide) H
        · refine br_f (nI_ge (b := 4) (by omega) (by decide)) (br_t ?_ H)
          rw [hk_bit t ht j (by omega), (hb j (by omega)).mpr (hq0 (by omega))]; rfl
      | succ d ih =>
        intro j hj
        refine br_f (nI_ge (b := 4) (by omega) (by decide)) (br_f ?_ (nm_r (nI_1 j) (ih (j + 1) (by omega))))
        rw [hk_bit t ht j (by omega), hk_e0 (by omega)]
        exact fun e => (hb j (by omega)).mp e (hm j (by omega))
    exact ⟨q + 1, key q 0 (by omega)⟩
  have l7 : ∀ d i t, i + d = 16 → t < 16 → (∀ x, x < 4 → (t / 2 ^ x % 2 = 0 ↔ ¬ hk_TK kd ow rn i x)) → wX_idle_7 post fo fm fr (nI nw) kd nu re sg ot ob ri va f1 g1 f2 g2 hd ct pg us ce pk pn ps wd tp bt ky gv ga gb (d + 1) (nI t) (nI i) := by
    intro d
    induction d with
    | zero =>
      intro i t hi ht hb
      obtain rfl : i = 16 := by omega
      exact br_t (nI_le (a := 16) (Nat.le_refl _) (by decide)) (l42 t ht hb)
    | succ d ih =>
      intro i t hi ht hb
      refine br_f (nI_ge (b := 16) (by omega) (by decide)) ⟨hk_in (by omega), ?_⟩
      rw [hk_cl (by omega)]
      by_cases k4 : kd i = 4
      · obtain ⟨p, hp, e1, e2⟩ := h9 i (by omega) k4
        obtain ⟨b1, b2, b3⟩ := hk_bset t ht p hp
        refine br_t k4 ⟨hk_in (by omega), nm_r (e' := nI (t ||| 2 ^ p)) (by rw [e1]; exact b1) (nm_r (nI_1 i) (ih (i + 1) _ (by omega) b2 (fun x hx => ?_)))⟩
        rw [b3 x hx]
        by_cases z : x = p
        · subst z
          rw [if_pos rfl]
          exact ⟨fun e => by omega, fun e => absurd (Or.inr ⟨i, by omega, k4, e2⟩) e⟩
        · rw [if_neg z, hb x hx]
          refine ⟨fun e e' => e ?_, fun e e' => e ?_⟩
          · rcases e' with e' | ⟨o, ho, g1, g2⟩
            · exact Or.inl e'
            · by_cases y : o = i
              · subst y
                exact absurd ((hk_eq (by omega) (by omega)).mp (g2.symm.trans e2)) z
              · exact Or.inr ⟨o, by omega, g1, g2⟩
          · rcases e' with e' | ⟨o, ho, g1, g2⟩
            · exact Or.inl e'
            · exact Or.inr ⟨o, by omega, g1, g2⟩
      · refine br_f k4 (nm_r (nI_1 i) (ih (i + 1) t (by omega) ht (fun x hx => ?_)))
        rw [hb x hx]
        refine ⟨fun e e' => e ?_, fun e e' => e ?_⟩
        · rcases e' with e' | ⟨o, ho, g1, g2⟩
          · exact Or.inl e'
          · by_cases y : o = i
            · subst y; exact absurd g1 k4
            · exact Or.inr ⟨o, by omega, g1, g2⟩
        · rcases e' with e' | ⟨o, ho, g1, g2⟩
          · exact Or.inl e'
          · exact Or.inr ⟨o, by omega, g1, g2⟩
  obtain ⟨r, hr, e, hb⟩ := K3
  have fin := l7 16 0 r rfl hr (fun x hx => by
    have a := hb x hx
    have b : r / 2 ^ x % 2 < 2 := Nat.mod_lt _ (by decide)
    refine ⟨fun e1 e2 => ?_, fun e1 => ?_⟩
    · rcases e2 with e2 | ⟨o, ho, -⟩
      · rw [a, e1] at e2; exact e2 rfl
      · omega
    · by_cases z : rn x = 0
      · rw [a, hk_e0 (by omega)] at z; exact z
      · exact absurd (Or.inl z) e1)
  rw [← e] at fin
  exact ⟨17, fin⟩
theorem hk_idleY {fm : Int32} {nw : Nat} {kd nu ev pe ow cy rf ri rn gv ga gb wt vy t1 r1 t2 r2 pa qk qn qs wd bt tp ky : Nat → Int32} {post : Int32 → Prop} {q : Nat} (hq : q ≤ 4) (hq0 : q < 4 → ¬ hk_TK kd ow rn 16 q) (hm : ∀ i, i < q → hk_TK kd ow rn 16 i) (H : post (if q = 4 then -1 else nI q)) : wpY_freeProcess post (fm, nI nw, kd, nu, ev, pe, ow, cy, rf, ri, rn, gv, ga, gb, wt, vy, t1, r1, t2, r2, pa, qk, qn, qs, wd, bt, tp, ky) := by
  have l11 : ∀ (J : Int32 → Prop) (x : Nat), x < 4 → (hk_TK kd ow rn 16 x → J (nI (x + 1))) → (¬ hk_TK kd ow rn 16 x → post (nI x)) → ∀ d i b, i + d = 16 → (b = 0 ∨ b = 1) → (b = 0 ↔ ¬ ∃ o, o < i ∧ kd o = 4 ∧ ow o = nI x) → wY_freeProcess_11 post J (nI x) fm (nI nw) kd nu ev pe ow cy rf ri rn gv ga gb wt vy t1 r1 t2 r2 pa qk qn qs wd bt tp ky (d + 1) b (nI i) := by
    intro J x hx hJ hP d
    induction d with
    | zero =>
      intro i b hi hb hbi
      obtain rfl : i = 16 := by omega
      refine br_t (nI_le (a := 16) (Nat.le_refl _) (by decide)) ⟨hk_in hx, ?_⟩
      rw [hk_cl (by omega)]
      by_cases z : rn x = 0
      · refine br_t z ?_
        by_cases y : b = 0
        · refine br_t y (hP fun e => ?_)
          rcases e with e | e
          · exact e z
          · exact hbi.mp y e
        · refine br_f y (nm_r (nI_1 x) (hJ (Or.inr ?_)))
          exact Classical.not_not.mp fun e => y (hbi.mpr e)
      · exact br_f z (nm_r (nI_1 x) (hJ (Or.inl z)))
    | succ d ih =>
      intro i b hi hb hbi
      refine br_f (nI_ge (b := 16) (by omega) (by decide)) ⟨hk_in (by omega), ?_⟩
      rw [hk_cl (by omega)]
      have b0 : b ||| 0 = b := Int32.or_zero
      have b1 : b ||| 1 = 1 := by rcases hb with rfl | rfl <;> decide
      have same : ¬ (kd i = 4 ∧ ow i = nI x) → ((∃ o, o < i + 1 ∧ kd o = 4 ∧ ow o = nI x) ↔ ∃ o, o < i ∧ kd o = 4 ∧ ow o = nI x) := by
        intro n
        constructor
        · rintro ⟨o, ho, g1, g2⟩
          by_cases y : o = i
          · subst y; exact absurd ⟨g1, g2⟩ n
          · exact ⟨o, by omega, g1, g2⟩
        · rintro ⟨o, ho, g1, g2⟩
          exact ⟨o, by omega, g1, g2⟩
      by_cases k4 : kd i = 4
      · refine br_t k4 ⟨hk_in (by omega), ?_⟩
        by_cases o4 : ow i = nI x
        · exact br_t o4 (nm_r b1 (nm_r (nI_1 i) (ih (i + 1) 1 (by omega) (Or.inr rfl) ⟨fun e => absurd e (by decide), fun e => absurd ⟨i, by omega, k4, o4⟩ e⟩)))
        · exact br_f o4 (nm_r b0 (nm_r (nI_1 i) (ih (i + 1) b (by omega) hb (by rw [same (fun e => o4 e.2)]; exact hbi))))
      · exact br_f k4 (nm_r b0 (nm_r (nI_1 i) (ih (i + 1) b (by omega) hb (by rw [same (fun e => k4 e.1)]; exact hbi))))
  have l2 : ∀ d x, x + d = q → wY_freeProcess_2 post fm (nI nw) kd nu ev pe ow cy rf ri rn gv ga gb wt vy t1 r1 t2 r2 pa qk qn qs wd bt tp ky (d + 1) (nI x) := by
    intro d
    induction d with
    | zero =>
      intro x hx
      obtain rfl : x = q := by omega
      by_cases z : x = 4
      · rw [if_pos z] at H; exact br_t (by rw [z]; decide) H
      · rw [if_neg z] at H
        refine br_f (nI_ge (b := 4) (by omega) (by decide)) ⟨17, ?_⟩
        exact l11 _ x (by omega) (fun e => absurd e (hq0 (by omega))) (fun _ => H) 16 0 0 rfl (Or.inl rfl) ⟨fun _ e => by obtain ⟨o, ho, -⟩ := e; omega, fun _ => rfl⟩
    | succ d ih =>
      intro x hx
      refine br_f (nI_ge (b := 4) (by omega) (by decide)) ⟨17, ?_⟩
      exact l11 _ x (by omega) (fun _ => ih (x + 1) (by omega)) (fun e => absurd (hm x (by omega)) e) 16 0 0 rfl (Or.inl rfl) ⟨fun _ e => by obtain ⟨o, ho, -⟩ := e; omega, fun _ => rfl⟩
  exact ⟨q + 1, l2 q 0 (by omega)⟩
theorem hk_TKq (kd ow rn : Nat → Int32) : ∃ q, q ≤ 4 ∧ (q < 4 → ¬ hk_TK kd ow rn 16 q) ∧ ∀ i, i < q → hk_TK kd ow rn 16 i := by
  have key : ∀ n, n ≤ 4 → (∀ i, i < n → hk_TK kd ow rn 16 i) ∨ ∃ q, q < n ∧ ¬ hk_TK kd ow rn 16 q ∧ ∀ i, i < q → hk_TK kd ow rn 16 i := by
    intro n
    induction n with
    | zero => intro _; exact Or.inl (fun i hi => by omega)
    | succ n ih =>
      intro hn
      rcases ih (by omega) with h | ⟨q, h1, h2, h3⟩
      · rcases Classical.em (hk_TK kd ow rn 16 n) with e | e
        · refine Or.inl (fun i hi => ?_)
          by_cases z : i = n
          · rw [z]; exact e
          · exact h i (by omega)
        · exact Or.inr ⟨n, by omega, e, h⟩
      · exact Or.inr ⟨q, by omega, h2, h3⟩
  rcases key 4 (Nat.le_refl _) with h | ⟨q, h1, h2, h3⟩
  · exact ⟨4, Nat.le_refl _, fun e => by omega, h⟩
  · exact ⟨q, by omega, fun _ => h2, h3⟩
/-- a handle moves -/
theorem hk_RH {fo fr : Int32} {nw : Nat} {kd re sg ot ob ri va f1 g1 f2 g2 hd ct pg us ce pk pn ps wd tp bt ev pe ow cy rf rn wt vy t1 r1 t2 r2 pa qk qn qs : Nat → Int32} {ob' rf' ri' : Nat → Int32} (R : hk_R fo fr nw kd re sg ot ob ri va f1 g1 f2 g2 hd ct pg us ce pk pn ps wd tp bt ev pe ow cy rf rn wt vy t1 r1 t2 r2 pa qk qn qs) (h4 : hk_P4 kd ob' rf') (hR : hk_PR ri') (hH : ∀ o, o < 16 → hk_HC rf' o = hk_HC rf o) : hk_R fo fr nw kd re sg ot ob' ri' va f1 g1 f2 g2 hd ct pg us ce pk pn ps wd tp bt ev pe ow cy rf' rn wt vy t1 r1 t2 r2 pa qk qn qs := by
  obtain ⟨K1, K2, K3, K4, K5, K6, KP, K7, K8, K9, KS, KW, KR⟩ := R
  refine ⟨K1, K2, K3, h4, fun o ho hl => ?_, K6, KP, K7, K8, K9, KS, KW, hR⟩
  unfold hk_RF
  rw [hH o ho]
  exact K5 o ho hl
theorem hk_HC_mv {rf : Nat → Int32} {i k o : Nat} (hi : i < 40) (hk : k < 40) (ho : o < 16) (hne : k ≠ i) (h : rf k = -1) : hk_HC (upd (upd rf i (-1)) k (rf i)) o = hk_HC rf o := by
  have n1 : ¬ (-1 : Int32) = nI o := fun z => hk_nm1 (a := o) (by omega) z.symm
  have a := hk_HC_up (rf := rf) (h := i) (o := o) (y := -1) hi
  have b := hk_HC_up (rf := upd rf i (-1)) (h := k) (o := o) (y := rf i) hk
  rw [hk_un hne, h] at b
  rw [if_neg (c := (-1 : Int32) = nI o) n1] at a b
  omega
theorem hk_spawnEnd {fo fm fr : Int32} {nw : Nat} {kd nu re sg ot ob ri va f1 g1 f2 g2 hd ct pg us ce pk pn ps wd tp bt ky gv ga gb ev pe ow cy rf rn wt vy t1 r1 t2 r2 pa qk qn qs : Nat → Int32} (R : hk_R fo fr nw kd re sg ot ob ri va f1 g1 f2 g2 hd ct pg us ce pk pn ps wd tp bt ev pe ow cy rf rn wt vy t1 r1 t2 r2 pa qk qn qs) (Q : hk_Q nw sg wd bt) (Z : hk_Z rn rf) {k p q : Nat} (hp : p < 4) (hr : ¬ rn p = 0) (hq : q < 4) (hrq : rn q = 1) (hno : ∀ e, e < 16 → kd e = 4 → ¬ ow e = nI q) (hLC : hk_LC kd < 16) (hRM : 0 < hk_RM rf p)
    {YP : (Int32 → SY → Prop) → Prop} (Yin : ∀ (post : Int32 → SY → Prop), wY_spawn_140 post (nI p) (nI q) fm (nI nw) kd nu ev pe ow cy rf ri rn gv ga gb wt vy t1 r1 t2 r2 pa qk qn qs wd bt tp ky → YP post) :
    wX_spawn_172 (fun r u' => YP (fun r' v' => r' = r ∧ i_Rel k u' v')) (nI p) (nI q) fo fm fr (nI nw) kd nu re sg ot ob ri va f1 g1 f2 g2 hd ct pg us ce pk pn ps wd tp bt ky gv ga gb := by
  obtain ⟨i, hi, c0, c1, c2, c3⟩ := hk_place R.2.2.2.1 hp hRM
  obtain ⟨o, ho, d0, dm⟩ := hk_deadL hLC
  have K8 := R.2.2.2.2.2.2.2.2.1
  have R1 := hk_crea R (k := nI 4) (xo := nI q) (xp := -1) (xw := nI q) (s := 0) ho d0 (Or.inr (Or.inr (Or.inr (Or.inr (Or.inr rfl))))) (by decide) (fun e => absurd e (by decide)) (hk_P8_none K8 ho (hk_d2 d0) (by decide) (cy' := hk_fz (8 * o) cy) (fun _ h => hk_fz_out h)) (fun _ => ⟨q, hq, rfl, rfl, hno⟩)
    (by rw [hk_S_4 (show upd kd o (nI 4) o = 4 from hk_us), hk_us, hk_cl (by omega), hrq, if_neg (by decide)]) ⟨0, by decide, rfl⟩
  have R2 := hk_grant R1 (h := 10 * p + i) (o := o) (r := nI 63) (by omega) c1 ho (by rw [hk_us]; decide) ⟨63, by decide, rfl⟩
  unfold wX_spawn_172
  refine hk_creX (k := 4) ho d0 dm (by omega) (hk_st rfl ho (hk_vb' (by omega)) ?_)
  rw [hk_uu (f := ot)]
  refine hk_grantX (r := 63) (m := 0) hp hi c0 c2 ho (by decide) hk_us (by decide) (Yin _ ?_)
  unfold wY_spawn_140
  refine hk_creY ho d0 dm (hk_st rfl ho rfl ?_)
  rw [hk_uu (f := ow)]
  exact hk_placeY hp hi c1 c3 ⟨rfl, hk_il R2 (hk_Q0 Q) (hk_Zup Z hp hi hr)⟩
theorem hk_spawn77 {fo fm fr : Int32} {nw : Nat} {kd nu re sg ot ob ri va f1 g1 f2 g2 hd ct pg us ce pk pn ps wd tp bt ky gv ga gb ev pe ow cy rf rn wt vy t1 r1 t2 r2 pa qk qn qs : Nat → Int32} (R : hk_R fo fr nw kd re sg ot ob ri va f1 g1 f2 g2 hd ct pg us ce pk pn ps wd tp bt ev pe ow cy rf rn wt vy t1 r1 t2 r2 pa qk qn qs) (Q : hk_Q nw sg wd bt) (Z : hk_Z rn rf) {k p q : Nat} {a : Int32} (hp : p < 4) (hr : ¬ rn p = 0) (hq : q < 4) (hT : ¬ hk_TK kd ow rn 16 q) (hLC : hk_LC kd < 16)
    (ha : (a = -1 ∧ 0 < hk_RM rf p) ∨ ∃ j o, j < 10 ∧ a = nI j ∧ o < 16 ∧ ob (10 * p + j) = nI (o + 1) ∧ rf (10 * p + j) = nI o ∧ ¬ kd o < 0)
    {YP : (Int32 → SY → Prop) → Prop} (Yin : ∀ (post : Int32 → SY → Prop), wY_spawn_81 post (nI p) a (nI q) fm (nI nw) kd nu ev pe ow cy rf ri rn gv ga gb wt vy t1 r1 t2 r2 pa qk qn qs wd bt tp ky → YP post) :
    wX_spawn_77 (fun r u' => YP (fun r' v' => r' = r ∧ i_Rel k u' v')) (nI p) a (nI q) fo fm fr (nI nw) kd nu re sg ot ob ri va f1 g1 f2 g2 hd ct pg us ce pk pn ps wd tp bt ky gv ga gb := by
  have hrq : rn q = 0 := Classical.not_not.mp fun e => hT (Or.inl e)
  have hno : ∀ e, e < 16 → kd e = 4 → ¬ ow e = nI q := fun e he h4 h5 => hT (Or.inr ⟨e, he, h4, h5⟩)
  have hpq : p ≠ q := fun e => hr (e ▸ hrq)
  have R1 := hk_start R hq hno
  have Z1 : hk_Z (upd rn q 1) rf := by
    intro x hx h0 j hj
    have n : x ≠ q := fun e => by rw [e, hk_us] at h0; exact absurd h0 (by decide)
    rw [hk_un n] at h0
    exact Z x hx h0 j hj
  have hr1 : ¬ upd rn q 1 p = 0 := by rw [hk_un hpq]; exact hr
  refine nm_e (hk_st rfl hq rfl (hk_st rfl hq hk_vbm (hk_st rfl hq hk_vbm ?_)))
  rcases ha with ⟨rfl, hRM⟩ | ⟨j, o, hj, rfl, ho, e1, e2, hl⟩
  · refine br_t hk_m1lt (hk_spawnEnd R1 Q Z1 hp hr1 hq hk_us hno hLC hRM (fun post H => Yin post ?_))
    exact hk_st rfl hq hk_vt (hk_nothY hq (br_t rfl H))
  · have n0 := hk_n0 (a := j) (by omega)
    have nm : ¬ nI j = -1 := hk_nm1 (by omega)
    have KR := R.2.2.2.2.2.2.2.2.2.2.2.2
    have K4 := R.2.2.2.1
    have ne : 10 * q ≠ 10 * p + j := by omega
    have fq : rf (10 * q) = -1 := Z q hq hrq 0 (by decide)
    have oq : ob (10 * q) = 0 := (hk_H_0 (K4 (10 * q) (by omega))).mpr (by rw [fq]; exact hk_m1lt)
    have R2 := hk_RH (ob' := upd (upd ob (10 * p + j) 0) (10 * q) (nI (o + 1))) (rf' := upd (upd rf (10 * p + j) (-1)) (10 * q) (nI o)) (ri' := upd ri (10 * q) (ri (10 * p + j))) R1 (hk_P4_up (hk_P4_up K4 (Or.inl ⟨rfl, rfl⟩)) (Or.inr ⟨o, ho, rfl, rfl, hl⟩)) (hk_PR_up KR (KR _)) (fun x hx => by
      have := hk_HC_mv (rf := rf) (i := 10 * p + j) (k := 10 * q) (o := x) (by omega) (by omega) hx ne fq
      rw [e2] at this; exact this)
    have Z2 : hk_Z (upd rn q 1) (upd (upd rf (10 * p + j) (-1)) (10 * q) (nI o)) := by
      have := hk_Zup (j := 0) (x := nI o) (hk_Zdrop (i := 10 * p + j) Z1) hq (by decide) (by rw [hk_us]; decide)
      exact this
    have hRM : 0 < hk_RM (upd (upd rf (10 * p + j) (-1)) (10 * q) (nI o)) p := by
      have := hk_sm_ge (f := fun t => if upd (upd rf (10 * p + j) (-1)) (10 * q) (nI o) (10 * p + t) < 0 then 1 else 0) (k := j) (n := 10) hj
      rw [hk_un (fun e => ne e.symm), hk_us, if_pos hk_m1lt] at this
      exact this
    obtain ⟨s, hs, es⟩ := KR (10 * p + j)
    have ci : (nI (10 * p + j)).toNatClampNeg = 10 * p + j := hk_cl (by omega)
    have ii : vp_in (nI (10 * p + j)) 40 := hk_in (by omega)
    refine br_f n0 ?_
    rw [hk_10, ci, e1]
    refine ⟨ii, hk_st (hk_m10 q) (by omega) (hk_vb (k := o + 1) (by omega)) ⟨ii, hk_st (hk_m10 q) (by omega) (w := ri (10 * p + j)) (by rw [es, hk_vb (by omega)]) (hk_sq ii hk_vb0 ?_)⟩⟩
    rw [hk_uc ne]
    refine hk_spawnEnd R2 Q Z2 hp hr1 hq hk_us hno hLC hRM (fun post H => Yin post ?_)
    refine hk_st rfl hq hk_vt (hk_nothY hq (br_f nm (hk_objY hp hj e2 ?_)))
    rw [hk_10, ci]
    refine ⟨ii, nm_e ⟨ii, ?_⟩⟩
    exact hk_placeY (j := 0) hq (by decide) (by rw [Nat.add_zero, hk_un ne]; exact fq) (fun i hi => by omega) H
theorem i_vc_spawn {k : Nat} {u : SX} {v : SY} (I : i_Rel k u v) (hk : k + 6 ≤ 3072) (v1 : Int32) (v2 : Int32) : wpX_spawn (fun r u' => wpY_spawn (fun r' v' => r' = r ∧ i_Rel (k + 6) u' v') v v1 v2) u v1 v2 := by
  refine hk_el (P := fun u v => wpX_spawn (fun r u' => wpY_spawn (fun r' v' => r' = r ∧ i_Rel (k + 6) u' v') v v1 v2) u v1 v2) ?_ I
  intro fo fm fr nw kd nu re sg ot ob ri va f1 g1 f2 g2 hd ct pg us ce pk pn ps wd tp bt ky gv ga gb ev pe ow cy rf rn wt vy t1 r1 t2 r2 pa qk qn qs R Q Z
  obtain ⟨r, rX, rY, r0⟩ := hk_runs (fo := fo) (fm := fm) (fr := fr) (nw := nw) (kd := kd) (nu := nu) (re := re) (sg := sg) (ot := ot) (ob := ob) (ri := ri) (va := va) (f1 := f1) (g1 := g1) (f2 := f2) (g2 := g2) (hd := hd) (ct := ct) (pg := pg) (us := us) (ce := ce) (pk := pk) (pn := pn) (ps := ps) (wd := wd) (tp := tp) (bt := bt) (ky := ky) (gv := gv) (ga := ga) (gb := gb) (ev := ev) (pe := pe) (ow := ow) (cy := cy) (rf := rf) (rn := rn) (wt := wt) (vy := vy) (t1 := t1) (r1 := r1) (t2 := t2) (r2 := r2) (pa := pa) (qk := qk) (qn := qn) (qs := qs) R v1
  unfold wpX_spawn
  refine rX _ ?_
  by_cases z : r = 0
  · refine br_t z ?_
    unfold wpY_spawn
    exact rY _ (br_t z (br_f (by decide) (br_f (by decide) ⟨rfl, hk_il R Q Z⟩)))
  · obtain ⟨p, hp, rfl, hr⟩ := r0 z
    obtain ⟨ra, aX, aY, a0⟩ := hk_opt (fo := fo) (fm := fm) (fr := fr) (nw := nw) (kd := kd) (nu := nu) (re := re) (sg := sg) (ot := ot) (ob := ob) (ri := ri) (va := va) (f1 := f1) (g1 := g1) (f2 := f2) (g2 := g2) (hd := hd) (ct := ct) (pg := pg) (us := us) (ce := ce) (pk := pk) (pn := pn) (ps := ps) (wd := wd) (tp := tp) (bt := bt) (ky := ky) (gv := gv) (ga := ga) (gb := gb) (ev := ev) (pe := pe) (ow := ow) (cy := cy) (rf := rf) (rn := rn) (wt := wt) (vy := vy) (t1 := t1) (r1 := r1) (t2 := t2) (r2 := r2) (pa := pa) (qk := qk) (qn := qn) (qs := qs) R hp v2 (r := 0) rfl
    refine br_f z (aX (fun t => wX_spawn_28 _ (nI p) v2 t fo fm fr (nI nw) kd nu re sg ot ob ri va f1 g1 f2 g2 hd ct pg us ce pk pn ps wd tp bt ky gv ga gb) ?_)
    have Y1 : ∀ (post : Int32 → SY → Prop), wY_spawn_33 post (nI p) v2 ra fm (nI nw) kd nu ev pe ow cy rf ri rn gv ga gb wt vy t1 r1 t2 r2 pa qk qn qs wd bt tp ky → wpY_spawn post (fm, nI nw, kd, nu, ev, pe, ow, cy, rf, ri, rn, gv, ga, gb, wt, vy, t1, r1, t2, r2, pa, qk, qn, qs, wd, bt, tp, ky) (nI p) v2 := by
      intro post H
      unfold wpY_spawn
      exact rY _ (br_f z (br_t rfl (aY (fun t => wY_spawn_33 post (nI p) v2 t fm (nI nw) kd nu ev pe ow cy rf ri rn gv ga gb wt vy t1 r1 t2 r2 pa qk qn qs wd bt tp ky) H)))
    by_cases za : ra = 0
    · have K3 := R.2.2.1
      have K9 := R.2.2.2.2.2.2.2.2.2.1
      have K2 : fo = nI (hk_LC kd) := R.2.1
      have LL := hk_LC_le kd
      obtain ⟨mX, mY⟩ := hk_room (fo := fo) (fm := fm) (fr := fr) (nw := nw) (kd := kd) (nu := nu) (re := re) (sg := sg) (ot := ot) (ob := ob) (ri := ri) (va := va) (f1 := f1) (g1 := g1) (f2 := f2) (g2 := g2) (hd := hd) (ct := ct) (pg := pg) (us := us) (ce := ce) (pk := pk) (pn := pn) (ps := ps) (wd := wd) (tp := tp) (bt := bt) (ky := ky) (gv := gv) (ga := ga) (gb := gb) (ev := ev) (pe := pe) (ow := ow) (cy := cy) (rf := rf) (rn := rn) (wt := wt) (vy := vy) (t1 := t1) (r1 := r1) (t2 := t2) (r2 := r2) (pa := pa) (qk := qk) (qn := qn) (qs := qs) R hp
      have ml := hk_RM_le rf p
      obtain ⟨q, hq, q0, qm⟩ := hk_TKq kd ow rn
      refine br_t za (hk_idleX K3 K9.1 hq q0 qm ?_)
      by_cases q4 : q = 4
      · have q4' : nI q = 4 := by rw [q4]; rfl
        refine br_t q4' (Y1 _ (br_t za (hk_idleY hq q0 qm ?_)))
        rw [if_pos q4]
        exact br_f hk_m1le ⟨rfl, hk_il R Q Z⟩
      · have q4' : ¬ nI q = 4 := hk_nIne (b := 4) (by omega) (by decide) q4
        have Y2 : ∀ (post : Int32 → SY → Prop), wpY_objects (fun r_63 => ((r_63 = 16 → post (-5) (fm, nI nw, kd, nu, ev, pe, ow, cy, rf, ri, rn, gv, ga, gb, wt, vy, t1, r1, t2, r2, pa, qk, qn, qs, wd, bt, tp, ky)) ∧ (¬ r_63 = 16 → wpY_room (fun r_93 => ((r_93 = 0 → ((v2 = -1 → post (-6) (fm, nI nw, kd, nu, ev, pe, ow, cy, rf, ri, rn, gv, ga, gb, wt, vy, t1, r1, t2, r2, pa, qk, qn, qs, wd, bt, tp, ky)) ∧ (¬ v2 = -1 → wY_spawn_81 post (nI p) v2 (nI q) fm (nI nw) kd nu ev pe ow cy rf ri rn gv ga gb wt vy t1 r1 t2 r2 pa qk qn qs wd bt tp ky))) ∧ (¬ r_93 = 0 → wY_spawn_81 post (nI p) v2 (nI q) fm (nI nw) kd nu ev pe ow cy rf ri rn gv ga gb wt vy t1 r1 t2 r2 pa qk qn qs wd bt tp ky))) (fm, nI nw, kd, nu, ev, pe, ow, cy, rf, ri, rn, gv, ga, gb, wt, vy, t1, r1, t2, r2, pa, qk, qn, qs, wd, bt, tp, ky) (nI p)))) (fm, nI nw, kd, nu, ev, pe, ow, cy, rf, ri, rn, gv, ga, gb, wt, vy, t1, r1, t2, r2, pa, qk, qn, qs, wd, bt, tp, ky) → wpY_spawn post (fm, nI nw, kd, nu, ev, pe, ow, cy, rf, ri, rn, gv, ga, gb, wt, vy, t1, r1, t2, r2, pa, qk, qn, qs, wd, bt, tp, ky) (nI p) v2 := by
          intro post H
          refine Y1 _ (br_t za (hk_idleY hq q0 qm ?_))
          rw [if_neg q4]
          exact br_t (hk_0l (by omega)) H
        refine br_f q4' ?_
        by_cases f16 : hk_LC kd = 16
        · have f16' : nI (hk_LC kd) = 16 := by rw [f16]; rfl
          exact br_t (K2.trans f16') (Y2 _ (hk_objsY (br_t f16' ⟨rfl, hk_il R Q Z⟩)))
        · have f16' : ¬ nI (hk_LC kd) = 16 := by rw [hk_e16 LL]; exact f16
          refine br_f (fun e => f16' (K2.symm.trans e)) ?_
          rcases a0 za with rfl | ⟨j, o, hj, rfl, ho, e1, e2, hl⟩
          · refine br_f hk_m1le (mX _ ?_)
            by_cases y : hk_RM rf p = 0
            · have y' : nI (hk_RM rf p) = 0 := by rw [y]; rfl
              exact br_t y' (Y2 _ (hk_objsY (br_f f16' (mY _ (br_t y' (br_t rfl ⟨rfl, hk_il R Q Z⟩))))))
            · have y' : ¬ nI (hk_RM rf p) = 0 := by rw [hk_e0 (by omega)]; exact y
              exact br_f y' (hk_spawn77 (YP := fun post => wpY_spawn post (fm, nI nw, kd, nu, ev, pe, ow, cy, rf, ri, rn, gv, ga, gb, wt, vy, t1, r1, t2, r2, pa, qk, qn, qs, wd, bt, tp, ky) (nI p) (-1)) R Q Z hp hr (by omega) (q0 (by omega)) (by omega) (Or.inl ⟨rfl, by omega⟩) (fun post H => Y2 _ (hk_objsY (br_f f16' (mY _ (br_f y' H))))))
          · refine br_t (hk_0l (by omega)) (hk_spawn77 (YP := fun post => wpY_spawn post (fm, nI nw, kd, nu, ev, pe, ow, cy, rf, ri, rn, gv, ga, gb, wt, vy, t1, r1, t2, r2, pa, qk, qn, qs, wd, bt, tp, ky) (nI p) (nI j)) R Q Z hp hr (by omega) (q0 (by omega)) (by omega) (Or.inr ⟨j, o, hj, rfl, ho, e1, e2, hl⟩) (fun post H => Y2 _ (hk_objsY (br_f f16' (mY _ ?_)))))
            by_cases y : hk_RM rf p = 0
            · have y' : nI (hk_RM rf p) = 0 := by rw [y]; rfl
              exact br_t y' (br_f (hk_nm1 (by omega)) H)
            · have y' : ¬ nI (hk_RM rf p) = 0 := by rw [hk_e0 (by omega)]; exact y
              exact br_f y' H
    · exact br_f za (Y1 _ (br_f za ⟨rfl, hk_il R Q Z⟩))
end
end
section
section
theorem hk_runsX {fo fm fr : Int32} {nw : Nat} {kd nu re sg ot ob ri va f1 g1 f2 g2 hd ct pg us ce pk pn ps wd tp bt ky gv ga gb : Nat → Int32} {rn : Nat → Int32} {post : Int32 → Prop} {q : Nat} (K3 : hk_P3 fr rn) (hq : q < 4) (h0 : rn q = 0 → post 0) (h1 : ¬ rn q = 0 → post 1) : wpX_runs post (fo, fm, fr, nI nw, kd, nu, re, sg, ot, ob, ri, va, f1, g1, f2, g2, hd, ct, pg, us, ce, pk, pn, ps, wd, tp, bt, ky, gv, ga, gb) (nI q) := by
  have e := hk_P3_r K3 hq
  have a1 : ¬ nI q < 0 := hk_n0 (by omega)
  have a2 : ¬ (4 : Int32) ≤ nI q := nI_ge (b := 4) (by omega) (by decide)
  refine br_f a1 (br_f a2 ?_)
  rw [e]
  by_cases z : rn q = 0
  · exact br_t z (h0 z)
  · exact br_f z (h1 z)
/-- all handles of a process are no more, on both sides -/
theorem hk_rel {q : Nat} (hq : q < 4) : ∀ (d i : Nat) (fo fm fr : Int32) (nw : Nat) (kd nu re sg ot ob ri va f1 g1 f2 g2 hd ct pg us ce pk pn ps wd tp bt ky gv ga gb ev pe ow cy rf rn wt vy t1 r1 t2 r2 pa qk qn qs : Nat → Int32), i + d = 10 → hk_R fo fr nw kd re sg ot ob ri va f1 g1 f2 g2 hd ct pg us ce pk pn ps wd tp bt ev pe ow cy rf rn wt vy t1 r1 t2 r2 pa qk qn qs → ∃ (ob' re' rf' : Nat → Int32), hk_R fo fr nw kd re' sg ot ob' ri va f1 g1 f2 g2 hd ct pg us ce pk pn ps wd tp bt ev pe ow cy rf' rn wt vy t1 r1 t2 r2 pa qk qn qs ∧ (∀ t, rf t = -1 → rf' t = -1) ∧ (∀ j, i ≤ j → j < 10 → rf' (10 * q + j) = -1) ∧
      (∀ (post : Int32 → SX → Prop) (k : Nat), wX_kill_80 post (nI q) (k + 1) (nI 10) fo fm fr (nI nw) kd nu re' sg ot ob' ri va f1 g1 f2 g2 hd ct pg us ce pk pn ps wd tp bt ky gv ga gb → wX_kill_80 post (nI q) (k + 1 + d) (nI i) fo fm fr (nI nw) kd nu re sg ot ob ri va f1 g1 f2 g2 hd ct pg us ce pk pn ps wd tp bt ky gv ga gb) ∧
      (∀ (post : Int32 → SY → Prop) (k : Nat), wY_kill_61 post (nI q) fm (nI nw) (k + 1) (nI (10 * q + 10)) kd nu ev pe ow cy rf' ri rn gv ga gb wt vy t1 r1 t2 r2 pa qk qn qs wd bt tp ky → wY_kill_61 post (nI q) fm (nI nw) (k + 1 + d) (nI (10 * q + i)) kd nu ev pe ow cy rf ri rn gv ga gb wt vy t1 r1 t2 r2 pa qk qn qs wd bt tp ky) := by
  intro d
  induction d with
  | zero =>
    intro i fo fm fr nw kd nu re sg ot ob ri va f1 g1 f2 g2 hd ct pg us ce pk pn ps wd tp bt ky gv ga gb ev pe ow cy rf rn wt vy t1 r1 t2 r2 pa qk qn qs hi R
    obtain rfl : i = 10 := by omega
    exact ⟨ob, re, rf, R, fun _ h => h, fun j h1 h2 => by omega, fun post k H => H, fun post k H => H⟩
  | succ d ih =>
    intro i fo fm fr nw kd nu re sg ot ob ri va f1 g1 f2 g2 hd ct pg us ce pk pn ps wd tp bt ky gv ga gb ev pe ow cy rf rn wt vy t1 r1 t2 r2 pa qk qn qs hi R
    have b10 : ¬ (10 : Int32) ≤ nI i := nI_ge (b := 10) (by omega) (by decide)
    have y10 : ¬ (10 : Int32) * nI q + 10 ≤ nI (10 * q + i) := by rw [hk_m10, hk_a10]; exact nI_ge (by omega) (by omega)
    rcases R.2.2.2.1 (10 * q + i) (by omega) with ⟨e1, e2⟩ | ⟨o, ho, e1, e2, hl⟩
    · obtain ⟨ob', re', rf', R', k1, k2, X', Y'⟩ := ih (i + 1) fo fm fr nw kd nu re sg ot ob ri va f1 g1 f2 g2 hd ct pg us ce pk pn ps wd tp bt ky gv ga gb ev pe ow cy rf rn wt vy t1 r1 t2 r2 pa qk qn qs (by omega) R
      refine ⟨ob', re', rf', R', k1, fun j h1 h2 => ?_, fun post k H => ?_, fun post k H => ?_⟩
      · by_cases z : j = i
        · subst z; exact k1 _ e2
        · exact k2 j (by omega) h2
      · exact br_f b10 (hk_relX0 hq (by omega) e1 (nm_r (nI_1 i) (X' post k H)))
      · refine br_f y10 (hk_st rfl (by omega) rfl (nm_r (nI_1 _) ?_))
        rw [hk_ui e2.symm]
        exact Y' post k H
    · obtain ⟨m, hm, em⟩ := hk_dropb R (by omega) e2 ho hl
      obtain ⟨ob', re', rf', R', k1, k2, X', Y'⟩ := ih (i + 1) fo fm fr nw kd nu (upd re o (re o - 1)) sg ot (upd ob (10 * q + i) 0) ri va f1 g1 f2 g2 hd ct pg us ce pk pn ps wd tp bt ky gv ga gb ev pe ow cy (upd rf (10 * q + i) (-1)) rn wt vy t1 r1 t2 r2 pa qk qn qs (by omega) (hk_drop R (by omega) e2 ho hl)
      refine ⟨ob', re', rf', R', fun t h => k1 t ?_, fun j h1 h2 => ?_, fun post k H => ?_, fun post k H => ?_⟩
      · by_cases z : t = 10 * q + i
        · rw [z, hk_us]
        · rw [hk_un z]; exact h
      · by_cases z : j = i
        · subst z; exact k1 _ hk_us
        · exact k2 j (by omega) h2
      · exact br_f b10 (hk_relX hq (by omega) ho e1 em (by omega) (nm_r (nI_1 i) (X' post k H)))
      · exact br_f y10 (hk_st rfl (by omega) rfl (nm_r (nI_1 _) (Y' post k H)))
theorem i_vc_kill {k : Nat} {u : SX} {v : SY} (I : i_Rel k u v) (hk : k + 6 ≤ 3072) (v1 : Int32) (v2 : Int32) : wpX_kill (fun r u' => wpY_kill (fun r' v' => r' = r ∧ i_Rel (k + 6) u' v') v v1 v2) u v1 v2 := by
  refine hk_el (P := fun u v => wpX_kill (fun r u' => wpY_kill (fun r' v' => r' = r ∧ i_Rel (k + 6) u' v') v v1 v2) u v1 v2) ?_ I
  intro fo fm fr nw kd nu re sg ot ob ri va f1 g1 f2 g2 hd ct pg us ce pk pn ps wd tp bt ky gv ga gb ev pe ow cy rf rn wt vy t1 r1 t2 r2 pa qk qn qs R Q Z
  obtain ⟨r, rX, rY, r0⟩ := hk_first (fo := fo) (fm := fm) (fr := fr) (nw := nw) (kd := kd) (nu := nu) (re := re) (sg := sg) (ot := ot) (ob := ob) (ri := ri) (va := va) (f1 := f1) (g1 := g1) (f2 := f2) (g2 := g2) (hd := hd) (ct := ct) (pg := pg) (us := us) (ce := ce) (pk := pk) (pn := pn) (ps := ps) (wd := wd) (tp := tp) (bt := bt) (ky := ky) (gv := gv) (ga := ga) (gb := gb) (ev := ev) (pe := pe) (ow := ow) (cy := cy) (rf := rf) (rn := rn) (wt := wt) (vy := vy) (t1 := t1) (r1 := r1) (t2 := t2) (r2 := r2) (pa := pa) (qk := qk) (qn := qn) (qs := qs) R v1 v2 4 32
  unfold wpX_kill
  refine rX _ ?_
  by_cases z : r = 0
  · obtain ⟨p, j, o, hp, rfl, hr, hj, rfl, ho, e1, e2, hl, hw⟩ := r0 z
    have k4 : kd o = 4 := hw (by decide)
    have K3 := R.2.2.1
    obtain ⟨q, hq, eot, eow⟩ := R.2.2.2.2.2.2.2.2.2.1.1 o ho k4
    have co : (nI o).toNatClampNeg = o := hk_cl (by omega)
    have io : vp_in (nI o) 16 := hk_in ho
    have cq : (nI q).toNatClampNeg = q := hk_cl (by omega)
    have iq : vp_in (nI q) 4 := hk_in hq
    have Y1 : ∀ (post : Int32 → SY → Prop), ((rn q = 0 → post (-8) (fm, nI nw, kd, nu, ev, pe, ow, cy, rf, ri, rn, gv, ga, gb, wt, vy, t1, r1, t2, r2, pa, qk, qn, qs, wd, bt, tp, ky)) ∧ (¬ rn q = 0 → (vp_in (nI q) 4 ∧ ∀ a_runs_65 : Nat → Int32, a_runs_65 = upd rn q (vp_nar .boolean 0) → wpY_tell (fun u => match u with | (b_fm, b_fw, b_kd, b_nu, b_ev, b_pe, b_ow, b_cy, b_rf, b_ri, b_rn, b_gv, b_ga, b_gb, b_wt, b_vy, b_t1, b_r1, b_t2, b_r2, b_pa, b_qk, b_qn, b_qs, b_wd, b_bt, b_tp, b_ky) => ∀ x5_95 : Int32, x5_95 = 10 * nI q → ∃ n61 : Nat, wY_kill_61 post (nI q) b_fm b_fw n61 x5_95 b_kd b_nu b_ev b_pe b_ow b_cy b_rf b_ri b_rn b_gv b_ga b_gb b_wt b_vy b_t1 b_r1 b_t2 b_r2 b_pa b_qk b_qn b_qs b_wd b_bt b_tp b_ky) (fm, nI nw, kd, nu, ev, pe, ow, cy, rf, ri, a_runs_65, gv, ga, gb, wt, vy, t1, r1, t2, r2, pa, qk, qn, qs, wd, bt, tp, ky)))) → wpY_kill post (fm, nI nw, kd, nu, ev, pe, ow, cy, rf, ri, rn, gv, ga, gb, wt, vy, t1, r1, t2, r2, pa, qk, qn, qs, wd, bt, tp, ky) (nI p) (nI j) := by
      intro post H
      unfold wpY_kill
      refine rY _ (br_t z (hk_objY hp hj e2 ⟨io, nm_r (e' := nI q) (by rw [co]; exact eow) ⟨iq, ?_⟩⟩))
      rw [cq]; exact H
    refine br_t z (hk_objX hp hj e1 ⟨io, nm_r (e' := nI q) (by rw [co]; exact eot) (hk_runsX K3 hq (fun h0 => ?_) (fun h1 => ?_))⟩)
    · exact br_t rfl (Y1 _ (br_t h0 ⟨rfl, hk_il R Q Z⟩))
    · obtain ⟨eS, vS⟩ := R.2.2.2.2.2.2.2.2.2.2.1 o ho hl
      have R1 := hk_stop R hq ho k4 eow
      obtain ⟨m2, sg2, ct2, pk2, pn2, ps2, pa2, qk2, qn2, qs2, wd2, tp2, bt2, ky2, R3, Q3, -, cX, cY⟩ := hk_change (nu := nu) (ky := ky) (gv := gv) (ga := ga) (gb := gb) (fm := fm) R1
      obtain ⟨ob', re', rf', R4, l1, l2, LX, LY⟩ := hk_rel hq 10 0 fo fm _ m2 kd nu re sg2 ot ob ri va f1 g1 f2 g2 hd ct2 pg us ce pk2 pn2 ps2 wd2 tp2 bt2 ky2 gv ga gb ev pe ow cy rf (upd rn q 0) wt vy t1 r1 t2 r2 pa2 qk2 qn2 qs2 rfl R3
      obtain ⟨fo5, m5, kd5, re5, sg5, ot5, ct5, us5, pk5, pn5, ps5, wd5, tp5, bt5, ky5, pe5, pa5, qk5, qn5, qs5, R5, Q5, dX, dY⟩ := hk_collect (nu := nu) (ky := ky2) (gv := gv) (ga := ga) (gb := gb) (fm := fm) R4 Q3
      have Z5 : hk_Z (upd rn q 0) rf' := by
        intro x hx h0 t ht
        by_cases y : x = q
        · subst y; exact l2 t (by omega) ht
        · rw [hk_un y] at h0; exact l1 _ (Z x hx h0 t ht)
      refine br_f (by decide) (nm_e ⟨io, ?_⟩)
      rw [co]
      refine cX _ o _ sg ho (hk_V_or vS ⟨1024, by decide, rfl⟩) rfl ⟨0 + 1 + 10, LX _ 0 (br_t (nI_le (a := 10) (Nat.le_refl _) (by decide)) (dX _ ?_))⟩
      refine Y1 _ (br_f h1 (hk_sq iq hk_vf (cY _ (nm_r (hk_m10 q) ⟨0 + 1 + 10, LY _ 0 (br_t ?_ (dY _ ⟨rfl, hk_il R5 Q5 Z5⟩))⟩))))
      rw [hk_m10, hk_a10]; exact nI_le (Nat.le_refl _) (by omega)
  · refine br_f z ?_
    unfold wpY_kill
    exact rY _ (br_f z ⟨rfl, hk_il R Q Z⟩)
end
end
section
section
theorem hk_mask : ∀ r, r < 16 → ∀ i, i < 4 → (r / 2 ^ i % 2 = 0 → r % 2 ^ (i + 1) = r % 2 ^ i) ∧ (¬ r / 2 ^ i % 2 = 0 → nI (r % 2 ^ i) ||| ((1 : Int32) <<< (nI i &&& 31)) = nI (r % 2 ^ (i + 1))) := by decide +kernel
theorem hk_maskY {fm : Int32} {nw : Nat} {kd nu ev pe ow cy rf ri rn gv ga gb wt vy t1 r1 t2 r2 pa qk qn qs wd bt tp ky : Nat → Int32} {fr : Int32} {post : Int32 → Prop} {w : Int32} (K3 : hk_P3 fr rn)
    (H : (w = 0 → wpY_objects (fun r => post r) (fm, nI nw, kd, nu, ev, pe, ow, cy, rf, ri, rn, gv, ga, gb, wt, vy, t1, r1, t2, r2, pa, qk, qn, qs, wd, bt, tp, ky)) ∧ (¬ w = 0 → ((w = 1 → post (nI nw)) ∧ (¬ w = 1 → ((w = 2 → post fr) ∧ (¬ w = 2 → ((w = 3 → post fm) ∧ (¬ w = 3 → post (-9))))))))) : ∃ n, wY_info_21 post w fm (nI nw) kd nu ev pe ow cy rf ri rn gv ga gb wt vy t1 r1 t2 r2 pa qk qn qs wd bt tp ky n 0 0 := by
  obtain ⟨r, hr, rfl, hb⟩ := K3
  have key : ∀ d i, i + d = 4 → wY_info_21 post w fm (nI nw) kd nu ev pe ow cy rf ri rn gv ga gb wt vy t1 r1 t2 r2 pa qk qn qs wd bt tp ky (d + 1) (nI (r % 2 ^ i)) (nI i) := by
    intro d
    induction d with
    | zero =>
      intro i hi
      obtain rfl : i = 4 := by omega
      refine br_t (nI_le (a := 4) (Nat.le_refl _) (by decide)) ?_
      rw [show r % 2 ^ 4 = r from Nat.mod_eq_of_lt hr]
      exact H
    | succ d ih =>
      intro i hi
      obtain ⟨m1, m2⟩ := hk_mask r hr i (by omega)
      have a := ih (i + 1) (by omega)
      refine br_f (nI_ge (b := 4) (by omega) (by decide)) ⟨hk_in (by omega), ?_⟩
      rw [hk_cl (by omega), hb i (by omega)]
      by_cases z : r / 2 ^ i % 2 = 0
      · rw [m1 z] at a
        exact br_t (by rw [z]; rfl) (nm_r (nI_1 i) a)
      · refine br_f (by rw [hk_e0 (by omega)]; exact z) (nm_r (m2 z) (nm_r (nI_1 i) a))
  have a := key 4 0 rfl
  rw [show r % 2 ^ 0 = 0 from Nat.mod_one r] at a
  exact ⟨5, a⟩
theorem i_vc_info {k : Nat} {u : SX} {v : SY} (I : i_Rel k u v) (hk : k + 6 ≤ 3072) (v1 : Int32) (v2 : Int32) (v3 : Int32) : wpX_info (fun r => wpY_info (fun r' => r' = r ∧ i_Rel (k + 6) u v) v v1 v2 v3) u v1 v2 v3 := by
  refine hk_el (P := fun u v => wpX_info (fun r => wpY_info (fun r' => r' = r ∧ i_Rel (k + 6) u v) v v1 v2 v3) u v1 v2 v3) ?_ I
  intro fo fm fr nw kd nu re sg ot ob ri va f1 g1 f2 g2 hd ct pg us ce pk pn ps wd tp bt ky gv ga gb ev pe ow cy rf rn wt vy t1 r1 t2 r2 pa qk qn qs R Q Z
  have I' : i_Rel (k + 6) (fo, fm, fr, nI nw, kd, nu, re, sg, ot, ob, ri, va, f1, g1, f2, g2, hd, ct, pg, us, ce, pk, pn, ps, wd, tp, bt, ky, gv, ga, gb) (fm, nI nw, kd, nu, ev, pe, ow, cy, rf, ri, rn, gv, ga, gb, wt, vy, t1, r1, t2, r2, pa, qk, qn, qs, wd, bt, tp, ky) := hk_il R Q Z
  obtain ⟨r, rX, rY, r0⟩ := hk_runs (fo := fo) (fm := fm) (fr := fr) (nw := nw) (kd := kd) (nu := nu) (re := re) (sg := sg) (ot := ot) (ob := ob) (ri := ri) (va := va) (f1 := f1) (g1 := g1) (f2 := f2) (g2 := g2) (hd := hd) (ct := ct) (pg := pg) (us := us) (ce := ce) (pk := pk) (pn := pn) (ps := ps) (wd := wd) (tp := tp) (bt := bt) (ky := ky) (gv := gv) (ga := ga) (gb := gb) (ev := ev) (pe := pe) (ow := ow) (cy := cy) (rf := rf) (rn := rn) (wt := wt) (vy := vy) (t1 := t1) (r1 := r1) (t2 := t2) (r2 := r2) (pa := pa) (qk := qk) (qn := qn) (qs := qs) R v1
  unfold wpX_info
  refine rX _ ?_
  by_cases z : r = 0
  · refine br_t z ?_
    unfold wpY_info
    exact rY _ (br_t z ⟨rfl, I'⟩)
  · obtain ⟨p, hp, rfl, hr⟩ := r0 z
    refine br_f z ?_
    have K := R
    obtain ⟨K1, K2, K3, K4, K5, K6, KP, K7, K8, K9, KS, KW, KR⟩ := K
    have K2' : fo = nI (hk_LC kd) := K2
    by_cases hm : v2 = -1
    · have Y1 : ∀ (post : Int32 → Prop), ((v3 = 0 → wpY_objects (fun r => post r) (fm, nI nw, kd, nu, ev, pe, ow, cy, rf, ri, rn, gv, ga, gb, wt, vy, t1, r1, t2, r2, pa, qk, qn, qs, wd, bt, tp, ky)) ∧ (¬ v3 = 0 → ((v3 = 1 → post (nI nw)) ∧ (¬ v3 = 1 → ((v3 = 2 → post fr) ∧ (¬ v3 = 2 → ((v3 = 3 → post fm) ∧ (¬ v3 = 3 → post (-9))))))))) → wpY_info post (fm, nI nw, kd, nu, ev, pe, ow, cy, rf, ri, rn, gv, ga, gb, wt, vy, t1, r1, t2, r2, pa, qk, qn, qs, wd, bt, tp, ky) (nI p) v2 v3 := by
        intro post H
        unfold wpY_info
        exact rY _ (br_f z (br_t hm (hk_maskY K3 H)))
      refine br_t hm ?_
      by_cases q0 : v3 = 0
      · exact br_t q0 (Y1 _ (br_t q0 (hk_objsY ⟨K2'.symm, I'⟩)))
      · refine br_f q0 ?_
        by_cases q1 : v3 = 1
        · exact br_t q1 (Y1 _ (br_f q0 (br_t q1 ⟨rfl, I'⟩)))
        · refine br_f q1 ?_
          by_cases q2 : v3 = 2
          · exact br_t q2 (Y1 _ (br_f q0 (br_f q1 (br_t q2 ⟨rfl, I'⟩))))
          · refine br_f q2 ?_
            by_cases q3 : v3 = 3
            · exact br_t q3 (Y1 _ (br_f q0 (br_f q1 (br_f q2 (br_t q3 ⟨rfl, I'⟩)))))
            · exact br_f q3 (Y1 _ (br_f q0 (br_f q1 (br_f q2 (br_f q3 ⟨rfl, I'⟩)))))
    · obtain ⟨ra, aX, aY, a0⟩ := hk_test (fo := fo) (fm := fm) (fr := fr) (nw := nw) (kd := kd) (nu := nu) (re := re) (sg := sg) (ot := ot) (ob := ob) (ri := ri) (va := va) (f1 := f1) (g1 := g1) (f2 := f2) (g2 := g2) (hd := hd) (ct := ct) (pg := pg) (us := us) (ce := ce) (pk := pk) (pn := pn) (ps := ps) (wd := wd) (tp := tp) (bt := bt) (ky := ky) (gv := gv) (ga := ga) (gb := gb) (ev := ev) (pe := pe) (ow := ow) (cy := cy) (rf := rf) (rn := rn) (wt := wt) (vy := vy) (t1 := t1) (r1 := r1) (t2 := t2) (r2 := r2) (pa := pa) (qk := qk) (qn := qn) (qs := qs) R hp v2 (-1) 0
      refine br_f hm (aX _ ?_)
      by_cases za : ra = 0
      · obtain ⟨j, o, hj, rfl, ho, e1, e2, hl, -⟩ := a0 za
        have co : (nI o).toNatClampNeg = o := hk_cl (by omega)
        have io : vp_in (nI o) 16 := hk_in ho
        refine br_t za (hk_objX hp hj e1 ?_)
        rcases hk_rng v3 (n := 6) (by decide) with h | h | ⟨i, hi, rfl⟩
        · refine br_t h ?_
          unfold wpY_info
          exact rY _ (br_f z (br_f hm (aY _ (br_t za (hk_objY hp hj e2 (br_t h ⟨rfl, I'⟩))))))
        · have g1' := hk_notn (n := 6) (by decide) h
          have g2' := hk_sgt (n := 5) (by decide) h
          refine br_f g1' (br_t g2' ?_)
          unfold wpY_info
          exact rY _ (br_f z (br_f hm (aY _ (br_t za (hk_objY hp hj e2 (br_f g1' (br_t g2' ⟨rfl, I'⟩)))))))
        · have a1 : ¬ nI i < 0 := hk_n0 (by omega)
          have a2 : ¬ (5 : Int32) < nI i := nI_nlt (a := 5) (by omega) (by decide)
          refine br_f a1 (br_f a2 ?_)
          have : i = 0 ∨ i = 1 ∨ i = 2 ∨ i = 3 ∨ i = 4 ∨ i = 5 := by omega
          rcases this with rfl | rfl | rfl | rfl | rfl | rfl
          · refine br_t rfl ⟨io, ?_⟩
            unfold wpY_info
            exact rY _ (br_f z (br_f hm (aY _ (br_t za (hk_objY hp hj e2 (br_f a1 (br_f a2 (br_t rfl ⟨io, rfl, I'⟩))))))))
          · refine br_f (by decide) (br_t rfl ⟨io, ?_⟩)
            unfold wpY_info
            exact rY _ (br_f z (br_f hm (aY _ (br_t za (hk_objY hp hj e2 (br_f a1 (br_f a2 (br_f (by decide) (br_t rfl ⟨io, rfl, I'⟩)))))))))
          · have ii : vp_in (10 * nI p + nI j) 40 := by rw [hk_10]; exact hk_in (by omega)
            refine br_f (by decide) (br_f (by decide) (br_t rfl ⟨ii, ?_⟩))
            unfold wpY_info
            exact rY _ (br_f z (br_f hm (aY _ (br_t za (hk_objY hp hj e2 (br_f a1 (br_f a2 (br_f (by decide) (br_f (by decide) (br_t rfl ⟨ii, rfl, I'⟩))))))))))
          · refine br_f (by decide) (br_f (by decide) (br_f (by decide) (br_t rfl ⟨io, ?_⟩)))
            unfold wpY_info
            refine rY _ (br_f z (br_f hm (aY _ (br_t za (hk_objY hp hj e2 (br_f a1 (br_f a2 (br_f (by decide) (br_f (by decide) (br_f (by decide) (br_t rfl ?_)))))))))))
            refine hk_sigY ho (K1 o) hl (fun h4 => by obtain ⟨q, hq, -, e⟩ := K9.1 o ho h4; exact ⟨q, hq, e⟩) ⟨?_, I'⟩
            rw [co]; exact (KS o ho hl).1.symm
          · refine br_f (by decide) (br_f (by decide) (br_f (by decide) (br_f (by decide) (br_t rfl ⟨io, ?_⟩))))
            unfold wpY_info
            refine rY _ (br_f z (br_f hm (aY _ (br_t za (hk_objY hp hj e2 (br_f a1 (br_f a2 (br_f (by decide) (br_f (by decide) (br_f (by decide) (br_f (by decide) (br_t rfl ?_))))))))))))
            refine hk_refY (hk_P6w K6) ⟨?_, I'⟩
            rw [co]; exact (K5 o ho hl).symm
          · refine br_f (by decide) (br_f (by decide) (br_f (by decide) (br_f (by decide) (br_f (by decide) (br_t rfl ⟨io, ?_⟩)))))
            rw [co]
            have Y5 : ∀ (post : Int32 → Prop), ((kd o = 1 → (vp_in (nI o) 16 ∧ ((pe o < 0 → post (-1)) ∧ (¬ pe o < 0 → (vp_in (nI o) 16 ∧ (vp_in (pe o) 16 ∧ post (nu (pe o).toNatClampNeg))))))) ∧ (¬ kd o = 1 → post (-1))) → wpY_info post (fm, nI nw, kd, nu, ev, pe, ow, cy, rf, ri, rn, gv, ga, gb, wt, vy, t1, r1, t2, r2, pa, qk, qn, qs, wd, bt, tp, ky) (nI p) (nI j) (nI 5) := by
              intro post H
              unfold wpY_info
              refine rY _ (br_f z (br_f hm (aY _ (br_t za (hk_objY hp hj e2 (br_f a1 (br_f a2 (br_f (by decide) (br_f (by decide) (br_f (by decide) (br_f (by decide) (br_f (by decide) (br_t rfl ⟨io, ?_⟩)))))))))))))
              rw [co]; exact H
            by_cases k1 : kd o = 1
            · obtain ⟨eot, epe⟩ := KP o ho k1
              refine br_t k1 ⟨io, ?_⟩
              rw [eot]
              rcases epe with epe | ⟨q, hq, epe, kq, -⟩
              · have n : pe o < 0 := by rw [epe]; exact hk_m1lt
                exact br_t n (Y5 _ (br_t k1 ⟨io, br_t n ⟨rfl, I'⟩⟩))
              · have n : ¬ pe o < 0 := by rw [epe]; exact hk_n0 (by omega)
                have iq : vp_in (pe o) 16 := by rw [epe]; exact hk_in hq
                exact br_f n ⟨io, iq, Y5 _ (br_t k1 ⟨io, br_f n ⟨io, iq, rfl, I'⟩⟩)⟩
            · exact br_f k1 (Y5 _ (br_f k1 ⟨rfl, I'⟩))
      · refine br_f za ?_
        unfold wpY_info
        exact rY _ (br_f z (br_f hm (aY _ (br_f za ⟨rfl, I'⟩))))
end
end
