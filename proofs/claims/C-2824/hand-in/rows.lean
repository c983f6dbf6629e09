section
/-! base: rows pasted from the kit (pk_), then own small arithmetic -/
theorem pk_us {f : Nat → Int32} {k : Nat} {x : Int32} : upd f k x k = x := if_pos rfl
theorem pk_un {f : Nat → Int32} {k j : Nat} {x : Int32} (h : j ≠ k) : upd f k x j = f j := if_neg h
theorem pk_sub {a b : Nat} (h : b ≤ a) : nI a - nI b = nI (a - b) := by
  obtain ⟨c, rfl⟩ : ∃ c, a = c + b := ⟨a - b, by omega⟩
  rw [← nI_add, Int32.add_sub_cancel, Nat.add_sub_cancel]
theorem pk_m1 (n : Nat) : nI (n + 1) + (-1) = nI n := by
  rw [← nI_1, Int32.add_assoc, show (1 : Int32) + (-1) = 0 from rfl, Int32.add_zero]
theorem pk_mul (a b : Nat) : nI a * nI b = nI (a * b) := (Int32.ofNat_mul a b).symm
theorem pk_div {a d : Nat} (ha : a < 2 ^ 31) (h0 : 0 < d) (hd : d < 2 ^ 31) : nI a / nI d = nI (a / d) := by
  apply Int32.toInt_inj.mp
  rw [lg_idiv_nonneg (by rw [nI_toInt ha]; omega) (by rw [nI_toInt hd]; omega), nI_toInt ha, nI_toInt hd, nI_toInt (Nat.lt_of_le_of_lt (Nat.div_le_self a d) ha)]
  first | rfl | exact (Int.natCast_ediv _ _).symm
theorem pk_rem {a d : Nat} (ha : a < 2 ^ 31) (h0 : 0 < d) (hd : d < 2 ^ 31) : nI a - nI a / nI d * nI d = nI (a % d) := by
  rw [pk_div ha h0 hd, pk_mul, pk_sub (Nat.div_mul_le_self a d)]
  exact congrArg nI (by have := Nat.div_add_mod' a d; omega)
theorem pk_sub_toInt {a b : Nat} (ha : a < 2 ^ 30) (hb : b < 2 ^ 30) : (nI a - nI b).toInt = (a : Int) - b := by
  rw [Int32.toInt_sub, nI_toInt (by omega), nI_toInt (by omega)]
  exact Int.bmod_eq_of_le (by omega) (by omega)
theorem pk_sneg {a b : Nat} (hb : b < 2 ^ 30) (h : a < b) : nI a - nI b < 0 := by
  rw [Int32.lt_iff_toInt_lt, pk_sub_toInt (by omega) hb, show (0 : Int32).toInt = 0 from by decide]
  omega
theorem pk_ix (x : Int32) {n : Nat} (hn : n < 2 ^ 31) : x < 0 ∨ nI n ≤ x ∨ ∃ j : Nat, j < n ∧ x = nI j := by
  by_cases h : x < 0
  · exact Or.inl h
  · obtain ⟨j, hj, rfl⟩ := nI_of h
    by_cases h2 : j < n
    · exact Or.inr (Or.inr ⟨j, h2, rfl⟩)
    · exact Or.inr (Or.inl (nI_le (by omega) hj))
theorem pk_le {x y : Int32} {A B : Prop} (a b : Nat) (f : a ≤ b → A) (g : b < a → B) (hx : x = nI a := by rfl) (hy : y = nI b := by rfl) (ha : a < 2 ^ 31 := by omega) (hb : b < 2 ^ 31 := by omega) : (x ≤ y → A) ∧ (¬ x ≤ y → B) := by
  subst hx hy
  rw [nI_leI ha hb]
  exact ⟨f, fun z => g (by omega)⟩
theorem pk_lt {x y : Int32} {A B : Prop} (a b : Nat) (f : a < b → A) (g : b ≤ a → B) (hx : x = nI a := by rfl) (hy : y = nI b := by rfl) (ha : a < 2 ^ 31 := by omega) (hb : b < 2 ^ 31 := by omega) : (x < y → A) ∧ (¬ x < y → B) := by
  subst hx hy
  rw [nI_ltI ha hb]
  exact ⟨f, fun z => g (by omega)⟩
theorem pk_eq {x y : Int32} {A B : Prop} (a b : Nat) (f : a = b → A) (g : a ≠ b → B) (hx : x = nI a := by rfl) (hy : y = nI b := by rfl) (ha : a < 2 ^ 31 := by omega) (hb : b < 2 ^ 31 := by omega) : (x = y → A) ∧ (¬ x = y → B) := by
  subst hx hy
  rw [nI_eq ha hb]
  exact ⟨f, g⟩
theorem pk_in {x : Int32} (n N : Nat) (h : n < N) (hx : x = nI n := by rfl) (hN : N < 2 ^ 31 := by omega) : vp_in x N := by
  subst hx
  exact vp_in_nI h hN
theorem pk_cl {x : Int32} (n : Nat) (hx : x = nI n := by rfl) (h : n < 2 ^ 31 := by omega) : x.toNatClampNeg = n := by
  subst hx
  exact nI_clamp h
theorem om_3 (n : Nat) : (3 : Int32) * nI n = nI (3 * n) := pk_mul 3 n
theorem om_31 (n : Nat) : (3 : Int32) * nI n + 1 = nI (3 * n + 1) := by rw [om_3, nI_1]
theorem om_32 (n : Nat) : (3 : Int32) * nI n + 2 = nI (3 * n + 2) := by rw [om_3]; exact nI_add (3 * n) 2
theorem om_c0 {n : Nat} (h : n < 1000) : ((3 : Int32) * nI n).toNatClampNeg = 3 * n := by rw [om_3, nI_clamp (by omega)]
theorem om_c1 {n : Nat} (h : n < 1000) : ((3 : Int32) * nI n + 1).toNatClampNeg = 3 * n + 1 := by rw [om_31, nI_clamp (by omega)]
theorem om_c2 {n : Nat} (h : n < 1000) : ((3 : Int32) * nI n + 2).toNatClampNeg = 3 * n + 2 := by rw [om_32, nI_clamp (by omega)]
theorem om_i0 {n N : Nat} (h : 3 * n < N) (hN : N < 2 ^ 31) : vp_in ((3 : Int32) * nI n) N := by rw [om_3]; exact vp_in_nI h hN
theorem om_i1 {n N : Nat} (h : 3 * n + 1 < N) (hN : N < 2 ^ 31) : vp_in ((3 : Int32) * nI n + 1) N := by rw [om_31]; exact vp_in_nI h hN
theorem om_i2 {n N : Nat} (h : 3 * n + 2 < N) (hN : N < 2 ^ 31) : vp_in ((3 : Int32) * nI n + 2) N := by rw [om_32]; exact vp_in_nI h hN
theorem om_le {x y : Int32} {A B : Prop} (a b : Int) (f : a ≤ b → A) (g : b < a → B) (hx : x.toInt = a) (hy : y.toInt = b) : (x ≤ y → A) ∧ (¬ x ≤ y → B) := by
  subst hx hy
  rw [Int32.le_iff_toInt_le]
  exact ⟨f, fun h => g (by omega)⟩
theorem om_lt {x y : Int32} {A B : Prop} (a b : Int) (f : a < b → A) (g : b ≤ a → B) (hx : x.toInt = a) (hy : y.toInt = b) : (x < y → A) ∧ (¬ x < y → B) := by
  subst hx hy
  rw [Int32.lt_iff_toInt_lt]
  exact ⟨f, fun h => g (by omega)⟩
theorem om_eq {x y : Int32} {A B : Prop} (a b : Int) (f : a = b → A) (g : a ≠ b → B) (hx : x.toInt = a) (hy : y.toInt = b) : (x = y → A) ∧ (¬ x = y → B) := by
  subst hx hy
  rw [← Int32.toInt_inj]
  exact ⟨f, g⟩
theorem om_l0 : (0 : Int32).toInt = 0 := by decide
theorem om_l1 : (1 : Int32).toInt = 1 := by decide
theorem om_l6 : (6 : Int32).toInt = 6 := by decide
theorem om_l6n : (-6 : Int32).toInt = -6 := by decide
theorem om_l9 : (9 : Int32).toInt = 9 := by decide
theorem om_l9n : (-9 : Int32).toInt = -9 := by decide
theorem om_l99 : (99 : Int32).toInt = 99 := by decide
theorem om_l99n : (-99 : Int32).toInt = -99 := by decide
theorem om_l100 : (100 : Int32).toInt = 100 := by decide
theorem om_l1n : (-1 : Int32).toInt = -1 := by decide
def om_R (k : Int) (x : Int32) : Prop := -k ≤ x.toInt ∧ x.toInt ≤ k
theorem om_R_mono {k l : Int} {x : Int32} (h : om_R k x) (hl : k ≤ l) : om_R l x := ⟨by have := h.1; omega, by have := h.2; omega⟩
theorem om_mb {a b A B : Int} (ha : -A ≤ a) (ha' : a ≤ A) (hb : -B ≤ b) (hb' : b ≤ B) : -(A * B) ≤ a * b ∧ a * b ≤ A * B := by
  have h1 := Int.mul_nonneg (show 0 ≤ A - a by omega) (show 0 ≤ B + b by omega)
  have h2 := Int.mul_nonneg (show 0 ≤ A + a by omega) (show 0 ≤ B - b by omega)
  have h3 := Int.mul_nonneg (show 0 ≤ A - a by omega) (show 0 ≤ B - b by omega)
  have h4 := Int.mul_nonneg (show 0 ≤ A + a by omega) (show 0 ≤ B + b by omega)
  rw [Int.sub_mul, Int.mul_add, Int.mul_add] at h1
  rw [Int.add_mul, Int.mul_sub, Int.mul_sub] at h2
  rw [Int.sub_mul, Int.mul_sub, Int.mul_sub] at h3
  rw [Int.add_mul, Int.mul_add, Int.mul_add] at h4
  omega
theorem om_mul {x y : Int32} {A B : Int} (hx : om_R A x) (hy : om_R B y) (h : A * B < 2147483648) : (x * y).toInt = x.toInt * y.toInt ∧ om_R (A * B) (x * y) := by
  have hb := om_mb hx.1 hx.2 hy.1 hy.2
  have e := Jvm.Kit.i32_mul (x := x) (y := y) (by omega) (by omega)
  exact ⟨e, by unfold om_R; rw [e]; exact hb⟩
theorem om_add {x y : Int32} {A B : Int} (hx : om_R A x) (hy : om_R B y) (h : A + B < 2147483648) : (x + y).toInt = x.toInt + y.toInt ∧ om_R (A + B) (x + y) := by
  have h1 := hx.1
  have h2 := hx.2
  have h3 := hy.1
  have h4 := hy.2
  have e := Jvm.Kit.i32_add (x := x) (y := y) (by omega) (by omega)
  exact ⟨e, by unfold om_R; rw [e]; omega⟩
theorem om_sub {x y : Int32} {A B : Int} (hx : om_R A x) (hy : om_R B y) (h : A + B < 2147483648) : (x - y).toInt = x.toInt - y.toInt ∧ om_R (A + B) (x - y) := by
  have h1 := hx.1
  have h2 := hx.2
  have h3 := hy.1
  have h4 := hy.2
  have e := Jvm.Kit.i32_sub (x := x) (y := y) (by omega) (by omega)
  exact ⟨e, by unfold om_R; rw [e]; omega⟩
theorem om_neg {x : Int32} {A : Int} (hx : om_R A x) (h : A < 2147483648) : (-x).toInt = -x.toInt ∧ om_R A (-x) := by
  have h1 := hx.1
  have h2 := hx.2
  have e := Jvm.Kit.i32_neg (x := x) (by omega)
  exact ⟨e, by unfold om_R; rw [e]; omega⟩
/-- f * p + g * q -/
theorem om_fpgq {f p g q : Int32} {K : Int} (hf : om_R 9 f) (hg : om_R 9 g) (hp : om_R K p) (hq : om_R K q) (hK : K ≤ 100) : (f * p + g * q).toInt = f.toInt * p.toInt + g.toInt * q.toInt ∧ om_R (9 * K + 9 * K) (f * p + g * q) := by
  have h1 := om_mul hf hp (by omega)
  have h2 := om_mul hg hq (by omega)
  have h3 := om_add h1.2 h2.2 (by omega)
  exact ⟨by rw [h3.1, h1.1, h2.1], h3.2⟩
theorem om_succ {x : Int32} (h : x.toInt < 1000000) : (x + 1).toInt = x.toInt + 1 := by
  have := x.le_toInt
  have e := Jvm.Kit.i32_add (x := x) (y := 1) (by rw [om_l1]; omega) (by rw [om_l1]; omega)
  rw [e, om_l1]
end
section
/-! numbers: areRight, bad, amount, divisorOf, floorDivide -/
def om_ok (a b c d : Int32) : Prop := om_R 9 a ∧ om_R 9 b ∧ om_R 9 c ∧ om_R 99 d
theorem om_areRight {post : Int32 → Prop} {a b c d : Int32} (h1 : om_ok a b c d → post 1) (h0 : ¬ om_ok a b c d → post 0) : wpX_areRight post a b c d :=
  om_lt a.toInt (-9) (fun h => h0 (fun k => by have := k.1.1; omega)) (fun i1 =>
  om_lt 9 a.toInt (fun h => h0 (fun k => by have := k.1.2; omega)) (fun i2 =>
  om_lt b.toInt (-9) (fun h => h0 (fun k => by have := k.2.1.1; omega)) (fun i3 =>
  om_lt 9 b.toInt (fun h => h0 (fun k => by have := k.2.1.2; omega)) (fun i4 =>
  om_lt c.toInt (-9) (fun h => h0 (fun k => by have := k.2.2.1.1; omega)) (fun i5 =>
  om_lt 9 c.toInt (fun h => h0 (fun k => by have := k.2.2.1.2; omega)) (fun i6 =>
  om_lt d.toInt (-99) (fun h => h0 (fun k => by have := k.2.2.2.1; omega)) (fun i7 =>
  om_lt 99 d.toInt (fun h => h0 (fun k => by have := k.2.2.2.2; omega)) (fun i8 => h1 ⟨⟨i1, i2⟩, ⟨i3, i4⟩, ⟨i5, i6⟩, ⟨i7, i8⟩⟩)
  om_l99 rfl) rfl om_l99n) om_l9 rfl) rfl om_l9n) om_l9 rfl) rfl om_l9n) om_l9 rfl) rfl om_l9n
theorem om_bad {post : Int32 → Prop} {a b c d : Int32} (h1 : om_ok a b c d → post 0) (h0 : ¬ om_ok a b c d → post 1) : wpY_bad post a b c d :=
  om_lt a.toInt (-9) (fun h => h0 (fun k => by have := k.1.1; omega)) (fun i1 =>
  om_lt 9 a.toInt (fun h => h0 (fun k => by have := k.1.2; omega)) (fun i2 =>
  om_lt b.toInt (-9) (fun h => h0 (fun k => by have := k.2.1.1; omega)) (fun i3 =>
  om_lt 9 b.toInt (fun h => h0 (fun k => by have := k.2.1.2; omega)) (fun i4 =>
  om_lt c.toInt (-9) (fun h => h0 (fun k => by have := k.2.2.1.1; omega)) (fun i5 =>
  om_lt 9 c.toInt (fun h => h0 (fun k => by have := k.2.2.1.2; omega)) (fun i6 =>
  om_lt d.toInt (-99) (fun h => h0 (fun k => by have := k.2.2.2.1; omega)) (fun i7 =>
  om_le d.toInt 99 (fun i8 => h1 ⟨⟨i1, i2⟩, ⟨i3, i4⟩, ⟨i5, i6⟩, ⟨i7, i8⟩⟩) (fun h => h0 (fun k => by have := k.2.2.2.2; omega))
  rfl om_l99) rfl om_l99n) om_l9 rfl) rfl om_l9n) om_l9 rfl) rfl om_l9n) om_l9 rfl) rfl om_l9n
theorem om_amount {post : Int32 → Prop} {x : Int32} (h : om_R 200 x) (k : post (nI x.toInt.natAbs)) : wpX_amount post x := by
  have h1 := h.1
  have h2 := h.2
  have hn := om_neg h (by omega)
  refine om_le 0 x.toInt (fun p => ?_) (fun p => ?_) om_l0 rfl
  · have e : nI x.toInt.natAbs = x := Int32.toInt_inj.mp (by rw [nI_toInt (by omega)]; omega)
    rw [e] at k; exact k
  · have e : nI x.toInt.natAbs = -x := Int32.toInt_inj.mp (by rw [nI_toInt (by omega), hn.1]; omega)
    rw [e] at k; exact k
theorem om_dend {post : Int32 → Prop} {b s n : Nat} (hs : s < 40) (k : post (nI b)) : wX_divisorOf_13 post (n + 1) (nI 0) (nI b) (nI s) :=
  pk_le 40 s (fun h => absurd h (by omega)) (fun _ => br_t (nI_le (a := 0) (b := 0) (by omega) (by omega)) k)
theorem om_dstep {post : Int32 → Prop} {a b s n : Nat} (ha : 0 < a) (ha' : a < 2 ^ 31) (hb : b < 2 ^ 31) (hs : s < 40) (k : wX_divisorOf_13 post n (nI (b % a)) (nI a) (nI (s + 1))) : wX_divisorOf_13 post (n + 1) (nI a) (nI b) (nI s) :=
  pk_le 40 s (fun h => absurd h (by omega)) (fun _ => br_f (nI_nle ha ha') ⟨nI_ne0 ha ha', nm_r (pk_rem hb ha ha') (nm_r (nI_1 s) k)⟩)
theorem om_div13 {post : Int32 → Prop} : ∀ (t a b s n : Nat), a < 2 ^ t → t ≤ 20 → b < 2 ^ 31 → 0 < a + b → s + 2 * t < 40 → 2 * t < n → (∀ r : Nat, 0 < r → r ∣ a → r ∣ b → post (nI r)) → wX_divisorOf_13 post n (nI a) (nI b) (nI s) := by
  intro t
  induction t with
  | zero =>
    intro a b s n ha ht hb hab hs hn k
    obtain ⟨n, rfl⟩ : ∃ c, n = c + 1 := ⟨n - 1, by omega⟩
    obtain rfl : a = 0 := by omega
    exact om_dend (by omega) (k b (by omega) (Nat.dvd_zero b) (Nat.dvd_refl b))
  | succ t ih =>
    intro a b s n ha ht hb hab hs hn k
    have h20 : 2 ^ (t + 1) ≤ 2 ^ 20 := Nat.pow_le_pow_right (by decide) ht
    have hpt : 2 ^ (t + 1) = 2 * 2 ^ t := by rw [Nat.pow_succ, Nat.mul_comm]
    obtain ⟨n, rfl⟩ : ∃ c, n = c + 1 + 1 := ⟨n - 2, by omega⟩
    by_cases h0 : a = 0
    · subst h0
      exact om_dend (by omega) (k b (by omega) (Nat.dvd_zero b) (Nat.dvd_refl b))
    · have hm := Nat.mod_lt b (show 0 < a by omega)
      refine om_dstep (by omega) (by omega) hb (by omega) ?_
      by_cases h1 : b % a = 0
      · rw [h1]
        exact om_dend (by omega) (k a (by omega) (Nat.dvd_refl a) (Nat.dvd_of_mod_eq_zero h1))
      · have hm2 := Nat.mod_lt a (show 0 < b % a by omega)
        have hq : a % (b % a) + b % a ≤ a := by
          have e := Nat.mod_add_div a (b % a)
          have q1 : 1 ≤ a / (b % a) := (Nat.le_div_iff_mul_le (by omega)).mpr (by omega)
          have q2 := Nat.mul_le_mul_left (b % a) q1
          omega
        refine om_dstep (by omega) (by omega) (by omega) (by omega) ?_
        refine ih _ _ _ _ (by omega) (by omega) (by omega) (by omega) (by omega) (by omega) (fun r hr d1 d2 => ?_)
        have da : r ∣ a := (Nat.dvd_mod_iff d2).mp d1
        exact k r hr da ((Nat.dvd_mod_iff da).mp d2)
theorem om_divisorOf {post : Int32 → Prop} {a b : Int32} (ha : om_R 200 a) (hb : om_R 200 b) (hn : ¬ (a.toInt = 0 ∧ b.toInt = 0)) (k : ∀ r : Int32, 0 < r.toInt → r.toInt ≤ 200 → r.toInt ∣ a.toInt → r.toInt ∣ b.toInt → post r) : wpX_divisorOf post a b := by
  have a1 := ha.1
  have a2 := ha.2
  have b1 := hb.1
  have b2 := hb.2
  refine om_amount ha (om_amount hb ⟨30, om_div13 8 _ _ 0 30 (by omega) (by omega) (by omega) (by omega) (by omega) (by omega) (fun r hr d1 d2 => ?_)⟩)
  have hle : r ≤ 200 := by
    by_cases h : a.toInt = 0
    · have := Nat.le_of_dvd (by omega) d2
      omega
    · have := Nat.le_of_dvd (by omega) d1
      omega
  have e : (nI r).toInt = (r : Int) := nI_toInt (by omega)
  exact k (nI r) (by omega) (by omega) (by rw [e]; exact Int.ofNat_dvd_left.mpr d1) (by rw [e]; exact Int.ofNat_dvd_left.mpr d2)
theorem om_fl {x g Q M : Int} (hg : 0 < g) (e : x = g * Q + M) (h0 : 0 ≤ M) (h1 : M < g) : x / g = Q := by
  rw [e, Int.add_comm, Int.add_mul_ediv_left _ _ (by omega), Int.ediv_eq_zero_of_lt h0 h1, Int.zero_add]
theorem om_floor {post : Int32 → Prop} {x g : Int32} (hx : om_R 100000 x) (hg : 0 < g.toInt) (hg' : g.toInt ≤ 200) (k : ∀ r : Int32, r.toInt = x.toInt / g.toInt → post r) : wpX_floorDivide post x g := by
  have x1 := hx.1
  have x2 := hx.2
  have e := Int.mul_tdiv_add_tmod x.toInt g.toInt
  have m1 := Int.tmod_lt_of_pos x.toInt hg
  have m2 := Int.lt_tmod_of_pos x.toInt hg
  have hq : (x / g).toInt = x.toInt.tdiv g.toInt := Jvm.Kit.i32_div (by omega)
  have hm : (x / g * g).toInt = g.toInt * x.toInt.tdiv g.toInt := by
    rw [Jvm.Kit.i32_mul, hq, Int.mul_comm]
    · rw [hq, Int.mul_comm]; omega
    · rw [hq, Int.mul_comm]; omega
  have hr : (x - x / g * g).toInt = x.toInt.tmod g.toInt := by
    rw [Jvm.Kit.i32_sub, hm]
    · omega
    · rw [hm]; omega
    · rw [hm]; omega
  have hne : ¬ g = 0 := fun z => by rw [z, om_l0] at hg; omega
  refine ⟨hne, nm_e ⟨hne, om_le 0 _ (fun p => k _ ?_) (fun p => k _ ?_) om_l0 hr⟩⟩
  · rw [hq, om_fl hg e.symm p m1]
  · have hq1 : -100200 ≤ x.toInt.tdiv g.toInt ∧ x.toInt.tdiv g.toInt ≤ 100200 := by
      by_cases hp : 0 ≤ x.toInt.tdiv g.toInt
      · have := Int.mul_le_mul_of_nonneg_right (show 1 ≤ g.toInt by omega) hp
        omega
      · have := Int.mul_le_mul_of_nonneg_right (show 1 ≤ g.toInt by omega) (show 0 ≤ -(x.toInt.tdiv g.toInt) by omega)
        rw [Int.mul_neg, Int.mul_neg] at this
        omega
    have e2 : x.toInt = g.toInt * (x.toInt.tdiv g.toInt - 1) + (x.toInt.tmod g.toInt + g.toInt) := by
      rw [Int.mul_sub]; omega
    rw [Jvm.Kit.i32_sub (by rw [hq, om_l1]; omega) (by rw [hq, om_l1]; omega), hq, om_l1]
    exact (om_fl hg e2 (by omega) (by omega)).symm
end
section
/-! few rows: putFew, pairUp, makeFew, makeFewFor -/
def om_F (ff fb : Nat → Int32) (m : Nat) (x y : Int) : Prop := ∀ r : Nat, r < m → (ff (3 * r)).toInt * x + (ff (3 * r + 1)).toInt * y ≤ (fb r).toInt
def om_G (ff fb : Nat → Int32) (m : Nat) : Prop := ∀ r : Nat, r < m → om_R 162 (ff (3 * r)) ∧ om_R 162 (ff (3 * r + 1)) ∧ om_R 3000 (fb r)
def om_S (fac bd : Nat → Int32) (n : Nat) (x y z : Int) : Prop := ∀ r : Nat, r < n → (fac (3 * r)).toInt * x + (fac (3 * r + 1)).toInt * y + (fac (3 * r + 2)).toInt * z ≤ (bd r).toInt
def om_B (fac bd : Nat → Int32) (n : Nat) : Prop := ∀ r : Nat, r < n → om_R 9 (fac (3 * r)) ∧ om_R 9 (fac (3 * r + 1)) ∧ om_R 9 (fac (3 * r + 2)) ∧ om_R 100 (bd r)
theorem om_F_app {ff fb : Nat → Int32} {m : Nat} {p q e : Int32} {x y : Int} : om_F (upd (upd ff (3 * m) p) (3 * m + 1) q) (upd fb m e) (m + 1) x y ↔ om_F ff fb m x y ∧ p.toInt * x + q.toInt * y ≤ e.toInt := by
  constructor
  · intro h
    constructor
    · intro r hr
      have := h r (by omega)
      rw [pk_un (by omega), pk_un (by omega), pk_un (by omega), pk_un (by omega), pk_un (by omega)] at this
      exact this
    · have := h m (by omega)
      rw [pk_un (by omega), pk_us, pk_us, pk_us] at this
      exact this
  · intro h r hr
    by_cases hm : r = m
    · subst hm
      rw [pk_un (by omega), pk_us, pk_us, pk_us]
      exact h.2
    · rw [pk_un (by omega), pk_un (by omega), pk_un (by omega), pk_un (by omega), pk_un (by omega)]
      exact h.1 r (by omega)
theorem om_G_app {ff fb : Nat → Int32} {m : Nat} {p q e : Int32} (hG : om_G ff fb m) (hp : om_R 162 p) (hq : om_R 162 q) (he : om_R 3000 e) : om_G (upd (upd ff (3 * m) p) (3 * m + 1) q) (upd fb m e) (m + 1) := by
  intro r hr
  by_cases hm : r = m
  · subst hm
    rw [pk_un (by omega), pk_us, pk_us, pk_us]
    exact ⟨hp, hq, he⟩
  · rw [pk_un (by omega), pk_un (by omega), pk_un (by omega), pk_un (by omega), pk_un (by omega)]
    exact hG r (by omega)
theorem om_upd_self (f : Nat → Int32) (k : Nat) : upd f k (f k) = f := by
  funext j
  by_cases h : j = k
  · subst h; rw [pk_us]
  · rw [pk_un h]
theorem om_F_min {ff fb : Nat → Int32} {m k : Nat} {p q e : Int32} {x y : Int} (hk : k < m) (hp : ff (3 * k) = p) (hq : ff (3 * k + 1) = q) (he : e.toInt ≤ (fb k).toInt) : om_F ff (upd fb k e) m x y ↔ om_F ff fb m x y ∧ p.toInt * x + q.toInt * y ≤ e.toInt := by
  constructor
  · intro h
    have h1 := h k hk
    rw [pk_us, hp, hq] at h1
    refine ⟨fun r hr => ?_, h1⟩
    by_cases hm : r = k
    · subst hm; rw [hp, hq]; omega
    · have := h r hr
      rw [pk_un hm] at this
      exact this
  · intro h r hr
    by_cases hm : r = k
    · subst hm; rw [pk_us, hp, hq]; exact h.2
    · rw [pk_un hm]; exact h.1 r hr
theorem om_G_min {ff fb : Nat → Int32} {m k : Nat} {e : Int32} (hG : om_G ff fb m) (he : om_R 3000 e) : om_G ff (upd fb k e) m := by
  intro r hr
  by_cases hm : r = k
  · subst hm; rw [pk_us]; exact ⟨(hG r hr).1, (hG r hr).2.1, he⟩
  · rw [pk_un hm]; exact hG r hr
section
variable {hd ro wo : Int32} {co li ee fac bd fx : Nat → Int32}
theorem om_pf48 {post : Int32 → SX → Prop} {p q e : Int32} {m : Nat} {ff fb : Nat → Int32} (hm : m < 160) (hG : om_G ff fb m) (hp : om_R 162 p) (hq : om_R 162 q) (he : om_R 3000 e)
    (H : ∀ (m' : Nat) (ff' fb' : Nat → Int32), m' ≤ m + 1 → om_G ff' fb' m' → (∀ x y : Int, om_F ff' fb' m' x y ↔ om_F ff fb m x y ∧ p.toInt * x + q.toInt * y ≤ e.toInt) → post 1 (hd, ro, nI m', wo, co, li, ee, fac, bd, ff', fb', fx)) :
    ∀ d k : Nat, k + d = m → wX_putFew_48 post p q e hd ro (nI m) wo co li ee fac bd ff fb fx (d + 1) (nI k) := by
  intro d
  induction d with
  | zero =>
    intro k hk
    refine br_t (nI_le (by omega) (by omega)) ?_
    refine ⟨om_i0 (by omega) (by omega), fun a ea => ⟨om_i1 (by omega) (by omega), fun b eb => ⟨vp_in_nI (by omega) (by omega), fun c ec f ef => ?_⟩⟩⟩
    rw [om_c0 (by omega)] at ea
    rw [om_c1 (by omega)] at eb
    rw [nI_clamp (by omega)] at ec
    rw [nI_1] at ef
    subst ea eb ec ef
    exact H _ _ _ (by omega) (om_G_app hG hp hq he) (fun x y => om_F_app)
  | succ d ih =>
    intro k hk
    have c0 : ((3 : Int32) * nI k).toNatClampNeg = 3 * k := om_c0 (by omega)
    have c1 : ((3 : Int32) * nI k + 1).toNatClampNeg = 3 * k + 1 := om_c1 (by omega)
    have ck : (nI k).toNatClampNeg = k := nI_clamp (by omega)
    have hin : vp_in (nI k) 160 := vp_in_nI (by omega) (by omega)
    refine br_f (nI_ge (by omega) (by omega)) ⟨om_i0 (by omega) (by omega), br_c (fun h0 => ⟨om_i1 (by omega) (by omega), br_c (fun h1 => ⟨hin, br_c (fun h2 => ⟨hin, hin, fun a ea => ?_⟩) (fun h2 => ⟨hin, fun a ea => ?_⟩)⟩) (fun _ => nm_r (nI_1 k) (ih (k + 1) (by omega)))⟩) (fun _ => nm_r (nI_1 k) (ih (k + 1) (by omega)))⟩
    · rw [c0] at h0
      rw [c1] at h1
      rw [ck] at h2 ea
      rw [om_upd_self] at ea
      rw [ea]
      refine H m ff fb (by omega) hG (fun x y => ⟨fun h => ⟨h, ?_⟩, fun h => h.1⟩)
      have h3 := h k (by omega)
      rw [h0, h1] at h3
      rw [Int32.le_iff_toInt_le] at h2
      omega
    · rw [c0] at h0
      rw [c1] at h1
      rw [ck] at h2 ea
      subst ea
      rw [Int32.le_iff_toInt_le] at h2
      exact H m ff _ (by omega) (om_G_min hG he) (fun x y => om_F_min (by omega) h0 h1 (by omega))
/-- the law of division: dividing by a common factor -/
theorem om_divlaw {a b d p q g : Int} (hg : 0 < g) (ha : p * g = a) (hb : q * g = b) (x y : Int) : a * x + b * y ≤ d ↔ p * x + q * y ≤ d / g := by
  rw [Int.le_ediv_iff_mul_le hg]
  have e : (p * x + q * y) * g = a * x + b * y := by
    rw [Int.add_mul, ← ha, ← hb, Int.mul_right_comm p x g, Int.mul_right_comm q y g]
  rw [e]
theorem om_qb {p g k : Int} (hg : 0 < g) (h1 : -k ≤ p * g) (h2 : p * g ≤ k) : -k ≤ p ∧ p ≤ k := by
  by_cases hp : 0 ≤ p
  · have := Int.mul_le_mul_of_nonneg_left (show 1 ≤ g by omega) hp
    omega
  · have := Int.mul_le_mul_of_nonneg_left (show 1 ≤ g by omega) (show 0 ≤ -p by omega)
    rw [Int.neg_mul, Int.neg_mul] at this
    omega
theorem om_putFew {post : Int32 → SX → Prop} {a b d : Int32} {m : Nat} {ff fb : Nat → Int32} (hm : m < 160) (hG : om_G ff fb m) (ha : om_R 162 a) (hb : om_R 162 b) (hd' : om_R 3000 d)
    (H : ∀ (r : Int32) (m' : Nat) (ff' fb' : Nat → Int32), m' ≤ m + 1 → om_G ff' fb' m' → (r = 1 ∧ (∀ x y : Int, om_F ff' fb' m' x y ↔ om_F ff fb m x y ∧ a.toInt * x + b.toInt * y ≤ d.toInt) ∨ r = 0 ∧ (∀ x y : Int, ¬ a.toInt * x + b.toInt * y ≤ d.toInt)) → post r (hd, ro, nI m', wo, co, li, ee, fac, bd, ff', fb', fx)) :
    wpX_putFew post (hd, ro, nI m, wo, co, li, ee, fac, bd, ff, fb, fx) a b d := by
  have d1 := hd'.1
  have d2 := hd'.2
  have K : ¬ (a.toInt = 0 ∧ b.toInt = 0) → wX_putFew_18 post a b d hd ro (nI m) wo co li ee fac bd ff fb fx := by
    intro hn
    refine om_divisorOf (om_R_mono ha (by omega)) (om_R_mono hb (by omega)) hn (fun g g0 g1 da db => ?_)
    have hne : ¬ g = 0 := fun z => by rw [z, om_l0] at g0; omega
    refine ⟨hne, nm_e ⟨hne, nm_e ?_⟩⟩
    have a1 := ha.1
    have a2 := ha.2
    have b1 := hb.1
    have b2 := hb.2
    have pa : (a / g).toInt * g.toInt = a.toInt := by rw [Jvm.Kit.i32_div (by omega)]; exact Int.tdiv_mul_cancel da
    have pb : (b / g).toInt * g.toInt = b.toInt := by rw [Jvm.Kit.i32_div (by omega)]; exact Int.tdiv_mul_cancel db
    refine om_floor (om_R_mono hd' (by omega)) g0 g1 (fun e he => ⟨m + 1, ?_⟩)
    have e1 : -3000 ≤ d.toInt / g.toInt := (Int.le_ediv_iff_mul_le g0).mpr (by omega)
    have e2 : d.toInt / g.toInt < 3001 := (Int.ediv_lt_iff_lt_mul g0).mpr (by omega)
    refine om_pf48 hm hG (om_qb g0 (by omega) (by omega)) (om_qb g0 (by omega) (by omega)) ⟨by omega, by omega⟩ (fun m' ff' fb' h1 h2 h3 => ?_) m 0 (by omega)
    refine H 1 m' ff' fb' h1 h2 (Or.inl ⟨rfl, fun x y => ?_⟩)
    rw [h3 x y, om_divlaw g0 pa pb x y, he]
  refine om_eq a.toInt 0 (fun h0 => om_eq b.toInt 0 (fun h1 => om_lt d.toInt 0 (fun h2 => ?_) (fun h2 => ?_) rfl om_l0) (fun h1 => K (fun z => h1 z.2)) rfl om_l0) (fun h0 => K (fun z => h0 z.1)) rfl om_l0
  · exact H 0 m ff fb (by omega) hG (Or.inr ⟨rfl, fun x y z => by rw [h0, h1, Int.zero_mul, Int.zero_mul] at z; omega⟩)
  · exact H 1 m ff fb (by omega) hG (Or.inl ⟨rfl, fun x y => ⟨fun h => ⟨h, by rw [h0, h1, Int.zero_mul, Int.zero_mul]; omega⟩, fun h => h.1⟩⟩)
end
end
section
/-! pairUp, makeFew, makeFewFor -/
def om_t (nar : Int32) (f g : Int) : Int := if nar = 0 then 0 else (f - 1) * (g - 1)
def om_P (fac bd : Nat → Int32) (nar : Int32) (g : Int) (l s : Nat) (x y : Int) : Prop :=
  ((fac (3 * s + 2)).toInt * (fac (3 * l)).toInt + g * (fac (3 * s)).toInt) * x + ((fac (3 * s + 2)).toInt * (fac (3 * l + 1)).toInt + g * (fac (3 * s + 1)).toInt) * y ≤ (fac (3 * s + 2)).toInt * (bd l).toInt + g * (bd s).toInt - om_t nar (fac (3 * s + 2)).toInt g
def om_U (fac bd : Nat → Int32) (nar : Int32) (g : Int) (l k n : Nat) (x y : Int) : Prop := ∀ s : Nat, k ≤ s → s < n → 0 < (fac (3 * s + 2)).toInt → om_P fac bd nar g l s x y
def om_row (fac bd : Nat → Int32) (nar : Int32) (n r : Nat) (x y : Int) : Prop :=
  ((fac (3 * r + 2)).toInt = 0 → (fac (3 * r)).toInt * x + (fac (3 * r + 1)).toInt * y ≤ (bd r).toInt) ∧ ((fac (3 * r + 2)).toInt < 0 → om_U fac bd nar (-(fac (3 * r + 2)).toInt) r 0 n x y)
def om_Sh (fac bd : Nat → Int32) (nar : Int32) (k n : Nat) (x y : Int) : Prop := ∀ r : Nat, k ≤ r → r < n → om_row fac bd nar n r x y
def om_Sz (fac bd : Nat → Int32) (k n : Nat) (x y z : Int) : Prop := ∀ r : Nat, k ≤ r → r < n → (fac (3 * r)).toInt * x + (fac (3 * r + 1)).toInt * y ≤ (bd r).toInt - (fac (3 * r + 2)).toInt * z
theorem om_all {P : Nat → Prop} {k n : Nat} (h : k < n) : (∀ r : Nat, k ≤ r → r < n → P r) ↔ P k ∧ ∀ r : Nat, k + 1 ≤ r → r < n → P r := by
  constructor
  · exact fun H => ⟨H k (by omega) h, fun r h1 h2 => H r (by omega) h2⟩
  · intro H r h1 h2
    by_cases e : r = k
    · rw [e]; exact H.1
    · exact H.2 r (by omega) h2
def om_cu (fac : Nat → Int32) : Nat → Nat
  | 0 => 0
  | k + 1 => om_cu fac k + (if 0 < (fac (3 * k + 2)).toInt then 1 else 0)
def om_cn (fac : Nat → Int32) : Nat → Nat
  | 0 => 0
  | k + 1 => om_cn fac k + (if 0 < (fac (3 * k + 2)).toInt then 0 else 1)
theorem om_cu_t {fac : Nat → Int32} {k : Nat} (h : 0 < (fac (3 * k + 2)).toInt) : om_cu fac (k + 1) = om_cu fac k + 1 := by rw [om_cu, if_pos h]
theorem om_cu_f {fac : Nat → Int32} {k : Nat} (h : ¬ 0 < (fac (3 * k + 2)).toInt) : om_cu fac (k + 1) = om_cu fac k := by rw [om_cu, if_neg h, Nat.add_zero]
theorem om_cn_t {fac : Nat → Int32} {k : Nat} (h : 0 < (fac (3 * k + 2)).toInt) : om_cn fac (k + 1) = om_cn fac k := by rw [om_cn, if_pos h, Nat.add_zero]
theorem om_cn_f {fac : Nat → Int32} {k : Nat} (h : ¬ 0 < (fac (3 * k + 2)).toInt) : om_cn fac (k + 1) = om_cn fac k + 1 := by rw [om_cn, if_neg h]
theorem om_cun (fac : Nat → Int32) : ∀ k : Nat, om_cu fac k + om_cn fac k = k := by
  intro k
  induction k with
  | zero => rfl
  | succ k ih =>
    by_cases h : 0 < (fac (3 * k + 2)).toInt
    · rw [om_cu_t h, om_cn_t h]; omega
    · rw [om_cu_f h, om_cn_f h]; omega
theorem om_cu_le (fac : Nat → Int32) (k : Nat) : ∀ d : Nat, om_cu fac k ≤ om_cu fac (k + d) := by
  intro d
  induction d with
  | zero => exact Nat.le_refl _
  | succ d ih =>
    by_cases h : 0 < (fac (3 * (k + d) + 2)).toInt
    · have := om_cu_t h
      show _ ≤ om_cu fac (k + d + 1)
      omega
    · have := om_cu_f h
      show _ ≤ om_cu fac (k + d + 1)
      omega
theorem om_cn_le (fac : Nat → Int32) (k : Nat) : ∀ d : Nat, om_cn fac k ≤ om_cn fac (k + d) := by
  intro d
  induction d with
  | zero => exact Nat.le_refl _
  | succ d ih =>
    by_cases h : 0 < (fac (3 * (k + d) + 2)).toInt
    · have := om_cn_t h
      show _ ≤ om_cn fac (k + d + 1)
      omega
    · have := om_cn_f h
      show _ ≤ om_cn fac (k + d + 1)
      omega
theorem om_144 : ∀ c : Nat, c < 24 → ∀ u : Nat, u < 24 → c + u ≤ 23 → c * (u + 1) ≤ 144 := by decide
theorem om_room {fac : Nat → Int32} {n k : Nat} (hn : n ≤ 23) (hk : k ≤ n) : om_cn fac k * (om_cu fac n + 1) ≤ 144 := by
  have h1 := om_cun fac n
  have h2 := om_cn_le fac k (n - k)
  rw [show k + (n - k) = n by omega] at h2
  exact Nat.le_trans (Nat.mul_le_mul_right _ h2) (om_144 _ (by omega) _ (by omega) (by omega))
section
variable {hd wo : Int32} {co li ee fac bd fx : Nat → Int32}
theorem om_p119 {post : Int32 → SX → Prop} {J : Int32 → Int32 → Int32 → Int32 → Int32 → (Nat → Int32) → (Nat → Int32) → (Nat → Int32) → (Nat → Int32) → (Nat → Int32) → (Nat → Int32) → (Nat → Int32) → (Nat → Int32) → Prop} {x1 x2 x3 x6 x7 z0 z1 : Int32} {ro : Int32} {k m : Nat} {ff fb : Nat → Int32} {R : Int → Int → Prop}
    (hm : m < 160) (hG : om_G ff fb m) (h6 : om_R 162 x6) (h7 : om_R 162 x7) (h8 : om_R 3000 (z1 - z0)) (hR : ∀ x y : Int, x6.toInt * x + x7.toInt * y ≤ (z1 - z0).toInt ↔ R x y)
    (H0 : ∀ (m' : Nat) (ff' fb' : Nat → Int32), m' ≤ m + 1 → om_G ff' fb' m' → (∀ x y : Int, ¬ R x y) → post 0 (hd, ro, nI m', wo, co, li, ee, fac, bd, ff', fb', fx))
    (H1 : ∀ (m' : Nat) (ff' fb' : Nat → Int32), m' ≤ m + 1 → om_G ff' fb' m' → (∀ x y : Int, om_F ff' fb' m' x y ↔ om_F ff fb m x y ∧ R x y) → J (nI (k + 1)) hd ro (nI m') wo co li ee fac bd ff' fb' fx) :
    wX_pairUp_119 post J x1 x2 x3 (nI k) x6 x7 z0 z1 hd ro (nI m) wo co li ee fac bd ff fb fx := by
  refine nm_e (om_putFew hm hG h6 h7 h8 (fun r m' ff' fb' h1 h2 h3 => ?_))
  rcases h3 with ⟨rfl, h3⟩ | ⟨rfl, h3⟩
  · refine br_f (by decide) (nm_r (nI_1 k) (H1 m' ff' fb' h1 h2 (fun x y => ?_)))
    rw [h3 x y, hR x y]
  · refine br_t rfl (H0 m' ff' fb' h1 h2 (fun x y => ?_))
    rw [← hR x y]
    exact h3 x y
theorem om_pair3 {post : Int32 → SX → Prop} {l n : Nat} {g nar : Int32} (hn : n ≤ 23) (hl : l < n) (hB : om_B fac bd n) (hg : om_R 9 g) :
    ∀ d k : Nat, k + d = n → ∀ (m : Nat) (ff fb : Nat → Int32), m + om_cu fac n ≤ 160 + om_cu fac k → om_G ff fb m →
    (∀ (r : Int32) (m' : Nat) (ff' fb' : Nat → Int32), m' + om_cu fac k ≤ m + om_cu fac n → om_G ff' fb' m' → (r = 1 ∧ (∀ x y : Int, om_F ff' fb' m' x y ↔ om_F ff fb m x y ∧ om_U fac bd nar g.toInt l k n x y) ∨ r = 0 ∧ (∀ x y : Int, ¬ om_U fac bd nar g.toInt l k n x y)) → post r (hd, nI n, nI m', wo, co, li, ee, fac, bd, ff', fb', fx)) →
    wX_pairUp_3 post (nI l) g nar (d + 1) (nI k) hd (nI n) (nI m) wo co li ee fac bd ff fb fx := by
  intro d
  induction d with
  | zero =>
    intro k hk m ff fb hm hG H
    have ek : k = n := by omega
    subst ek
    refine br_t (nI_le (by omega) (by omega)) (H 1 m ff fb (by omega) hG (Or.inl ⟨rfl, fun x y => ⟨fun h => ⟨h, fun s h1 h2 => absurd h2 (by omega)⟩, fun h => h.1⟩⟩))
  | succ d ih =>
    intro k hk m ff fb hm hG H
    have c2 : ((3 : Int32) * nI k + 2).toNatClampNeg = 3 * k + 2 := om_c2 (by omega)
    have c1 : ((3 : Int32) * nI k + 1).toNatClampNeg = 3 * k + 1 := om_c1 (by omega)
    have c0 : ((3 : Int32) * nI k).toNatClampNeg = 3 * k := om_c0 (by omega)
    have ck : (nI k).toNatClampNeg = k := nI_clamp (by omega)
    have l1 : ((3 : Int32) * nI l + 1).toNatClampNeg = 3 * l + 1 := om_c1 (by omega)
    have l0 : ((3 : Int32) * nI l).toNatClampNeg = 3 * l := om_c0 (by omega)
    have ll : (nI l).toNatClampNeg = l := nI_clamp (by omega)
    have hcu := om_cu_le fac (k + 1) d
    rw [show k + 1 + d = n by omega] at hcu
    obtain ⟨b0, b1, b2, b3⟩ := hB k (by omega)
    obtain ⟨a0, a1, a2, a3⟩ := hB l hl
    have hU : ∀ x y : Int, om_U fac bd nar g.toInt l k n x y ↔ (0 < (fac (3 * k + 2)).toInt → om_P fac bd nar g.toInt l k x y) ∧ om_U fac bd nar g.toInt l (k + 1) n x y := fun x y => om_all (by omega)
    refine br_f (nI_ge (by omega) (by omega)) ⟨om_i2 (by omega) (by omega), nm_r (congrArg fac c2) ?_⟩
    refine om_le (fac (3 * k + 2)).toInt 0 (fun h => ?_) (fun h => ?_) rfl om_l0
    · have hc := om_cu_f (fac := fac) (k := k) (by omega)
      refine nm_r (nI_1 k) (ih (k + 1) (by omega) m ff fb (by omega) hG (fun r m' ff' fb' h1 h2 h3 => H r m' ff' fb' (by omega) h2 ?_))
      rcases h3 with ⟨hr, h3⟩ | ⟨hr, h3⟩
      · refine Or.inl ⟨hr, fun x y => ?_⟩
        rw [h3 x y, hU x y]
        exact ⟨fun z => ⟨z.1, fun z2 => absurd z2 (by omega), z.2⟩, fun z => ⟨z.1, z.2.2⟩⟩
      · exact Or.inr ⟨hr, fun x y z => h3 x y ((hU x y).mp z).2⟩
    · have hc := om_cu_t (fac := fac) (k := k) h
      have e6 := om_fpgq b2 hg a0 b0 (by omega)
      have e7 := om_fpgq b2 hg a1 b1 (by omega)
      have e8 := om_fpgq b2 hg a3 b3 (by omega)
      have H0 : ∀ (m' : Nat) (ff' fb' : Nat → Int32), m' ≤ m + 1 → om_G ff' fb' m' → (∀ x y : Int, ¬ om_P fac bd nar g.toInt l k x y) → post 0 (hd, nI n, nI m', wo, co, li, ee, fac, bd, ff', fb', fx) :=
        fun m' ff' fb' h1 h2 h3 => H 0 m' ff' fb' (by omega) h2 (Or.inr ⟨rfl, fun x y z => h3 x y (((hU x y).mp z).1 h)⟩)
      have H1 : ∀ (m' : Nat) (ff' fb' : Nat → Int32), m' ≤ m + 1 → om_G ff' fb' m' → (∀ x y : Int, om_F ff' fb' m' x y ↔ om_F ff fb m x y ∧ om_P fac bd nar g.toInt l k x y) → wX_pairUp_3 post (nI l) g nar (d + 1) (nI (k + 1)) hd (nI n) (nI m') wo co li ee fac bd ff' fb' fx := by
        intro m1 ff1 fb1 h1 h2 h3
        refine ih (k + 1) (by omega) m1 ff1 fb1 (by omega) h2 (fun r m' ff' fb' h4 h5 h6 => H r m' ff' fb' (by omega) h5 ?_)
        rcases h6 with ⟨hr, h6⟩ | ⟨hr, h6⟩
        · refine Or.inl ⟨hr, fun x y => ?_⟩
          rw [h6 x y, h3 x y, hU x y]
          exact ⟨fun z => ⟨z.1.1, fun _ => z.1.2, z.2⟩, fun z => ⟨⟨z.1, z.2.1 h⟩, z.2.2⟩⟩
        · exact Or.inr ⟨hr, fun x y z => h6 x y ((hU x y).mp z).2⟩
      refine ⟨om_i0 (by omega) (by omega), om_i0 (by omega) (by omega), ?_⟩
      rw [l0, c0]
      refine nm_e ⟨om_i1 (by omega) (by omega), om_i1 (by omega) (by omega), ?_⟩
      rw [l1, c1]
      refine nm_e ⟨vp_in_nI (by omega) (by omega), vp_in_nI (by omega) (by omega), ?_⟩
      rw [ll, ck]
      refine br_c (fun hz => ?_) (fun hz => ?_)
      · have e9 := om_sub (y := 0) (B := 0) e8.2 ⟨by decide, by decide⟩ (by omega)
        refine om_p119 (R := om_P fac bd nar g.toInt l k) (by omega) hG e6.2 e7.2 (om_R_mono e9.2 (by omega)) (fun x y => ?_) H0 H1
        rw [e9.1, e6.1, e7.1, e8.1, om_l0]
        unfold om_P om_t
        rw [if_pos hz]
      · have t1 := om_sub (y := 1) (B := 1) b2 ⟨by decide, by decide⟩ (by omega)
        have t2 := om_sub (y := 1) (B := 1) hg ⟨by decide, by decide⟩ (by omega)
        have t3 := om_mul t1.2 t2.2 (by decide)
        have e9 := om_sub e8.2 t3.2 (by decide)
        refine om_p119 (R := om_P fac bd nar g.toInt l k) (by omega) hG e6.2 e7.2 (om_R_mono e9.2 (by decide)) (fun x y => ?_) H0 H1
        rw [e9.1, e6.1, e7.1, e8.1, t3.1, t1.1, t2.1, om_l1]
        unfold om_P om_t
        rw [if_neg hz]
theorem om_mk9z {post : Int32 → SX → Prop} {nar x3 ro fr : Int32} {d : Nat} {ff fb : Nat → Int32} (h : post 0 (hd, ro, fr, wo, co, li, ee, fac, bd, ff, fb, fx)) : wX_makeFew_9 post nar (d + 1) 0 x3 hd ro fr wo co li ee fac bd ff fb fx :=
  br_c (fun _ => ⟨narrow_b0, h⟩) (fun _ => br_t rfl ⟨narrow_b0, h⟩)
theorem om_mk9 {post : Int32 → SX → Prop} {n : Nat} {nar : Int32} (hn : n ≤ 23) (hB : om_B fac bd n) :
    ∀ d k : Nat, k + d = n → ∀ (m : Nat) (ff fb : Nat → Int32), m ≤ om_cn fac k * (om_cu fac n + 1) → om_G ff fb m →
    (∀ (r : Int32) (m' : Nat) (ff' fb' : Nat → Int32), m' ≤ 160 → om_G ff' fb' m' → (r = 1 ∧ (∀ x y : Int, om_F ff' fb' m' x y ↔ om_F ff fb m x y ∧ om_Sh fac bd nar k n x y) ∨ r = 0 ∧ (∀ x y : Int, ¬ om_Sh fac bd nar k n x y)) → post r (hd, nI n, nI m', wo, co, li, ee, fac, bd, ff', fb', fx)) →
    wX_makeFew_9 post nar (d + 1) 1 (nI k) hd (nI n) (nI m) wo co li ee fac bd ff fb fx := by
  intro d
  induction d with
  | zero =>
    intro k hk m ff fb hm hG H
    have ek : k = n := by omega
    subst ek
    have hr := om_room (fac := fac) hn (Nat.le_refl k)
    exact br_t (nI_le (by omega) (by omega)) ⟨narrow_b1, H 1 m ff fb (by omega) hG (Or.inl ⟨rfl, fun x y => ⟨fun h => ⟨h, fun s h1 h2 => absurd h2 (by omega)⟩, fun h => h.1⟩⟩)⟩
  | succ d ih =>
    intro k hk m ff fb hm hG H
    have c2 : ((3 : Int32) * nI k + 2).toNatClampNeg = 3 * k + 2 := om_c2 (by omega)
    have c1 : ((3 : Int32) * nI k + 1).toNatClampNeg = 3 * k + 1 := om_c1 (by omega)
    have c0 : ((3 : Int32) * nI k).toNatClampNeg = 3 * k := om_c0 (by omega)
    have ck : (nI k).toNatClampNeg = k := nI_clamp (by omega)
    obtain ⟨b0, b1, b2, b3⟩ := hB k (by omega)
    have hroom := om_room (fac := fac) hn (show k + 1 ≤ n by omega)
    have hSh : ∀ x y : Int, om_Sh fac bd nar k n x y ↔ om_row fac bd nar n k x y ∧ om_Sh fac bd nar (k + 1) n x y := fun x y => om_all (by omega)
    have C : ∀ (r : Int32) (m1 : Nat) (ff1 fb1 : Nat → Int32), m1 ≤ om_cn fac (k + 1) * (om_cu fac n + 1) → om_G ff1 fb1 m1 → (r = 1 ∧ (∀ x y : Int, om_F ff1 fb1 m1 x y ↔ om_F ff fb m x y ∧ om_row fac bd nar n k x y) ∨ r = 0 ∧ (∀ x y : Int, ¬ om_row fac bd nar n k x y)) → wX_makeFew_9 post nar (d + 1) r (nI (k + 1)) hd (nI n) (nI m1) wo co li ee fac bd ff1 fb1 fx := by
      intro r m1 ff1 fb1 h1 h2 h3
      rcases h3 with ⟨rfl, h3⟩ | ⟨rfl, h3⟩
      · refine ih (k + 1) (by omega) m1 ff1 fb1 h1 h2 (fun r m' ff' fb' h4 h5 h6 => H r m' ff' fb' h4 h5 ?_)
        rcases h6 with ⟨hr, h6⟩ | ⟨hr, h6⟩
        · refine Or.inl ⟨hr, fun x y => ?_⟩
          rw [h6 x y, h3 x y, hSh x y, and_assoc]
        · exact Or.inr ⟨hr, fun x y z => h6 x y ((hSh x y).mp z).2⟩
      · exact om_mk9z (H 0 m1 ff1 fb1 (by omega) h2 (Or.inr ⟨rfl, fun x y z => h3 x y ((hSh x y).mp z).1⟩))
    refine br_f (nI_ge (by omega) (by omega)) (br_f (by decide) ⟨om_i2 (by omega) (by omega), nm_r (congrArg fac c2) ?_⟩)
    refine om_eq (fac (3 * k + 2)).toInt 0 (fun h => ?_) (fun h => om_le 0 (fac (3 * k + 2)).toInt (fun h1 => ?_) (fun h1 => ?_) om_l0 rfl) rfl om_l0
    · have hc := om_cn_f (fac := fac) (k := k) (by omega)
      rw [hc, Nat.succ_mul] at hroom C
      refine ⟨om_i0 (by omega) (by omega), om_i1 (by omega) (by omega), vp_in_nI (by omega) (by omega), ?_⟩
      rw [c0, c1, ck]
      refine om_putFew (by omega) hG (om_R_mono b0 (by omega)) (om_R_mono b1 (by omega)) (om_R_mono b3 (by omega)) (fun r m' ff' fb' h2 h3 h4 => nm_r (nI_1 k) (C r m' ff' fb' (by omega) h3 ?_))
      rcases h4 with ⟨hr, h4⟩ | ⟨hr, h4⟩
      · refine Or.inl ⟨hr, fun x y => ?_⟩
        rw [h4 x y]
        exact ⟨fun z => ⟨z.1, fun _ => z.2, fun z2 => absurd z2 (by omega)⟩, fun z => ⟨z.1, z.2.1 h⟩⟩
      · exact Or.inr ⟨hr, fun x y z => h4 x y (z.1 h)⟩
    · have hc := om_cn_t (fac := fac) (k := k) (by omega)
      rw [hc] at C
      refine nm_r (nI_1 k) (C 1 m ff fb hm hG (Or.inl ⟨rfl, fun x y => ⟨fun z => ⟨z, fun z2 => absurd z2 h, fun z2 => absurd z2 (by omega)⟩, fun z => z.1⟩⟩))
    · have hc := om_cn_f (fac := fac) (k := k) (by omega)
      rw [hc, Nat.succ_mul] at hroom C
      have hg := om_neg b2 (by omega)
      refine ⟨n + 1, om_pair3 hn (by omega) hB hg.2 n 0 (by omega) m ff fb (by show _ ≤ 160 + 0; omega) hG (fun r m' ff' fb' h2 h3 h4 => nm_r (nI_1 k) (C r m' ff' fb' (by have h2' : m' + 0 ≤ m + om_cu fac n := h2; omega) h3 ?_))⟩
      rw [hg.1] at h4
      rcases h4 with ⟨hr, h4⟩ | ⟨hr, h4⟩
      · refine Or.inl ⟨hr, fun x y => ?_⟩
        rw [h4 x y]
        exact ⟨fun z => ⟨z.1, fun z2 => absurd z2 h, fun _ => z.2⟩, fun z => ⟨z.1, z.2.2 h1⟩⟩
      · exact Or.inr ⟨hr, fun x y z => h4 x y (z.2 h1)⟩
theorem om_F_0 {ff fb : Nat → Int32} {x y : Int} : om_F ff fb 0 x y := fun r hr => absurd hr (by omega)
theorem om_G_0 {ff fb : Nat → Int32} : om_G ff fb 0 := fun r hr => absurd hr (by omega)
theorem om_makeFew {post : Int32 → SX → Prop} {n : Nat} {nar fr : Int32} {ff fb : Nat → Int32} (hn : n ≤ 23) (hB : om_B fac bd n)
    (H : ∀ (r : Int32) (m' : Nat) (ff' fb' : Nat → Int32), m' ≤ 160 → om_G ff' fb' m' → (r = 1 ∧ (∀ x y : Int, om_F ff' fb' m' x y ↔ om_Sh fac bd nar 0 n x y) ∨ r = 0 ∧ (∀ x y : Int, ¬ om_Sh fac bd nar 0 n x y)) → post r (hd, nI n, nI m', wo, co, li, ee, fac, bd, ff', fb', fx)) :
    wpX_makeFew post (hd, nI n, fr, wo, co, li, ee, fac, bd, ff, fb, fx) nar := by
  refine ⟨n + 1, om_mk9 hn hB n 0 (by omega) 0 ff fb (by omega) om_G_0 (fun r m' ff' fb' h1 h2 h3 => H r m' ff' fb' h1 h2 ?_)⟩
  rcases h3 with ⟨hr, h3⟩ | h3
  · refine Or.inl ⟨hr, fun x y => ?_⟩
    rw [h3 x y]
    exact ⟨fun z => z.2, fun z => ⟨om_F_0, z⟩⟩
  · exact Or.inr h3
theorem om_mf9z {post : Int32 → SX → Prop} {z x3 ro fr : Int32} {d : Nat} {ff fb : Nat → Int32} (h : post 0 (hd, ro, fr, wo, co, li, ee, fac, bd, ff, fb, fx)) : wX_makeFewFor_9 post z (d + 1) 0 x3 hd ro fr wo co li ee fac bd ff fb fx :=
  br_c (fun _ => ⟨narrow_b0, h⟩) (fun _ => br_t rfl ⟨narrow_b0, h⟩)
theorem om_mf9 {post : Int32 → SX → Prop} {n : Nat} {z : Int32} (hn : n ≤ 23) (hB : om_B fac bd n) (hz : om_R 6 z) :
    ∀ d k : Nat, k + d = n → ∀ (m : Nat) (ff fb : Nat → Int32), m ≤ k → om_G ff fb m →
    (∀ (r : Int32) (m' : Nat) (ff' fb' : Nat → Int32), m' ≤ 160 → om_G ff' fb' m' → (r = 1 ∧ (∀ x y : Int, om_F ff' fb' m' x y ↔ om_F ff fb m x y ∧ om_Sz fac bd k n x y z.toInt) ∨ r = 0 ∧ (∀ x y : Int, ¬ om_Sz fac bd k n x y z.toInt)) → post r (hd, nI n, nI m', wo, co, li, ee, fac, bd, ff', fb', fx)) →
    wX_makeFewFor_9 post z (d + 1) 1 (nI k) hd (nI n) (nI m) wo co li ee fac bd ff fb fx := by
  intro d
  induction d with
  | zero =>
    intro k hk m ff fb hm hG H
    have ek : k = n := by omega
    subst ek
    exact br_t (nI_le (by omega) (by omega)) ⟨narrow_b1, H 1 m ff fb (by omega) hG (Or.inl ⟨rfl, fun x y => ⟨fun h => ⟨h, fun s h1 h2 => absurd h2 (by omega)⟩, fun h => h.1⟩⟩)⟩
  | succ d ih =>
    intro k hk m ff fb hm hG H
    have c2 : ((3 : Int32) * nI k + 2).toNatClampNeg = 3 * k + 2 := om_c2 (by omega)
    have c1 : ((3 : Int32) * nI k + 1).toNatClampNeg = 3 * k + 1 := om_c1 (by omega)
    have c0 : ((3 : Int32) * nI k).toNatClampNeg = 3 * k := om_c0 (by omega)
    have ck : (nI k).toNatClampNeg = k := nI_clamp (by omega)
    obtain ⟨b0, b1, b2, b3⟩ := hB k (by omega)
    have hSz : ∀ x y : Int, om_Sz fac bd k n x y z.toInt ↔ (fac (3 * k)).toInt * x + (fac (3 * k + 1)).toInt * y ≤ (bd k).toInt - (fac (3 * k + 2)).toInt * z.toInt ∧ om_Sz fac bd (k + 1) n x y z.toInt := fun x y => om_all (P := fun r => (fac (3 * r)).toInt * x + (fac (3 * r + 1)).toInt * y ≤ (bd r).toInt - (fac (3 * r + 2)).toInt * z.toInt) (by omega)
    refine br_f (nI_ge (by omega) (by omega)) (br_f (by decide) ⟨om_i0 (by omega) (by omega), om_i1 (by omega) (by omega), vp_in_nI (by omega) (by omega), om_i2 (by omega) (by omega), ?_⟩)
    rw [c0, c1, ck, c2]
    have t1 := om_mul b2 hz (by decide)
    have t2 := om_sub b3 t1.2 (by decide)
    refine om_putFew (by omega) hG (om_R_mono b0 (by omega)) (om_R_mono b1 (by omega)) (om_R_mono t2.2 (by decide)) (fun r m1 ff1 fb1 h1 h2 h3 => nm_r (nI_1 k) ?_)
    rw [t2.1, t1.1] at h3
    rcases h3 with ⟨rfl, h3⟩ | ⟨rfl, h3⟩
    · refine ih (k + 1) (by omega) m1 ff1 fb1 (by omega) h2 (fun r m' ff' fb' h4 h5 h6 => H r m' ff' fb' h4 h5 ?_)
      rcases h6 with ⟨hr, h6⟩ | ⟨hr, h6⟩
      · refine Or.inl ⟨hr, fun x y => ?_⟩
        rw [h6 x y, h3 x y, hSz x y, and_assoc]
      · exact Or.inr ⟨hr, fun x y z => h6 x y ((hSz x y).mp z).2⟩
    · exact om_mf9z (H 0 m1 ff1 fb1 (by omega) h2 (Or.inr ⟨rfl, fun x y z => h3 x y ((hSz x y).mp z).1⟩))
theorem om_makeFewFor {post : Int32 → SX → Prop} {n : Nat} {z fr : Int32} {ff fb : Nat → Int32} (hn : n ≤ 23) (hB : om_B fac bd n) (hz : om_R 6 z)
    (H : ∀ (r : Int32) (m' : Nat) (ff' fb' : Nat → Int32), m' ≤ 160 → om_G ff' fb' m' → (r = 1 ∧ (∀ x y : Int, om_F ff' fb' m' x y ↔ om_Sz fac bd 0 n x y z.toInt) ∨ r = 0 ∧ (∀ x y : Int, ¬ om_Sz fac bd 0 n x y z.toInt)) → post r (hd, nI n, nI m', wo, co, li, ee, fac, bd, ff', fb', fx)) :
    wpX_makeFewFor post (hd, nI n, fr, wo, co, li, ee, fac, bd, ff, fb, fx) z := by
  refine ⟨n + 1, om_mf9 hn hB hz n 0 (by omega) 0 ff fb (by omega) om_G_0 (fun r m' ff' fb' h1 h2 h3 => H r m' ff' fb' h1 h2 ?_)⟩
  rcases h3 with ⟨hr, h3⟩ | h3
  · refine Or.inl ⟨hr, fun x y => ?_⟩
    rw [h3 x y]
    exact ⟨fun z => z.2, fun z => ⟨om_F_0, z⟩⟩
  · exact Or.inr h3
end
end
section
/-! leavesRoom, planeSolvable, isExact -/
def om_Fk (ff fb : Nat → Int32) (k m : Nat) (x y : Int) : Prop := ∀ r : Nat, k ≤ r → r < m → (ff (3 * r)).toInt * x + (ff (3 * r + 1)).toInt * y ≤ (fb r).toInt
section
variable {hd ro wo : Int32} {co li ee fac bd ff fb fx : Nat → Int32}
/-- one row's part in a stretch -/
theorem om_up {a b d x y : Int} (hb : 0 < b) : a * x + b * y ≤ d ↔ y ≤ (d - a * x) / b := by
  rw [Int.le_ediv_iff_mul_le hb, Int.mul_comm y b]; omega
theorem om_dn {a b d x y : Int} (hb : b < 0) : a * x + b * y ≤ d ↔ -((d - a * x) / (-b)) ≤ y := by
  have e : -((d - a * x) / (-b)) ≤ y ↔ -y ≤ (d - a * x) / (-b) := by omega
  rw [e, Int.le_ediv_iff_mul_le (by omega), Int.mul_comm (-y) (-b), Int.neg_mul_neg]; omega
theorem om_room64 {post : Int32 → Prop} {J : Int32 → Int32 → Int32 → Prop} {x1 lo hi b rest fr : Int32} {k : Nat} {R : Int → Prop} (hb : om_R 162 b) (hr : om_R 100000 rest) (hR : ∀ y : Int, R y ↔ b.toInt * y ≤ rest.toInt) (h0 : b.toInt = 0 → 0 ≤ rest.toInt)
    (K : ∀ lo' hi' : Int32, (∀ y : Int, (lo'.toInt ≤ y ∧ y ≤ hi'.toInt) ↔ (lo.toInt ≤ y ∧ y ≤ hi.toInt) ∧ R y) → J lo' hi' (nI (k + 1))) :
    wX_leavesRoom_64 post J x1 lo hi (nI k) b rest hd ro fr wo co li ee fac bd ff fb fx := by
  have b1 := hb.1
  have b2 := hb.2
  refine om_le b.toInt 0 (fun h => om_le 0 b.toInt (fun h1 => ?_) (fun h1 => ?_) om_l0 rfl) (fun h => ?_) rfl om_l0
  · refine nm_r (nI_1 k) (K lo hi (fun y => ⟨fun z => ⟨z, ?_⟩, fun z => z.1⟩))
    rw [hR y, show b.toInt = 0 by omega, Int.zero_mul]
    exact h0 (by omega)
  · have hn := om_neg hb (by omega)
    refine om_floor hr (by rw [hn.1]; omega) (by rw [hn.1]; omega) (fun r er => ?_)
    have hR2 : ∀ y : Int, R y ↔ -(rest.toInt / (-b.toInt)) ≤ y := by
      intro y
      have := om_dn (a := 0) (x := 0) (d := rest.toInt) (y := y) h1
      rw [Int.zero_mul, Int.zero_add, Int.sub_zero] at this
      rw [hR y, this]
    rw [hn.1] at er
    have q1 : -100000 ≤ rest.toInt / (-b.toInt) := (Int.le_ediv_iff_mul_le (by omega)).mpr (by have := hr.1; omega)
    have q2 : rest.toInt / (-b.toInt) < 100001 := (Int.ediv_lt_iff_lt_mul (by omega)).mpr (by have := hr.2; omega)
    have en := om_neg (x := r) (A := 100001) ⟨by omega, by omega⟩ (by omega)
    refine nm_e (om_le (-r).toInt lo.toInt (fun h2 => nm_r (nI_1 k) (K lo hi (fun y => ?_))) (fun h2 => nm_r (nI_1 k) (K (-r) hi (fun y => ?_))) rfl rfl)
    · rw [hR2 y]; rw [en.1, er] at h2; omega
    · rw [hR2 y]; rw [en.1, er] at h2; rw [en.1, er]; omega
  · refine om_floor hr h (by omega) (fun r er => ?_)
    have hR2 : ∀ y : Int, R y ↔ y ≤ rest.toInt / b.toInt := by
      intro y
      have := om_up (a := 0) (x := 0) (d := rest.toInt) (y := y) h
      rw [Int.zero_mul, Int.zero_add, Int.sub_zero] at this
      rw [hR y, this]
    refine om_le hi.toInt r.toInt (fun h2 => nm_r (nI_1 k) (K lo hi (fun y => ?_))) (fun h2 => nm_r (nI_1 k) (K lo r (fun y => ?_))) rfl rfl
    · rw [hR2 y]; rw [er] at h2; omega
    · rw [hR2 y]; rw [er] at h2; rw [er]; omega
theorem om_room9 {post : Int32 → Prop} {x : Int32} {m : Nat} (hm : m ≤ 160) (hG : om_G ff fb m) (hx : om_R 6 x) :
    ∀ d k : Nat, k + d = m → ∀ lo hi : Int32,
    ((∃ y : Int, (lo.toInt ≤ y ∧ y ≤ hi.toInt) ∧ om_Fk ff fb k m x.toInt y) → post 1) → ((¬ ∃ y : Int, (lo.toInt ≤ y ∧ y ≤ hi.toInt) ∧ om_Fk ff fb k m x.toInt y) → post 0) →
    wX_leavesRoom_9 post x hd ro (nI m) wo co li ee fac bd ff fb fx (d + 1) lo hi (nI k) := by
  intro d
  induction d with
  | zero =>
    intro k hk lo hi H1 H0
    refine br_t (nI_le (by omega) (by omega)) (om_lt hi.toInt lo.toInt (fun h => H0 ?_) (fun h => H1 ?_) rfl rfl)
    · intro ⟨y, hy, _⟩; omega
    · exact ⟨lo.toInt, ⟨by omega, by omega⟩, fun r h1 h2 => absurd h2 (by omega)⟩
  | succ d ih =>
    intro k hk lo hi H1 H0
    have c1 : ((3 : Int32) * nI k + 1).toNatClampNeg = 3 * k + 1 := om_c1 (by omega)
    have c0 : ((3 : Int32) * nI k).toNatClampNeg = 3 * k := om_c0 (by omega)
    have ck : (nI k).toNatClampNeg = k := nI_clamp (by omega)
    obtain ⟨g0, g1, g2⟩ := hG k (by omega)
    have t1 := om_mul g0 hx (by decide)
    have t2 := om_sub g2 t1.2 (by decide)
    have hF : ∀ y : Int, om_Fk ff fb k m x.toInt y ↔ (ff (3 * k)).toInt * x.toInt + (ff (3 * k + 1)).toInt * y ≤ (fb k).toInt ∧ om_Fk ff fb (k + 1) m x.toInt y := fun y => om_all (P := fun r => (ff (3 * r)).toInt * x.toInt + (ff (3 * r + 1)).toInt * y ≤ (fb r).toInt) (by omega)
    have hR : ∀ y : Int, (ff (3 * k)).toInt * x.toInt + (ff (3 * k + 1)).toInt * y ≤ (fb k).toInt ↔ (ff (3 * k + 1)).toInt * y ≤ (fb k - ff (3 * k) * x).toInt := by
      intro y
      rw [t2.1, t1.1]; omega
    have K : (((ff (3 * k + 1)).toInt = 0 → 0 ≤ (fb k - ff (3 * k) * x).toInt)) → wX_leavesRoom_64 post (wX_leavesRoom_9 post x hd ro (nI m) wo co li ee fac bd ff fb fx (d + 1)) x lo hi (nI k) (ff (3 * k + 1)) (fb k - ff (3 * k) * x) hd ro (nI m) wo co li ee fac bd ff fb fx := by
      intro h0
      refine om_room64 g1 (om_R_mono t2.2 (by decide)) hR h0 (fun lo' hi' hl => ih (k + 1) (by omega) lo' hi' (fun z => H1 ?_) (fun z => H0 ?_))
      · obtain ⟨y, h1, h2⟩ := z
        have h3 := (hl y).mp h1
        exact ⟨y, h3.1, (hF y).mpr ⟨h3.2, h2⟩⟩
      · intro ⟨y, h1, h2⟩
        have h3 := (hF y).mp h2
        exact z ⟨y, (hl y).mpr ⟨h1, h3.1⟩, h3.2⟩
    refine br_f (nI_ge (by omega) (by omega)) ⟨om_i1 (by omega) (by omega), nm_r (congrArg ff c1) ⟨vp_in_nI (by omega) (by omega), om_i0 (by omega) (by omega), ?_⟩⟩
    rw [ck, c0]
    refine nm_e (om_eq (ff (3 * k + 1)).toInt 0 (fun h => om_le 0 (fb k - ff (3 * k) * x).toInt (fun h1 => K (fun _ => h1)) (fun h1 => H0 ?_) om_l0 rfl) (fun h => K (fun z => absurd z h)) rfl om_l0)
    intro ⟨y, _, h2⟩
    have h3 := (hR y).mp ((hF y).mp h2).1
    rw [h, Int.zero_mul] at h3
    omega
theorem om_leavesRoom {post : Int32 → Prop} {x : Int32} {m : Nat} (hm : m ≤ 160) (hG : om_G ff fb m) (hx : om_R 6 x)
    (H1 : (∃ y : Int, (-6 ≤ y ∧ y ≤ 6) ∧ om_F ff fb m x.toInt y) → post 1) (H0 : (¬ ∃ y : Int, (-6 ≤ y ∧ y ≤ 6) ∧ om_F ff fb m x.toInt y) → post 0) :
    wpX_leavesRoom post (hd, ro, nI m, wo, co, li, ee, fac, bd, ff, fb, fx) x := by
  refine ⟨m + 1, om_room9 hm hG hx m 0 (by omega) (-6) 6 (fun z => H1 ?_) (fun z => H0 ?_)⟩
  · obtain ⟨y, h1, h2⟩ := z
    rw [om_l6, om_l6n] at h1
    exact ⟨y, h1, fun r hr => h2 r (by omega) hr⟩
  · intro ⟨y, h1, h2⟩
    exact z ⟨y, by rw [om_l6, om_l6n]; exact h1, fun r _ hr => h2 r hr⟩
theorem om_plane3 {post : Int32 → Prop} {m : Nat} (hm : m ≤ 160) (hG : om_G ff fb m) :
    ∀ (d : Nat) (x : Int32), x.toInt + d = 7 → -6 ≤ x.toInt →
    ((∃ a b : Int, (x.toInt ≤ a ∧ a ≤ 6) ∧ (-6 ≤ b ∧ b ≤ 6) ∧ om_F ff fb m a b) → post 1) → ((¬ ∃ a b : Int, (x.toInt ≤ a ∧ a ≤ 6) ∧ (-6 ≤ b ∧ b ≤ 6) ∧ om_F ff fb m a b) → post 0) →
    wX_planeSolvable_3 post hd ro (nI m) wo co li ee fac bd ff fb fx (d + 1) x := by
  intro d
  induction d with
  | zero =>
    intro x hx h6 H1 H0
    refine om_lt 6 x.toInt (fun h => H0 ?_) (fun h => absurd h (by omega)) om_l6 rfl
    intro ⟨a, b, h1, _⟩; omega
  | succ d ih =>
    intro x hx h6 H1 H0
    have hs := om_succ (x := x) (by omega)
    refine om_lt 6 x.toInt (fun h => absurd h (by omega)) (fun h => ?_) om_l6 rfl
    refine om_leavesRoom hm hG ⟨by omega, by omega⟩ (fun z => ?_) (fun z => ?_)
    · obtain ⟨y, h1, h2⟩ := z
      exact br_f (by decide) (H1 ⟨x.toInt, y, ⟨by omega, by omega⟩, h1, h2⟩)
    · refine br_t rfl (nm_e (ih (x + 1) (by omega) (by omega) (fun w => H1 ?_) (fun w => H0 ?_)))
      · obtain ⟨a, b, h1, h2⟩ := w
        exact ⟨a, b, ⟨by omega, by omega⟩, h2⟩
      · intro ⟨a, b, h1, h2, h3⟩
        by_cases e : a = x.toInt
        · subst e; exact z ⟨b, h2, h3⟩
        · exact w ⟨a, b, ⟨by omega, by omega⟩, h2, h3⟩
theorem om_plane {post : Int32 → Prop} {m : Nat} (hm : m ≤ 160) (hG : om_G ff fb m)
    (H1 : (∃ a b : Int, (-6 ≤ a ∧ a ≤ 6) ∧ (-6 ≤ b ∧ b ≤ 6) ∧ om_F ff fb m a b) → post 1) (H0 : (¬ ∃ a b : Int, (-6 ≤ a ∧ a ≤ 6) ∧ (-6 ≤ b ∧ b ≤ 6) ∧ om_F ff fb m a b) → post 0) :
    wpX_planeSolvable post (hd, ro, nI m, wo, co, li, ee, fac, bd, ff, fb, fx) := by
  refine ⟨14, om_plane3 hm hG 13 (-6) (by rw [om_l6n]; omega) (by rw [om_l6n]; omega) ?_ ?_⟩
  · rw [om_l6n]; exact H1
  · rw [om_l6n]; exact H0
theorem om_ex40 {post : Int32 → Prop} {J : Int32 → Int32 → Int32 → Prop} {x2 x4 z0 fr : Int32} {k : Nat}
    (K : ∀ hi : Int32, x4.toInt ≤ hi.toInt → x2.toInt ≤ hi.toInt → J z0 hi (nI (k + 1))) :
    wX_isExact_40 post J x2 (nI k) x4 z0 hd ro fr wo co li ee fac bd ff fb fx :=
  om_le x4.toInt x2.toInt (fun h => nm_r (nI_1 k) (K x2 h (by omega))) (fun h => nm_r (nI_1 k) (K x4 (by omega) (by omega))) rfl rfl
theorem om_ex6 {post : Int32 → Prop} {n : Nat} {fr : Int32} (hn : n ≤ 23) (hB : om_B fac bd n)
    (H1 : ((∀ r : Nat, r < n → -(fac (3 * r + 2)).toInt ≤ 1) ∨ (∀ r : Nat, r < n → (fac (3 * r + 2)).toInt ≤ 1)) → post 1) (H0 : post 0) :
    ∀ d k : Nat, k + d = n → ∀ lo hi : Int32, (∀ r : Nat, r < k → -(fac (3 * r + 2)).toInt ≤ lo.toInt) → (∀ r : Nat, r < k → (fac (3 * r + 2)).toInt ≤ hi.toInt) →
    wX_isExact_6 post hd (nI n) fr wo co li ee fac bd ff fb fx (d + 1) lo hi (nI k) := by
  intro d
  induction d with
  | zero =>
    intro k hk lo hi hl hh
    have ek : k = n := by omega
    subst ek
    refine br_t (nI_le (by omega) (by omega)) (om_eq lo.toInt 1 (fun h => H1 (Or.inl ?_)) (fun h => om_eq hi.toInt 1 (fun h => H1 (Or.inr ?_)) (fun h => H0) rfl om_l1) rfl om_l1)
    · rw [h] at hl; exact hl
    · rw [h] at hh; exact hh
  | succ d ih =>
    intro k hk lo hi hl hh
    have c2 : ((3 : Int32) * nI k + 2).toNatClampNeg = 3 * k + 2 := om_c2 (by omega)
    obtain ⟨b0, b1, b2, b3⟩ := hB k (by omega)
    have hng := om_neg b2 (by omega)
    have st : ∀ lo' : Int32, lo.toInt ≤ lo'.toInt → -(fac (3 * k + 2)).toInt ≤ lo'.toInt → wX_isExact_40 post (wX_isExact_6 post hd (nI n) fr wo co li ee fac bd ff fb fx (d + 1)) hi (nI k) (fac (3 * k + 2)) lo' hd (nI n) fr wo co li ee fac bd ff fb fx := by
      intro lo' h1 h2
      refine om_ex40 (fun hi' h3 h4 => ih (k + 1) (by omega) lo' hi' (lt_s (fun r hr => ?_) h2) (lt_s (fun r hr => ?_) h3))
      · have := hl r hr; omega
      · have := hh r hr; omega
    refine br_f (nI_ge (by omega) (by omega)) ⟨om_i2 (by omega) (by omega), nm_r (congrArg fac c2) ?_⟩
    refine om_le (-(fac (3 * k + 2)).toInt) lo.toInt (fun h => st lo (by omega) h) (fun h => st _ (by rw [hng.1]; omega) (by rw [hng.1]; omega)) hng.1 rfl
theorem om_isExact {post : Int32 → Prop} {n : Nat} {fr : Int32} (hn : n ≤ 23) (hB : om_B fac bd n)
    (H1 : ((∀ r : Nat, r < n → -(fac (3 * r + 2)).toInt ≤ 1) ∨ (∀ r : Nat, r < n → (fac (3 * r + 2)).toInt ≤ 1)) → post 1) (H0 : post 0) :
    wpX_isExact post (hd, nI n, fr, wo, co, li, ee, fac, bd, ff, fb, fx) :=
  ⟨n + 1, om_ex6 hn hB H1 H0 n 0 (by omega) 1 1 lt_0 lt_0⟩
end
end
section
/-! the shadows (pure), solvable -/
theorem om_dark {f g A B : Int} (hf : 0 < f) (hg : 0 < g) (h : f * A - g * B ≤ -((f - 1) * (g - 1))) : -((-A) / g) ≤ B / f := by
  have h1 : (-A) / g * g ≤ -A := Int.ediv_mul_le _ (by omega)
  have h2 : -A < ((-A) / g + 1) * g := Int.lt_ediv_add_one_mul_self _ hg
  generalize (-A) / g = w at h1 h2 ⊢
  rw [Int.le_ediv_iff_mul_le hf]
  by_cases hc : -w * f ≤ B
  · exact hc
  · exfalso
    have h3 := Int.mul_le_mul_of_nonneg_left (show B + 1 ≤ -w * f by omega) (show 0 ≤ g by omega)
    rw [Int.add_mul, Int.one_mul] at h2
    have h4 := Int.mul_le_mul_of_nonneg_left (show -(w * g) ≤ A + g - 1 by omega) (show 0 ≤ f by omega)
    have e : g * (-w * f) = f * (-(w * g)) := by
      rw [Int.neg_mul, Int.mul_neg, Int.mul_neg, Int.mul_comm w f, Int.mul_left_comm g f w, Int.mul_comm g w]
    rw [e, Int.mul_add, Int.mul_one] at h3
    rw [Int.mul_sub, Int.mul_add, Int.mul_one] at h4
    rw [Int.sub_mul, Int.mul_sub, Int.mul_one, Int.one_mul] at h
    omega
theorem om_max (P : Nat → Prop) (lo : Nat → Int) : ∀ n : Nat, (∃ r : Nat, r < n ∧ P r ∧ ∀ s : Nat, s < n → P s → lo s ≤ lo r) ∨ (∀ r : Nat, r < n → ¬ P r) := by
  intro n
  induction n with
  | zero => exact Or.inr (fun r hr => absurd hr (by omega))
  | succ n ih =>
    by_cases hp : P n
    · rcases ih with ⟨r, h1, h2, h3⟩ | h
      · by_cases hl : lo n ≤ lo r
        · refine Or.inl ⟨r, by omega, h2, fun s hs ps => ?_⟩
          by_cases e : s = n
          · rw [e]; exact hl
          · exact h3 s (by omega) ps
        · refine Or.inl ⟨n, by omega, hp, fun s hs ps => ?_⟩
          by_cases e : s = n
          · rw [e]; omega
          · have := h3 s (by omega) ps
            omega
      · refine Or.inl ⟨n, by omega, hp, fun s hs ps => ?_⟩
        by_cases e : s = n
        · rw [e]; omega
        · exact absurd ps (h s (by omega))
    · rcases ih with ⟨r, h1, h2, h3⟩ | h
      · refine Or.inl ⟨r, by omega, h2, fun s hs ps => ?_⟩
        by_cases e : s = n
        · rw [e] at ps; exact absurd ps hp
        · exact h3 s (by omega) ps
      · refine Or.inr (fun s hs ps => ?_)
        by_cases e : s = n
        · rw [e] at ps; exact hp ps
        · exact h s (by omega) ps
theorem om_between (P Q : Nat → Prop) (lo hi : Nat → Int) (n : Nat) (h : ∀ r s : Nat, r < n → s < n → P r → Q s → lo r ≤ hi s) : ∃ z : Int, (∀ r : Nat, r < n → P r → lo r ≤ z) ∧ (∀ s : Nat, s < n → Q s → z ≤ hi s) := by
  rcases om_max P lo n with ⟨r, h1, h2, h3⟩ | h0
  · exact ⟨lo r, h3, fun s hs qs => h r s h1 hs h2 qs⟩
  · rcases om_max Q (fun s => -hi s) n with ⟨s, h1, h2, h3⟩ | h4
    · exact ⟨hi s, fun r hr pr => absurd pr (h0 r hr), fun t ht qt => by have h5 : -hi t ≤ -hi s := h3 t ht qt; omega⟩
    · exact ⟨0, fun r hr pr => absurd pr (h0 r hr), fun s hs qs => absurd qs (h4 s hs)⟩
theorem om_wide {fac bd : Nat → Int32} {n : Nat} {x y z : Int} (h : om_S fac bd n x y z) : om_Sh fac bd 0 0 n x y := by
  intro r _ hr
  have h1 := h r hr
  refine ⟨fun hz => ?_, fun hl s _ hs hu => ?_⟩
  · rw [hz, Int.zero_mul] at h1; omega
  · have h2 := h s hs
    unfold om_P om_t
    rw [if_pos rfl]
    generalize (fac (3 * r)).toInt = a1 at *
    generalize (fac (3 * r + 1)).toInt = b1 at *
    generalize (fac (3 * r + 2)).toInt = c1 at *
    generalize (fac (3 * s)).toInt = a2 at *
    generalize (fac (3 * s + 1)).toInt = b2 at *
    generalize (fac (3 * s + 2)).toInt = c2 at *
    have h3 := Int.mul_le_mul_of_nonneg_left h1 (show 0 ≤ c2 by omega)
    have h4 := Int.mul_le_mul_of_nonneg_left h2 (show 0 ≤ -c1 by omega)
    have e : (c2 * a1 + -c1 * a2) * x + (c2 * b1 + -c1 * b2) * y = c2 * (a1 * x + b1 * y + c1 * z) + -c1 * (a2 * x + b2 * y + c2 * z) := by grind
    rw [e]
    omega
theorem om_narrow {fac bd : Nat → Int32} {n : Nat} {x y : Int} (h : om_Sh fac bd 1 0 n x y) : ∃ z : Int, om_S fac bd n x y z := by
  obtain ⟨z, hz1, hz2⟩ := om_between (fun r => (fac (3 * r + 2)).toInt < 0) (fun s => 0 < (fac (3 * s + 2)).toInt)
    (fun r => -((-((fac (3 * r)).toInt * x + (fac (3 * r + 1)).toInt * y - (bd r).toInt)) / (-(fac (3 * r + 2)).toInt)))
    (fun s => ((bd s).toInt - ((fac (3 * s)).toInt * x + (fac (3 * s + 1)).toInt * y)) / (fac (3 * s + 2)).toInt) n
    (fun r s hr hs pr ps => by
      have hP := (h r (by omega) hr).2 pr s (by omega) hs ps
      unfold om_P om_t at hP
      rw [if_neg (by decide)] at hP
      generalize (fac (3 * r)).toInt = a1 at *
      generalize (fac (3 * r + 1)).toInt = b1 at *
      generalize (fac (3 * r + 2)).toInt = c1 at *
      generalize (fac (3 * s)).toInt = a2 at *
      generalize (fac (3 * s + 1)).toInt = b2 at *
      generalize (fac (3 * s + 2)).toInt = c2 at *
      refine om_dark ps (by omega) ?_
      have e : c2 * (a1 * x + b1 * y - (bd r).toInt) - -c1 * ((bd s).toInt - (a2 * x + b2 * y)) = (c2 * a1 + -c1 * a2) * x + (c2 * b1 + -c1 * b2) * y - (c2 * (bd r).toInt + -c1 * (bd s).toInt) := by grind
      rw [e]
      omega)
  refine ⟨z, fun r hr => ?_⟩
  have h0 := (h r (by omega) hr).1
  have h1 := hz1 r hr
  have h2 := hz2 r hr
  generalize (fac (3 * r)).toInt = a1 at *
  generalize (fac (3 * r + 1)).toInt = b1 at *
  generalize (fac (3 * r + 2)).toInt = c1 at *
  generalize (bd r).toInt = d1 at *
  rcases Int.lt_trichotomy c1 0 with hc | hc | hc
  · have h3 := (om_dn (a := 1) (x := a1 * x + b1 * y) (d := d1) (y := z) hc).mpr (by
      rw [Int.one_mul, show d1 - (a1 * x + b1 * y) = -(a1 * x + b1 * y - d1) by omega]
      exact h1 hc)
    omega
  · rw [hc, Int.zero_mul]
    have := h0 hc
    omega
  · have h3 := (om_up (a := 1) (x := a1 * x + b1 * y) (d := d1) (y := z) hc).mpr (by
      rw [Int.one_mul]
      exact h2 hc)
    omega
theorem om_exact {fac bd : Nat → Int32} {n : Nat} {x y : Int} (he : (∀ r : Nat, r < n → -(fac (3 * r + 2)).toInt ≤ 1) ∨ (∀ r : Nat, r < n → (fac (3 * r + 2)).toInt ≤ 1)) (h : om_Sh fac bd 0 0 n x y) : om_Sh fac bd 1 0 n x y := by
  intro r h1 hr
  refine ⟨(h r h1 hr).1, fun hl s h2 hs hu => ?_⟩
  have hP := (h r h1 hr).2 hl s h2 hs hu
  have e : om_t 1 (fac (3 * s + 2)).toInt (-(fac (3 * r + 2)).toInt) = om_t 0 (fac (3 * s + 2)).toInt (-(fac (3 * r + 2)).toInt) := by
    unfold om_t
    rw [if_neg (by decide), if_pos rfl]
    rcases he with he | he
    · have := he r hr
      rw [show -(fac (3 * r + 2)).toInt - 1 = 0 by omega, Int.mul_zero]
    · have := he s hs
      rw [show (fac (3 * s + 2)).toInt - 1 = 0 by omega, Int.zero_mul]
  unfold om_P at hP ⊢
  rw [e]
  exact hP
theorem om_Sz_S {fac bd : Nat → Int32} {n : Nat} {x y z : Int} : om_Sz fac bd 0 n x y z ↔ om_S fac bd n x y z :=
  ⟨fun h r hr => by have := h r (by omega) hr; omega, fun h r _ hr => by have := h r hr; omega⟩
section
variable {hd wo : Int32} {co li ee fac bd fx : Nat → Int32}
theorem om_solv46 {post : Int32 → SX → Prop} {n : Nat} (hn : n ≤ 23) (hB : om_B fac bd n) (hS : ∀ x y z : Int, om_S fac bd n x y z → (-6 ≤ x ∧ x ≤ 6) ∧ (-6 ≤ y ∧ y ≤ 6) ∧ (-6 ≤ z ∧ z ≤ 6)) :
    ∀ (d : Nat) (t : Int32), t.toInt + d = 7 → -6 ≤ t.toInt → ∀ (fr : Int32) (ff fb : Nat → Int32),
    (∀ (r fr' : Int32) (ff' fb' : Nat → Int32), (r = 1 ∧ (∃ x y z : Int, t.toInt ≤ z ∧ om_S fac bd n x y z) ∨ r = 0 ∧ ¬ (∃ x y z : Int, t.toInt ≤ z ∧ om_S fac bd n x y z)) → post r (hd, nI n, fr', wo, co, li, ee, fac, bd, ff', fb', fx)) →
    wX_solvable_46 post (d + 1) t hd (nI n) fr wo co li ee fac bd ff fb fx := by
  intro d
  induction d with
  | zero =>
    intro t ht h6 fr ff fb H
    refine om_lt 6 t.toInt (fun h => H 0 fr ff fb (Or.inr ⟨rfl, ?_⟩)) (fun h => absurd h (by omega)) om_l6 rfl
    intro ⟨x, y, z, h1, h2⟩
    have := (hS x y z h2).2.2
    omega
  | succ d ih =>
    intro t ht h6 fr ff fb H
    have hs := om_succ (x := t) (by omega)
    have N : ∀ (fr : Int32) (ff fb : Nat → Int32), (¬ ∃ x y : Int, om_S fac bd n x y t.toInt) → wX_solvable_46 post (d + 1) (t + 1) hd (nI n) fr wo co li ee fac bd ff fb fx := by
      intro fr ff fb hno
      refine ih (t + 1) (by omega) (by omega) fr ff fb (fun r fr' ff' fb' h => H r fr' ff' fb' ?_)
      rcases h with ⟨hr, x, y, z, h1, h2⟩ | ⟨hr, h⟩
      · exact Or.inl ⟨hr, x, y, z, by omega, h2⟩
      · refine Or.inr ⟨hr, fun ⟨x, y, z, h1, h2⟩ => ?_⟩
        by_cases e : z = t.toInt
        · subst e; exact hno ⟨x, y, h2⟩
        · exact h ⟨x, y, z, by omega, h2⟩
    refine om_lt 6 t.toInt (fun h => absurd h (by omega)) (fun h => ?_) om_l6 rfl
    refine om_makeFewFor hn hB ⟨by omega, by omega⟩ (fun r m' ff' fb' h1 h2 h3 => ?_)
    rcases h3 with ⟨rfl, h3⟩ | ⟨rfl, h3⟩
    · refine br_f (by decide) (om_plane h1 h2 (fun w => ?_) (fun w => ?_))
      · obtain ⟨x, y, _, _, w3⟩ := w
        exact br_f (by decide) (H 1 _ _ _ (Or.inl ⟨rfl, x, y, t.toInt, by omega, om_Sz_S.mp ((h3 x y).mp w3)⟩))
      · refine br_t rfl (nm_e (N _ _ _ (fun ⟨x, y, h4⟩ => w ?_)))
        have h5 := hS x y _ h4
        exact ⟨x, y, h5.1, h5.2.1, (h3 x y).mpr (om_Sz_S.mpr h4)⟩
    · exact br_t rfl (nm_e (N _ _ _ (fun ⟨x, y, h4⟩ => h3 x y (om_Sz_S.mpr h4))))
theorem om_solv17 {post : Int32 → SX → Prop} {n : Nat} {fr : Int32} {ff fb : Nat → Int32} (hn : n ≤ 23) (hB : om_B fac bd n) (hS : ∀ x y z : Int, om_S fac bd n x y z → (-6 ≤ x ∧ x ≤ 6) ∧ (-6 ≤ y ∧ y ≤ 6) ∧ (-6 ≤ z ∧ z ≤ 6))
    (hN : ∀ x y : Int, (-6 ≤ x ∧ x ≤ 6) → (-6 ≤ y ∧ y ≤ 6) → ¬ om_Sh fac bd 1 0 n x y)
    (H : ∀ (r fr' : Int32) (ff' fb' : Nat → Int32), (r = 1 ∧ (∃ x y z : Int, om_S fac bd n x y z) ∨ r = 0 ∧ ¬ (∃ x y z : Int, om_S fac bd n x y z)) → post r (hd, nI n, fr', wo, co, li, ee, fac, bd, ff', fb', fx)) :
    wX_solvable_17 post hd (nI n) fr wo co li ee fac bd ff fb fx := by
  refine om_isExact hn hB (fun he => ?_) ?_
  · refine br_f (by decide) (H 0 _ _ _ (Or.inr ⟨rfl, fun ⟨x, y, z, h⟩ => ?_⟩))
    have h1 := hS x y z h
    exact hN x y h1.1 h1.2.1 (om_exact he (om_wide h))
  · refine br_t rfl (om_makeFew hn hB (fun r m' ff' fb' h1 h2 h3 => ?_))
    rcases h3 with ⟨rfl, h3⟩ | ⟨rfl, h3⟩
    · refine br_f (by decide) (om_plane h1 h2 (fun w => ?_) (fun w => ?_))
      · refine br_f (by decide) ⟨14, om_solv46 hn hB hS 13 (-6) (by rw [om_l6n]; omega) (by rw [om_l6n]; omega) _ _ _ (fun r fr1 ff1 fb1 h => H r fr1 ff1 fb1 ?_)⟩
        rcases h with ⟨hr, x, y, z, _, h5⟩ | ⟨hr, h⟩
        · exact Or.inl ⟨hr, x, y, z, h5⟩
        · refine Or.inr ⟨hr, fun ⟨x, y, z, h5⟩ => h ⟨x, y, z, ?_, h5⟩⟩
          rw [om_l6n]
          exact (hS x y z h5).2.2.1
      · refine br_t rfl (H 0 _ _ _ (Or.inr ⟨rfl, fun ⟨x, y, z, h⟩ => w ?_⟩))
        have h4 := hS x y z h
        exact ⟨x, y, h4.1, h4.2.1, (h3 x y).mpr (om_wide h)⟩
    · exact br_t rfl (H 0 _ _ _ (Or.inr ⟨rfl, fun ⟨x, y, z, h⟩ => h3 x y (om_wide h)⟩))
theorem om_solvable {post : Int32 → SX → Prop} {n : Nat} {fr : Int32} {ff fb : Nat → Int32} (hn : n ≤ 23) (hB : om_B fac bd n) (hS : ∀ x y z : Int, om_S fac bd n x y z → (-6 ≤ x ∧ x ≤ 6) ∧ (-6 ≤ y ∧ y ≤ 6) ∧ (-6 ≤ z ∧ z ≤ 6))
    (H : ∀ (r fr' : Int32) (ff' fb' : Nat → Int32), (r = 1 ∧ (∃ x y z : Int, om_S fac bd n x y z) ∨ r = 0 ∧ ¬ (∃ x y z : Int, om_S fac bd n x y z)) → post r (hd, nI n, fr', wo, co, li, ee, fac, bd, ff', fb', fx)) :
    wpX_solvable post (hd, nI n, fr, wo, co, li, ee, fac, bd, ff, fb, fx) := by
  refine om_makeFew (nar := 1) (fr := fr) hn hB (fun r m' ff' fb' h1 h2 h3 => ?_)
  rcases h3 with ⟨rfl, h3⟩ | ⟨rfl, h3⟩
  · refine br_f (by decide) (om_plane h1 h2 (fun w => ?_) (fun w => ?_))
    · obtain ⟨x, y, _, _, w3⟩ := w
      obtain ⟨z, hz⟩ := om_narrow ((h3 x y).mp w3)
      exact br_f (by decide) (H 1 _ _ _ (Or.inl ⟨rfl, x, y, z, hz⟩))
    · exact br_t rfl (om_solv17 hn hB hS (fun x y hx hy hs => w ⟨x, y, hx, hy, (h3 x y).mpr hs⟩) H)
  · exact br_t rfl (om_solv17 hn hB hS (fun x y _ _ hs => h3 x y hs) H)
end
end
section
/-! put, free, collect -/
def om_pt (v : Nat) (x y z : Int) : Int := if v = 0 then x else if v = 1 then y else z
def om_fx (f : Int32) (t : Int) : Prop := (f = 100 → -6 ≤ t ∧ t ≤ 6) ∧ (¬ f = 100 → t = f.toInt)
def om_K (co li ee : Nat → Int32) (i : Nat) (x y z : Int) : Prop := (ee i = 0 → (co (3 * i)).toInt * x + (co (3 * i + 1)).toInt * y + (co (3 * i + 2)).toInt * z ≤ (li i).toInt) ∧ (¬ ee i = 0 → (co (3 * i)).toInt * x + (co (3 * i + 1)).toInt * y + (co (3 * i + 2)).toInt * z = (li i).toInt)
def om_Q (co li ee : Nat → Int32) (i h : Nat) (w : Int32) (x y z : Int) : Prop := ∀ j : Nat, i ≤ j → j < h → ¬ nI j = w → om_K co li ee j x y z
def om_H (co li ee : Nat → Int32) (h : Nat) : Prop := ∀ i : Nat, i < h → om_R 9 (co (3 * i)) ∧ om_R 9 (co (3 * i + 1)) ∧ om_R 9 (co (3 * i + 2)) ∧ om_R 99 (li i) ∧ (ee i = 0 ∨ ee i = 1)
theorem om_S_put {fac bd : Nat → Int32} {n : Nat} {a b c d : Int32} {x y z : Int} : om_S (upd (upd (upd fac (3 * n) a) (3 * n + 1) b) (3 * n + 2) c) (upd bd n d) (n + 1) x y z ↔ om_S fac bd n x y z ∧ a.toInt * x + b.toInt * y + c.toInt * z ≤ d.toInt := by
  have e0 : upd (upd (upd fac (3 * n) a) (3 * n + 1) b) (3 * n + 2) c (3 * n) = a := by rw [pk_un (by omega), pk_un (by omega), pk_us]
  have e1 : upd (upd (upd fac (3 * n) a) (3 * n + 1) b) (3 * n + 2) c (3 * n + 1) = b := by rw [pk_un (by omega), pk_us]
  have e2 : upd (upd (upd fac (3 * n) a) (3 * n + 1) b) (3 * n + 2) c (3 * n + 2) = c := pk_us
  have e3 : ∀ j : Nat, j < 3 * n → upd (upd (upd fac (3 * n) a) (3 * n + 1) b) (3 * n + 2) c j = fac j := fun j hj => by rw [pk_un (by omega), pk_un (by omega), pk_un (by omega)]
  constructor
  · intro h
    constructor
    · intro r hr
      have := h r (by omega)
      rw [e3 _ (by omega), e3 _ (by omega), e3 _ (by omega), pk_un (by omega)] at this
      exact this
    · have := h n (by omega)
      rw [e0, e1, e2, pk_us] at this
      exact this
  · intro h r hr
    by_cases hm : r = n
    · subst hm
      rw [e0, e1, e2, pk_us]
      exact h.2
    · rw [e3 _ (by omega), e3 _ (by omega), e3 _ (by omega), pk_un (by omega)]
      exact h.1 r (by omega)
theorem om_B_put {fac bd : Nat → Int32} {n : Nat} {a b c d : Int32} (hB : om_B fac bd n) (ha : om_R 9 a) (hb : om_R 9 b) (hc : om_R 9 c) (hd : om_R 100 d) : om_B (upd (upd (upd fac (3 * n) a) (3 * n + 1) b) (3 * n + 2) c) (upd bd n d) (n + 1) := by
  intro r hr
  by_cases hm : r = n
  · subst hm
    rw [pk_us, pk_us, pk_un (k := 3 * r + 2) (j := 3 * r) (by omega), pk_un (k := 3 * r + 1) (j := 3 * r) (by omega), pk_us, pk_un (k := 3 * r + 2) (j := 3 * r + 1) (by omega), pk_us]
    exact ⟨ha, hb, hc, hd⟩
  · have e3 : ∀ j : Nat, j < 3 * n → upd (upd (upd fac (3 * n) a) (3 * n + 1) b) (3 * n + 2) c j = fac j := fun j hj => by rw [pk_un (by omega), pk_un (by omega), pk_un (by omega)]
    rw [e3 _ (by omega), e3 _ (by omega), e3 _ (by omega), pk_un (by omega)]
    exact hB r (by omega)
section
variable {hd fr wo : Int32} {co li ee ff fb fx : Nat → Int32}
theorem om_put {post : SX → Prop} {n : Nat} {fac bd : Nat → Int32} {a b c d : Int32} (hn : n < 25) (hB : om_B fac bd n) (ha : om_R 9 a) (hb : om_R 9 b) (hc : om_R 9 c) (hd' : om_R 100 d)
    (H : ∀ fac' bd' : Nat → Int32, om_B fac' bd' (n + 1) → (∀ x y z : Int, om_S fac' bd' (n + 1) x y z ↔ om_S fac bd n x y z ∧ a.toInt * x + b.toInt * y + c.toInt * z ≤ d.toInt) → post (hd, nI (n + 1), fr, wo, co, li, ee, fac', bd', ff, fb, fx)) :
    wpX_put post (hd, nI n, fr, wo, co, li, ee, fac, bd, ff, fb, fx) a b c d := by
  refine ⟨om_i0 (by omega) (by omega), fun f0 e0 => ⟨om_i1 (by omega) (by omega), fun f1 e1 => ⟨om_i2 (by omega) (by omega), fun f2 e2 => ⟨vp_in_nI (by omega) (by omega), fun g eg q eq => ?_⟩⟩⟩⟩
  rw [om_c0 (by omega)] at e0
  rw [om_c1 (by omega)] at e1
  rw [om_c2 (by omega)] at e2
  rw [nI_clamp (by omega)] at eg
  rw [nI_1] at eq
  subst e0 e1 e2 eg eq
  exact H _ _ (om_B_put hB ha hb hc hd') (fun x y z => om_S_put)
theorem om_free {post : SX → Prop} {ro : Int32} {fac bd : Nat → Int32} (k : ∀ fx' : Nat → Int32, fx' 0 = 100 → fx' 1 = 100 → fx' 2 = 100 → post (hd, ro, fr, wo, co, li, ee, fac, bd, ff, fb, fx')) :
    wpX_free post (hd, ro, fr, wo, co, li, ee, fac, bd, ff, fb, fx) := by
  refine ⟨4, br_f (by decide) ⟨vp_in_nI (n := 0) (by omega) (by omega), nm_e (nm_r (nI_1 0) (br_f (by decide) ⟨vp_in_nI (n := 1) (by omega) (by omega), nm_e (nm_r (nI_1 1) (br_f (by decide) ⟨vp_in_nI (n := 2) (by omega) (by omega), nm_e (nm_r (nI_1 2) (br_t (by decide) (k _ ?_ ?_ ?_)))⟩))⟩))⟩⟩
  · rfl
  · rfl
  · rfl
theorem om_l6R : om_R 6 (6 : Int32) := ⟨by decide, by decide⟩
theorem om_l6nR : om_R 6 (-6 : Int32) := ⟨by decide, by decide⟩
theorem om_0R : om_R 9 (0 : Int32) := ⟨by decide, by decide⟩
theorem om_1R : om_R 9 (1 : Int32) := ⟨by decide, by decide⟩
theorem om_1nR : om_R 9 (-1 : Int32) := ⟨by decide, by decide⟩
theorem om_154_0 {post : SX → Prop} {J : Int32 → Int32 → Int32 → Int32 → Int32 → (Nat → Int32) → (Nat → Int32) → (Nat → Int32) → (Nat → Int32) → (Nat → Int32) → (Nat → Int32) → (Nat → Int32) → (Nat → Int32) → Prop} {n : Nat} {fac bd : Nat → Int32} {Hi Lo : Int32} (hn : n + 2 ≤ 25) (hB : om_B fac bd n) (hH : om_R 6 Hi) (hL : om_R 6 Lo)
    (K : ∀ fac' bd' : Nat → Int32, om_B fac' bd' (n + 2) → (∀ x y z : Int, om_S fac' bd' (n + 2) x y z ↔ om_S fac bd n x y z ∧ Lo.toInt ≤ x ∧ x ≤ Hi.toInt) → J (nI 1) hd (nI (n + 2)) fr wo co li ee fac' bd' ff fb fx) :
    wX_collect_154 post J (nI 0) Hi Lo hd (nI n) fr wo co li ee fac bd ff fb fx := by
  have hng := om_neg hL (by omega)
  refine br_t (by decide) (br_f (by decide) (br_f (by decide) (om_put (by omega) hB om_1R om_0R om_0R (om_R_mono hH (by omega)) (fun fac1 bd1 h1 h2 => ?_))))
  refine br_t (by decide) (br_f (by decide) (br_f (by decide) (om_put (by omega) h1 om_1nR om_0R om_0R (om_R_mono hng.2 (by omega)) (fun fac2 bd2 h3 h4 => nm_r (nI_1 0) (K fac2 bd2 h3 (fun x y z => ?_))))))
  rw [h4 x y z, h2 x y z, hng.1, om_l0, om_l1, om_l1n]
  constructor
  · exact fun w => ⟨w.1.1, by omega, by omega⟩
  · exact fun w => ⟨⟨w.1, by omega⟩, by omega⟩
theorem om_154_1 {post : SX → Prop} {J : Int32 → Int32 → Int32 → Int32 → Int32 → (Nat → Int32) → (Nat → Int32) → (Nat → Int32) → (Nat → Int32) → (Nat → Int32) → (Nat → Int32) → (Nat → Int32) → (Nat → Int32) → Prop} {n : Nat} {fac bd : Nat → Int32} {Hi Lo : Int32} (hn : n + 2 ≤ 25) (hB : om_B fac bd n) (hH : om_R 6 Hi) (hL : om_R 6 Lo)
    (K : ∀ fac' bd' : Nat → Int32, om_B fac' bd' (n + 2) → (∀ x y z : Int, om_S fac' bd' (n + 2) x y z ↔ om_S fac bd n x y z ∧ Lo.toInt ≤ y ∧ y ≤ Hi.toInt) → J (nI 2) hd (nI (n + 2)) fr wo co li ee fac' bd' ff fb fx) :
    wX_collect_154 post J (nI 1) Hi Lo hd (nI n) fr wo co li ee fac bd ff fb fx := by
  have hng := om_neg hL (by omega)
  refine br_f (by decide) (br_t (by decide) (br_f (by decide) (om_put (by omega) hB om_0R om_1R om_0R (om_R_mono hH (by omega)) (fun fac1 bd1 h1 h2 => ?_))))
  refine br_f (by decide) (br_t (by decide) (br_f (by decide) (om_put (by omega) h1 om_0R om_1nR om_0R (om_R_mono hng.2 (by omega)) (fun fac2 bd2 h3 h4 => nm_r (nI_1 1) (K fac2 bd2 h3 (fun x y z => ?_))))))
  rw [h4 x y z, h2 x y z, hng.1, om_l0, om_l1, om_l1n]
  constructor
  · exact fun w => ⟨w.1.1, by omega, by omega⟩
  · exact fun w => ⟨⟨w.1, by omega⟩, by omega⟩
theorem om_154_2 {post : SX → Prop} {J : Int32 → Int32 → Int32 → Int32 → Int32 → (Nat → Int32) → (Nat → Int32) → (Nat → Int32) → (Nat → Int32) → (Nat → Int32) → (Nat → Int32) → (Nat → Int32) → (Nat → Int32) → Prop} {n : Nat} {fac bd : Nat → Int32} {Hi Lo : Int32} (hn : n + 2 ≤ 25) (hB : om_B fac bd n) (hH : om_R 6 Hi) (hL : om_R 6 Lo)
    (K : ∀ fac' bd' : Nat → Int32, om_B fac' bd' (n + 2) → (∀ x y z : Int, om_S fac' bd' (n + 2) x y z ↔ om_S fac bd n x y z ∧ Lo.toInt ≤ z ∧ z ≤ Hi.toInt) → J (nI 3) hd (nI (n + 2)) fr wo co li ee fac' bd' ff fb fx) :
    wX_collect_154 post J (nI 2) Hi Lo hd (nI n) fr wo co li ee fac bd ff fb fx := by
  have hng := om_neg hL (by omega)
  refine br_f (by decide) (br_f (by decide) (br_t (by decide) (om_put (by omega) hB om_0R om_0R om_1R (om_R_mono hH (by omega)) (fun fac1 bd1 h1 h2 => ?_))))
  refine br_f (by decide) (br_f (by decide) (br_t (by decide) (om_put (by omega) h1 om_0R om_0R om_1nR (om_R_mono hng.2 (by omega)) (fun fac2 bd2 h3 h4 => nm_r (nI_1 2) (K fac2 bd2 h3 (fun x y z => ?_))))))
  rw [h4 x y z, h2 x y z, hng.1, om_l0, om_l1, om_l1n]
  constructor
  · exact fun w => ⟨w.1.1, by omega, by omega⟩
  · exact fun w => ⟨⟨w.1, by omega⟩, by omega⟩
theorem om_154 {post : SX → Prop} {J : Int32 → Int32 → Int32 → Int32 → Int32 → (Nat → Int32) → (Nat → Int32) → (Nat → Int32) → (Nat → Int32) → (Nat → Int32) → (Nat → Int32) → (Nat → Int32) → (Nat → Int32) → Prop} {v n : Nat} {fac bd : Nat → Int32} {Hi Lo : Int32} (hv : v < 3) (hn : n + 2 ≤ 25) (hB : om_B fac bd n) (hH : om_R 6 Hi) (hL : om_R 6 Lo)
    (K : ∀ fac' bd' : Nat → Int32, om_B fac' bd' (n + 2) → (∀ x y z : Int, om_S fac' bd' (n + 2) x y z ↔ om_S fac bd n x y z ∧ Lo.toInt ≤ om_pt v x y z ∧ om_pt v x y z ≤ Hi.toInt) → J (nI (v + 1)) hd (nI (n + 2)) fr wo co li ee fac' bd' ff fb fx) :
    wX_collect_154 post J (nI v) Hi Lo hd (nI n) fr wo co li ee fac bd ff fb fx := by
  rcases (show v = 0 ∨ v = 1 ∨ v = 2 by omega) with rfl | rfl | rfl
  · exact om_154_0 hn hB hH hL K
  · exact om_154_1 hn hB hH hL K
  · exact om_154_2 hn hB hH hL K
theorem om_c104 {post : SX → Prop} (hfx : ∀ j : Nat, j < 3 → fx j = 100 ∨ om_R 6 (fx j)) :
    ∀ d v : Nat, v + d = 3 → ∀ (n : Nat) (fac bd : Nat → Int32), n + 2 * d ≤ 25 → om_B fac bd n →
    (∀ (n' : Nat) (fac' bd' : Nat → Int32), n' = n + 2 * d → om_B fac' bd' n' → (∀ x y z : Int, om_S fac' bd' n' x y z ↔ om_S fac bd n x y z ∧ (∀ j : Nat, v ≤ j → j < 3 → om_fx (fx j) (om_pt j x y z))) → post (hd, nI n', fr, wo, co, li, ee, fac', bd', ff, fb, fx)) →
    wX_collect_104 post (d + 1) (nI v) hd (nI n) fr wo co li ee fac bd ff fb fx := by
  intro d
  induction d with
  | zero =>
    intro v hv n fac bd hn hB K
    exact br_t (nI_le (a := 3) (by omega) (by omega)) (K n fac bd (by omega) hB (fun x y z => ⟨fun h => ⟨h, fun j h1 h2 => absurd h2 (by omega)⟩, fun h => h.1⟩))
  | succ d ih =>
    intro v hv n fac bd hn hB K
    have cv : (nI v).toNatClampNeg = v := nI_clamp (by omega)
    have hin : vp_in (nI v) 3 := vp_in_nI (by omega) (by omega)
    have step : ∀ Hi Lo : Int32, om_R 6 Hi → om_R 6 Lo → (∀ t : Int, om_fx (fx v) t ↔ Lo.toInt ≤ t ∧ t ≤ Hi.toInt) → wX_collect_154 post (wX_collect_104 post (d + 1)) (nI v) Hi Lo hd (nI n) fr wo co li ee fac bd ff fb fx := by
      intro Hi Lo hH hL hf
      refine om_154 (by omega) (by omega) hB hH hL (fun fac1 bd1 h1 h2 => ih (v + 1) (by omega) (n + 2) fac1 bd1 (by omega) h1 (fun n' fac' bd' h3 h4 h5 => K n' fac' bd' (by omega) h4 (fun x y z => ?_)))
      rw [h5 x y z, h2 x y z, ← hf, and_assoc]
      exact and_congr_right (fun _ => (om_all (P := fun j => om_fx (fx j) (om_pt j x y z)) (by omega)).symm)
    refine br_f (nI_ge (b := 3) (by omega) (by omega)) ⟨hin, ?_⟩
    rw [cv]
    refine br_c (fun h => ⟨hin, ?_⟩) (fun h => ⟨hin, hin, ?_⟩)
    · rw [cv]
      refine br_t h (step 6 (-6) om_l6R om_l6nR (fun t => ?_))
      rw [om_l6, om_l6n]
      exact ⟨fun w => w.1 h, fun w => ⟨fun _ => w, fun z => absurd h z⟩⟩
    · rw [cv]
      have hR : om_R 6 (fx v) := by
        rcases hfx v (by omega) with z | z
        · exact absurd z h
        · exact z
      refine br_f h ⟨hin, step (fx v) (fx v) hR hR (fun t => ?_)⟩
      exact ⟨fun w => by have := w.2 h; omega, fun w => ⟨fun z => absurd z h, fun _ => by omega⟩⟩
theorem om_c7 {post : SX → Prop} {h : Nat} (hh : h ≤ 8) (hH : om_H co li ee h) (hfx : ∀ j : Nat, j < 3 → fx j = 100 ∨ om_R 6 (fx j)) :
    ∀ d i : Nat, i + d = h → ∀ (n : Nat) (fac bd : Nat → Int32), n ≤ 2 * i → om_B fac bd n →
    (∀ (n' : Nat) (fac' bd' : Nat → Int32), n' ≤ 22 → om_B fac' bd' n' → (∀ x y z : Int, om_S fac' bd' n' x y z ↔ om_S fac bd n x y z ∧ om_Q co li ee i h wo x y z ∧ (∀ j : Nat, 0 ≤ j → j < 3 → om_fx (fx j) (om_pt j x y z))) → post (nI h, nI n', fr, wo, co, li, ee, fac', bd', ff, fb, fx)) →
    wX_collect_7 post (d + 1) (nI i) (nI h) (nI n) fr wo co li ee fac bd ff fb fx := by
  intro d
  induction d with
  | zero =>
    intro i hi n fac bd hn hB K
    refine br_t (nI_le (by omega) (by omega)) ⟨4, om_c104 hfx 3 0 (by omega) n fac bd (by omega) hB (fun n' fac' bd' h1 h2 h3 => K n' fac' bd' (by omega) h2 (fun x y z => ?_))⟩
    rw [h3 x y z]
    exact ⟨fun w => ⟨w.1, fun j h4 h5 => absurd h5 (by omega), w.2⟩, fun w => ⟨w.1, w.2.2⟩⟩
  | succ d ih =>
    intro i hi n fac bd hn hB K
    have c2 : ((3 : Int32) * nI i + 2).toNatClampNeg = 3 * i + 2 := om_c2 (by omega)
    have c1 : ((3 : Int32) * nI i + 1).toNatClampNeg = 3 * i + 1 := om_c1 (by omega)
    have c0 : ((3 : Int32) * nI i).toNatClampNeg = 3 * i := om_c0 (by omega)
    have ci : (nI i).toNatClampNeg = i := nI_clamp (by omega)
    have hin : vp_in (nI i) 8 := vp_in_nI (by omega) (by omega)
    obtain ⟨a0, a1, a2, a3, a4⟩ := hH i (by omega)
    have hQ : ∀ x y z : Int, om_Q co li ee i h wo x y z ↔ (¬ nI i = wo → om_K co li ee i x y z) ∧ om_Q co li ee (i + 1) h wo x y z := fun x y z => om_all (P := fun j => ¬ nI j = wo → om_K co li ee j x y z) (by omega)
    have C : ∀ (n1 : Nat) (fac1 bd1 : Nat → Int32), n1 ≤ 2 * (i + 1) → om_B fac1 bd1 n1 → (∀ x y z : Int, om_S fac1 bd1 n1 x y z ↔ om_S fac bd n x y z ∧ (¬ nI i = wo → om_K co li ee i x y z)) → wX_collect_7 post (d + 1) (nI (i + 1)) (nI h) (nI n1) fr wo co li ee fac1 bd1 ff fb fx := by
      intro n1 fac1 bd1 h1 h2 h3
      refine ih (i + 1) (by omega) n1 fac1 bd1 h1 h2 (fun n' fac' bd' h4 h5 h6 => K n' fac' bd' h4 h5 (fun x y z => ?_))
      rw [h6 x y z, h3 x y z, hQ x y z, and_assoc, and_assoc]
    refine br_f (nI_ge (by omega) (by omega)) (br_c (fun hw => ?_) (fun hw => ?_))
    · exact nm_r (nI_1 i) (C n fac bd (by omega) hB (fun x y z => ⟨fun w => ⟨w, fun w2 => absurd hw w2⟩, fun w => w.1⟩))
    · refine ⟨om_i0 (by omega) (by omega), nm_r (congrArg co c0) ⟨om_i1 (by omega) (by omega), nm_r (congrArg co c1) ⟨om_i2 (by omega) (by omega), nm_r (congrArg co c2) ⟨hin, ?_⟩⟩⟩⟩
      rw [ci]
      refine om_put (by omega) hB a0 a1 a2 (om_R_mono a3 (by omega)) (fun fac1 bd1 h1 h2 => ⟨hin, ?_⟩)
      refine br_c (fun he => ?_) (fun he => ⟨hin, ?_⟩)
      · refine nm_r (nI_1 i) (C (n + 1) fac1 bd1 (by omega) h1 (fun x y z => ?_))
        rw [h2 x y z]
        exact ⟨fun w => ⟨w.1, fun _ => ⟨fun _ => w.2, fun z => absurd he z⟩⟩, fun w => ⟨w.1, (w.2 hw).1 he⟩⟩
      · have n0 := om_neg a0 (by omega)
        have n1 := om_neg a1 (by omega)
        have n2 := om_neg a2 (by omega)
        have n3 := om_neg a3 (by omega)
        refine om_put (by omega) h1 n0.2 n1.2 n2.2 (om_R_mono n3.2 (by omega)) (fun fac2 bd2 h3 h4 => nm_r (nI_1 i) (C (n + 2) fac2 bd2 (by omega) h3 (fun x y z => ?_)))
        rw [h4 x y z, h2 x y z, n0.1, n1.1, n2.1, n3.1, Int.neg_mul, Int.neg_mul, Int.neg_mul]
        constructor
        · intro w
          refine ⟨w.1.1, fun _ => ⟨fun z => absurd z he, fun _ => ?_⟩⟩
          have w1 := w.1.2
          have w2 := w.2
          omega
        · intro w
          have w2 := (w.2 hw).2 he
          exact ⟨⟨w.1, by omega⟩, by omega⟩
theorem om_fx_b {f : Int32} {t : Int} (hf : f = 100 ∨ om_R 6 f) (h : om_fx f t) : -6 ≤ t ∧ t ≤ 6 := by
  rcases hf with hf | hf
  · exact h.1 hf
  · have h1 := hf.1
    have h2 := hf.2
    have h3 : ¬ f = 100 := fun z => by rw [z, om_l100] at h2; omega
    have := h.2 h3
    omega
/-- what collect leaves: the rows hold at a point if and only if the conditions hold there and the variables are in their ranges -/
theorem om_collect {post : SX → Prop} {ro : Int32} {fac bd : Nat → Int32} {h : Nat} (hh : h ≤ 8) (hH : om_H co li ee h) (hfx : ∀ j : Nat, j < 3 → fx j = 100 ∨ om_R 6 (fx j))
    (K : ∀ (n : Nat) (fac' bd' : Nat → Int32), n ≤ 22 → om_B fac' bd' n → (∀ x y z : Int, om_S fac' bd' n x y z ↔ om_Q co li ee 0 h wo x y z ∧ om_fx (fx 0) x ∧ om_fx (fx 1) y ∧ om_fx (fx 2) z) →
      (∀ x y z : Int, om_S fac' bd' n x y z → (-6 ≤ x ∧ x ≤ 6) ∧ (-6 ≤ y ∧ y ≤ 6) ∧ (-6 ≤ z ∧ z ≤ 6)) → post (nI h, nI n, fr, wo, co, li, ee, fac', bd', ff, fb, fx)) :
    wpX_collect post (nI h, ro, fr, wo, co, li, ee, fac, bd, ff, fb, fx) := by
  refine ⟨h + 1, om_c7 hh hH hfx h 0 (by omega) 0 fac bd (by omega) (fun r hr => absurd hr (by omega)) (fun n fac' bd' h1 h2 h3 => ?_)⟩
  have E : ∀ x y z : Int, om_S fac' bd' n x y z ↔ om_Q co li ee 0 h wo x y z ∧ om_fx (fx 0) x ∧ om_fx (fx 1) y ∧ om_fx (fx 2) z := by
    intro x y z
    rw [h3 x y z]
    constructor
    · exact fun w => ⟨w.2.1, w.2.2 0 (by omega) (by omega), w.2.2 1 (by omega) (by omega), w.2.2 2 (by omega) (by omega)⟩
    · intro w
      refine ⟨fun r hr => absurd hr (by omega), w.1, fun j _ hj => ?_⟩
      rcases (show j = 0 ∨ j = 1 ∨ j = 2 by omega) with rfl | rfl | rfl
      · exact w.2.1
      · exact w.2.2.1
      · exact w.2.2.2
  refine K n fac' bd' h1 h2 E (fun x y z hs => ?_)
  have w := (E x y z).mp hs
  exact ⟨om_fx_b (hfx 0 (by omega)) w.2.1, om_fx_b (hfx 1 (by omega)) w.2.2.1, om_fx_b (hfx 2 (by omega)) w.2.2.2⟩
end
end
section
/-! leastValue, the search for the first solution, broken -/
def om_Ev (co li ee : Nat → Int32) (h : Nat) (w : Int32) (v : Nat) (fx : Nat → Int32) (t : Int) : Prop := ∃ x y z : Int, om_Q co li ee 0 h w x y z ∧ om_pt v x y z = t ∧ ∀ j : Nat, j < 3 → j ≠ v → om_fx (fx j) (om_pt j x y z)
def om_bt (gr : Int32) (s t : Int) : Prop := (gr = 0 → s < t) ∧ (¬ gr = 0 → t < s)
def om_cand (gr : Int32) (k : Nat) : Int := if gr = 0 then (k : Int) - 6 else 6 - (k : Int)
theorem om_pt0 {x y z : Int} : om_pt 0 x y z = x := rfl
theorem om_pt1 {x y z : Int} : om_pt 1 x y z = y := rfl
theorem om_pt2 {x y z : Int} : om_pt 2 x y z = z := rfl
/-- the values that collect and solvable find together, for one variable with a value -/
theorem om_Ev_iff {co li ee : Nat → Int32} {h : Nat} {w : Int32} {v : Nat} {fx fx' : Nat → Int32} {t : Int32} (hv : v < 3) (hf : ∀ j : Nat, j ≠ v → fx' j = fx j) (ht : fx' v = t) (hR : om_R 6 t) :
    (∃ x y z : Int, om_Q co li ee 0 h w x y z ∧ om_fx (fx' 0) x ∧ om_fx (fx' 1) y ∧ om_fx (fx' 2) z) ↔ om_Ev co li ee h w v fx t.toInt := by
  have hne : ¬ t = 100 := fun z => by have h2 := hR.2; rw [z, om_l100] at h2; omega
  constructor
  · intro ⟨x, y, z, h1, h2, h3, h4⟩
    have hj : ∀ j : Nat, j < 3 → om_fx (fx' j) (om_pt j x y z) := by
      intro j hj
      rcases (show j = 0 ∨ j = 1 ∨ j = 2 by omega) with rfl | rfl | rfl
      · exact h2
      · exact h3
      · exact h4
    refine ⟨x, y, z, h1, ?_, fun j h5 h6 => ?_⟩
    · have := hj v hv
      rw [ht] at this
      exact this.2 hne
    · have := hj j h5
      rw [hf j h6] at this
      exact this
  · intro ⟨x, y, z, h1, h2, h3⟩
    have hj : ∀ j : Nat, j < 3 → om_fx (fx' j) (om_pt j x y z) := by
      intro j hj
      by_cases e : j = v
      · rw [e, ht, h2]; exact ⟨fun z => absurd z hne, fun _ => rfl⟩
      · rw [hf j e]; exact h3 j hj e
    exact ⟨x, y, z, h1, hj 0 (by omega), hj 1 (by omega), hj 2 (by omega)⟩
theorem om_ex3 {S T : Int → Int → Int → Prop} (h : ∀ x y z : Int, S x y z ↔ T x y z) : (∃ x y z : Int, S x y z) ↔ ∃ x y z : Int, T x y z :=
  ⟨fun ⟨x, y, z, w⟩ => ⟨x, y, z, (h x y z).mp w⟩, fun ⟨x, y, z, w⟩ => ⟨x, y, z, (h x y z).mpr w⟩⟩
section
variable {wo : Int32} {co li ee : Nat → Int32}
theorem om_lv2 {post : Int32 → SX → Prop} {h v : Nat} {gr : Int32} {fx : Nat → Int32} (hh : h ≤ 8) (hH : om_H co li ee h) (hv : v < 3) (hfx : ∀ j : Nat, j < 3 → fx j = 100 ∨ om_R 6 (fx j))
    (H : ∀ (r ro' fr' : Int32) (fac' bd' ff' fb' fx' : Nat → Int32), (∀ j : Nat, j ≠ v → fx' j = fx j) → fx' v = 100 →
      ((-6 ≤ r.toInt ∧ r.toInt ≤ 6) ∧ om_Ev co li ee h wo v fx r.toInt ∧ (∀ s : Int, -6 ≤ s ∧ s ≤ 6 → om_bt gr s r.toInt → ¬ om_Ev co li ee h wo v fx s) ∨ r = 100 ∧ ∀ s : Int, -6 ≤ s ∧ s ≤ 6 → ¬ om_Ev co li ee h wo v fx s) →
      post r (nI h, ro', fr', wo, co, li, ee, fac', bd', ff', fb', fx')) :
    ∀ d k : Nat, k + d = 13 → (∀ i : Nat, i < k → ¬ om_Ev co li ee h wo v fx (om_cand gr i)) → ∀ (ro fr : Int32) (fac bd ff fb fx1 : Nat → Int32), (∀ j : Nat, j ≠ v → fx1 j = fx j) →
    wX_leastValue_2 post (nI v) gr (d + 1) (nI k) (nI h) ro fr wo co li ee fac bd ff fb fx1 := by
  have cv : (nI v).toNatClampNeg = v := nI_clamp (by omega)
  have hin : vp_in (nI v) 3 := vp_in_nI (by omega) (by omega)
  intro d
  induction d with
  | zero =>
    intro k hk hT ro fr fac bd ff fb fx1 h1
    refine br_t (nI_le (a := 13) (by omega) (by omega)) ⟨hin, ?_⟩
    rw [cv]
    refine nm_e (H 100 _ _ _ _ _ _ _ (fun j hj => by rw [pk_un hj]; exact h1 j hj) pk_us (Or.inr ⟨rfl, fun s hs => ?_⟩))
    by_cases hg : gr = 0
    · have := hT (s + 6).toNat (by omega)
      unfold om_cand at this
      rw [if_pos hg, show ((s + 6).toNat : Int) - 6 = s by omega] at this
      exact this
    · have := hT (6 - s).toNat (by omega)
      unfold om_cand at this
      rw [if_neg hg, show 6 - ((6 - s).toNat : Int) = s by omega] at this
      exact this
  | succ d ih =>
    intro k hk hT ro fr fac bd ff fb fx1 h1
    have key : ∀ t : Int32, t.toInt = om_cand gr k → (-6 ≤ t.toInt ∧ t.toInt ≤ 6) → wX_leastValue_23 post (wX_leastValue_2 post (nI v) gr (d + 1)) (nI v) gr (nI k) t (nI h) ro fr wo co li ee fac bd ff fb fx1 := by
      intro t et ht
      refine ⟨hin, ?_⟩
      rw [cv]
      have hf2 : ∀ j : Nat, j ≠ v → upd fx1 v t j = fx j := fun j hj => by rw [pk_un hj]; exact h1 j hj
      have hfx2 : ∀ j : Nat, j < 3 → upd fx1 v t j = 100 ∨ om_R 6 (upd fx1 v t j) := by
        intro j hj
        by_cases e : j = v
        · rw [e, pk_us]; exact Or.inr ht
        · rw [hf2 j e]; exact hfx j hj
      refine nm_e (om_collect hh hH hfx2 (fun n fac' bd' h2 h3 h4 h5 => om_solvable (by omega) h3 h5 (fun r fr' ff' fb' h6 => ?_)))
      rw [om_ex3 h4, om_Ev_iff hv hf2 pk_us ht] at h6
      rcases h6 with ⟨rfl, h6⟩ | ⟨rfl, h6⟩
      · refine br_f (by decide) ⟨hin, ?_⟩
        refine nm_e (H t _ _ _ _ _ _ _ (fun j hj => by rw [pk_un hj]; exact hf2 j hj) pk_us (Or.inl ⟨ht, h6, fun s hs hb => ?_⟩))
        by_cases hg : gr = 0
        · have hb1 := hb.1 hg
          rw [et] at hb1
          unfold om_cand at hb1
          rw [if_pos hg] at hb1
          have := hT (s + 6).toNat (by omega)
          unfold om_cand at this
          rw [if_pos hg, show ((s + 6).toNat : Int) - 6 = s by omega] at this
          exact this
        · have hb1 := hb.2 hg
          rw [et] at hb1
          unfold om_cand at hb1
          rw [if_neg hg] at hb1
          have := hT (6 - s).toNat (by omega)
          unfold om_cand at this
          rw [if_neg hg, show 6 - ((6 - s).toNat : Int) = s by omega] at this
          exact this
      · rw [et] at h6
        exact br_t rfl (nm_r (nI_1 k) (ih (k + 1) (by omega) (lt_s hT h6) _ _ _ _ _ _ _ hf2))
    have ek : (nI k).toInt = (k : Int) := nI_toInt (by omega)
    refine br_f (nI_ge (b := 13) (by omega) (by omega)) (br_c (fun hg => ?_) (fun hg => ?_))
    · have e : (nI k - 6).toInt = (k : Int) - 6 := by rw [Jvm.Kit.i32_sub (by rw [ek, om_l6]; omega) (by rw [ek, om_l6]; omega), ek, om_l6]
      exact key _ (by unfold om_cand; rw [if_pos hg, e]) (by rw [e]; omega)
    · have e : (6 - nI k).toInt = 6 - (k : Int) := by rw [Jvm.Kit.i32_sub (by rw [ek, om_l6]; omega) (by rw [ek, om_l6]; omega), ek, om_l6]
      exact key _ (by unfold om_cand; rw [if_neg hg, e]) (by rw [e]; omega)
theorem om_leastValue {post : Int32 → SX → Prop} {h v : Nat} {gr ro fr : Int32} {fac bd ff fb fx : Nat → Int32} (hh : h ≤ 8) (hH : om_H co li ee h) (hv : v < 3) (hfx : ∀ j : Nat, j < 3 → fx j = 100 ∨ om_R 6 (fx j))
    (H : ∀ (r ro' fr' : Int32) (fac' bd' ff' fb' fx' : Nat → Int32), (∀ j : Nat, j ≠ v → fx' j = fx j) → fx' v = 100 →
      ((-6 ≤ r.toInt ∧ r.toInt ≤ 6) ∧ om_Ev co li ee h wo v fx r.toInt ∧ (∀ s : Int, -6 ≤ s ∧ s ≤ 6 → om_bt gr s r.toInt → ¬ om_Ev co li ee h wo v fx s) ∨ r = 100 ∧ ∀ s : Int, -6 ≤ s ∧ s ≤ 6 → ¬ om_Ev co li ee h wo v fx s) →
      post r (nI h, ro', fr', wo, co, li, ee, fac', bd', ff', fb', fx')) :
    wpX_leastValue post (nI h, ro, fr, wo, co, li, ee, fac, bd, ff, fb, fx) (nI v) gr :=
  ⟨14, om_lv2 hh hH hv hfx H 13 0 (by omega) lt_0 ro fr fac bd ff fb fx (fun _ _ => rfl)⟩
/-- first, where there is a solution that comes first: a, b, c -/
theorem om_first18 {post : Int32 → SX → Prop} {h p : Nat} {a b c : Int} (hh : h ≤ 8) (hH : om_H co li ee h) (hp : p < 3) (hr : (-6 ≤ a ∧ a ≤ 6) ∧ (-6 ≤ b ∧ b ≤ 6) ∧ (-6 ≤ c ∧ c ≤ 6)) (hQ : om_Q co li ee 0 h wo a b c)
    (hm : ∀ x y z : Int, (-6 ≤ x ∧ x ≤ 6) → (-6 ≤ y ∧ y ≤ 6) → (-6 ≤ z ∧ z ≤ 6) → om_Q co li ee 0 h wo x y z → ∀ v : Nat, v < 3 → (∀ j : Nat, j < v → om_pt j x y z = om_pt j a b c) → om_pt v a b c ≤ om_pt v x y z)
    (H : ∀ (r ro' fr' : Int32) (fac' bd' ff' fb' fx' : Nat → Int32), r.toInt = om_pt p a b c → post r (nI h, ro', fr', wo, co, li, ee, fac', bd', ff', fb', fx')) :
    ∀ d v : Nat, v + d = p + 1 → ∀ (ro fr : Int32) (fac bd ff fb fx : Nat → Int32), (∀ j : Nat, j < v → (fx j).toInt = om_pt j a b c) → (∀ j : Nat, v ≤ j → j < 3 → fx j = 100) →
    wX_first_18 post (nI p) (d + 1) (nI v) (nI h) ro fr wo co li ee fac bd ff fb fx := by
  have hpt : ∀ j : Nat, -6 ≤ om_pt j a b c ∧ om_pt j a b c ≤ 6 := by
    intro j
    unfold om_pt
    by_cases h0 : j = 0
    · rw [if_pos h0]; exact hr.1
    · rw [if_neg h0]
      by_cases h1 : j = 1
      · rw [if_pos h1]; exact hr.2.1
      · rw [if_neg h1]; exact hr.2.2
  intro d
  induction d with
  | zero =>
    intro v hv ro fr fac bd ff fb fx h1 h2
    refine br_t (nI_lt (by omega) (by omega)) ⟨vp_in_nI (by omega) (by omega), ?_⟩
    rw [nI_clamp (by omega)]
    exact H _ _ _ _ _ _ _ _ (h1 p (by omega))
  | succ d ih =>
    intro v hv ro fr fac bd ff fb fx h1 h2
    have hne : ∀ j : Nat, j < v → ¬ fx j = 100 := fun j hj z => by
      have := h1 j hj
      have := hpt j
      rw [z, om_l100] at *
      omega
    have hfx : ∀ j : Nat, j < 3 → fx j = 100 ∨ om_R 6 (fx j) := by
      intro j hj
      by_cases e : j < v
      · refine Or.inr ?_
        unfold om_R
        rw [h1 j e]
        exact hpt j
      · exact Or.inl (h2 j (by omega) hj)
    have hE : om_Ev co li ee h wo v fx (om_pt v a b c) := by
      refine ⟨a, b, c, hQ, rfl, fun j hj _ => ?_⟩
      by_cases e : j < v
      · exact ⟨fun z => absurd z (hne j e), fun _ => (h1 j e).symm⟩
      · exact ⟨fun _ => hpt j, fun z => absurd (h2 j (by omega) hj) z⟩
    have hle : ∀ t : Int, (-6 ≤ t ∧ t ≤ 6) → om_Ev co li ee h wo v fx t → om_pt v a b c ≤ t := by
      intro t ht ⟨x, y, z, q1, q2, q3⟩
      have hj : ∀ j : Nat, j < 3 → -6 ≤ om_pt j x y z ∧ om_pt j x y z ≤ 6 := by
        intro j hj
        by_cases e : j = v
        · rw [e, q2]; exact ht
        · exact om_fx_b (hfx j hj) (q3 j hj e)
      rw [← q2]
      refine hm x y z (hj 0 (by omega)) (hj 1 (by omega)) (hj 2 (by omega)) q1 v (by omega) (fun j e => ?_)
      rw [(q3 j (by omega) (by omega)).2 (hne j e), h1 j e]
    refine br_f (nI_nlt (by omega) (by omega)) ?_
    refine om_leastValue hh hH (by omega) hfx (fun r ro' fr' fac' bd' ff' fb' fx' h3 h4 h5 => ?_)
    rcases h5 with ⟨h5, h6, h7⟩ | ⟨_, h5⟩
    · have er : r.toInt = om_pt v a b c := by
        have l1 := hle _ h5 h6
        by_cases l2 : om_pt v a b c < r.toInt
        · exact absurd hE (h7 _ (hpt v) ⟨fun _ => l2, fun z => absurd rfl z⟩)
        · omega
      have hr100 : ¬ r = 100 := fun z => by rw [z, om_l100] at h5; omega
      refine br_f hr100 ⟨vp_in_nI (by omega) (by omega), ?_⟩
      rw [nI_clamp (by omega)]
      refine nm_e (nm_r (nI_1 v) (ih (v + 1) (by omega) _ _ _ _ _ _ _ (fun j hj => ?_) (fun j hj hj3 => ?_)))
      · by_cases e : j = v
        · rw [e, pk_us]; exact er
        · rw [pk_un e, h3 j e]; exact h1 j (by omega)
      · rw [pk_un (by omega), h3 j (by omega)]; exact h2 j (by omega) hj3
    · exact absurd hE (h5 _ (hpt v))
theorem om_broken {post : Int32 → SX → Prop} {h k : Nat} {sg ro fr : Int32} {fac bd ff fb fx : Nat → Int32} (hh : h ≤ 8) (hH : om_H co li ee h) (hk : k < h) (hsg : om_R 1 sg) (hfx : ∀ j : Nat, j < 3 → fx j = 100 ∨ om_R 6 (fx j))
    (H : ∀ (r ro' fr' : Int32) (fac' bd' ff' fb' : Nat → Int32), (r = 1 ∧ (∃ x y z : Int, (om_Q co li ee 0 h wo x y z ∧ om_fx (fx 0) x ∧ om_fx (fx 1) y ∧ om_fx (fx 2) z) ∧ (-sg.toInt * (co (3 * k)).toInt) * x + (-sg.toInt * (co (3 * k + 1)).toInt) * y + (-sg.toInt * (co (3 * k + 2)).toInt) * z ≤ -sg.toInt * (li k).toInt - 1) ∨
      r = 0 ∧ ¬ (∃ x y z : Int, (om_Q co li ee 0 h wo x y z ∧ om_fx (fx 0) x ∧ om_fx (fx 1) y ∧ om_fx (fx 2) z) ∧ (-sg.toInt * (co (3 * k)).toInt) * x + (-sg.toInt * (co (3 * k + 1)).toInt) * y + (-sg.toInt * (co (3 * k + 2)).toInt) * z ≤ -sg.toInt * (li k).toInt - 1)) →
      post r (nI h, ro', fr', wo, co, li, ee, fac', bd', ff', fb', fx)) :
    wpX_broken post (nI h, ro, fr, wo, co, li, ee, fac, bd, ff, fb, fx) (nI k) sg := by
  obtain ⟨a0, a1, a2, a3, a4⟩ := hH k hk
  have hs := om_neg hsg (by omega)
  have m0 := om_mul hs.2 a0 (by decide)
  have m1 := om_mul hs.2 a1 (by decide)
  have m2 := om_mul hs.2 a2 (by decide)
  have m3 := om_mul hs.2 a3 (by decide)
  have m4 := om_sub (y := 1) (B := 1) m3.2 ⟨by decide, by decide⟩ (by decide)
  have c2 : ((3 : Int32) * nI k + 2).toNatClampNeg = 3 * k + 2 := om_c2 (by omega)
  have c1 : ((3 : Int32) * nI k + 1).toNatClampNeg = 3 * k + 1 := om_c1 (by omega)
  have c0 : ((3 : Int32) * nI k).toNatClampNeg = 3 * k := om_c0 (by omega)
  have ck : (nI k).toNatClampNeg = k := nI_clamp (by omega)
  refine om_collect (ro := ro) hh hH hfx (fun n fac1 bd1 h1 h2 h3 h4 => nm_e ⟨om_i0 (by omega) (by omega), om_i1 (by omega) (by omega), om_i2 (by omega) (by omega), vp_in_nI (by omega) (by omega), ?_⟩)
  rw [c0, c1, c2, ck]
  refine om_put (by omega) h2 (om_R_mono m0.2 (by decide)) (om_R_mono m1.2 (by decide)) (om_R_mono m2.2 (by decide)) (om_R_mono m4.2 (by decide)) (fun fac2 bd2 h5 h6 => om_solvable (by omega) h5 (fun x y z w => h4 x y z ((h6 x y z).mp w).1) (fun r fr' ff' fb' h7 => ?_))
  rw [m4.1, m3.1, m2.1, m1.1, m0.1, hs.1, om_l1] at h6
  have h8 : ∀ x y z : Int, om_S fac2 bd2 (n + 1) x y z ↔ (om_Q co li ee 0 h wo x y z ∧ om_fx (fx 0) x ∧ om_fx (fx 1) y ∧ om_fx (fx 2) z) ∧ (-sg.toInt * (co (3 * k)).toInt) * x + (-sg.toInt * (co (3 * k + 1)).toInt) * y + (-sg.toInt * (co (3 * k + 2)).toInt) * z ≤ -sg.toInt * (li k).toInt - 1 := by
    intro x y z
    rw [h6 x y z, h3 x y z]
  rw [om_ex3 h8] at h7
  refine ⟨?_, H r _ _ _ _ _ _ h7⟩
  rcases h7 with ⟨rfl, _⟩ | ⟨rfl, _⟩
  · exact narrow_b1
  · exact narrow_b0
end
end
section
/-! the reference's walks -/
def om_dg (r v : Nat) : Nat := if v = 0 then r / 169 else if v = 1 then r / 13 % 13 else r % 13
def om_vl (r v : Nat) : Int := (om_dg r v : Int) - 6
def om_Ky (as bs cs ds es : Nat → Int32) (i : Nat) (x y z : Int) : Prop := (es i = 0 → (as i).toInt * x + (bs i).toInt * y + (cs i).toInt * z ≤ (ds i).toInt) ∧ (¬ es i = 0 → (as i).toInt * x + (bs i).toInt * y + (cs i).toInt * z = (ds i).toInt)
def om_Qy (as bs cs ds es : Nat → Int32) (i h : Nat) (w : Int32) (x y z : Int) : Prop := ∀ j : Nat, i ≤ j → j < h → ¬ nI j = w → om_Ky as bs cs ds es j x y z
def om_Hy (as bs cs : Nat → Int32) (h : Nat) : Prop := ∀ i : Nat, i < h → om_R 9 (as i) ∧ om_R 9 (bs i) ∧ om_R 9 (cs i)
def om_Pr (as bs cs ds es : Nat → Int32) (h : Nat) (w : Int32) (r : Nat) : Prop := om_Qy as bs cs ds es 0 h w (om_vl r 0) (om_vl r 1) (om_vl r 2)
theorem om_dg_lt {r v : Nat} (hr : r < 2197) : om_dg r v < 13 := by
  unfold om_dg
  by_cases h0 : v = 0
  · rw [if_pos h0]; omega
  · rw [if_neg h0]
    by_cases h1 : v = 1
    · rw [if_pos h1]; omega
    · rw [if_neg h1]; omega
theorem om_vl_b {r v : Nat} (hr : r < 2197) : -6 ≤ om_vl r v ∧ om_vl r v ≤ 6 := by
  have := om_dg_lt (v := v) hr
  unfold om_vl
  omega
theorem om_vl_i {r v : Nat} {x : Int32} (hr : r < 2197) (e : x = nI (om_dg r v)) : (x - 6).toInt = om_vl r v := by
  have h := om_dg_lt (v := v) hr
  have e1 : x.toInt = (om_dg r v : Int) := by rw [e]; exact nI_toInt (by omega)
  rw [Jvm.Kit.i32_sub (by rw [e1, om_l6]; omega) (by rw [e1, om_l6]; omega), e1, om_l6]
  rfl
theorem om_valueOf {post : Int32 → Prop} {r v : Nat} (hr : r < 2197) (hv : v < 3) (K : ∀ t : Int32, t.toInt = om_vl r v → post t) : wpY_valueOf post (nI r) (nI v) := by
  have d169 : nI r / 169 = nI (r / 169) := pk_div (d := 169) (by omega) (by omega) (by omega)
  have d13 : nI r / 13 = nI (r / 13) := pk_div (d := 13) (by omega) (by omega) (by omega)
  have m13 : ∀ q : Nat, q < 2197 → nI q - nI q / 13 * 13 = nI (q % 13) := fun q hq => pk_rem (d := 13) (by omega) (by omega) (by omega)
  rcases (show v = 0 ∨ v = 1 ∨ v = 2 by omega) with rfl | rfl | rfl
  · exact br_t (by decide) ⟨by decide, K _ (om_vl_i hr d169)⟩
  · refine br_f (by decide) (br_t (by decide) ⟨by decide, by decide, K _ (om_vl_i hr ?_)⟩)
    rw [d13, m13 _ (by omega)]
    rfl
  · exact br_f (by decide) (br_f (by decide) ⟨by decide, K _ (om_vl_i hr (m13 r hr))⟩)
section
variable {as bs cs ds es : Nat → Int32}
theorem om_meets {post : Int32 → Prop} {hd : Int32} {r i h : Nat} (hr : r < 2197) (hi : i < h) (hh : h ≤ 8) (hH : om_Hy as bs cs h) (H1 : om_Ky as bs cs ds es i (om_vl r 0) (om_vl r 1) (om_vl r 2) → post 1) (H0 : ¬ om_Ky as bs cs ds es i (om_vl r 0) (om_vl r 1) (om_vl r 2) → post 0) :
    wpY_meets post (hd, as, bs, cs, ds, es) (nI r) (nI i) := by
  have hin : vp_in (nI i) 8 := vp_in_nI (by omega) (by omega)
  have ci : (nI i).toNatClampNeg = i := nI_clamp (by omega)
  obtain ⟨a0, a1, a2⟩ := hH i hi
  refine ⟨hin, om_valueOf (v := 0) hr (by omega) (fun t0 e0 => ⟨hin, om_valueOf (v := 1) hr (by omega) (fun t1 e1 => ⟨hin, om_valueOf (v := 2) hr (by omega) (fun t2 e2 => ?_)⟩)⟩)⟩
  rw [ci]
  have b0 := om_vl_b (v := 0) hr
  have b1 := om_vl_b (v := 1) hr
  have b2 := om_vl_b (v := 2) hr
  have m0 := om_mul (y := t0) (B := 6) a0 ⟨by omega, by omega⟩ (by decide)
  have m1 := om_mul (y := t1) (B := 6) a1 ⟨by omega, by omega⟩ (by decide)
  have m2 := om_mul (y := t2) (B := 6) a2 ⟨by omega, by omega⟩ (by decide)
  have m3 := om_add m0.2 m1.2 (by decide)
  have m4 := om_add m3.2 m2.2 (by decide)
  have e : (as i * t0 + bs i * t1 + cs i * t2).toInt = (as i).toInt * om_vl r 0 + (bs i).toInt * om_vl r 1 + (cs i).toInt * om_vl r 2 := by
    rw [m4.1, m3.1, m0.1, m1.1, m2.1, e0, e1, e2]
  refine nm_e ⟨hin, br_c (fun he => ⟨hin, om_lt _ _ (fun hl => H0 (fun z => ?_)) (fun hl => H1 ⟨fun _ => hl, fun z => absurd he z⟩) rfl e⟩) (fun he => ⟨hin, om_eq _ _ (fun hl => H1 ⟨fun z => absurd z he, fun _ => hl⟩) (fun hl => H0 (fun z => hl (z.2 he))) e rfl⟩)⟩
  have := z.1 he
  omega
theorem om_solves2 {post : Int32 → Prop} {r h : Nat} {w : Int32} (hr : r < 2197) (hh : h ≤ 8) (hH : om_Hy as bs cs h) :
    ∀ d i : Nat, i + d = h → (om_Qy as bs cs ds es i h w (om_vl r 0) (om_vl r 1) (om_vl r 2) → post 1) → (¬ om_Qy as bs cs ds es i h w (om_vl r 0) (om_vl r 1) (om_vl r 2) → post 0) →
    wY_solves_2 post (nI r) w (nI h) as bs cs ds es (d + 1) (nI i) := by
  intro d
  induction d with
  | zero =>
    intro i hi H1 H0
    exact br_t (nI_le (by omega) (by omega)) (H1 (fun j h1 h2 => absurd h2 (by omega)))
  | succ d ih =>
    intro i hi H1 H0
    have hQ : om_Qy as bs cs ds es i h w (om_vl r 0) (om_vl r 1) (om_vl r 2) ↔ (¬ nI i = w → om_Ky as bs cs ds es i (om_vl r 0) (om_vl r 1) (om_vl r 2)) ∧ om_Qy as bs cs ds es (i + 1) h w (om_vl r 0) (om_vl r 1) (om_vl r 2) := om_all (P := fun j => ¬ nI j = w → om_Ky as bs cs ds es j (om_vl r 0) (om_vl r 1) (om_vl r 2)) (by omega)
    rw [hQ] at H1 H0
    refine br_f (nI_ge (by omega) (by omega)) (br_c (fun hw => ?_) (fun hw => ?_))
    · exact nm_r (nI_1 i) (ih (i + 1) (by omega) (fun z => H1 ⟨fun z2 => absurd hw z2, z⟩) (fun z => H0 (fun z2 => z z2.2)))
    · refine om_meets hr (show i < h by omega) hh hH (fun z => ?_) (fun z => ?_)
      · exact br_f (by decide) (nm_r (nI_1 i) (ih (i + 1) (by omega) (fun z2 => H1 ⟨fun _ => z, z2⟩) (fun z2 => H0 (fun z3 => z2 z3.2))))
      · exact br_t rfl (H0 (fun z2 => z (z2.1 hw)))
theorem om_solves {post : Int32 → Prop} {r h : Nat} {w : Int32} (hr : r < 2197) (hh : h ≤ 8) (hH : om_Hy as bs cs h) (H1 : om_Pr as bs cs ds es h w r → post 1) (H0 : ¬ om_Pr as bs cs ds es h w r → post 0) :
    wpY_solves post (nI h, as, bs, cs, ds, es) (nI r) w := ⟨h + 1, om_solves2 hr hh hH h 0 (by omega) H1 H0⟩
theorem om_firstRow2 {post : Int32 → Prop} {h : Nat} (hh : h ≤ 8) (hH : om_Hy as bs cs h)
    (H1 : ∀ r : Nat, r < 2197 → om_Pr as bs cs ds es h (-1) r → (∀ s : Nat, s < r → ¬ om_Pr as bs cs ds es h (-1) s) → post (nI r)) (H0 : (∀ s : Nat, s < 2197 → ¬ om_Pr as bs cs ds es h (-1) s) → post (-1)) :
    ∀ d r : Nat, r + d = 2197 → (∀ s : Nat, s < r → ¬ om_Pr as bs cs ds es h (-1) s) → wY_firstRow_2 post (nI h) as bs cs ds es (d + 1) (nI r) := by
  intro d
  induction d with
  | zero =>
    intro r hr hT
    obtain rfl : r = 2197 := by omega
    exact br_t (nI_le (a := 2197) (by omega) (by omega)) (H0 hT)
  | succ d ih =>
    intro r hr hT
    refine br_f (nI_ge (b := 2197) (by omega) (by omega)) (om_solves (by omega) hh hH (fun z => ?_) (fun z => ?_))
    · exact br_f (by decide) (H1 r (by omega) z hT)
    · exact br_t rfl (nm_r (nI_1 r) (ih (r + 1) (by omega) (lt_s hT z)))
theorem om_firstRow {post : Int32 → Prop} {h : Nat} (hh : h ≤ 8) (hH : om_Hy as bs cs h)
    (H1 : ∀ r : Nat, r < 2197 → om_Pr as bs cs ds es h (-1) r → (∀ s : Nat, s < r → ¬ om_Pr as bs cs ds es h (-1) s) → post (nI r)) (H0 : (∀ s : Nat, s < 2197 → ¬ om_Pr as bs cs ds es h (-1) s) → post (-1)) :
    wpY_firstRow post (nI h, as, bs, cs, ds, es) := ⟨2198, om_firstRow2 hh hH H1 H0 2197 0 (by omega) lt_0⟩
/-- what extreme has found in the rows below r -/
def om_best (as bs cs ds es : Nat → Int32) (h v : Nat) (gr best : Int32) (r : Nat) : Prop :=
  best = 100 ∧ (∀ s : Nat, s < r → ¬ om_Pr as bs cs ds es h (-1) s) ∨ (∃ s : Nat, s < r ∧ s < 2197 ∧ om_Pr as bs cs ds es h (-1) s ∧ best.toInt = om_vl s v) ∧ (∀ s : Nat, s < r → om_Pr as bs cs ds es h (-1) s → ¬ om_bt gr (om_vl s v) best.toInt)
theorem om_extreme16 {post : Int32 → Prop} {h v : Nat} {gr : Int32} (hh : h ≤ 8) (hH : om_Hy as bs cs h) (hv : v < 3) (H : ∀ best : Int32, om_best as bs cs ds es h v gr best 2197 → post best) :
    ∀ d r : Nat, r + d = 2197 → ∀ best : Int32, om_best as bs cs ds es h v gr best r → wY_extreme_16 post (nI v) gr (nI h) as bs cs ds es (d + 1) best (nI r) := by
  intro d
  induction d with
  | zero =>
    intro r hr best hb
    obtain rfl : r = 2197 := by omega
    exact br_t (nI_le (a := 2197) (by omega) (by omega)) (H best hb)
  | succ d ih =>
    intro r hr best hb
    refine br_f (nI_ge (b := 2197) (by omega) (by omega)) (om_valueOf (show r < 2197 by omega) hv (fun t et => om_solves (by omega) hh hH (fun z => br_f (by decide) ?_) (fun z => br_t rfl ?_)))
    · refine om_eq best.toInt 100 (fun hb1 => ?_) (fun hb1 => ?_) rfl om_l100
      · have hb2 : ∀ s : Nat, s < r → ¬ om_Pr as bs cs ds es h (-1) s := by
          rcases hb with ⟨_, hb⟩ | ⟨⟨s, _, h2, _, h4⟩, _⟩
          · exact hb
          · have := om_vl_b (v := v) h2
            omega
        refine nm_r (nI_1 r) (ih (r + 1) (by omega) t (Or.inr ⟨⟨r, by omega, by omega, z, et⟩, lt_s (fun s hs ps => absurd ps (hb2 s hs)) (fun _ hbt => ?_)⟩))
        rw [et] at hbt
        by_cases hg : gr = 0
        · have := hbt.1 hg; omega
        · have := hbt.2 hg; omega
      · have hb2 : (∃ s : Nat, s < r ∧ s < 2197 ∧ om_Pr as bs cs ds es h (-1) s ∧ best.toInt = om_vl s v) ∧ (∀ s : Nat, s < r → om_Pr as bs cs ds es h (-1) s → ¬ om_bt gr (om_vl s v) best.toInt) := by
          rcases hb with ⟨hb, _⟩ | hb
          · rw [hb, om_l100] at hb1; omega
          · exact hb
        obtain ⟨⟨s, h1, h2, h3, h4⟩, h5⟩ := hb2
        have keep : ¬ om_bt gr (om_vl r v) best.toInt → om_best as bs cs ds es h v gr best (r + 1) := fun hk => Or.inr ⟨⟨s, by omega, h2, h3, h4⟩, lt_s h5 (fun _ => hk)⟩
        have swap : (∀ q : Int, om_bt gr q t.toInt → om_bt gr q best.toInt) → om_best as bs cs ds es h v gr t (r + 1) := by
          intro hq
          refine Or.inr ⟨⟨r, by omega, by omega, z, et⟩, lt_s (fun q hq2 pq hbt => h5 q hq2 pq (hq _ hbt)) (fun _ hbt => ?_)⟩
          rw [et] at hbt
          by_cases hg : gr = 0
          · have := hbt.1 hg; omega
          · have := hbt.2 hg; omega
        refine br_c (fun hg => om_le best.toInt t.toInt (fun hl => ?_) (fun hl => ?_) rfl rfl) (fun hg => om_le t.toInt best.toInt (fun hl => ?_) (fun hl => ?_) rfl rfl)
        · exact nm_r (nI_1 r) (ih (r + 1) (by omega) best (keep (fun hbt => by have := hbt.1 hg; omega)))
        · exact nm_r (nI_1 r) (ih (r + 1) (by omega) t (swap (fun q hbt => ⟨fun _ => by have := hbt.1 hg; omega, fun z => absurd hg z⟩)))
        · exact nm_r (nI_1 r) (ih (r + 1) (by omega) best (keep (fun hbt => by have := hbt.2 hg; omega)))
        · exact nm_r (nI_1 r) (ih (r + 1) (by omega) t (swap (fun q hbt => ⟨fun z => absurd z hg, fun _ => by have := hbt.2 hg; omega⟩)))
    · refine nm_r (nI_1 r) (ih (r + 1) (by omega) best ?_)
      rcases hb with ⟨hb1, hb⟩ | ⟨⟨s, h1, h2, h3, h4⟩, h5⟩
      · exact Or.inl ⟨hb1, lt_s hb z⟩
      · exact Or.inr ⟨⟨s, by omega, h2, h3, h4⟩, lt_s h5 (fun pz => absurd pz z)⟩
theorem om_with11 {post : Int32 → Prop} {h v : Nat} {x : Int32} (hh : h ≤ 8) (hH : om_Hy as bs cs h) (hv : v < 3)
    (H1 : ∀ r : Nat, r < 2197 → om_vl r v = x.toInt → om_Pr as bs cs ds es h (-1) r → post 1) (H0 : (∀ r : Nat, r < 2197 → om_vl r v = x.toInt → ¬ om_Pr as bs cs ds es h (-1) r) → post 0) :
    ∀ d r : Nat, r + d = 2197 → (∀ s : Nat, s < r → om_vl s v = x.toInt → ¬ om_Pr as bs cs ds es h (-1) s) → wY_with_11 post (nI v) x (nI h) as bs cs ds es (d + 1) (nI r) := by
  intro d
  induction d with
  | zero =>
    intro r hr hT
    obtain rfl : r = 2197 := by omega
    exact br_t (nI_le (a := 2197) (by omega) (by omega)) (H0 hT)
  | succ d ih =>
    intro r hr hT
    refine br_f (nI_ge (b := 2197) (by omega) (by omega)) (om_valueOf (show r < 2197 by omega) hv (fun t et => om_eq (om_vl r v) x.toInt (fun e => ?_) (fun e => ?_) et rfl))
    · refine om_solves (by omega) hh hH (fun z => br_f (by decide) (H1 r (by omega) e z)) (fun z => br_t rfl (nm_r (nI_1 r) (ih (r + 1) (by omega) (lt_s hT (fun _ => z)))))
    · exact nm_r (nI_1 r) (ih (r + 1) (by omega) (lt_s hT (fun z => absurd z e)))
theorem om_follows16 {post : Int32 → Prop} {h : Nat} {a b c d : Int32} (hh : h ≤ 8) (hH : om_Hy as bs cs h) (ha : om_R 9 a) (hb : om_R 9 b) (hc : om_R 9 c)
    (H0 : ∀ r : Nat, r < 2197 → d.toInt < a.toInt * om_vl r 0 + b.toInt * om_vl r 1 + c.toInt * om_vl r 2 → om_Pr as bs cs ds es h (-1) r → post 0) (H1 : (∀ r : Nat, r < 2197 → d.toInt < a.toInt * om_vl r 0 + b.toInt * om_vl r 1 + c.toInt * om_vl r 2 → ¬ om_Pr as bs cs ds es h (-1) r) → post 1) :
    ∀ q r : Nat, r + q = 2197 → (∀ s : Nat, s < r → d.toInt < a.toInt * om_vl s 0 + b.toInt * om_vl s 1 + c.toInt * om_vl s 2 → ¬ om_Pr as bs cs ds es h (-1) s) → wY_follows_16 post a b c d (nI h) as bs cs ds es (q + 1) (nI r) := by
  intro q
  induction q with
  | zero =>
    intro r hr hT
    obtain rfl : r = 2197 := by omega
    exact br_t (nI_le (a := 2197) (by omega) (by omega)) (H1 hT)
  | succ q ih =>
    intro r hr hT
    have hr' : r < 2197 := by omega
    refine br_f (nI_ge (b := 2197) (by omega) (by omega)) (om_valueOf (v := 0) hr' (by omega) (fun t0 e0 => om_valueOf (v := 1) hr' (by omega) (fun t1 e1 => om_valueOf (v := 2) hr' (by omega) (fun t2 e2 => ?_))))
    have b0 := om_vl_b (v := 0) hr'
    have b1 := om_vl_b (v := 1) hr'
    have b2 := om_vl_b (v := 2) hr'
    have m0 := om_mul (y := t0) (B := 6) ha ⟨by omega, by omega⟩ (by decide)
    have m1 := om_mul (y := t1) (B := 6) hb ⟨by omega, by omega⟩ (by decide)
    have m2 := om_mul (y := t2) (B := 6) hc ⟨by omega, by omega⟩ (by decide)
    have m3 := om_add m0.2 m1.2 (by decide)
    have m4 := om_add m3.2 m2.2 (by decide)
    have e : (a * t0 + b * t1 + c * t2).toInt = a.toInt * om_vl r 0 + b.toInt * om_vl r 1 + c.toInt * om_vl r 2 := by
      rw [m4.1, m3.1, m0.1, m1.1, m2.1, e0, e1, e2]
    refine nm_e (om_le _ d.toInt (fun hl => ?_) (fun hl => ?_) e rfl)
    · exact nm_r (nI_1 r) (ih (r + 1) (by omega) (lt_s hT (fun z => absurd z (by omega))))
    · exact om_solves hr' hh hH (fun z => br_f (by decide) (H0 r hr' hl z)) (fun z => br_t rfl (nm_r (nI_1 r) (ih (r + 1) (by omega) (lt_s hT (fun _ => z)))))
theorem om_spared2 {post : Int32 → Prop} {h i : Nat} (hh : h ≤ 8) (hH : om_Hy as bs cs h) (hi : i < h)
    (H0 : ∀ r : Nat, r < 2197 → om_Pr as bs cs ds es h (nI i) r → ¬ om_Ky as bs cs ds es i (om_vl r 0) (om_vl r 1) (om_vl r 2) → post 0) (H1 : (∀ r : Nat, r < 2197 → om_Pr as bs cs ds es h (nI i) r → om_Ky as bs cs ds es i (om_vl r 0) (om_vl r 1) (om_vl r 2)) → post 1) :
    ∀ d r : Nat, r + d = 2197 → (∀ s : Nat, s < r → om_Pr as bs cs ds es h (nI i) s → om_Ky as bs cs ds es i (om_vl s 0) (om_vl s 1) (om_vl s 2)) → wY_spared_2 post (nI i) (nI h) as bs cs ds es (d + 1) (nI r) := by
  intro d
  induction d with
  | zero =>
    intro r hr hT
    obtain rfl : r = 2197 := by omega
    exact br_t (nI_le (a := 2197) (by omega) (by omega)) (H1 hT)
  | succ d ih =>
    intro r hr hT
    have hr' : r < 2197 := by omega
    refine br_f (nI_ge (b := 2197) (by omega) (by omega)) (om_solves hr' hh hH (fun z => br_f (by decide) (om_meets hr' hi hh hH (fun z2 => ?_) (fun z2 => ?_))) (fun z => br_t rfl ?_))
    · exact br_f (by decide) (nm_r (nI_1 r) (ih (r + 1) (by omega) (lt_s hT (fun _ => z2))))
    · exact br_t rfl (H0 r hr' z z2)
    · exact nm_r (nI_1 r) (ih (r + 1) (by omega) (lt_s hT (fun z2 => absurd z2 z)))
end
/-- how many numbers below k have the property -/
noncomputable def om_ct (T : Nat → Prop) : Nat → Nat
  | 0 => 0
  | k + 1 => om_ct T k + @ite Nat (T k) (Classical.propDecidable (T k)) 1 0
theorem om_ct_t {T : Nat → Prop} {k : Nat} (h : T k) : om_ct T (k + 1) = om_ct T k + 1 := by rw [om_ct, if_pos h]
theorem om_ct_f {T : Nat → Prop} {k : Nat} (h : ¬ T k) : om_ct T (k + 1) = om_ct T k := by rw [om_ct, if_neg h, Nat.add_zero]
theorem om_spare4 {as bs cs ds es : Nat → Int32} {post : Int32 → Prop} {h : Nat} {T : Nat → Prop} (hh : h ≤ 8) (hH : om_Hy as bs cs h) (hT : ∀ i : Nat, i < h → (T i ↔ ∀ r : Nat, r < 2197 → om_Pr as bs cs ds es h (nI i) r → om_Ky as bs cs ds es i (om_vl r 0) (om_vl r 1) (om_vl r 2))) (H : post (nI (om_ct T h))) :
    ∀ d i : Nat, i + d = h → wY_spare_4 post (nI h) as bs cs ds es (d + 1) (nI (om_ct T i)) (nI i) := by
  intro d
  induction d with
  | zero =>
    intro i hi
    obtain rfl : i = h := by omega
    exact br_t (nI_le (by omega) (by omega)) H
  | succ d ih =>
    intro i hi
    refine br_f (nI_ge (by omega) (by omega)) ⟨2198, om_spared2 hh hH (by omega) (fun r hr p1 p2 => ?_) (fun p => ?_) 2197 0 (by omega) lt_0⟩
    · have hn : ¬ T i := fun z => p2 ((hT i (by omega)).mp z r hr p1)
      have := ih (i + 1) (by omega)
      rw [om_ct_f hn] at this
      exact br_t rfl (nm_r (nI_1 i) this)
    · have := ih (i + 1) (by omega)
      rw [om_ct_t ((hT i (by omega)).mpr p)] at this
      exact br_f (by decide) (nm_r (nI_1 _) (nm_r (nI_1 i) this))
end
section
/-! the relation; rows of the reference and points -/
def om_j0 (co : Nat → Int32) : Nat → Int32 := fun i => co (3 * i)
def om_j1 (co : Nat → Int32) : Nat → Int32 := fun i => co (3 * i + 1)
def om_j2 (co : Nat → Int32) : Nat → Int32 := fun i => co (3 * i + 2)
/-- the reference's state is read off the component's: conditions held, their ranges, and no condition left out -/
def i_Rel (k : Nat) (u : SX) (v : SY) : Prop := ∃ (h : Nat) (ro fr : Int32) (co li ee fac bd ff fb fx : Nat → Int32), u = (nI h, ro, fr, (-1), co, li, ee, fac, bd, ff, fb, fx) ∧ v = (nI h, om_j0 co, om_j1 co, om_j2 co, li, ee) ∧ h ≤ 8 ∧ om_H co li ee h
theorem om_rel {k h : Nat} {ro fr : Int32} {co li ee fac bd ff fb fx : Nat → Int32} (hh : h ≤ 8) (hH : om_H co li ee h) : i_Rel k (nI h, ro, fr, (-1), co, li, ee, fac, bd, ff, fb, fx) (nI h, om_j0 co, om_j1 co, om_j2 co, li, ee) :=
  ⟨h, ro, fr, co, li, ee, fac, bd, ff, fb, fx, rfl, rfl, hh, hH⟩
theorem om_Hy_of {co li ee : Nat → Int32} {h : Nat} (hH : om_H co li ee h) : om_Hy (om_j0 co) (om_j1 co) (om_j2 co) h := fun i hi => ⟨(hH i hi).1, (hH i hi).2.1, (hH i hi).2.2.1⟩
theorem om_PrQ {co li ee : Nat → Int32} {h r : Nat} {w : Int32} : om_Pr (om_j0 co) (om_j1 co) (om_j2 co) li ee h w r ↔ om_Q co li ee 0 h w (om_vl r 0) (om_vl r 1) (om_vl r 2) := Iff.rfl
theorem om_vl0 {r : Nat} : om_vl r 0 = ((r / 169 : Nat) : Int) - 6 := rfl
theorem om_vl1 {r : Nat} : om_vl r 1 = ((r / 13 % 13 : Nat) : Int) - 6 := rfl
theorem om_vl2 {r : Nat} : om_vl r 2 = ((r % 13 : Nat) : Int) - 6 := rfl
theorem om_rowOf {x y z : Int} (hx : -6 ≤ x ∧ x ≤ 6) (hy : -6 ≤ y ∧ y ≤ 6) (hz : -6 ≤ z ∧ z ≤ 6) : ∃ r : Nat, r < 2197 ∧ om_vl r 0 = x ∧ om_vl r 1 = y ∧ om_vl r 2 = z := by
  obtain ⟨a, ea⟩ : ∃ a : Nat, x = (a : Int) - 6 := ⟨(x + 6).toNat, by omega⟩
  obtain ⟨b, eb⟩ : ∃ b : Nat, y = (b : Int) - 6 := ⟨(y + 6).toNat, by omega⟩
  obtain ⟨c, ec⟩ : ∃ c : Nat, z = (c : Int) - 6 := ⟨(z + 6).toNat, by omega⟩
  refine ⟨169 * a + 13 * b + c, by omega, ?_, ?_, ?_⟩
  · rw [om_vl0, show (169 * a + 13 * b + c) / 169 = a by omega]; exact ea.symm
  · rw [om_vl1, show (169 * a + 13 * b + c) / 13 % 13 = b by omega]; exact eb.symm
  · rw [om_vl2, show (169 * a + 13 * b + c) % 13 = c by omega]; exact ec.symm
theorem om_pt_vl {r v : Nat} (hv : v < 3) : om_pt v (om_vl r 0) (om_vl r 1) (om_vl r 2) = om_vl r v := by
  rcases (show v = 0 ∨ v = 1 ∨ v = 2 by omega) with rfl | rfl | rfl <;> rfl
theorem om_fx100 {f : Int32} {t : Int} (h : f = 100) : om_fx f t ↔ -6 ≤ t ∧ t ≤ 6 := ⟨fun w => w.1 h, fun w => ⟨fun _ => w, fun z => absurd h z⟩⟩
theorem om_Ev_row {co li ee fx : Nat → Int32} {h v : Nat} {w : Int32} {t : Int} (hv : v < 3) (hfx : ∀ j : Nat, j < 3 → fx j = 100) (ht : -6 ≤ t ∧ t ≤ 6) : om_Ev co li ee h w v fx t ↔ ∃ r : Nat, r < 2197 ∧ om_Q co li ee 0 h w (om_vl r 0) (om_vl r 1) (om_vl r 2) ∧ om_vl r v = t := by
  constructor
  · intro ⟨x, y, z, h1, h2, h3⟩
    have hj : ∀ j : Nat, j < 3 → -6 ≤ om_pt j x y z ∧ om_pt j x y z ≤ 6 := by
      intro j hj
      by_cases e : j = v
      · rw [e, h2]; exact ht
      · exact (om_fx100 (hfx j hj)).mp (h3 j hj e)
    obtain ⟨r, hr, e0, e1, e2⟩ := om_rowOf (hj 0 (by omega)) (hj 1 (by omega)) (hj 2 (by omega))
    rw [om_pt0] at e0
    rw [om_pt1] at e1
    rw [om_pt2] at e2
    refine ⟨r, hr, ?_, ?_⟩
    · rw [e0, e1, e2]; exact h1
    · rw [← om_pt_vl hv, e0, e1, e2]; exact h2
  · intro ⟨r, hr, h1, h2⟩
    refine ⟨_, _, _, h1, by rw [om_pt_vl hv]; exact h2, fun j hj _ => ?_⟩
    rw [om_pt_vl hj]
    exact (om_fx100 (hfx j hj)).mpr (om_vl_b hr)
theorem om_E_row {co li ee fx : Nat → Int32} {h : Nat} {w : Int32} {T : Int → Int → Int → Prop} (f0 : fx 0 = 100) (f1 : fx 1 = 100) (f2 : fx 2 = 100) : (∃ x y z : Int, (om_Q co li ee 0 h w x y z ∧ om_fx (fx 0) x ∧ om_fx (fx 1) y ∧ om_fx (fx 2) z) ∧ T x y z) ↔ ∃ r : Nat, r < 2197 ∧ om_Q co li ee 0 h w (om_vl r 0) (om_vl r 1) (om_vl r 2) ∧ T (om_vl r 0) (om_vl r 1) (om_vl r 2) := by
  constructor
  · intro ⟨x, y, z, ⟨h1, h2, h3, h4⟩, h5⟩
    obtain ⟨r, hr, e0, e1, e2⟩ := om_rowOf ((om_fx100 f0).mp h2) ((om_fx100 f1).mp h3) ((om_fx100 f2).mp h4)
    exact ⟨r, hr, by rw [e0, e1, e2]; exact h1, by rw [e0, e1, e2]; exact h5⟩
  · intro ⟨r, hr, h1, h2⟩
    exact ⟨_, _, _, ⟨h1, (om_fx100 f0).mpr (om_vl_b hr), (om_fx100 f1).mpr (om_vl_b hr), (om_fx100 f2).mpr (om_vl_b hr)⟩, h2⟩
theorem om_least (P : Nat → Prop) : ∀ n : Nat, (∃ r : Nat, r < n ∧ P r ∧ ∀ s : Nat, s < r → ¬ P s) ∨ ∀ r : Nat, r < n → ¬ P r := by
  intro n
  induction n with
  | zero => exact Or.inr lt_0
  | succ n ih =>
    rcases ih with ⟨r, h1, h2⟩ | h
    · exact Or.inl ⟨r, by omega, h2⟩
    · by_cases hp : P n
      · exact Or.inl ⟨n, by omega, hp, h⟩
      · exact Or.inr (lt_s h hp)
theorem om_lex {r s v : Nat} (hr : r ≤ s) (hv : v < 3) (he : ∀ j : Nat, j < v → om_vl s j = om_vl r j) : om_vl r v ≤ om_vl s v := by
  rcases (show v = 0 ∨ v = 1 ∨ v = 2 by omega) with rfl | rfl | rfl
  · rw [om_vl0, om_vl0]; omega
  · have h0 := he 0 (by omega)
    rw [om_vl0, om_vl0] at h0
    rw [om_vl1, om_vl1]; omega
  · have h0 := he 0 (by omega)
    have h1 := he 1 (by omega)
    rw [om_vl0, om_vl0] at h0
    rw [om_vl1, om_vl1] at h1
    rw [om_vl2, om_vl2]; omega
theorem om_fx3 {fx : Nat → Int32} (f0 : fx 0 = 100) (f1 : fx 1 = 100) (f2 : fx 2 = 100) : ∀ j : Nat, j < 3 → fx j = 100 := by
  intro j hj
  rcases (show j = 0 ∨ j = 1 ∨ j = 2 by omega) with rfl | rfl | rfl
  · exact f0
  · exact f1
  · exact f2
/-! add and drop: one row set -/
theorem om_s0 {co : Nat → Int32} {k : Nat} {a b c : Int32} : upd (om_j0 co) k a = om_j0 (upd (upd (upd co (3 * k) a) (3 * k + 1) b) (3 * k + 2) c) := by
  funext i
  show upd (om_j0 co) k a i = upd (upd (upd co (3 * k) a) (3 * k + 1) b) (3 * k + 2) c (3 * i)
  rw [pk_un (k := 3 * k + 2) (by omega), pk_un (k := 3 * k + 1) (by omega)]
  by_cases e : i = k
  · rw [e, pk_us, pk_us]
  · rw [pk_un e, pk_un (by omega)]; rfl
theorem om_s1 {co : Nat → Int32} {k : Nat} {a b c : Int32} : upd (om_j1 co) k b = om_j1 (upd (upd (upd co (3 * k) a) (3 * k + 1) b) (3 * k + 2) c) := by
  funext i
  show upd (om_j1 co) k b i = upd (upd (upd co (3 * k) a) (3 * k + 1) b) (3 * k + 2) c (3 * i + 1)
  rw [pk_un (k := 3 * k + 2) (by omega)]
  by_cases e : i = k
  · rw [e, pk_us, pk_us]
  · rw [pk_un e, pk_un (k := 3 * k + 1) (by omega), pk_un (k := 3 * k) (by omega)]; rfl
theorem om_s2 {co : Nat → Int32} {k : Nat} {a b c : Int32} : upd (om_j2 co) k c = om_j2 (upd (upd (upd co (3 * k) a) (3 * k + 1) b) (3 * k + 2) c) := by
  funext i
  show upd (om_j2 co) k c i = upd (upd (upd co (3 * k) a) (3 * k + 1) b) (3 * k + 2) c (3 * i + 2)
  by_cases e : i = k
  · rw [e, pk_us, pk_us]
  · rw [pk_un e, pk_un (k := 3 * k + 2) (by omega), pk_un (k := 3 * k + 1) (by omega), pk_un (k := 3 * k) (by omega)]; rfl
theorem om_H_set {co li ee : Nat → Int32} {k m : Nat} {a b c d e : Int32} (hH : ∀ i : Nat, i < m → i ≠ k → om_R 9 (co (3 * i)) ∧ om_R 9 (co (3 * i + 1)) ∧ om_R 9 (co (3 * i + 2)) ∧ om_R 99 (li i) ∧ (ee i = 0 ∨ ee i = 1)) (hok : om_ok a b c d) (he : e = 0 ∨ e = 1) :
    om_H (upd (upd (upd co (3 * k) a) (3 * k + 1) b) (3 * k + 2) c) (upd li k d) (upd ee k e) m := by
  intro i hi
  by_cases q : i = k
  · subst q
    rw [pk_us (f := li), pk_us (f := ee), pk_us (k := 3 * i + 2), pk_un (k := 3 * i + 2) (j := 3 * i) (by omega), pk_un (k := 3 * i + 1) (j := 3 * i) (by omega), pk_us (k := 3 * i), pk_un (k := 3 * i + 2) (j := 3 * i + 1) (by omega), pk_us (k := 3 * i + 1)]
    exact ⟨hok.1, hok.2.1, hok.2.2.1, hok.2.2.2, he⟩
  · have e3 : ∀ j : Nat, j ≠ 3 * k → j ≠ 3 * k + 1 → j ≠ 3 * k + 2 → upd (upd (upd co (3 * k) a) (3 * k + 1) b) (3 * k + 2) c j = co j := fun j h0 h1 h2 => by rw [pk_un h2, pk_un h1, pk_un h0]
    rw [pk_un (f := li) q, pk_un (f := ee) q, e3 (3 * i) (by omega) (by omega) (by omega), e3 (3 * i + 1) (by omega) (by omega) (by omega), e3 (3 * i + 2) (by omega) (by omega) (by omega)]
    exact hH i hi q
theorem om_nb {e : Int32} (h : e = 0 ∨ e = 1) : vp_nar .boolean e = e := by
  rcases h with rfl | rfl <;> rfl
section
variable {hd ro fr wo : Int32} {fac bd ff fb fx : Nat → Int32}
theorem om_d0 (k v : Nat) : (3 : Int32) * nI k + nI v = nI (3 * k + v) := by rw [om_3, nI_add]
theorem om_d3 (k v : Nat) : (3 : Int32) * nI k + 3 + nI v = nI (3 * k + 3 + v) := by
  rw [om_3, show nI (3 * k) + 3 = nI (3 * k + 3) from nI_add (3 * k) 3, nI_add]
theorem om_d36s {post : Int32 → SX → Prop} {J : Int32 → (Nat → Int32) → (Nat → Int32) → (Nat → Int32) → (Nat → Int32) → (Nat → Int32) → (Nat → Int32) → (Nat → Int32) → (Nat → Int32) → Prop} {co li ee : Nat → Int32} {k v n : Nat} (hk : k + 1 < 8) (hv : v < 3)
    (K : wX_drop_36 post J (nI k) hd ro fr wo n (nI (v + 1)) (upd co (3 * k + v) (co (3 * k + 3 + v))) li ee fac bd ff fb fx) : wX_drop_36 post J (nI k) hd ro fr wo (n + 1) (nI v) co li ee fac bd ff fb fx := by
  refine br_f (nI_ge (b := 3) (by omega) (by omega)) ⟨?_, ?_, ?_⟩
  · rw [om_d3]; exact vp_in_nI (by omega) (by omega)
  · rw [om_d0]; exact vp_in_nI (by omega) (by omega)
  · rw [om_d3, om_d0, nI_clamp (by omega), nI_clamp (by omega)]
    exact nm_e (nm_r (nI_1 v) K)
theorem om_d36 {post : Int32 → SX → Prop} {J : Int32 → (Nat → Int32) → (Nat → Int32) → (Nat → Int32) → (Nat → Int32) → (Nat → Int32) → (Nat → Int32) → (Nat → Int32) → (Nat → Int32) → Prop} {co li ee : Nat → Int32} {k : Nat} (hk : k + 1 < 8)
    (K : J (nI (k + 1)) (upd (upd (upd co (3 * k) (om_j0 co (k + 1))) (3 * k + 1) (om_j1 co (k + 1))) (3 * k + 2) (om_j2 co (k + 1))) (upd li k (li (k + 1))) (upd ee k (vp_nar .boolean (ee (k + 1)))) fac bd ff fb fx) :
    wX_drop_36 post J (nI k) hd ro fr wo 4 0 co li ee fac bd ff fb fx := by
  have ck : (nI k).toNatClampNeg = k := nI_clamp (by omega)
  have ck1 : (nI k + 1).toNatClampNeg = k + 1 := by rw [nI_1, nI_clamp (by omega)]
  have i0 : vp_in (nI k) 8 := vp_in_nI (by omega) (by omega)
  have i1 : vp_in (nI k + 1) 8 := by rw [nI_1]; exact vp_in_nI (by omega) (by omega)
  refine om_d36s (v := 0) hk (by omega) (om_d36s (v := 1) hk (by omega) (om_d36s (v := 2) hk (by omega) (br_t (nI_le (a := 3) (by omega) (by omega)) ⟨i1, i0, ?_⟩)))
  rw [ck, ck1]
  refine nm_e ⟨i1, i0, ?_⟩
  refine nm_e (nm_r (nI_1 k) ?_)
  rw [pk_un (k := 3 * k + 1) (j := 3 * k + 3 + 2) (by omega), pk_un (k := 3 * k + 0) (j := 3 * k + 3 + 2) (by omega), pk_un (k := 3 * k + 0) (j := 3 * k + 3 + 1) (by omega)]
  exact K
/-- both sides of drop, turn by turn -/
theorem om_drop26 {h : Nat} (hh : h < 8) :
    ∀ d k : Nat, k + d = h → ∀ co li ee : Nat → Int32, om_H co li ee (h + 1) → ∃ co' li' ee' : Nat → Int32, om_H co' li' ee' h ∧
    (∀ post : Int32 → SX → Prop, post (nI h) (nI h, ro, fr, wo, co', li', ee', fac, bd, ff, fb, fx) → wX_drop_26 post (nI h) ro fr wo (d + 1) (nI k) co li ee fac bd ff fb fx) ∧
    (∀ post : Int32 → SY → Prop, post (nI h) (nI h, om_j0 co', om_j1 co', om_j2 co', li', ee') → wY_drop_26 post (nI h) (d + 1) (nI k) (om_j0 co) (om_j1 co) (om_j2 co) li ee) := by
  intro d
  induction d with
  | zero =>
    intro k hk co li ee hH
    exact ⟨co, li, ee, fun i hi => hH i (by omega), fun post hp => br_t (nI_le (by omega) (by omega)) hp, fun post hp => br_t (nI_le (by omega) (by omega)) hp⟩
  | succ d ih =>
    intro k hk co li ee hH
    obtain ⟨q0, q1, q2, q3, q4⟩ := hH (k + 1) (by omega)
    have hH2 : om_H (upd (upd (upd co (3 * k) (om_j0 co (k + 1))) (3 * k + 1) (om_j1 co (k + 1))) (3 * k + 2) (om_j2 co (k + 1))) (upd li k (li (k + 1))) (upd ee k (ee (k + 1))) (h + 1) :=
      om_H_set (fun i hi _ => hH i hi) ⟨q0, q1, q2, q3⟩ q4
    obtain ⟨co', li', ee', h1, hX, hY⟩ := ih (k + 1) (by omega) _ _ _ hH2
    refine ⟨co', li', ee', h1, fun post hp => br_f (nI_ge (by omega) (by omega)) ⟨4, om_d36 (by omega) ?_⟩, fun post hp => br_f (nI_ge (by omega) (by omega)) ?_⟩
    · rw [om_nb q4]
      exact hX post hp
    · have ck : (nI k).toNatClampNeg = k := nI_clamp (by omega)
      have ck1 : (nI k + 1).toNatClampNeg = k + 1 := by rw [nI_1, nI_clamp (by omega)]
      have i0 : vp_in (nI k) 8 := vp_in_nI (by omega) (by omega)
      have i1 : vp_in (nI k + 1) 8 := by rw [nI_1]; exact vp_in_nI (by omega) (by omega)
      have e := hY post hp
      rw [← om_s0, ← om_s1, ← om_s2] at e
      rw [ck, ck1, om_nb q4]
      exact ⟨i1, i0, nm_e ⟨i1, i0, nm_e ⟨i1, i0, nm_e ⟨i1, i0, nm_e ⟨i1, i0, nm_e (nm_r (nI_1 k) e)⟩⟩⟩⟩⟩
end
end
section
/-! the owed statements: add, drop, possible, first -/
theorem om_np0 {post : Int32 → Prop} {j : Nat} (hj : j < 3) (k : post 0) : wpY_noPlace post (nI j) :=
  br_f (nI_pos (by omega)) (br_t (nI_le (b := 2) (by omega) (by omega)) k)
theorem om_ge3 {x : Int32} (h : nI 3 ≤ x) : ¬ x < 0 ∧ ¬ x ≤ 2 ∧ 2 < x := by
  rw [Int32.le_iff_toInt_le, nI_toInt (by omega)] at h
  rw [Int32.lt_iff_toInt_lt, Int32.le_iff_toInt_le, Int32.lt_iff_toInt_lt, om_l0, show (2 : Int32).toInt = 2 by decide]
  omega
theorem om_np1 {post : Int32 → Prop} {x : Int32} (h : x < 0 ∨ nI 3 ≤ x) (k : post 1) : wpY_noPlace post x := by
  by_cases h0 : x < 0
  · exact br_t h0 k
  · rcases h with h | h
    · exact absurd h h0
    · exact br_f h0 (br_f (om_ge3 h).2.1 k)
theorem om_E_row0 {co li ee fx : Nat → Int32} {h : Nat} {w : Int32} (f0 : fx 0 = 100) (f1 : fx 1 = 100) (f2 : fx 2 = 100) : (∃ x y z : Int, om_Q co li ee 0 h w x y z ∧ om_fx (fx 0) x ∧ om_fx (fx 1) y ∧ om_fx (fx 2) z) ↔ ∃ r : Nat, r < 2197 ∧ om_Q co li ee 0 h w (om_vl r 0) (om_vl r 1) (om_vl r 2) := by
  constructor
  · intro ⟨x, y, z, w⟩
    obtain ⟨r, hr, h1, _⟩ := (om_E_row (T := fun _ _ _ => True) f0 f1 f2).mp ⟨x, y, z, w, trivial⟩
    exact ⟨r, hr, h1⟩
  · intro ⟨r, hr, h1⟩
    obtain ⟨x, y, z, w, _⟩ := (om_E_row (T := fun _ _ _ => True) f0 f1 f2).mpr ⟨r, hr, h1, trivial⟩
    exact ⟨x, y, z, w⟩
theorem i_up {k : Nat} {u : SX} {v : SY} (h : i_Rel k u v) : i_Rel (k + 6) u v := h
theorem i_vc0 : wpX_init (fun u => wpY_init (fun v => i_Rel 0 u v)) := by
  refine ⟨0, 0, 0, fun _ => 0, fun _ => 0, fun _ => 0, fun _ => 0, fun _ => 0, fun _ => 0, fun _ => 0, fun _ => 0, rfl, rfl, by omega, fun i hi => absurd hi (by omega)⟩
theorem i_vc_add {k : Nat} {u : SX} {v : SY} (I : i_Rel k u v) (hk : k + 6 ≤ 3072) (v1 : Int32) (v2 : Int32) (v3 : Int32) (v4 : Int32) (v5 : Int32) : wpX_add (fun r u' => wpY_add (fun r' v' => r' = r ∧ i_Rel (k + 6) u' v') v v1 v2 v3 v4 (lw_bz v5)) u v1 v2 v3 v4 (lw_bz v5) := by
  obtain ⟨h, ro, fr, co, li, ee, fac, bd, ff, fb, fx, rfl, rfl, hh, hH⟩ := I
  have ch : (nI h).toNatClampNeg = h := nI_clamp (by omega)
  unfold wpX_add
  dsimp only
  refine om_areRight (fun hok => ?_) (fun hok => ?_)
  refine br_f (by decide) (pk_lt h 8 (fun hl => ?_) (fun hl => ?_))
  · have hin : vp_in (nI h) 8 := vp_in_nI (by omega) (by omega)
    refine ⟨om_i0 (by omega) (by omega), ?_⟩
    rw [om_c0 (by omega)]
    refine nm_e ⟨om_i1 (by omega) (by omega), ?_⟩
    rw [om_c1 (by omega)]
    refine nm_e ⟨om_i2 (by omega) (by omega), ?_⟩
    rw [om_c2 (by omega)]
    refine nm_e ⟨hin, ?_⟩
    rw [ch]
    refine nm_e ⟨hin, nm_e (nm_r (nI_1 h) ?_)⟩
    unfold wpY_add
    dsimp only
    refine om_bad (fun _ => ?_) (fun z => absurd hok z)
    refine br_t rfl (pk_eq h 8 (fun z => absurd z (by omega)) (fun _ => ⟨hin, ?_⟩))
    rw [ch]
    refine nm_e ⟨hin, nm_e ⟨hin, nm_e ⟨hin, nm_e ⟨hin, nm_e (nm_r (nI_1 h) ⟨rfl, ?_⟩)⟩⟩⟩⟩
    rw [om_s0 (b := v2) (c := v3), om_s1 (a := v1) (c := v3), om_s2 (a := v1) (b := v2), om_nb (lw_bz_01 v5)]
    exact om_rel (by omega) (om_H_set (fun i hi hne => hH i (by omega)) hok (lw_bz_01 v5))
  · unfold wpY_add
    dsimp only
    refine om_bad (fun _ => ?_) (fun z => absurd hok z)
    exact br_t rfl (pk_eq h 8 (fun _ => ⟨rfl, om_rel hh hH⟩) (fun z => absurd (by omega) z))
  · refine br_t rfl ?_
    unfold wpY_add
    dsimp only
    refine om_bad (fun z => absurd z hok) (fun _ => ?_)
    exact br_f (by decide) ⟨rfl, om_rel hh hH⟩
theorem i_vc_drop {k : Nat} {u : SX} {v : SY} (I : i_Rel k u v) (hk : k + 6 ≤ 3072) (v1 : Int32) : wpX_drop (fun r u' => wpY_drop (fun r' v' => r' = r ∧ i_Rel (k + 6) u' v') v v1) u v1 := by
  obtain ⟨h, ro, fr, co, li, ee, fac, bd, ff, fb, fx, rfl, rfl, hh, hH⟩ := I
  rcases pk_ix v1 (show h < 2 ^ 31 by omega) with hneg | hge | ⟨j, hj, rfl⟩
  · exact br_t hneg (br_t hneg ⟨rfl, om_rel hh hH⟩)
  · have h0 : ¬ v1 < 0 := by
      rw [Int32.le_iff_toInt_le, nI_toInt (by omega)] at hge
      rw [Int32.lt_iff_toInt_lt, om_l0]
      omega
    have h1 : ¬ v1 < nI h := Int32.not_lt.mpr hge
    exact br_f h0 (br_f h1 (br_f h0 (br_f h1 ⟨rfl, om_rel hh hH⟩)))
  · obtain ⟨h, rfl⟩ : ∃ q, h = q + 1 := ⟨h - 1, by omega⟩
    obtain ⟨co', li', ee', h1, hX, hY⟩ := om_drop26 (ro := ro) (fr := fr) (wo := -1) (fac := fac) (bd := bd) (ff := ff) (fb := fb) (fx := fx) (show h < 8 by omega) (h - j) j (by omega) co li ee hH
    have h0 : ¬ nI j < 0 := nI_pos (by omega)
    have h2 : nI j < nI (h + 1) := nI_lt hj (by omega)
    exact br_f h0 (br_t h2 (nm_r (nI_pred h) ⟨_, hX _ (br_f h0 (br_t h2 (nm_r (nI_pred h) ⟨_, hY _ ⟨rfl, om_rel (by omega) h1⟩⟩)))⟩))
theorem i_vc_possible {k : Nat} {u : SX} {v : SY} (I : i_Rel k u v) (hk : k + 6 ≤ 3072) : wpX_possible (fun r u' => wpY_possible (fun r' => r' = r ∧ i_Rel (k + 6) u' v) v) u := by
  obtain ⟨h, ro, fr, co, li, ee, fac, bd, ff, fb, fx, rfl, rfl, hh, hH⟩ := I
  refine om_free (fun fx' f0 f1 f2 => ?_)
  refine om_collect (ro := ro) hh hH (fun j hj => Or.inl (om_fx3 f0 f1 f2 j hj)) (fun n fac' bd' h1 h2 h3 h4 => om_solvable (by omega) h2 h4 (fun r fr' ff' fb' h5 => ?_))
  rw [om_ex3 h3, om_E_row0 f0 f1 f2] at h5
  rcases h5 with ⟨rfl, r, hr, hq⟩ | ⟨rfl, hE⟩
  · exact br_f (by decide) (om_firstRow hh (om_Hy_of hH) (fun s hs _ _ => br_f (nI_pos (by omega)) ⟨rfl, om_rel hh hH⟩) (fun hn => absurd hq (hn r hr)))
  · exact br_t rfl (om_firstRow hh (om_Hy_of hH) (fun s hs p _ => absurd ⟨s, hs, p⟩ hE) (fun _ => br_t (by decide) ⟨rfl, om_rel hh hH⟩))
theorem i_vc_first {k : Nat} {u : SX} {v : SY} (I : i_Rel k u v) (hk : k + 6 ≤ 3072) (v1 : Int32) : wpX_first (fun r u' => wpY_first (fun r' => r' = r ∧ i_Rel (k + 6) u' v) v v1) u v1 := by
  obtain ⟨h, ro, fr, co, li, ee, fac, bd, ff, fb, fx, rfl, rfl, hh, hH⟩ := I
  have bad : (v1 < 0 ∨ nI 3 ≤ v1) → wpY_first (fun r' => r' = 100 ∧ i_Rel (k + 6) (nI h, ro, fr, (-1), co, li, ee, fac, bd, ff, fb, fx) (nI h, om_j0 co, om_j1 co, om_j2 co, li, ee)) (nI h, om_j0 co, om_j1 co, om_j2 co, li, ee) v1 := by
    intro hv
    exact om_firstRow hh (om_Hy_of hH) (fun s hs _ _ => br_f (nI_pos (by omega)) (om_np1 hv (br_f (by decide) ⟨rfl, om_rel hh hH⟩))) (fun _ => br_t (by decide) ⟨rfl, om_rel hh hH⟩)
  rcases pk_ix v1 (show 3 < 2 ^ 31 by omega) with hneg | hge | ⟨p, hp, rfl⟩
  · exact br_t hneg (bad (Or.inl hneg))
  · have q := om_ge3 hge
    exact br_f q.1 (br_f q.2.1 (bad (Or.inr hge)))
  · refine br_f (nI_pos (by omega)) (br_t (nI_le (b := 2) (by omega) (by omega)) (om_free (fun fx' f0 f1 f2 => ⟨p + 1 + 1, ?_⟩)))
    rcases om_least (fun r => om_Q co li ee 0 h (-1) (om_vl r 0) (om_vl r 1) (om_vl r 2)) 2197 with ⟨r, hr, hq, hmin⟩ | hno
    · refine om_first18 (a := om_vl r 0) (b := om_vl r 1) (c := om_vl r 2) hh hH hp ⟨om_vl_b hr, om_vl_b hr, om_vl_b hr⟩ hq (fun x y z hx hy hz hq2 v hv he => ?_) (fun t ro' fr' fac' bd' ff' fb' fx'' et => ?_) (p + 1) 0 (by omega) ro fr fac bd ff fb fx' lt_0 (fun j _ hj => om_fx3 f0 f1 f2 j hj)
      · obtain ⟨s, hs, e0, e1, e2⟩ := om_rowOf hx hy hz
        subst e0 e1 e2
        have hle : r ≤ s := by
          by_cases hc : s < r
          · exact absurd hq2 (hmin s hc)
          · omega
        rw [om_pt_vl hv, om_pt_vl hv]
        refine om_lex hle hv (fun j hj => ?_)
        have := he j hj
        rw [om_pt_vl (by omega), om_pt_vl (by omega)] at this
        exact this
      · rw [om_pt_vl hp] at et
        refine om_firstRow hh (om_Hy_of hH) (fun s hs p1 m1 => ?_) (fun hn => absurd hq (hn r hr))
        have e : s = r := by
          by_cases c1 : s < r
          · exact absurd p1 (hmin s c1)
          · by_cases c2 : r < s
            · exact absurd hq (m1 r c2)
            · omega
        subst e
        exact br_f (nI_pos (by omega)) (om_np0 hp (br_t rfl (om_valueOf hr hp (fun q eq => ⟨Int32.toInt_inj.mp (eq.trans et.symm), om_rel hh hH⟩))))
    · refine br_f (nI_nlt (b := 0) (by omega) (by omega)) (om_leastValue (v := 0) hh hH (by omega) (fun j hj => Or.inl (om_fx3 f0 f1 f2 j hj)) (fun r ro' fr' fac' bd' ff' fb' fx'' h3 h4 h5 => ?_))
      rcases h5 with ⟨h5, h6, _⟩ | ⟨rfl, _⟩
      · obtain ⟨s, hs, q1, _⟩ := (om_Ev_row (by omega) (om_fx3 f0 f1 f2) h5).mp h6
        exact absurd q1 (hno s hs)
      · exact br_t rfl (om_firstRow hh (om_Hy_of hH) (fun s hs p1 _ => absurd p1 (hno s hs)) (fun _ => br_t (by decide) ⟨rfl, om_rel hh hH⟩))
end
section
/-! the owed statements: extreme, with, follows, spare -/
theorem i_vc_extreme {k : Nat} {u : SX} {v : SY} (I : i_Rel k u v) (hk : k + 6 ≤ 3072) (v1 : Int32) (v2 : Int32) : wpX_extreme (fun r u' => wpY_extreme (fun r' => r' = r ∧ i_Rel (k + 6) u' v) v v1 (lw_bz v2)) u v1 (lw_bz v2) := by
  obtain ⟨h, ro, fr, co, li, ee, fac, bd, ff, fb, fx, rfl, rfl, hh, hH⟩ := I
  rcases pk_ix v1 (show 3 < 2 ^ 31 by omega) with hneg | hge | ⟨p, hp, rfl⟩
  · refine br_t hneg ?_
    unfold wpY_extreme
    dsimp only
    refine om_np1 (Or.inl hneg) ?_
    exact br_f (by decide) ⟨rfl, om_rel hh hH⟩
  · have q := om_ge3 hge
    refine br_f q.1 (br_f q.2.1 ?_)
    unfold wpY_extreme
    dsimp only
    refine om_np1 (Or.inr hge) ?_
    exact br_f (by decide) ⟨rfl, om_rel hh hH⟩
  · refine br_f (nI_pos (by omega)) (br_t (nI_le (b := 2) (by omega) (by omega)) (om_free (fun fx' f0 f1 f2 => ?_)))
    refine om_leastValue hh hH hp (fun j hj => Or.inl (om_fx3 f0 f1 f2 j hj)) (fun r ro' fr' fac' bd' ff' fb' fx'' h3 h4 h5 => ?_)
    dsimp only
    unfold wpY_extreme
    dsimp only
    refine om_np0 hp ?_
    refine br_t rfl ⟨2198, om_extreme16 hh (om_Hy_of hH) hp (fun best hb => ⟨?_, om_rel hh hH⟩) 2197 0 (by omega) 100 (Or.inl ⟨rfl, lt_0⟩)⟩
    have row : ∀ t : Int, (-6 ≤ t ∧ t ≤ 6) → (om_Ev co li ee h (-1) p fx' t ↔ ∃ s : Nat, s < 2197 ∧ om_Q co li ee 0 h (-1) (om_vl s 0) (om_vl s 1) (om_vl s 2) ∧ om_vl s p = t) := fun t ht => om_Ev_row hp (om_fx3 f0 f1 f2) ht
    rcases h5 with ⟨h5, h6, h7⟩ | ⟨er, h5⟩
    · obtain ⟨s1, g1, g2, g3⟩ := (row _ h5).mp h6
      rcases hb with ⟨_, hb⟩ | ⟨⟨s, b1, b2, b3, b4⟩, b5⟩
      · exact absurd g2 (hb s1 g1)
      · have hbb := om_vl_b (v := p) b2
        have n1 := fun z => h7 (om_vl s p) hbb z ((row _ hbb).mpr ⟨s, b2, b3, rfl⟩)
        have n2 := b5 s1 g1 g2
        rw [g3, b4] at n2
        apply Int32.toInt_inj.mp
        rw [b4]
        by_cases hg : lw_bz v2 = 0
        · by_cases c1 : om_vl s p < r.toInt
          · exact absurd ⟨fun _ => c1, fun z => absurd hg z⟩ n1
          · by_cases c2 : r.toInt < om_vl s p
            · exact absurd ⟨fun _ => c2, fun z => absurd hg z⟩ n2
            · omega
        · by_cases c1 : r.toInt < om_vl s p
          · exact absurd ⟨fun z => absurd z hg, fun _ => c1⟩ n1
          · by_cases c2 : om_vl s p < r.toInt
            · exact absurd ⟨fun z => absurd z hg, fun _ => c2⟩ n2
            · omega
    · rcases hb with ⟨hb, _⟩ | ⟨⟨s, b1, b2, b3, b4⟩, b5⟩
      · rw [hb, er]
      · have hbb := om_vl_b (v := p) b2
        exact absurd ((row _ hbb).mpr ⟨s, b2, b3, rfl⟩) (h5 _ hbb)
theorem i_vc_with {k : Nat} {u : SX} {v : SY} (I : i_Rel k u v) (hk : k + 6 ≤ 3072) (v1 : Int32) (v2 : Int32) : wpX_with (fun r u' => wpY_with (fun r' => r' = r ∧ i_Rel (k + 6) u' v) v v1 v2) u v1 v2 := by
  obtain ⟨h, ro, fr, co, li, ee, fac, bd, ff, fb, fx, rfl, rfl, hh, hH⟩ := I
  rcases pk_ix v1 (show 3 < 2 ^ 31 by omega) with hneg | hge | ⟨p, hp, rfl⟩
  · refine br_t hneg ?_
    unfold wpY_with
    dsimp only
    refine om_np1 (Or.inl hneg) ?_
    exact br_f (by decide) ⟨rfl, om_rel hh hH⟩
  · have q := om_ge3 hge
    refine br_f q.1 (br_t q.2.2 ?_)
    unfold wpY_with
    dsimp only
    refine om_np1 (Or.inr hge) ?_
    exact br_f (by decide) ⟨rfl, om_rel hh hH⟩
  · have out : ¬ (-6 ≤ v2.toInt ∧ v2.toInt ≤ 6) → wpY_with (fun r' => r' = 0 ∧ i_Rel (k + 6) (nI h, ro, fr, (-1), co, li, ee, fac, bd, ff, fb, fx) (nI h, om_j0 co, om_j1 co, om_j2 co, li, ee)) (nI h, om_j0 co, om_j1 co, om_j2 co, li, ee) (nI p) v2 := by
      intro ho
      unfold wpY_with
      dsimp only
      refine om_np0 hp ?_
      refine br_t rfl ⟨2198, om_with11 hh (om_Hy_of hH) hp (fun r hr e _ => ?_) (fun _ => ⟨rfl, om_rel hh hH⟩) 2197 0 (by omega) lt_0⟩
      have := om_vl_b (v := p) hr
      exact absurd (by omega) ho
    refine br_f (nI_pos (by omega)) (br_f (nI_nlt (b := p) (a := 2) (by omega) (by omega)) (om_lt v2.toInt (-6) (fun h1 => out (by omega)) (fun h1 => om_le v2.toInt 6 (fun h2 => ?_) (fun h2 => out (by omega)) rfl om_l6) rfl om_l6n))
    refine om_free (fun fx' f0 f1 f2 => ⟨vp_in_nI (by omega) (by omega), ?_⟩)
    rw [nI_clamp (by omega)]
    have hR : om_R 6 v2 := ⟨h1, h2⟩
    have hf : ∀ j : Nat, j < 3 → upd fx' p v2 j = 100 ∨ om_R 6 (upd fx' p v2 j) := by
      intro j hj
      by_cases e : j = p
      · rw [e, pk_us]; exact Or.inr hR
      · rw [pk_un e]; exact Or.inl (om_fx3 f0 f1 f2 j hj)
    refine nm_e (om_collect hh hH hf (fun n fac' bd' g1 g2 g3 g4 => om_solvable (by omega) g2 g4 (fun r fr' ff' fb' h5 => ?_)))
    rw [om_ex3 g3, om_Ev_iff (fx := fx') hp (fun j hj => pk_un hj) pk_us hR, om_Ev_row hp (om_fx3 f0 f1 f2) hR] at h5
    rcases h5 with ⟨rfl, r, hr, hq, e⟩ | ⟨rfl, hE⟩
    · refine br_f (by decide) ?_
      unfold wpY_with
      dsimp only
      refine om_np0 hp ?_
      exact br_t rfl ⟨2198, om_with11 hh (om_Hy_of hH) hp (fun s hs _ _ => ⟨rfl, om_rel hh hH⟩) (fun hn => absurd hq (hn r hr e)) 2197 0 (by omega) lt_0⟩
    · refine br_t rfl ?_
      unfold wpY_with
      dsimp only
      refine om_np0 hp ?_
      exact br_t rfl ⟨2198, om_with11 hh (om_Hy_of hH) hp (fun s hs e p1 => absurd ⟨s, hs, p1, e⟩ hE) (fun _ => ⟨rfl, om_rel hh hH⟩) 2197 0 (by omega) lt_0⟩
theorem i_vc_follows {k : Nat} {u : SX} {v : SY} (I : i_Rel k u v) (hk : k + 6 ≤ 3072) (v1 : Int32) (v2 : Int32) (v3 : Int32) (v4 : Int32) : wpX_follows (fun r u' => wpY_follows (fun r' => r' = r ∧ i_Rel (k + 6) u' v) v v1 v2 v3 v4) u v1 v2 v3 v4 := by
  obtain ⟨h, ro, fr, co, li, ee, fac, bd, ff, fb, fx, rfl, rfl, hh, hH⟩ := I
  unfold wpX_follows
  dsimp only
  refine om_areRight (fun hok => ?_) (fun hok => ?_)
  · refine br_f (by decide) (om_free (fun fx' f0 f1 f2 => ?_))
    obtain ⟨r1, r2, r3, r4⟩ := hok
    have n1 := om_neg r1 (by omega)
    have n2 := om_neg r2 (by omega)
    have n3 := om_neg r3 (by omega)
    have n4 := om_neg r4 (by omega)
    have n5 := om_sub (y := 1) (B := 1) n4.2 ⟨by decide, by decide⟩ (by decide)
    refine om_collect (ro := ro) hh hH (fun j hj => Or.inl (om_fx3 f0 f1 f2 j hj)) (fun n fac1 bd1 h1 h2 h3 h4 => ?_)
    refine om_put (by omega) h2 n1.2 n2.2 n3.2 n5.2 (fun fac2 bd2 h5 h6 => om_solvable (by omega) h5 (fun x y z w => h4 x y z ((h6 x y z).mp w).1) (fun r fr' ff' fb' h7 => ?_))
    have h8 : ∀ x y z : Int, om_S fac2 bd2 (n + 1) x y z ↔ (om_Q co li ee 0 h (-1) x y z ∧ om_fx (fx' 0) x ∧ om_fx (fx' 1) y ∧ om_fx (fx' 2) z) ∧ v4.toInt < v1.toInt * x + v2.toInt * y + v3.toInt * z := by
      intro x y z
      rw [h6 x y z, h3 x y z, n5.1, n4.1, n3.1, n2.1, n1.1, om_l1, Int.neg_mul, Int.neg_mul, Int.neg_mul]
      exact and_congr_right (fun _ => by omega)
    rw [om_ex3 h8, om_E_row (T := fun x y z => v4.toInt < v1.toInt * x + v2.toInt * y + v3.toInt * z) f0 f1 f2] at h7
    rcases h7 with ⟨rfl, r, hr, hq, hl⟩ | ⟨rfl, hE⟩
    · refine br_f (by decide) ?_
      unfold wpY_follows
      dsimp only
      refine om_bad (fun _ => ?_) (fun z => absurd ⟨r1, r2, r3, r4⟩ z)
      exact br_t rfl ⟨2198, om_follows16 hh (om_Hy_of hH) r1 r2 r3 (fun s hs _ _ => ⟨rfl, om_rel hh hH⟩) (fun hn => absurd hq (hn r hr hl)) 2197 0 (by omega) lt_0⟩
    · refine br_t rfl ?_
      unfold wpY_follows
      dsimp only
      refine om_bad (fun _ => ?_) (fun z => absurd ⟨r1, r2, r3, r4⟩ z)
      exact br_t rfl ⟨2198, om_follows16 hh (om_Hy_of hH) r1 r2 r3 (fun s hs hl p1 => absurd ⟨s, hs, p1, hl⟩ hE) (fun _ => ⟨rfl, om_rel hh hH⟩) 2197 0 (by omega) lt_0⟩
  · refine br_t rfl ?_
    unfold wpY_follows
    dsimp only
    refine om_bad (fun z => absurd z hok) (fun _ => ?_)
    exact br_f (by decide) ⟨rfl, om_rel hh hH⟩
/-- condition i is spared: the others' solutions meet it -/
def om_T (co li ee : Nat → Int32) (h i : Nat) : Prop := ∀ r : Nat, r < 2197 → om_Q co li ee 0 h (nI i) (om_vl r 0) (om_vl r 1) (om_vl r 2) → om_K co li ee i (om_vl r 0) (om_vl r 1) (om_vl r 2)
section
variable {co li ee ff fb fx : Nat → Int32}
theorem om_sp51 {post : Int32 → SX → Prop} {J : Int32 → Int32 → Int32 → Int32 → Int32 → Int32 → (Nat → Int32) → (Nat → Int32) → (Nat → Int32) → (Nat → Int32) → (Nat → Int32) → (Nat → Int32) → (Nat → Int32) → (Nat → Int32) → Prop} {T : Nat → Prop} {i : Nat} {hd ro fr wo over under : Int32} {fac bd : Nat → Int32}
    (ht : over = 0 ∧ under = 0 → T i) (hf : ¬ (over = 0 ∧ under = 0) → ¬ T i) (K : J (nI (om_ct T (i + 1))) (nI (i + 1)) hd ro fr (-1) co li ee fac bd ff fb fx) :
    wX_spare_51 post J (nI (om_ct T i)) (nI i) over under hd ro fr wo co li ee fac bd ff fb fx := by
  refine br_c (fun h1 => br_c (fun h2 => ?_) (fun h2 => ?_)) (fun h1 => ?_)
  · rw [om_ct_t (ht ⟨h1, h2⟩)] at K
    exact nm_r (nI_1 _) (nm_r (nI_1 i) K)
  · rw [om_ct_f (hf (fun z => h2 z.2))] at K
    exact nm_r (Int32.add_zero _) (nm_r (nI_1 i) K)
  · rw [om_ct_f (hf (fun z => h1 z.1))] at K
    exact nm_r (Int32.add_zero _) (nm_r (nI_1 i) K)
theorem om_spare8 {post : Int32 → SX → Prop} {h : Nat} (hh : h ≤ 8) (hH : om_H co li ee h) (f0 : fx 0 = 100) (f1 : fx 1 = 100) (f2 : fx 2 = 100)
    (H : ∀ (ro' fr' : Int32) (fac' bd' ff' fb' : Nat → Int32), post (nI (om_ct (om_T co li ee h) h)) (nI h, ro', fr', (-1), co, li, ee, fac', bd', ff', fb', fx)) :
    ∀ d i : Nat, i + d = h → ∀ (ro fr : Int32) (fac bd ff fb : Nat → Int32), wX_spare_8 post (d + 1) (nI (om_ct (om_T co li ee h) i)) (nI i) (nI h) ro fr (-1) co li ee fac bd ff fb fx := by
  intro d
  induction d with
  | zero =>
    intro i hi ro fr fac bd ff fb
    obtain rfl : i = h := by omega
    exact br_t (nI_le (by omega) (by omega)) (H _ _ _ _ _ _)
  | succ d ih =>
    intro i hi ro fr fac bd ff fb
    have ci : (nI i).toNatClampNeg = i := nI_clamp (by omega)
    have hfx : ∀ j : Nat, j < 3 → fx j = 100 ∨ om_R 6 (fx j) := fun j hj => Or.inl (om_fx3 f0 f1 f2 j hj)
    refine br_f (nI_ge (by omega) (by omega)) (om_broken (sg := 1) hh hH (show i < h by omega) ⟨by decide, by decide⟩ hfx (fun r1 ro1 fr1 fac1 bd1 ff1 fb1 g1 => ⟨vp_in_nI (by omega) (by omega), ?_⟩))
    rw [ci]
    rw [om_E_row (T := fun x y z => (-(1 : Int32).toInt * (co (3 * i)).toInt) * x + (-(1 : Int32).toInt * (co (3 * i + 1)).toInt) * y + (-(1 : Int32).toInt * (co (3 * i + 2)).toInt) * z ≤ -(1 : Int32).toInt * (li i).toInt - 1) f0 f1 f2] at g1
    have over : r1 = 0 → ∀ r : Nat, r < 2197 → om_Q co li ee 0 h (nI i) (om_vl r 0) (om_vl r 1) (om_vl r 2) → (co (3 * i)).toInt * om_vl r 0 + (co (3 * i + 1)).toInt * om_vl r 1 + (co (3 * i + 2)).toInt * om_vl r 2 ≤ (li i).toInt := by
      intro z r hr hq
      rcases g1 with ⟨e, _⟩ | ⟨_, g1⟩
      · rw [e] at z; exact absurd z (by decide)
      · by_cases hc : (co (3 * i)).toInt * om_vl r 0 + (co (3 * i + 1)).toInt * om_vl r 1 + (co (3 * i + 2)).toInt * om_vl r 2 ≤ (li i).toInt
        · exact hc
        · refine absurd ⟨r, hr, hq, ?_⟩ g1
          simp only [om_l1, Int.neg_mul, Int.one_mul]
          omega
    have over' : ¬ r1 = 0 → ∃ r : Nat, r < 2197 ∧ om_Q co li ee 0 h (nI i) (om_vl r 0) (om_vl r 1) (om_vl r 2) ∧ (li i).toInt < (co (3 * i)).toInt * om_vl r 0 + (co (3 * i + 1)).toInt * om_vl r 1 + (co (3 * i + 2)).toInt * om_vl r 2 := by
      intro z
      rcases g1 with ⟨_, r, hr, hq, hl⟩ | ⟨e, _⟩
      · simp only [om_l1, Int.neg_mul, Int.one_mul] at hl
        exact ⟨r, hr, hq, by omega⟩
      · exact absurd e z
    have nT : (∃ r : Nat, r < 2197 ∧ om_Q co li ee 0 h (nI i) (om_vl r 0) (om_vl r 1) (om_vl r 2) ∧ (li i).toInt < (co (3 * i)).toInt * om_vl r 0 + (co (3 * i + 1)).toInt * om_vl r 1 + (co (3 * i + 2)).toInt * om_vl r 2) → ¬ om_T co li ee h i := by
      intro ⟨r, hr, hq, hl⟩ t
      have tk := t r hr hq
      by_cases he : ee i = 0
      · have := tk.1 he; omega
      · have := tk.2 he; omega
    refine br_c (fun he => ?_) (fun he => ?_)
    · refine om_sp51 (T := om_T co li ee h) (fun z r hr hq => ⟨fun _ => over z.1 r hr hq, fun z2 => absurd he z2⟩) (fun z => nT (over' (fun z2 => z ⟨z2, rfl⟩))) (ih (i + 1) (by omega) _ _ _ _ _ _)
    · refine om_broken (sg := -1) hh hH (show i < h by omega) ⟨by decide, by decide⟩ hfx (fun r2 ro2 fr2 fac2 bd2 ff2 fb2 g2 => ?_)
      rw [om_E_row (T := fun x y z => (-(-1 : Int32).toInt * (co (3 * i)).toInt) * x + (-(-1 : Int32).toInt * (co (3 * i + 1)).toInt) * y + (-(-1 : Int32).toInt * (co (3 * i + 2)).toInt) * z ≤ -(-1 : Int32).toInt * (li i).toInt - 1) f0 f1 f2] at g2
      rcases g2 with ⟨rfl, r, hr, hq, hl⟩ | ⟨rfl, g2⟩
      · refine br_f (by decide) (om_sp51 (T := om_T co li ee h) (fun z => absurd z.2 (by decide)) (fun _ t => ?_) (ih (i + 1) (by omega) _ _ _ _ _ _))
        rw [om_l1n, Int.neg_neg, Int.one_mul, Int.one_mul, Int.one_mul, Int.one_mul] at hl
        have := (t r hr hq).2 he
        omega
      · refine br_t rfl (om_sp51 (T := om_T co li ee h) (fun z r hr hq => ⟨fun z2 => absurd z2 he, fun _ => ?_⟩) (fun z => nT (over' (fun z2 => z ⟨z2, rfl⟩))) (ih (i + 1) (by omega) _ _ _ _ _ _))
        have o1 := over z.1 r hr hq
        by_cases hc : (li i).toInt ≤ (co (3 * i)).toInt * om_vl r 0 + (co (3 * i + 1)).toInt * om_vl r 1 + (co (3 * i + 2)).toInt * om_vl r 2
        · omega
        · refine absurd ⟨r, hr, hq, ?_⟩ g2
          rw [om_l1n, Int.neg_neg, Int.one_mul, Int.one_mul, Int.one_mul, Int.one_mul]
          omega
end
theorem i_vc_spare {k : Nat} {u : SX} {v : SY} (I : i_Rel k u v) (hk : k + 6 ≤ 3072) : wpX_spare (fun r u' => wpY_spare (fun r' => r' = r ∧ i_Rel (k + 6) u' v) v) u := by
  obtain ⟨h, ro, fr, co, li, ee, fac, bd, ff, fb, fx, rfl, rfl, hh, hH⟩ := I
  refine om_free (fun fx' f0 f1 f2 => ⟨h + 1, ?_⟩)
  refine om_spare8 hh hH f0 f1 f2 (fun ro' fr' fac' bd' ff' fb' => ⟨h + 1, ?_⟩) h 0 (by omega) _ _ _ _ _ _
  exact om_spare4 (T := om_T co li ee h) hh (om_Hy_of hH) (fun i hi => Iff.rfl) ⟨rfl, om_rel hh hH⟩ h 0 (by omega)
end
