section
/-! pure rows to paste: stores, nI and lN arithmetic, masks, shifts, narrowing, branches by naturals (pk_le, pk_lt, pk_eq), loops (lp1 .. lp16: the measure of the state; rp1 ..: recursion), negatives. Take what you need -/
theorem pk_us {f : Nat → Int32} {k : Nat} {x : Int32} : upd f k x k = x := if_pos rfl
theorem pk_un {f : Nat → Int32} {k j : Nat} {x : Int32} (h : j ≠ k) : upd f k x j = f j := if_neg h
theorem pk_uLs {f : Nat → Int64} {k : Nat} {x : Int64} : vp_updL f k x k = x := if_pos rfl
theorem pk_uLn {f : Nat → Int64} {k j : Nat} {x : Int64} (h : j ≠ k) : vp_updL f k x j = f j := if_neg h
theorem pk_sub {a b : Nat} (h : b ≤ a) : nI a - nI b = nI (a - b) := by
  obtain ⟨c, rfl⟩ : ∃ c, a = c + b := ⟨a - b, by omega⟩
  rw [← nI_add, Int32.add_sub_cancel, Nat.add_sub_cancel]
theorem pk_m1 (n : Nat) : nI (n + 1) + (-1) = nI n := by
  rw [← nI_1, Int32.add_assoc, show (1 : Int32) + (-1) = 0 from rfl, Int32.add_zero]
theorem pk_mul (a b : Nat) : nI a * nI b = nI (a * b) := (Int32.ofNat_mul a b).symm
theorem pk_div {a d : Nat} (ha : a < 2 ^ 31) (h0 : 0 < d) (hd : d < 2 ^ 31) : nI a / nI d = nI (a / d) := by
  apply Int32.toInt_inj.mp
  rw [lg_idiv_nonneg (by rw [nI_toInt ha]; omega) (by rw [nI_toInt hd]; omega), nI_toInt ha, nI_toInt hd, nI_toInt (Nat.lt_of_le_of_lt (Nat.div_le_self a d) ha)]
  first | rfl | exact (Int.natCast_ediv _ _).symm
theorem pk_rem {a d : Nat} (ha : a < 2 ^ 31) (h0 : 0 < d) (hd : d < 2 ^ 31) : nI a - nI a / nI d * nI d = nI (a % d) := by
  rw [pk_div ha h0 hd, pk_mul, pk_sub (Nat.div_mul_le_self a d)]
  exact congrArg nI (by have := Nat.div_add_mod' a d; omega)
theorem pk_sub_toInt {a b : Nat} (ha : a < 2 ^ 30) (hb : b < 2 ^ 30) : (nI a - nI b).toInt = (a : Int) - b := by
  rw [Int32.toInt_sub, nI_toInt (by omega), nI_toInt (by omega)]
  exact Int.bmod_eq_of_le (by omega) (by omega)
theorem pk_sneg {a b : Nat} (hb : b < 2 ^ 30) (h : a < b) : nI a - nI b < 0 := by
  rw [Int32.lt_iff_toInt_lt, pk_sub_toInt (by omega) hb, show (0 : Int32).toInt = 0 from by decide]
  omega
theorem pk_ix (x : Int32) {n : Nat} (hn : n < 2 ^ 31) : x < 0 ∨ nI n ≤ x ∨ ∃ j : Nat, j < n ∧ x = nI j := by
  by_cases h : x < 0
  · exact Or.inl h
  · obtain ⟨j, hj, rfl⟩ := nI_of h
    by_cases h2 : j < n
    · exact Or.inr (Or.inr ⟨j, h2, rfl⟩)
    · exact Or.inr (Or.inl (nI_le (by omega) hj))
theorem pk_le {x y : Int32} {A B : Prop} (a b : Nat) (f : a ≤ b → A) (g : b < a → B) (hx : x = nI a := by rfl) (hy : y = nI b := by rfl) (ha : a < 2 ^ 31 := by omega) (hb : b < 2 ^ 31 := by omega) : (x ≤ y → A) ∧ (¬ x ≤ y → B) := by
  subst hx hy
  rw [nI_leI ha hb]
  exact ⟨f, fun z => g (by omega)⟩
theorem pk_lt {x y : Int32} {A B : Prop} (a b : Nat) (f : a < b → A) (g : b ≤ a → B) (hx : x = nI a := by rfl) (hy : y = nI b := by rfl) (ha : a < 2 ^ 31 := by omega) (hb : b < 2 ^ 31 := by omega) : (x < y → A) ∧ (¬ x < y → B) := by
  subst hx hy
  rw [nI_ltI ha hb]
  exact ⟨f, fun z => g (by omega)⟩
theorem pk_eq {x y : Int32} {A B : Prop} (a b : Nat) (f : a = b → A) (g : a ≠ b → B) (hx : x = nI a := by rfl) (hy : y = nI b := by rfl) (ha : a < 2 ^ 31 := by omega) (hb : b < 2 ^ 31 := by omega) : (x = y → A) ∧ (¬ x = y → B) := by
  subst hx hy
  rw [nI_eq ha hb]
  exact ⟨f, g⟩
theorem pk_in {x : Int32} (n N : Nat) (h : n < N) (hx : x = nI n := by rfl) (hN : N < 2 ^ 31 := by omega) : vp_in x N := by
  subst hx
  exact vp_in_nI h hN
theorem pk_cl {x : Int32} (n : Nat) (hx : x = nI n := by rfl) (h : n < 2 ^ 31 := by omega) : x.toNatClampNeg = n := by
  subst hx
  exact nI_clamp h
theorem pk_tn {n : Nat} (h : n < 2 ^ 32) : (nI n).toBitVec.toNat = n := Nat.mod_eq_of_lt h
theorem pk_lT {n : Nat} (h : n < 2 ^ 63) : (lN n).toInt = (n : Int) := lg_ofNat_toInt h
theorem pk_lLT {a b : Nat} (ha : a < 2 ^ 63) (hb : b < 2 ^ 63) : lN a < lN b ↔ a < b := by
  rw [Int64.lt_iff_toInt_lt, pk_lT ha, pk_lT hb]; omega
theorem pk_lLE {a b : Nat} (ha : a < 2 ^ 63) (hb : b < 2 ^ 63) : lN a ≤ lN b ↔ a ≤ b := by
  rw [Int64.le_iff_toInt_le, pk_lT ha, pk_lT hb]; omega
theorem pk_lEQ {a b : Nat} (ha : a < 2 ^ 63) (hb : b < 2 ^ 63) : lN a = lN b ↔ a = b := by
  rw [← Int64.toInt_inj, pk_lT ha, pk_lT hb]; omega
theorem pk_lOf {x : Int64} (h : ¬ x < 0) : ∃ k : Nat, k < 2 ^ 63 ∧ x = lN k := by
  rw [Int64.lt_iff_toInt_lt] at h
  have h0 : (0 : Int64).toInt = 0 := by decide
  have hx := Int64.toInt_lt x
  refine ⟨x.toInt.toNat, by omega, Int64.toInt_inj.mp ?_⟩
  rw [pk_lT (by omega)]
  omega
theorem pk_lDiv {a b : Nat} (ha : a < 2 ^ 63) (h0 : 0 < b) (hb : b < 2 ^ 63) : lN a / lN b = lN (a / b) := by
  apply Int64.toInt_inj.mp
  rw [lg_ldiv_nonneg (by rw [pk_lT ha]; omega) (by rw [pk_lT hb]; omega), pk_lT ha, pk_lT hb, pk_lT (Nat.lt_of_le_of_lt (Nat.div_le_self a b) ha)]
  rfl
theorem pk_lRem {a b : Nat} (ha : a < 2 ^ 63) (h0 : 0 < b) (hb : b < 2 ^ 63) : lN a - lN a / lN b * lN b = lN (a % b) := by
  rw [pk_lDiv ha h0 hb, lN_mul, lN_sub (Nat.div_mul_le_self a b)]
  exact congrArg lN (by have := Nat.div_add_mod' a b; omega)
theorem pk_loop {σ : Type} (W : Nat → Nat → σ → Prop) (I : Nat → σ → Prop) (e i0 : Nat) (s : σ) (hi : i0 ≤ e) (h0 : I i0 s) (hx : ∀ n s, I e s → W (n + 1) e s)
    (hs : ∀ n i s, i < e → I i s → (∀ s', I (i + 1) s' → W n (i + 1) s') → W (n + 1) i s) : ∃ n, W n i0 s :=
  ⟨e + 1, loop_i W I e hx hs (e + 1) i0 s hi (by omega) h0⟩
theorem pk_loopD {σ : Type} (W : Nat → Nat → σ → Prop) (I : Nat → σ → Prop) (hx : ∀ n s, I 0 s → W (n + 1) 0 s)
    (hs : ∀ n i s, I (i + 1) s → (∀ s', I i s' → W n i s') → W (n + 1) (i + 1) s) : ∀ (e : Nat) (s : σ), I e s → W (e + 1) e s := by
  intro e
  induction e with
  | zero => exact fun s h => hx 0 s h
  | succ e ih => exact fun s h => hs (e + 1) e s h (fun s' h' => ih s' h')
theorem sb_cl0 : (0 : Int32).toNatClampNeg = 0 := by decide
theorem sb_m1 {p : Nat} (h : 0 < p) : nI p + (-1) = nI (p - 1) := by
  obtain ⟨q, rfl⟩ : ∃ q, p = q + 1 := ⟨p - 1, by omega⟩
  exact pk_m1 q
theorem sb_negT {w : Nat} (h : w < 2 ^ 31) : (-nI w).toInt = -(w : Int) := by
  rw [Int32.toInt_neg, nI_toInt h]
  exact Int.bmod_eq_of_le (by omega) (by omega)
theorem sb_nle {a b : Nat} (ha : a < 2 ^ 31) (hb : b < 2 ^ 31) : -nI a ≤ -nI b ↔ b ≤ a := by
  rw [Int32.le_iff_toInt_le, sb_negT ha, sb_negT hb]
  omega
theorem sb_nlt {a b : Nat} (ha : a < 2 ^ 31) (hb : b < 2 ^ 31) : -nI a < -nI b ↔ b < a := by
  rw [Int32.lt_iff_toInt_lt, sb_negT ha, sb_negT hb]
  omega
end
section
/-! 02: arrays as values; the component's heap -/
abbrev aw_V : Type := Nat × Nat × Nat × (Nat → Int32)
/-- rank, rows, columns that an array may have -/
def aw_ok (r m n : Nat) : Prop := (r = 0 ∧ m = 1 ∧ n = 1) ∨ (r = 1 ∧ m = 1 ∧ n ≤ 36) ∨ (r = 2 ∧ m ≤ 6 ∧ n ≤ 6)
theorem aw_okb {r m n : Nat} (h : aw_ok r m n) : r ≤ 2 ∧ m ≤ 6 ∧ n ≤ 36 ∧ m * n ≤ 36 := by
  rcases h with ⟨h1, h2, h3⟩ | ⟨h1, h2, h3⟩ | ⟨h1, h2, h3⟩
  · subst h1 h2 h3; exact ⟨by decide, by decide, by decide, by decide⟩
  · subst h1 h2; exact ⟨by decide, by decide, h3, by omega⟩
  · subst h1; exact ⟨by decide, h2, by omega, Nat.le_trans (Nat.mul_le_mul h2 h3) (by decide)⟩
theorem aw_ok0 : aw_ok 0 1 1 := Or.inl ⟨rfl, rfl, rfl⟩
theorem aw_ok1 {n : Nat} (h : n ≤ 36) : aw_ok 1 1 n := Or.inr (Or.inl ⟨rfl, rfl, h⟩)
theorem aw_ok2 {m n : Nat} (h : m ≤ 6) (h' : n ≤ 6) : aw_ok 2 m n := Or.inr (Or.inr ⟨rfl, h, h'⟩)
theorem aw_okm {r m n : Nat} (h : aw_ok r m n) (hr : r ≠ 2) : m = 1 := by
  rcases h with ⟨h1, h2, h3⟩ | ⟨h1, h2, h3⟩ | ⟨h1, h2, h3⟩
  · exact h2
  · exact h2
  · exact absurd h1 hr
theorem aw_okz {r m n : Nat} (h : aw_ok r m n) (hr : r = 0) : m = 1 ∧ n = 1 := by
  rcases h with ⟨h1, h2, h3⟩ | ⟨h1, h2, h3⟩ | ⟨h1, h2, h3⟩
  · exact ⟨h2, h3⟩
  · omega
  · omega
theorem aw_okn {r m n : Nat} (h : aw_ok r m n) (hr : r = 2) : m ≤ 6 ∧ n ≤ 6 := by
  rcases h with ⟨h1, h2, h3⟩ | ⟨h1, h2, h3⟩ | ⟨h1, h2, h3⟩
  · omega
  · omega
  · exact ⟨h2, h3⟩
/-- slot a holds the array (r, m, n, c), its numbers below place U of the store -/
def aw_SV (st rk ro cl sr rs sp : Nat → Int32) (U a r m n : Nat) (c : Nat → Int32) : Prop :=
  rk a = nI r ∧ ro a = nI m ∧ cl a = nI n ∧ ∀ i j, i < m → j < n → ∃ p, p < U ∧ sr a + nI i * rs a + nI j * sp a = nI p ∧ st p = c (i * n + j)
/-- what reading a slot wants -/
def aw_SK (st rk ro cl sr rs sp : Nat → Int32) (U a r m n : Nat) (c : Nat → Int32) : Prop :=
  a < 48 ∧ U ≤ 1800 ∧ aw_ok r m n ∧ aw_SV st rk ro cl sr rs sp U a r m n c
/-- the heap: slots below T as g says -/
def aw_HP (g : Nat → Option aw_V) (T U : Nat) (rk ro cl sr rs sp hv st : Nat → Int32) : Prop :=
  U ≤ 1800 ∧ ∀ a, a < T → (g a = none → hv a = 0) ∧ ∀ r m n c, g a = some (r, m, n, c) → ¬ hv a = 0 ∧ aw_ok r m n ∧ aw_SV st rk ro cl sr rs sp U a r m n c
def aw_HX (g : Nat → Option aw_V) (T : Nat) (us : Int32) (rk ro cl sr rs sp hv st : Nat → Int32) : Prop :=
  ∃ U, us = nI U ∧ aw_HP g T U rk ro cl sr rs sp hv st
def aw_gs (g : Nat → Option aw_V) (t : Nat) (v : aw_V) : Nat → Option aw_V := fun a => if a = t then some v else g a
theorem aw_gss {g : Nat → Option aw_V} {t : Nat} {v : aw_V} : aw_gs g t v t = some v := if_pos rfl
theorem aw_gsn {g : Nat → Option aw_V} {t a : Nat} {v : aw_V} (h : a ≠ t) : aw_gs g t v a = g a := if_neg h
/-- a slot that has just got a shape and room of its own -/
def aw_MK (g : Nat → Option aw_V) (T s r m n : Nat) (us : Int32) (rk ro cl sr rs sp hv st : Nat → Int32) : Prop :=
  aw_HP g T s rk ro cl sr rs sp hv st ∧ s + m * n ≤ 1800 ∧ us = nI (s + m * n) ∧ aw_ok r m n ∧ rk T = nI r ∧ ro T = nI m ∧ cl T = nI n ∧ sr T = nI s ∧ rs T = nI n ∧ sp T = 1 ∧ ¬ hv T = 0
section
variable {rk ro cl sr rs sp hv st rk' ro' cl' sr' rs' sp' hv' st' : Nat → Int32} {g : Nat → Option aw_V} {T U a r m n s t : Nat} {c : Nat → Int32} {us : Int32}
theorem hp_sk (h : aw_HP g T U rk ro cl sr rs sp hv st) (hT : T ≤ 48) (ha : a < T) (hg : g a = some (r, m, n, c)) : aw_SK st rk ro cl sr rs sp U a r m n c :=
  ⟨by omega, h.1, ((h.2 a ha).2 r m n c hg).2⟩
theorem hp_hv (h : aw_HP g T U rk ro cl sr rs sp hv st) (ha : a < T) (hg : g a = some (r, m, n, c)) : ¬ hv a = 0 := ((h.2 a ha).2 r m n c hg).1
theorem hp_none (h : aw_HP g T U rk ro cl sr rs sp hv st) (ha : a < T) (hg : g a = none) : hv a = 0 := (h.2 a ha).1 hg
/-- a store beyond the used room keeps the heap -/
theorem hp_upd {q : Nat} {v : Int32} (h : aw_HP g T U rk ro cl sr rs sp hv st) (hq : U ≤ q) : aw_HP g T U rk ro cl sr rs sp hv (upd st q v) := by
  refine ⟨h.1, fun a ha => ⟨(h.2 a ha).1, fun r m n c hg => ?_⟩⟩
  obtain ⟨h1, h2, h3, h4, h5, h6⟩ := (h.2 a ha).2 r m n c hg
  refine ⟨h1, h2, h3, h4, h5, fun i j hi hj => ?_⟩
  obtain ⟨p, hp, e, es⟩ := h6 i j hi hj
  exact ⟨p, hp, e, by rw [pk_un (by omega)]; exact es⟩
/-- more used room -/
theorem hp_more {U' : Nat} (h : aw_HP g T U rk ro cl sr rs sp hv st) (h1 : U ≤ U') (h2 : U' ≤ 1800) : aw_HP g T U' rk ro cl sr rs sp hv st := by
  refine ⟨h2, fun a ha => ⟨(h.2 a ha).1, fun r m n c hg => ?_⟩⟩
  obtain ⟨h1, h2, h3, h4, h5, h6⟩ := (h.2 a ha).2 r m n c hg
  refine ⟨h1, h2, h3, h4, h5, fun i j hi hj => ?_⟩
  obtain ⟨p, hp, e, es⟩ := h6 i j hi hj
  exact ⟨p, by omega, e, es⟩
theorem hp_less {T' : Nat} (h : aw_HP g T U rk ro cl sr rs sp hv st) (h1 : T' ≤ T) : aw_HP g T' U rk ro cl sr rs sp hv st :=
  ⟨h.1, fun a ha => h.2 a (by omega)⟩
/-- arrays that agree below T -/
theorem hp_off (h : aw_HP g T U rk ro cl sr rs sp hv st)
    (e : ∀ a, a < T → rk' a = rk a ∧ ro' a = ro a ∧ cl' a = cl a ∧ sr' a = sr a ∧ rs' a = rs a ∧ sp' a = sp a ∧ hv' a = hv a) : aw_HP g T U rk' ro' cl' sr' rs' sp' hv' st := by
  refine ⟨h.1, fun a ha => ?_⟩
  obtain ⟨e1, e2, e3, e4, e5, e6, e7⟩ := e a ha
  unfold aw_SV
  rw [e1, e2, e3, e4, e5, e6, e7]
  exact h.2 a ha
/-- one slot anew -/
theorem hp_put {T' : Nat} (h : aw_HP g T U rk ro cl sr rs sp hv st) (hT : ∀ a, a < T' → a ≠ t → a < T)
    (e : ∀ a, a < T → a ≠ t → rk' a = rk a ∧ ro' a = ro a ∧ cl' a = cl a ∧ sr' a = sr a ∧ rs' a = rs a ∧ sp' a = sp a ∧ hv' a = hv a)
    (hh : ¬ hv' t = 0) (hok : aw_ok r m n) (hS : aw_SV st rk' ro' cl' sr' rs' sp' U t r m n c) : aw_HP (aw_gs g t (r, m, n, c)) T' U rk' ro' cl' sr' rs' sp' hv' st := by
  refine ⟨h.1, fun a ha => ?_⟩
  by_cases z : a = t
  · subst z
    rw [aw_gss]
    refine ⟨(by intro z; cases z), fun r1 m1 n1 c1 e1 => ?_⟩
    cases e1
    exact ⟨hh, hok, hS⟩
  · rw [aw_gsn z]
    obtain ⟨e1, e2, e3, e4, e5, e6, e7⟩ := e a (hT a ha z) z
    unfold aw_SV
    rw [e1, e2, e3, e4, e5, e6, e7]
    exact h.2 a (hT a ha z)
/-- the new slot is filled -/
theorem mk_done (M : aw_MK g T s r m n us rk ro cl sr rs sp hv st) (h : aw_HP g T s rk ro cl sr rs sp hv st') (hc : ∀ q, q < m * n → st' (s + q) = c q) :
    aw_HX (aw_gs g T (r, m, n, c)) (T + 1) us rk ro cl sr rs sp hv st' := by
  obtain ⟨_, h1, h2, h3, h4, h5, h6, h7, h8, h9, h10⟩ := M
  refine ⟨s + m * n, h2, hp_put (hp_more h (by omega) h1) (fun a ha z => by omega) (fun a _ _ => ⟨rfl, rfl, rfl, rfl, rfl, rfl, rfl⟩) h10 h3 ⟨h4, h5, h6, fun i j hi hj => ?_⟩⟩
  have hq : i * n + j < m * n := by
    have := Nat.mul_le_mul_right n (show i + 1 ≤ m from hi)
    rw [Nat.succ_mul] at this
    omega
  refine ⟨s + (i * n + j), by omega, ?_, hc _ hq⟩
  rw [h7, h8, h9, pk_mul, nI_add, Int32.mul_one, nI_add, Nat.add_assoc]
theorem mk_hp (M : aw_MK g T s r m n us rk ro cl sr rs sp hv st) : aw_HP g T s rk ro cl sr rs sp hv st := M.1
theorem mk_top (M : aw_MK g T s r m n us rk ro cl sr rs sp hv st) : sr T = nI s := M.2.2.2.2.2.2.2.1
theorem mk_room (M : aw_MK g T s r m n us rk ro cl sr rs sp hv st) : s + m * n ≤ 1800 := M.2.1
theorem xl_cl {f : Nat → Int32} {v : Int32} (ha : a < 2 ^ 31) (h : f a = v) : f (nI a).toNatClampNeg = v := by rw [nI_clamp ha]; exact h
theorem xl_uc {f : Nat → Int32} {v w : Int32} (ha : a < 2 ^ 31) (h : v = w) : upd f (nI a).toNatClampNeg v = upd f a w := by rw [nI_clamp ha, h]
/-- the fill loop: a store a round, at s + (b + j) -/
theorem xl_fill (W : Nat → Nat → (Nat → Int32) → Prop) (b N : Nat) (c : Nat → Int32) (hH : aw_HP g T s rk ro cl sr rs sp hv st) (h0 : ∀ q, q < b → st (s + q) = c q)
    (hx : ∀ n st', aw_HP g T s rk ro cl sr rs sp hv st' → (∀ q, q < b + N → st' (s + q) = c q) → W (n + 1) N st')
    (hs : ∀ n j st', j < N → aw_HP g T s rk ro cl sr rs sp hv st' → W n (j + 1) (upd st' (s + (b + j)) (c (b + j))) → W (n + 1) j st') : ∃ n, W n 0 st := by
  refine loop_0 W (fun k st' => aw_HP g T s rk ro cl sr rs sp hv st' ∧ ∀ q, q < b + k → st' (s + q) = c q) N st ⟨hH, h0⟩ (fun n st' I => hx n st' I.1 I.2) ?_
  intro n j st' hj I k
  refine hs n j st' hj I.1 (k _ ⟨hp_upd I.1 (by omega), fun q hq => ?_⟩)
  by_cases z : q = b + j
  · subst z; exact pk_us
  · rw [pk_un (by omega)]; exact I.2 q (by omega)
theorem xl_fill0 (W : Nat → Nat → (Nat → Int32) → Prop) (N : Nat) (c : Nat → Int32) (hH : aw_HP g T s rk ro cl sr rs sp hv st)
    (hx : ∀ n st', aw_HP g T s rk ro cl sr rs sp hv st' → (∀ q, q < N → st' (s + q) = c q) → W (n + 1) N st')
    (hs : ∀ n j st', j < N → aw_HP g T s rk ro cl sr rs sp hv st' → W n (j + 1) (upd st' (s + j) (c j)) → W (n + 1) j st') : ∃ n, W n 0 st := by
  refine loop_0 W (fun k st' => aw_HP g T s rk ro cl sr rs sp hv st' ∧ ∀ q, q < k → st' (s + q) = c q) N st ⟨hH, fun q hq => absurd hq (by omega)⟩ (fun n st' I => hx n st' I.1 I.2) ?_
  intro n j st' hj I k
  refine hs n j st' hj I.1 (k _ ⟨hp_upd I.1 (by omega), fun q hq => ?_⟩)
  by_cases z : q = j
  · subst z; exact pk_us
  · rw [pk_un (by omega)]; exact I.2 q (by omega)
/-- the tail of a round: a store and the next count -/
theorem xl_tail {J : Int32 → (Nat → Int32) → Prop} {E v v' k1 : Int32} {k q : Nat} (hE : E = nI q) (hq : q < 1800) (hv : v = v') (K : J (nI (k + 1)) (upd st q v')) (hk : k1 = nI k := by rfl) :
    vp_in E 1800 ∧ ∀ y, y = upd st E.toNatClampNeg v → ∀ z, z = k1 + 1 → J z y := by
  subst hE hv hk
  refine ⟨vp_in_nI hq (by decide), ?_⟩
  intro y ey z ez
  subst ey ez
  rw [nI_clamp (by omega), nI_1]
  exact K
end
end
section
/-! 03: the component's small methods -/
section
variable {cn cd nx ws fn tp us er fl : Int32} {tx co ca cb wt rk ro cl sr rs sp hv st mv : Nat → Int32} {g : Nat → Option aw_V} {T U a r m n s t : Nat} {c : Nat → Int32}
theorem sk_in (h : aw_SK st rk ro cl sr rs sp U a r m n c) : vp_in (nI a) 48 := vp_in_nI h.1 (by decide)
theorem sk_rk (h : aw_SK st rk ro cl sr rs sp U a r m n c) : rk (nI a).toNatClampNeg = nI r := xl_cl (Nat.lt_of_lt_of_le h.1 (by decide)) h.2.2.2.1
theorem sk_rw (h : aw_SK st rk ro cl sr rs sp U a r m n c) : ro (nI a).toNatClampNeg = nI m := xl_cl (Nat.lt_of_lt_of_le h.1 (by decide)) h.2.2.2.2.1
theorem sk_cl (h : aw_SK st rk ro cl sr rs sp U a r m n c) : cl (nI a).toNatClampNeg = nI n := xl_cl (Nat.lt_of_lt_of_le h.1 (by decide)) h.2.2.2.2.2.1
theorem xl_size {post : Int32 → Prop} {p0 : Int32} (h : aw_SK st rk ro cl sr rs sp U a r m n c) (k : post (nI (m * n))) (h0 : p0 = nI a := by rfl) : wpX_sizeOf post (cn, cd, nx, ws, fn, tp, us, er, fl, tx, co, ca, cb, wt, rk, ro, cl, sr, rs, sp, hv, st, mv) p0 := by
  subst h0
  refine And.intro (sk_in h) (And.intro (sk_in h) ?_)
  show post (ro (nI a).toNatClampNeg * cl (nI a).toNatClampNeg)
  rw [sk_rw h, sk_cl h, pk_mul]; exact k
theorem xl_num {post : Int32 → Prop} {p0 p1 p2 : Int32} {i j : Nat} (h : aw_SK st rk ro cl sr rs sp U a r m n c) (hi : i < m) (hj : j < n) (k : post (c (i * n + j)))
    (h0 : p0 = nI a := by rfl) (h1 : p1 = nI i := by rfl) (h2 : p2 = nI j := by rfl) : wpX_number post (cn, cd, nx, ws, fn, tp, us, er, fl, tx, co, ca, cb, wt, rk, ro, cl, sr, rs, sp, hv, st, mv) p0 p1 p2 := by
  subst h0 h1 h2
  obtain ⟨p, hp, e, es⟩ := h.2.2.2.2.2.2 i j hi hj
  have hU := h.2.1
  have ha := h.1
  have e0 : sr (nI a).toNatClampNeg + nI i * rs (nI a).toNatClampNeg + nI j * sp (nI a).toNatClampNeg = nI p := by rw [nI_clamp (by omega)]; exact e
  refine And.intro (sk_in h) (And.intro (sk_in h) (And.intro (sk_in h) ?_))
  show vp_in (sr (nI a).toNatClampNeg + nI i * rs (nI a).toNatClampNeg + nI j * sp (nI a).toNatClampNeg) 1800 ∧ post (st (sr (nI a).toNatClampNeg + nI i * rs (nI a).toNatClampNeg + nI j * sp (nI a).toNatClampNeg).toNatClampNeg)
  rw [e0, nI_clamp (by omega), es]
  exact ⟨vp_in_nI (by omega) (by decide), k⟩
theorem aw_dm {k m n : Nat} (h : k < m * n) : 0 < n ∧ k / n < m ∧ k % n < n ∧ k / n * n + k % n = k := by
  have h0 : 0 < n := by
    rcases Nat.eq_zero_or_pos n with z | z
    · subst z; rw [Nat.mul_zero] at h; omega
    · exact z
  exact ⟨h0, Nat.div_lt_of_lt_mul (by rw [Nat.mul_comm]; exact h), Nat.mod_lt _ h0, Nat.div_add_mod' k n⟩
theorem aw_dj {i j n : Nat} (h : j < n) : (i * n + j) / n = i ∧ (i * n + j) % n = j := by
  have h0 : 0 < n := by omega
  refine ⟨?_, ?_⟩
  · rw [Nat.mul_comm, Nat.mul_add_div h0, Nat.div_eq_of_lt h, Nat.add_zero]
  · rw [Nat.mul_comm, Nat.mul_add_mod, Nat.mod_eq_of_lt h]
theorem aw_ij {i j m n : Nat} (hi : i < m) (hj : j < n) : i * n + j < m * n := by
  have := Nat.mul_le_mul_right n (show i + 1 ≤ m from hi)
  rw [Nat.succ_mul] at this
  omega
theorem xl_rav {post : Int32 → Prop} {p0 p1 : Int32} {k : Nat} (h : aw_SK st rk ro cl sr rs sp U a r m n c) (hk : k < m * n) (K : post (c k))
    (h0 : p0 = nI a := by rfl) (h1 : p1 = nI k := by rfl) : wpX_ravelled post (cn, cd, nx, ws, fn, tp, us, er, fl, tx, co, ca, cb, wt, rk, ro, cl, sr, rs, sp, hv, st, mv) p0 p1 := by
  subst h0 h1
  obtain ⟨b1, b2, b3, b4⟩ := aw_okb h.2.2.1
  obtain ⟨d1, d2, d3, d4⟩ := aw_dm hk
  have hn : ¬ nI n = 0 := nI_ne0 d1 (by omega)
  refine And.intro (sk_in h) (nm_r (sk_cl h) (br_f hn (And.intro hn (And.intro hn (xl_num h d2 d3 ?_ rfl (pk_div (by omega) d1 (by omega)) (pk_rem (by omega) d1 (by omega)))))))
  rw [d4]; exact K
def aw_fl (r m n : Nat) : Nat := if r = 2 then m else n
theorem xl_first {post : Int32 → Prop} {p0 : Int32} (h : aw_SK st rk ro cl sr rs sp U a r m n c) (k : post (nI (aw_fl r m n))) (h0 : p0 = nI a := by rfl) : wpX_firstLength post (cn, cd, nx, ws, fn, tp, us, er, fl, tx, co, ca, cb, wt, rk, ro, cl, sr, rs, sp, hv, st, mv) p0 := by
  subst h0
  have hb := aw_okb h.2.2.1
  unfold aw_fl at k
  refine And.intro (sk_in h) (pk_eq r 2 (fun z => And.intro (sk_in h) ?_) (fun z => And.intro (sk_in h) ?_) (sk_rk h))
  · show post (ro (nI a).toNatClampNeg)
    rw [sk_rw h]; rw [if_pos z] at k; exact k
  · show post (cl (nI a).toNatClampNeg)
    rw [sk_cl h]; rw [if_neg z] at k; exact k
theorem xl_same {post : Int32 → Prop} {p0 p1 : Int32} {a' r' m' n' : Nat} {c' : Nat → Int32} (h : aw_SK st rk ro cl sr rs sp U a r m n c) (h' : aw_SK st rk ro cl sr rs sp U a' r' m' n' c')
    (k : post (if r = r' ∧ m = m' ∧ n = n' then 1 else 0)) (h0 : p0 = nI a := by rfl) (h1 : p1 = nI a' := by rfl) : wpX_sameShape post (cn, cd, nx, ws, fn, tp, us, er, fl, tx, co, ca, cb, wt, rk, ro, cl, sr, rs, sp, hv, st, mv) p0 p1 := by
  subst h0 h1
  have hb := aw_okb h.2.2.1
  have hb' := aw_okb h'.2.2.1
  refine And.intro (sk_in h) (And.intro (sk_in h') (pk_eq r r' (fun z1 => ?_) (fun z1 => ?_) (sk_rk h) (sk_rk h')))
  · refine And.intro (sk_in h) (And.intro (sk_in h') (pk_eq m m' (fun z2 => ?_) (fun z2 => ?_) (sk_rw h) (sk_rw h')))
    · refine And.intro (sk_in h) (And.intro (sk_in h') (pk_eq n n' (fun z3 => ?_) (fun z3 => ?_) (sk_cl h) (sk_cl h')))
      · rw [if_pos ⟨z1, z2, z3⟩] at k; exact k
      · rw [if_neg (fun z => z3 z.2.2)] at k; exact k
    · rw [if_neg (fun z => z2 z.2.1)] at k; exact k
  · rw [if_neg (fun z => z1 z.1)] at k; exact k
/-! the scalar functions -/
def aw_rs2 (y : Int32) (z : Int64) : Int32 := if 0 ≤ y.toInt64 - y.toInt64 / z * z then (y.toInt64 - y.toInt64 / z * z).toInt32 else (y.toInt64 - y.toInt64 / z * z + z).toInt32
def aw_rst (x y : Int32) : Int32 := if x = 0 then y else aw_rs2 y (if 0 ≤ x then x.toInt64 else -x.toInt64)
def aw_scal (f x y : Int32) : Int32 :=
  if f = 20 then x + y else if f = 21 then x - y else if f = 22 then x * y else if f = 23 then (if x ≤ y then y else x) else if f = 24 then (if y ≤ x then y else x)
  else if f = 25 then (if x = y then 1 else 0) else if f = 26 then (if y ≤ x then 0 else 1) else aw_rst x y
theorem aw_l0 {x : Int32} (h : ¬ x = 0) : ¬ x.toInt64 = 0 := by
  intro z
  apply h
  have := congrArg Int64.toInt z
  rw [Int32.toInt_toInt64] at this
  apply Int32.toInt_inj.mp
  exact this
theorem aw_ln0 {x : Int32} (h : ¬ x = 0) : ¬ -x.toInt64 = 0 := by
  intro z
  apply aw_l0 h
  have := congrArg (fun w => -w) z
  simpa using this
theorem aw_bi {c : Prop} [Decidable c] {α : Type} {P : α → Prop} {a b : α} (h : P (if c then a else b)) : (c → P a) ∧ (¬ c → P b) := by
  by_cases z : c
  · rw [if_pos z] at h; exact br_t z h
  · rw [if_neg z] at h; exact br_f z h
theorem xl_rs18 {post : Int32 → Prop} {y : Int32} {z : Int64} (hz : ¬ z = 0) (k : post (aw_rs2 y z)) : wX_rest_18 post y z cn cd nx ws fn tp us er fl tx co ca cb wt rk ro cl sr rs sp hv st mv := by
  refine And.intro hz (nm_e ?_)
  exact aw_bi (P := post) k
theorem xl_rest {post : Int32 → Prop} {x y : Int32} (k : post (aw_rst x y)) : wpX_rest post (cn, cd, nx, ws, fn, tp, us, er, fl, tx, co, ca, cb, wt, rk, ro, cl, sr, rs, sp, hv, st, mv) x y := by
  unfold aw_rst at k
  by_cases z : x = 0
  · rw [if_pos z] at k; exact br_t z k
  · rw [if_neg z] at k
    by_cases z2 : 0 ≤ x
    · rw [if_pos z2] at k; exact br_f z (br_t z2 (xl_rs18 (aw_l0 z) k))
    · rw [if_neg z2] at k; exact br_f z (br_f z2 (xl_rs18 (aw_ln0 z) k))
theorem xl_scal {post : Int32 → Prop} {f x y : Int32} (k : post (aw_scal f x y)) : wpX_scalar post (cn, cd, nx, ws, fn, tp, us, er, fl, tx, co, ca, cb, wt, rk, ro, cl, sr, rs, sp, hv, st, mv) f x y := by
  unfold aw_scal at k
  by_cases z : f = 20
  · rw [if_pos z] at k; exact br_t z k
  rw [if_neg z] at k
  refine br_f z ?_
  clear z
  by_cases z : f = 21
  · rw [if_pos z] at k; exact br_t z k
  rw [if_neg z] at k
  refine br_f z ?_
  clear z
  by_cases z : f = 22
  · rw [if_pos z] at k; exact br_t z k
  rw [if_neg z] at k
  refine br_f z ?_
  clear z
  by_cases z : f = 23
  · rw [if_pos z] at k; exact br_t z (aw_bi (P := post) k)
  rw [if_neg z] at k
  refine br_f z ?_
  clear z
  by_cases z : f = 24
  · rw [if_pos z] at k; exact br_t z (aw_bi (P := post) k)
  rw [if_neg z] at k
  refine br_f z ?_
  clear z
  by_cases z : f = 25
  · rw [if_pos z] at k; exact br_t z (aw_bi (P := post) k)
  rw [if_neg z] at k
  refine br_f z ?_
  clear z
  by_cases z : f = 26
  · rw [if_pos z] at k; exact br_t z (aw_bi (P := post) k)
  rw [if_neg z] at k
  refine br_f z ?_
  exact xl_rest k
def aw_emp (f : Int32) : Int32 := if f = 22 then 1 else 0
theorem xl_empty {post : Int32 → Prop} {f : Int32} (k : post (aw_emp f)) : wpX_empty post (cn, cd, nx, ws, fn, tp, us, er, fl, tx, co, ca, cb, wt, rk, ro, cl, sr, rs, sp, hv, st, mv) f := aw_bi (P := post) k
/-- a fold from the right -/
def aw_fdn (f : Int32) (h : Nat → Int32) : Nat → Int32 → Int32
  | 0, v => v
  | j + 1, v => aw_fdn f h j (aw_scal f (h j) v)
def aw_fol (f : Int32) (h : Nat → Int32) : Nat → Int32
  | 0 => aw_emp f
  | n + 1 => aw_fdn f h n (h n)
theorem aw_fdnE {f : Int32} {h h' : Nat → Int32} : ∀ (j : Nat) (v : Int32), (∀ i, i < j → h i = h' i) → aw_fdn f h j v = aw_fdn f h' j v
  | 0, _, _ => rfl
  | j + 1, v, e => by
    show aw_fdn f h j (aw_scal f (h j) v) = aw_fdn f h' j (aw_scal f (h' j) v)
    rw [e j (by omega)]
    exact aw_fdnE j _ (fun i hi => e i (by omega))
theorem aw_folE {f : Int32} {h h' : Nat → Int32} : ∀ (n : Nat), (∀ i, i < n → h i = h' i) → aw_fol f h n = aw_fol f h' n
  | 0, _ => rfl
  | n + 1, e => by
    show aw_fdn f h n (h n) = aw_fdn f h' n (h' n)
    rw [e n (by omega)]
    exact aw_fdnE n _ (fun i hi => e i (by omega))
theorem xl_fd29 {post : Int32 → Prop} {f : Int32} {i : Nat} (h : aw_SK st rk ro cl sr rs sp U a r m n c) (hi : i < m) : ∀ (j : Nat) (v : Int32), j ≤ n → post (aw_fdn f (fun q => c (i * n + q)) j v) →
    wX_folded_29 post f (nI a) (nI i) cn cd nx ws fn tp us er fl tx co ca cb wt rk ro cl sr rs sp hv st mv (j + 1) v (nI j - 1)
  | 0, v, _, k => br_t (by decide) k
  | j + 1, v, hj, k => by
    have hb := aw_okb h.2.2.1
    rw [nI_pred]
    exact br_f (nI_pos (by omega)) (xl_num h hi (show j < n by omega) (xl_scal (nm_r (Int32.sub_eq_add_neg ..).symm (xl_fd29 h hi j _ (by omega) k))))
theorem xl_folded {post : Int32 → Prop} {f p1 p2 p3 : Int32} {i N : Nat} (h : aw_SK st rk ro cl sr rs sp U a r m n c) (hi : i < m) (hN : N ≤ n) (k : post (aw_fol f (fun q => c (i * n + q)) N))
    (h1 : p1 = nI a := by rfl) (h2 : p2 = nI i := by rfl) (h3 : p3 = nI N := by rfl) : wpX_folded post (cn, cd, nx, ws, fn, tp, us, er, fl, tx, co, ca, cb, wt, rk, ro, cl, sr, rs, sp, hv, st, mv) f p1 p2 p3 := by
  subst h1 h2 h3
  have hb := aw_okb h.2.2.1
  cases N with
  | zero => exact br_t rfl (xl_empty k)
  | succ N =>
    refine br_f (nI_ne0 (by omega) (by omega)) (xl_num h hi (show N < n by omega) (nm_r (e' := nI N - 1) ?_ ⟨N + 1, xl_fd29 h hi N _ (by omega) k⟩) rfl rfl (nI_pred N))
    rw [← nI_1]; grind
end
end
section
/-! 04: pack, make, share -/
section
variable {cn cd nx ws fn tp us er fl : Int32} {tx co ca cb wt rk ro cl sr rs sp hv st mv : Nat → Int32} {g : Nat → Option aw_V} {T U a r m n s t : Nat} {c : Nat → Int32}
/-- slots below a are written one behind the other into mv, those from a on are as they were -/
def xk_I (g : Nat → Option aw_V) (T a A : Nat) (sr0 rs0 sp0 sr rs sp mv : Nat → Int32) : Prop :=
  A ≤ 36 * a ∧ A ≤ 36 * T ∧ (∀ b, (a ≤ b ∨ T ≤ b) → sr b = sr0 b ∧ rs b = rs0 b ∧ sp b = sp0 b) ∧
  ∀ b r m n c, b < a → b < T → g b = some (r, m, n, c) → ∃ p, p + m * n ≤ A ∧ sr b = nI p ∧ rs b = nI n ∧ sp b = 1 ∧ ∀ k, k < m * n → mv (p + k) = c k
theorem xk_53 {post : SX → Prop} {J4 : Int32 → Int32 → (Nat → Int32) → (Nat → Int32) → (Nat → Int32) → (Nat → Int32) → (Nat → Int32) → (Nat → Int32) → (Nat → Int32) → (Nat → Int32) → (Nat → Int32) → (Nat → Int32) → (Nat → Int32) → (Nat → Int32) → (Nat → Int32) → (Nat → Int32) → Prop} {A : Nat}
    (h : aw_SK st rk ro cl sr rs sp U a r m n c) (hA : A ≤ 1700)
    (K : ∀ mv', (∀ q, q < A → mv' q = mv q) → (∀ k, k < m * n → mv' (A + k) = c k) → J4 (nI (A + m * n)) (nI (a + 1)) tx co ca cb wt rk ro cl (upd sr a (nI A)) (upd rs a (nI n)) (upd sp a 1) hv st mv') :
    ∃ n53, wX_pack_53 post J4 (nI A) (nI a) (nI (m * n)) cn cd nx ws fn tp us er fl n53 0 tx co ca cb wt rk ro cl sr rs sp hv st mv := by
  have hb := aw_okb h.2.2.1
  have ha := h.1
  refine loop_0 (fun n5 k mv' => wX_pack_53 post J4 (nI A) (nI a) (nI (m * n)) cn cd nx ws fn tp us er fl n5 (nI k) tx co ca cb wt rk ro cl sr rs sp hv st mv') (fun k mv' => (∀ q, q < A → mv' q = mv q) ∧ ∀ j, j < k → mv' (A + j) = c j) (m * n) mv ⟨fun _ _ => rfl, fun j hj => absurd hj (by omega)⟩ ?_ ?_
  · intro n5 mv' I
    refine br_t (nI_le (Nat.le_refl _) (by omega)) (And.intro (sk_in h) (nm_r (xl_uc (by omega) rfl) (And.intro (sk_in h) (And.intro (sk_in h) (nm_r (xl_uc (by omega) (sk_cl h)) (And.intro (sk_in h) (nm_r (xl_uc (by omega) rfl) (nm_r (nI_add A (m * n)) (nm_r (nI_1 a) (K mv' I.1 I.2))))))))))
  · intro n5 k mv' hk I ih
    refine br_f (nI_ge hk (by omega)) (xl_rav h hk (And.intro (pk_in (A + k) 1800 (by omega) (nI_add A k)) ?_))
    intro mv1 e1 x5 e2
    subst e1 e2
    rw [nI_1, nI_add, nI_clamp (by omega)]
    refine ih _ ⟨fun q hq => ?_, fun j hj => ?_⟩
    · rw [pk_un (by omega)]; exact I.1 q hq
    · by_cases z : j = k
      · subst z; exact pk_us
      · rw [pk_un (by omega)]; exact I.2 j (by omega)
theorem xk_121 {post : SX → Prop} {A : Nat} (hA : A ≤ 1800) (K : ∀ st', (∀ q, q < A → st' q = mv q) → post (cn, cd, nx, ws, fn, tp, nI A, er, fl, tx, co, ca, cb, wt, rk, ro, cl, sr, rs, sp, hv, st', mv)) : ∃ n121, wX_pack_121 post (nI A) cn cd nx ws fn tp us er fl n121 0 tx co ca cb wt rk ro cl sr rs sp hv st mv := by
  refine loop_0 (fun n5 k st' => wX_pack_121 post (nI A) cn cd nx ws fn tp us er fl n5 (nI k) tx co ca cb wt rk ro cl sr rs sp hv st' mv) (fun k st' => ∀ j, j < k → st' j = mv j) A st (fun j hj => absurd hj (by omega)) ?_ ?_
  · intro n5 st' I
    exact br_t (nI_le (Nat.le_refl _) (by omega)) (K st' I)
  · intro n5 k st' hk I ih
    have hin : vp_in (nI k) 1800 := vp_in_nI (by omega) (by decide)
    refine br_f (nI_ge hk (by omega)) (And.intro hin (And.intro hin ?_))
    intro st1 e1 x5 e2
    subst e1 e2
    rw [nI_1, nI_clamp (by omega)]
    refine ih _ (fun j hj => ?_)
    by_cases z : j = k
    · subst z; exact pk_us
    · rw [pk_un z]; exact I j (by omega)
theorem xk_end {A : Nat} {sr' rs' sp' st' mv' : Nat → Int32} (h : aw_HP g T U rk ro cl sr rs sp hv st) (hT : 36 * T ≤ 1800) (ha : T ≤ a) (I : xk_I g T a A sr rs sp sr' rs' sp' mv') (e : ∀ q, q < A → st' q = mv' q) :
    aw_HP g T A rk ro cl sr' rs' sp' hv st' := by
  refine ⟨by have := I.2.1; omega, fun b hb => ⟨(h.2 b hb).1, fun r m n c hg => ?_⟩⟩
  obtain ⟨h1, h2, h3, h4, h5, _⟩ := (h.2 b hb).2 r m n c hg
  obtain ⟨p, hp, e1, e2, e3, e4⟩ := I.2.2.2 b r m n c (by omega) hb hg
  refine ⟨h1, h2, h3, h4, h5, fun i j hi hj => ?_⟩
  have hq : i * n + j < m * n := aw_ij hi hj
  refine ⟨p + (i * n + j), by omega, ?_, by rw [e _ (by omega)]; exact e4 _ hq⟩
  rw [e1, e2, e3, pk_mul, nI_add, Int32.mul_one, nI_add, Nat.add_assoc]
theorem xk_4 {post : SX → Prop} (h : aw_HP g T U rk ro cl sr rs sp hv st) (hT : 13 ≤ T) (hT' : T ≤ 47)
    (K : ∀ A sr' rs' sp' st' mv', A ≤ 36 * T → aw_HP g T A rk ro cl sr' rs' sp' hv st' → (∀ b, T ≤ b → rs' b = rs b ∧ sp' b = sp b) → post (cn, cd, nx, ws, fn, nI T, nI A, er, fl, tx, co, ca, cb, wt, rk, ro, cl, sr', rs', sp', hv, st', mv')) :
    ∀ (d a A n4 : Nat) (sr' rs' sp' mv' : Nat → Int32), a + d = 48 → d < n4 → xk_I g T a A sr rs sp sr' rs' sp' mv' → wX_pack_4 post cn cd nx ws fn (nI T) us er fl n4 (nI A) (nI a) tx co ca cb wt rk ro cl sr' rs' sp' hv st mv' := by
  intro d
  induction d with
  | zero =>
    intro a A n4 sr' rs' sp' mv' ha hn I
    obtain ⟨n4, rfl⟩ : ∃ k, n4 = k + 1 := ⟨n4 - 1, by omega⟩
    have ea : a = 48 := by omega
    subst ea
    refine br_t (by decide) (xk_121 (by have := I.2.1; omega) (fun st' e => K A sr' rs' sp' st' mv' I.2.1 (xk_end h (by omega) (by omega) I e) (fun b hb => (I.2.2.1 b (Or.inr hb)).2)))
  | succ d ih =>
    intro a A n4 sr' rs' sp' mv' ha hn I
    obtain ⟨n4, rfl⟩ : ∃ k, n4 = k + 1 := ⟨n4 - 1, by omega⟩
    have h48 : ¬ (48 : Int32) ≤ nI a := nI_ge (b := 48) (by omega) (by decide)
    have hin : vp_in (nI a) 48 := vp_in_nI (by omega) (by decide)
    have no : (∀ r m n c, a < T → g a = some (r, m, n, c) → False) → wX_pack_4 post cn cd nx ws fn (nI T) us er fl n4 (nI A) (nI (a + 1)) tx co ca cb wt rk ro cl sr' rs' sp' hv st mv' := by
      intro hno
      refine ih (a + 1) A n4 sr' rs' sp' mv' (by omega) (by omega) ⟨by have := I.1; omega, I.2.1, fun b hb => I.2.2.1 b (by omega), fun b r m n c hb hbT hg => ?_⟩
      rcases Nat.lt_succ_iff_lt_or_eq.mp hb with hb | hb
      · exact I.2.2.2 b r m n c hb hbT hg
      · subst hb; exact absurd hg (fun z => hno r m n c hbT z)
    have yes : ∀ r m n c, a < T → g a = some (r, m, n, c) → wX_pack_38 post (wX_pack_4 post cn cd nx ws fn (nI T) us er fl n4) (nI A) (nI a) 1 cn cd nx ws fn (nI T) us er fl tx co ca cb wt rk ro cl sr' rs' sp' hv st mv' := by
      intro r m n c haT hg
      obtain ⟨h1, h2, h3, h4, h5, h6⟩ := (h.2 a haT).2 r m n c hg
      have hb := aw_okb h2
      obtain ⟨f1, f2, f3⟩ := I.2.2.1 a (Or.inl (Nat.le_refl a))
      have hK : aw_SK st rk ro cl sr' rs' sp' U a r m n c := ⟨by omega, h.1, h2, h3, h4, h5, by rw [f1, f2, f3]; exact h6⟩
      have hA : A ≤ 36 * a := I.1
      refine br_f (by decide) (xl_size hK (xk_53 hK (by omega) (fun mv2 e1 e2 => ?_)))
      refine ih (a + 1) (A + m * n) n4 _ _ _ mv2 (by omega) (by omega) ⟨by omega, by omega, fun b hb => ?_, fun b r2 m2 n2 c2 hb2 hbT hg2 => ?_⟩
      · have hba : b ≠ a := by omega
        rw [pk_un hba, pk_un hba, pk_un hba]
        exact I.2.2.1 b (by omega)
      · by_cases z : b = a
        · subst z
          rw [hg] at hg2
          cases hg2
          exact ⟨A, by omega, pk_us, pk_us, pk_us, e2⟩
        · obtain ⟨p, hp, q1, q2, q3, q4⟩ := I.2.2.2 b r2 m2 n2 c2 (by omega) hbT hg2
          refine ⟨p, by omega, ?_, ?_, ?_, fun k hk => ?_⟩
          · rw [pk_un z]; exact q1
          · rw [pk_un z]; exact q2
          · rw [pk_un z]; exact q3
          · rw [e1 _ (by omega)]; exact q4 k hk
    refine br_f h48 (And.intro hin ?_)
    have eh : hv (nI a).toNatClampNeg = hv a := by rw [nI_clamp (by omega)]
    rw [eh]
    by_cases haT : a < T
    · cases hg : g a with
      | none =>
        have z := (h.2 a haT).1 hg
        refine br_t z (br_t rfl (nm_r (nI_1 a) (no (fun r m n c _ e => ?_))))
        rw [hg] at e; cases e
      | some V =>
        obtain ⟨r, m, n, c⟩ := V
        have z := ((h.2 a haT).2 r m n c hg).1
        refine br_f z (pk_lt a 13 (fun _ => yes r m n c haT hg) (fun _ => ?_))
        exact br_f (nI_ge haT (by omega)) (yes r m n c haT hg)
    · have N := no (fun r m n c h1 _ => haT h1)
      by_cases z : hv a = 0
      · exact br_t z (br_t rfl (nm_r (nI_1 a) N))
      · exact br_f z (br_f (nI_nlt (b := 13) (by omega) (by omega)) (br_t (nI_le (by omega) (by omega)) (br_t rfl (nm_r (nI_1 a) N))))
theorem xl_pack {post : SX → Prop} (h : aw_HP g T U rk ro cl sr rs sp hv st) (hT : 13 ≤ T) (hT' : T ≤ 47)
    (K : ∀ A sr' rs' sp' st' mv', A ≤ 36 * T → aw_HP g T A rk ro cl sr' rs' sp' hv st' → (∀ b, T ≤ b → rs' b = rs b ∧ sp' b = sp b) → post (cn, cd, nx, ws, fn, nI T, nI A, er, fl, tx, co, ca, cb, wt, rk, ro, cl, sr', rs', sp', hv, st', mv')) : wpX_pack post (cn, cd, nx, ws, fn, nI T, us, er, fl, tx, co, ca, cb, wt, rk, ro, cl, sr, rs, sp, hv, st, mv) :=
  Exists.intro 49 (xk_4 h hT hT' K 48 0 0 49 sr rs sp mv (by omega) (by omega) ⟨by omega, by omega, fun _ _ => ⟨rfl, rfl, rfl⟩, fun b r m n c hb => absurd hb (by omega)⟩)
theorem aw_nb : vp_nar .boolean 1 = 1 := rfl
theorem aw_nb0 : vp_nar .boolean 0 = 0 := rfl
theorem xl_mk84 {post : SX → Prop} (h : aw_HP g T U rk ro cl sr rs sp hv st) (hok : aw_ok r m n) (hT' : T ≤ 47) (hU : U + m * n ≤ 1800) (e1 : rk T = nI r) (e2 : ro T = nI m) (e3 : cl T = nI n) (e5 : rs T = nI n) (e6 : sp T = 1) (e7 : ¬ hv T = 0)
    (K : ∀ s us' rk' ro' cl' sr' rs' sp' hv' st' mv', aw_MK g T s r m n us' rk' ro' cl' sr' rs' sp' hv' st' → post (cn, cd, nx, ws, fn, nI T, us', er, fl, tx, co, ca, cb, wt, rk', ro', cl', sr', rs', sp', hv', st', mv')) :
    wX_make_84 post (nI T) (nI m) (nI n) cn cd nx ws fn (nI T) (nI U) er fl tx co ca cb wt rk ro cl sr rs sp hv st mv := by
  have hin : vp_in (nI T) 48 := vp_in_nI (by omega) (by decide)
  have hb := aw_okb hok
  refine And.intro hin (nm_r (xl_uc (by omega) rfl) (nm_r (e' := nI (U + m * n)) (by rw [pk_mul, nI_add]) (K U _ _ _ _ _ _ _ _ _ _ ⟨hp_off h (fun a ha => ⟨rfl, rfl, rfl, pk_un (by omega), rfl, rfl, rfl⟩), hU, rfl, hok, e1, e2, e3, pk_us, e5, e6, e7⟩)))
theorem xl_make {post : SX → Prop} {p0 p1 p2 p3 : Int32} (h : aw_HX g T us rk ro cl sr rs sp hv st) (hT : 13 ≤ T) (hT' : T ≤ 47) (hok : aw_ok r m n)
    (K : ∀ s us' rk' ro' cl' sr' rs' sp' hv' st' mv', aw_MK g T s r m n us' rk' ro' cl' sr' rs' sp' hv' st' → post (cn, cd, nx, ws, fn, nI T, us', er, fl, tx, co, ca, cb, wt, rk', ro', cl', sr', rs', sp', hv', st', mv'))
    (h0 : p0 = nI T := by rfl) (h1 : p1 = nI r := by rfl) (h2 : p2 = nI m := by rfl) (h3 : p3 = nI n := by rfl) : wpX_make post (cn, cd, nx, ws, fn, nI T, us, er, fl, tx, co, ca, cb, wt, rk, ro, cl, sr, rs, sp, hv, st, mv) p0 p1 p2 p3 := by
  subst h0 h1 h2 h3
  obtain ⟨U, rfl, H⟩ := h
  have hU := H.1
  have hin : vp_in (nI T) 48 := vp_in_nI (by omega) (by decide)
  have hb := aw_okb hok
  refine And.intro hin (nm_r (xl_uc (by omega) rfl) (And.intro hin (nm_r (xl_uc (by omega) rfl) (And.intro hin (nm_r (xl_uc (by omega) rfl) (And.intro hin (nm_r (xl_uc (by omega) rfl) (And.intro hin (nm_r (xl_uc (by omega) rfl) (And.intro hin (nm_r (xl_uc (by omega) aw_nb) ?_)))))))))))
  refine pk_le (U + m * n) 1800 (fun z => ?_) (fun z => ?_) (by rw [pk_mul, nI_add]) rfl
  · exact xl_mk84 (hp_off H (fun a ha => ⟨pk_un (by omega), pk_un (by omega), pk_un (by omega), rfl, pk_un (by omega), pk_un (by omega), pk_un (by omega)⟩)) hok hT' z pk_us pk_us pk_us pk_us pk_us (by rw [pk_us]; decide) K
  · refine And.intro hin (nm_r (xl_uc (by omega) rfl) (And.intro hin (nm_r (xl_uc (by omega) rfl) ?_)))
    refine xl_pack (g := g) (T := T) (U := U) (hp_off H (fun a ha => ⟨pk_un (by omega), by rw [pk_un (by omega), pk_un (by omega)], pk_un (by omega), pk_un (by omega), pk_un (by omega), pk_un (by omega), pk_un (by omega)⟩)) hT hT' ?_
    intro A sr' rs' sp' st' mv' hA H' E
    refine And.intro hin (nm_r (xl_uc (by omega) rfl) ?_)
    exact xl_mk84 (hp_off H' (fun a ha => ⟨rfl, pk_un (by omega), rfl, rfl, rfl, rfl, rfl⟩)) hok hT' (by omega) pk_us pk_us pk_us ((E T (Nat.le_refl T)).1.trans pk_us) ((E T (Nat.le_refl T)).2.trans pk_us) (by rw [pk_us]; decide) K
/-- the component's state behind a step that has put a value into slot T -/
def aw_PO (post : SX → Prop) (g : Nat → Option aw_V) (T T' : Nat) (cn cd nx ws fn er fl : Int32) (tx co ca cb wt : Nat → Int32) : Prop :=
  ∀ us rk ro cl sr rs sp hv st mv, aw_HX g T' us rk ro cl sr rs sp hv st → post (cn, cd, nx, ws, fn, nI T, us, er, fl, tx, co, ca, cb, wt, rk, ro, cl, sr, rs, sp, hv, st, mv)
theorem xl_mks {post : SX → Prop} {p0 v : Int32} (h : aw_HX g T us rk ro cl sr rs sp hv st) (hT : 13 ≤ T) (hT' : T ≤ 47) (K : aw_PO post (aw_gs g T (0, 1, 1, fun _ => v)) T (T + 1) cn cd nx ws fn er fl tx co ca cb wt)
    (h0 : p0 = nI T := by rfl) : wpX_makeScalar post (cn, cd, nx, ws, fn, nI T, us, er, fl, tx, co, ca, cb, wt, rk, ro, cl, sr, rs, sp, hv, st, mv) p0 v := by
  subst h0
  have hin : vp_in (nI T) 48 := vp_in_nI (by omega) (by decide)
  refine xl_make h hT hT' aw_ok0 ?_
  intro s us' rk' ro' cl' sr' rs' sp' hv' st' mv' M
  have hs := mk_room M
  have e := xl_cl (f := sr') (by omega) (mk_top M)
  refine And.intro hin ?_
  show vp_in (sr' (nI T).toNatClampNeg) 1800 ∧ _
  rw [e]
  refine And.intro (vp_in_nI (by omega) (by decide)) (nm_r (xl_uc (by omega) rfl) (K _ _ _ _ _ _ _ _ _ _ (mk_done M (hp_upd (mk_hp M) (Nat.le_refl s)) (fun q hq => ?_))))
  have : q = 0 := by omega
  subst this
  exact pk_us
/-- share: slot t becomes what slot f is -/
theorem xl_share {post : SX → Prop} {p0 p1 : Int32} {f : Nat} (hf : f < 48) (ht : t < 48)
    (K : post (cn, cd, nx, ws, fn, tp, us, er, fl, tx, co, ca, cb, wt, upd rk t (rk f), upd ro t (ro f), upd cl t (cl f), upd sr t (sr f), upd rs t (rs f), upd sp t (sp f), upd hv t 1, st, mv))
    (h0 : p0 = nI f := by rfl) (h1 : p1 = nI t := by rfl) : wpX_share post (cn, cd, nx, ws, fn, tp, us, er, fl, tx, co, ca, cb, wt, rk, ro, cl, sr, rs, sp, hv, st, mv) p0 p1 := by
  subst h0 h1
  have i0 : vp_in (nI f) 48 := vp_in_nI hf (by decide)
  have i1 : vp_in (nI t) 48 := vp_in_nI ht (by decide)
  have e : (nI f).toNatClampNeg = f := nI_clamp (by omega)
  refine And.intro i0 (And.intro i1 (nm_r (xl_uc (by omega) (congrArg rk e)) (And.intro i0 (And.intro i1 (nm_r (xl_uc (by omega) (congrArg ro e)) (And.intro i0 (And.intro i1 (nm_r (xl_uc (by omega) (congrArg cl e)) (And.intro i0 (And.intro i1 (nm_r (xl_uc (by omega) (congrArg sr e)) (And.intro i0 (And.intro i1 (nm_r (xl_uc (by omega) (congrArg rs e)) (And.intro i0 (And.intro i1 (nm_r (xl_uc (by omega) (congrArg sp e)) (And.intro i1 (nm_r (xl_uc (by omega) aw_nb) K)))))))))))))))))))
theorem hp_share {f T' : Nat} (h : aw_HP g T U rk ro cl sr rs sp hv st) (hf : f < T) (hg : g f = some (r, m, n, c)) (hT : ∀ a, a < T' → a ≠ t → a < T) :
    aw_HP (aw_gs g t (r, m, n, c)) T' U (upd rk t (rk f)) (upd ro t (ro f)) (upd cl t (cl f)) (upd sr t (sr f)) (upd rs t (rs f)) (upd sp t (sp f)) (upd hv t 1) st := by
  obtain ⟨h1, h2, h3, h4, h5, h6⟩ := (h.2 f hf).2 r m n c hg
  refine hp_put h hT (fun a _ z => ⟨pk_un z, pk_un z, pk_un z, pk_un z, pk_un z, pk_un z, pk_un z⟩) (by rw [pk_us]; decide) h2 ⟨pk_us.trans h3, pk_us.trans h4, pk_us.trans h5, ?_⟩
  rw [pk_us, pk_us, pk_us]
  exact h6
end
end
section
/-! 05: the functions of arrays, in plain Lean -/
def aw_re (r m n : Nat) (c : Nat → Int32) : Int32 × aw_V := (0, (r, m, n, c))
def aw_er (e : Int32) : Int32 × aw_V := (e, (0, 1, 1, fun _ => 0))
def aw_k0 (r k : Nat) : Nat := if r = 0 then 0 else k
theorem aw_k0z {r k : Nat} (h : r = 0) : aw_k0 r k = 0 := if_pos h
theorem aw_k0n {r k : Nat} (h : r ≠ 0) : aw_k0 r k = k := if_neg h
def aq_s1 (f : Int32) : aw_V → Int32 × aw_V
  | (r, m, n, c) => aw_re r m n (fun k => aw_scal f (aw_emp f) (c k))
def aq_s2 (f : Int32) : aw_V → aw_V → Int32 × aw_V
  | (r, m, n, c), (r', m', n', c') =>
    if (r = r' ∧ m = m' ∧ n = n') ∨ r = 0 ∨ r' = 0 then
      (if r = 0 then aw_re r' m' n' (fun k => aw_scal f (c (aw_k0 r k)) (c' (aw_k0 r' k))) else aw_re r m n (fun k => aw_scal f (c (aw_k0 r k)) (c' (aw_k0 r' k))))
    else if r = r' then aw_er (-14) else aw_er (-13)
def aq_fold (f : Int32) : aw_V → Int32 × aw_V
  | (r, m, n, c) => if r = 0 then aw_re r m n c else aw_re (r - 1) 1 m (fun i => aw_fol f (fun j => c (i * n + j)) n)
def aq_scan (f : Int32) : aw_V → Int32 × aw_V
  | (r, m, n, c) => if r = 0 then aw_re r m n c else aw_re r m n (fun k => aw_fol f (fun j => c (k / n * n + j)) (k % n + 1))
def aq_outer (f : Int32) : aw_V → aw_V → Int32 × aw_V
  | (r, m, n, c), (r', m', n', c') =>
    if 2 < r + r' then aw_er (-13) else if r = 2 ∨ r' = 2 then aq_s2 f (r, m, n, c) (r', m', n', c')
    else if r = 1 ∧ r' = 1 then (if 6 < n ∨ 6 < n' then aw_er (-16) else aw_re 2 n n' (fun k => aw_scal f (c (k / n')) (c' (k % n'))))
    else aw_re (r + r') 1 (if r = 1 then n else if r' = 1 then n' else 1) (fun k => aw_scal f (c (k / n')) (c' (k % n')))
def aw_wd (r n : Nat) : Nat := if r = 2 then n else 1
def aq_inner (f e : Int32) : aw_V → aw_V → Int32 × aw_V
  | (r, m, n, c), (r', m', n', c') =>
    if r = 0 ∨ r' = 0 then aw_er (-13) else if n ≠ aw_fl r' m' n' then aw_er (-14)
    else aw_re (r + r' - 2) (if r = 2 ∧ r' = 2 then m else 1) (if r = 2 ∧ r' = 2 then n' else if r = 2 then m else aw_wd r' n')
      (fun k => aw_fol f (fun i => aw_scal e (c (k / aw_wd r' n' * n + i)) (c' (if r' = 2 then i * n' + k % aw_wd r' n' else i))) n)
def aq_sh1 : aw_V → Int32 × aw_V
  | (r, m, n, _) => aw_re 1 1 r (fun k => if k = 0 then nI (aw_fl r m n) else nI n)
def aw_rg (x : Int32) (b : Nat) : Prop := ¬ x < 0 ∧ x ≤ nI b
def aw_tn (x : Int32) : Nat := x.toNatClampNeg
/-- a pick of one of two by a proposition -/
noncomputable def aw_if {α : Type} (p : Prop) (a b : α) : α := @ite α p (Classical.propDecidable p) a b
theorem aw_ift {α : Type} {p : Prop} {a b : α} (h : p) : aw_if p a b = a := by unfold aw_if; exact if_pos h
theorem aw_iff {α : Type} {p : Prop} {a b : α} (h : ¬ p) : aw_if p a b = b := by unfold aw_if; exact if_neg h
noncomputable def aq_sh2 : aw_V → aw_V → Int32 × aw_V
  | (r, _, n, c), (_, m', n', c') =>
    if r = 2 then aw_er (-13) else if 2 < n then aw_er (-14)
    else if n = 0 then aw_re 0 1 1 (fun k => if m' * n' = 0 then 0 else c' (k % (m' * n')))
    else if n = 1 then aw_if (aw_rg (c 0) 36) (aw_re 1 1 (aw_tn (c 0)) (fun k => if m' * n' = 0 then 0 else c' (k % (m' * n')))) (aw_er (-15))
    else aw_if (aw_rg (c 0) 6 ∧ aw_rg (c 1) 6) (aw_re 2 (aw_tn (c 0)) (aw_tn (c 1)) (fun k => if m' * n' = 0 then 0 else c' (k % (m' * n')))) (aw_er (-15))
noncomputable def aq_cn1 : aw_V → Int32 × aw_V
  | (r, _, _, c) => if r ≠ 0 then aw_er (-13) else aw_if (aw_rg (c 0) 36) (aw_re 1 1 (aw_tn (c 0)) nI) (aw_er (-15))
/-- the first place of v among d numbers from j on -/
def aw_plc (c : Nat → Int32) (v : Int32) : Nat → Nat → Nat
  | 0, j => j
  | d + 1, j => if c j = v then j else aw_plc c v d (j + 1)
def aq_cn2 : aw_V → aw_V → Int32 × aw_V
  | (r, _, n, c), (r', m', n', c') => if r = 1 then aw_re r' m' n' (fun k => nI (aw_plc c (c' k) n 0)) else aw_er (-13)
def aq_turn : aw_V → Int32 × aw_V
  | (r, m, n, c) => if r = 2 then aw_re r n m (fun k => c (k % m * n + k / m)) else aw_re r m n c
def aq_bk1 : aw_V → Int32 × aw_V
  | (r, m, n, c) => aw_re r m n (fun k => c (k / n * n + (n - 1 - k % n)))
def aq_bk2 : aw_V → aw_V → Int32 × aw_V
  | (r, _, _, c), (r', m', n', c') => if r = 0 then aw_re r' m' n' (fun k => c' (k / n' * n' + (k % n' + ((c 0).toInt % (n' : Int)).toNat) % n')) else aw_er (-13)
def aq_tk1 : aw_V → Int32 × aw_V
  | (_, m, n, c) => aw_re 0 1 1 (fun _ => if m * n = 0 then 0 else c 0)
/-- rows, or numbers, from a place on -/
def aq_part (b : Int) (q : Nat) : aw_V → Int32 × aw_V
  | (r, m, n, c) =>
    if r = 2 then aw_re 2 q n (fun k => if 0 ≤ b + ((k / n : Nat) : Int) ∧ b + ((k / n : Nat) : Int) < (m : Int) then c ((b + ((k / n : Nat) : Int)).toNat * n + k % n) else 0)
    else aw_re 1 1 q (fun k => if 0 ≤ b + (k : Int) ∧ b + (k : Int) < (n : Int) then c (b + (k : Int)).toNat else 0)
def aw_mo (r : Nat) : Nat := if r = 2 then 6 else 36
def aq_tk2 : aw_V → aw_V → Int32 × aw_V
  | (r, _, _, c), (r', m', n', c') =>
    if r ≠ 0 then aw_er (-13) else if (c 0).toInt < -(aw_mo r' : Int) ∨ (aw_mo r' : Int) < (c 0).toInt then aw_er (-15)
    else aq_part (if (c 0).toInt < 0 then (aw_fl r' m' n' : Int) + (c 0).toInt else 0) (c 0).toInt.natAbs (r', m', n', c')
def aq_drop : aw_V → aw_V → Int32 × aw_V
  | (r, _, _, c), (r', m', n', c') =>
    if r ≠ 0 then aw_er (-13)
    else aq_part (if (c 0).toInt < 0 then 0 else ((aw_fl r' m' n' - (aw_fl r' m' n' - (c 0).toInt.natAbs) : Nat) : Int)) (aw_fl r' m' n' - (c 0).toInt.natAbs) (r', m', n', c')
def aq_jn1 : aw_V → Int32 × aw_V
  | (_, m, n, c) => aw_re 1 1 (m * n) c
def aq_jn2 : aw_V → aw_V → Int32 × aw_V
  | (r, m, n, c), (r', m', n', c') =>
    if ¬ ((r = 2) ↔ (r' = 2)) then aw_er (-13) else if r = 2 ∧ m ≠ m' then aw_er (-14) else if aw_mo r < n + n' then aw_er (-16)
    else aw_re (if r = 2 then 2 else 1) m (n + n') (fun k => if k % (n + n') < n then c (k / (n + n') * n + k % (n + n')) else c' (k / (n + n') * n' + (k % (n + n') - n)))
def aw_bel (c : Nat → Int32) (n b : Nat) : Prop := ∀ j, j < n → ¬ c j < 0 ∧ c j < nI b
noncomputable def aq_pick : aw_V → aw_V → Int32 × aw_V
  | (r, _, n, c), (r', m', n', c') =>
    if r = 2 ∨ r' = 0 then aw_er (-13) else aw_if (aw_bel c n (aw_fl r' m' n'))
      (if r = 0 then aw_re (r' - 1) 1 (aw_wd r' n') (fun k => c' (aw_tn (c 0) * aw_wd r' n' + k))
       else if r' = 2 ∧ 6 < n then aw_er (-16)
       else aw_re r' (if r' = 2 then n else 1) (if r' = 2 then n' else n) (fun k => c' (aw_tn (c (k / aw_wd r' n')) * aw_wd r' n' + k % aw_wd r' n')))
      (aw_er (-15))
/-- how many of the first k numbers go before number i -/
def aw_bf (c : Nat → Int32) (j i : Nat) : Prop := c j < c i ∨ (c j = c i ∧ j < i)
noncomputable def aw_rkn (c : Nat → Int32) (i : Nat) : Nat → Nat
  | 0 => 0
  | k + 1 => aw_if (aw_bf c k i) (aw_rkn c i k + 1) (aw_rkn c i k)
noncomputable def aw_gr (c : Nat → Int32) (n k : Nat) : Nat := aw_if (∃ i, i < n ∧ aw_rkn c i n = k) (Classical.epsilon (fun i => i < n ∧ aw_rkn c i n = k)) 0
noncomputable def aq_rise : aw_V → Int32 × aw_V
  | (r, _, n, c) => if r = 1 then aw_re 1 1 n (fun k => nI (aw_gr c n k)) else aw_er (-13)
/-- a function of one array, of two arrays: form, token, second token -/
noncomputable def aq_mix1 (f : Nat) (v : aw_V) : Int32 × aw_V :=
  if f = 30 then aq_sh1 v else if f = 31 then aq_cn1 v else if f = 32 then aq_turn v else if f = 33 then aq_bk1 v else if f = 34 then aq_tk1 v else if f = 36 then aq_jn1 v else if f = 38 then aq_rise v else aw_er (-12)
noncomputable def aq_mix2 (f : Nat) (x y : aw_V) : Int32 × aw_V :=
  if f = 30 then aq_sh2 x y else if f = 31 then aq_cn2 x y else if f = 33 then aq_bk2 x y else if f = 34 then aq_tk2 x y else if f = 35 then aq_drop x y else if f = 36 then aq_jn2 x y else if f = 37 then aq_pick x y else aw_er (-12)
noncomputable def aq_one (fm f : Nat) (v : aw_V) : Int32 × aw_V :=
  if fm = 0 then aq_s1 (nI f) v else if fm = 1 then aq_mix1 f v else if fm = 2 then aq_fold (nI f) v else if fm = 3 then aq_scan (nI f) v else aw_er (-12)
noncomputable def aq_two (fm f e : Nat) (x y : aw_V) : Int32 × aw_V :=
  if fm = 0 then aq_s2 (nI f) x y else if fm = 1 then aq_mix2 f x y else if fm = 4 then aq_outer (nI f) x y else if fm = 5 then aq_inner (nI f) (nI e) x y else aw_er (-12)
end
section
/-! 06: the component's functions: scalar, fold, scan -/
def aw_XO (post : SX → Prop) (g : Nat → Option aw_V) (T : Nat) (q : Int32 × aw_V) (cn cd nx ws fn us er fl : Int32) (tx co ca cb wt rk ro cl sr rs sp hv st mv : Nat → Int32) : Prop :=
  (q.1 = 0 → aw_PO post (aw_gs g T q.2) T (T + 1) cn cd nx ws fn er fl tx co ca cb wt) ∧ (¬ q.1 = 0 → post (cn, cd, nx, ws, fn, nI T, us, q.1, fl, tx, co, ca, cb, wt, rk, ro, cl, sr, rs, sp, hv, st, mv))
section
variable {cn cd nx ws fn tp us er fl : Int32} {tx co ca cb wt rk ro cl sr rs sp hv st mv : Nat → Int32} {g : Nat → Option aw_V} {T U x y r m n r' m' n' : Nat} {c c' : Nat → Int32} {post : SX → Prop} {f : Int32}
theorem xo_ok {q : Int32 × aw_V} (K : aw_XO post g T q cn cd nx ws fn us er fl tx co ca cb wt rk ro cl sr rs sp hv st mv) (e : q = aw_re r m n c) : aw_PO post (aw_gs g T (r, m, n, c)) T (T + 1) cn cd nx ws fn er fl tx co ca cb wt := by
  subst e; exact K.1 rfl
theorem xo_er {q : Int32 × aw_V} {e : Int32} (K : aw_XO post g T q cn cd nx ws fn us er fl tx co ca cb wt rk ro cl sr rs sp hv st mv) (h : q = aw_er e) (he : ¬ e = 0 := by decide) : post (cn, cd, nx, ws, fn, nI T, us, e, fl, tx, co, ca, cb, wt, rk, ro, cl, sr, rs, sp, hv, st, mv) := by
  subst h; exact K.2 he
/-- share into slot T -/
theorem xp_sh (h : aw_HX g T us rk ro cl sr rs sp hv st) (hT' : T ≤ 47) (hy : y < T) (gy : g y = some (r, m, n, c)) (K : aw_PO post (aw_gs g T (r, m, n, c)) T (T + 1) cn cd nx ws fn er fl tx co ca cb wt) : wpX_share post (cn, cd, nx, ws, fn, nI T, us, er, fl, tx, co, ca, cb, wt, rk, ro, cl, sr, rs, sp, hv, st, mv) (nI y) (nI T) := by
  obtain ⟨U, rfl, H⟩ := h
  exact xl_share (by omega) (by omega) (K _ _ _ _ _ _ _ _ _ _ ⟨U, rfl, hp_share H hy gy (fun a ha z => by omega)⟩)
theorem xp_s1 (h : aw_HX g T us rk ro cl sr rs sp hv st) (hT : 13 ≤ T) (hT' : T ≤ 47) (hy : y < T) (gy : g y = some (r, m, n, c)) (K : aw_XO post g T (aq_s1 f (r, m, n, c)) cn cd nx ws fn us er fl tx co ca cb wt rk ro cl sr rs sp hv st mv) : wpX_scalarOne post (cn, cd, nx, ws, fn, nI T, us, er, fl, tx, co, ca, cb, wt, rk, ro, cl, sr, rs, sp, hv, st, mv) f (nI y) := by
  obtain ⟨U, rfl, H⟩ := h
  have ky := hp_sk H (by omega) hy gy
  have hb := aw_okb ky.2.2.1
  refine And.intro (sk_in ky) (And.intro (sk_in ky) (And.intro (sk_in ky) (xl_make ⟨U, rfl, H⟩ hT hT' ky.2.2.1 ?_ rfl (sk_rk ky) (sk_rw ky) (sk_cl ky))))
  intro s us rk ro cl sr rs sp hv st mv M
  have hs := mk_room M
  refine xl_size (hp_sk (mk_hp M) (by omega) hy gy) ?_
  refine xl_fill0 (fun n1 k st => wX_scalarOne_35 post f (nI y) (nI (m * n)) cn cd nx ws fn (nI T) us er fl n1 (nI k) tx co ca cb wt rk ro cl sr rs sp hv st mv) (m * n) (fun k => aw_scal f (aw_emp f) (c k)) (mk_hp M) ?_ ?_
  · intro n1 st' H1 hc
    exact br_t (nI_le (Nat.le_refl _) (by omega)) (xo_ok K rfl _ _ _ _ _ _ _ _ _ _ (mk_done M H1 hc))
  · intro n1 k st' hk H1 ih
    have E : sr (nI T).toNatClampNeg + nI k = nI (s + k) := by rw [xl_cl (by omega) (mk_top M), nI_add]
    refine br_f (nI_ge hk (by omega)) (xl_rav (hp_sk H1 (by omega) hy gy) hk (And.intro (pk_in T 48 (by omega)) ?_))
    unfold aw_emp at ih
    by_cases z : f = 22
    · rw [if_pos z] at ih; exact br_t z (xl_scal (xl_tail E (by omega) rfl ih))
    · rw [if_neg z] at ih; exact br_f z (xl_scal (xl_tail E (by omega) rfl ih))
/-- scalarTwo behind its checks: the result is like slot l -/
theorem xp_s48 {l rl ml nl : Nat} {cl' : Nat → Int32} (h : aw_HX g T us rk ro cl sr rs sp hv st) (hT : 13 ≤ T) (hT' : T ≤ 47) (hx : x < T) (gx : g x = some (r, m, n, c)) (hy : y < T) (gy : g y = some (r', m', n', c'))
    (hl : l < T) (gl : g l = some (rl, ml, nl, cl')) (z1 : r ≠ 0 → m * n = ml * nl) (z2 : r' ≠ 0 → m' * n' = ml * nl)
    (K : aw_PO post (aw_gs g T (rl, ml, nl, fun k => aw_scal f (c (aw_k0 r k)) (c' (aw_k0 r' k)))) T (T + 1) cn cd nx ws fn er fl tx co ca cb wt) : wX_scalarTwo_48 post f (nI x) (nI y) (nI l) 1 cn cd nx ws fn (nI T) us er fl tx co ca cb wt rk ro cl sr rs sp hv st mv := by
  obtain ⟨U, rfl, H⟩ := h
  have kl := hp_sk H (by omega) hl gl
  have hb := aw_okb kl.2.2.1
  have ox := (hp_sk H (by omega) hx gx).2.2.1
  have oy := (hp_sk H (by omega) hy gy).2.2.1
  have bx := aw_okb ox
  have bY := aw_okb oy
  refine br_f (by decide) (And.intro (sk_in kl) (And.intro (sk_in kl) (And.intro (sk_in kl) (xl_make ⟨U, rfl, H⟩ hT hT' kl.2.2.1 ?_ rfl (sk_rk kl) (sk_rw kl) (sk_cl kl)))))
  intro s us rk ro cl sr rs sp hv st mv M
  have hs := mk_room M
  refine xl_size (hp_sk (mk_hp M) (by omega) hl gl) ?_
  refine xl_fill0 (fun n1 k st => wX_scalarTwo_122 post f (nI x) (nI y) (nI (ml * nl)) cn cd nx ws fn (nI T) us er fl n1 (nI k) tx co ca cb wt rk ro cl sr rs sp hv st mv) (ml * nl) (fun k => aw_scal f (c (aw_k0 r k)) (c' (aw_k0 r' k))) (mk_hp M) ?_ ?_
  · intro n1 st' H1 hc
    exact br_t (nI_le (Nat.le_refl _) (by omega)) (K _ _ _ _ _ _ _ _ _ _ (mk_done M H1 hc))
  · intro n1 k st' hk H1 ih
    have E : sr (nI T).toNatClampNeg + nI k = nI (s + k) := by rw [xl_cl (by omega) (mk_top M), nI_add]
    have k1 := hp_sk H1 (by omega) hx gx
    have k2 := hp_sk H1 (by omega) hy gy
    have inT : vp_in (nI T) 48 := pk_in T 48 (by omega)
    have sx : r = 0 → 0 < m * n := fun z => by obtain ⟨e1, e2⟩ := aw_okz ox z; subst e1 e2; decide
    have sy : r' = 0 → 0 < m' * n' := fun z => by obtain ⟨e1, e2⟩ := aw_okz oy z; subst e1 e2; decide
    refine br_f (nI_ge hk (by omega)) (And.intro (sk_in k1) (pk_eq r 0 (fun z => ?_) (fun z => ?_) (sk_rk k1)))
    · refine xl_rav (k := 0) k1 (sx z) (And.intro (sk_in k2) (pk_eq r' 0 (fun z' => ?_) (fun z' => ?_) (sk_rk k2)))
      · refine xl_rav (k := 0) k2 (sy z') (And.intro inT (xl_scal (xl_tail E (by omega) ?_ ih)))
        show _ = aw_scal f (c (aw_k0 r k)) (c' (aw_k0 r' k))
        rw [aw_k0z z, aw_k0z z']
      · refine xl_rav (k := k) k2 (by rw [z2 z']; exact hk) (And.intro inT (xl_scal (xl_tail E (by omega) ?_ ih)))
        show _ = aw_scal f (c (aw_k0 r k)) (c' (aw_k0 r' k))
        rw [aw_k0z z, aw_k0n z']
    · refine xl_rav (k := k) k1 (by rw [z1 z]; exact hk) (And.intro (sk_in k2) (pk_eq r' 0 (fun z' => ?_) (fun z' => ?_) (sk_rk k2)))
      · refine xl_rav (k := 0) k2 (sy z') (And.intro inT (xl_scal (xl_tail E (by omega) ?_ ih)))
        show _ = aw_scal f (c (aw_k0 r k)) (c' (aw_k0 r' k))
        rw [aw_k0n z, aw_k0z z']
      · refine xl_rav (k := k) k2 (by rw [z2 z']; exact hk) (And.intro inT (xl_scal (xl_tail E (by omega) ?_ ih)))
        show _ = aw_scal f (c (aw_k0 r k)) (c' (aw_k0 r' k))
        rw [aw_k0n z, aw_k0n z']
theorem xp_s2 (h : aw_HX g T us rk ro cl sr rs sp hv st) (hT : 13 ≤ T) (hT' : T ≤ 47) (hx : x < T) (gx : g x = some (r, m, n, c)) (hy : y < T) (gy : g y = some (r', m', n', c'))
    (K : aw_XO post g T (aq_s2 f (r, m, n, c) (r', m', n', c')) cn cd nx ws fn us er fl tx co ca cb wt rk ro cl sr rs sp hv st mv) : wpX_scalarTwo post (cn, cd, nx, ws, fn, nI T, us, er, fl, tx, co, ca, cb, wt, rk, ro, cl, sr, rs, sp, hv, st, mv) f (nI x) (nI y) := by
  obtain ⟨U, rfl, H⟩ := h
  have kx := hp_sk H (by omega) hx gx
  have ky := hp_sk H (by omega) hy gy
  have bx := aw_okb kx.2.2.1
  have bY := aw_okb ky.2.2.1
  have ex : ∀ (P : (r = r' ∧ m = m' ∧ n = n') ∨ r = 0 ∨ r' = 0), aq_s2 f (r, m, n, c) (r', m', n', c') = (if r = 0 then aw_re r' m' n' (fun k => aw_scal f (c (aw_k0 r k)) (c' (aw_k0 r' k))) else aw_re r m n (fun k => aw_scal f (c (aw_k0 r k)) (c' (aw_k0 r' k)))) := fun P => if_pos P
  refine And.intro (sk_in kx) (pk_eq r 0 (fun z => ?_) (fun z => ?_) (sk_rk kx))
  · have K1 := xo_ok K ((ex (Or.inr (Or.inl z))).trans (if_pos z))
    have W := xp_s48 (post := post) (f := f) (mv := mv) ⟨U, rfl, H⟩ hT hT' hx gx hy gy hy gy (fun z2 => absurd z z2) (fun _ => rfl) K1
    refine xl_same kx ky ?_
    by_cases e : r = r' ∧ m = m' ∧ n = n'
    · rw [if_pos e]; exact br_f (by decide) W
    · rw [if_neg e]; exact br_t rfl (And.intro (sk_in kx) (br_t (by rw [sk_rk kx, z]; rfl) W))
  · have K1 : ∀ (P : (r = r' ∧ m = m' ∧ n = n') ∨ r = 0 ∨ r' = 0), wX_scalarTwo_48 post f (nI x) (nI y) (nI x) 1 cn cd nx ws fn (nI T) (nI U) er fl tx co ca cb wt rk ro cl sr rs sp hv st mv := by
      intro P
      refine xp_s48 ⟨U, rfl, H⟩ hT hT' hx gx hy gy hx gx (fun _ => rfl) (fun z2 => ?_) (xo_ok K ((ex P).trans (if_neg z)))
      rcases P with ⟨_, e1, e2⟩ | e | e
      · rw [e1, e2]
      · exact absurd e z
      · exact absurd e z2
    refine xl_same kx ky ?_
    by_cases e : r = r' ∧ m = m' ∧ n = n'
    · rw [if_pos e]; exact br_f (by decide) (K1 (Or.inl e))
    · rw [if_neg e]
      refine br_t rfl (And.intro (sk_in kx) (br_f (by rw [sk_rk kx]; exact nI_ne0 (by omega) (by omega)) (And.intro (sk_in ky) (pk_eq r' 0 (fun z2 => K1 (Or.inr (Or.inr z2))) (fun z2 => ?_) (sk_rk ky)))))
      have P : ¬ ((r = r' ∧ m = m' ∧ n = n') ∨ r = 0 ∨ r' = 0) := by
        intro P
        rcases P with P | P | P
        · exact e P
        · exact z P
        · exact z2 P
      refine br_t rfl (And.intro (sk_in kx) (And.intro (sk_in ky) (pk_eq r r' (fun z3 => ?_) (fun z3 => ?_) (sk_rk kx) (sk_rk ky))))
      · exact xo_er K ((if_neg P).trans (if_pos z3))
      · exact xo_er K ((if_neg P).trans (if_neg z3))
theorem xp_fold (h : aw_HX g T us rk ro cl sr rs sp hv st) (hT : 13 ≤ T) (hT' : T ≤ 47) (hy : y < T) (gy : g y = some (r, m, n, c)) (K : aw_XO post g T (aq_fold f (r, m, n, c)) cn cd nx ws fn us er fl tx co ca cb wt rk ro cl sr rs sp hv st mv) : wpX_fold post (cn, cd, nx, ws, fn, nI T, us, er, fl, tx, co, ca, cb, wt, rk, ro, cl, sr, rs, sp, hv, st, mv) f (nI y) := by
  have H0 := h
  obtain ⟨U, rfl, H⟩ := h
  have ky := hp_sk H (by omega) hy gy
  have hok := ky.2.2.1
  have hb := aw_okb hok
  refine And.intro (sk_in ky) (pk_eq r 0 (fun z => ?_) (fun z => ?_) (sk_rk ky))
  · exact xp_sh H0 hT' hy gy (xo_ok K (if_pos z))
  · have K1 := xo_ok K (if_neg z)
    have hok2 : aw_ok (r - 1) 1 m := by
      by_cases z2 : r = 2
      · subst z2; exact aw_ok1 (by omega)
      · have : r = 1 := by omega
        subst this
        rw [aw_okm hok z2]; exact aw_ok0
    have W : wX_fold_55 post f (nI y) (nI m) (nI m) 1 (nI r - 1) (nI T) cn cd nx ws fn (nI T) (nI U) er fl tx co ca cb wt rk ro cl sr rs sp hv st mv := by
      refine xl_make H0 hT hT' hok2 ?_ rfl (pk_sub (b := 1) (by omega)) rfl rfl
      intro s us rk ro cl sr rs sp hv st mv M
      have hs := mk_room M
      rw [Nat.one_mul] at hs
      refine xl_fill0 (fun n1 k st => wX_fold_61 post f (nI y) (nI m) cn cd nx ws fn (nI T) us er fl n1 (nI k) tx co ca cb wt rk ro cl sr rs sp hv st mv) m (fun i => aw_fol f (fun j => c (i * n + j)) n) (mk_hp M) ?_ ?_
      · intro n1 st' H1 hc
        exact br_t (nI_le (Nat.le_refl _) (by omega)) (K1 _ _ _ _ _ _ _ _ _ _ (mk_done M H1 (fun q hq => hc q (by omega))))
      · intro n1 k st' hk H1 ih
        have E : sr (nI T).toNatClampNeg + nI k = nI (s + k) := by rw [xl_cl (by omega) (mk_top M), nI_add]
        have k1 := hp_sk H1 (by omega) hy gy
        exact br_f (nI_ge hk (by omega)) (And.intro (pk_in T 48 (by omega)) (And.intro (sk_in k1) (xl_folded k1 hk (Nat.le_refl n) (xl_tail E (by omega) rfl ih) rfl rfl (sk_cl k1))))
    refine And.intro (sk_in ky) (nm_r (sk_rw ky) (And.intro (sk_in ky) (And.intro (sk_in ky) ?_)))
    rw [sk_rk ky]
    refine pk_eq r 2 (fun z2 => W) (fun z2 => ?_)
    have := aw_okm hok z2
    subst this
    exact W
theorem xp_scan (h : aw_HX g T us rk ro cl sr rs sp hv st) (hT : 13 ≤ T) (hT' : T ≤ 47) (hy : y < T) (gy : g y = some (r, m, n, c)) (K : aw_XO post g T (aq_scan f (r, m, n, c)) cn cd nx ws fn us er fl tx co ca cb wt rk ro cl sr rs sp hv st mv) : wpX_scan post (cn, cd, nx, ws, fn, nI T, us, er, fl, tx, co, ca, cb, wt, rk, ro, cl, sr, rs, sp, hv, st, mv) f (nI y) := by
  have H0 := h
  obtain ⟨U, rfl, H⟩ := h
  have ky := hp_sk H (by omega) hy gy
  have hok := ky.2.2.1
  have hb := aw_okb hok
  refine And.intro (sk_in ky) (pk_eq r 0 (fun z => ?_) (fun z => ?_) (sk_rk ky))
  · exact xp_sh H0 hT' hy gy (xo_ok K (if_pos z))
  · have K1 := xo_ok K (if_neg z)
    refine And.intro (sk_in ky) (And.intro (sk_in ky) (And.intro (sk_in ky) (xl_make H0 hT hT' hok ?_ rfl (sk_rk ky) (sk_rw ky) (sk_cl ky))))
    intro s us rk ro cl sr rs sp hv st mv M
    have hs := mk_room M
    refine loop_0 (fun n1 i st => wX_scan_47 post f (nI y) cn cd nx ws fn (nI T) us er fl n1 (nI i) tx co ca cb wt rk ro cl sr rs sp hv st mv) (fun i st' => aw_HP g T s rk ro cl sr rs sp hv st' ∧ ∀ q, q < i * n → st' (s + q) = aw_fol f (fun j => c (q / n * n + j)) (q % n + 1)) m st ⟨mk_hp M, fun q hq => absurd hq (by omega)⟩ ?_ ?_
    · intro n1 st' I
      have k1 := hp_sk I.1 (by omega) hy gy
      exact And.intro (sk_in k1) (br_t (by rw [sk_rw k1]; exact nI_le (Nat.le_refl _) (by omega)) (K1 _ _ _ _ _ _ _ _ _ _ (mk_done M I.1 I.2)))
    · intro n1 i st1 hi I ih
      have k1 := hp_sk I.1 (by omega) hy gy
      refine And.intro (sk_in k1) (br_f (by rw [sk_rw k1]; exact nI_ge hi (by omega)) ?_)
      refine xl_fill (fun n2 j st => wX_scan_60 post (wX_scan_47 post f (nI y) cn cd nx ws fn (nI T) us er fl n1) f (nI y) (nI i) cn cd nx ws fn (nI T) us er fl n2 (nI j) tx co ca cb wt rk ro cl sr rs sp hv st mv) (i * n) n (fun q => aw_fol f (fun j => c (q / n * n + j)) (q % n + 1)) I.1 I.2 ?_ ?_
      · intro n2 st2 H2 hc
        have k2 := hp_sk H2 (by omega) hy gy
        refine And.intro (sk_in k2) (br_t (by rw [sk_cl k2]; exact nI_le (Nat.le_refl _) (by omega)) (nm_r (nI_1 i) (ih st2 ⟨H2, fun q hq => hc q (by rw [Nat.succ_mul] at hq; exact hq)⟩)))
      · intro n2 j st2 hj H2 ih2
        have k2 := hp_sk H2 (by omega) hy gy
        have hij := aw_ij hi hj
        obtain ⟨d1, d2⟩ := aw_dj (i := i) hj
        have E : sr (nI T).toNatClampNeg + nI i * cl (nI y).toNatClampNeg + nI j = nI (s + (i * n + j)) := by rw [xl_cl (by omega) (mk_top M), sk_cl k2, pk_mul, nI_add, nI_add, Nat.add_assoc]
        refine And.intro (sk_in k2) (br_f (by rw [sk_cl k2]; exact nI_ge hj (by omega)) (And.intro (pk_in T 48 (by omega)) (And.intro (sk_in k2) (xl_folded (N := j + 1) k2 hi (by omega) (xl_tail E (by omega) ?_ ih2) rfl rfl (nI_1 j)))))
        show _ = aw_fol f (fun q => c ((i * n + j) / n * n + q)) ((i * n + j) % n + 1)
        rw [d1, d2]
end
end
section
/-! 07: the component's products -/
section
variable {cn cd nx ws fn tp us er fl : Int32} {tx co ca cb wt rk ro cl sr rs sp hv st mv : Nat → Int32} {g : Nat → Option aw_V} {T U x y r m n r' m' n' : Nat} {c c' : Nat → Int32} {post : SX → Prop} {f : Int32}
theorem xl_mp {post : Int32 → SX → Prop} {p0 p1 p2 p3 : Int32} {q l1 l2 : Nat} (h : aw_HX g T us rk ro cl sr rs sp hv st) (hT : 13 ≤ T) (hT' : T ≤ 47) (hr : r ≤ 1) (hq : q ≤ 1) (hl1 : l1 ≤ 36) (hl2 : l2 ≤ 36)
    (K0 : r = 1 → q = 1 → (6 < l1 ∨ 6 < l2) → post 0 (cn, cd, nx, ws, fn, nI T, us, -16, fl, tx, co, ca, cb, wt, rk, ro, cl, sr, rs, sp, hv, st, mv))
    (K1 : ∀ m n, (r = 1 → q = 1 → m = l1 ∧ n = l2 ∧ l1 ≤ 6 ∧ l2 ≤ 6) → (¬ (r = 1 ∧ q = 1) → m = 1 ∧ n = (if r = 1 then l1 else if q = 1 then l2 else 1)) →
      ∀ s us rk ro cl sr rs sp hv st mv, aw_MK g T s (r + q) m n us rk ro cl sr rs sp hv st → post 1 (cn, cd, nx, ws, fn, nI T, us, er, fl, tx, co, ca, cb, wt, rk, ro, cl, sr, rs, sp, hv, st, mv))
    (h0 : p0 = nI r := by rfl) (h1 : p1 = nI l1 := by rfl) (h2 : p2 = nI q := by rfl) (h3 : p3 = nI l2 := by rfl) : wpX_makeProduct post (cn, cd, nx, ws, fn, nI T, us, er, fl, tx, co, ca, cb, wt, rk, ro, cl, sr, rs, sp, hv, st, mv) p0 p1 p2 p3 := by
  subst h0 h1 h2 h3
  refine pk_eq (r + q) 2 (fun z => ?_) (fun z => ?_) (nI_add r q)
  · have er1 : r = 1 := by omega
    have eq1 : q = 1 := by omega
    refine pk_lt 6 l1 (fun z1 => ?_) (fun z1 => ?_)
    · exact K0 er1 eq1 (Or.inl z1)
    · refine pk_le l2 6 (fun z2 => ?_) (fun z2 => ?_)
      · refine xl_make h hT hT' (r := 2) (aw_ok2 z1 z2) ?_
        intro s us rk ro cl sr rs sp hv st mv M
        exact K1 l1 l2 (fun _ _ => ⟨rfl, rfl, z1, z2⟩) (fun z3 => absurd ⟨er1, eq1⟩ z3) s us rk ro cl sr rs sp hv st mv (by rw [z]; exact M)
      · exact K0 er1 eq1 (Or.inr z2)
  · have z3 : ¬ (r = 1 ∧ q = 1) := by omega
    have go : ∀ n, aw_ok (r + q) 1 n → n = (if r = 1 then l1 else if q = 1 then l2 else 1) → wX_makeProduct_72 post (nI n) 1 (nI r + nI q) (nI T) cn cd nx ws fn (nI T) us er fl tx co ca cb wt rk ro cl sr rs sp hv st mv := by
      intro n hok en
      refine xl_make h hT hT' hok ?_ rfl (nI_add r q) rfl rfl
      intro s us rk ro cl sr rs sp hv st mv M
      exact K1 1 n (fun a b => absurd ⟨a, b⟩ z3) (fun _ => ⟨rfl, en⟩) s us rk ro cl sr rs sp hv st mv M
    refine pk_eq r 1 (fun z1 => ?_) (fun z1 => ?_)
    · have e : r + q = 1 := by omega
      exact go l1 (by rw [e]; exact aw_ok1 hl1) (by rw [if_pos z1])
    · refine pk_eq q 1 (fun z2 => ?_) (fun z2 => ?_)
      · have e : r + q = 1 := by omega
        exact go l2 (by rw [e]; exact aw_ok1 hl2) (by rw [if_neg z1, if_pos z2])
      · have e : r + q = 0 := by omega
        exact go 1 (by rw [e]; exact aw_ok0) (by rw [if_neg z1, if_neg z2])
theorem xp_outer (h : aw_HX g T us rk ro cl sr rs sp hv st) (hT : 13 ≤ T) (hT' : T ≤ 47) (hx : x < T) (gx : g x = some (r, m, n, c)) (hy : y < T) (gy : g y = some (r', m', n', c'))
    (K : aw_XO post g T (aq_outer f (r, m, n, c) (r', m', n', c')) cn cd nx ws fn us er fl tx co ca cb wt rk ro cl sr rs sp hv st mv) : wpX_outer post (cn, cd, nx, ws, fn, nI T, us, er, fl, tx, co, ca, cb, wt, rk, ro, cl, sr, rs, sp, hv, st, mv) f (nI x) (nI y) := by
  have H0 := h
  obtain ⟨U, rfl, H⟩ := h
  have kx := hp_sk H (by omega) hx gx
  have ky := hp_sk H (by omega) hy gy
  have bx := aw_okb kx.2.2.1
  have bY := aw_okb ky.2.2.1
  refine And.intro (sk_in kx) (nm_r (sk_rk kx) (And.intro (sk_in ky) (nm_r (sk_rk ky) (pk_le (r + r') 2 (fun z => ?_) (fun z => ?_) (nI_add r r')))))
  · have e0 : ¬ 2 < r + r' := by omega
    have S : (r = 2 ∨ r' = 2) → wX_outer_44 post f (nI x) (nI y) cn cd nx ws fn (nI T) (nI U) er fl tx co ca cb wt rk ro cl sr rs sp hv st mv := by
      intro P
      have e : aq_outer f (r, m, n, c) (r', m', n', c') = aq_s2 f (r, m, n, c) (r', m', n', c') := (if_neg e0).trans (if_pos P)
      rw [e] at K
      exact xp_s2 H0 hT hT' hx gx hy gy K
    refine pk_eq r 2 (fun z1 => S (Or.inl z1)) (fun z1 => pk_eq r' 2 (fun z2 => S (Or.inr z2)) (fun z2 => ?_))
    have eP : ¬ (r = 2 ∨ r' = 2) := by omega
    have ox := kx.2.2.1
    have oy := ky.2.2.1
    refine And.intro (sk_in kx) (And.intro (sk_in ky) (xl_mp H0 hT hT' (r := r) (q := r') (l1 := n) (l2 := n') (by omega) (by omega) bx.2.2.1 bY.2.2.1 ?_ ?_ rfl (sk_cl kx) rfl (sk_cl ky)))
    · intro a1 a2 P
      have Q := xo_er K ((if_neg e0).trans ((if_neg eP).trans ((if_pos ⟨a1, a2⟩).trans (if_pos P))))
      refine And.intro (sk_in ky) (nm_r (sk_cl ky) (br_t rfl ⟨1, ?_⟩))
      exact br_t (by decide) Q
    · intro m1 n1 A B s us rk ro cl sr rs sp hv st mv M
      have k0 := hp_sk (mk_hp M) (by omega) hy gy
      have k0x := hp_sk (mk_hp M) (by omega) hx gx
      have hs := mk_room M
      have es : m1 * n1 = n * n' := by
        by_cases a1 : r = 1
        · by_cases a2 : r' = 1
          · obtain ⟨e1, e2, _⟩ := A a1 a2; rw [e1, e2]
          · obtain ⟨e1, e2⟩ := B (fun z => a2 z.2)
            rw [if_pos a1] at e2
            have := (aw_okz oy (by omega)).2
            rw [e1, e2, this]; omega
        · obtain ⟨e1, e2⟩ := B (fun z => a1 z.1)
          rw [if_neg a1] at e2
          have h1 := (aw_okz ox (by omega)).2
          by_cases a2 : r' = 1
          · rw [if_pos a2] at e2; rw [e1, e2, h1]
          · rw [if_neg a2] at e2
            have h2 := (aw_okz oy (by omega)).2
            rw [e1, e2, h1, h2]
      have hb := aw_okb M.2.2.2.1
      have KK : aw_PO post (aw_gs g T (r + r', m1, n1, fun k => aw_scal f (c (k / n')) (c' (k % n')))) T (T + 1) cn cd nx ws fn er fl tx co ca cb wt := by
        by_cases a1 : r = 1 ∧ r' = 1
        · obtain ⟨e1, e2, e3, e4⟩ := A a1.1 a1.2
          have e5 : r + r' = 2 := by omega
          rw [e1, e2, e5]
          exact xo_ok K ((if_neg e0).trans ((if_neg eP).trans ((if_pos a1).trans (if_neg (by omega)))))
        · obtain ⟨e1, e2⟩ := B a1
          rw [e1, e2]
          exact xo_ok K ((if_neg e0).trans ((if_neg eP).trans (if_neg a1)))
      refine And.intro (sk_in k0) (nm_r (sk_cl k0) (br_f (by decide) (And.intro (sk_in k0x) (nm_r (e' := nI (m1 * n1)) (by rw [sk_cl k0x, pk_mul, es]) ?_))))
      refine xl_fill0 (fun n2 k st => wX_outer_105 post f (nI x) (nI y) (nI n') (nI (m1 * n1)) cn cd nx ws fn (nI T) us er fl n2 (nI k) tx co ca cb wt rk ro cl sr rs sp hv st mv) (m1 * n1) (fun k => aw_scal f (c (k / n')) (c' (k % n'))) (mk_hp M) ?_ ?_
      · intro n2 st' H1 hc
        exact br_t (nI_le (Nat.le_refl _) (by omega)) (KK _ _ _ _ _ _ _ _ _ _ (mk_done M H1 hc))
      · intro n2 k st' hk H1 ih
        have E : sr (nI T).toNatClampNeg + nI k = nI (s + k) := by rw [xl_cl (by omega) (mk_top M), nI_add]
        have k1 := hp_sk H1 (by omega) hx gx
        have k2 := hp_sk H1 (by omega) hy gy
        obtain ⟨d1, d2, d3, d4⟩ := aw_dm (show k < n * n' by omega)
        have hn : ¬ nI n' = 0 := nI_ne0 d1 (by omega)
        have m0 : 0 < m := by rw [aw_okm ox z1]; decide
        have m0' : 0 < m' := by rw [aw_okm oy z2]; decide
        refine br_f (nI_ge hk (by omega)) (And.intro hn (xl_num k1 m0 d2 (And.intro hn (xl_num k2 m0' d3 (And.intro (pk_in T 48 (by omega)) (xl_scal (xl_tail E (by omega) ?_ ih))) rfl rfl (pk_rem (by omega) d1 (by omega)))) rfl rfl (pk_div (by omega) d1 (by omega))))
        show _ = aw_scal f (c (k / n')) (c' (k % n'))
        rw [Nat.zero_mul, Nat.zero_add, Nat.zero_mul, Nat.zero_add]
  · exact xo_er K (if_pos z)
/-- one number of an inner product -/
theorem xl_cr76 {post : Int32 → Prop} {J : Int32 → Int32 → Prop} {e : Int32} {i k : Nat} {v z0 : Int32} {x4 x6 : Int32} (kx : aw_SK st rk ro cl sr rs sp U x r m n c) (hi : i < m) (hk : k < n)
    (K : J (if k + 1 = n then aw_scal e (c (i * n + k)) z0 else aw_scal f (aw_scal e (c (i * n + k)) z0) v) (nI k - 1)) : wX_crossed_76 post J f e (nI i) x4 (nI x) x6 (nI n) v (nI k) z0 cn cd nx ws fn tp us er fl tx co ca cb wt rk ro cl sr rs sp hv st mv := by
  have bx := aw_okb kx.2.2.1
  refine xl_num kx hi hk (xl_scal ?_)
  obtain ⟨n1, rfl⟩ : ∃ n1, n = n1 + 1 := ⟨n - 1, by omega⟩
  refine pk_eq k n1 (fun z => ?_) (fun z => ?_) rfl (nI_pred n1)
  · rw [if_pos (by omega)] at K
    exact nm_r (Int32.sub_eq_add_neg ..).symm K
  · rw [if_neg (by omega)] at K
    exact xl_scal (nm_r (Int32.sub_eq_add_neg ..).symm K)
theorem xl_cr38 {post : Int32 → Prop} {e : Int32} {i j k : Nat} {v : Int32} {N1 : Nat} (kx : aw_SK st rk ro cl sr rs sp U x r m n c) (ky : aw_SK st rk ro cl sr rs sp U y r' m' n' c') (hn : n = aw_fl r' m' n') (hi : i < m) (hj : j < aw_wd r' n') (hr : r' ≠ 0) (hk : k < n)
    (K : wX_crossed_38 post f e (nI i) (nI j) (nI x) (nI y) (nI n) cn cd nx ws fn tp us er fl tx co ca cb wt rk ro cl sr rs sp hv st mv N1
      (if k + 1 = n then aw_scal e (c (i * n + k)) (c' (if r' = 2 then k * n' + j else k)) else aw_scal f (aw_scal e (c (i * n + k)) (c' (if r' = 2 then k * n' + j else k))) v) (nI k - 1)) :
    wX_crossed_38 post f e (nI i) (nI j) (nI x) (nI y) (nI n) cn cd nx ws fn tp us er fl tx co ca cb wt rk ro cl sr rs sp hv st mv (N1 + 1) v (nI k) := by
  have bx := aw_okb kx.2.2.1
  have oy := ky.2.2.1
  have bY := aw_okb oy
  refine br_f (nI_pos (by omega)) (And.intro (sk_in ky) (pk_eq r' 2 (fun z => ?_) (fun z => ?_) (sk_rk ky)))
  · rw [if_pos z] at K
    unfold aw_wd at hj
    unfold aw_fl at hn
    rw [if_pos z] at hn hj
    exact xl_num ky (show k < m' by omega) hj (xl_cr76 kx hi hk K)
  · rw [if_neg z] at K
    unfold aw_fl at hn
    rw [if_neg z] at hn
    have hm := aw_okm oy z
    refine xl_num ky (i := 0) (show 0 < m' by omega) (show k < n' by omega) (xl_cr76 kx hi hk ?_)
    rw [Nat.zero_mul, Nat.zero_add]
    exact K
theorem xl_crD {post : Int32 → Prop} {e : Int32} {i j : Nat} (kx : aw_SK st rk ro cl sr rs sp U x r m n c) (ky : aw_SK st rk ro cl sr rs sp U y r' m' n' c') (hn : n = aw_fl r' m' n') (hi : i < m) (hj : j < aw_wd r' n') (hr : r' ≠ 0) :
    ∀ (k : Nat) (v : Int32), k < n → post (aw_fdn f (fun k => aw_scal e (c (i * n + k)) (c' (if r' = 2 then k * n' + j else k))) k v) → wX_crossed_38 post f e (nI i) (nI j) (nI x) (nI y) (nI n) cn cd nx ws fn tp us er fl tx co ca cb wt rk ro cl sr rs sp hv st mv (k + 1) v (nI k - 1)
  | 0, v, _, K => br_t (by decide) K
  | k + 1, v, hk, K => by
    rw [nI_pred]
    refine xl_cr38 kx ky hn hi hj hr (by omega) ?_
    rw [if_neg (show ¬ k + 1 = n by omega)]
    exact xl_crD kx ky hn hi hj hr k _ (by omega) K
theorem xl_cr {post : Int32 → Prop} {e p2 p3 : Int32} {i j : Nat} (kx : aw_SK st rk ro cl sr rs sp U x r m n c) (ky : aw_SK st rk ro cl sr rs sp U y r' m' n' c') (ex : x + 1 = T) (ey : y + 2 = T) (hn : n = aw_fl r' m' n') (hi : i < m) (hj : j < aw_wd r' n') (hr : r' ≠ 0)
    (K : post (aw_fol f (fun k => aw_scal e (c (i * n + k)) (c' (if r' = 2 then k * n' + j else k))) n)) (h2 : p2 = nI i := by rfl) (h3 : p3 = nI j := by rfl) : wpX_crossed post (cn, cd, nx, ws, fn, nI T, us, er, fl, tx, co, ca, cb, wt, rk, ro, cl, sr, rs, sp, hv, st, mv) f e p2 p3 := by
  subst h2 h3
  have bx := aw_okb kx.2.2.1
  have e1 : nI T - 1 = nI x := by rw [← ex]; exact nI_pred x
  have e2 : nI T - 2 = nI y := by rw [← ey]; exact pk_sub (a := y + 2) (b := 2) (by omega)
  refine nm_r e1 (nm_r e2 (And.intro (sk_in kx) (nm_r (sk_cl kx) (xl_empty (nm_e ?_)))))
  cases n with
  | zero => exact ⟨1, br_t (by decide) K⟩
  | succ n1 =>
    rw [nI_pred]
    refine ⟨n1 + 2, xl_cr38 kx ky hn hi hj hr (by omega) ?_⟩
    rw [if_pos rfl]
    exact xl_crD kx ky hn hi hj hr n1 _ (by omega) K
theorem xp_inner {e : Int32} (h : aw_HX g T us rk ro cl sr rs sp hv st) (hT : 13 ≤ T) (hT' : T ≤ 47) (hx : x + 1 = T) (gx : g x = some (r, m, n, c)) (hy : y + 2 = T) (gy : g y = some (r', m', n', c'))
    (K : aw_XO post g T (aq_inner f e (r, m, n, c) (r', m', n', c')) cn cd nx ws fn us er fl tx co ca cb wt rk ro cl sr rs sp hv st mv) : wpX_inner post (cn, cd, nx, ws, fn, nI T, us, er, fl, tx, co, ca, cb, wt, rk, ro, cl, sr, rs, sp, hv, st, mv) f e (nI x) (nI y) := by
  have H0 := h
  obtain ⟨U, rfl, H⟩ := h
  have hxT : x < T := by omega
  have hyT : y < T := by omega
  have kx := hp_sk H (by omega) hxT gx
  have ky := hp_sk H (by omega) hyT gy
  have ox := kx.2.2.1
  have oy := ky.2.2.1
  have bx := aw_okb ox
  have bY := aw_okb oy
  refine And.intro (sk_in kx) (pk_eq r 0 (fun z => xo_er K (if_pos (Or.inl z))) (fun z => ?_) (sk_rk kx))
  refine And.intro (sk_in ky) (pk_eq r' 0 (fun z' => xo_er K (if_pos (Or.inr z'))) (fun z' => ?_) (sk_rk ky))
  have e0 : ¬ (r = 0 ∨ r' = 0) := by omega
  have bf : aw_fl r' m' n' ≤ 36 := by unfold aw_fl; split <;> omega
  refine And.intro (sk_in kx) (xl_first ky (pk_eq n (aw_fl r' m' n') (fun z2 => ?_) (fun z2 => xo_er K ((if_neg e0).trans (if_pos z2))) (sk_cl kx)))
  have K1 := xo_ok K ((if_neg e0).trans (if_neg (fun q => q z2)))
  have W : ∀ w, w = aw_wd r' n' → wX_inner_78 post f e (nI x) (nI y) (nI m) (nI w) cn cd nx ws fn (nI T) (nI U) er fl tx co ca cb wt rk ro cl sr rs sp hv st mv := by
    intro w ew
    have bw : w ≤ 36 := by rw [ew]; unfold aw_wd; split <;> omega
    refine And.intro (sk_in kx) (And.intro (sk_in ky) (xl_mp H0 hT hT' (r := r - 1) (q := r' - 1) (l1 := m) (l2 := w) (by omega) (by omega) (by omega) bw ?_ ?_ (by rw [sk_rk kx]; exact pk_sub (b := 1) (by omega)) rfl (by rw [sk_rk ky]; exact pk_sub (b := 1) (by omega)) rfl))
    · intro a1 a2 P
      have h1 := (aw_okn ox (by omega)).1
      have h2 := (aw_okn oy (by omega)).2
      unfold aw_wd at ew
      rw [if_pos (by omega)] at ew
      omega
    · intro m1 n1 A B s us rk ro cl sr rs sp hv st mv M
      have es : m1 * n1 = m * w ∧ aw_PO post (aw_gs g T (r - 1 + (r' - 1), m1, n1, fun k => aw_fol f (fun i => aw_scal e (c (k / aw_wd r' n' * n + i)) (c' (if r' = 2 then i * n' + k % aw_wd r' n' else i))) n)) T (T + 1) cn cd nx ws fn er fl tx co ca cb wt := by
        have er : r - 1 + (r' - 1) = r + r' - 2 := by omega
        by_cases a1 : r = 2
        · by_cases a2 : r' = 2
          · obtain ⟨e1, e2, _⟩ := A (by omega) (by omega)
            rw [if_pos ⟨a1, a2⟩, if_pos ⟨a1, a2⟩] at K1
            have e3 : w = n' := by rw [ew]; exact if_pos a2
            rw [er, e1, e2, e3]
            exact ⟨rfl, K1⟩
          · obtain ⟨e1, e2⟩ := B (by omega)
            rw [if_pos (by omega)] at e2
            rw [if_neg (fun z => a2 z.2), if_neg (fun z => a2 z.2), if_pos a1] at K1
            have e3 : w = 1 := by rw [ew]; exact if_neg a2
            rw [er, e1, e2, e3]
            exact ⟨by omega, K1⟩
        · have hm := aw_okm ox a1
          obtain ⟨e1, e2⟩ := B (by omega)
          rw [if_neg (by omega)] at e2
          rw [if_neg (fun z => a1 z.1), if_neg (fun z => a1 z.1), if_neg a1] at K1
          by_cases a2 : r' = 2
          · rw [if_pos (by omega)] at e2
            rw [er, e1, e2, hm, ew]
            exact ⟨rfl, K1⟩
          · rw [if_neg (by omega)] at e2
            have e3 : aw_wd r' n' = 1 := if_neg a2
            rw [er, e1, e2, hm, ew]
            rw [e3] at K1 ⊢
            exact ⟨rfl, K1⟩
      obtain ⟨es, KK⟩ := es
      have hs := mk_room M
      have hb := aw_okb M.2.2.2.1
      rw [← ew] at KK
      refine loop_0 (fun n2 i st => wX_inner_109 post f e (nI m) (nI w) cn cd nx ws fn (nI T) us er fl n2 (nI i) tx co ca cb wt rk ro cl sr rs sp hv st mv) (fun i st' => aw_HP g T s rk ro cl sr rs sp hv st' ∧ ∀ q, q < i * w → st' (s + q) = aw_fol f (fun i => aw_scal e (c (q / w * n + i)) (c' (if r' = 2 then i * n' + q % w else i))) n) m st ⟨mk_hp M, fun q hq => absurd hq (by omega)⟩ ?_ ?_
      · intro n2 st' I
        exact br_t (nI_le (Nat.le_refl _) (by omega)) (KK _ _ _ _ _ _ _ _ _ _ (mk_done M I.1 (fun q hq => I.2 q (by omega))))
      · intro n2 i st1 hi I ih
        refine br_f (nI_ge hi (by omega)) ?_
        refine xl_fill (fun n3 j st => wX_inner_119 post (wX_inner_109 post f e (nI m) (nI w) cn cd nx ws fn (nI T) us er fl n2) f e (nI m) (nI w) (nI i) cn cd nx ws fn (nI T) us er fl n3 (nI j) tx co ca cb wt rk ro cl sr rs sp hv st mv) (i * w) w (fun q => aw_fol f (fun i => aw_scal e (c (q / w * n + i)) (c' (if r' = 2 then i * n' + q % w else i))) n) I.1 I.2 ?_ ?_
        · intro n3 st2 H2 hc
          exact br_t (nI_le (Nat.le_refl _) (by omega)) (nm_r (nI_1 i) (ih st2 ⟨H2, fun q hq => hc q (by rw [Nat.succ_mul] at hq; exact hq)⟩))
        · intro n3 j st2 hj H2 ih2
          have k1 := hp_sk H2 (by omega) hxT gx
          have k2 := hp_sk H2 (by omega) hyT gy
          have hij := aw_ij hi hj
          obtain ⟨d1, d2⟩ := aw_dj (i := i) hj
          have E : sr (nI T).toNatClampNeg + nI i * nI w + nI j = nI (s + (i * w + j)) := by rw [xl_cl (by omega) (mk_top M), pk_mul, nI_add, nI_add, Nat.add_assoc]
          refine br_f (nI_ge hj (by omega)) (xl_cr k1 k2 hx hy z2 hi (by rw [← ew]; exact hj) z' (And.intro (pk_in T 48 (by omega)) (xl_tail E (by omega) ?_ ih2)))
          show _ = aw_fol f (fun q => aw_scal e (c ((i * w + j) / w * n + q)) (c' (if r' = 2 then q * n' + (i * w + j) % w else q))) n
          rw [d1, d2]
  refine And.intro (sk_in kx) (nm_r (sk_rw kx) (And.intro (sk_in ky) ?_))
  refine pk_eq r' 2 (fun z3 => And.intro (sk_in ky) ?_) (fun z3 => ?_) (sk_rk ky)
  · rw [sk_cl ky]
    exact W n' (by unfold aw_wd; rw [if_pos z3])
  · exact W 1 (by unfold aw_wd; rw [if_neg z3])
end
end
section
/-! 08: the component's shapes -/
section
variable {cn cd nx ws fn tp us er fl : Int32} {tx co ca cb wt rk ro cl sr rs sp hv st mv : Nat → Int32} {g : Nat → Option aw_V} {T U x y r m n r' m' n' : Nat} {c c' : Nat → Int32} {post : SX → Prop} {f : Int32}
theorem xl_st {P : (Nat → Int32) → Prop} {E v v' : Int32} {q : Nat} (hE : E = nI q) (hq : q < 1800) (hv : v = v') (K : P (upd st q v')) : vp_in E 1800 ∧ ∀ y, y = upd st E.toNatClampNeg v → P y := by
  subst hE hv
  refine ⟨vp_in_nI hq (by decide), fun y ey => ?_⟩
  subst ey
  rw [nI_clamp (by omega)]
  exact K
theorem mk_sk {s : Nat} (M : aw_MK g T s r m n us rk ro cl sr rs sp hv st) (hT : T < 48) : aw_SK st rk ro cl sr rs sp 1800 T r m n (fun k => st (s + k)) := by
  have hs := mk_room M
  refine ⟨hT, Nat.le_refl _, M.2.2.2.1, M.2.2.2.2.1, M.2.2.2.2.2.1, M.2.2.2.2.2.2.1, fun i j hi hj => ⟨s + (i * n + j), ?_, ?_, rfl⟩⟩
  · have := aw_ij hi hj; omega
  · rw [mk_top M, M.2.2.2.2.2.2.2.2.1, M.2.2.2.2.2.2.2.2.2.1, pk_mul, nI_add, Int32.mul_one, nI_add, Nat.add_assoc]
theorem xp_sh1 (h : aw_HX g T us rk ro cl sr rs sp hv st) (hT : 13 ≤ T) (hT' : T ≤ 47) (hy : y < T) (gy : g y = some (r, m, n, c)) (K : aw_XO post g T (aq_sh1 (r, m, n, c)) cn cd nx ws fn us er fl tx co ca cb wt rk ro cl sr rs sp hv st mv) : wpX_shapeOne post (cn, cd, nx, ws, fn, nI T, us, er, fl, tx, co, ca, cb, wt, rk, ro, cl, sr, rs, sp, hv, st, mv) (nI y) := by
  have H0 := h
  obtain ⟨U, rfl, H⟩ := h
  have ky := hp_sk H (by omega) hy gy
  have hok := ky.2.2.1
  have hb := aw_okb hok
  have K1 := xo_ok K rfl
  refine And.intro (sk_in ky) (xl_make H0 hT hT' (aw_ok1 (n := r) (by omega)) ?_ rfl rfl rfl (sk_rk ky))
  intro s us rk ro cl sr rs sp hv st mv M
  have hs := mk_room M
  have k1 := hp_sk (mk_hp M) (by omega) hy gy
  have inT : vp_in (nI T) 48 := pk_in T 48 (by omega)
  have E : sr (nI T).toNatClampNeg = nI s := xl_cl (by omega) (mk_top M)
  refine And.intro (sk_in k1) (pk_eq r 2 (fun z => ?_) (fun z => ?_) (sk_rk k1))
  · subst z
    refine And.intro inT (And.intro (sk_in k1) (xl_st E (by omega) (sk_rw k1) (And.intro inT (And.intro (sk_in k1) (xl_st (q := s + 1) (by rw [E]; exact nI_1 s) (by omega) (sk_cl k1) (K1 _ _ _ _ _ _ _ _ _ _ (mk_done M (hp_upd (hp_upd (mk_hp M) (Nat.le_refl s)) (by omega)) (fun q hq => ?_))))))))
    have h2 : q = 0 ∨ q = 1 := by omega
    rcases h2 with e | e
    · subst e; rw [pk_un (by omega), Nat.add_zero, pk_us]; rfl
    · subst e; rw [pk_us]; rfl
  · refine And.intro (sk_in k1) (pk_eq r 1 (fun z1 => ?_) (fun z1 => ?_) (sk_rk k1))
    · subst z1
      refine And.intro inT (And.intro (sk_in k1) (xl_st E (by omega) (sk_cl k1) (K1 _ _ _ _ _ _ _ _ _ _ (mk_done M (hp_upd (mk_hp M) (Nat.le_refl s)) (fun q hq => ?_)))))
      have e : q = 0 := by omega
      subst e; rw [Nat.add_zero, pk_us]; rfl
    · exact K1 _ _ _ _ _ _ _ _ _ _ (mk_done M (mk_hp M) (fun q hq => absurd hq (by omega)))
theorem xp_s169 {q1 q2 q3 N : Nat} (h : aw_HX g T us rk ro cl sr rs sp hv st) (hT : 13 ≤ T) (hT' : T ≤ 47) (hy : y < T) (gy : g y = some (r', m', n', c')) (hok : aw_ok q1 q2 q3) (eN : N = m' * n')
    (K : aw_PO post (aw_gs g T (q1, q2, q3, fun k => if m' * n' = 0 then 0 else c' (k % (m' * n')))) T (T + 1) cn cd nx ws fn er fl tx co ca cb wt) : wX_shapeTwo_169 post (nI y) (nI N) (nI q3) (nI q2) (nI q1) (nI T) cn cd nx ws fn (nI T) us er fl tx co ca cb wt rk ro cl sr rs sp hv st mv := by
  subst eN
  obtain ⟨U, rfl, H⟩ := h
  have ky := hp_sk H (by omega) hy gy
  have hb := aw_okb ky.2.2.1
  have hq := aw_okb hok
  refine xl_make ⟨U, rfl, H⟩ hT hT' hok ?_
  intro s us rk ro cl sr rs sp hv st mv M
  have hs := mk_room M
  have kT := mk_sk M (by omega)
  refine xl_size kT ?_
  refine xl_fill0 (fun n1 k st => wX_shapeTwo_185 post (nI y) (nI (m' * n')) (nI (q2 * q3)) cn cd nx ws fn (nI T) us er fl n1 (nI k) tx co ca cb wt rk ro cl sr rs sp hv st mv) (q2 * q3) (fun k => if m' * n' = 0 then 0 else c' (k % (m' * n'))) (mk_hp M) ?_ ?_
  · intro n1 st' H1 hc
    exact br_t (nI_le (Nat.le_refl _) (by omega)) (K _ _ _ _ _ _ _ _ _ _ (mk_done M H1 hc))
  · intro n1 k st' hk H1 ih
    have E : sr (nI T).toNatClampNeg + nI k = nI (s + k) := by rw [xl_cl (by omega) (mk_top M), nI_add]
    have k1 := hp_sk H1 (by omega) hy gy
    refine br_f (nI_ge hk (by omega)) (And.intro (pk_in T 48 (by omega)) ?_)
    by_cases z : m' * n' = 0
    · rw [if_pos z] at ih
      exact br_t (by rw [z]; rfl) (xl_tail E (by omega) rfl ih)
    · rw [if_neg z] at ih
      have hn : ¬ nI (m' * n') = 0 := nI_ne0 (by omega) (by omega)
      exact br_f hn (And.intro hn (xl_rav k1 (Nat.mod_lt k (by omega)) (xl_tail E (by omega) rfl ih) rfl (pk_rem (by omega) (by omega) (by omega))))
theorem aw_rgo {v : Int32} {b : Nat} (h : aw_rg v b) (hb : b < 2 ^ 31) : v = nI (aw_tn v) ∧ aw_tn v ≤ b := by
  obtain ⟨j, hj, rfl⟩ := nI_of h.1
  have e : aw_tn (nI j) = j := nI_clamp hj
  rw [e]
  exact ⟨rfl, (nI_leI hj hb).mp h.2⟩
theorem xp_sh2 (h : aw_HX g T us rk ro cl sr rs sp hv st) (hT : 13 ≤ T) (hT' : T ≤ 47) (hx : x < T) (gx : g x = some (r, m, n, c)) (hy : y < T) (gy : g y = some (r', m', n', c'))
    (K : aw_XO post g T (aq_sh2 (r, m, n, c) (r', m', n', c')) cn cd nx ws fn us er fl tx co ca cb wt rk ro cl sr rs sp hv st mv) : wpX_shapeTwo post (cn, cd, nx, ws, fn, nI T, us, er, fl, tx, co, ca, cb, wt, rk, ro, cl, sr, rs, sp, hv, st, mv) (nI x) (nI y) := by
  have H0 := h
  obtain ⟨U, rfl, H⟩ := h
  have kx := hp_sk H (by omega) hx gx
  have ky := hp_sk H (by omega) hy gy
  have ox := kx.2.2.1
  have bx := aw_okb ox
  have bY := aw_okb ky.2.2.1
  refine And.intro (sk_in kx) (nm_r (sk_cl kx) (And.intro (sk_in kx) (pk_eq r 2 (fun z => ?_) (fun z => ?_) (sk_rk kx))))
  · exact And.intro (sk_in kx) (br_t (by rw [sk_rk kx, z]; rfl) (xo_er K (if_pos z)))
  have m1 := aw_okm ox z
  have m0 : 0 < m := by omega
  refine pk_le n 2 (fun z1 => ?_) (fun z1 => ?_)
  · rcases (show n = 0 ∨ n = 1 ∨ n = 2 by omega) with e | e | e
    · subst e
      have K1 := xo_ok K ((if_neg z).trans ((if_neg (by omega)).trans (if_pos rfl)))
      refine br_f (by decide) (br_t (by decide) (br_t (by decide) (br_f (by decide) (br_f (by decide) (br_f (by decide) (br_t (by decide) (xl_size ky (br_f (by decide) (br_f (by decide) (br_f (by decide) ?_))))))))))
      exact xp_s169 (q1 := 0) (q2 := 1) (q3 := 1) H0 hT hT' hy gy aw_ok0 rfl K1
    · subst e
      refine br_t rfl (br_f (by decide) (xl_num (i := 0) (j := 0) kx m0 (by omega) (br_t (by decide) ?_)))
      show wX_shapeTwo_91 post (nI y) (nI 1) 36 (c (0 * 1 + 0)) 1 _ _ _ _ _ _ _ _ _ _ _ _ _ _ _ _ _ _ _ _ _ _ _
      by_cases R : aw_rg (c 0) 36
      · have K1 := xo_ok K ((if_neg z).trans ((if_neg (by omega)).trans ((if_neg (by omega)).trans ((if_pos rfl).trans (aw_ift R)))))
        obtain ⟨e1, e2⟩ := aw_rgo R (by decide)
        have nlt : ¬ (36 : Int32) < c 0 := Int32.not_lt.mpr R.2
        refine br_f R.1 (br_f nlt (br_f (by decide) (br_t (by decide) (xl_size ky (br_f (by decide) (br_f (by decide) (br_t rfl ?_)))))))
        have W := xp_s169 (mv := mv) (q1 := 1) (q2 := 1) (q3 := aw_tn (c 0)) H0 hT hT' hy gy (aw_ok1 e2) rfl K1
        rw [← e1] at W
        exact W
      · have K1 := xo_er K ((if_neg z).trans ((if_neg (by omega)).trans ((if_neg (by omega)).trans ((if_pos rfl).trans (aw_iff R)))))
        by_cases l0 : c 0 < 0
        · exact br_t l0 K1
        · exact br_f l0 (br_t (Int32.not_le.mp (fun q => R ⟨l0, q⟩)) K1)
    · subst e
      refine br_f (by decide) (br_f (by decide) (xl_num (i := 0) (j := 0) kx m0 (by omega) (br_f (by decide) (xl_num (i := 0) (j := 1) kx m0 (by omega) ?_))))
      show wX_shapeTwo_91 post (nI y) (nI 2) 6 (c (0 * 2 + 0)) (c (0 * 2 + 1)) _ _ _ _ _ _ _ _ _ _ _ _ _ _ _ _ _ _ _ _ _ _ _
      have e0 : ∀ P : Int32 × aw_V, (if (2 : Nat) = 0 then P else if (2 : Nat) = 1 then P else P) = P := fun _ => rfl
      by_cases R : aw_rg (c 0) 6 ∧ aw_rg (c 1) 6
      · have K1 := xo_ok K ((if_neg z).trans ((if_neg (by omega)).trans ((if_neg (by omega)).trans ((if_neg (by omega)).trans (aw_ift R)))))
        obtain ⟨e1, e2⟩ := aw_rgo R.1 (by decide)
        obtain ⟨e3, e4⟩ := aw_rgo R.2 (by decide)
        have nlt : ¬ (6 : Int32) < c 0 := Int32.not_lt.mpr R.1.2
        refine br_f R.1.1 (br_f nlt (br_f R.2.1 (br_t R.2.2 (xl_size ky (br_t rfl (br_t rfl ?_))))))
        have W := xp_s169 (mv := mv) (q1 := 2) (q2 := aw_tn (c 0)) (q3 := aw_tn (c 1)) H0 hT hT' hy gy (aw_ok2 e2 e4) rfl K1
        rw [← e1, ← e3] at W
        exact W
      · have K1 := xo_er K ((if_neg z).trans ((if_neg (by omega)).trans ((if_neg (by omega)).trans ((if_neg (by omega)).trans (aw_iff R)))))
        by_cases l0 : c 0 < 0
        · exact br_t l0 K1
        · by_cases l1 : (6 : Int32) < c 0
          · exact br_f l0 (br_t l1 K1)
          · by_cases l2 : c 1 < 0
            · exact br_f l0 (br_f l1 (br_t l2 K1))
            · exact br_f l0 (br_f l1 (br_f l2 (br_f (fun l3 => R ⟨⟨l0, Int32.not_lt.mp l1⟩, l2, l3⟩) K1)))
  · exact And.intro (sk_in kx) (br_f (by rw [sk_rk kx]; exact fun q => z ((nI_eq (by omega) (by decide)).mp q)) (xo_er K ((if_neg z).trans (if_pos z1))))
theorem xp_cn1 (h : aw_HX g T us rk ro cl sr rs sp hv st) (hT : 13 ≤ T) (hT' : T ≤ 47) (hy : y < T) (gy : g y = some (r, m, n, c)) (K : aw_XO post g T (aq_cn1 (r, m, n, c)) cn cd nx ws fn us er fl tx co ca cb wt rk ro cl sr rs sp hv st mv) : wpX_countOne post (cn, cd, nx, ws, fn, nI T, us, er, fl, tx, co, ca, cb, wt, rk, ro, cl, sr, rs, sp, hv, st, mv) (nI y) := by
  have H0 := h
  obtain ⟨U, rfl, H⟩ := h
  have ky := hp_sk H (by omega) hy gy
  have hok := ky.2.2.1
  have hb := aw_okb hok
  refine And.intro (sk_in ky) (pk_eq r 0 (fun z => ?_) (fun z => ?_) (sk_rk ky))
  · obtain ⟨z1, z2⟩ := aw_okz hok z
    refine xl_num (i := 0) (j := 0) ky (by omega) (by omega) ?_
    rw [Nat.zero_mul, Nat.zero_add]
    have f40 : ¬ aw_rg (c 0) 36 → wX_countOne_40 post (nI y) cn cd nx ws fn (nI T) (nI U) er fl tx co ca cb wt rk ro cl sr rs sp hv st mv := fun R => And.intro (sk_in ky) (br_t (by rw [sk_rk ky, z]; rfl) (xo_er K ((if_neg (fun q => q z)).trans (aw_iff R))))
    refine And.intro (sk_in ky) (br_t (by rw [sk_rk ky, z]; rfl) ?_)
    by_cases l0 : c 0 < 0
    · exact br_t l0 (f40 (fun R => R.1 l0))
    · refine br_f l0 ?_
      by_cases l1 : c 0 ≤ 36
      · have R : aw_rg (c 0) 36 := ⟨l0, l1⟩
        have K1 := xo_ok K ((if_neg (fun q => q z)).trans (aw_ift R))
        obtain ⟨e1, e2⟩ := aw_rgo R (by decide)
        refine br_t l1 (xl_make H0 hT hT' (aw_ok1 e2) ?_ rfl rfl rfl e1)
        intro s us rk ro cl sr rs sp hv st mv M
        have hs := mk_room M
        rw [Nat.one_mul] at hs
        rw [e1]
        refine xl_fill0 (fun n1 k st => wX_countOne_74 post (nI (aw_tn (c 0))) cn cd nx ws fn (nI T) us er fl n1 (nI k) tx co ca cb wt rk ro cl sr rs sp hv st mv) (aw_tn (c 0)) nI (mk_hp M) ?_ ?_
        · intro n1 st' H1 hc
          exact br_t (nI_le (Nat.le_refl _) (by omega)) (K1 _ _ _ _ _ _ _ _ _ _ (mk_done M H1 (fun q hq => hc q (by omega))))
        · intro n1 k st' hk H1 ih
          have E : sr (nI T).toNatClampNeg + nI k = nI (s + k) := by rw [xl_cl (by omega) (mk_top M), nI_add]
          exact br_f (nI_ge hk (by omega)) (And.intro (pk_in T 48 (by omega)) (xl_tail E (by omega) rfl ih))
      · exact br_f l1 (f40 (fun R => l1 R.2))
  · have nz : ¬ rk (nI y).toNatClampNeg = 0 := by rw [sk_rk ky]; exact nI_ne0 (by omega) (by omega)
    exact And.intro (sk_in ky) (br_f nz (And.intro (sk_in ky) (br_f nz (xo_er K (if_pos z)))))
theorem xl_plc {post : Int32 → Prop} {v : Int32} (kx : aw_SK st rk ro cl sr rs sp U x r m n c) (hm : 0 < m) : ∀ (d j : Nat), j + d = n → post (nI (aw_plc c v d j)) → wX_placeIn_2 post (nI x) v cn cd nx ws fn tp us er fl tx co ca cb wt rk ro cl sr rs sp hv st mv (d + 1) (nI j) := by
  intro d
  have hb := aw_okb kx.2.2.1
  induction d with
  | zero =>
    intro j hj K
    refine And.intro (sk_in kx) (br_t (by rw [sk_cl kx]; exact nI_le (by omega) (by omega)) (And.intro (sk_in kx) ?_))
    rw [sk_cl kx, ← hj]
    exact K
  | succ d ih =>
    intro j hj K
    refine And.intro (sk_in kx) (br_f (by rw [sk_cl kx]; exact nI_ge (by omega) (by omega)) (xl_num (i := 0) kx hm (show j < n by omega) ?_))
    rw [Nat.zero_mul, Nat.zero_add]
    unfold aw_plc at K
    by_cases z : c j = v
    · rw [if_pos z] at K; exact br_t z K
    · rw [if_neg z] at K; exact br_f z (nm_r (nI_1 j) (ih (j + 1) (by omega) K))
theorem xp_cn2 (h : aw_HX g T us rk ro cl sr rs sp hv st) (hT : 13 ≤ T) (hT' : T ≤ 47) (hx : x < T) (gx : g x = some (r, m, n, c)) (hy : y < T) (gy : g y = some (r', m', n', c'))
    (K : aw_XO post g T (aq_cn2 (r, m, n, c) (r', m', n', c')) cn cd nx ws fn us er fl tx co ca cb wt rk ro cl sr rs sp hv st mv) : wpX_countTwo post (cn, cd, nx, ws, fn, nI T, us, er, fl, tx, co, ca, cb, wt, rk, ro, cl, sr, rs, sp, hv, st, mv) (nI x) (nI y) := by
  have H0 := h
  obtain ⟨U, rfl, H⟩ := h
  have kx := hp_sk H (by omega) hx gx
  have ky := hp_sk H (by omega) hy gy
  have ox := kx.2.2.1
  have bx := aw_okb ox
  have bY := aw_okb ky.2.2.1
  refine And.intro (sk_in kx) (pk_eq r 1 (fun z => ?_) (fun z => xo_er K (if_neg z)) (sk_rk kx))
  have K1 := xo_ok K (if_pos z)
  have m0 : 0 < m := by have := aw_okm ox (by omega); omega
  refine And.intro (sk_in ky) (And.intro (sk_in ky) (And.intro (sk_in ky) (xl_make H0 hT hT' ky.2.2.1 ?_ rfl (sk_rk ky) (sk_rw ky) (sk_cl ky))))
  intro s us rk ro cl sr rs sp hv st mv M
  have hs := mk_room M
  refine xl_size (hp_sk (mk_hp M) (by omega) hy gy) ?_
  refine xl_fill0 (fun n1 k st => wX_countTwo_52 post (nI x) (nI y) (nI (m' * n')) cn cd nx ws fn (nI T) us er fl n1 (nI k) tx co ca cb wt rk ro cl sr rs sp hv st mv) (m' * n') (fun k => nI (aw_plc c (c' k) n 0)) (mk_hp M) ?_ ?_
  · intro n1 st' H1 hc
    exact br_t (nI_le (Nat.le_refl _) (by omega)) (K1 _ _ _ _ _ _ _ _ _ _ (mk_done M H1 hc))
  · intro n1 k st' hk H1 ih
    have E : sr (nI T).toNatClampNeg + nI k = nI (s + k) := by rw [xl_cl (by omega) (mk_top M), nI_add]
    exact br_f (nI_ge hk (by omega)) (xl_rav (hp_sk H1 (by omega) hy gy) hk (And.intro (pk_in T 48 (by omega)) ⟨n + 1, xl_plc (hp_sk H1 (by omega) hx gx) m0 n 0 (by omega) (xl_tail E (by omega) rfl ih)⟩))
end
end
section
/-! 09: the component's views: turned, reversed, cut; rotation -/
section
variable {cn cd nx ws fn tp us er fl : Int32} {tx co ca cb wt rk ro cl sr rs sp hv st mv : Nat → Int32} {g : Nat → Option aw_V} {T U x y r m n r' m' n' : Nat} {c c' : Nat → Int32} {post : SX → Prop} {f : Int32}
theorem xl_u1 {F : Nat → Int32} {v w : Int32} (hy : y < T) (hT : T ≤ 47) (h : F y = w) : upd F T v (nI y).toNatClampNeg = w := by rw [nI_clamp (by omega), pk_un (by omega)]; exact h
theorem xl_u2 {F : Nat → Int32} {v v' w : Int32} (hy : y < T) (hT : T ≤ 47) (h : F y = w) : upd (upd F T v) T v' (nI y).toNatClampNeg = w := by rw [nI_clamp (by omega), pk_un (by omega), pk_un (by omega)]; exact h
theorem xl_o2 {F : Nat → Int32} {v v' : Int32} {a : Nat} (h : a ≠ T) : upd (upd F T v) T v' a = F a := by rw [pk_un h, pk_un h]
theorem xp_turn (h : aw_HX g T us rk ro cl sr rs sp hv st) (hT' : T ≤ 47) (hy : y < T) (gy : g y = some (r, m, n, c)) (K : aw_XO post g T (aq_turn (r, m, n, c)) cn cd nx ws fn us er fl tx co ca cb wt rk ro cl sr rs sp hv st mv) : wpX_turnOver post (cn, cd, nx, ws, fn, nI T, us, er, fl, tx, co, ca, cb, wt, rk, ro, cl, sr, rs, sp, hv, st, mv) (nI y) := by
  obtain ⟨U, rfl, H⟩ := h
  have ky := hp_sk H (by omega) hy gy
  have hok := ky.2.2.1
  have hb := aw_okb hok
  obtain ⟨v1, v2, v3, v4⟩ := ky.2.2.2
  have inT : vp_in (nI T) 48 := pk_in T 48 (by omega)
  unfold wpX_turnOver
  refine xl_share (f := y) (t := T) (by omega) (by omega) ?_
  refine And.intro (sk_in ky) (pk_eq r 2 (fun z => ?_) (fun z => ?_) (xl_u1 hy hT' v1))
  · have K1 := xo_ok K (if_pos z)
    refine And.intro (sk_in ky) (And.intro inT (nm_r (xl_uc (by omega) (xl_u1 hy hT' v3)) (And.intro (sk_in ky) (And.intro inT (nm_r (xl_uc (by omega) (xl_u2 hy hT' v2)) (And.intro (sk_in ky) (And.intro inT (nm_r (xl_uc (by omega) (xl_u1 hy hT' rfl)) (And.intro (sk_in ky) (And.intro inT (nm_r (xl_uc (by omega) (xl_u2 hy hT' rfl)) ?_)))))))))))
    refine K1 _ _ _ _ _ _ _ _ _ _ ⟨U, rfl, hp_put H (fun a ha z => by omega) (fun a _ z => ⟨pk_un z, xl_o2 z, xl_o2 z, pk_un z, xl_o2 z, xl_o2 z, pk_un z⟩) (by rw [pk_us]; decide) ?_ ⟨pk_us.trans v1, pk_us, pk_us, ?_⟩⟩
    · obtain ⟨q1, q2⟩ := aw_okn hok z
      rw [z]; exact aw_ok2 q2 q1
    · intro i j hi hj
      obtain ⟨p, hp, e, es⟩ := v4 j i hj hi
      obtain ⟨d1, d2⟩ := aw_dj (i := i) hj
      refine ⟨p, hp, ?_, ?_⟩
      · rw [pk_us, pk_us, pk_us, ← e]; grind
      · show st p = c ((i * m + j) % m * n + (i * m + j) / m)
        rw [d1, d2]; exact es
  · have K1 := xo_ok K (if_neg z)
    exact K1 _ _ _ _ _ _ _ _ _ _ ⟨U, rfl, hp_share H hy gy (fun a ha z => by omega)⟩
theorem xp_bk1 (h : aw_HX g T us rk ro cl sr rs sp hv st) (hT' : T ≤ 47) (hy : y < T) (gy : g y = some (r, m, n, c)) (K : aw_XO post g T (aq_bk1 (r, m, n, c)) cn cd nx ws fn us er fl tx co ca cb wt rk ro cl sr rs sp hv st mv) : wpX_backOne post (cn, cd, nx, ws, fn, nI T, us, er, fl, tx, co, ca, cb, wt, rk, ro, cl, sr, rs, sp, hv, st, mv) (nI y) := by
  obtain ⟨U, rfl, H⟩ := h
  have ky := hp_sk H (by omega) hy gy
  have hok := ky.2.2.1
  have hb := aw_okb hok
  obtain ⟨v1, v2, v3, v4⟩ := ky.2.2.2
  have inT : vp_in (nI T) 48 := pk_in T 48 (by omega)
  have K1 := xo_ok K rfl
  unfold wpX_backOne
  refine xl_share (f := y) (t := T) (by omega) (by omega) ?_
  refine And.intro (sk_in ky) (pk_le n 0 (fun z => ?_) (fun z => ?_) (xl_u1 hy hT' v3))
  · refine K1 _ _ _ _ _ _ _ _ _ _ ⟨U, rfl, hp_put H (fun a ha z => by omega) (fun a _ z => ⟨pk_un z, pk_un z, pk_un z, pk_un z, pk_un z, pk_un z, pk_un z⟩) (by rw [pk_us]; decide) hok ⟨pk_us.trans v1, pk_us.trans v2, pk_us.trans v3, fun i j hi hj => ?_⟩⟩
    omega
  · have e1 : upd sr T (sr y) (nI y).toNatClampNeg + (upd cl T (cl y) (nI y).toNatClampNeg - 1) * upd sp T (sp y) (nI y).toNatClampNeg = sr y + (nI n - 1) * sp y := by
      rw [xl_u1 hy hT' rfl, xl_u1 hy hT' v3, xl_u1 hy hT' rfl]
    have e2 : -(upd sp T (sp y) (nI y).toNatClampNeg) = - sp y := by rw [xl_u1 hy hT' rfl]
    refine And.intro (sk_in ky) (And.intro (sk_in ky) (And.intro (sk_in ky) (And.intro inT (nm_r (xl_uc (by omega) e1) (And.intro (sk_in ky) (And.intro inT (nm_r (xl_uc (by omega) e2) ?_)))))))
    refine K1 _ _ _ _ _ _ _ _ _ _ ⟨U, rfl, hp_put H (fun a ha z => by omega) (fun a _ z => ⟨pk_un z, pk_un z, pk_un z, xl_o2 z, pk_un z, xl_o2 z, pk_un z⟩) (by rw [pk_us]; decide) hok ⟨pk_us.trans v1, pk_us.trans v2, pk_us.trans v3, ?_⟩⟩
    intro i j hi hj
    obtain ⟨p, hp, e, es⟩ := v4 i (n - 1 - j) hi (by omega)
    obtain ⟨d1, d2⟩ := aw_dj (i := i) hj
    refine ⟨p, hp, ?_, ?_⟩
    · have e3 : nI (n - 1 - j) = nI n - 1 - nI j := by rw [← pk_sub (by omega), ← pk_sub (by omega)]; rfl
      rw [pk_us, pk_us, pk_us, ← e, e3]; grind
    · show st p = c ((i * n + j) / n * n + (n - 1 - (i * n + j) % n))
      rw [d1, d2]; exact es
/-- rows or numbers from place b on, q of them -/
theorem xp_cut {p1 p2 : Int32} {b q : Nat} {c1 : Nat → Int32} (h : aw_HX g T us rk ro cl sr rs sp hv st) (hT' : T ≤ 47) (hy : y < T) (gy : g y = some (r, m, n, c)) (hq : q = 0 ∨ (p1 = nI b ∧ b + q ≤ aw_fl r m n)) (h2 : p2 = nI q)
    (c2 : r = 2 → ∀ i j, i < q → j < n → c1 (i * n + j) = c ((b + i) * n + j)) (c3 : r ≠ 2 → ∀ j, j < q → c1 j = c (b + j))
    (K : aw_PO post (aw_gs g T (if r = 2 then 2 else 1, if r = 2 then q else 1, if r = 2 then n else q, c1)) T (T + 1) cn cd nx ws fn er fl tx co ca cb wt) : wpX_cutOut post (cn, cd, nx, ws, fn, nI T, us, er, fl, tx, co, ca, cb, wt, rk, ro, cl, sr, rs, sp, hv, st, mv) (nI y) p1 p2 := by
  subst h2
  obtain ⟨U, rfl, H⟩ := h
  have ky := hp_sk H (by omega) hy gy
  have hok := ky.2.2.1
  have hb := aw_okb hok
  obtain ⟨v1, v2, v3, v4⟩ := ky.2.2.2
  have inT : vp_in (nI T) 48 := pk_in T 48 (by omega)
  unfold wpX_cutOut
  refine xl_share (f := y) (t := T) (by omega) (by omega) ?_
  refine And.intro (sk_in ky) (pk_eq r 2 (fun z => ?_) (fun z => ?_) (xl_u1 hy hT' v1))
  · rw [if_pos z, if_pos z, if_pos z] at K
    obtain ⟨q1, q2⟩ := aw_okn hok z
    have ef : aw_fl r m n = m := if_pos z
    refine And.intro inT (nm_r (xl_uc (by omega) rfl) (pk_eq q 0 (fun z0 => ?_) (fun z0 => ?_) rfl rfl (by omega)))
    · refine And.intro inT (nm_r (xl_uc (by omega) rfl) ?_)
      refine K _ _ _ _ _ _ _ _ _ _ ⟨U, rfl, hp_put H (fun a ha z => by omega) (fun a _ z => ⟨pk_un z, xl_o2 z, pk_un z, xl_o2 z, pk_un z, pk_un z, pk_un z⟩) (by rw [pk_us]; decide) (aw_ok2 (by omega) q2) ⟨pk_us.trans (v1.trans (by rw [z])), pk_us, pk_us.trans v3, fun i j hi hj => ?_⟩⟩
      omega
    · obtain ⟨hp, hbq⟩ : p1 = nI b ∧ b + q ≤ aw_fl r m n := by
        rcases hq with hq | hq
        · exact absurd hq z0
        · exact hq
      subst hp
      have e1 : upd sr T (sr y) (nI y).toNatClampNeg + nI b * upd rs T (rs y) (nI y).toNatClampNeg = sr y + nI b * rs y := by
        rw [xl_u1 hy hT' rfl, xl_u1 hy hT' rfl]
      refine And.intro (sk_in ky) (And.intro (sk_in ky) (And.intro inT (nm_r (xl_uc (by omega) e1) ?_)))
      refine K _ _ _ _ _ _ _ _ _ _ ⟨U, rfl, hp_put H (fun a ha z => by omega) (fun a _ z => ⟨pk_un z, xl_o2 z, pk_un z, xl_o2 z, pk_un z, pk_un z, pk_un z⟩) (by rw [pk_us]; decide) (aw_ok2 (by omega) q2) ⟨pk_us.trans (v1.trans (by rw [z])), pk_us, pk_us.trans v3, fun i j hi hj => ?_⟩⟩
      obtain ⟨p, hp, e, es⟩ := v4 (b + i) j (by omega) hj
      refine ⟨p, hp, ?_, ?_⟩
      · rw [pk_us, pk_us, pk_us, ← e, ← nI_add]; grind
      · rw [c2 z i j hi hj]; exact es
  · rw [if_neg z, if_neg z, if_neg z] at K
    have m1 := aw_okm hok z
    have ef : aw_fl r m n = n := if_neg z
    have hq36 : q ≤ 36 := by omega
    refine And.intro inT (nm_r (xl_uc (by omega) rfl) (And.intro inT (nm_r (xl_uc (by omega) rfl) (pk_eq q 0 (fun z0 => ?_) (fun z0 => ?_) rfl rfl (by omega)))))
    · refine And.intro inT (nm_r (xl_uc (by omega) rfl) ?_)
      refine K _ _ _ _ _ _ _ _ _ _ ⟨U, rfl, hp_put H (fun a ha z => by omega) (fun a _ z => ⟨xl_o2 z, pk_un z, xl_o2 z, xl_o2 z, pk_un z, pk_un z, pk_un z⟩) (by rw [pk_us]; decide) (aw_ok1 (by omega)) ⟨pk_us, pk_us.trans (v2.trans (by rw [m1])), pk_us, fun i j hi hj => ?_⟩⟩
      omega
    · obtain ⟨hp, hbq⟩ : p1 = nI b ∧ b + q ≤ aw_fl r m n := by
        rcases hq with hq | hq
        · exact absurd hq z0
        · exact hq
      subst hp
      have e1 : upd sr T (sr y) (nI y).toNatClampNeg + nI b * upd sp T (sp y) (nI y).toNatClampNeg = sr y + nI b * sp y := by
        rw [xl_u1 hy hT' rfl, xl_u1 hy hT' rfl]
      refine And.intro (sk_in ky) (And.intro (sk_in ky) (And.intro inT (nm_r (xl_uc (by omega) e1) ?_)))
      refine K _ _ _ _ _ _ _ _ _ _ ⟨U, rfl, hp_put H (fun a ha z => by omega) (fun a _ z => ⟨xl_o2 z, pk_un z, xl_o2 z, xl_o2 z, pk_un z, pk_un z, pk_un z⟩) (by rw [pk_us]; decide) (aw_ok1 (by omega)) ⟨pk_us, pk_us.trans (v2.trans (by rw [m1])), pk_us, fun i j hi hj => ?_⟩⟩
      obtain ⟨p, hp, e, es⟩ := v4 i (b + j) (by omega) (by omega)
      have i0 : i = 0 := by omega
      subst i0
      refine ⟨p, hp, ?_, ?_⟩
      · rw [pk_us, pk_us, pk_us, ← e, ← nI_add]; grind
      · rw [Nat.zero_mul, Nat.zero_add, c3 z j hj]; rw [Nat.zero_mul, Nat.zero_add] at es; exact es
/-! rotation -/
theorem aw_tm {a : Int} {n : Nat} (h0 : 0 < n) : (0 ≤ a.tmod n → a.tmod n = a % n) ∧ (a.tmod n < 0 → a.tmod n + n = a % n) := by
  have hb := tmod_bounds (a := a) (M := n) (by omega)
  have e : a % n = (a.tmod n) % n := by
    conv => lhs; rw [← Int.mul_tdiv_add_tmod a n]
    rw [Int.mul_add_emod_self_left]
  refine ⟨fun z => ?_, fun z => ?_⟩
  · rw [e, Int.emod_eq_of_lt z hb.2]
  · rw [e, ← Int.add_emod_right, Int.emod_eq_of_lt (by omega) (by omega)]
theorem aw_nIof {v : Int32} {k : Nat} (h : v.toInt = k) : v = nI k := by
  have := v.toInt_lt
  apply Int32.toInt_inj.mp
  rw [nI_toInt (by omega)]; exact h
theorem aw_md {v : Int32} {n : Nat} (h0 : 0 < n) (hn : n ≤ 36) : (0 ≤ v - v / nI n * nI n → v - v / nI n * nI n = nI (v.toInt % (n : Int)).toNat) ∧ (¬ 0 ≤ v - v / nI n * nI n → v - v / nI n * nI n + nI n = nI (v.toInt % (n : Int)).toNat) := by
  have e := rem_toInt v (nI n)
  have en : (nI n).toInt = (n : Int) := nI_toInt (by omega)
  rw [en] at e
  have hb := tmod_bounds (a := v.toInt) (M := n) (by omega)
  obtain ⟨t1, t2⟩ := aw_tm (a := v.toInt) h0
  have z0 : (0 : Int32).toInt = 0 := by decide
  have hm := Int.emod_nonneg v.toInt (show (n : Int) ≠ 0 by omega)
  refine ⟨fun z => ?_, fun z => ?_⟩
  · rw [Int32.le_iff_toInt_le, z0, e] at z
    exact aw_nIof (by rw [e, t1 z]; omega)
  · rw [Int32.le_iff_toInt_le, z0, e] at z
    apply aw_nIof
    rw [Jvm.Kit.i32_add (by rw [e, en]; omega) (by rw [e, en]; omega), e, en, t2 (by omega)]
    omega
theorem xp_bk2 (h : aw_HX g T us rk ro cl sr rs sp hv st) (hT : 13 ≤ T) (hT' : T ≤ 47) (hx : x < T) (gx : g x = some (r, m, n, c)) (hy : y < T) (gy : g y = some (r', m', n', c'))
    (K : aw_XO post g T (aq_bk2 (r, m, n, c) (r', m', n', c')) cn cd nx ws fn us er fl tx co ca cb wt rk ro cl sr rs sp hv st mv) : wpX_backTwo post (cn, cd, nx, ws, fn, nI T, us, er, fl, tx, co, ca, cb, wt, rk, ro, cl, sr, rs, sp, hv, st, mv) (nI x) (nI y) := by
  have H0 := h
  obtain ⟨U, rfl, H⟩ := h
  have kx := hp_sk H (by omega) hx gx
  have ky := hp_sk H (by omega) hy gy
  have ox := kx.2.2.1
  have bY := aw_okb ky.2.2.1
  have bx := aw_okb ox
  refine And.intro (sk_in kx) (pk_eq r 0 (fun z => ?_) (fun z => xo_er K (if_neg z)) (sk_rk kx))
  have K1 := xo_ok K (if_pos z)
  have W : ∀ b, (0 < n' → b = ((c 0).toInt % (n' : Int)).toNat) → b ≤ 36 → wX_backTwo_56 post (nI y) (nI n') (nI b) cn cd nx ws fn (nI T) (nI U) er fl tx co ca cb wt rk ro cl sr rs sp hv st mv := by
    intro b eb hb36
    refine And.intro (sk_in ky) (And.intro (sk_in ky) (xl_make H0 hT hT' ky.2.2.1 ?_ rfl (sk_rk ky) (sk_rw ky) rfl))
    intro s us rk ro cl sr rs sp hv st mv M
    have hs := mk_room M
    refine xl_size (hp_sk (mk_hp M) (by omega) hy gy) ?_
    refine xl_fill0 (fun n1 k st => wX_backTwo_89 post (nI y) (nI n') (nI b) (nI (m' * n')) cn cd nx ws fn (nI T) us er fl n1 (nI k) tx co ca cb wt rk ro cl sr rs sp hv st mv) (m' * n') (fun k => c' (k / n' * n' + (k % n' + ((c 0).toInt % (n' : Int)).toNat) % n')) (mk_hp M) ?_ ?_
    · intro n1 st' H1 hc
      exact br_t (nI_le (Nat.le_refl _) (by omega)) (K1 _ _ _ _ _ _ _ _ _ _ (mk_done M H1 hc))
    · intro n1 k st' hk H1 ih
      have E : sr (nI T).toNatClampNeg + nI k = nI (s + k) := by rw [xl_cl (by omega) (mk_top M), nI_add]
      obtain ⟨d1, d2, d3, d4⟩ := aw_dm hk
      have hn : ¬ nI n' = 0 := nI_ne0 d1 (by omega)
      rw [← eb d1] at ih
      refine br_f (nI_ge hk (by omega)) (And.intro (pk_in T 48 (by omega)) (And.intro hn (And.intro hn (And.intro hn (xl_num (hp_sk H1 (by omega) hy gy) d2 (Nat.mod_lt _ d1) (xl_tail E (by omega) rfl ih) rfl (pk_div (by omega) d1 (by omega)) ?_)))))
      rw [pk_rem (by omega) d1 (by omega), nI_add, pk_rem (by omega) d1 (by omega)]
  refine And.intro (sk_in ky) (nm_r (sk_cl ky) (pk_eq n' 0 (fun z0 => ?_) (fun z0 => ?_)))
  · exact br_t (by decide) (W 0 (fun q => absurd q (by omega)) (by omega))
  · obtain ⟨e1, e2⟩ := aw_okz ox z
    refine xl_num (i := 0) (j := 0) kx (by omega) (by omega) ?_
    rw [Nat.zero_mul, Nat.zero_add]
    have hn : ¬ nI n' = 0 := nI_ne0 (by omega) (by omega)
    obtain ⟨a1, a2⟩ := aw_md (v := c 0) (n := n') (by omega) (by omega)
    have hm := Int.emod_lt_of_pos (c 0).toInt (show (0 : Int) < (n' : Int) by omega)
    refine And.intro hn (br_c (fun q => ?_) (fun q => ?_))
    · rw [a1 q]; exact W _ (fun _ => rfl) (by omega)
    · rw [a2 q]; exact W _ (fun _ => rfl) (by omega)
end
end
section
/-! 10: the component's take, drop, join, pick -/
section
variable {cn cd nx ws fn tp us er fl : Int32} {tx co ca cb wt rk ro cl sr rs sp hv st mv : Nat → Int32} {g : Nat → Option aw_V} {T U x y r m n r' m' n' : Nat} {c c' : Nat → Int32} {post : SX → Prop} {f : Int32}
theorem xp_tk1 (h : aw_HX g T us rk ro cl sr rs sp hv st) (hT : 13 ≤ T) (hT' : T ≤ 47) (hy : y < T) (gy : g y = some (r, m, n, c)) (K : aw_XO post g T (aq_tk1 (r, m, n, c)) cn cd nx ws fn us er fl tx co ca cb wt rk ro cl sr rs sp hv st mv) : wpX_takeOne post (cn, cd, nx, ws, fn, nI T, us, er, fl, tx, co, ca, cb, wt, rk, ro, cl, sr, rs, sp, hv, st, mv) (nI y) := by
  have H0 := h
  obtain ⟨U, rfl, H⟩ := h
  have ky := hp_sk H (by omega) hy gy
  have hb := aw_okb ky.2.2.1
  have K1 := xo_ok K rfl
  unfold wpX_takeOne
  refine xl_size ky ?_
  refine pk_eq (m * n) 0 (fun z => ?_) (fun z => ?_)
  · rw [if_pos z] at K1
    exact xl_mks H0 hT hT' K1
  · rw [if_neg z] at K1
    exact xl_rav (k := 0) ky (by omega) (xl_mks H0 hT hT' K1)
theorem xp_jn1 (h : aw_HX g T us rk ro cl sr rs sp hv st) (hT : 13 ≤ T) (hT' : T ≤ 47) (hy : y < T) (gy : g y = some (r, m, n, c)) (K : aw_XO post g T (aq_jn1 (r, m, n, c)) cn cd nx ws fn us er fl tx co ca cb wt rk ro cl sr rs sp hv st mv) : wpX_joinOne post (cn, cd, nx, ws, fn, nI T, us, er, fl, tx, co, ca, cb, wt, rk, ro, cl, sr, rs, sp, hv, st, mv) (nI y) := by
  have H0 := h
  obtain ⟨U, rfl, H⟩ := h
  have ky := hp_sk H (by omega) hy gy
  have hb := aw_okb ky.2.2.1
  have K1 := xo_ok K rfl
  unfold wpX_joinOne
  refine xl_size ky ?_
  refine xl_make H0 hT hT' (aw_ok1 hb.2.2.2) ?_
  intro s us rk ro cl sr rs sp hv st mv M
  have hs := mk_room M
  rw [Nat.one_mul] at hs
  refine xl_fill0 (fun n1 k st => wX_joinOne_19 post (nI y) (nI (m * n)) cn cd nx ws fn (nI T) us er fl n1 (nI k) tx co ca cb wt rk ro cl sr rs sp hv st mv) (m * n) c (mk_hp M) ?_ ?_
  · intro n1 st' H1 hc
    exact br_t (nI_le (Nat.le_refl _) (by omega)) (K1 _ _ _ _ _ _ _ _ _ _ (mk_done M H1 (fun q hq => hc q (by omega))))
  · intro n1 k st' hk H1 ih
    have E : sr (nI T).toNatClampNeg + nI k = nI (s + k) := by rw [xl_cl (by omega) (mk_top M), nI_add]
    exact br_f (nI_ge hk (by omega)) (And.intro (pk_in T 48 (by omega)) (xl_rav (hp_sk H1 (by omega) hy gy) hk (xl_tail E (by omega) rfl ih)))
/-! take and drop -/
theorem aw_neg {v : Int32} {d : Nat} (h : v.toInt = -(d : Int)) (hd : d < 2 ^ 31) : v = -nI d := by
  apply Int32.toInt_inj.mp
  rw [sb_negT hd]; exact h
theorem aw_addI {v : Int32} {b : Int} {k : Nat} (h : v.toInt = b) (h1 : -1000 ≤ b) (h2 : b ≤ 1000) (hk : k ≤ 1000) : (v + nI k).toInt = b + k := by
  have e : (nI k).toInt = (k : Int) := nI_toInt (by omega)
  rw [Jvm.Kit.i32_add (by rw [h, e]; omega) (by rw [h, e]; omega), h, e]
theorem aw_ge0 {v : Int32} : v < 0 ↔ v.toInt < 0 := by
  rw [Int32.lt_iff_toInt_lt]
  have z0 : (0 : Int32).toInt = 0 := by decide
  rw [z0]
theorem aw_le0 {v : Int32} : 0 ≤ v ↔ 0 ≤ v.toInt := by
  rw [Int32.le_iff_toInt_le]
  have z0 : (0 : Int32).toInt = 0 := by decide
  rw [z0]
theorem xp_t237 {J : Int32 → (Nat → Int32) → (Nat → Int32) → (Nat → Int32) → (Nat → Int32) → (Nat → Int32) → (Nat → Int32) → (Nat → Int32) → (Nat → Int32) → (Nat → Int32) → (Nat → Int32) → (Nat → Int32) → (Nat → Int32) → (Nat → Int32) → (Nat → Int32) → Prop}
    {x8 x10 z0 x3 : Int32} {k W w s : Nat} {p : Int} {v : Int32} (k1 : aw_SK st rk ro cl sr rs sp U y r m n c) (hw : w = aw_fl r m n) (hT' : T ≤ 47) (E : sr (nI T).toNatClampNeg + nI k = nI (s + k)) (hs : s + k < 1800) (hk : k ≤ 36)
    (hx3 : (r = 2 → x3 = 1 ∧ W = n ∧ 0 < n) ∧ (r ≠ 2 → x3 = 0)) (hz : z0.toInt = p) (hval : v = (if 0 ≤ p ∧ p < (w : Int) then (if r = 2 then c (p.toNat * n + k % n) else c p.toNat) else 0))
    (K : J (nI (k + 1)) tx co ca cb wt rk ro cl sr rs sp hv (upd st (s + k) v) mv) : wX_takeTwo_237 post J (nI y) x3 (nI w) x8 (nI W) x10 (nI k) z0 cn cd nx ws fn (nI T) us er fl tx co ca cb wt rk ro cl sr rs sp hv st mv := by
  have hb := aw_okb k1.2.2.1
  have inT : vp_in (nI T) 48 := pk_in T 48 (by omega)
  have hw36 : w ≤ 36 := by rw [hw]; unfold aw_fl; split <;> omega
  have tail : ∀ v', v' = v → wX_takeTwo_294 post J (nI y) x3 (nI w) x8 (nI W) x10 (nI k) v' cn cd nx ws fn (nI T) us er fl tx co ca cb wt rk ro cl sr rs sp hv st mv := fun v' e => And.intro inT (xl_tail E hs e K)
  by_cases l0 : p < 0
  · rw [if_neg (by omega)] at hval
    exact br_t (aw_ge0.mpr (by omega)) (br_t rfl (tail 0 hval.symm))
  · refine br_f (fun q => l0 (by rw [← hz]; exact aw_ge0.mp q)) ?_
    obtain ⟨P, rfl⟩ : ∃ P : Nat, p = P := ⟨p.toNat, by omega⟩
    have ez : z0 = nI P := aw_nIof hz
    have hP : P < 2 ^ 31 := by have := z0.toInt_lt; omega
    subst ez
    refine pk_le w P (fun q => ?_) (fun q => ?_)
    · rw [if_neg (by omega)] at hval
      exact br_t rfl (tail 0 hval.symm)
    · rw [if_pos (by omega)] at hval
      refine br_f (by decide) ?_
      by_cases z : r = 2
      · obtain ⟨e1, e2, e3⟩ := hx3.1 z
        subst e1 e2
        rw [if_pos z] at hval
        have hn : ¬ nI W = 0 := nI_ne0 e3 (by omega)
        have ew : w = m := by rw [hw]; exact if_pos z
        exact br_f (by decide) (And.intro hn (xl_num k1 (show P < m by omega) (Nat.mod_lt k e3) (tail _ (by rw [hval]; rfl)) rfl rfl (pk_rem (by omega) e3 (by omega))))
      · have e1 := hx3.2 z
        subst e1
        rw [if_neg z] at hval
        have ew : w = n := by rw [hw]; exact if_neg z
        have em := aw_okm k1.2.2.1 z
        refine br_t rfl (xl_num (i := 0) k1 (by omega) (show P < n by omega) (tail _ ?_))
        rw [hval, Nat.zero_mul, Nat.zero_add]; rfl
/-- taking from place b on, q rows or numbers: cut out, or with 0s beyond -/
theorem xp_t132 {z0 x3 : Int32} {q w : Nat} {b : Int} (h : aw_HX g T us rk ro cl sr rs sp hv st) (hT : 13 ≤ T) (hT' : T ≤ 47) (hy : y < T) (gy : g y = some (r, m, n, c)) (hw : w = aw_fl r m n) (hq : q ≤ aw_mo r)
    (hx3 : x3 = if r = 2 then 1 else 0) (hz : z0.toInt = b) (hb1 : -36 ≤ b) (hb2 : b ≤ 36) (hb3 : q ≤ w → 0 ≤ b ∧ b + q ≤ w)
    (K : aw_XO post g T (aq_part b q (r, m, n, c)) cn cd nx ws fn us er fl tx co ca cb wt rk ro cl sr rs sp hv st mv) : wX_takeTwo_132 post (nI y) x3 (nI q) (nI w) z0 cn cd nx ws fn (nI T) us er fl tx co ca cb wt rk ro cl sr rs sp hv st mv := by
  have H0 := h
  obtain ⟨U, rfl, H⟩ := h
  have ky := hp_sk H (by omega) hy gy
  have hok := ky.2.2.1
  have hb := aw_okb hok
  have inT : vp_in (nI T) 48 := pk_in T 48 (by omega)
  have hw36 : w ≤ 36 := by rw [hw]; unfold aw_fl; split <;> omega
  have hq36 : q ≤ 36 := by have : aw_mo r ≤ 36 := by unfold aw_mo; split <;> omega
                           omega
  refine pk_lt w q (fun l => ?_) (fun l => ?_)
  · by_cases z : r = 2
    · have K1 := xo_ok K (if_pos z)
      rw [if_pos z] at hx3
      subst hx3
      obtain ⟨n1, n2⟩ := aw_okn hok z
      have q6 : q ≤ 6 := by unfold aw_mo at hq; rw [if_pos z] at hq; exact hq
      refine br_f (by decide) (And.intro (sk_in ky) ?_)
      rw [sk_cl ky]
      refine br_f (by decide) (br_f (by decide) (xl_make H0 hT hT' (aw_ok2 q6 n2) ?_))
      intro s us rk ro cl sr rs sp hv st mv M
      have hs := mk_room M
      have hqn : q * n ≤ 36 := (aw_okb M.2.2.2.1).2.2.2
      refine xl_size (mk_sk M (by omega)) ?_
      refine xl_fill0 (fun n1 k st => wX_takeTwo_210 post (nI y) 1 (nI w) z0 (nI n) (nI (q * n)) cn cd nx ws fn (nI T) us er fl n1 (nI k) tx co ca cb wt rk ro cl sr rs sp hv st mv) (q * n) (fun k => if 0 ≤ b + ((k / n : Nat) : Int) ∧ b + ((k / n : Nat) : Int) < (m : Int) then c ((b + ((k / n : Nat) : Int)).toNat * n + k % n) else 0) (mk_hp M) ?_ ?_
      · intro n1 st' H1 hc
        exact br_t (nI_le (Nat.le_refl _) (by omega)) (K1 _ _ _ _ _ _ _ _ _ _ (mk_done M H1 hc))
      · intro n1 k st' hk H1 ih
        have E : sr (nI T).toNatClampNeg + nI k = nI (s + k) := by rw [xl_cl (by omega) (mk_top M), nI_add]
        obtain ⟨d1, d2, d3, d4⟩ := aw_dm hk
        have hn : ¬ nI n = 0 := nI_ne0 d1 (by omega)
        have ew : w = m := by rw [hw]; exact if_pos z
        refine br_f (nI_ge hk (by omega)) (br_f (by decide) (And.intro hn (xp_t237 (p := b + ((k / n : Nat) : Int)) (hp_sk H1 (by omega) hy gy) hw hT' E (by omega) (by omega) ⟨fun _ => ⟨rfl, rfl, d1⟩, fun q => absurd z q⟩ ?_ ?_ ih)))
        · rw [pk_div (by omega) d1 (by omega)]
          exact aw_addI hz (by omega) (by omega) (by omega)
        · show (if 0 ≤ b + ((k / n : Nat) : Int) ∧ b + ((k / n : Nat) : Int) < (m : Int) then c ((b + ((k / n : Nat) : Int)).toNat * n + k % n) else 0) = _
          rw [if_pos z, ew]
    · have K1 := xo_ok K (if_neg z)
      rw [if_neg z] at hx3
      subst hx3
      refine br_t rfl (br_t rfl (br_t rfl (xl_make H0 hT hT' (aw_ok1 hq36) ?_)))
      intro s us rk ro cl sr rs sp hv st mv M
      have hs := mk_room M
      refine xl_size (mk_sk M (by omega)) ?_
      rw [Nat.one_mul] at *
      refine xl_fill0 (fun n1 k st => wX_takeTwo_210 post (nI y) 0 (nI w) z0 (nI q) (nI q) cn cd nx ws fn (nI T) us er fl n1 (nI k) tx co ca cb wt rk ro cl sr rs sp hv st mv) q (fun k => if 0 ≤ b + (k : Int) ∧ b + (k : Int) < (n : Int) then c (b + (k : Int)).toNat else 0) (mk_hp M) ?_ ?_
      · intro n1 st' H1 hc
        exact br_t (nI_le (Nat.le_refl _) (by omega)) (K1 _ _ _ _ _ _ _ _ _ _ (mk_done M H1 (fun q hq => hc q (by omega))))
      · intro n1 k st' hk H1 ih
        have E : sr (nI T).toNatClampNeg + nI k = nI (s + k) := by rw [xl_cl (by omega) (mk_top M), nI_add]
        have ew : w = n := by rw [hw]; exact if_neg z
        refine br_f (nI_ge hk (by omega)) (br_t rfl (xp_t237 (p := b + (k : Int)) (hp_sk H1 (by omega) hy gy) hw hT' E (by omega) (by omega) ⟨fun q => absurd q z, fun _ => rfl⟩ ?_ ?_ ih))
        · exact aw_addI hz (by omega) (by omega) (by omega)
        · show (if 0 ≤ b + (k : Int) ∧ b + (k : Int) < (n : Int) then c (b + (k : Int)).toNat else 0) = _
          rw [if_neg z, ew]
  · obtain ⟨b1, b2⟩ := hb3 l
    obtain ⟨B, rfl⟩ : ∃ B : Nat, b = B := ⟨b.toNat, by omega⟩
    have ez : z0 = nI B := aw_nIof hz
    subst ez
    by_cases z : r = 2
    · have K1 := xo_ok K (if_pos z)
      have ew : w = m := by rw [hw]; exact if_pos z
      refine xp_cut H0 hT' hy gy (b := B) (q := q) (c1 := fun k => if 0 ≤ (B : Int) + ((k / n : Nat) : Int) ∧ (B : Int) + ((k / n : Nat) : Int) < (m : Int) then c (((B : Int) + ((k / n : Nat) : Int)).toNat * n + k % n) else 0) (Or.inr ⟨rfl, by omega⟩) rfl ?_ (fun q => absurd z q) ?_
      · intro _ i j hi hj
        obtain ⟨d1, d2⟩ := aw_dj (i := i) hj
        show (if 0 ≤ (B : Int) + (((i * n + j) / n : Nat) : Int) ∧ (B : Int) + (((i * n + j) / n : Nat) : Int) < (m : Int) then c (((B : Int) + (((i * n + j) / n : Nat) : Int)).toNat * n + (i * n + j) % n) else 0) = _
        rw [d1, d2, if_pos (by omega)]
        have e : ((B : Int) + (i : Int)).toNat = B + i := by omega
        rw [e]
      · rw [if_pos z, if_pos z, if_pos z]; exact K1
    · have K1 := xo_ok K (if_neg z)
      have ew : w = n := by rw [hw]; exact if_neg z
      refine xp_cut H0 hT' hy gy (b := B) (q := q) (c1 := fun k => if 0 ≤ (B : Int) + (k : Int) ∧ (B : Int) + (k : Int) < (n : Int) then c ((B : Int) + (k : Int)).toNat else 0) (Or.inr ⟨rfl, by omega⟩) rfl (fun q => absurd q z) ?_ ?_
      · intro _ j hj
        show (if 0 ≤ (B : Int) + (j : Int) ∧ (B : Int) + (j : Int) < (n : Int) then c ((B : Int) + (j : Int)).toNat else 0) = _
        rw [if_pos (by omega)]
        have e : ((B : Int) + (j : Int)).toNat = B + j := by omega
        rw [e]
      · rw [if_neg z, if_neg z, if_neg z]; exact K1
theorem xp_tk2 (h : aw_HX g T us rk ro cl sr rs sp hv st) (hT : 13 ≤ T) (hT' : T ≤ 47) (hx : x < T) (gx : g x = some (r, m, n, c)) (hy : y < T) (gy : g y = some (r', m', n', c'))
    (K : aw_XO post g T (aq_tk2 (r, m, n, c) (r', m', n', c')) cn cd nx ws fn us er fl tx co ca cb wt rk ro cl sr rs sp hv st mv) : wpX_takeTwo post (cn, cd, nx, ws, fn, nI T, us, er, fl, tx, co, ca, cb, wt, rk, ro, cl, sr, rs, sp, hv, st, mv) (nI x) (nI y) := by
  have H0 := h
  obtain ⟨U, rfl, H⟩ := h
  have kx := hp_sk H (by omega) hx gx
  have ky := hp_sk H (by omega) hy gy
  have ox := kx.2.2.1
  have bx := aw_okb ox
  have bY := aw_okb ky.2.2.1
  have W : ∀ (x3 : Int32) (q : Nat), x3 = (if r' = 2 then 1 else 0) → q = aw_mo r' → wX_takeTwo_27 post (nI x) (nI y) x3 (nI q) cn cd nx ws fn (nI T) (nI U) er fl tx co ca cb wt rk ro cl sr rs sp hv st mv := by
    intro x3 q hx3 eq
    have hq : q ≤ 36 := by rw [eq]; unfold aw_mo; split <;> omega
    have eqT : (nI q).toInt = (q : Int) := nI_toInt (by omega)
    have enT : (-nI q).toInt = -(q : Int) := sb_negT (by omega)
    refine And.intro (sk_in kx) (pk_eq r 0 (fun z => ?_) (fun z => ?_) (sk_rk kx))
    · obtain ⟨z1, z2⟩ := aw_okz ox z
      refine xl_num (i := 0) (j := 0) kx (by omega) (by omega) ?_
      rw [Nat.zero_mul, Nat.zero_add]
      have r0 : rk (nI x).toNatClampNeg = 0 := by rw [sk_rk kx, z]; rfl
      have f75 : ((c 0).toInt < -(aw_mo r' : Int) ∨ (aw_mo r' : Int) < (c 0).toInt) → wX_takeTwo_75 post (nI x) cn cd nx ws fn (nI T) (nI U) er fl tx co ca cb wt rk ro cl sr rs sp hv st mv := fun R => And.intro (sk_in kx) (br_t r0 (xo_er K ((if_neg (fun q => q z)).trans (if_pos R))))
      refine And.intro (sk_in kx) (br_t r0 ?_)
      by_cases l0 : c 0 < -nI q
      · refine br_t l0 (f75 (Or.inl ?_))
        rw [Int32.lt_iff_toInt_lt, enT] at l0
        rw [← eq]; exact l0
      · refine br_f l0 ?_
        rw [Int32.lt_iff_toInt_lt, enT] at l0
        by_cases l1 : c 0 ≤ nI q
        · refine br_t l1 ?_
          rw [Int32.le_iff_toInt_le, eqT] at l1
          have K1 : aw_XO post g T (aq_part (if (c 0).toInt < 0 then (aw_fl r' m' n' : Int) + (c 0).toInt else 0) (c 0).toInt.natAbs (r', m', n', c')) cn cd nx ws fn (nI U) er fl tx co ca cb wt rk ro cl sr rs sp hv st mv := by
            have e : aq_tk2 (r, m, n, c) (r', m', n', c') = aq_part (if (c 0).toInt < 0 then (aw_fl r' m' n' : Int) + (c 0).toInt else 0) (c 0).toInt.natAbs (r', m', n', c') := (if_neg (fun q => q z)).trans (if_neg (by rw [← eq]; omega))
            rw [← e]; exact K
          have bfl : aw_fl r' m' n' ≤ 36 := by unfold aw_fl; split <;> omega
          by_cases l2 : 0 ≤ c 0
          · have l3 := aw_le0.mp l2
            rw [if_neg (by omega)] at K1
            have ec : c 0 = nI (c 0).toInt.natAbs := aw_nIof (by omega)
            refine br_t l2 (xl_first ky (br_t l2 ?_))
            have Q := xp_t132 (z0 := 0) (x3 := x3) (q := (c 0).toInt.natAbs) (b := 0) H0 hT hT' hy gy rfl (by rw [← eq]; omega) hx3 (by decide) (by omega) (by omega) (fun l => ⟨by omega, by omega⟩) K1
            rw [← ec] at Q
            exact Q
          · have l3 : (c 0).toInt < 0 := by
              have : ¬ 0 ≤ (c 0).toInt := fun q => l2 (aw_le0.mpr q)
              omega
            rw [if_pos l3] at K1
            have ec : - c 0 = nI (c 0).toInt.natAbs := by
              apply aw_nIof
              rw [Int32.toInt_neg]
              exact (Int.bmod_eq_of_le (by omega) (by omega)).trans (by omega)
            refine br_f l2 (xl_first ky (br_f l2 ?_))
            have Q := xp_t132 (z0 := nI (aw_fl r' m' n') - nI (c 0).toInt.natAbs) (x3 := x3) (q := (c 0).toInt.natAbs) (b := (aw_fl r' m' n' : Int) + (c 0).toInt) H0 hT hT' hy gy rfl (by rw [← eq]; omega) hx3
              (by rw [pk_sub_toInt (by omega) (by omega)]; omega) (by omega) (by omega) (fun l => ⟨by omega, by omega⟩) K1
            rw [← ec] at Q
            exact Q
        · refine br_f l1 (f75 (Or.inr ?_))
          rw [Int32.le_iff_toInt_le, eqT] at l1
          rw [← eq]; omega
    · have nz : ¬ rk (nI x).toNatClampNeg = 0 := by rw [sk_rk kx]; exact nI_ne0 (by omega) (by omega)
      exact And.intro (sk_in kx) (br_f nz (And.intro (sk_in kx) (br_f nz (xo_er K (if_pos z)))))
  refine And.intro (sk_in ky) (pk_eq r' 2 (fun z => ?_) (fun z => ?_) (sk_rk ky))
  · exact br_f (by decide) (W 1 6 (by rw [if_pos z]) (by unfold aw_mo; rw [if_pos z]))
  · exact br_t rfl (W 0 36 (by rw [if_neg z]) (by unfold aw_mo; rw [if_neg z]))
theorem xp_drop (h : aw_HX g T us rk ro cl sr rs sp hv st) (hT' : T ≤ 47) (hx : x < T) (gx : g x = some (r, m, n, c)) (hy : y < T) (gy : g y = some (r', m', n', c'))
    (K : aw_XO post g T (aq_drop (r, m, n, c) (r', m', n', c')) cn cd nx ws fn us er fl tx co ca cb wt rk ro cl sr rs sp hv st mv) : wpX_drop post (cn, cd, nx, ws, fn, nI T, us, er, fl, tx, co, ca, cb, wt, rk, ro, cl, sr, rs, sp, hv, st, mv) (nI x) (nI y) := by
  have H0 := h
  obtain ⟨U, rfl, H⟩ := h
  have kx := hp_sk H (by omega) hx gx
  have ky := hp_sk H (by omega) hy gy
  have ox := kx.2.2.1
  have bx := aw_okb ox
  have bY := aw_okb ky.2.2.1
  refine And.intro (sk_in kx) (pk_eq r 0 (fun z => ?_) (fun z => xo_er K (if_pos z)) (sk_rk kx))
  obtain ⟨z1, z2⟩ := aw_okz ox z
  refine xl_num (i := 0) (j := 0) kx (by omega) (by omega) ?_
  rw [Nat.zero_mul, Nat.zero_add]
  refine xl_first ky ?_
  have bw : aw_fl r' m' n' ≤ 36 := by unfold aw_fl; split <;> omega
  generalize ew : aw_fl r' m' n' = w at bw
  have K0 : aw_XO post g T (aq_part (if (c 0).toInt < 0 then 0 else ((w - (w - (c 0).toInt.natAbs) : Nat) : Int)) (w - (c 0).toInt.natAbs) (r', m', n', c')) cn cd nx ws fn (nI U) er fl tx co ca cb wt rk ro cl sr rs sp hv st mv := by
    have e : aq_drop (r, m, n, c) (r', m', n', c') = aq_part (if (c 0).toInt < 0 then 0 else ((w - (w - (c 0).toInt.natAbs) : Nat) : Int)) (w - (c 0).toInt.natAbs) (r', m', n', c') := by rw [← ew]; exact if_neg (fun q => q z)
    rw [← e]; exact K
  generalize ed : (c 0).toInt = d at K0
  -- the cut that both ways of counting lead to
  have cut : ∀ (p1 p2 : Int32) (b : Nat), p2 = nI (w - d.natAbs) → (w - d.natAbs = 0 ∨ (p1 = nI b ∧ b = (if d < 0 then 0 else w - (w - d.natAbs)))) → wpX_cutOut post (cn, cd, nx, ws, fn, nI T, nI U, er, fl, tx, co, ca, cb, wt, rk, ro, cl, sr, rs, sp, hv, st, mv) (nI y) p1 p2 := by
    intro p1 p2 b e2 e1
    by_cases zz : r' = 2
    · have K1 := xo_ok K0 (if_pos zz)
      have ewm : w = m' := by rw [← ew]; exact if_pos zz
      refine xp_cut H0 hT' hy gy (b := b) (q := w - d.natAbs) (c1 := fun k => if 0 ≤ (if d < 0 then (0 : Int) else ((w - (w - d.natAbs) : Nat) : Int)) + ((k / n' : Nat) : Int) ∧ (if d < 0 then (0 : Int) else ((w - (w - d.natAbs) : Nat) : Int)) + ((k / n' : Nat) : Int) < (m' : Int) then c' (((if d < 0 then (0 : Int) else ((w - (w - d.natAbs) : Nat) : Int)) + ((k / n' : Nat) : Int)).toNat * n' + k % n') else 0) ?_ e2 ?_ (fun q => absurd zz q) ?_
      · rcases e1 with e1 | ⟨e1, e3⟩
        · exact Or.inl e1
        · refine Or.inr ⟨e1, ?_⟩
          rw [ew, e3]; split <;> omega
      · intro _ i j hi hj
        obtain ⟨d1, d2⟩ := aw_dj (i := i) hj
        show (if 0 ≤ (if d < 0 then (0 : Int) else ((w - (w - d.natAbs) : Nat) : Int)) + (((i * n' + j) / n' : Nat) : Int) ∧ (if d < 0 then (0 : Int) else ((w - (w - d.natAbs) : Nat) : Int)) + (((i * n' + j) / n' : Nat) : Int) < (m' : Int) then c' (((if d < 0 then (0 : Int) else ((w - (w - d.natAbs) : Nat) : Int)) + (((i * n' + j) / n' : Nat) : Int)).toNat * n' + (i * n' + j) % n') else 0) = _
        rw [d1, d2]
        rcases e1 with e1 | ⟨_, e3⟩
        · omega
        · by_cases l : d < 0
          · rw [if_pos l] at e3
            rw [if_pos l, if_pos (by omega), e3]
            have e : ((0 : Int) + (i : Int)).toNat = 0 + i := by omega
            rw [e]
          · rw [if_neg l] at e3
            rw [if_neg l, if_pos (by omega), e3]
            have e : (((w - (w - d.natAbs) : Nat) : Int) + (i : Int)).toNat = w - (w - d.natAbs) + i := by omega
            rw [e]
      · rw [if_pos zz, if_pos zz, if_pos zz]; exact K1
    · have K1 := xo_ok K0 (if_neg zz)
      have ewm : w = n' := by rw [← ew]; exact if_neg zz
      refine xp_cut H0 hT' hy gy (b := b) (q := w - d.natAbs) (c1 := fun k => if 0 ≤ (if d < 0 then (0 : Int) else ((w - (w - d.natAbs) : Nat) : Int)) + (k : Int) ∧ (if d < 0 then (0 : Int) else ((w - (w - d.natAbs) : Nat) : Int)) + (k : Int) < (n' : Int) then c' ((if d < 0 then (0 : Int) else ((w - (w - d.natAbs) : Nat) : Int)) + (k : Int)).toNat else 0) ?_ e2 (fun q => absurd q zz) ?_ ?_
      · rcases e1 with e1 | ⟨e1, e3⟩
        · exact Or.inl e1
        · refine Or.inr ⟨e1, ?_⟩
          rw [ew, e3]; split <;> omega
      · intro _ j hj
        show (if 0 ≤ (if d < 0 then (0 : Int) else ((w - (w - d.natAbs) : Nat) : Int)) + (j : Int) ∧ (if d < 0 then (0 : Int) else ((w - (w - d.natAbs) : Nat) : Int)) + (j : Int) < (n' : Int) then c' ((if d < 0 then (0 : Int) else ((w - (w - d.natAbs) : Nat) : Int)) + (j : Int)).toNat else 0) = _
        rcases e1 with e1 | ⟨_, e3⟩
        · omega
        · by_cases l : d < 0
          · rw [if_pos l] at e3
            rw [if_pos l, if_pos (by omega), e3]
            have e : ((0 : Int) + (j : Int)).toNat = 0 + j := by omega
            rw [e]
          · rw [if_neg l] at e3
            rw [if_neg l, if_pos (by omega), e3]
            have e : (((w - (w - d.natAbs) : Nat) : Int) + (j : Int)).toNat = w - (w - d.natAbs) + j := by omega
            rw [e]
      · rw [if_neg zz, if_neg zz, if_neg zz]; exact K1
  have ewT : (nI w).toInt = (w : Int) := nI_toInt (by omega)
  have enT : (-nI w).toInt = -(w : Int) := sb_negT (by omega)
  have bd1 := (c 0).toInt_lt
  have bd2 := (c 0).le_toInt
  rw [ed] at bd1 bd2
  -- many is 0
  have zero : w - d.natAbs = 0 → wX_drop_79 post (nI y) (c 0) 0 cn cd nx ws fn (nI T) (nI U) er fl tx co ca cb wt rk ro cl sr rs sp hv st mv := by
    intro e
    have Q : ∀ p1, wpX_cutOut post (cn, cd, nx, ws, fn, nI T, nI U, er, fl, tx, co, ca, cb, wt, rk, ro, cl, sr, rs, sp, hv, st, mv) (nI y) p1 0 := fun p1 => cut p1 0 0 (by rw [e]; rfl) (Or.inl e)
    refine br_c (fun _ => Q 0) (fun _ => br_t (by decide) (Q 0))
  -- some are left
  have more : d.natAbs ≤ w → wX_drop_64 post (nI y) (c 0) (nI w) cn cd nx ws fn (nI T) (nI U) er fl tx co ca cb wt rk ro cl sr rs sp hv st mv := by
    intro hd
    by_cases l : 0 ≤ c 0
    · have l1 := aw_le0.mp l
      rw [ed] at l1
      have e0 : c 0 = nI d.natAbs := aw_nIof (by rw [ed]; omega)
      refine br_t l ?_
      have e2 : nI w - c 0 = nI (w - d.natAbs) := by rw [e0]; exact pk_sub hd
      rw [e2]
      refine br_c (fun q => ?_) (fun q => ?_)
      · refine cut 0 _ 0 rfl (Or.inr ⟨rfl, ?_⟩)
        have : d = 0 := by
          rw [Int32.le_iff_toInt_le, ed] at q
          have z0 : (0 : Int32).toInt = 0 := by decide
          omega
        subst this
        rw [if_neg (by omega)]
        omega
      · refine pk_le (w - d.natAbs) 0 (fun q2 => cut 0 _ 0 rfl (Or.inl (by omega))) (fun q2 => ?_)
        refine cut (c 0) _ d.natAbs rfl (Or.inr ⟨e0, ?_⟩)
        rw [if_neg (by omega)]; omega
    · have l1 : d < 0 := by
        have : ¬ 0 ≤ (c 0).toInt := fun q => l (aw_le0.mpr q)
        rw [ed] at this
        omega
      refine br_f l ?_
      have e2 : nI w + c 0 = nI (w - d.natAbs) := by
        apply aw_nIof
        rw [Int32.add_comm, aw_addI ed (by omega) (by omega) (by omega)]
        omega
      rw [e2]
      refine br_t ?_ (cut 0 _ 0 rfl (Or.inr ⟨rfl, by rw [if_pos l1]⟩))
      rw [Int32.le_iff_toInt_le, ed]
      have z0 : (0 : Int32).toInt = 0 := by decide
      omega
  have all : wX_drop_49 post (nI y) (c 0) (nI w) 1 cn cd nx ws fn (nI T) (nI U) er fl tx co ca cb wt rk ro cl sr rs sp hv st mv ∨ ¬ (w ≤ d.natAbs) := by
    by_cases l : w ≤ d.natAbs
    · refine Or.inl (br_f (by decide) (br_c (fun q => more ?_) (fun q => zero (by omega))))
      rw [q] at ed
      have : d = 0 := by rw [← ed]; decide
      subst this
      omega
    · exact Or.inr l
  by_cases l : nI w ≤ c 0
  · refine br_t l ?_
    rw [Int32.le_iff_toInt_le, ewT, ed] at l
    rcases all with A | A
    · exact A
    · omega
  · refine br_f l ?_
    rw [Int32.le_iff_toInt_le, ewT, ed] at l
    by_cases l2 : -nI w < c 0
    · refine br_t l2 ?_
      rw [Int32.lt_iff_toInt_lt, enT, ed] at l2
      exact br_t rfl (more (by omega))
    · refine br_f l2 ?_
      rw [Int32.lt_iff_toInt_lt, enT, ed] at l2
      rcases all with A | A
      · exact A
      · omega
end
end
section
/-! 11: the component's join and pick -/
section
variable {cn cd nx ws fn tp us er fl : Int32} {tx co ca cb wt rk ro cl sr rs sp hv st mv : Nat → Int32} {g : Nat → Option aw_V} {T U x y r m n r' m' n' : Nat} {c c' : Nat → Int32} {post : SX → Prop} {f : Int32}
theorem xp_jn2 (h : aw_HX g T us rk ro cl sr rs sp hv st) (hT : 13 ≤ T) (hT' : T ≤ 47) (hx : x < T) (gx : g x = some (r, m, n, c)) (hy : y < T) (gy : g y = some (r', m', n', c'))
    (K : aw_XO post g T (aq_jn2 (r, m, n, c) (r', m', n', c')) cn cd nx ws fn us er fl tx co ca cb wt rk ro cl sr rs sp hv st mv) : wpX_joinTwo post (cn, cd, nx, ws, fn, nI T, us, er, fl, tx, co, ca, cb, wt, rk, ro, cl, sr, rs, sp, hv, st, mv) (nI x) (nI y) := by
  have H0 := h
  obtain ⟨U, rfl, H⟩ := h
  have kx := hp_sk H (by omega) hx gx
  have ky := hp_sk H (by omega) hy gy
  have ox := kx.2.2.1
  have oy := ky.2.2.1
  have bx := aw_okb ox
  have bY := aw_okb oy
  -- behind the checks of rank and of the rows
  have W : ∀ (x3 : Int32), x3 = (if r = 2 then 1 else 0) → ((r = 2) ↔ (r' = 2)) → (r = 2 → m = m') → wX_joinTwo_72 post (nI x) (nI y) x3 cn cd nx ws fn (nI T) (nI U) er fl tx co ca cb wt rk ro cl sr rs sp hv st mv := by
    intro x3 hx3 e1 e2
    have p1 : ¬ ¬ ((r = 2) ↔ (r' = 2)) := fun q => q e1
    have p2 : ¬ (r = 2 ∧ m ≠ m') := fun q => q.2 (e2 q.1)
    refine And.intro (sk_in kx) (nm_r (sk_cl kx) (And.intro (sk_in ky) (nm_r (e' := nI (n + n')) (by rw [sk_cl ky, nI_add]) ?_)))
    have em : m = m' := by
      by_cases z : r = 2
      · exact e2 z
      · rw [aw_okm ox z, aw_okm oy (fun q => z (e1.mpr q))]
    have go : ∀ (q q2 : Nat), q = aw_mo r → q2 = (if r = 2 then 2 else 1) → wX_joinTwo_104 post (nI x) (nI y) x3 (nI n) (nI (n + n')) (nI q) (nI (n + n')) cn cd nx ws fn (nI T) (nI U) er fl tx co ca cb wt rk ro cl sr rs sp hv st mv := by
      intro q q2 eq eq2
      have hq : q ≤ 36 := by rw [eq]; unfold aw_mo; split <;> omega
      refine pk_le (n + n') q (fun l => ?_) (fun l => xo_er K ((if_neg p1).trans ((if_neg p2).trans (if_pos (by omega)))))
      have K1 := xo_ok K ((if_neg p1).trans ((if_neg p2).trans (if_neg (by omega))))
      have hok : aw_ok q2 m (n + n') := by
        by_cases z : r = 2
        · rw [eq2, if_pos z]
          have : q = 6 := by rw [eq]; unfold aw_mo; rw [if_pos z]
          exact aw_ok2 bx.2.1 (by omega)
        · rw [eq2, if_neg z, aw_okm ox z]; exact aw_ok1 (by omega)
      have L : wX_joinTwo_128 post (nI x) (nI y) (nI n) (nI (n + n')) (nI q2) (nI T) cn cd nx ws fn (nI T) (nI U) er fl tx co ca cb wt rk ro cl sr rs sp hv st mv := by
        refine And.intro (sk_in kx) (xl_make H0 hT hT' hok ?_ rfl rfl (sk_rw kx) rfl)
        intro s us rk ro cl sr rs sp hv st mv M
        have hs := mk_room M
        have hsz := (aw_okb hok).2.2.2
        refine xl_size (mk_sk M (by omega)) ?_
        refine xl_fill0 (fun n1 k st => wX_joinTwo_152 post (nI x) (nI y) (nI n) (nI (n + n')) (nI (m * (n + n'))) cn cd nx ws fn (nI T) us er fl n1 (nI k) tx co ca cb wt rk ro cl sr rs sp hv st mv) (m * (n + n')) (fun k => if k % (n + n') < n then c (k / (n + n') * n + k % (n + n')) else c' (k / (n + n') * n' + (k % (n + n') - n))) (mk_hp M) ?_ ?_
        · intro n1 st' H1 hc
          refine br_t (nI_le (Nat.le_refl _) (by omega)) (K1 _ _ _ _ _ _ _ _ _ _ ?_)
          rw [← eq2]
          exact mk_done M H1 hc
        · intro n1 k st' hk H1 ih
          have E : sr (nI T).toNatClampNeg + nI k = nI (s + k) := by rw [xl_cl (by omega) (mk_top M), nI_add]
          obtain ⟨d1, d2, d3, d4⟩ := aw_dm hk
          have hn : ¬ nI (n + n') = 0 := nI_ne0 d1 (by omega)
          refine br_f (nI_ge hk (by omega)) (And.intro hn (nm_r (pk_div (by omega) d1 (by omega)) (And.intro hn (nm_r (pk_rem (by omega) d1 (by omega)) (And.intro (pk_in T 48 (by omega)) (pk_le n (k % (n + n')) (fun l2 => ?_) (fun l2 => ?_)))))))
          · rw [if_neg (by omega)] at ih
            exact xl_num (hp_sk H1 (by omega) hy gy) (show k / (n + n') < m' by omega) (show k % (n + n') - n < n' by omega) (xl_tail E (by omega) rfl ih) rfl rfl (pk_sub l2)
          · rw [if_pos l2] at ih
            exact xl_num (hp_sk H1 (by omega) hx gx) d2 l2 (xl_tail E (by omega) rfl ih)
      rw [hx3]
      by_cases z : r = 2
      · rw [if_pos z]; rw [if_pos z] at eq2; subst eq2; rw [if_pos z] at hx3; subst hx3; exact br_f (by decide) L
      · rw [if_neg z]; rw [if_neg z] at eq2; subst eq2; rw [if_neg z] at hx3; subst hx3; exact br_t rfl L
    rw [hx3]
    by_cases z : r = 2
    · rw [if_pos z] at hx3; rw [if_pos z]; subst hx3; exact br_f (by decide) (go 6 2 (by unfold aw_mo; rw [if_pos z]) (by rw [if_pos z]))
    · rw [if_neg z] at hx3; rw [if_neg z]; subst hx3; exact br_t rfl (go 36 1 (by unfold aw_mo; rw [if_neg z]) (by rw [if_neg z]))
  refine And.intro (sk_in kx) (pk_eq r 2 (fun z => And.intro (sk_in ky) (pk_eq r' 2 (fun z' => ?_) (fun z' => ?_) (sk_rk ky))) (fun z => And.intro (sk_in ky) (pk_eq r' 2 (fun z' => ?_) (fun z' => ?_) (sk_rk ky))) (sk_rk kx))
  · refine br_t rfl (br_f (by decide) (And.intro (sk_in kx) (And.intro (sk_in ky) (pk_eq m m' (fun e => W 1 (by rw [if_pos z]) ⟨fun _ => z', fun _ => z⟩ (fun _ => e)) (fun e => ?_) (sk_rw kx) (sk_rw ky)))))
    exact xo_er K ((if_neg (fun q => q ⟨fun _ => z', fun _ => z⟩)).trans (if_pos ⟨z, e⟩))
  · exact br_f (by decide) (xo_er K (if_pos (fun q => z' (q.mp z))))
  · exact br_f (by decide) (xo_er K (if_pos (fun q => z (q.mpr z'))))
  · exact br_t rfl (br_t rfl (W 0 (by rw [if_neg z]) ⟨fun q => absurd q z, fun q => absurd q z'⟩ (fun q => absurd q z)))
theorem xl_ab0 {post : Int32 → Prop} {v : Int32} (kx : aw_SK st rk ro cl sr rs sp U x r m n c) (hm : 0 < m) (K : post 0) : ∀ (d j : Nat), j + d = n → wX_allBelow_5 post (nI x) v cn cd nx ws fn tp us er fl tx co ca cb wt rk ro cl sr rs sp hv st mv (d + 1) 0 (nI j) := by
  intro d
  have hb := aw_okb kx.2.2.1
  induction d with
  | zero =>
    intro j hj
    exact And.intro (sk_in kx) (br_t (by rw [sk_cl kx]; exact nI_le (by omega) (by omega)) (And.intro rfl K))
  | succ d ih =>
    intro j hj
    exact And.intro (sk_in kx) (br_f (by rw [sk_cl kx]; exact nI_ge (by omega) (by omega)) (xl_num (i := 0) kx hm (show j < n by omega) (br_t rfl (nm_r (nI_1 j) (ih (j + 1) (by omega))))))
theorem xl_ab1 {post : Int32 → Prop} {b : Nat} (kx : aw_SK st rk ro cl sr rs sp U x r m n c) (hm : 0 < m) : ∀ (d j : Nat), j + d = n → (K1 : (∀ q, j ≤ q → q < n → ¬ c q < 0 ∧ c q < nI b) → post 1) → (K0 : (∃ q, q < n ∧ ¬ (¬ c q < 0 ∧ c q < nI b)) → post 0) →
    wX_allBelow_5 post (nI x) (nI b) cn cd nx ws fn tp us er fl tx co ca cb wt rk ro cl sr rs sp hv st mv (d + 1) 1 (nI j) := by
  intro d
  have hb := aw_okb kx.2.2.1
  induction d with
  | zero =>
    intro j hj K1 K0
    exact And.intro (sk_in kx) (br_t (by rw [sk_cl kx]; exact nI_le (by omega) (by omega)) (And.intro rfl (K1 (fun q a b => absurd b (by omega)))))
  | succ d ih =>
    intro j hj K1 K0
    refine And.intro (sk_in kx) (br_f (by rw [sk_cl kx]; exact nI_ge (by omega) (by omega)) (xl_num (i := 0) kx hm (show j < n by omega) (br_f (by decide) ?_)))
    rw [Nat.zero_mul, Nat.zero_add]
    by_cases l0 : c j < 0
    · exact br_t l0 (nm_r (nI_1 j) (xl_ab0 kx hm (K0 ⟨j, by omega, fun q => q.1 l0⟩) d (j + 1) (by omega)))
    · refine br_f l0 ?_
      by_cases l1 : nI b ≤ c j
      · exact br_t l1 (nm_r (nI_1 j) (xl_ab0 kx hm (K0 ⟨j, by omega, fun q => Int32.not_le.mpr q.2 l1⟩) d (j + 1) (by omega)))
      · refine br_f l1 (nm_r (nI_1 j) (ih (j + 1) (by omega) (fun A => K1 (fun q h1 h2 => ?_)) K0))
        by_cases e : q = j
        · subst e; exact ⟨l0, Int32.not_le.mp l1⟩
        · exact A q (by omega) h2
theorem aw_gs2 {t : Nat} {v w : aw_V} : aw_gs (aw_gs g t v) t w = aw_gs g t w := by
  funext a
  unfold aw_gs
  by_cases z : a = t
  · rw [if_pos z, if_pos z]
  · rw [if_neg z, if_neg z, if_neg z]
theorem aw_belo {v : Int32} {b : Nat} (h : ¬ v < 0 ∧ v < nI b) (hb : b < 2 ^ 31) : v = nI (aw_tn v) ∧ aw_tn v < b := by
  obtain ⟨j, hj, rfl⟩ := nI_of h.1
  have e : aw_tn (nI j) = j := nI_clamp hj
  rw [e]
  exact ⟨rfl, (nI_ltI hj hb).mp h.2⟩
theorem xp_pick (h : aw_HX g T us rk ro cl sr rs sp hv st) (hT : 13 ≤ T) (hT' : T ≤ 47) (hx : x < T) (gx : g x = some (r, m, n, c)) (hy : y < T) (gy : g y = some (r', m', n', c'))
    (K : aw_XO post g T (aq_pick (r, m, n, c) (r', m', n', c')) cn cd nx ws fn us er fl tx co ca cb wt rk ro cl sr rs sp hv st mv) : wpX_pick post (cn, cd, nx, ws, fn, nI T, us, er, fl, tx, co, ca, cb, wt, rk, ro, cl, sr, rs, sp, hv, st, mv) (nI x) (nI y) := by
  have H0 := h
  obtain ⟨U, rfl, H⟩ := h
  have kx := hp_sk H (by omega) hx gx
  have ky := hp_sk H (by omega) hy gy
  have ox := kx.2.2.1
  have oy := ky.2.2.1
  have bx := aw_okb ox
  have bY := aw_okb oy
  refine And.intro (sk_in kx) (pk_eq r 2 (fun z => xo_er K (if_pos (Or.inl z))) (fun z => ?_) (sk_rk kx))
  refine And.intro (sk_in ky) (pk_eq r' 0 (fun z' => xo_er K (if_pos (Or.inr z'))) (fun z' => ?_) (sk_rk ky))
  have p0 : ¬ (r = 2 ∨ r' = 0) := by omega
  have m1 := aw_okm ox z
  have m0 : 0 < m := by omega
  have bw : aw_fl r' m' n' ≤ 36 := by unfold aw_fl; split <;> omega
  refine xl_first ky ⟨n + 1, xl_ab1 kx m0 n 0 (by omega) (fun A => ?_) (fun A => br_t rfl ?_)⟩
  · have B : aw_bel c n (aw_fl r' m' n') := fun j hj => A j (by omega) hj
    refine br_f (by decide) (And.intro (sk_in ky) ?_)
    have W : ∀ z0 : Int32, z0 = (if r' = 2 then 1 else 0) → wX_pick_63 post (nI x) (nI y) z0 cn cd nx ws fn (nI T) (nI U) er fl tx co ca cb wt rk ro cl sr rs sp hv st mv := by
      intro z0 hz0
      refine And.intro (sk_in kx) (nm_r (sk_cl kx) (And.intro (sk_in kx) (pk_eq r 0 (fun r0 => ?_) (fun r0 => ?_) (sk_rk kx))))
      · have K1 := xo_ok K ((if_neg p0).trans ((aw_ift B).trans (if_pos r0)))
        have en := (aw_okz ox r0).2
        obtain ⟨f1, f2⟩ := aw_belo (B 0 (by omega)) (by omega)
        refine xl_num (i := 0) (j := 0) kx m0 (by omega) ?_
        rw [Nat.zero_mul, Nat.zero_add]
        refine xp_cut (b := aw_tn (c 0)) (q := 1) (c1 := fun k => c' (aw_tn (c 0) * aw_wd r' n' + k)) H0 hT' hy gy (Or.inr ⟨f1, by omega⟩) rfl ?_ ?_ ?_
        · intro z2 i j hi hj
          have e : i = 0 := by omega
          subst e
          show c' (aw_tn (c 0) * aw_wd r' n' + (0 * n' + j)) = _
          unfold aw_wd
          rw [if_pos z2, Nat.zero_mul, Nat.zero_add, Nat.add_zero]
        · intro z2 j hj
          show c' (aw_tn (c 0) * aw_wd r' n' + j) = _
          unfold aw_wd
          rw [if_neg z2, Nat.mul_one]
        · intro us rk ro cl sr rs sp hv st mv HH
          obtain ⟨U1, rfl, HP1⟩ := HH
          have gyT : aw_gs g T (if r' = 2 then 2 else 1, if r' = 2 then 1 else 1, if r' = 2 then n' else 1, fun k => c' (aw_tn (c 0) * aw_wd r' n' + k)) y = some (r', m', n', c') := by rw [aw_gsn (by omega)]; exact gy
          have k3 := hp_sk HP1 (by omega) (show y < T + 1 by omega) gyT
          have inT : vp_in (nI T) 48 := pk_in T 48 (by omega)
          have sT := ((HP1.2 T (by omega)).2 _ _ _ _ aw_gss).2.2
          have hvT := ((HP1.2 T (by omega)).2 _ _ _ _ aw_gss).1
          obtain ⟨s1, s2, s3, s4⟩ := sT
          have e1 : rk (nI y).toNatClampNeg - 1 = nI (r' - 1) := by rw [sk_rk k3]; exact pk_sub (b := 1) (by omega)
          refine And.intro (sk_in k3) (And.intro inT (nm_r (xl_uc (by omega) e1) (K1 _ _ _ _ _ _ _ _ _ _ ⟨U1, rfl, ?_⟩)))
          have Q := hp_put (t := T) (T' := T + 1) (rk' := upd rk T (nI (r' - 1))) (r := r' - 1) (m := 1) (n := aw_wd r' n') (c := fun k => c' (aw_tn (c 0) * aw_wd r' n' + k)) HP1 (fun a ha z => by omega) (fun a _ z => ⟨pk_un z, rfl, rfl, rfl, rfl, rfl, rfl⟩) hvT ?_ ⟨pk_us, ?_, ?_, ?_⟩
          · rw [aw_gs2] at Q; exact Q
          · by_cases z2 : r' = 2
            · unfold aw_wd; rw [if_pos z2, z2]; exact aw_ok1 (by omega)
            · have : r' = 1 := by omega
              unfold aw_wd; rw [if_neg z2, this]; exact aw_ok0
          · rw [s2]; split <;> rfl
          · rw [s3]; rfl
          · intro i j hi hj
            unfold aw_wd at hj
            obtain ⟨p, hp, e, es⟩ := s4 i j (by split <;> omega) hj
            exact ⟨p, hp, e, es⟩
      · have r1 : r = 1 := by omega
        have go : ¬ (r' = 2 ∧ 6 < n) → wX_pick_132 post (nI x) (nI y) z0 (nI n) cn cd nx ws fn (nI T) (nI U) er fl tx co ca cb wt rk ro cl sr rs sp hv st mv := by
          intro P
          have K1 := xo_ok K ((if_neg p0).trans ((aw_ift B).trans ((if_neg r0).trans (if_neg P))))
          have go2 : ∀ (w q : Nat), w = (if r' = 2 then n' else n) → q = (if r' = 2 then n else 1) → wX_pick_172 post (nI x) (nI y) z0 (nI w) (nI q) (nI r') (nI T) cn cd nx ws fn (nI T) (nI U) er fl tx co ca cb wt rk ro cl sr rs sp hv st mv := by
            intro w q ew eq
            have hok : aw_ok r' q w := by
              by_cases z2 : r' = 2
              · rw [ew, eq, if_pos z2, if_pos z2, z2]; exact aw_ok2 (by omega) (aw_okn oy z2).2
              · have : r' = 1 := by omega
                rw [ew, eq, if_neg z2, if_neg z2, this]; exact aw_ok1 (by omega)
            refine xl_make H0 hT hT' hok ?_
            intro s us rk ro cl sr rs sp hv st mv M
            have hs := mk_room M
            have hsz := (aw_okb hok).2.2.2
            refine xl_size (mk_sk M (by omega)) ?_
            refine xl_fill0 (fun n1 k st => wX_pick_190 post (nI x) (nI y) z0 (nI w) (nI (q * w)) cn cd nx ws fn (nI T) us er fl n1 (nI k) tx co ca cb wt rk ro cl sr rs sp hv st mv) (q * w) (fun k => c' (aw_tn (c (k / aw_wd r' n')) * aw_wd r' n' + k % aw_wd r' n')) (mk_hp M) ?_ ?_
            · intro n1 st' H1 hc
              refine br_t (nI_le (Nat.le_refl _) (by omega)) (K1 _ _ _ _ _ _ _ _ _ _ ?_)
              rw [← ew, ← eq]
              exact mk_done M H1 hc
            · intro n1 k st' hk H1 ih
              have E : sr (nI T).toNatClampNeg + nI k = nI (s + k) := by rw [xl_cl (by omega) (mk_top M), nI_add]
              have k1 := hp_sk H1 (by omega) hx gx
              have k2 := hp_sk H1 (by omega) hy gy
              have inT : vp_in (nI T) 48 := pk_in T 48 (by omega)
              refine br_f (nI_ge hk (by omega)) ?_
              by_cases z2 : r' = 2
              · rw [if_pos z2] at ew eq hz0
                subst hz0 ew eq
                obtain ⟨d1, d2, d3, d4⟩ := aw_dm hk
                have hn : ¬ nI w = 0 := nI_ne0 d1 (by omega)
                have f0 := B (k / w) d2
                unfold aw_fl at f0
                rw [if_pos z2] at f0
                obtain ⟨f1, f2⟩ := aw_belo f0 (by omega)
                have ewd : aw_wd r' w = w := if_pos z2
                rw [ewd] at ih
                refine br_f (by decide) (And.intro hn (xl_num k1 m0 d2 (And.intro inT (br_f (by decide) (And.intro hn ?_))) rfl rfl (pk_div (by omega) d1 (by omega))))
                rw [Nat.zero_mul, Nat.zero_add]
                exact xl_num k2 f2 d3 (xl_tail E (by omega) rfl ih) rfl f1 (pk_rem (by omega) d1 (by omega))
              · rw [if_neg z2] at ew eq hz0
                subst hz0 ew eq
                rw [Nat.one_mul] at hk
                have f0 := B k hk
                unfold aw_fl at f0
                rw [if_neg z2] at f0
                obtain ⟨f1, f2⟩ := aw_belo f0 (by omega)
                have ewd : aw_wd r' n' = 1 := if_neg z2
                rw [ewd, Nat.div_one, Nat.mod_one, Nat.mul_one, Nat.add_zero] at ih
                have mY := aw_okm oy z2
                refine br_t rfl (xl_num (i := 0) k1 m0 hk (And.intro inT (br_t rfl ?_)))
                rw [Nat.zero_mul, Nat.zero_add]
                refine xl_num (i := 0) k2 (by omega) f2 (xl_tail E (by omega) ?_ ih) rfl rfl f1
                rw [Nat.zero_mul, Nat.zero_add]
                rfl
          by_cases z2 : r' = 2
          · rw [if_pos z2] at hz0
            subst hz0
            refine br_f (by decide) (And.intro (sk_in ky) (And.intro (sk_in ky) (br_f (by decide) ?_)))
            rw [sk_cl ky, sk_rk ky]
            exact go2 n' n (by rw [if_pos z2]) (by rw [if_pos z2])
          · rw [if_neg z2] at hz0
            subst hz0
            refine br_t rfl (And.intro (sk_in ky) (br_t rfl ?_))
            rw [sk_rk ky]
            exact go2 n 1 (by rw [if_neg z2]) (by rw [if_neg z2])
        by_cases z2 : r' = 2
        · have g1 := go
          rw [if_pos z2] at hz0
          subst hz0
          refine br_f (by decide) (pk_le n 6 (fun l => g1 (by omega)) (fun l => xo_er K ((if_neg p0).trans ((aw_ift B).trans ((if_neg r0).trans (if_pos ⟨z2, l⟩))))))
        · have g1 := go
          rw [if_neg z2] at hz0
          subst hz0
          exact br_t rfl (g1 (fun q => z2 q.1))
    exact pk_eq r' 2 (fun z2 => W 1 (by rw [if_pos z2])) (fun z2 => W 0 (by rw [if_neg z2])) (sk_rk ky)
  · refine xo_er K ((if_neg p0).trans (aw_iff (fun B => ?_)))
    obtain ⟨q, h1, h2⟩ := A
    exact h2 (B q h1)
end
end
section
/-! 12: ranks of numbers; the component's rise -/
section
variable {c : Nat → Int32}
theorem aw_bfi {i : Nat} : ¬ aw_bf c i i := by
  intro h
  rcases h with h | h
  · exact Int32.lt_irrefl h
  · omega
theorem aw_bft {i j : Nat} (h : i ≠ j) : aw_bf c i j ∨ aw_bf c j i := by
  unfold aw_bf
  rw [Int32.lt_iff_toInt_lt, Int32.lt_iff_toInt_lt, ← Int32.toInt_inj, ← Int32.toInt_inj]
  omega
theorem aw_bfr {i j k : Nat} (h : aw_bf c i j) (h2 : aw_bf c j k) : aw_bf c i k := by
  unfold aw_bf at *
  rw [Int32.lt_iff_toInt_lt, ← Int32.toInt_inj] at *
  omega
theorem aw_rks {i k : Nat} (h : aw_bf c k i) : aw_rkn c i (k + 1) = aw_rkn c i k + 1 := aw_ift h
theorem aw_rkk {i k : Nat} (h : ¬ aw_bf c k i) : aw_rkn c i (k + 1) = aw_rkn c i k := aw_iff h
theorem aw_rkle (i : Nat) : ∀ k, aw_rkn c i k ≤ k := by
  intro k
  induction k with
  | zero => exact Nat.le_refl _
  | succ k ih =>
    by_cases z : aw_bf c k i
    · rw [aw_rks z]; omega
    · rw [aw_rkk z]; omega
theorem aw_rkm {a b : Nat} (h : aw_bf c a b) : ∀ k, aw_rkn c a k ≤ aw_rkn c b k ∧ (a < k → aw_rkn c a k < aw_rkn c b k) := by
  intro k
  induction k with
  | zero => exact ⟨Nat.le_refl _, fun q => absurd q (by omega)⟩
  | succ k ih =>
    obtain ⟨i1, i2⟩ := ih
    by_cases z : aw_bf c k a
    · rw [aw_rks z, aw_rks (aw_bfr z h)]
      have : k ≠ a := by intro e; subst e; exact aw_bfi z
      exact ⟨by omega, fun q => by have := i2 (by omega); omega⟩
    · rw [aw_rkk z]
      by_cases e : k = a
      · subst e; rw [aw_rks h]; exact ⟨by omega, fun _ => by omega⟩
      · by_cases z2 : aw_bf c k b
        · rw [aw_rks z2]; exact ⟨by omega, fun q => by have := i2 (by omega); omega⟩
        · rw [aw_rkk z2]; exact ⟨i1, fun q => i2 (by omega)⟩
theorem aw_rki {a b k : Nat} (ha : a < k) (hb : b < k) (h : aw_rkn c a k = aw_rkn c b k) : a = b := by
  by_cases e : a = b
  · exact e
  · rcases aw_bft (c := c) e with z | z
    · have := (aw_rkm z k).2 ha; omega
    · have := (aw_rkm z k).2 hb; omega
theorem aw_rklt {i k : Nat} (h : i < k) : aw_rkn c i k < k := by
  induction k with
  | zero => omega
  | succ k ih =>
    by_cases e : i = k
    · subst e; rw [aw_rkk aw_bfi]; have := aw_rkle (c := c) i i; omega
    · have := ih (by omega)
      by_cases z : aw_bf c k i
      · rw [aw_rks z]; omega
      · rw [aw_rkk z]; omega
/-- whose rank is below that of the next number -/
theorem aw_rkb {j k : Nat} (h : j < k) : aw_bf c j k ↔ aw_rkn c j k < aw_rkn c k k := by
  refine ⟨fun z => (aw_rkm z k).2 h, fun z => ?_⟩
  rcases aw_bft (c := c) (show j ≠ k by omega) with q | q
  · exact q
  · have := (aw_rkm q k).1; omega
theorem aw_rkg {j k : Nat} (h : j < k) : c k < c j ↔ aw_rkn c k k ≤ aw_rkn c j k := by
  have e := aw_rkb (c := c) h
  unfold aw_bf at e
  rw [Int32.lt_iff_toInt_lt, ← Int32.toInt_inj] at e
  rw [Int32.lt_iff_toInt_lt]
  omega
theorem aw_rkn1 {j k : Nat} (h : j < k) : aw_rkn c j (k + 1) = if aw_rkn c j k < aw_rkn c k k then aw_rkn c j k else aw_rkn c j k + 1 := by
  by_cases z : aw_bf c k j
  · rw [aw_rks z, if_neg]
    have := (aw_rkm z k).1; omega
  · rw [aw_rkk z, if_pos]
    rcases aw_bft (c := c) (show j ≠ k by omega) with q | q
    · exact (aw_rkb h).mp q
    · exact absurd q z
theorem aw_sur : ∀ k p, p < k → ∃ i, i < k ∧ aw_rkn c i k = p := by
  intro k
  induction k with
  | zero => intro p hp; omega
  | succ k ih =>
    intro p hp
    have hk : aw_rkn c k k ≤ k := aw_rkle k k
    by_cases e : p = aw_rkn c k k
    · exact ⟨k, by omega, by rw [aw_rkk aw_bfi]; exact e.symm⟩
    · by_cases l : p < aw_rkn c k k
      · obtain ⟨i, h1, h2⟩ := ih p (by omega)
        exact ⟨i, by omega, by rw [aw_rkn1 h1, if_pos (by omega)]; exact h2⟩
      · obtain ⟨i, h1, h2⟩ := ih (p - 1) (by omega)
        exact ⟨i, by omega, by rw [aw_rkn1 h1, if_neg (by omega)]; omega⟩
theorem aw_grs {n p : Nat} (h : p < n) : aw_gr c n p < n ∧ aw_rkn c (aw_gr c n p) n = p := by
  have e := aw_sur (c := c) n p h
  unfold aw_gr
  rw [aw_ift e]
  exact Classical.epsilon_spec e
theorem aw_gru {n p i : Nat} (hi : i < n) (h : aw_rkn c i n = p) : aw_gr c n p = i := by
  have hp : p < n := by rw [← h]; exact aw_rklt hi
  obtain ⟨h1, h2⟩ := aw_grs (c := c) hp
  exact aw_rki h1 hi (h2.trans h.symm)
theorem aw_gr1 {k p : Nat} (h : p < aw_rkn c k k) (hp : p < k) : aw_gr c (k + 1) p = aw_gr c k p := by
  obtain ⟨h1, h2⟩ := aw_grs (c := c) hp
  exact aw_gru (by omega) (by rw [aw_rkn1 h1, if_pos (by omega)]; exact h2)
theorem aw_gr2 {k : Nat} : aw_gr c (k + 1) (aw_rkn c k k) = k := aw_gru (by omega) (aw_rkk aw_bfi)
theorem aw_gr3 {k p : Nat} (h : aw_rkn c k k < p) (hp : p ≤ k) : aw_gr c (k + 1) p = aw_gr c k (p - 1) := by
  obtain ⟨h1, h2⟩ := aw_grs (c := c) (show p - 1 < k by omega)
  exact aw_gru (by omega) (by rw [aw_rkn1 h1, if_neg (by omega)]; omega)
end
section
variable {cn cd nx ws fn tp us er fl : Int32} {tx co ca cb wt rk ro cl sr rs sp hv st mv : Nat → Int32} {g : Nat → Option aw_V} {T U x y r m n r' m' n' s : Nat} {c c' : Nat → Int32} {post : SX → Prop} {f : Int32}
theorem xr_72 {J : Int32 → (Nat → Int32) → (Nat → Int32) → (Nat → Int32) → (Nat → Int32) → (Nat → Int32) → (Nat → Int32) → (Nat → Int32) → (Nat → Int32) → (Nat → Int32) → (Nat → Int32) → (Nat → Int32) → (Nat → Int32) → (Nat → Int32) → (Nat → Int32) → Prop} {x2 : Int32} {k : Nat}
    (hT' : T ≤ 47) (hy : y < T) (gy : g y = some (r, m, n, c)) (hm : 0 < m) (hk : k < n) (hs : s + n ≤ 1800)
    (KJ : ∀ st', aw_HP g T s rk ro cl sr rs sp hv st' → (∀ p, p < k + 1 → st' (s + p) = nI (aw_gr c (k + 1) p)) → J (nI (k + 1)) tx co ca cb wt rk ro cl sr rs sp hv st' mv) :
    ∀ (i : Nat) (st : Nat → Int32), aw_rkn c k k ≤ i → i ≤ k → aw_HP g T s rk ro cl sr rs sp hv st → (∀ p, p < i → st (s + p) = nI (aw_gr c k p)) → (∀ p, i < p → p ≤ k → st (s + p) = nI (aw_gr c k (p - 1))) →
      wX_rise_72 post J (nI y) x2 (nI s) (nI k) (c k) cn cd nx ws fn (nI T) us er fl (i + 1) (nI i) (nI i) tx co ca cb wt rk ro cl sr rs sp hv st mv := by
  intro i
  induction i with
  | zero =>
    intro st hi hik H A B
    have e0 : aw_rkn c k k = 0 := by omega
    refine br_t (by decide) (xl_tail (q := s) (by rw [nI_add]; rfl) (by omega) rfl (KJ _ (hp_upd H (Nat.le_refl s)) (fun p hp => ?_)))
    by_cases z : p = 0
    · subst z
      have := aw_gr2 (c := c) (k := k)
      rw [e0] at this
      rw [this, Nat.add_zero, pk_us]
    · rw [pk_un (by omega), B p (by omega) (by omega), aw_gr3 (by omega) (by omega)]
  | succ i ih =>
    intro st hi hik H A B
    have k1 := hp_sk H (by omega) hy gy
    have hb := aw_okb k1.2.2.1
    obtain ⟨g1, g2⟩ := aw_grs (c := c) (show i < k by omega)
    have eI : nI s + nI (i + 1) - 1 = nI (s + i) := by rw [nI_add]; exact nI_pred (s + i)
    have eS : st (nI s + nI (i + 1) - 1).toNatClampNeg = nI (aw_gr c k i) := by rw [eI, nI_clamp (by omega)]; exact A i (by omega)
    have inI : vp_in (nI s + nI (i + 1) - 1) 1800 := pk_in (s + i) 1800 (by omega) eI
    refine br_f (nI_nle (by omega) (by omega)) (And.intro inI (xl_num (i := 0) (j := aw_gr c k i) k1 hm (by omega) ?_ rfl rfl eS))
    rw [Nat.zero_mul, Nat.zero_add]
    by_cases l : aw_rkn c k k ≤ i
    · have gt : c k < c (aw_gr c k i) := (aw_rkg g1).mpr (by omega)
      refine br_f (Int32.not_le.mpr gt) (And.intro inI (And.intro (pk_in (s + (i + 1)) 1800 (by omega) (nI_add s (i + 1))) (nm_r (e' := upd st (s + (i + 1)) (nI (aw_gr c k i))) ?_ (nm_r (nI_pred i) (nm_r (pk_m1 i) (ih _ l (by omega) (hp_upd H (by omega)) (fun p hp => ?_) (fun p h1 h2 => ?_)))))))
      · rw [eS, nI_add, nI_clamp (by omega)]
      · rw [pk_un (by omega)]; exact A p (by omega)
      · by_cases z : p = i + 1
        · subst z; rw [pk_us]; rfl
        · rw [pk_un (by omega)]; exact B p (by omega) h2
    · have e0 : aw_rkn c k k = i + 1 := by omega
      have ngt : ¬ c k < c (aw_gr c k i) := fun q => by have := (aw_rkg g1).mp q; omega
      refine br_t (Int32.not_lt.mp ngt) (xl_tail (q := s + (i + 1)) (nI_add s (i + 1)) (by omega) rfl (KJ _ (hp_upd H (by omega)) (fun p hp => ?_)))
      by_cases z : p = i + 1
      · subst z
        have := aw_gr2 (c := c) (k := k)
        rw [e0] at this
        rw [this, pk_us]
      · rw [pk_un (by omega)]
        by_cases l2 : p < i + 1
        · rw [A p l2, aw_gr1 (by omega) (by omega)]
        · rw [B p (by omega) (by omega), aw_gr3 (by omega) (by omega)]
theorem xp_rise (h : aw_HX g T us rk ro cl sr rs sp hv st) (hT : 13 ≤ T) (hT' : T ≤ 47) (hy : y < T) (gy : g y = some (r, m, n, c)) (K : aw_XO post g T (aq_rise (r, m, n, c)) cn cd nx ws fn us er fl tx co ca cb wt rk ro cl sr rs sp hv st mv) : wpX_rise post (cn, cd, nx, ws, fn, nI T, us, er, fl, tx, co, ca, cb, wt, rk, ro, cl, sr, rs, sp, hv, st, mv) (nI y) := by
  have H0 := h
  obtain ⟨U, rfl, H⟩ := h
  have ky := hp_sk H (by omega) hy gy
  have hok := ky.2.2.1
  have hb := aw_okb hok
  refine And.intro (sk_in ky) (pk_eq r 1 (fun z => ?_) (fun z => xo_er K (if_neg z)) (sk_rk ky))
  have K1 := xo_ok K (if_pos z)
  have m0 : 0 < m := by have := aw_okm hok (by omega); omega
  refine And.intro (sk_in ky) (nm_r (sk_cl ky) (xl_make H0 hT hT' (aw_ok1 hb.2.2.1) ?_))
  intro s us rk ro cl sr rs sp hv st mv M
  have hs := mk_room M
  rw [Nat.one_mul] at hs
  refine And.intro (pk_in T 48 (by omega)) (nm_r (xl_cl (by omega) (mk_top M)) ?_)
  refine loop_0 (fun n1 k st => wX_rise_48 post (nI y) (nI n) (nI s) cn cd nx ws fn (nI T) us er fl n1 (nI k) tx co ca cb wt rk ro cl sr rs sp hv st mv) (fun k st' => aw_HP g T s rk ro cl sr rs sp hv st' ∧ ∀ p, p < k → st' (s + p) = nI (aw_gr c k p)) n st ⟨mk_hp M, fun q hq => absurd hq (by omega)⟩ ?_ ?_
  · intro n1 st' I
    exact br_t (nI_le (Nat.le_refl _) (by omega)) (K1 _ _ _ _ _ _ _ _ _ _ (mk_done M I.1 (fun q hq => I.2 q (by omega))))
  · intro n1 k st' hk I ih
    refine br_f (nI_ge hk (by omega)) (xl_num (i := 0) (hp_sk I.1 (by omega) hy gy) m0 hk ?_)
    rw [Nat.zero_mul, Nat.zero_add]
    exact ⟨k + 1, xr_72 hT' hy gy m0 hk hs (fun st2 H2 A => ih st2 ⟨H2, A⟩) k st' (aw_rkle k k) (Nat.le_refl k) I.1 I.2 (fun p h1 h2 => absurd h2 (by omega))⟩
end
end
section
/-! 13: the component's use of functions, numbers, names -/
section
variable {cn cd nx ws fn tp us er fl : Int32} {tx co ca cb wt rk ro cl sr rs sp hv st mv : Nat → Int32} {g : Nat → Option aw_V} {T U x y r m n r' m' n' : Nat} {c c' : Nat → Int32} {post : SX → Prop} {f : Int32}
theorem hp_ext {g' : Nat → Option aw_V} (h : aw_HX g T us rk ro cl sr rs sp hv st) (e : ∀ a, a < T → g' a = g a) : aw_HX g' T us rk ro cl sr rs sp hv st := by
  obtain ⟨U, rfl, H⟩ := h
  refine ⟨U, rfl, H.1, fun a ha => ?_⟩
  rw [e a ha]
  exact H.2 a ha
theorem xu_m1 {a : Nat} (ha : a < 100) (h : aw_HX g T us rk ro cl sr rs sp hv st) (hT : 13 ≤ T) (hT' : T ≤ 47) (hy : y < T) (gy : g y = some (r, m, n, c)) (K : aw_XO post g T (aq_mix1 a (r, m, n, c)) cn cd nx ws fn us er fl tx co ca cb wt rk ro cl sr rs sp hv st mv) : wpX_mixedOne post (cn, cd, nx, ws, fn, nI T, us, er, fl, tx, co, ca, cb, wt, rk, ro, cl, sr, rs, sp, hv, st, mv) (nI a) (nI y) := by
  unfold aq_mix1 at K
  refine pk_eq a 30 (fun z => ?_) (fun z => ?_)
  · rw [if_pos z] at K; exact xp_sh1 h hT hT' hy gy K
  rw [if_neg z] at K
  refine pk_eq a 31 (fun z => ?_) (fun z => ?_)
  · rw [if_pos z] at K; exact xp_cn1 h hT hT' hy gy K
  rw [if_neg z] at K
  refine pk_eq a 32 (fun z => ?_) (fun z => ?_)
  · rw [if_pos z] at K; exact xp_turn h hT' hy gy K
  rw [if_neg z] at K
  refine pk_eq a 33 (fun z => ?_) (fun z => ?_)
  · rw [if_pos z] at K; exact xp_bk1 h hT' hy gy K
  rw [if_neg z] at K
  refine pk_eq a 34 (fun z => ?_) (fun z => ?_)
  · rw [if_pos z] at K; exact xp_tk1 h hT hT' hy gy K
  rw [if_neg z] at K
  refine pk_eq a 36 (fun z => ?_) (fun z => ?_)
  · rw [if_pos z] at K; exact xp_jn1 h hT hT' hy gy K
  rw [if_neg z] at K
  refine pk_eq a 38 (fun z => ?_) (fun z => ?_)
  · rw [if_pos z] at K; exact xp_rise h hT hT' hy gy K
  rw [if_neg z] at K
  exact xo_er K rfl
theorem xu_m2 {a : Nat} (ha : a < 100) (h : aw_HX g T us rk ro cl sr rs sp hv st) (hT : 13 ≤ T) (hT' : T ≤ 47) (hx : x < T) (gx : g x = some (r, m, n, c)) (hy : y < T) (gy : g y = some (r', m', n', c'))
    (K : aw_XO post g T (aq_mix2 a (r, m, n, c) (r', m', n', c')) cn cd nx ws fn us er fl tx co ca cb wt rk ro cl sr rs sp hv st mv) : wpX_mixedTwo post (cn, cd, nx, ws, fn, nI T, us, er, fl, tx, co, ca, cb, wt, rk, ro, cl, sr, rs, sp, hv, st, mv) (nI a) (nI x) (nI y) := by
  unfold aq_mix2 at K
  refine pk_eq a 30 (fun z => ?_) (fun z => ?_)
  · rw [if_pos z] at K; exact xp_sh2 h hT hT' hx gx hy gy K
  rw [if_neg z] at K
  refine pk_eq a 31 (fun z => ?_) (fun z => ?_)
  · rw [if_pos z] at K; exact xp_cn2 h hT hT' hx gx hy gy K
  rw [if_neg z] at K
  refine pk_eq a 33 (fun z => ?_) (fun z => ?_)
  · rw [if_pos z] at K; exact xp_bk2 h hT hT' hx gx hy gy K
  rw [if_neg z] at K
  refine pk_eq a 34 (fun z => ?_) (fun z => ?_)
  · rw [if_pos z] at K; exact xp_tk2 h hT hT' hx gx hy gy K
  rw [if_neg z] at K
  refine pk_eq a 35 (fun z => ?_) (fun z => ?_)
  · rw [if_pos z] at K; exact xp_drop h hT' hx gx hy gy K
  rw [if_neg z] at K
  refine pk_eq a 36 (fun z => ?_) (fun z => ?_)
  · rw [if_pos z] at K; exact xp_jn2 h hT hT' hx gx hy gy K
  rw [if_neg z] at K
  refine pk_eq a 37 (fun z => ?_) (fun z => ?_)
  · rw [if_pos z] at K; exact xp_pick h hT hT' hx gx hy gy K
  rw [if_neg z] at K
  exact xo_er K rfl
def rn_F (fm a b : Nat) : Nat := fm * 10000 + a * 100 + b
theorem rn_F1 {fm a b : Nat} (hf : fm ≤ 5) (ha : a < 100) (hb : b < 100) : nI (rn_F fm a b) / 10000 = nI fm := by
  have e := pk_div (a := rn_F fm a b) (d := 10000) (by unfold rn_F; omega) (by omega) (by omega)
  exact e.trans (congrArg nI (by unfold rn_F; omega))
theorem rn_F2 {fm a b : Nat} (hf : fm ≤ 5) (ha : a < 100) (hb : b < 100) : nI (rn_F fm a b) / 100 - nI (rn_F fm a b) / 100 / 100 * 100 = nI a := by
  have e : nI (rn_F fm a b) / 100 = nI (rn_F fm a b / 100) := pk_div (d := 100) (by unfold rn_F; omega) (by omega) (by omega)
  rw [e]
  have e2 := pk_rem (a := rn_F fm a b / 100) (d := 100) (by unfold rn_F; omega) (by omega) (by omega)
  exact e2.trans (congrArg nI (by unfold rn_F; omega))
theorem rn_F3 {fm a b : Nat} (hf : fm ≤ 5) (ha : a < 100) (hb : b < 100) : nI (rn_F fm a b) - nI (rn_F fm a b) / 100 * 100 = nI b := by
  have e2 := pk_rem (a := rn_F fm a b) (d := 100) (by unfold rn_F; omega) (by omega) (by omega)
  exact e2.trans (congrArg nI (by unfold rn_F; omega))
/-- behind a function of one array -/
theorem xu_87 {q : Int32 × aw_V} (hT' : T ≤ 47) (hy : y < T) (K0 : q.1 = 0 → aw_PO post (aw_gs g y q.2) T T cn cd nx ws fn 0 fl tx co ca cb wt) (K1 : ¬ q.1 = 0 → aw_PO post g T T cn cd nx ws fn q.1 fl tx co ca cb wt) (h : aw_HX g T us rk ro cl sr rs sp hv st) :
    aw_XO (fun u => match u with | (cn, cd, nx, ws, fn, tp, us, er, fl, tx, co, ca, cb, wt, rk, ro, cl, sr, rs, sp, hv, st, mv) => wX_useOne_87 post (nI y) cn cd nx ws fn tp us er fl tx co ca cb wt rk ro cl sr rs sp hv st mv) g T q cn cd nx ws fn us 0 fl tx co ca cb wt rk ro cl sr rs sp hv st mv := by
  refine ⟨fun z => ?_, fun z => ?_⟩
  · intro us rk ro cl sr rs sp hv st mv H
    obtain ⟨U, rfl, H⟩ := H
    obtain ⟨e, r1, m1, n1, c1⟩ := q
    refine br_t rfl (xl_share (f := T) (t := y) (by omega) (by omega) (K0 z _ _ _ _ _ _ _ _ _ _ (hp_ext ⟨U, rfl, hp_share (T' := T) H (by omega) aw_gss (fun a ha _ => by omega)⟩ (fun a ha => ?_))))
    by_cases w : a = y
    · subst w; rw [aw_gss, aw_gss]
    · rw [aw_gsn w, aw_gsn w, aw_gsn (by omega)]
  · exact br_f z (K1 z _ _ _ _ _ _ _ _ _ _ h)
theorem xu_one {fm a b : Nat} (hf : fm ≤ 5) (ha : a < 100) (hb : b < 100) (h : aw_HX g T us rk ro cl sr rs sp hv st) (hT : 13 ≤ T) (hT' : T ≤ 47) (hy : y + 1 = T) (gy : g y = some (r, m, n, c))
    (K0 : (aq_one fm a (r, m, n, c)).1 = 0 → aw_PO post (aw_gs g y (aq_one fm a (r, m, n, c)).2) T T cn cd nx ws fn 0 fl tx co ca cb wt) (K1 : ¬ (aq_one fm a (r, m, n, c)).1 = 0 → aw_PO post g T T cn cd nx ws fn ((aq_one fm a (r, m, n, c)).1) fl tx co ca cb wt) :
    wpX_useOne post (cn, cd, nx, ws, fn, nI T, us, 0, fl, tx, co, ca, cb, wt, rk, ro, cl, sr, rs, sp, hv, st, mv) (nI (rn_F fm a b)) := by
  have hyT : y < T := by omega
  have K := xu_87 (mv := mv) (post := post) (q := aq_one fm a (r, m, n, c)) hT' hyT K0 K1 h
  have e1 : nI T - 1 = nI y := by rw [← hy]; exact nI_pred y
  refine And.intro (by decide) (nm_r (rn_F1 hf ha hb) (And.intro (by decide) (And.intro (by decide) (nm_r (rn_F2 hf ha hb) (nm_r e1 ?_)))))
  unfold aq_one at K
  refine pk_eq fm 0 (fun z => ?_) (fun z => ?_)
  · rw [if_pos z] at K; exact xp_s1 h hT hT' hyT gy K
  rw [if_neg z] at K
  refine pk_eq fm 1 (fun z => ?_) (fun z => ?_)
  · rw [if_pos z] at K; exact xu_m1 ha h hT hT' hyT gy K
  rw [if_neg z] at K
  refine pk_eq fm 2 (fun z => ?_) (fun z => ?_)
  · rw [if_pos z] at K; exact xp_fold h hT hT' hyT gy K
  rw [if_neg z] at K
  refine pk_eq fm 3 (fun z => ?_) (fun z => ?_)
  · rw [if_pos z] at K; exact xp_scan h hT hT' hyT gy K
  rw [if_neg z] at K
  exact xo_er K rfl
/-- behind a function of two arrays -/
theorem xu_107 {q : Int32 × aw_V} (hT' : T ≤ 47) (hy : y + 2 = T) (K0 : q.1 = 0 → aw_PO post (aw_gs g y q.2) (y + 1) (y + 1) cn cd nx ws fn 0 fl tx co ca cb wt) (K1 : ¬ q.1 = 0 → aw_PO post g T T cn cd nx ws fn q.1 fl tx co ca cb wt) (h : aw_HX g T us rk ro cl sr rs sp hv st) :
    aw_XO (fun u => match u with | (cn, cd, nx, ws, fn, tp, us, er, fl, tx, co, ca, cb, wt, rk, ro, cl, sr, rs, sp, hv, st, mv) => wX_useTwo_107 post (nI y) cn cd nx ws fn tp us er fl tx co ca cb wt rk ro cl sr rs sp hv st mv) g T q cn cd nx ws fn us 0 fl tx co ca cb wt rk ro cl sr rs sp hv st mv := by
  have e1 : nI T - 1 = nI (y + 1) := by rw [← hy]; exact nI_pred (y + 1)
  refine ⟨fun z => ?_, fun z => ?_⟩
  · intro us rk ro cl sr rs sp hv st mv H
    obtain ⟨U, rfl, H⟩ := H
    obtain ⟨e, r1, m1, n1, c1⟩ := q
    refine br_t rfl (xl_share (f := T) (t := y) (by omega) (by omega) (nm_r e1 (K0 z _ _ _ _ _ _ _ _ _ _ (hp_ext ⟨U, rfl, hp_share (T' := y + 1) H (by omega) aw_gss (fun a ha _ => by omega)⟩ (fun a ha => ?_)))))
    by_cases w : a = y
    · subst w; rw [aw_gss, aw_gss]
    · rw [aw_gsn w, aw_gsn w, aw_gsn (by omega)]
  · exact br_f z (K1 z _ _ _ _ _ _ _ _ _ _ h)
theorem xu_two {fm a b : Nat} (hf : fm ≤ 5) (ha : a < 100) (hb : b < 100) (h : aw_HX g T us rk ro cl sr rs sp hv st) (hT : 13 ≤ T) (hT' : T ≤ 47) (hx : x + 1 = T) (gx : g x = some (r, m, n, c)) (hy : y + 2 = T) (gy : g y = some (r', m', n', c'))
    (K0 : (aq_two fm a b (r, m, n, c) (r', m', n', c')).1 = 0 → aw_PO post (aw_gs g y (aq_two fm a b (r, m, n, c) (r', m', n', c')).2) (y + 1) (y + 1) cn cd nx ws fn 0 fl tx co ca cb wt)
    (K1 : ¬ (aq_two fm a b (r, m, n, c) (r', m', n', c')).1 = 0 → aw_PO post g T T cn cd nx ws fn ((aq_two fm a b (r, m, n, c) (r', m', n', c')).1) fl tx co ca cb wt) :
    wpX_useTwo post (cn, cd, nx, ws, fn, nI T, us, 0, fl, tx, co, ca, cb, wt, rk, ro, cl, sr, rs, sp, hv, st, mv) (nI (rn_F fm a b)) := by
  have hxT : x < T := by omega
  have hyT : y < T := by omega
  have K := xu_107 (mv := mv) (post := post) (q := aq_two fm a b (r, m, n, c) (r', m', n', c')) hT' hy K0 K1 h
  have e1 : nI T - 1 = nI x := by rw [← hx]; exact nI_pred x
  have e2 : nI T - 2 = nI y := by rw [← hy]; exact pk_sub (a := y + 2) (b := 2) (by omega)
  refine And.intro (by decide) (nm_r (rn_F1 hf ha hb) (And.intro (by decide) (And.intro (by decide) (nm_r (rn_F2 hf ha hb) (nm_r e1 (nm_r e2 ?_))))))
  unfold aq_two at K
  refine pk_eq fm 0 (fun z => ?_) (fun z => ?_)
  · rw [if_pos z] at K; exact xp_s2 h hT hT' hxT gx hyT gy K
  rw [if_neg z] at K
  refine pk_eq fm 1 (fun z => ?_) (fun z => ?_)
  · rw [if_pos z] at K; exact xu_m2 ha h hT hT' hxT gx hyT gy K
  rw [if_neg z] at K
  refine pk_eq fm 4 (fun z => ?_) (fun z => ?_)
  · rw [if_pos z] at K; exact xp_outer h hT hT' hxT gx hyT gy K
  rw [if_neg z] at K
  refine pk_eq fm 5 (fun z => ?_) (fun z => ?_)
  · rw [if_pos z] at K
    refine And.intro (by decide) ?_
    rw [rn_F3 hf ha hb]
    exact xp_inner h hT hT' hx gx hy gy K
  rw [if_neg z] at K
  exact xo_er K rfl
theorem xu_nums {p q : Nat} (h : aw_HX g T us rk ro cl sr rs sp hv st) (hT : 13 ≤ T) (hT' : T ≤ 47) (hq : 0 < q) (hpq : p + q ≤ 30) (K : aw_PO post (aw_gs g T (if q = 1 then 0 else 1, 1, q, fun k => tx (p + k))) (T + 1) (T + 1) cn cd nx ws fn er fl tx co ca cb wt) : wpX_useNumbers post (cn, cd, nx, ws, fn, nI T, us, er, fl, tx, co, ca, cb, wt, rk, ro, cl, sr, rs, sp, hv, st, mv) (nI p) (nI q) := by
  have W : ∀ q1, q1 = (if q = 1 then 0 else 1) → wX_useNumbers_15 post (nI p) (nI q) (nI q1) (nI T) cn cd nx ws fn (nI T) us er fl tx co ca cb wt rk ro cl sr rs sp hv st mv := by
    intro q1 e1
    rw [← e1] at K
    have hok : aw_ok q1 1 q := by
      by_cases z : q = 1
      · rw [e1, if_pos z, z]; exact aw_ok0
      · rw [e1, if_neg z]; exact aw_ok1 (by omega)
    refine xl_make h hT hT' hok ?_
    intro s us rk ro cl sr rs sp hv st mv M
    have hs := mk_room M
    rw [Nat.one_mul] at hs
    refine xl_fill0 (fun n1 k st => wX_useNumbers_22 post (nI p) (nI q) cn cd nx ws fn (nI T) us er fl n1 (nI k) tx co ca cb wt rk ro cl sr rs sp hv st mv) q (fun k => tx (p + k)) (mk_hp M) ?_ ?_
    · intro n1 st' H1 hc
      exact br_t (nI_le (Nat.le_refl _) (by omega)) (nm_r (nI_1 T) (K _ _ _ _ _ _ _ _ _ _ (mk_done M H1 (fun q hq => hc q (by omega)))))
    · intro n1 k st' hk H1 ih
      have E : sr (nI T).toNatClampNeg + nI k = nI (s + k) := by rw [xl_cl (by omega) (mk_top M), nI_add]
      refine br_f (nI_ge hk (by omega)) (And.intro (pk_in T 48 (by omega)) (And.intro (pk_in (p + k) 30 (by omega) (nI_add p k)) (xl_tail E (by omega) ?_ ih)))
      show tx (nI p + nI k).toNatClampNeg = tx (p + k)
      rw [nI_add, nI_clamp (by omega)]
  exact pk_eq q 1 (fun z => W 0 (by rw [if_pos z])) (fun z => W 1 (by rw [if_neg z]))
def rn_nm (g : Nat → Option aw_V) (i : Nat) : Option aw_V := match g (7 + i) with | some V => some V | none => g i
theorem xu_name {i : Nat} (h : aw_HX g T us rk ro cl sr rs sp hv st) (hT : 13 ≤ T) (hT' : T ≤ 46) (hi : i < 6) (K0 : ∀ V, rn_nm g i = some V → aw_PO post (aw_gs g T V) (T + 1) (T + 1) cn cd nx ws fn er fl tx co ca cb wt) (K1 : rn_nm g i = none → aw_PO post g T T cn cd nx ws fn (-11) fl tx co ca cb wt) :
    wpX_useName post (cn, cd, nx, ws, fn, nI T, us, er, fl, tx, co, ca, cb, wt, rk, ro, cl, sr, rs, sp, hv, st, mv) (nI i) := by
  have H0 := h
  obtain ⟨U, rfl, H⟩ := h
  have e7 : 7 + nI i = nI (7 + i) := nI_add 7 i
  have yes : ∀ a V, a < 13 → g a = some V → rn_nm g i = some V → wX_useName_20 post (nI a) cn cd nx ws fn (nI T) (nI U) er fl tx co ca cb wt rk ro cl sr rs sp hv st mv := by
    intro a V ha hg e
    obtain ⟨r, m, n, c⟩ := V
    have hz : ¬ hv (nI a).toNatClampNeg = 0 := by rw [nI_clamp (by omega)]; exact hp_hv H (by omega) hg
    refine And.intro (pk_in a 48 (by omega)) (br_f hz ?_)
    refine xl_share (f := a) (t := T) (by omega) (by omega) (nm_r (nI_1 T) (K0 _ e _ _ _ _ _ _ _ _ _ _ ⟨U, rfl, hp_share H (by omega) hg (fun a ha z => by omega)⟩))
  refine And.intro (pk_in (7 + i) 48 (by omega) e7) ?_
  rw [e7, nI_clamp (by omega)]
  cases hg : g (7 + i) with
  | some V =>
    obtain ⟨r, m, n, c⟩ := V
    refine br_f (hp_hv H (by omega) hg) (yes (7 + i) _ (by omega) hg ?_)
    unfold rn_nm; rw [hg]
  | none =>
    refine br_t (hp_none H (by omega) hg) ?_
    have e : rn_nm g i = g i := by unfold rn_nm; rw [hg]
    cases hg2 : g i with
    | some V => exact yes i V (by omega) hg2 (e.trans hg2)
    | none =>
      have hz : hv (nI i).toNatClampNeg = 0 := by rw [nI_clamp (by omega)]; exact hp_none H (by omega) hg2
      exact And.intro (pk_in i 48 (by omega)) (br_t hz (K1 (e.trans hg2) _ _ _ _ _ _ _ _ _ _ H0))
end
end
section
/-! 20: the reference's arrays and small methods -/
def yw_V (qk qr qw da : Nat → Int32) (p r m n : Nat) (c : Nat → Int32) : Prop :=
  qk p = nI r ∧ qr p = nI (aw_fl r m n) ∧ qw p = nI (aw_wd r n) ∧ ∀ k, k < m * n → da (36 * p + k) = c k
def yw_K (qk qr qw da : Nat → Int32) (p r m n : Nat) (c : Nat → Int32) : Prop := p < 50 ∧ aw_ok r m n ∧ yw_V qk qr qw da p r m n c
/-- nothing but place 13 has changed -/
def yw_F (qk qr qw da qk' qr' qw' da' : Nat → Int32) : Prop :=
  (∀ p, p ≠ 13 → qk' p = qk p ∧ qr' p = qr p ∧ qw' p = qw p) ∧ ∀ q, (q < 468 ∨ 504 ≤ q) → da' q = da q
def yw_O (post : SY → Prop) (q : Int32 × aw_V) (cn lv ee : Int32) (tx qk qr qw da wa fi : Nat → Int32) : Prop :=
  (q.1 = 0 → ∀ qk' qr' qw' da', yw_F qk qr qw da qk' qr' qw' da' → yw_K qk' qr' qw' da' 13 q.2.1 q.2.2.1 q.2.2.2.1 q.2.2.2.2 → post (cn, lv, ee, tx, qk', qr', qw', da', wa, fi)) ∧
  (¬ q.1 = 0 → ∀ qk' qr' qw' da', yw_F qk qr qw da qk' qr' qw' da' → post (cn, lv, q.1, tx, qk', qr', qw', da', wa, fi))
theorem aw_fw {r m n : Nat} (h : aw_ok r m n) : aw_fl r m n * aw_wd r n = m * n := by
  unfold aw_fl aw_wd
  by_cases z : r = 2
  · rw [if_pos z, if_pos z]
  · rw [if_neg z, if_neg z, aw_okm h z]; omega
theorem aw_flb {r m n : Nat} (h : aw_ok r m n) : aw_fl r m n ≤ 36 := by
  have := aw_okb h
  unfold aw_fl; split <;> omega
theorem aw_wdb {r m n : Nat} (h : aw_ok r m n) : aw_wd r n ≤ 36 := by
  have := aw_okb h
  unfold aw_wd; split <;> omega
section
variable {cn lv ee : Int32} {tx qk qr qw da wa fi qk' qr' qw' da' : Nat → Int32} {p r m n : Nat} {c : Nat → Int32}
theorem yf_rf : yw_F qk qr qw da qk qr qw da := ⟨fun _ _ => ⟨rfl, rfl, rfl⟩, fun _ _ => rfl⟩
theorem yk_F (h : yw_K qk qr qw da p r m n c) (F : yw_F qk qr qw da qk' qr' qw' da') (hp : p ≠ 13) : yw_K qk' qr' qw' da' p r m n c := by
  obtain ⟨h1, h2, h3, h4, h5, h6⟩ := h
  obtain ⟨e1, e2, e3⟩ := F.1 p hp
  have hb := aw_okb h2
  exact ⟨h1, h2, e1.trans h3, e2.trans h4, e3.trans h5, fun k hk => (F.2 _ (by omega)).trans (h6 k hk)⟩
theorem yo_ok {post : SY → Prop} {q : Int32 × aw_V} (K : yw_O post q cn lv ee tx qk qr qw da wa fi) (e : q = aw_re r m n c) (F : yw_F qk qr qw da qk' qr' qw' da') (Y : yw_K qk' qr' qw' da' 13 r m n c) : post (cn, lv, ee, tx, qk', qr', qw', da', wa, fi) := by
  subst e; exact K.1 rfl _ _ _ _ F Y
theorem yo_er {post : SY → Prop} {q : Int32 × aw_V} {e : Int32} (K : yw_O post q cn lv ee tx qk qr qw da wa fi) (h : q = aw_er e) (he : ¬ e = 0 := by decide) : post (cn, lv, e, tx, qk, qr, qw, da, wa, fi) := by
  subst h; exact K.2 he _ _ _ _ yf_rf
theorem yk_in (h : yw_K qk qr qw da p r m n c) : vp_in (nI p) 50 := vp_in_nI h.1 (by decide)
theorem yk_qk (h : yw_K qk qr qw da p r m n c) : qk (nI p).toNatClampNeg = nI r := xl_cl (Nat.lt_of_lt_of_le h.1 (by decide)) h.2.2.1
theorem yk_qr (h : yw_K qk qr qw da p r m n c) : qr (nI p).toNatClampNeg = nI (aw_fl r m n) := xl_cl (Nat.lt_of_lt_of_le h.1 (by decide)) h.2.2.2.1
theorem yk_qw (h : yw_K qk qr qw da p r m n c) : qw (nI p).toNatClampNeg = nI (aw_wd r n) := xl_cl (Nat.lt_of_lt_of_le h.1 (by decide)) h.2.2.2.2.1
theorem yl_size {post : Int32 → Prop} {p0 : Int32} (h : yw_K qk qr qw da p r m n c) (k : post (nI (m * n))) (h0 : p0 = nI p := by rfl) : wpY_sizeOf post (cn, lv, ee, tx, qk, qr, qw, da, wa, fi) p0 := by
  subst h0
  refine And.intro (yk_in h) (And.intro (yk_in h) ?_)
  show post (qr (nI p).toNatClampNeg * qw (nI p).toNatClampNeg)
  rw [yk_qr h, yk_qw h, pk_mul, aw_fw h.2.1]; exact k
theorem yl_raw {post : Int32 → Prop} {p0 p1 : Int32} {k : Nat} (hp : p < 50) (hk : k < 36) (K : post (da (36 * p + k))) (h0 : p0 = nI p := by rfl) (h1 : p1 = nI k := by rfl) : wpY_numberAt post (cn, lv, ee, tx, qk, qr, qw, da, wa, fi) p0 p1 := by
  subst h0 h1
  have e : 36 * nI p + nI k = nI (36 * p + k) := by rw [← nI_add, ← pk_mul]; rfl
  show vp_in (36 * nI p + nI k) 1800 ∧ post (da (36 * nI p + nI k).toNatClampNeg)
  rw [e, nI_clamp (by omega)]
  exact ⟨vp_in_nI (by omega) (by decide), K⟩
theorem yl_num {post : Int32 → Prop} {p0 p1 : Int32} {k : Nat} (h : yw_K qk qr qw da p r m n c) (hk : k < m * n) (K : post (c k)) (h0 : p0 = nI p := by rfl) (h1 : p1 = nI k := by rfl) : wpY_numberAt post (cn, lv, ee, tx, qk, qr, qw, da, wa, fi) p0 p1 := by
  have hb := aw_okb h.2.1
  refine yl_raw h.1 (by omega) ?_ h0 h1
  rw [h.2.2.2.2.2 k hk]; exact K
theorem yl_rs {post : Int32 → Prop} {p0 : Int32} (h : yw_K qk qr qw da p r m n c) (k : post (nI n)) (h0 : p0 = nI p := by rfl) : wpY_rowSize post (cn, lv, ee, tx, qk, qr, qw, da, wa, fi) p0 := by
  subst h0
  have hb := aw_okb h.2.1
  refine And.intro (yk_in h) (pk_eq r 2 (fun z => And.intro (yk_in h) ?_) (fun z => And.intro (yk_in h) ?_) (yk_qk h))
  · show post (qw (nI p).toNatClampNeg)
    rw [yk_qw h]; unfold aw_wd; rw [if_pos z]; exact k
  · show post (qr (nI p).toNatClampNeg)
    rw [yk_qr h]; unfold aw_fl; rw [if_neg z]; exact k
theorem yl_rc {post : Int32 → Prop} {p0 : Int32} (h : yw_K qk qr qw da p r m n c) (k : post (nI m)) (h0 : p0 = nI p := by rfl) : wpY_rowCount post (cn, lv, ee, tx, qk, qr, qw, da, wa, fi) p0 := by
  subst h0
  have hb := aw_okb h.2.1
  refine And.intro (yk_in h) (pk_eq r 2 (fun z => And.intro (yk_in h) ?_) (fun z => ?_) (yk_qk h))
  · show post (qr (nI p).toNatClampNeg)
    rw [yk_qr h]; unfold aw_fl; rw [if_pos z]; exact k
  · rw [aw_okm h.2.1 z] at k; exact k
theorem yl_none {post : Int32 → Prop} {f : Int32} (k : post (aw_emp f)) : wpY_none post (cn, lv, ee, tx, qk, qr, qw, da, wa, fi) f := aw_bi (P := post) k
theorem yl_w130 {post : Int32 → Prop} {x y : Int32} {z : Int64} (hz : x = 0 → z = 0) (hz2 : ¬ x = 0 → ¬ z = 0) (k : post (if x = 0 then y else aw_rs2 y z)) : wY_work_130 post y z cn lv ee tx qk qr qw da wa fi := by
  by_cases e : x = 0
  · rw [if_pos e] at k; exact br_t (hz e) k
  · rw [if_neg e] at k; exact br_f (hz2 e) (And.intro (hz2 e) (nm_e (aw_bi (P := post) k)))
theorem yl_work {post : Int32 → Prop} {x y : Int32} {a : Nat} (h1 : 20 ≤ a) (h2 : a ≤ 27) (k : post (aw_scal (nI a) x y)) : wpY_work post (cn, lv, ee, tx, qk, qr, qw, da, wa, fi) (nI a) x y := by
  have d : a = 20 ∨ a = 21 ∨ a = 22 ∨ a = 23 ∨ a = 24 ∨ a = 25 ∨ a = 26 ∨ a = 27 := by omega
  rcases d with e | e | e | e | e | e | e | e
  · subst e; exact br_f (by decide) (br_t (by decide) k)
  · subst e; exact br_f (by decide) (br_f (by decide) (br_t (by decide) k))
  · subst e; exact br_f (by decide) (br_f (by decide) (br_f (by decide) k))
  · subst e
    have k2 : post (if x ≤ y then y else x) := k
    refine br_t (by decide) (br_f (by decide) (br_t (by decide) ?_))
    by_cases l : x ≤ y
    · rw [if_pos l] at k2; exact br_t l (br_f (by decide) k2)
    · rw [if_neg l] at k2; exact br_f l (br_t rfl k2)
  · subst e
    have k2 : post (if y ≤ x then y else x) := k
    refine br_t (by decide) (br_f (by decide) (br_f (by decide) ?_))
    by_cases l : x ≤ y
    · refine br_t l (br_t rfl ?_)
      by_cases l2 : y ≤ x
      · rw [if_pos l2] at k2
        rw [Int32.le_antisymm l l2]; exact k2
      · rw [if_neg l2] at k2; exact k2
    · rw [if_pos (Int32.le_of_lt (Int32.not_le.mp l))] at k2
      exact br_f l (br_f (by decide) k2)
  · subst e
    have k2 : post (if x = y then 1 else 0) := k
    refine br_t (by decide) (br_t (by decide) (br_f (by decide) (br_t (by decide) ?_)))
    by_cases l : x = y
    · rw [if_pos l] at k2; exact br_t l (br_f (by decide) k2)
    · rw [if_neg l] at k2; exact br_f l (br_t rfl k2)
  · subst e
    have k2 : post (if y ≤ x then 0 else 1) := k
    refine br_t (by decide) (br_t (by decide) (br_f (by decide) (br_f (by decide) ?_)))
    by_cases l : y ≤ x
    · rw [if_pos l] at k2; exact br_t l (br_t rfl k2)
    · rw [if_neg l] at k2; exact br_f l (br_f (by decide) k2)
  · subst e
    have k2 : post (if x = 0 then y else aw_rs2 y (if 0 ≤ x then x.toInt64 else -x.toInt64)) := k
    refine br_t (by decide) (br_t (by decide) (br_t (by decide) ?_))
    by_cases l : 0 ≤ x
    · rw [if_pos l] at k2
      exact br_t l (yl_w130 (x := x) (fun e => by subst e; rfl) aw_l0 k2)
    · rw [if_neg l] at k2
      exact br_f l (yl_w130 (x := x) (fun e => by subst e; rfl) aw_ln0 k2)
theorem yl_f32 {post : Int32 → Prop} {a b : Nat} (h1 : 20 ≤ a) (h2 : a ≤ 27) (h : yw_K qk qr qw da p r m n c) : ∀ (j : Nat) (v : Int32), b + j ≤ m * n → post (aw_fdn (nI a) (fun q => c (b + q)) j v) → wY_fold_32 post (nI a) (nI p) (nI b) cn lv ee tx qk qr qw da wa fi (j + 1) v (nI j - 1)
  | 0, v, _, k => br_t (by decide) k
  | j + 1, v, hj, k => by
    have hb := aw_okb h.2.1
    rw [nI_pred]
    exact br_f (nI_pos (by omega)) (yl_num h (show b + j < m * n by omega) (yl_work h1 h2 (nm_r (Int32.sub_eq_add_neg ..).symm (yl_f32 h1 h2 h j _ (by omega) k))) rfl (nI_add b j))
theorem yl_fold {post : Int32 → Prop} {a b N : Nat} {p1 p2 p3 : Int32} (h1 : 20 ≤ a) (h2 : a ≤ 27) (h : yw_K qk qr qw da p r m n c) (hN : b + N ≤ m * n) (k : post (aw_fol (nI a) (fun q => c (b + q)) N))
    (e1 : p1 = nI p := by rfl) (e2 : p2 = nI b := by rfl) (e3 : p3 = nI N := by rfl) : wpY_fold post (cn, lv, ee, tx, qk, qr, qw, da, wa, fi) (nI a) p1 p2 p3 := by
  subst e1 e2 e3
  have hb := aw_okb h.2.1
  cases N with
  | zero => exact br_t rfl (yl_none (nm_e ⟨1, br_t (by decide) k⟩))
  | succ N =>
    refine br_f (nI_ne0 (by omega) (by omega)) (yl_num (k := b + N) h (by omega) (nm_r (e' := nI N - 1) ?_ ⟨N + 1, yl_f32 h1 h2 h N _ (by omega) k⟩) rfl ?_)
    · rw [← nI_1]; grind
    · rw [nI_add]; exact nI_pred (b + N)
theorem yl_mk {post : SY → Prop} {p0 v : Int32} {k : Nat} (hk : k < 36) (K : post (cn, lv, ee, tx, qk, qr, qw, upd da (468 + k) v, wa, fi)) (h0 : p0 = nI k := by rfl) : wpY_make post (cn, lv, ee, tx, qk, qr, qw, da, wa, fi) p0 v := by
  subst h0
  have e : 468 + nI k = nI (468 + k) := nI_add 468 k
  refine And.intro (pk_in (468 + k) 1800 (by omega) e) (nm_r (e' := upd da (468 + k) v) ?_ K)
  rw [e, nI_clamp (by omega)]
theorem yl_shape {post : SY → Prop} {p0 p1 p2 p3 v2 v3 : Int32} (hp : p < 50) (hr : r ≤ 2) (e2 : r = 0 → v2 = 1) (e2' : r ≠ 0 → p2 = v2) (e3 : r ≠ 2 → v3 = 1) (e3' : r = 2 → p3 = v3)
    (K : post (cn, lv, ee, tx, upd qk p (nI r), upd qr p v2, upd qw p v3, da, wa, fi)) (h0 : p0 = nI p := by rfl) (h1 : p1 = nI r := by rfl) : wpY_shape post (cn, lv, ee, tx, qk, qr, qw, da, wa, fi) p0 p1 p2 p3 := by
  subst h0 h1
  have hin : vp_in (nI p) 50 := vp_in_nI hp (by decide)
  have W : ∀ z0, z0 = v2 → wY_shape_21 post (nI p) (nI r) p3 z0 (nI p) cn lv ee tx (upd qk p (nI r)) qr qw da wa fi := by
    intro z0 e
    subst e
    refine And.intro hin (nm_r (xl_uc (by omega) rfl) (pk_le 2 r (fun l => And.intro hin (nm_r (xl_uc (by omega) (e3' (by omega))) K)) (fun l => And.intro hin (nm_r (xl_uc (by omega) (e3 (by omega)).symm) K))))
  refine And.intro hin (nm_r (xl_uc (by omega) rfl) (pk_eq r 0 (fun z => W 1 (e2 z).symm) (fun z => W p2 (e2' z))))
theorem yl_copy {post : SY → Prop} {p0 p1 : Int32} {a b : Nat} (ha : a < 50) (hb : b < 50) (hab : a ≠ b)
    (K : ∀ da', (∀ q, (q < 36 * b ∨ 36 * b + 36 ≤ q) → da' q = da q) → (∀ k, k < 36 → da' (36 * b + k) = da (36 * a + k)) → post (cn, lv, ee, tx, upd qk b (qk a), upd qr b (qr a), upd qw b (qw a), da', wa, fi))
    (h0 : p0 = nI a := by rfl) (h1 : p1 = nI b := by rfl) : wpY_copy post (cn, lv, ee, tx, qk, qr, qw, da, wa, fi) p0 p1 := by
  subst h0 h1
  have i0 : vp_in (nI a) 50 := vp_in_nI ha (by decide)
  have i1 : vp_in (nI b) 50 := vp_in_nI hb (by decide)
  have e : (nI a).toNatClampNeg = a := nI_clamp (by omega)
  refine And.intro i0 (And.intro i1 (nm_r (xl_uc (by omega) (congrArg qk e)) (And.intro i0 (And.intro i1 (nm_r (xl_uc (by omega) (congrArg qr e)) (And.intro i0 (And.intro i1 (nm_r (xl_uc (by omega) (congrArg qw e)) ?_))))))))
  refine loop_0 (fun n1 k da' => wY_copy_38 post (nI a) (nI b) cn lv ee n1 (nI k) tx (upd qk b (qk a)) (upd qr b (qr a)) (upd qw b (qw a)) da' wa fi) (fun k da' => (∀ q, (q < 36 * b ∨ 36 * b + 36 ≤ q) → da' q = da q) ∧ ∀ j, j < k → da' (36 * b + j) = da (36 * a + j)) 36 da ⟨fun _ _ => rfl, fun j hj => absurd hj (by omega)⟩ ?_ ?_
  · intro n1 da' I
    exact br_t (by decide) (K da' I.1 I.2)
  · intro n1 k da' hk I ih
    have ea : 36 * nI a + nI k = nI (36 * a + k) := by rw [← nI_add, ← pk_mul]; rfl
    have eb : 36 * nI b + nI k = nI (36 * b + k) := by rw [← nI_add, ← pk_mul]; rfl
    refine br_f (nI_ge (b := 36) hk (by decide)) (And.intro (pk_in _ 1800 (show 36 * a + k < 1800 by omega) ea) (And.intro (pk_in _ 1800 (show 36 * b + k < 1800 by omega) eb) (nm_r (e' := upd da' (36 * b + k) (da (36 * a + k))) ?_ (nm_r (nI_1 k) (ih _ ⟨fun q hq => ?_, fun j hj => ?_⟩)))))
    · rw [ea, eb, nI_clamp (by omega), nI_clamp (by omega), I.1 (36 * a + k) (by omega)]
    · rw [pk_un (by omega)]; exact I.1 q hq
    · by_cases z : j = k
      · subst z; exact pk_us
      · rw [pk_un (by omega)]; exact I.2 j (by omega)
theorem yl_fill (W : Nat → Nat → (Nat → Int32) → Prop) (N : Nat) (c : Nat → Int32) (hN : N ≤ 36)
    (hx : ∀ n da', (∀ q, (q < 468 ∨ 504 ≤ q) → da' q = da q) → (∀ j, j < N → da' (468 + j) = c j) → W (n + 1) N da')
    (hs : ∀ n k da', k < N → (∀ q, (q < 468 ∨ 504 ≤ q) → da' q = da q) → W n (k + 1) (upd da' (468 + k) (c k)) → W (n + 1) k da') : ∃ n, W n 0 da := by
  refine loop_0 W (fun k da' => (∀ q, (q < 468 ∨ 504 ≤ q) → da' q = da q) ∧ ∀ j, j < k → da' (468 + j) = c j) N da ⟨fun _ _ => rfl, fun j hj => absurd hj (by omega)⟩ (fun n da' I => hx n da' I.1 I.2) ?_
  intro n k da' hk I ih
  refine hs n k da' hk I.1 (ih _ ⟨fun q hq => ?_, fun j hj => ?_⟩)
  · rw [pk_un (by omega)]; exact I.1 q hq
  · by_cases z : j = k
    · subst z; exact pk_us
    · rw [pk_un (by omega)]; exact I.2 j (by omega)
/-- place 13 with a shape, the others as they were -/
theorem yf_13 {v1 v2 v3 : Int32} (h : ∀ q, (q < 468 ∨ 504 ≤ q) → da' q = da q) : yw_F qk qr qw da (upd qk 13 v1) (upd qr 13 v2) (upd qw 13 v3) da' :=
  ⟨fun p hp => ⟨pk_un hp, pk_un hp, pk_un hp⟩, h⟩
theorem yk_13 (hok : aw_ok r m n) (h : ∀ k, k < m * n → da (468 + k) = c k) : yw_K (upd qk 13 (nI r)) (upd qr 13 (nI (aw_fl r m n))) (upd qw 13 (nI (aw_wd r n))) da 13 r m n c :=
  ⟨by decide, hok, pk_us, pk_us, pk_us, fun k hk => h k hk⟩
/-- shape 13 for the array (r, m, n) -/
theorem yl_sh13 {post : SY → Prop} {p0 p1 p2 p3 : Int32} (hok : aw_ok r m n) (e2 : r ≠ 0 → p2 = nI (aw_fl r m n)) (e3 : r = 2 → p3 = nI n)
    (K : post (cn, lv, ee, tx, upd qk 13 (nI r), upd qr 13 (nI (aw_fl r m n)), upd qw 13 (nI (aw_wd r n)), da, wa, fi)) (h0 : p0 = nI 13 := by rfl) (h1 : p1 = nI r := by rfl) : wpY_shape post (cn, lv, ee, tx, qk, qr, qw, da, wa, fi) p0 p1 p2 p3 := by
  refine yl_shape (p := 13) (by decide) (aw_okb hok).1 (fun z => ?_) e2 (fun z => ?_) (fun z => ?_) K h0 h1
  · unfold aw_fl; rw [if_neg (by omega), (aw_okz hok z).2]; rfl
  · unfold aw_wd; rw [if_neg z]; rfl
  · unfold aw_wd; rw [if_pos z]; exact e3 z
end
end
section
/-! 21: the reference's functions: scalar, fold, scan, outer, inner -/
def yw_S (qk0 qr0 qw0 da0 qk qr qw da : Nat → Int32) (r m n : Nat) : Prop :=
  yw_F qk0 qr0 qw0 da0 qk qr qw da ∧ aw_ok r m n ∧ qk 13 = nI r ∧ qr 13 = nI (aw_fl r m n) ∧ qw 13 = nI (aw_wd r n)
section
variable {cn lv ee : Int32} {tx qk qr qw da wa fi qk0 qr0 qw0 da0 da' : Nat → Int32} {x y r m n r' m' n' a p : Nat} {c c' : Nat → Int32} {post : SY → Prop}
theorem ys_da (h : yw_S qk0 qr0 qw0 da0 qk qr qw da r m n) (e : ∀ q, (q < 468 ∨ 504 ≤ q) → da' q = da q) : yw_S qk0 qr0 qw0 da0 qk qr qw da' r m n :=
  ⟨⟨h.1.1, fun q hq => (e q hq).trans (h.1.2 q hq)⟩, h.2⟩
theorem ys_done (h : yw_S qk0 qr0 qw0 da0 qk qr qw da r m n) (e : ∀ k, k < m * n → da (468 + k) = c k) : yw_K qk qr qw da 13 r m n c :=
  ⟨by decide, h.2.1, h.2.2.1, h.2.2.2.1, h.2.2.2.2, fun k hk => e k hk⟩
theorem ys_self (h : yw_S qk0 qr0 qw0 da0 qk qr qw da r m n) : yw_K qk qr qw da 13 r m n (fun k => da (468 + k)) := ys_done h (fun _ _ => rfl)
theorem ys_k (h : yw_S qk0 qr0 qw0 da0 qk qr qw da r m n) (k : yw_K qk0 qr0 qw0 da0 p r' m' n' c') (hp : p ≠ 13) : yw_K qk qr qw da p r' m' n' c' := yk_F k h.1 hp
theorem yl_sh {p0 p1 p2 p3 : Int32} (hok : aw_ok r m n) (e2 : r ≠ 0 → p2 = nI (aw_fl r m n)) (e3 : r = 2 → p3 = nI n)
    (K : ∀ qk' qr' qw', yw_S qk qr qw da qk' qr' qw' da r m n → post (cn, lv, ee, tx, qk', qr', qw', da, wa, fi)) (h0 : p0 = nI 13 := by rfl) (h1 : p1 = nI r := by rfl) : wpY_shape post (cn, lv, ee, tx, qk, qr, qw, da, wa, fi) p0 p1 p2 p3 :=
  yl_sh13 hok e2 e3 (K _ _ _ ⟨yf_13 (fun _ _ => rfl), hok, pk_us, pk_us, pk_us⟩) h0 h1
theorem yl_cp {p0 p1 : Int32} (h : yw_K qk qr qw da y r m n c) (hy : y ≠ 13) (K : ∀ qk' qr' qw' da', yw_S qk qr qw da qk' qr' qw' da' r m n → (∀ k, k < m * n → da' (468 + k) = c k) → post (cn, lv, ee, tx, qk', qr', qw', da', wa, fi))
    (h0 : p0 = nI y := by rfl) (h1 : p1 = nI 13 := by rfl) : wpY_copy post (cn, lv, ee, tx, qk, qr, qw, da, wa, fi) p0 p1 := by
  have hb := aw_okb h.2.1
  refine yl_copy h.1 (by decide) hy (fun da' F1 F2 => K _ _ _ da' ⟨yf_13 (fun q hq => F1 q (by omega)), h.2.1, pk_us.trans h.2.2.1, pk_us.trans h.2.2.2.1, pk_us.trans h.2.2.2.2.1⟩ (fun k hk => ?_)) h0 h1
  have := F2 k (by omega)
  rw [h.2.2.2.2.2 k hk] at this
  exact this
theorem yp_s1 (h1 : 20 ≤ a) (h2 : a ≤ 27) (ky : yw_K qk qr qw da y r m n c) (hy : y ≠ 13) (K : yw_O post (aq_s1 (nI a) (r, m, n, c)) cn lv ee tx qk qr qw da wa fi) : wpY_scalarOne post (cn, lv, ee, tx, qk, qr, qw, da, wa, fi) (nI a) (nI y) := by
  have hb := aw_okb ky.2.1
  unfold wpY_scalarOne
  refine yl_cp ky hy ?_
  intro qk qr qw da S E
  refine yl_fill (fun n1 k da => wY_scalarOne_9 post (nI a) (nI y) n1 (nI k) cn lv ee tx qk qr qw da wa fi) (m * n) (fun k => aw_scal (nI a) (aw_emp (nI a)) (c k)) (by omega) ?_ ?_
  · intro n1 da' F H
    have S' := ys_da S F
    unfold wY_scalarOne_9
    refine yl_size (ys_k S' ky hy) ?_
    exact br_t (nI_le (Nat.le_refl _) (by omega)) (yo_ok K rfl S'.1 (ys_done S' H))
  · intro n1 k da' hk F ih
    have S' := ys_da S F
    unfold wY_scalarOne_9
    refine yl_size (ys_k S' ky hy) ?_
    refine br_f (nI_ge hk (by omega)) ?_
    refine yl_none ?_
    refine yl_num (ys_k S' ky hy) hk ?_
    refine yl_work h1 h2 ?_
    exact yl_mk (by omega) (nm_r (nI_1 k) ih)
theorem yp_s116 {l rl ml nl : Nat} {cl : Nat → Int32} (h1 : 20 ≤ a) (h2 : a ≤ 27) (kx : yw_K qk qr qw da x r m n c) (hx : x ≠ 13) (ky : yw_K qk qr qw da y r' m' n' c') (hy : y ≠ 13) (kl : yw_K qk qr qw da l rl ml nl cl) (hl : l ≠ 13)
    (z1 : r ≠ 0 → m * n = ml * nl) (z2 : r' ≠ 0 → m' * n' = ml * nl)
    (K : ∀ qk' qr' qw' da', yw_F qk qr qw da qk' qr' qw' da' → yw_K qk' qr' qw' da' 13 rl ml nl (fun k => aw_scal (nI a) (c (aw_k0 r k)) (c' (aw_k0 r' k))) → post (cn, lv, ee, tx, qk', qr', qw', da', wa, fi)) :
    wY_scalarTwo_116 post (nI a) (nI x) (nI y) (nI l) cn lv ee tx qk qr qw da wa fi := by
  have hb := aw_okb kl.2.1
  have ox := kx.2.1
  have oy := ky.2.1
  have bx := aw_okb ox
  have bY := aw_okb oy
  refine And.intro (yk_in kl) (And.intro (yk_in kl) (And.intro (yk_in kl) (yl_sh kl.2.1 (fun _ => yk_qr kl) (fun z => (yk_qw kl).trans (by unfold aw_wd; rw [if_pos z])) ?_ rfl (yk_qk kl))))
  intro qk qr qw S
  refine yl_fill (fun n1 k da => wY_scalarTwo_148 post (nI a) (nI x) (nI y) (nI l) n1 (nI k) cn lv ee tx qk qr qw da wa fi) (ml * nl) (fun k => aw_scal (nI a) (c (aw_k0 r k)) (c' (aw_k0 r' k))) (by omega) ?_ ?_
  · intro n1 da' F H
    have S' := ys_da S F
    unfold wY_scalarTwo_148
    refine yl_size (ys_k S' kl hl) ?_
    exact br_t (nI_le (Nat.le_refl _) (by omega)) (K _ _ _ _ S'.1 (ys_done S' H))
  · intro n1 k da' hk F ih
    have S' := ys_da S F
    unfold wY_scalarTwo_148
    have k1 := ys_k S' kx hx
    have k2 := ys_k S' ky hy
    have sx : r = 0 → 0 < m * n := fun z => by obtain ⟨e1, e2⟩ := aw_okz ox z; subst e1 e2; decide
    have sy : r' = 0 → 0 < m' * n' := fun z => by obtain ⟨e1, e2⟩ := aw_okz oy z; subst e1 e2; decide
    refine yl_size (ys_k S' kl hl) ?_
    have fin : ∀ v : Int32, v = aw_scal (nI a) (c (aw_k0 r k)) (c' (aw_k0 r' k)) → wpY_make (fun u => match u with | (cn, lv, ee, tx, qk, qr, qw, da, wa, fi) => ∀ x6 : Int32, x6 = nI k + 1 → wY_scalarTwo_148 post (nI a) (nI x) (nI y) (nI l) n1 x6 cn lv ee tx qk qr qw da wa fi) (cn, lv, ee, tx, qk, qr, qw, da', wa, fi) (nI k) v := by
      intro v e
      subst e
      exact yl_mk (by omega) (nm_r (nI_1 k) ih)
    refine br_f (nI_ge hk (by omega)) (And.intro (yk_in k1) (pk_eq r 0 (fun z => ?_) (fun z => ?_) (yk_qk k1)))
    · unfold wY_scalarTwo_178
      refine yl_num (k := 0) k1 (sx z) ?_
      refine And.intro (yk_in k2) (pk_eq r' 0 (fun z' => ?_) (fun z' => ?_) (yk_qk k2))
      · unfold wY_scalarTwo_198
        refine yl_num (k := 0) k2 (sy z') ?_
        refine yl_work h1 h2 ?_
        exact fin _ (by rw [aw_k0z z, aw_k0z z'])
      · unfold wY_scalarTwo_198
        refine yl_num (k := k) k2 (by rw [z2 z']; exact hk) ?_
        refine yl_work h1 h2 ?_
        exact fin _ (by rw [aw_k0z z, aw_k0n z'])
    · unfold wY_scalarTwo_178
      refine yl_num (k := k) k1 (by rw [z1 z]; exact hk) ?_
      refine And.intro (yk_in k2) (pk_eq r' 0 (fun z' => ?_) (fun z' => ?_) (yk_qk k2))
      · unfold wY_scalarTwo_198
        refine yl_num (k := 0) k2 (sy z') ?_
        refine yl_work h1 h2 ?_
        exact fin _ (by rw [aw_k0n z, aw_k0z z'])
      · unfold wY_scalarTwo_198
        refine yl_num (k := k) k2 (by rw [z2 z']; exact hk) ?_
        refine yl_work h1 h2 ?_
        exact fin _ (by rw [aw_k0n z, aw_k0n z'])
theorem aw_smd (h : aw_ok r m n) (h' : aw_ok r' m' n') (e : r = r') (e1 : aw_fl r m n = aw_fl r' m' n') (e2 : aw_wd r n = aw_wd r' n') : m = m' ∧ n = n' := by
  subst e
  unfold aw_fl at e1
  unfold aw_wd at e2
  by_cases z : r = 2
  · rw [if_pos z, if_pos z] at e1 e2; exact ⟨e1, e2⟩
  · rw [if_neg z, if_neg z] at e1; exact ⟨(aw_okm h z).trans (aw_okm h' z).symm, e1⟩
theorem yp_s2 (h1 : 20 ≤ a) (h2 : a ≤ 27) (kx : yw_K qk qr qw da x r m n c) (hx : x ≠ 13) (ky : yw_K qk qr qw da y r' m' n' c') (hy : y ≠ 13) (K : yw_O post (aq_s2 (nI a) (r, m, n, c) (r', m', n', c')) cn lv ee tx qk qr qw da wa fi) : wpY_scalarTwo post (cn, lv, ee, tx, qk, qr, qw, da, wa, fi) (nI a) (nI x) (nI y) := by
  have ox := kx.2.1
  have oy := ky.2.1
  have bx := aw_okb ox
  have bY := aw_okb oy
  have ex : ∀ (P : (r = r' ∧ m = m' ∧ n = n') ∨ r = 0 ∨ r' = 0), aq_s2 (nI a) (r, m, n, c) (r', m', n', c') = (if r = 0 then aw_re r' m' n' (fun k => aw_scal (nI a) (c (aw_k0 r k)) (c' (aw_k0 r' k))) else aw_re r m n (fun k => aw_scal (nI a) (c (aw_k0 r k)) (c' (aw_k0 r' k)))) := fun P => if_pos P
  have W : (P : (r = r' ∧ m = m' ∧ n = n') ∨ r = 0 ∨ r' = 0) → wY_scalarTwo_102 post (nI a) (nI x) (nI y) cn lv ee tx qk qr qw da wa fi := by
    intro P
    refine And.intro (yk_in kx) (pk_eq r 0 (fun z => ?_) (fun z => ?_) (yk_qk kx))
    · exact yp_s116 h1 h2 kx hx ky hy ky hy (fun z2 => absurd z z2) (fun _ => rfl) (fun _ _ _ _ F Q => yo_ok K ((ex P).trans (if_pos z)) F Q)
    · refine yp_s116 h1 h2 kx hx ky hy kx hx (fun _ => rfl) (fun z2 => ?_) (fun _ _ _ _ F Q => yo_ok K ((ex P).trans (if_neg z)) F Q)
      rcases P with ⟨_, e1, e2⟩ | e | e
      · rw [e1, e2]
      · exact absurd e z
      · exact absurd e z2
  have N : ¬ (r = r' ∧ m = m' ∧ n = n') → wY_scalarTwo_49 post (nI a) (nI x) (nI y) cn lv ee tx qk qr qw da wa fi := by
    intro e
    refine br_t rfl (And.intro (yk_in kx) (pk_le r 0 (fun z => W (Or.inr (Or.inl (by omega)))) (fun z => And.intro (yk_in ky) (pk_le r' 0 (fun z' => W (Or.inr (Or.inr (by omega)))) (fun z' => ?_) (yk_qk ky))) (yk_qk kx)))
    have P : ¬ ((r = r' ∧ m = m' ∧ n = n') ∨ r = 0 ∨ r' = 0) := by
      intro P
      rcases P with P | P | P
      · exact e P
      · omega
      · omega
    refine And.intro (yk_in kx) (And.intro (yk_in ky) (pk_eq r r' (fun z3 => ?_) (fun z3 => ?_) (yk_qk kx) (yk_qk ky)))
    · exact yo_er K ((if_neg P).trans (if_pos z3))
    · exact yo_er K ((if_neg P).trans (if_neg z3))
  have f1 := aw_flb ox
  have f2 := aw_flb oy
  have f3 := aw_wdb ox
  have f4 := aw_wdb oy
  refine And.intro (yk_in kx) (And.intro (yk_in ky) (pk_eq r r' (fun e => ?_) (fun e => N (fun q => e q.1)) (yk_qk kx) (yk_qk ky)))
  refine And.intro (yk_in kx) (And.intro (yk_in ky) (pk_eq (aw_fl r m n) (aw_fl r' m' n') (fun e1 => ?_) (fun e1 => N (fun q => e1 (by rw [q.1, q.2.1, q.2.2]))) (yk_qr kx) (yk_qr ky)))
  refine And.intro (yk_in kx) (And.intro (yk_in ky) (pk_eq (aw_wd r n) (aw_wd r' n') (fun e2 => ?_) (fun e2 => N (fun q => e2 (by rw [q.1, q.2.2]))) (yk_qw kx) (yk_qw ky)))
  exact br_f (by decide) (W (Or.inl ⟨e, aw_smd ox oy e e1 e2⟩))
theorem yp_fold (h1 : 20 ≤ a) (h2 : a ≤ 27) (ky : yw_K qk qr qw da y r m n c) (hy : y ≠ 13) (K : yw_O post (aq_fold (nI a) (r, m, n, c)) cn lv ee tx qk qr qw da wa fi) : wpY_foldAll post (cn, lv, ee, tx, qk, qr, qw, da, wa, fi) (nI a) (nI y) := by
  have hok := ky.2.1
  have hb := aw_okb hok
  unfold wpY_foldAll
  refine yl_rs ky ?_
  refine yl_rc ky ?_
  have W : ∀ q, q = (if r = 2 then 1 else 0) → wY_foldAll_31 post (nI a) (nI y) (nI n) (nI m) (nI q) 13 cn lv ee tx qk qr qw da wa fi := by
    intro q eq
    have hok2 : aw_ok q 1 m := by
      by_cases z : r = 2
      · rw [eq, if_pos z]; exact aw_ok1 (by omega)
      · rw [eq, if_neg z, aw_okm hok z]; exact aw_ok0
    have efl : aw_fl q 1 m = m := by unfold aw_fl; rw [if_neg (by rw [eq]; split <;> omega)]
    unfold wY_foldAll_31
    refine yl_sh hok2 (fun _ => by rw [efl]) (fun z => absurd z (by rw [eq]; split <;> omega)) ?_
    intro qk qr qw S
    refine yl_fill (fun n1 k da => wY_foldAll_40 post (nI a) (nI y) (nI n) (nI m) n1 (nI k) cn lv ee tx qk qr qw da wa fi) m (fun i => aw_fol (nI a) (fun j => c (i * n + j)) n) (by omega) ?_ ?_
    · intro n1 da' F H
      have S' := ys_da S F
      refine br_t (nI_le (Nat.le_refl _) (by omega)) ?_
      by_cases z : r = 0
      · obtain ⟨e1, e2⟩ := aw_okz hok z
        subst z e1 e2
        rw [if_neg (by decide)] at eq
        subst eq
        refine yo_ok K rfl S'.1 (ys_done S' (fun k hk => (H k (by omega)).trans ?_))
        have : k = 0 := by omega
        subst this
        rfl
      · have er : r - 1 = q := by rw [eq]; split <;> omega
        rw [← er] at S'
        exact yo_ok K (if_neg z) S'.1 (ys_done S' (fun k hk => H k (by omega)))
    · intro n1 k da' hk F ih
      have S' := ys_da S F
      refine br_f (nI_ge hk (by omega)) ?_
      refine yl_fold h1 h2 (ys_k S' ky hy) (b := k * n) (N := n) (by have := Nat.mul_le_mul_right n (show k + 1 ≤ m from hk); rw [Nat.succ_mul] at this; exact this) ?_ rfl (pk_mul k n) rfl
      exact yl_mk (by omega) (nm_r (nI_1 k) ih)
  exact And.intro (yk_in ky) (pk_eq r 2 (fun z => W 1 (by rw [if_pos z])) (fun z => W 0 (by rw [if_neg z])) (yk_qk ky))
theorem yp_scan (h1 : 20 ≤ a) (h2 : a ≤ 27) (ky : yw_K qk qr qw da y r m n c) (hy : y ≠ 13) (K : yw_O post (aq_scan (nI a) (r, m, n, c)) cn lv ee tx qk qr qw da wa fi) : wpY_scanAll post (cn, lv, ee, tx, qk, qr, qw, da, wa, fi) (nI a) (nI y) := by
  have hok := ky.2.1
  have hb := aw_okb hok
  unfold wpY_scanAll
  refine yl_rs ky ?_
  refine And.intro (yk_in ky) (And.intro (yk_in ky) (And.intro (yk_in ky) (yl_sh hok (fun _ => yk_qr ky) (fun z => (yk_qw ky).trans (by unfold aw_wd; rw [if_pos z])) ?_ rfl (yk_qk ky))))
  intro qk qr qw S
  refine yl_fill (fun n1 k da => wY_scanAll_33 post (nI a) (nI y) (nI n) n1 (nI k) cn lv ee tx qk qr qw da wa fi) (m * n) (fun k => aw_fol (nI a) (fun j => c (k / n * n + j)) (k % n + 1)) (by omega) ?_ ?_
  · intro n1 da' F H
    have S' := ys_da S F
    unfold wY_scanAll_33
    refine yl_size (ys_k S' ky hy) ?_
    refine br_t (nI_le (Nat.le_refl _) (by omega)) ?_
    by_cases z : r = 0
    · obtain ⟨e1, e2⟩ := aw_okz hok z
      subst z e1 e2
      refine yo_ok K rfl S'.1 (ys_done S' (fun k hk => (H k (by omega)).trans ?_))
      have : k = 0 := by omega
      subst this
      rfl
    · exact yo_ok K (if_neg z) S'.1 (ys_done S' H)
  · intro n1 k da' hk F ih
    have S' := ys_da S F
    unfold wY_scanAll_33
    refine yl_size (ys_k S' ky hy) ?_
    obtain ⟨d1, d2, d3, d4⟩ := aw_dm hk
    have hn : ¬ nI n = 0 := nI_ne0 d1 (by omega)
    refine br_f (nI_ge hk (by omega)) (And.intro hn (And.intro hn ?_))
    have hle : k / n * n + (k % n + 1) ≤ m * n := by omega
    refine yl_fold h1 h2 (ys_k S' ky hy) (b := k / n * n) (N := k % n + 1) hle ?_ rfl ?_ ?_
    · exact yl_mk (by omega) (nm_r (nI_1 k) ih)
    · rw [pk_rem (by omega) d1 (by omega), pk_sub (by omega)]
      exact congrArg nI (by omega)
    · rw [pk_rem (by omega) d1 (by omega), nI_1]
theorem yp_o137 {q1 q2 q3 : Nat} (h1 : 20 ≤ a) (h2 : a ≤ 27) (kx : yw_K qk0 qr0 qw0 da0 x r m n c) (hx : x ≠ 13) (ky : yw_K qk0 qr0 qw0 da0 y r' m' n' c') (hy : y ≠ 13) (S : yw_S qk0 qr0 qw0 da0 qk qr qw da q1 q2 q3) (es : q2 * q3 = m * n * (m' * n'))
    (K : ∀ da', yw_S qk0 qr0 qw0 da0 qk qr qw da' q1 q2 q3 → (∀ k, k < q2 * q3 → da' (468 + k) = aw_scal (nI a) (c (k / (m' * n'))) (c' (k % (m' * n')))) → post (cn, lv, ee, tx, qk, qr, qw, da', wa, fi)) : wY_outer_137 post (nI a) (nI x) (nI y) cn lv ee tx qk qr qw da wa fi := by
  have bx := aw_okb kx.2.1
  have bY := aw_okb ky.2.1
  have hq := aw_okb S.2.1
  unfold wY_outer_137
  refine yl_size (ys_k S ky hy) ?_
  refine yl_fill (fun n1 k da => wY_outer_147 post (nI a) (nI x) (nI y) (nI (m' * n')) n1 (nI k) cn lv ee tx qk qr qw da wa fi) (q2 * q3) (fun k => aw_scal (nI a) (c (k / (m' * n'))) (c' (k % (m' * n')))) (by omega) ?_ ?_
  · intro n1 da' F H
    have S' := ys_da S F
    unfold wY_outer_147
    refine yl_size (ys_k S' kx hx) ?_
    exact br_t (by rw [pk_mul, ← es]; exact nI_le (Nat.le_refl _) (by omega)) (K da' S' H)
  · intro n1 k da' hk F ih
    have S' := ys_da S F
    unfold wY_outer_147
    refine yl_size (ys_k S' kx hx) ?_
    obtain ⟨d1, d2, d3, d4⟩ := aw_dm (show k < (m * n) * (m' * n') by omega)
    have hn : ¬ nI (m' * n') = 0 := nI_ne0 d1 (by omega)
    refine br_f (by rw [pk_mul, ← es]; exact nI_ge hk (by omega)) (And.intro hn ?_)
    refine yl_num (ys_k S' kx hx) d2 ?_ rfl (pk_div (by omega) d1 (by omega))
    refine And.intro hn ?_
    refine yl_num (ys_k S' ky hy) d3 ?_ rfl (pk_rem (by omega) d1 (by omega))
    refine yl_work h1 h2 ?_
    exact yl_mk (by omega) (nm_r (nI_1 k) ih)
theorem yp_outer (h1 : 20 ≤ a) (h2 : a ≤ 27) (kx : yw_K qk qr qw da x r m n c) (hx : x ≠ 13) (ky : yw_K qk qr qw da y r' m' n' c') (hy : y ≠ 13) (K : yw_O post (aq_outer (nI a) (r, m, n, c) (r', m', n', c')) cn lv ee tx qk qr qw da wa fi) : wpY_outer post (cn, lv, ee, tx, qk, qr, qw, da, wa, fi) (nI a) (nI x) (nI y) := by
  have ox := kx.2.1
  have oy := ky.2.1
  have bx := aw_okb ox
  have bY := aw_okb oy
  refine And.intro (yk_in kx) (And.intro (yk_in ky) (nm_r (e' := nI (r + r')) (by rw [yk_qk kx, yk_qk ky, nI_add]) (pk_le (r + r') 2 (fun z => ?_) (fun z => yo_er K (if_pos z)))))
  have e0 : ¬ 2 < r + r' := by omega
  have n2 : r + r' ≤ 2 := z
  -- one of the two is a single number
  have W : ¬ (r = 1 ∧ r' = 1) → wY_outer_99 post (nI a) (nI x) (nI y) (nI (r + r')) cn lv ee tx qk qr qw da wa fi := by
    intro P
    refine And.intro (yk_in kx) (pk_eq r 0 (fun z0 => ?_) (fun z0 => ?_) (yk_qk kx))
    · obtain ⟨e1, e2⟩ := aw_okz ox z0
      subst z0 e1 e2
      refine And.intro (yk_in ky) (And.intro (yk_in ky) (yl_sh (r := r') oy (fun _ => yk_qr ky) (fun z => (yk_qw ky).trans (by unfold aw_wd; rw [if_pos z])) ?_ rfl (by rw [Nat.zero_add])))
      intro qk qr qw S
      refine yp_o137 h1 h2 kx hx ky hy S (by omega) (fun da' S' H => ?_)
      by_cases z2 : r' = 2
      · refine yo_ok K ((if_neg e0).trans ((if_pos (Or.inr z2)).trans ((if_pos (Or.inr (Or.inl rfl))).trans (if_pos rfl)))) S'.1 (ys_done S' (fun k hk => (H k hk).trans ?_))
        rw [Nat.div_eq_of_lt (by omega), Nat.mod_eq_of_lt (by omega), aw_k0z rfl, aw_k0n (by omega)]
      · have hm := aw_okm oy z2
        have e : aq_outer (nI a) (0, 1, 1, c) (r', m', n', c') = aw_re r' m' n' (fun k => aw_scal (nI a) (c (k / n')) (c' (k % n'))) := by
          refine (if_neg e0).trans ((if_neg (by omega)).trans ((if_neg (by omega)).trans ?_))
          rw [if_neg (by decide), Nat.zero_add, hm]
          by_cases z1 : r' = 1
          · rw [if_pos z1]
          · rw [if_neg z1, (aw_okz oy (by omega)).2]
        refine yo_ok K e S'.1 (ys_done S' (fun k hk => (H k hk).trans ?_))
        rw [hm, Nat.one_mul]
    · have z1 : r' ≤ 1 := by omega
      have ez : r' = 0 := by omega
      obtain ⟨e1, e2⟩ := aw_okz oy ez
      subst ez e1 e2
      refine And.intro (yk_in kx) (And.intro (yk_in kx) (yl_sh (r := r) ox (fun _ => yk_qr kx) (fun z => (yk_qw kx).trans (by unfold aw_wd; rw [if_pos z])) ?_))
      intro qk qr qw S
      refine yp_o137 h1 h2 kx hx ky hy S (by omega) (fun da' S' H => ?_)
      by_cases z2 : r = 2
      · refine yo_ok K ((if_neg e0).trans ((if_pos (Or.inl z2)).trans ((if_pos (Or.inr (Or.inr rfl))).trans (if_neg z0)))) S'.1 (ys_done S' (fun k hk => (H k hk).trans ?_))
        rw [Nat.mul_one, Nat.div_one, Nat.mod_one, aw_k0z rfl, aw_k0n z0]
      · have hm := aw_okm ox z2
        have er : r = 1 := by omega
        have e : aq_outer (nI a) (r, m, n, c) (0, 1, 1, c') = aw_re r m n (fun k => aw_scal (nI a) (c (k / 1)) (c' (k % 1))) := by
          refine (if_neg e0).trans ((if_neg (by omega)).trans ((if_neg (by omega)).trans ?_))
          rw [if_pos er, Nat.add_zero, hm]
        exact yo_ok K e S'.1 (ys_done S' (fun k hk => H k hk))
  refine And.intro (yk_in kx) (pk_eq r 1 (fun z1 => And.intro (yk_in ky) (pk_eq r' 1 (fun z2 => ?_) (fun z2 => W (fun q => z2 q.2)) (yk_qk ky))) (fun z1 => W (fun q => z1 q.1)) (yk_qk kx))
  have f1 : aw_fl r m n = n := if_neg (by omega)
  have f2 : aw_fl r' m' n' = n' := if_neg (by omega)
  have m1 := aw_okm ox (by omega)
  have m1' := aw_okm oy (by omega)
  have e3 : ¬ (r = 2 ∨ r' = 2) := by omega
  refine And.intro (yk_in kx) (pk_lt 6 n (fun l => yo_er K ((if_neg e0).trans ((if_neg e3).trans ((if_pos ⟨z1, z2⟩).trans (if_pos (Or.inl l)))))) (fun l => ?_) rfl (by rw [yk_qr kx, f1]))
  refine And.intro (yk_in ky) (pk_le n' 6 (fun l2 => ?_) (fun l2 => yo_er K ((if_neg e0).trans ((if_neg e3).trans ((if_pos ⟨z1, z2⟩).trans (if_pos (Or.inr l2)))))) (by rw [yk_qr ky, f2]))
  refine And.intro (yk_in kx) (And.intro (yk_in ky) (yl_sh (r := 2) (m := n) (n := n') (aw_ok2 l l2) (fun _ => by rw [yk_qr kx, f1]; rfl) (fun _ => by rw [yk_qr ky, f2]) ?_))
  intro qk qr qw S
  refine yp_o137 h1 h2 kx hx ky hy S (by rw [m1, m1', Nat.one_mul, Nat.one_mul]) (fun da' S' H => ?_)
  rw [m1', Nat.one_mul] at H
  exact yo_ok K ((if_neg e0).trans ((if_neg e3).trans ((if_pos ⟨z1, z2⟩).trans (if_neg (by omega))))) S'.1 (ys_done S' H)
end
end
section
/-! 22: the reference's inner product, shapes, turning -/
section
variable {cn lv ee : Int32} {tx qk qr qw da wa fi qk0 qr0 qw0 da0 da' : Nat → Int32} {x y r m n r' m' n' a e p : Nat} {c c' : Nat → Int32} {post : SY → Prop}
theorem yl_iD {post : Int32 → Prop} {b j w : Nat} (h1 : 20 ≤ a) (h2 : a ≤ 27) (h3 : 20 ≤ e) (h4 : e ≤ 27) (kx : yw_K qk qr qw da x r m n c) (ky : yw_K qk qr qw da y r' m' n' c') (hb : b + n ≤ m * n) (hw : ∀ i, i < n → i * w + j < m' * n') :
    ∀ (k : Nat) (v : Int32), k < n → post (aw_fdn (nI a) (fun i => aw_scal (nI e) (c (b + i)) (c' (i * w + j))) k v) → wY_inner_45 post (nI a) (nI e) (nI b) (nI x) (nI y) (nI j) (nI n) (nI w) cn lv ee tx qk qr qw da wa fi (k + 1) v (nI k - 1)
  | 0, v, _, K => br_t (by decide) K
  | k + 1, v, hk, K => by
    have bx := aw_okb kx.2.1
    rw [nI_pred]
    refine br_f (nI_pos (by omega)) (yl_num (k := b + k) kx (by omega) (yl_num (k := k * w + j) ky (hw k (by omega)) (yl_work h3 h4 ?_) rfl (by rw [pk_mul, nI_add])) rfl (nI_add b k))
    refine pk_eq k (n - 1) (fun z => absurd z (by omega)) (fun z => ?_) rfl (pk_sub (b := 1) (by omega))
    exact yl_work h1 h2 (nm_r (Int32.sub_eq_add_neg ..).symm (yl_iD h1 h2 h3 h4 kx ky hb hw k _ (by omega) K))
theorem yl_i30 {post : Int32 → Prop} {b j w : Nat} (h1 : 20 ≤ a) (h2 : a ≤ 27) (h3 : 20 ≤ e) (h4 : e ≤ 27) (kx : yw_K qk qr qw da x r m n c) (ky : yw_K qk qr qw da y r' m' n' c') (hb : b + n ≤ m * n) (hw : ∀ i, i < n → i * w + j < m' * n')
    (K : post (aw_fol (nI a) (fun i => aw_scal (nI e) (c (b + i)) (c' (i * w + j))) n)) : wY_inner_30 post (nI a) (nI e) (nI b) (nI x) (nI y) (nI j) (nI n) (nI w) cn lv ee tx qk qr qw da wa fi := by
  have bx := aw_okb kx.2.1
  unfold wY_inner_30
  refine yl_none (nm_e ?_)
  cases n with
  | zero => exact ⟨1, br_t (by decide) K⟩
  | succ n1 =>
    rw [nI_pred]
    refine ⟨n1 + 2, br_f (nI_pos (by omega)) (yl_num (k := b + n1) kx (by omega) (yl_num (k := n1 * w + j) ky (hw n1 (by omega)) (yl_work h3 h4 ?_) rfl (by rw [pk_mul, nI_add])) rfl (nI_add b n1))⟩
    refine pk_eq n1 n1 (fun z => ?_) (fun z => absurd rfl z) rfl (nI_pred n1)
    exact nm_r (Int32.sub_eq_add_neg ..).symm (yl_iD h1 h2 h3 h4 kx ky hb hw n1 _ (by omega) K)
theorem yp_inner (h1 : 20 ≤ a) (h2 : a ≤ 27) (h3 : 20 ≤ e) (h4 : e ≤ 27) (kx : yw_K qk qr qw da x r m n c) (hx : x ≠ 13) (ky : yw_K qk qr qw da y r' m' n' c') (hy : y ≠ 13) (K : yw_O post (aq_inner (nI a) (nI e) (r, m, n, c) (r', m', n', c')) cn lv ee tx qk qr qw da wa fi) :
    wpY_innerAll post (cn, lv, ee, tx, qk, qr, qw, da, wa, fi) (nI a) (nI e) (nI x) (nI y) := by
  have ox := kx.2.1
  have oy := ky.2.1
  have bx := aw_okb ox
  have bY := aw_okb oy
  have fb := aw_flb oy
  refine And.intro (yk_in kx) (pk_eq r 0 (fun z => yo_er K (if_pos (Or.inl z))) (fun z => ?_) (yk_qk kx))
  refine And.intro (yk_in ky) (pk_eq r' 0 (fun z' => yo_er K (if_pos (Or.inr z'))) (fun z' => ?_) (yk_qk ky))
  have e0 : ¬ (r = 0 ∨ r' = 0) := by omega
  refine yl_rs kx ?_
  refine And.intro (yk_in ky) (pk_eq n (aw_fl r' m' n') (fun z2 => ?_) (fun z2 => yo_er K ((if_neg e0).trans (if_pos z2))) rfl (yk_qr ky))
  refine yl_rc kx ?_
  have K1 : ∀ {q1 q2 q3 : Nat} {qk' qr' qw' da' : Nat → Int32} (cc : Nat → Int32), q1 = r + r' - 2 → q2 = (if r = 2 ∧ r' = 2 then m else 1) → q3 = (if r = 2 ∧ r' = 2 then n' else if r = 2 then m else aw_wd r' n') → yw_F qk qr qw da qk' qr' qw' da' →
      cc = (fun k => aw_fol (nI a) (fun i => aw_scal (nI e) (c (k / aw_wd r' n' * n + i)) (c' (if r' = 2 then i * n' + k % aw_wd r' n' else i))) n) → yw_K qk' qr' qw' da' 13 q1 q2 q3 cc → post (cn, lv, ee, tx, qk', qr', qw', da', wa, fi) := by
    intro q1 q2 q3 qk' qr' qw' da' cc e1 e2 e3 F ec Q
    subst e1 e2 e3 ec
    exact yo_ok K ((if_neg e0).trans (if_neg (fun q => q z2))) F Q
  have W : ∀ w, w = aw_wd r' n' → wY_innerAll_77 post (nI a) (nI e) (nI x) (nI y) (nI m) (nI w) cn lv ee tx qk qr qw da wa fi := by
    intro w ew
    have bw : w ≤ 36 := by rw [ew]; exact aw_wdb oy
    refine And.intro (yk_in kx) (And.intro (yk_in ky) (nm_r (e' := nI (r + r' - 2)) ?_ (And.intro (yk_in kx) ?_)))
    · rw [yk_qk kx, yk_qk ky, nI_add]; exact pk_sub (b := 2) (by omega)
    -- the shape
    have hok : aw_ok (r + r' - 2) (if r = 2 ∧ r' = 2 then m else 1) (if r = 2 ∧ r' = 2 then n' else if r = 2 then m else w) := by
      by_cases a1 : r = 2
      · by_cases a2 : r' = 2
        · rw [if_pos ⟨a1, a2⟩, if_pos ⟨a1, a2⟩, a1, a2]; exact aw_ok2 (by omega) (aw_okn oy a2).2
        · rw [if_neg (fun q => a2 q.2), if_neg (fun q => a2 q.2), if_pos a1]
          have : r + r' - 2 = 1 := by omega
          rw [this]; exact aw_ok1 (by omega)
      · rw [if_neg (fun q => a1 q.1), if_neg (fun q => a1 q.1), if_neg a1]
        by_cases a2 : r' = 2
        · have : r + r' - 2 = 1 := by omega
          rw [this]; exact aw_ok1 bw
        · have : r + r' - 2 = 0 := by omega
          rw [this, ew]; unfold aw_wd; rw [if_neg a2]; exact aw_ok0
    have esz : (if r = 2 ∧ r' = 2 then m else 1) * (if r = 2 ∧ r' = 2 then n' else if r = 2 then m else w) = m * w := by
      by_cases a1 : r = 2
      · by_cases a2 : r' = 2
        · rw [if_pos ⟨a1, a2⟩, if_pos ⟨a1, a2⟩, ew]; unfold aw_wd; rw [if_pos a2]
        · rw [if_neg (fun q => a2 q.2), if_neg (fun q => a2 q.2), if_pos a1, ew]; unfold aw_wd; rw [if_neg a2]; omega
      · rw [if_neg (fun q => a1 q.1), if_neg (fun q => a1 q.1), if_neg a1, aw_okm ox a1]
    have hq := aw_okb hok
    rw [esz] at hq
    have go : ∀ z0 : Nat, (r + r' - 2 ≠ 0 → z0 = aw_fl (r + r' - 2) (if r = 2 ∧ r' = 2 then m else 1) (if r = 2 ∧ r' = 2 then n' else if r = 2 then m else w)) → wY_innerAll_119 post (nI a) (nI e) (nI x) (nI y) (nI m) (nI w) (nI z0) (nI (r + r' - 2)) 13 cn lv ee tx qk qr qw da wa fi := by
      intro z0 hz0
      unfold wY_innerAll_119
      refine yl_sh hok (fun q => by rw [hz0 q]) (fun q => ?_) ?_
      · have a1 : r = 2 := by omega
        have a2 : r' = 2 := by omega
        rw [if_pos ⟨a1, a2⟩, ew]; unfold aw_wd; rw [if_pos a2]
      intro qk qr qw S
      refine yl_fill (fun n1 k da => wY_innerAll_127 post (nI a) (nI e) (nI x) (nI y) (nI m) (nI w) n1 (nI k) cn lv ee tx qk qr qw da wa fi) (m * w) (fun k => aw_fol (nI a) (fun i => aw_scal (nI e) (c (k / aw_wd r' n' * n + i)) (c' (if r' = 2 then i * n' + k % aw_wd r' n' else i))) n) (by omega) ?_ ?_
      · intro n1 da' F H
        have S' := ys_da S F
        refine br_t (by rw [pk_mul]; exact nI_le (Nat.le_refl _) (by omega)) (K1 _ rfl rfl (by rw [← ew]) S'.1 rfl (ys_done S' (fun k hk => H k (by rw [← esz]; exact hk))))
      · intro n1 k da' hk F ih
        have S' := ys_da S F
        obtain ⟨d1, d2, d3, d4⟩ := aw_dm hk
        have hn : ¬ nI w = 0 := nI_ne0 d1 (by omega)
        have k1 := ys_k S' kx hx
        have k2 := ys_k S' ky hy
        refine br_f (by rw [pk_mul]; exact nI_ge hk (by omega)) (And.intro hn ?_)
        refine yl_rs k1 ?_
        refine And.intro hn ?_
        unfold wpY_inner
        refine yl_rs k1 ?_
        have eb : nI k / nI w * nI n = nI (k / w * n) := by rw [pk_div (by omega) d1 (by omega), pk_mul]
        have ej : nI k - nI k / nI w * nI w = nI (k % w) := pk_rem (by omega) d1 (by omega)
        rw [eb, ej]
        have hb : k / w * n + n ≤ m * n := by have := Nat.mul_le_mul_right n (show k / w + 1 ≤ m from d2); rw [Nat.succ_mul] at this; exact this
        refine And.intro (yk_in k2) (pk_eq r' 2 (fun a2 => And.intro (yk_in k2) ?_) (fun a2 => ?_) (yk_qk k2))
        · have ewd : aw_wd r' n' = n' := if_pos a2
          rw [yk_qw k2, ewd]
          have efl : aw_fl r' m' n' = m' := if_pos a2
          have ec : (fun i => aw_scal (nI e) (c (k / aw_wd r' n' * n + i)) (c' (if r' = 2 then i * n' + k % aw_wd r' n' else i))) = (fun i => aw_scal (nI e) (c (k / w * n + i)) (c' (i * n' + k % w))) := by funext i; rw [if_pos a2, ← ew]
          rw [ec] at ih
          refine yl_i30 h1 h2 h3 h4 k1 k2 hb (fun i hi => ?_) (yl_mk (k := k) (by omega) (nm_r (nI_1 k) ih))
          exact aw_ij (by omega) (by rw [← ewd, ← ew]; exact d3)
        · have ewd : aw_wd r' n' = 1 := if_neg a2
          have efl : aw_fl r' m' n' = n' := if_neg a2
          have e1 : k % w = 0 := by rw [ew, ewd]; exact Nat.mod_one k
          have hm' := aw_okm oy a2
          have ec : (fun i => aw_scal (nI e) (c (k / aw_wd r' n' * n + i)) (c' (if r' = 2 then i * n' + k % aw_wd r' n' else i))) = (fun i => aw_scal (nI e) (c (k / w * n + i)) (c' (i * 1 + k % w))) := by funext i; rw [if_neg a2, ← ew, e1, Nat.mul_one, Nat.add_zero]
          rw [ec] at ih
          refine yl_i30 h1 h2 h3 h4 k1 k2 hb (w := 1) (fun i hi => ?_) (yl_mk (k := k) (by omega) (nm_r (nI_1 k) ih))
          rw [hm', e1]; omega
    refine pk_eq r 2 (fun a1 => go m (fun q => ?_)) (fun a1 => go w (fun q => ?_)) (yk_qk kx)
    · by_cases a2 : r' = 2
      · unfold aw_fl; rw [if_pos (by omega), if_pos ⟨a1, a2⟩]
      · unfold aw_fl; rw [if_neg (by omega), if_neg (fun q => a2 q.2), if_pos a1]
    · unfold aw_fl; rw [if_neg (by omega), if_neg (fun q => a1 q.1), if_neg a1]
  refine And.intro (yk_in ky) (pk_eq r' 2 (fun a2 => And.intro (yk_in ky) ?_) (fun a2 => ?_) (yk_qk ky))
  · rw [yk_qw ky]; exact W _ rfl
  · exact W 1 (by unfold aw_wd; rw [if_neg a2])
theorem yp_sh2 (kx : yw_K qk qr qw da x r m n c) (hx : x ≠ 13) (ky : yw_K qk qr qw da y r' m' n' c') (hy : y ≠ 13) (K : yw_O post (aq_sh2 (r, m, n, c) (r', m', n', c')) cn lv ee tx qk qr qw da wa fi) : wpY_reshape post (cn, lv, ee, tx, qk, qr, qw, da, wa, fi) (nI x) (nI y) := by
  have ox := kx.2.1
  have oy := ky.2.1
  have bx := aw_okb ox
  have bY := aw_okb oy
  unfold wpY_reshape
  refine yl_size kx ?_
  refine And.intro (yk_in kx) (pk_eq r 2 (fun z => And.intro (yk_in kx) (br_t (by rw [yk_qk kx, z]; rfl) (yo_er K (if_pos z)))) (fun z => ?_) (yk_qk kx))
  have m1 := aw_okm ox z
  subst m1
  rw [Nat.one_mul]
  have F21 : 2 < n → wY_reshape_21 post (nI x) cn lv ee tx qk qr qw da wa fi := fun l => And.intro (yk_in kx) (br_f (by rw [yk_qk kx]; exact fun q => z ((nI_eq (by omega) (by decide)).mp q)) (yo_er K ((if_neg z).trans (if_pos l))))
  refine pk_le n 2 (fun l => ?_) (fun l => F21 l)
  -- behind the checks
  have W : ∀ (q1 q2 q3 : Nat) (z0 z1 : Int32), aw_ok q1 q2 q3 → (q1 ≠ 0 → z1 = nI (aw_fl q1 q2 q3)) → (q1 = 2 → z0 = nI q3) → aq_sh2 (r, 1, n, c) (r', m', n', c') = aw_re q1 q2 q3 (fun k => if m' * n' = 0 then 0 else c' (k % (m' * n'))) →
      wY_reshape_130 post (nI y) z0 z1 (nI q1) 13 cn lv ee tx qk qr qw da wa fi := by
    intro q1 q2 q3 z0 z1 hok e2 e3 ek
    have hq := aw_okb hok
    unfold wY_reshape_130
    refine yl_sh hok e2 e3 ?_
    intro qk qr qw S
    refine yl_size (ys_k S ky hy) ?_
    refine yl_fill (fun n1 k da => wY_reshape_143 post (nI y) (nI (m' * n')) n1 (nI k) cn lv ee tx qk qr qw da wa fi) (q2 * q3) (fun k => if m' * n' = 0 then 0 else c' (k % (m' * n'))) (by omega) ?_ ?_
    · intro n1 da' F H
      have S' := ys_da S F
      unfold wY_reshape_143
      refine yl_size (ys_self S') ?_
      exact br_t (nI_le (Nat.le_refl _) (by omega)) (yo_ok K ek S'.1 (ys_done S' H))
    · intro n1 k da' hk F ih
      have S' := ys_da S F
      unfold wY_reshape_143
      refine yl_size (ys_self S') ?_
      refine br_f (nI_ge hk (by omega)) ?_
      by_cases zz : m' * n' = 0
      · rw [if_pos zz] at ih
        refine br_t (by rw [zz]; rfl) ?_
        unfold wY_reshape_176
        exact yl_mk (by omega) (nm_r (nI_1 k) ih)
      · rw [if_neg zz] at ih
        have hn : ¬ nI (m' * n') = 0 := nI_ne0 (by omega) (by omega)
        refine br_f hn (And.intro hn ?_)
        refine yl_num (ys_k S' ky hy) (Nat.mod_lt k (by omega)) ?_ rfl (pk_rem (by omega) (by omega) (by omega))
        unfold wY_reshape_176
        exact yl_mk (by omega) (nm_r (nI_1 k) ih)
  rcases (show n = 0 ∨ n = 1 ∨ n = 2 by omega) with en | en | en
  · subst en
    refine ⟨1, br_t (by decide) (br_t (by decide) (br_t (by decide) ?_))⟩
    exact W 0 1 1 1 1 aw_ok0 (fun q => absurd rfl q) (fun q => absurd q (by omega)) ((if_neg z).trans ((if_neg (by omega)).trans (if_pos rfl)))
  · subst en
    have er : ¬ aw_rg (c 0) 36 → post (cn, lv, -15, tx, qk, qr, qw, da, wa, fi) := fun R => yo_er K ((if_neg z).trans ((if_neg (by omega)).trans ((if_neg (by omega)).trans ((if_pos rfl).trans (aw_iff R)))))
    refine ⟨2, br_f (by decide) (yl_num (k := 0) kx (by omega) ?_)⟩
    by_cases l0 : c 0 < 0
    · exact br_t l0 (er (fun R => R.1 l0))
    refine br_f l0 (yl_num (k := 0) kx (by omega) (br_t rfl ?_))
    by_cases l1 : c 0 ≤ 36
    · have R : aw_rg (c 0) 36 := ⟨l0, l1⟩
      obtain ⟨e1, e2⟩ := aw_rgo R (by decide)
      refine br_t l1 (nm_r (nI_1 0) (br_t (by decide) (br_f (by decide) (yl_num (k := 0) kx (by omega) (br_t (by decide) ?_)))))
      exact W 1 1 (aw_tn (c 0)) 1 (c 0) (aw_ok1 e2) (fun _ => e1) (fun q => absurd q (by omega)) ((if_neg z).trans ((if_neg (by omega)).trans ((if_neg (by omega)).trans ((if_pos rfl).trans (aw_ift R)))))
    · exact br_f l1 (er (fun R => l1 R.2))
  · subst en
    have er : ¬ (aw_rg (c 0) 6 ∧ aw_rg (c 1) 6) → post (cn, lv, -15, tx, qk, qr, qw, da, wa, fi) := fun R => yo_er K ((if_neg z).trans ((if_neg (by omega)).trans ((if_neg (by omega)).trans ((if_neg (by omega)).trans (aw_iff R)))))
    refine ⟨3, br_f (by decide) (yl_num (k := 0) kx (by omega) ?_)⟩
    by_cases l0 : c 0 < 0
    · exact br_t l0 (er (fun R => R.1.1 l0))
    refine br_f l0 (yl_num (k := 0) kx (by omega) (br_f (by decide) ?_))
    by_cases l1 : c 0 ≤ 6
    · refine br_t l1 (nm_r (nI_1 0) (br_f (by decide) (yl_num (k := 1) kx (by omega) ?_)))
      by_cases l2 : c 1 < 0
      · exact br_t l2 (er (fun R => R.2.1 l2))
      refine br_f l2 (yl_num (k := 1) kx (by omega) (br_f (by decide) ?_))
      by_cases l3 : c 1 ≤ 6
      · have R : aw_rg (c 0) 6 ∧ aw_rg (c 1) 6 := ⟨⟨l0, l1⟩, l2, l3⟩
        obtain ⟨e1, e2⟩ := aw_rgo R.1 (by decide)
        obtain ⟨e3, e4⟩ := aw_rgo R.2 (by decide)
        refine br_t l3 (nm_r (nI_1 1) (br_t (by decide) (br_f (by decide) (yl_num (k := 0) kx (by omega) (br_f (by decide) (yl_num (k := 1) kx (by omega) ?_))))))
        exact W 2 (aw_tn (c 0)) (aw_tn (c 1)) (c 1) (c 0) (aw_ok2 e2 e4) (fun _ => e1) (fun _ => e3) ((if_neg z).trans ((if_neg (by omega)).trans ((if_neg (by omega)).trans ((if_neg (by omega)).trans (aw_ift R)))))
      · exact br_f l3 (er (fun R => l3 R.2.2))
    · exact br_f l1 (er (fun R => l1 R.1.2))
theorem yp_cn1 (ky : yw_K qk qr qw da y r m n c) (hy : y ≠ 13) (K : yw_O post (aq_cn1 (r, m, n, c)) cn lv ee tx qk qr qw da wa fi) : wpY_upTo post (cn, lv, ee, tx, qk, qr, qw, da, wa, fi) (nI y) := by
  have hok := ky.2.1
  have hb := aw_okb hok
  refine And.intro (yk_in ky) (pk_eq r 0 (fun z => ?_) (fun z => yo_er K (if_pos z)) (yk_qk ky))
  obtain ⟨e1, e2⟩ := aw_okz hok z
  subst e1 e2
  have er : ¬ aw_rg (c 0) 36 → post (cn, lv, -15, tx, qk, qr, qw, da, wa, fi) := fun R => yo_er K ((if_neg (fun q => q z)).trans (aw_iff R))
  refine yl_num (k := 0) ky (by omega) ?_
  by_cases l0 : c 0 < 0
  · exact br_t l0 (er (fun R => R.1 l0))
  refine br_f l0 (yl_num (k := 0) ky (by omega) ?_)
  by_cases l1 : c 0 ≤ 36
  · have R : aw_rg (c 0) 36 := ⟨l0, l1⟩
    obtain ⟨e1, e2⟩ := aw_rgo R (by decide)
    refine br_t l1 (yl_num (k := 0) ky (by omega) ?_)
    refine yl_sh (r := 1) (m := 1) (n := aw_tn (c 0)) (aw_ok1 e2) (fun _ => e1) (fun q => absurd q (by omega)) ?_
    intro qk qr qw S
    refine yl_fill (fun n1 k da => wY_upTo_63 post n1 (nI k) cn lv ee tx qk qr qw da wa fi) 36 nI (by omega) ?_ ?_
    · intro n1 da' F H
      have S' := ys_da S F
      exact br_t (by decide) (yo_ok K ((if_neg (fun q => q z)).trans (aw_ift R)) S'.1 (ys_done S' (fun k hk => H k (by omega))))
    · intro n1 k da' hk F ih
      exact br_f (nI_ge (b := 36) hk (by decide)) (yl_mk hk (nm_r (nI_1 k) ih))
  · exact br_f l1 (er (fun R => l1 R.2))
theorem yl_plc {J : Int32 → Int32 → Int32 → Int32 → (Nat → Int32) → (Nat → Int32) → (Nat → Int32) → (Nat → Int32) → (Nat → Int32) → (Nat → Int32) → (Nat → Int32) → Prop} {k : Nat} (kx : yw_K qk qr qw da x 1 m n c) (ky : yw_K qk qr qw da y r' m' n' c') (hk : k < m' * n') :
    ∀ (d j : Nat), j + d = n → J (nI (k + 1)) cn lv ee tx qk qr qw (upd da (468 + k) (nI (aw_plc c (c' k) d j))) wa fi → wY_findAll_55 post J (nI x) (nI y) (nI k) cn lv ee tx qk qr qw da wa fi (d + 1) (nI j) := by
  intro d
  have bx := aw_okb kx.2.1
  have bY := aw_okb ky.2.1
  have efl : aw_fl 1 m n = n := rfl
  have m1 := aw_okm kx.2.1 (by decide)
  induction d with
  | zero =>
    intro j hj K
    refine And.intro (yk_in kx) (br_t (by rw [yk_qr kx, efl]; exact nI_le (by omega) (by omega)) ?_)
    unfold wY_findAll_88
    exact yl_mk (by omega) (nm_r (nI_1 k) K)
  | succ d ih =>
    intro j hj K
    refine And.intro (yk_in kx) (br_f (by rw [yk_qr kx, efl]; exact nI_ge (by omega) (by omega)) (yl_num (k := j) kx (by rw [m1]; omega) (yl_num (k := k) ky hk ?_)))
    unfold aw_plc at K
    by_cases z : c j = c' k
    · rw [if_pos z] at K
      refine br_t z ?_
      unfold wY_findAll_88
      exact yl_mk (by omega) (nm_r (nI_1 k) K)
    · rw [if_neg z] at K; exact br_f z (nm_r (nI_1 j) (ih (j + 1) (by omega) K))
theorem yp_cn2 (kx : yw_K qk qr qw da x r m n c) (hx : x ≠ 13) (ky : yw_K qk qr qw da y r' m' n' c') (hy : y ≠ 13) (K : yw_O post (aq_cn2 (r, m, n, c) (r', m', n', c')) cn lv ee tx qk qr qw da wa fi) : wpY_findAll post (cn, lv, ee, tx, qk, qr, qw, da, wa, fi) (nI x) (nI y) := by
  have bx := aw_okb kx.2.1
  have bY := aw_okb ky.2.1
  refine And.intro (yk_in kx) (pk_eq r 1 (fun z => ?_) (fun z => yo_er K (if_neg z)) (yk_qk kx))
  subst z
  refine And.intro (yk_in ky) (And.intro (yk_in ky) (And.intro (yk_in ky) (yl_sh ky.2.1 (fun _ => yk_qr ky) (fun z => (yk_qw ky).trans (by unfold aw_wd; rw [if_pos z])) ?_ rfl (yk_qk ky))))
  intro qk qr qw S
  refine yl_fill (fun n1 k da => wY_findAll_43 post (nI x) (nI y) n1 (nI k) cn lv ee tx qk qr qw da wa fi) (m' * n') (fun k => nI (aw_plc c (c' k) n 0)) (by omega) ?_ ?_
  · intro n1 da' F H
    have S' := ys_da S F
    unfold wY_findAll_43
    refine yl_size (ys_k S' ky hy) ?_
    exact br_t (nI_le (Nat.le_refl _) (by omega)) (yo_ok K rfl S'.1 (ys_done S' H))
  · intro n1 k da' hk F ih
    have S' := ys_da S F
    unfold wY_findAll_43
    refine yl_size (ys_k S' ky hy) ?_
    exact br_f (nI_ge hk (by omega)) ⟨n + 1, yl_plc (ys_k S' kx hx) (ys_k S' ky hy) hk n 0 (by omega) ih⟩
end
end
section
/-! 23: the reference's turning, rotation, parts -/
section
variable {cn lv ee : Int32} {tx qk qr qw da wa fi qk0 qr0 qw0 da0 da' : Nat → Int32} {x y r m n r' m' n' a e p : Nat} {c c' : Nat → Int32} {post : SY → Prop}
theorem aw_tri {j k m n : Nat} (hj : j < m * n) (hk : k < m * n) (h : j % n * m + j / n = k % n * m + k / n) : j = k := by
  obtain ⟨a1, a2, a3, a4⟩ := aw_dm hj
  obtain ⟨b1, b2, b3, b4⟩ := aw_dm hk
  obtain ⟨e1, e2⟩ := aw_dj (i := j % n) a2
  obtain ⟨e3, e4⟩ := aw_dj (i := k % n) b2
  rw [h] at e1 e2
  rw [← a4, ← b4, e1.symm.trans e3, e2.symm.trans e4]
theorem aw_out {ix q : Nat} (h : ix < 36) (hq : q < 468 ∨ 504 ≤ q) : q ≠ 468 + ix := by omega
theorem yp_turn (ky : yw_K qk qr qw da y r m n c) (hy : y ≠ 13) (K : yw_O post (aq_turn (r, m, n, c)) cn lv ee tx qk qr qw da wa fi) : wpY_turn post (cn, lv, ee, tx, qk, qr, qw, da, wa, fi) (nI y) := by
  have hok := ky.2.1
  have hb := aw_okb hok
  refine And.intro (yk_in ky) (pk_le 2 r (fun z => ?_) (fun z => ?_) rfl (yk_qk ky))
  · have z2 : r = 2 := by omega
    subst z2
    obtain ⟨b1, b2⟩ := aw_okn hok rfl
    have hmn : n * m = m * n := Nat.mul_comm n m
    refine And.intro (yk_in ky) (And.intro (yk_in ky) (yl_sh (r := 2) (m := n) (n := m) (aw_ok2 b2 b1) (fun _ => yk_qw ky) (fun _ => yk_qr ky) ?_))
    intro qk qr qw S
    refine loop_0 (fun n1 k da => wY_turn_39 post (nI y) n1 (nI k) cn lv ee tx qk qr qw da wa fi) (fun k da' => (∀ q, (q < 468 ∨ 504 ≤ q) → da' q = da q) ∧ ∀ j, j < k → da' (468 + (j % n * m + j / n)) = c j) (m * n) da ⟨fun _ _ => rfl, fun j hj => absurd hj (by omega)⟩ ?_ ?_
    · intro n1 da' I
      have S' := ys_da S I.1
      show wY_turn_39 post (nI y) (n1 + 1) (nI (m * n)) cn lv ee tx qk qr qw da' wa fi
      unfold wY_turn_39
      refine yl_size (ys_k S' ky hy) ?_
      refine br_t (nI_le (Nat.le_refl _) (by omega)) (yo_ok K rfl S'.1 (ys_done S' (fun q hq => ?_)))
      obtain ⟨d1, d2, d3, d4⟩ := aw_dm hq
      obtain ⟨e1, e2⟩ := aw_dj (i := q % m) d2
      have := I.2 (q % m * n + q / m) (aw_ij d3 d2)
      rw [e1, e2, d4] at this
      exact this
    · intro n1 k da' hk I ih
      have S' := ys_da S I.1
      have k1 := ys_k S' ky hy
      obtain ⟨d1, d2, d3, d4⟩ := aw_dm hk
      have ew : qw (nI y).toNatClampNeg = nI n := yk_qw k1
      have er : qr (nI y).toNatClampNeg = nI m := yk_qr k1
      have hn : ¬ qw (nI y).toNatClampNeg = 0 := by rw [ew]; exact nI_ne0 d1 (by omega)
      have hix : k % n * m + k / n < 36 := by
        have := aw_ij d3 d2
        omega
      show wY_turn_39 post (nI y) (n1 + 1) (nI k) cn lv ee tx qk qr qw da' wa fi
      unfold wY_turn_39
      refine yl_size k1 ?_
      refine br_f (nI_ge hk (by omega)) (And.intro (yk_in k1) (And.intro hn (And.intro (yk_in k1) (And.intro (yk_in k1) (And.intro hn ?_)))))
      refine yl_num k1 hk ?_
      refine yl_mk (k := k % n * m + k / n) hix (nm_r (nI_1 k) (ih _ ⟨fun q hq => ?_, fun j hj => ?_⟩)) ?_
      · rw [pk_un (aw_out hix hq)]; exact I.1 q hq
      · by_cases zz : j = k
        · subst zz; exact pk_us
        · rw [pk_un (fun q => zz (aw_tri (m := m) (n := n) (by omega) hk (Nat.add_left_cancel q)))]; exact I.2 j (by omega)
      · rw [ew, er, pk_rem (by omega) d1 (by omega), pk_div (by omega) d1 (by omega), pk_mul, nI_add]
  · have e : aq_turn (r, m, n, c) = aw_re r m n c := if_neg (by omega)
    exact yl_cp ky hy (fun qk' qr' qw' da' S H => yo_ok K e S.1 (ys_done S H))
theorem aw_l64 {v : Int32} {k n : Nat} (h0 : 0 < n) (hn : n ≤ 36) (hk : k < n) :
    (((((nI k).toInt64 + v.toInt64) - ((nI k).toInt64 + v.toInt64) / (nI n).toInt64 * (nI n).toInt64) + (nI n).toInt64) - ((((nI k).toInt64 + v.toInt64) - ((nI k).toInt64 + v.toInt64) / (nI n).toInt64 * (nI n).toInt64) + (nI n).toInt64) / (nI n).toInt64 * (nI n).toInt64).toInt32 = nI (((k : Int) + v.toInt) % (n : Int)).toNat := by
  have ek : (nI k).toInt64 = lN k := nI_l (by omega)
  have en : (nI n).toInt64 = lN n := nI_l (by omega)
  have b1 := v.toInt_lt
  have b2 := v.le_toInt
  have nT : (lN n).toInt = (n : Int) := lN_toInt (by omega)
  have kT : (lN k).toInt = (k : Int) := lN_toInt (by omega)
  have vT : v.toInt64.toInt = v.toInt := Int32.toInt_toInt64 v
  have aT : (lN k + v.toInt64).toInt = (k : Int) + v.toInt := by
    rw [Int64.toInt_add, kT, vT]
    exact Int.bmod_eq_of_le (by omega) (by omega)
  rw [ek, en]
  have tT   := Jvm.Kit.i64_rem (lN k + v.toInt64) (lN n)
  rw [aT, nT] at tT
  generalize lN k + v.toInt64 - (lN k + v.toInt64) / lN n * lN n = t at tT
  have tb := tmod_bounds (a := (k : Int) + v.toInt) (M := (n : Int)) (by omega)
  have uT : (t + lN n).toInt = ((k : Int) + v.toInt).tmod n + n := by
    rw [Int64.toInt_add, tT, nT]
    exact Int.bmod_eq_of_le (by omega) (by omega)
  have wT := Jvm.Kit.i64_rem_nonneg (x := t + lN n) (y := lN n) (by rw [uT]; omega)
  rw [uT, nT, Int.add_emod_right] at wT
  generalize t + lN n - (t + lN n) / lN n * lN n = w at wT
  have et : ((k : Int) + v.toInt).tmod n % n = ((k : Int) + v.toInt) % n := by
    conv => rhs; rw [← Int.mul_tdiv_add_tmod ((k : Int) + v.toInt) n]
    rw [Int.mul_add_emod_self_left]
  rw [et] at wT
  have p1 := Int.emod_nonneg ((k : Int) + v.toInt) (show (n : Int) ≠ 0 by omega)
  have p2 := Int.emod_lt_of_pos ((k : Int) + v.toInt) (show (0 : Int) < (n : Int) by omega)
  have ew : w = lN (((k : Int) + v.toInt) % (n : Int)).toNat := by
    apply Int64.toInt_inj.mp
    rw [wT, lN_toInt (by omega)]
    omega
  rw [ew]
  exact lN_i _
theorem yp_back {x2 : Int64} {x4 : Int32} {cc : Nat → Int32} (ky : yw_K qk qr qw da y r m n c) (hy : y ≠ 13)
    (hf : (x4 = 0 ∧ ∃ v : Int32, x2 = v.toInt64 ∧ ∀ k, k < m * n → cc k = c (k / n * n + ((((k % n : Nat) : Int) + v.toInt) % (n : Int)).toNat)) ∨ (¬ x4 = 0 ∧ ∀ k, k < m * n → cc k = c (k / n * n + (n - 1 - k % n))))
    (K : ∀ qk' qr' qw' da', yw_F qk qr qw da qk' qr' qw' da' → yw_K qk' qr' qw' da' 13 r m n cc → post (cn, lv, ee, tx, qk', qr', qw', da', wa, fi)) : wpY_back post (cn, lv, ee, tx, qk, qr, qw, da, wa, fi) (nI y) x2 x4 := by
  have hok := ky.2.1
  have hb := aw_okb hok
  unfold wpY_back
  refine yl_cp ky hy ?_
  intro qk qr qw da S E
  refine yl_rs (ys_k S ky hy) ?_
  by_cases z0 : r = 0
  · obtain ⟨e1, e2⟩ := aw_okz hok z0
    subst z0 e1 e2
    refine ⟨1, ?_⟩
    unfold wY_back_17
    refine yl_size (ys_k S ky hy) ?_
    refine br_f (by decide) (And.intro (yk_in ky) (br_t (by rw [yk_qk (ys_k S ky hy)]; decide) (K _ _ _ _ S.1 (ys_done S (fun k hk => (E k hk).trans ?_)))))
    have k0 : k = 0 := by omega
    subst k0
    rcases hf with ⟨_, v, _, h⟩ | ⟨_, h⟩
    · have := h 0 (by decide)
      rw [this]
      show c 0 = c (0 / 1 * 1 + ((((0 % 1 : Nat) : Int) + v.toInt) % ((1 : Nat) : Int)).toNat)
      have e1 : (((0 % 1 : Nat) : Int) + v.toInt) % ((1 : Nat) : Int) = 0 := Int.emod_one _
      rw [e1]; rfl
    · exact (h 0 (by decide)).symm
  · refine yl_fill (fun n1 k da => wY_back_17 post (nI y) x2 x4 (nI n) n1 (nI k) cn lv ee tx qk qr qw da wa fi) (m * n) cc (by omega) ?_ ?_
    · intro n1 da' F H
      have S' := ys_da S F
      unfold wY_back_17
      refine yl_size (ys_k S' ky hy) ?_
      exact br_t (nI_le (Nat.le_refl _) (by omega)) (K _ _ _ _ S'.1 (ys_done S' H))
    · intro n1 k da' hk F ih
      have S' := ys_da S F
      have k1 := ys_k S' ky hy
      obtain ⟨d1, d2, d3, d4⟩ := aw_dm hk
      have hn : ¬ nI n = 0 := nI_ne0 d1 (by omega)
      have hnl : ¬ (nI n).toInt64 = 0 := aw_l0 hn
      unfold wY_back_17
      refine yl_size k1 ?_
      refine br_f (nI_ge hk (by omega)) (And.intro (yk_in k1) (br_f (by rw [yk_qk k1]; exact nI_nle (by omega) (by omega)) (And.intro hn (nm_r (pk_rem (by omega) d1 (by omega)) ?_))))
      have fin : ∀ (z : Int32) (w : Nat), z = nI w → w < n → cc k = c (k / n * n + w) → wY_back_76 post (wY_back_17 post (nI y) x2 x4 (nI n) n1) (nI y) x2 x4 (nI n) (nI k) (nI (k % n)) z cn lv ee tx qk qr qw da' wa fi := by
        intro z w ez hw ec
        unfold wY_back_76
        refine yl_num (k := k / n * n + w) k1 (aw_ij d2 hw) ?_ rfl ?_
        · rw [← ec]; exact yl_mk (by omega) (nm_r (nI_1 k) ih)
        · rw [ez, pk_sub (by omega), nI_add]
          exact congrArg nI (by omega)
      rcases hf with ⟨h4, v, h2, h⟩ | ⟨h4, h⟩
      · subst h2
        refine br_t h4 (And.intro hnl (And.intro hnl ?_))
        have p1 := Int.emod_nonneg (((k % n : Nat) : Int) + v.toInt) (show (n : Int) ≠ 0 by omega)
        have p2 := Int.emod_lt_of_pos (((k % n : Nat) : Int) + v.toInt) (show (0 : Int) < (n : Int) by omega)
        exact fin _ _ (aw_l64 d1 (by omega) d3) (by omega) (h k hk)
      · refine br_f h4 (fin _ (n - 1 - k % n) ?_ (by omega) (h k hk))
        rw [← pk_sub (a := n - 1) (by omega), ← pk_sub (a := n) (by omega)]; rfl
theorem yp_bk1 (ky : yw_K qk qr qw da y r m n c) (hy : y ≠ 13) (K : yw_O post (aq_bk1 (r, m, n, c)) cn lv ee tx qk qr qw da wa fi) : wpY_back post (cn, lv, ee, tx, qk, qr, qw, da, wa, fi) (nI y) 0 1 :=
  yp_back ky hy (Or.inr ⟨by decide, fun _ _ => rfl⟩) (fun _ _ _ _ F Q => yo_ok K rfl F Q)
theorem yp_bk2 {v : Int32} (kx : yw_K qk qr qw da x r m n c) (ky : yw_K qk qr qw da y r' m' n' c') (hy : y ≠ 13) (hv : r = 0 → v = c 0) (K : yw_O post (aq_bk2 (r, m, n, c) (r', m', n', c')) cn lv ee tx qk qr qw da wa fi) :
    wpY_back post (cn, lv, if r = 0 then ee else -13, tx, qk, qr, qw, da, wa, fi) (nI y) v.toInt64 0 := by
  have hb := aw_okb ky.2.1
  by_cases z : r = 0
  · rw [if_pos z]
    refine yp_back (cc := fun k => c' (k / n' * n' + (k % n' + ((c 0).toInt % (n' : Int)).toNat) % n')) ky hy (Or.inl ⟨rfl, v, rfl, fun k hk => ?_⟩) (fun _ _ _ _ F Q => yo_ok K (if_pos z) F Q)
    obtain ⟨d1, d2, d3, d4⟩ := aw_dm hk
    rw [hv z]
    show c' (k / n' * n' + (k % n' + ((c 0).toInt % (n' : Int)).toNat) % n') = _
    have p1 := Int.emod_nonneg (c 0).toInt (show (n' : Int) ≠ 0 by omega)
    have e : (k % n' + ((c 0).toInt % (n' : Int)).toNat) % n' = ((((k % n' : Nat) : Int) + (c 0).toInt) % (n' : Int)).toNat := by
      rw [← Int.add_emod_emod]
      generalize (c 0).toInt % (n' : Int) = d at p1
      obtain ⟨D, rfl⟩ : ∃ D : Nat, d = D := ⟨d.toNat, by omega⟩
      rw [Int.toNat_natCast, ← Int.natCast_add, ← Int.natCast_emod, Int.toNat_natCast]
    rw [e]
  · rw [if_neg z]
    exact yp_back ky hy (Or.inl ⟨rfl, v, rfl, fun k hk => rfl⟩) (fun _ _ _ _ F Q => K.2 (by rw [show aq_bk2 (r, m, n, c) (r', m', n', c') = aw_er (-13) from if_neg z]; decide) _ _ _ _ F |> fun q => by rw [show (aq_bk2 (r, m, n, c) (r', m', n', c')).1 = -13 from by rw [show aq_bk2 (r, m, n, c) (r', m', n', c') = aw_er (-13) from if_neg z]; rfl] at q; exact q)
end
end
section
/-! 24: the reference's take, drop, join, pick, rise and the rest -/
section
variable {cn lv ee : Int32} {tx qk qr qw da wa fi qk0 qr0 qw0 da0 da' : Nat → Int32} {x y r m n r' m' n' a e p : Nat} {c c' : Nat → Int32} {post : SY → Prop}
theorem yp_part {p1 p2 : Int32} {b : Int} {q : Nat} (ky : yw_K qk qr qw da y r m n c) (hy : y ≠ 13) (hz : p1.toInt = b) (hb1 : -100 ≤ b) (hb2 : b ≤ 100) (hq : q ≤ aw_mo r) (h2 : p2 = nI q)
    (K : yw_O post (aq_part b q (r, m, n, c)) cn lv ee tx qk qr qw da wa fi) : wpY_part post (cn, lv, ee, tx, qk, qr, qw, da, wa, fi) (nI y) p1 p2 := by
  subst h2
  have hok := ky.2.1
  have hb := aw_okb hok
  have fb := aw_flb hok
  have wb := aw_wdb hok
  have hq36 : q ≤ 36 := by
    have : aw_mo r ≤ 36 := by unfold aw_mo; split <;> omega
    omega
  -- the loop, once for both
  have L : ∀ (q1 q2 q3 : Nat) (cc : Nat → Int32), aq_part b q (r, m, n, c) = aw_re q1 q2 q3 cc → aw_ok q1 q2 q3 → q2 * q3 = q * aw_wd r n →
      (∀ k, k < q * aw_wd r n → cc k = if 0 ≤ b + ((k / aw_wd r n : Nat) : Int) ∧ b + ((k / aw_wd r n : Nat) : Int) < (aw_fl r m n : Int) then c ((b + ((k / aw_wd r n : Nat) : Int)).toNat * aw_wd r n + k % aw_wd r n) else 0) →
      ∀ qk1 qr1 qw1, yw_S qk qr qw da qk1 qr1 qw1 da q1 q2 q3 → ∃ n49, wY_part_49 post (nI y) p1 (nI q) (nI (aw_wd r n)) n49 0 cn lv ee tx qk1 qr1 qw1 da wa fi := by
    intro q1 q2 q3 cc ek hok1 esz hc qk1 qr1 qw1 S
    have hsz := (aw_okb hok1).2.2.2
    refine yl_fill (fun n1 k da => wY_part_49 post (nI y) p1 (nI q) (nI (aw_wd r n)) n1 (nI k) cn lv ee tx qk1 qr1 qw1 da wa fi) (q * aw_wd r n) cc (by omega) ?_ ?_
    · intro n1 da' F H
      have S' := ys_da S F
      exact br_t (by rw [pk_mul]; exact nI_le (Nat.le_refl _) (by omega)) (yo_ok K ek S'.1 (ys_done S' (fun k hk => H k (by omega))))
    · intro n1 k da' hk F ih
      have S' := ys_da S F
      have k1 := ys_k S' ky hy
      obtain ⟨d1, d2, d3, d4⟩ := aw_dm hk
      have hn : ¬ nI (aw_wd r n) = 0 := nI_ne0 d1 (by omega)
      have ec := hc k hk
      have fin : ∀ v : Int32, v = cc k → wY_part_106 post (wY_part_49 post (nI y) p1 (nI q) (nI (aw_wd r n)) n1) (nI y) p1 (nI q) (nI (aw_wd r n)) (nI k) v (nI k) cn lv ee tx qk1 qr1 qw1 da' wa fi := by
        intro v ev
        subst ev
        unfold wY_part_106
        exact yl_mk (by omega) (nm_r (nI_1 k) ih)
      have eT : (p1 + nI k / nI (aw_wd r n)).toInt = b + ((k / aw_wd r n : Nat) : Int) := by
        rw [pk_div (by omega) d1 (by omega)]
        exact aw_addI hz (by omega) (by omega) (by omega)
      refine br_f (by rw [pk_mul]; exact nI_ge hk (by omega)) (And.intro hn (nm_e ?_))
      generalize p1 + nI k / nI (aw_wd r n) = z at eT
      generalize hpp : b + ((k / aw_wd r n : Nat) : Int) = pp at eT ec
      by_cases l0 : pp < 0
      · rw [if_neg (by omega)] at ec
        exact br_t (aw_ge0.mpr (by omega)) (fin 0 ec.symm)
      · refine br_f (fun q => l0 (by rw [← eT]; exact aw_ge0.mp q)) (And.intro (yk_in k1) ?_)
        obtain ⟨P, rfl⟩ : ∃ P : Nat, pp = P := ⟨pp.toNat, by omega⟩
        have ez : z = nI P := aw_nIof eT
        have hP : P < 2 ^ 31 := by have := z.toInt_lt; omega
        subst ez
        refine pk_le (aw_fl r m n) P (fun l => ?_) (fun l => ?_) (yk_qr k1)
        · rw [if_neg (by omega)] at ec
          exact fin 0 ec.symm
        · rw [if_pos (by omega)] at ec
          refine And.intro hn ?_
          have hix : P * aw_wd r n + k % aw_wd r n < m * n := by
            rw [← aw_fw hok]; exact aw_ij l d3
          refine yl_num k1 hix (fin _ (by rw [ec]; rfl)) rfl ?_
          rw [pk_rem (by omega) d1 (by omega), pk_mul, nI_add]
  by_cases z : r = 2
  · have ewd : aw_wd r n = n := if_pos z
    have efl : aw_fl r m n = m := if_pos z
    have q6 : q ≤ 6 := by unfold aw_mo at hq; rw [if_pos z] at hq; exact hq
    refine And.intro (yk_in ky) (br_t (by rw [yk_qk ky, z]; rfl) (And.intro (yk_in ky) (And.intro (yk_in ky) (br_t (by rw [yk_qk ky, z]; rfl) ?_))))
    unfold wY_part_40
    rw [yk_qw ky]
    refine yl_sh (r := 2) (m := q) (n := n) (aw_ok2 q6 (aw_okn hok z).2) (fun _ => rfl) (fun _ => by rw [ewd]) ?_
    intro qk1 qr1 qw1 S
    refine L 2 q n _ (if_pos z) (aw_ok2 q6 (aw_okn hok z).2) (by rw [ewd]) (fun k hk => ?_) qk1 qr1 qw1 S
    rw [ewd, efl]
  · have ewd : aw_wd r n = 1 := if_neg z
    have efl : aw_fl r m n = n := if_neg z
    have nz : ¬ qk (nI y).toNatClampNeg = 2 := by rw [yk_qk ky]; exact fun q => z ((nI_eq (by omega) (by decide)).mp q)
    refine And.intro (yk_in ky) (br_f nz (And.intro (yk_in ky) (br_f nz ?_)))
    unfold wY_part_40
    refine yl_sh (r := 1) (m := 1) (n := q) (aw_ok1 hq36) (fun _ => rfl) (fun q => absurd q (by omega)) ?_
    intro qk1 qr1 qw1 S
    have Q := L 1 1 q _ (if_neg z) (aw_ok1 hq36) (by rw [ewd]; omega) (fun k hk => ?_) qk1 qr1 qw1 S
    · rw [ewd] at Q; exact Q
    · rw [ewd, efl, Nat.div_one, Nat.mod_one, Nat.mul_one, Nat.add_zero]
theorem yp_tk2 (kx : yw_K qk qr qw da x r m n c) (ky : yw_K qk qr qw da y r' m' n' c') (hy : y ≠ 13) (K : yw_O post (aq_tk2 (r, m, n, c) (r', m', n', c')) cn lv ee tx qk qr qw da wa fi) : wpY_take post (cn, lv, ee, tx, qk, qr, qw, da, wa, fi) (nI x) (nI y) := by
  have ox := kx.2.1
  have bx := aw_okb ox
  have bY := aw_okb ky.2.1
  have fb := aw_flb ky.2.1
  have W : ∀ q : Nat, q = aw_mo r' → wY_take_17 post (nI x) (nI y) (nI q) cn lv ee tx qk qr qw da wa fi := by
    intro q eq
    have hq : q ≤ 36 := by rw [eq]; unfold aw_mo; split <;> omega
    have eqT : (nI q).toInt = (q : Int) := nI_toInt (by omega)
    have enT : (-nI q).toInt = -(q : Int) := sb_negT (by omega)
    unfold wY_take_17
    refine yl_raw (k := 0) kx.1 (by decide) ?_
    refine And.intro (yk_in kx) (pk_eq r 0 (fun z => ?_) (fun z => ?_) (yk_qk kx))
    · obtain ⟨z1, z2⟩ := aw_okz ox z
      have ev : da (36 * x + 0) = c 0 := kx.2.2.2.2.2 0 (by rw [z1, z2]; decide)
      rw [ev]
      have r0 : qk (nI x).toNatClampNeg = 0 := by rw [yk_qk kx, z]; rfl
      have f48 : ((c 0).toInt < -(aw_mo r' : Int) ∨ (aw_mo r' : Int) < (c 0).toInt) → wY_take_48 post (nI x) cn lv ee tx qk qr qw da wa fi := fun R => And.intro (yk_in kx) (br_t r0 (yo_er K ((if_neg (fun q => q z)).trans (if_pos R))))
      by_cases l0 : c 0 < -nI q
      · refine br_t l0 (f48 (Or.inl ?_))
        rw [Int32.lt_iff_toInt_lt, enT] at l0
        rw [← eq]; exact l0
      refine br_f l0 ?_
      rw [Int32.lt_iff_toInt_lt, enT] at l0
      by_cases l1 : c 0 ≤ nI q
      · refine br_t l1 ?_
        rw [Int32.le_iff_toInt_le, eqT] at l1
        have K1 : yw_O post (aq_part (if (c 0).toInt < 0 then (aw_fl r' m' n' : Int) + (c 0).toInt else 0) (c 0).toInt.natAbs (r', m', n', c')) cn lv ee tx qk qr qw da wa fi := by
          have e : aq_tk2 (r, m, n, c) (r', m', n', c') = aq_part (if (c 0).toInt < 0 then (aw_fl r' m' n' : Int) + (c 0).toInt else 0) (c 0).toInt.natAbs (r', m', n', c') := (if_neg (fun q => q z)).trans (if_neg (by rw [← eq]; omega))
          rw [← e]; exact K
        by_cases l2 : 0 ≤ c 0
        · have l3 := aw_le0.mp l2
          rw [if_neg (by omega)] at K1
          refine br_t l2 (br_t l2 ?_)
          exact yp_part ky hy (b := 0) (by decide) (by omega) (by omega) (by rw [← eq]; omega) (aw_nIof (by omega)) K1
        · have l3 : (c 0).toInt < 0 := by
            have : ¬ 0 ≤ (c 0).toInt := fun q => l2 (aw_le0.mpr q)
            omega
          rw [if_pos l3] at K1
          refine br_f l2 (And.intro (yk_in ky) (br_f l2 ?_))
          refine yp_part ky hy (b := (aw_fl r' m' n' : Int) + (c 0).toInt) (q := (c 0).toInt.natAbs) ?_ (by omega) (by omega) (by rw [← eq]; omega) ?_ K1
          · rw [yk_qr ky, Int32.add_comm, aw_addI rfl (by omega) (by omega) (by omega)]; omega
          · apply aw_nIof
            rw [Int32.toInt_neg]
            exact (Int.bmod_eq_of_le (by omega) (by omega)).trans (by omega)
      · refine br_f l1 (f48 (Or.inr ?_))
        rw [Int32.le_iff_toInt_le, eqT] at l1
        rw [← eq]; omega
    · have nz : ¬ qk (nI x).toNatClampNeg = 0 := by rw [yk_qk kx]; exact nI_ne0 (by omega) (by omega)
      exact And.intro (yk_in kx) (br_f nz (yo_er K (if_pos z)))
  refine And.intro (yk_in ky) (pk_eq r' 2 (fun z => ?_) (fun z => ?_) (yk_qk ky))
  · exact W 6 (by unfold aw_mo; rw [if_pos z])
  · exact W 36 (by unfold aw_mo; rw [if_neg z])
theorem yp_drop (kx : yw_K qk qr qw da x r m n c) (ky : yw_K qk qr qw da y r' m' n' c') (hy : y ≠ 13) (K : yw_O post (aq_drop (r, m, n, c) (r', m', n', c')) cn lv ee tx qk qr qw da wa fi) : wpY_drop post (cn, lv, ee, tx, qk, qr, qw, da, wa, fi) (nI x) (nI y) := by
  have ox := kx.2.1
  have bx := aw_okb ox
  have oy := ky.2.1
  have bY := aw_okb oy
  have fb := aw_flb oy
  refine And.intro (yk_in kx) (pk_eq r 0 (fun z => ?_) (fun z => yo_er K (if_pos z)) (yk_qk kx))
  obtain ⟨z1, z2⟩ := aw_okz ox z
  refine yl_num (k := 0) kx (by rw [z1, z2]; decide) ?_
  have e : aq_drop (r, m, n, c) (r', m', n', c') = aq_part (if (c 0).toInt < 0 then 0 else ((aw_fl r' m' n' - (aw_fl r' m' n' - (c 0).toInt.natAbs) : Nat) : Int)) (aw_fl r' m' n' - (c 0).toInt.natAbs) (r', m', n', c') := if_neg (fun q => q z)
  rw [e] at K
  clear e
  have hmo : aw_fl r' m' n' ≤ aw_mo r' := by
    unfold aw_fl aw_mo
    by_cases z : r' = 2
    · rw [if_pos z, if_pos z]; exact (aw_okn oy z).1
    · rw [if_neg z, if_neg z]; omega
  have efl := yk_qr ky
  generalize aw_fl r' m' n' = w at K fb hmo efl
  have b1 := (c 0).toInt_lt
  have b2 := (c 0).le_toInt
  have vT : (c 0).toInt64.toInt = (c 0).toInt := Int32.toInt_toInt64 _
  have z0 : (0 : Int64).toInt = 0 := by decide
  have wT : (nI w).toInt64.toInt = (w : Int) := by rw [Int32.toInt_toInt64, nI_toInt (by omega)]
  generalize ed : (c 0).toInt = d at K b1 b2 vT
  -- behind the absolute value
  have L : ∀ g : Int64, g = lN d.natAbs → wY_drop_36 post (nI y) (c 0).toInt64 g cn lv ee tx qk qr qw da wa fi := by
    intro g eg
    have gT : g.toInt = (d.natAbs : Int) := by rw [eg]; exact pk_lT (by omega)
    have go : ∀ zz : Int32, zz = nI (w - d.natAbs) → wY_drop_65 post (nI y) (c 0).toInt64 zz cn lv ee tx qk qr qw da wa fi := by
      intro zz ezz
      refine br_c (fun l => ?_) (fun l => ?_)
      · rw [Int64.le_iff_toInt_le, z0, vT] at l
        rw [if_neg (by omega)] at K
        refine And.intro (yk_in ky) (yp_part ky hy (b := ((w - (w - d.natAbs) : Nat) : Int)) ?_ (by omega) (by omega) (by omega) ezz K)
        rw [efl, ezz, pk_sub (by omega), nI_toInt (by omega)]
      · rw [Int64.le_iff_toInt_le, z0, vT] at l
        rw [if_pos (by omega)] at K
        exact yp_part ky hy (b := 0) (by decide) (by omega) (by omega) (by omega) ezz K
    refine And.intro (yk_in ky) ?_
    rw [efl]
    refine br_c (fun l => ?_) (fun l => ?_)
    · rw [Int64.le_iff_toInt_le, gT, wT] at l
      refine And.intro (yk_in ky) ?_
      refine go _ ?_
      rw [eg, lN_i]; exact pk_sub (by omega)
    · rw [Int64.le_iff_toInt_le, gT, wT] at l
      have e0 : w - d.natAbs = 0 := by omega
      exact go 0 (by rw [e0]; rfl)
  refine br_c (fun l => L _ ?_) (fun l => L _ ?_)
  · rw [Int64.le_iff_toInt_le, z0, vT] at l
    apply Int64.toInt_inj.mp
    rw [vT, pk_lT (by omega)]; omega
  · rw [Int64.le_iff_toInt_le, z0, vT] at l
    apply Int64.toInt_inj.mp
    rw [Int64.toInt_neg, vT, pk_lT (by omega)]
    exact (Int.bmod_eq_of_le (by omega) (by omega)).trans (by omega)
theorem yp_jn2 (kx : yw_K qk qr qw da x r m n c) (hx : x ≠ 13) (ky : yw_K qk qr qw da y r' m' n' c') (hy : y ≠ 13) (K : yw_O post (aq_jn2 (r, m, n, c) (r', m', n', c')) cn lv ee tx qk qr qw da wa fi) : wpY_join post (cn, lv, ee, tx, qk, qr, qw, da, wa, fi) (nI x) (nI y) := by
  have ox := kx.2.1
  have oy := ky.2.1
  have bx := aw_okb ox
  have bY := aw_okb oy
  have f1 := aw_flb ox
  have f2 := aw_flb oy
  have W : ∀ q1 : Nat, q1 = (if r = 2 then 2 else 1) → ((r = 2) ↔ (r' = 2)) → (r = 2 → m = m') → wY_join_77 post (nI x) (nI y) (nI q1) cn lv ee tx qk qr qw da wa fi := by
    intro q1 eq1 e1 e2
    have p1 : ¬ ¬ ((r = 2) ↔ (r' = 2)) := fun q => q e1
    have p2 : ¬ (r = 2 ∧ m ≠ m') := fun q => q.2 (e2 q.1)
    have em : m = m' := by
      by_cases z : r = 2
      · exact e2 z
      · rw [aw_okm ox z, aw_okm oy (fun q => z (e1.mpr q))]
    unfold wY_join_77
    refine yl_rs kx ?_
    refine yl_rs ky ?_
    have go : ∀ q : Nat, q = aw_mo r → wY_join_108 post (nI x) (nI y) (nI q1) (nI n) (nI (n + n')) (nI q) (nI (n + n')) cn lv ee tx qk qr qw da wa fi := by
      intro q eq
      have hq : q ≤ 36 := by rw [eq]; unfold aw_mo; split <;> omega
      refine pk_le (n + n') q (fun l => ?_) (fun l => yo_er K ((if_neg p1).trans ((if_neg p2).trans (if_pos (by omega)))))
      have ek : aq_jn2 (r, m, n, c) (r', m', n', c') = aw_re (if r = 2 then 2 else 1) m (n + n') (fun k => if k % (n + n') < n then c (k / (n + n') * n + k % (n + n')) else c' (k / (n + n') * n' + (k % (n + n') - n))) := (if_neg p1).trans ((if_neg p2).trans (if_neg (by omega)))
      rw [← eq1] at ek
      have hok : aw_ok q1 m (n + n') := by
        by_cases z : r = 2
        · rw [eq1, if_pos z]
          have : q = 6 := by rw [eq]; unfold aw_mo; rw [if_pos z]
          exact aw_ok2 bx.2.1 (by omega)
        · rw [eq1, if_neg z, aw_okm ox z]; exact aw_ok1 (by omega)
      have hsz := (aw_okb hok).2.2.2
      have L : ∀ z0 : Nat, z0 = aw_fl q1 m (n + n') → wY_join_138 post (nI x) (nI y) (nI n) (nI (n + n')) (nI z0) (nI q1) 13 cn lv ee tx qk qr qw da wa fi := by
        intro z0 ez0
        unfold wY_join_138
        refine yl_sh hok (fun _ => by rw [ez0]) (fun _ => rfl) ?_
        intro qk qr qw S
        refine yl_fill (fun n1 k da => wY_join_146 post (nI x) (nI y) (nI n) (nI (n + n')) n1 (nI k) cn lv ee tx qk qr qw da wa fi) (m * (n + n')) (fun k => if k % (n + n') < n then c (k / (n + n') * n + k % (n + n')) else c' (k / (n + n') * n' + (k % (n + n') - n))) (by omega) ?_ ?_
        · intro n1 da' F H
          have S' := ys_da S F
          unfold wY_join_146
          refine yl_size (ys_self S') ?_
          exact br_t (nI_le (Nat.le_refl _) (by omega)) (yo_ok K ek S'.1 (ys_done S' H))
        · intro n1 k da' hk F ih
          have S' := ys_da S F
          unfold wY_join_146
          refine yl_size (ys_self S') ?_
          obtain ⟨d1, d2, d3, d4⟩ := aw_dm hk
          have hn : ¬ nI (n + n') = 0 := nI_ne0 d1 (by omega)
          refine br_f (nI_ge hk (by omega)) (And.intro hn (nm_r (pk_div (by omega) d1 (by omega)) (And.intro hn (nm_r (pk_rem (by omega) d1 (by omega)) (pk_le n (k % (n + n')) (fun l2 => ?_) (fun l2 => ?_))))))
          · rw [if_neg (by omega)] at ih
            have hix : k / (n + n') * n' + (k % (n + n') - n) < m' * n' := aw_ij (by omega) (by omega)
            refine yl_num (ys_k S' ky hy) hix ?_ rfl ?_
            · unfold wY_join_216; exact yl_mk (by omega) (nm_r (nI_1 k) ih)
            · rw [pk_sub (a := n + n') (b := n) (by omega), Nat.add_sub_cancel_left, pk_mul, nI_add, pk_sub (by omega)]
              exact congrArg nI (by omega)
          · rw [if_pos l2] at ih
            refine yl_num (ys_k S' kx hx) (aw_ij d2 l2) ?_ rfl (by rw [pk_mul, nI_add])
            unfold wY_join_216; exact yl_mk (by omega) (nm_r (nI_1 k) ih)
      by_cases z : r = 2
      · rw [if_pos z] at eq1
        subst eq1
        refine br_t rfl (And.intro (yk_in kx) ?_)
        rw [yk_qr kx]
        exact L _ (by unfold aw_fl; rw [if_pos z, if_pos rfl])
      · rw [if_neg z] at eq1
        subst eq1
        exact br_f (by decide) (L (n + n') rfl)
    refine nm_r (nI_add n n') ?_
    by_cases z : r = 2
    · have e := eq1
      rw [if_pos z] at e
      exact br_t (by rw [e]; rfl) (go 6 (by unfold aw_mo; rw [if_pos z]))
    · have e := eq1
      rw [if_neg z] at e
      exact br_f (by rw [e]; decide) (go 36 (by unfold aw_mo; rw [if_neg z]))
  refine And.intro (yk_in kx) (pk_eq r 2 (fun z => And.intro (yk_in ky) (pk_eq r' 2 (fun z' => ?_) (fun z' => ?_) (yk_qk ky))) (fun z => And.intro (yk_in ky) (pk_eq r' 2 (fun z' => ?_) (fun z' => ?_) (yk_qk ky))) (yk_qk kx))
  · have fx : aw_fl r m n = m := if_pos z
    have fy : aw_fl r' m' n' = m' := if_pos z'
    refine br_t rfl (br_t rfl (And.intro (yk_in kx) (And.intro (yk_in ky) (pk_eq m m' (fun e => W 2 (by rw [if_pos z]) ⟨fun _ => z', fun _ => z⟩ (fun _ => e)) (fun e => ?_) (by rw [yk_qr kx, fx]) (by rw [yk_qr ky, fy])))))
    exact br_t rfl (yo_er K ((if_neg (fun q => q ⟨fun _ => z', fun _ => z⟩)).trans (if_pos ⟨z, e⟩)))
  · exact br_f (by decide) (br_f (by decide) (yo_er K (if_pos (fun q => z' (q.mp z)))))
  · exact br_f (by decide) (br_f (by decide) (yo_er K (if_pos (fun q => z (q.mpr z')))))
  · exact br_t rfl (br_f (by decide) (W 1 (by rw [if_neg z]) ⟨fun q => absurd q z, fun q => absurd q z'⟩ (fun q => absurd q z)))
end
end
section
/-! 25: the reference's pick, rise, ravel, lengths, first; functions applied -/
section
variable {cn lv ee : Int32} {tx qk qr qw da wa fi qk0 qr0 qw0 da0 da' : Nat → Int32} {x y r m n r' m' n' a e p : Nat} {c c' : Nat → Int32} {post : SY → Prop}
theorem yp_p113 (kx : yw_K qk qr qw da x r m n c) (hx : x ≠ 13) (ky : yw_K qk qr qw da y r' m' n' c') (hy : y ≠ 13) (z : r ≠ 2) (z' : r' ≠ 0) (B : aw_bel c n (aw_fl r' m' n')) (P : ¬ (r = 1 ∧ r' = 2 ∧ 6 < n)) (K : yw_O post (aq_pick (r, m, n, c) (r', m', n', c')) cn lv ee tx qk qr qw da wa fi) :
    wY_pick_113 post (nI x) (nI y) cn lv ee tx qk qr qw da wa fi := by
  have ox := kx.2.1
  have oy := ky.2.1
  have bx := aw_okb ox
  have bY := aw_okb oy
  have fb := aw_flb oy
  have wb := aw_wdb oy
  have m1 := aw_okm ox z
  subst m1
  have p0 : ¬ (r = 2 ∨ r' = 0) := by omega
  have fx : aw_fl r 1 n = n := if_neg z
  have exy : ∃ q1 q2 q3 cc, aq_pick (r, 1, n, c) (r', m', n', c') = aw_re q1 q2 q3 cc ∧ aw_ok q1 q2 q3 ∧ q1 = r + r' - 1 ∧ q2 * q3 = n * aw_wd r' n' ∧ (q1 ≠ 0 → (if r = 1 then n else aw_wd r' n') = aw_fl q1 q2 q3) ∧ (q1 = 2 → aw_wd r' n' = q3) ∧
      (∀ k, k < n * aw_wd r' n' → cc k = c' (aw_tn (c (k / aw_wd r' n')) * aw_wd r' n' + k % aw_wd r' n')) := by
    by_cases r0 : r = 0
    · obtain ⟨_, n1⟩ := aw_okz ox r0
      subst n1
      refine ⟨_, _, _, _, (if_neg p0).trans ((aw_ift B).trans (if_pos r0)), ?_, by omega, by omega, fun q => ?_, fun q => ?_, fun k hk => ?_⟩
      · unfold aw_wd
        by_cases z2 : r' = 2
        · rw [if_pos z2, z2]; exact aw_ok1 (by omega)
        · have : r' = 1 := by omega
          rw [if_neg z2, this]; exact aw_ok0
      · rw [if_neg (by omega)]; unfold aw_fl; rw [if_neg (by omega)]
      · omega
      · rw [Nat.one_mul] at hk
        rw [Nat.div_eq_of_lt hk, Nat.mod_eq_of_lt hk]
    · have r1 : r = 1 := by omega
      refine ⟨_, _, _, _, (if_neg p0).trans ((aw_ift B).trans ((if_neg r0).trans (if_neg (fun q => P ⟨r1, q.1, q.2⟩)))), ?_, by omega, ?_, fun q => ?_, fun q => ?_, fun k hk => rfl⟩
      · by_cases z2 : r' = 2
        · rw [if_pos z2, if_pos z2, z2]; exact aw_ok2 (by omega) (aw_okn oy z2).2
        · have : r' = 1 := by omega
          rw [if_neg z2, if_neg z2, this]; exact aw_ok1 (by omega)
      · unfold aw_wd
        by_cases z2 : r' = 2
        · rw [if_pos z2, if_pos z2, if_pos z2]
        · rw [if_neg z2, if_neg z2, if_neg z2]; omega
      · rw [if_pos r1]; unfold aw_fl
        by_cases z2 : r' = 2
        · rw [if_pos z2, if_pos z2]
        · rw [if_neg z2, if_neg z2]
      · unfold aw_wd; rw [if_pos q, if_pos q]
  obtain ⟨q1, q2, q3, cc, ek, hok, eq1, esz, efl, ew3, hc⟩ := exy
  have hsz := (aw_okb hok).2.2.2
  have ewd := yk_qw ky
  have hwd : ∀ P j, P < aw_fl r' m' n' → j < aw_wd r' n' → P * aw_wd r' n' + j < m' * n' := fun P j h1 h2 => by rw [← aw_fw oy]; exact aw_ij h1 h2
  generalize aw_wd r' n' = w at esz efl ew3 hc ewd wb hwd
  refine And.intro (yk_in ky) (nm_r ewd (And.intro (yk_in kx) (And.intro (yk_in ky) (nm_r (e' := nI q1) ?_ (And.intro (yk_in kx) ?_)))))
  · rw [yk_qk kx, yk_qk ky, nI_add, eq1]; exact pk_sub (b := 1) (by omega)
  have L : ∀ z0 : Nat, (q1 ≠ 0 → z0 = aw_fl q1 q2 q3) → wY_pick_162 post (nI x) (nI y) (nI w) (nI z0) (nI q1) 13 cn lv ee tx qk qr qw da wa fi := by
    intro z0 hz0
    unfold wY_pick_162
    refine yl_sh hok (fun q => by rw [hz0 q]) (fun q => by rw [ew3 q]) ?_
    intro qk qr qw S
    refine yl_fill (fun n1 k da => wY_pick_169 post (nI x) (nI y) (nI w) n1 (nI k) cn lv ee tx qk qr qw da wa fi) (n * w) cc (by omega) ?_ ?_
    · intro n1 da' F H
      have S' := ys_da S F
      have k1 := ys_k S' kx hx
      refine And.intro (yk_in k1) (br_t (by rw [yk_qr k1, fx, pk_mul]; exact nI_le (Nat.le_refl _) (by omega)) (yo_ok K ek S'.1 (ys_done S' (fun k hk => H k (by omega)))))
    · intro n1 k da' hk F ih
      have S' := ys_da S F
      have k1 := ys_k S' kx hx
      have k2 := ys_k S' ky hy
      obtain ⟨d1, d2, d3, d4⟩ := aw_dm hk
      have hn : ¬ nI w = 0 := nI_ne0 d1 (by omega)
      obtain ⟨f1, f2⟩ := aw_belo (B (k / w) d2) (by omega)
      rw [hc k hk] at ih
      refine And.intro (yk_in k1) (br_f (by rw [yk_qr k1, fx, pk_mul]; exact nI_ge hk (by omega)) (And.intro hn ?_))
      refine yl_num (k := k / w) k1 (by omega) ?_ rfl (pk_div (by omega) d1 (by omega))
      refine And.intro hn ?_
      refine yl_num (k := aw_tn (c (k / w)) * w + k % w) k2 (hwd _ _ f2 d3) ?_ rfl ?_
      · exact yl_mk (by omega) (nm_r (nI_1 k) ih)
      · rw [pk_rem (by omega) d1 (by omega)]
        conv => lhs; rw [f1]
        rw [pk_mul, nI_add]
  refine pk_eq r 1 (fun r1 => And.intro (yk_in kx) ?_) (fun r1 => L w (fun q => ?_)) (yk_qk kx)
  · rw [yk_qr kx, fx]
    exact L n (fun q => by rw [← efl q, if_pos r1])
  · rw [← efl q, if_neg r1]
theorem yp_p28 (kx : yw_K qk qr qw da x r m n c) (hx : x ≠ 13) (ky : yw_K qk qr qw da y r' m' n' c') (hy : y ≠ 13) (z : r ≠ 2) (z' : r' ≠ 0) (K : yw_O post (aq_pick (r, m, n, c) (r', m', n', c')) cn lv ee tx qk qr qw da wa fi) :
    ∀ (d j : Nat), j + d = n → (∀ q, q < j → ¬ c q < 0 ∧ c q < nI (aw_fl r' m' n')) → wY_pick_28 post (nI x) (nI y) cn lv ee tx qk qr qw da wa fi (d + 1) (nI j) := by
  intro d
  have ox := kx.2.1
  have oy := ky.2.1
  have bx := aw_okb ox
  have bY := aw_okb oy
  have m1 := aw_okm ox z
  have p0 : ¬ (r = 2 ∨ r' = 0) := by omega
  have fx : aw_fl r m n = n := if_neg z
  induction d with
  | zero =>
    intro j hj H
    have B : aw_bel c n (aw_fl r' m' n') := fun q hq => H q (by omega)
    refine And.intro (yk_in kx) (br_t (by rw [yk_qr kx, fx]; exact nI_le (by omega) (by omega)) (And.intro (yk_in kx) (pk_eq r 1 (fun r1 => ?_) (fun r1 => ?_) (yk_qk kx))))
    · refine And.intro (yk_in ky) (pk_eq r' 2 (fun r2 => ?_) (fun r2 => ?_) (yk_qk ky))
      · refine And.intro (yk_in kx) (pk_le n 6 (fun l => ?_) (fun l => ?_) (by rw [yk_qr kx, fx]))
        · exact yp_p113 kx hx ky hy z z' B (by omega) K
        · exact yo_er K ((if_neg p0).trans ((aw_ift B).trans ((if_neg (by omega)).trans (if_pos ⟨r2, l⟩))))
      · exact yp_p113 kx hx ky hy z z' B (fun q => r2 q.2.1) K
    · exact yp_p113 kx hx ky hy z z' B (fun q => r1 q.1) K
  | succ d ih =>
    intro j hj H
    have er : ¬ (¬ c j < 0 ∧ c j < nI (aw_fl r' m' n')) → post (cn, lv, -15, tx, qk, qr, qw, da, wa, fi) := fun R => yo_er K ((if_neg p0).trans (aw_iff (fun B => R (B j (by omega)))))
    refine And.intro (yk_in kx) (br_f (by rw [yk_qr kx, fx]; exact nI_ge (by omega) (by omega)) (yl_num (k := j) kx (by rw [m1]; omega) ?_))
    by_cases l0 : c j < 0
    · exact br_t l0 (er (fun q => q.1 l0))
    · refine br_f l0 (yl_num (k := j) kx (by rw [m1]; omega) (And.intro (yk_in ky) ?_))
      rw [yk_qr ky]
      by_cases l1 : c j < nI (aw_fl r' m' n')
      · refine br_t l1 (nm_r (nI_1 j) (ih (j + 1) (by omega) (fun q hq => ?_)))
        by_cases e : q = j
        · subst e; exact ⟨l0, l1⟩
        · exact H q (by omega)
      · exact br_f l1 (er (fun q => l1 q.2))
theorem yp_pick (kx : yw_K qk qr qw da x r m n c) (hx : x ≠ 13) (ky : yw_K qk qr qw da y r' m' n' c') (hy : y ≠ 13) (K : yw_O post (aq_pick (r, m, n, c) (r', m', n', c')) cn lv ee tx qk qr qw da wa fi) : wpY_pick post (cn, lv, ee, tx, qk, qr, qw, da, wa, fi) (nI x) (nI y) := by
  have bx := aw_okb kx.2.1
  have bY := aw_okb ky.2.1
  refine And.intro (yk_in kx) (pk_eq r 2 (fun z => yo_er K (if_pos (Or.inl z))) (fun z => ?_) (yk_qk kx))
  refine And.intro (yk_in ky) (pk_eq r' 0 (fun z' => yo_er K (if_pos (Or.inr z'))) (fun z' => ?_) (yk_qk ky))
  exact ⟨n + 1, yp_p28 kx hx ky hy z z' K n 0 (by omega) (fun q hq => absurd hq (by omega))⟩
theorem yr_48 {J : Int32 → Int32 → Int32 → Int32 → (Nat → Int32) → (Nat → Int32) → (Nat → Int32) → (Nat → Int32) → (Nat → Int32) → (Nat → Int32) → (Nat → Int32) → Prop} {i : Nat} (ky : yw_K qk qr qw da y 1 m n c) (hi : i < n) (K : J (nI (i + 1)) cn lv ee tx qk qr qw (upd da (468 + aw_rkn c i n) (nI i)) wa fi) :
    ∀ (d k : Nat), k + d = n → wY_rise_48 post J (nI y) (nI i) cn lv ee tx qk qr qw da wa fi (d + 1) (nI (aw_rkn c i k)) (nI k) := by
  intro d
  have hok := ky.2.1
  have hb := aw_okb hok
  have m1 := aw_okm hok (by decide)
  have fy : aw_fl 1 m n = n := rfl
  induction d with
  | zero =>
    intro k hk
    have e : k = n := by omega
    subst e
    have hlt := aw_rklt (c := c) hi
    exact And.intro (yk_in ky) (br_t (by rw [yk_qr ky, fy]; exact nI_le (by omega) (by omega)) (yl_mk (by omega) (nm_r (nI_1 i) K)))
  | succ d ih =>
    intro k hk
    have I1 := ih (k + 1) (by omega)
    refine And.intro (yk_in ky) (br_f (by rw [yk_qr ky, fy]; exact nI_ge (by omega) (by omega)) (yl_num (k := k) ky (by rw [m1]; omega) (yl_num (k := i) ky (by rw [m1]; omega) ?_)))
    have yes : aw_bf c k i → wY_rise_97 post J (wY_rise_48 post J (nI y) (nI i) cn lv ee tx qk qr qw da wa fi (d + 1)) (nI y) (nI i) (nI (aw_rkn c i k)) (nI k) cn lv ee tx qk qr qw da wa fi := by
      intro b
      rw [aw_rks b] at I1
      exact br_f (by decide) (nm_r (nI_1 _) (nm_r (nI_1 k) I1))
    have no : ¬ aw_bf c k i → wY_rise_101 post J (wY_rise_48 post J (nI y) (nI i) cn lv ee tx qk qr qw da wa fi (d + 1)) (nI y) (nI i) (nI (aw_rkn c i k)) (nI k) cn lv ee tx qk qr qw da wa fi := by
      intro b
      rw [aw_rkk b] at I1
      exact br_t rfl (nm_r (nI_1 k) I1)
    by_cases l : c k < c i
    · exact br_t l (yes (Or.inl l))
    · refine br_f l (yl_num (k := k) ky (by rw [m1]; omega) (yl_num (k := i) ky (by rw [m1]; omega) ?_))
      by_cases l1 : c k = c i
      · refine br_t l1 (pk_le i k (fun l2 => no ?_) (fun l2 => yes (Or.inr ⟨l1, l2⟩)))
        intro b
        rcases b with b | b
        · exact l b
        · omega
      · refine br_f l1 (no ?_)
        intro b
        rcases b with b | b
        · exact l b
        · exact l1 b.1
theorem yp_rise (ky : yw_K qk qr qw da y r m n c) (hy : y ≠ 13) (K : yw_O post (aq_rise (r, m, n, c)) cn lv ee tx qk qr qw da wa fi) : wpY_rise post (cn, lv, ee, tx, qk, qr, qw, da, wa, fi) (nI y) := by
  have hok := ky.2.1
  have hb := aw_okb hok
  refine And.intro (yk_in ky) (pk_eq r 1 (fun z => ?_) (fun z => yo_er K (if_neg z)) (yk_qk ky))
  subst z
  have fy : aw_fl 1 m n = n := rfl
  refine And.intro (yk_in ky) (yl_sh (r := 1) (m := 1) (n := n) (aw_ok1 hb.2.2.1) (fun _ => (yk_qr ky).trans rfl) (fun q => absurd q (by omega)) ?_)
  intro qk qr qw S
  refine loop_0 (fun n1 i da => wY_rise_33 post (nI y) n1 (nI i) cn lv ee tx qk qr qw da wa fi) (fun i da' => (∀ q, (q < 468 ∨ 504 ≤ q) → da' q = da q) ∧ ∀ j, j < i → da' (468 + aw_rkn c j n) = nI j) n da ⟨fun _ _ => rfl, fun j hj => absurd hj (by omega)⟩ ?_ ?_
  · intro n1 da' I
    have S' := ys_da S I.1
    have k1 := ys_k S' ky hy
    refine And.intro (yk_in k1) (br_t (by rw [yk_qr k1, fy]; exact nI_le (Nat.le_refl _) (by omega)) (yo_ok K rfl S'.1 (ys_done S' (fun q hq => ?_))))
    obtain ⟨g1, g2⟩ := aw_grs (c := c) (show q < n by omega)
    have := I.2 _ g1
    rw [g2] at this
    exact this
  · intro n1 i da' hi I ih
    have S' := ys_da S I.1
    have k1 := ys_k S' ky hy
    have hlt := aw_rklt (c := c) hi
    refine And.intro (yk_in k1) (br_f (by rw [yk_qr k1, fy]; exact nI_ge hi (by omega)) ⟨n + 1, yr_48 k1 hi (ih _ ⟨fun q hq => ?_, fun j hj => ?_⟩) n 0 (by omega)⟩)
    · rw [pk_un (aw_out (by omega) hq)]; exact I.1 q hq
    · by_cases zz : j = i
      · subst zz; exact pk_us
      · rw [pk_un (fun q => zz (aw_rki (k := n) (by omega) hi (Nat.add_left_cancel q)))]; exact I.2 j (by omega)
theorem yf_tr {qk1 qr1 qw1 da1 : Nat → Int32} (h : yw_F qk0 qr0 qw0 da0 qk1 qr1 qw1 da1) (h' : yw_F qk1 qr1 qw1 da1 qk qr qw da) : yw_F qk0 qr0 qw0 da0 qk qr qw da := by
  refine ⟨fun p hp => ?_, fun q hq => (h'.2 q hq).trans (h.2 q hq)⟩
  obtain ⟨a1, a2, a3⟩ := h.1 p hp
  obtain ⟨b1, b2, b3⟩ := h'.1 p hp
  exact ⟨b1.trans a1, b2.trans a2, b3.trans a3⟩
theorem yp_jn1 (ky : yw_K qk qr qw da y r m n c) (hy : y ≠ 13) (K : yw_O post (aq_jn1 (r, m, n, c)) cn lv ee tx qk qr qw da wa fi) : wpY_ravel post (cn, lv, ee, tx, qk, qr, qw, da, wa, fi) (nI y) := by
  have hb := aw_okb ky.2.1
  unfold wpY_ravel
  refine yl_cp ky hy ?_
  intro qk1 qr1 qw1 da1 S E
  refine yl_size (ys_k S ky hy) ?_
  refine yl_sh (r := 1) (m := 1) (n := m * n) (aw_ok1 hb.2.2.2) (fun _ => rfl) (fun q => absurd q (by omega)) ?_
  intro qk2 qr2 qw2 S2
  exact yo_ok K rfl (yf_tr S.1 S2.1) (ys_done S2 (fun k hk => E k (by omega)))
theorem yp_sh1 (ky : yw_K qk qr qw da y r m n c) (hy : y ≠ 13) (K : yw_O post (aq_sh1 (r, m, n, c)) cn lv ee tx qk qr qw da wa fi) : wpY_lengths post (cn, lv, ee, tx, qk, qr, qw, da, wa, fi) (nI y) := by
  have hok := ky.2.1
  have hb := aw_okb hok
  refine And.intro (yk_in ky) (yl_sh (r := 1) (m := 1) (n := r) (aw_ok1 (by omega)) (fun _ => yk_qk ky) (fun q => absurd q (by omega)) ?_)
  intro qk1 qr1 qw1 S
  have k1 := ys_k S ky hy
  refine And.intro (yk_in k1) ?_
  rw [yk_qr k1]
  refine yl_mk (k := 0) (by decide) ?_
  refine And.intro (yk_in k1) ?_
  rw [yk_qw k1]
  refine yl_mk (k := 1) (by decide) ?_
  have S' := ys_da (da' := upd (upd da (468 + 0) (nI (aw_fl r m n))) (468 + 1) (nI (aw_wd r n))) S (fun q hq => by rw [pk_un (by omega), pk_un (by omega)])
  refine yo_ok K rfl S'.1 (ys_done S' (fun k hk => ?_))
  have h2 : k = 0 ∨ (k = 1 ∧ r = 2) := by omega
  rcases h2 with e | ⟨e, e2⟩
  · subst e; rw [pk_un (by omega), pk_us]; rfl
  · subst e; rw [pk_us]; unfold aw_wd; rw [if_pos e2]; rfl
theorem yp_tk1 (ky : yw_K qk qr qw da y r m n c) (K : yw_O post (aq_tk1 (r, m, n, c)) cn lv ee tx qk qr qw da wa fi) : wpY_first post (cn, lv, ee, tx, qk, qr, qw, da, wa, fi) (nI y) := by
  have hb := aw_okb ky.2.1
  have W : ∀ v : Int32, v = (if m * n = 0 then 0 else c 0) → wY_first_20 post v 0 cn lv ee tx qk qr qw da wa fi := by
    intro v ev
    unfold wY_first_20
    refine yl_mk (k := 0) (by decide) ?_
    refine yl_sh (r := 0) (m := 1) (n := 1) aw_ok0 (fun q => absurd rfl q) (fun q => absurd q (by omega)) ?_
    intro qk1 qr1 qw1 S
    have F1 : yw_F qk qr qw da qk1 qr1 qw1 (upd da (468 + 0) v) := yf_tr ⟨fun _ _ => ⟨rfl, rfl, rfl⟩, fun q hq => pk_un (by omega)⟩ S.1
    refine yo_ok K rfl F1 (ys_done S (fun k hk => ?_))
    have e : k = 0 := by omega
    subst e
    rw [pk_us]; exact ev
  unfold wpY_first
  refine yl_size ky ?_
  refine pk_eq (m * n) 0 (fun z => W 0 (by rw [if_pos z])) (fun z => yl_num (k := 0) ky (by omega) (W _ (by rw [if_neg z])))
end
end
section
/-! 26: the reference applies functions -/
def rn_FV (fm a b : Nat) : Prop := (fm = 0 ∧ 20 ≤ a ∧ a ≤ 27 ∧ b = 0) ∨ (fm = 1 ∧ 30 ≤ a ∧ a ≤ 38 ∧ b = 0) ∨ ((fm = 2 ∨ fm = 3 ∨ fm = 4) ∧ 20 ≤ a ∧ a ≤ 27 ∧ b = 0) ∨ (fm = 5 ∧ 20 ≤ a ∧ a ≤ 27 ∧ 20 ≤ b ∧ b ≤ 27)
def rn_Y (fm a b : Nat) : Nat := if fm ≤ 1 then a else if fm = 5 then 40000 + 100 * a + b else (fm - 1) * 10000 + a
theorem rn_Y0 {fm a b : Nat} (h : rn_FV fm a b) : rn_Y fm a b = (fm - 1) * 10000 + (if fm = 5 then 100 * a + b else a) := by
  unfold rn_Y
  unfold rn_FV at h
  by_cases h1 : fm ≤ 1
  · rw [if_pos h1, if_neg (by omega)]
    have : fm - 1 = 0 := by omega
    rw [this]; omega
  · rw [if_neg h1]
    by_cases h5 : fm = 5
    · subst h5; rw [if_pos rfl, if_pos rfl]; omega
    · rw [if_neg h5, if_neg h5]
theorem rn_FVb {fm a b : Nat} (h : rn_FV fm a b) : fm ≤ 5 ∧ a < 100 ∧ b < 100 := by
  unfold rn_FV at h
  omega
theorem rn_Yb {fm a b : Nat} (h : rn_FV fm a b) : rn_Y fm a b < 50000 := by
  rw [rn_Y0 h]
  have := rn_FVb h
  split <;> omega
theorem rn_Y1 {fm a b : Nat} (h : rn_FV fm a b) : nI (rn_Y fm a b) / 10000 = nI (fm - 1) := by
  have hb := rn_Yb h
  have e := pk_div (a := rn_Y fm a b) (d := 10000) (by omega) (by omega) (by omega)
  refine e.trans (congrArg nI ?_)
  rw [rn_Y0 h]
  have := rn_FVb h
  unfold rn_FV at h
  split <;> omega
theorem rn_Y2 {fm a b : Nat} (h : rn_FV fm a b) : nI (rn_Y fm a b) - nI (rn_Y fm a b) / 100 * 100 = nI (if fm = 5 then b else a) := by
  have hb := rn_Yb h
  have e := pk_rem (a := rn_Y fm a b) (d := 100) (by omega) (by omega) (by omega)
  refine e.trans (congrArg nI ?_)
  rw [rn_Y0 h]
  have := rn_FVb h
  unfold rn_FV at h
  by_cases h5 : fm = 5
  · rw [if_pos h5, if_pos h5]; omega
  · rw [if_neg h5, if_neg h5]; omega
theorem rn_Y3 {a b : Nat} (h : rn_FV 5 a b) : nI (rn_Y 5 a b) / 100 - nI (rn_Y 5 a b) / 100 / 100 * 100 = nI a := by
  have hb := rn_Yb h
  have e : nI (rn_Y 5 a b) / 100 = nI (rn_Y 5 a b / 100) := pk_div (d := 100) (by omega) (by omega) (by omega)
  rw [e]
  have e2 := pk_rem (a := rn_Y 5 a b / 100) (d := 100) (by omega) (by omega) (by omega)
  refine e2.trans (congrArg nI ?_)
  rw [rn_Y0 h, if_pos rfl]
  have := rn_FVb h
  omega
section
variable {cn lv ee : Int32} {tx qk qr qw da wa fi : Nat → Int32} {x y r m n r' m' n' fm a b : Nat} {c c' : Nat → Int32} {post : SY → Prop}
theorem yu_one (h : rn_FV fm a b) (ky : yw_K qk qr qw da y r m n c) (hy : y ≠ 13) (K : yw_O post (aq_one fm a (r, m, n, c)) cn lv ee tx qk qr qw da wa fi) : wpY_applyOne post (cn, lv, ee, tx, qk, qr, qw, da, wa, fi) (nI (rn_Y fm a b)) (nI y) := by
  refine And.intro (by decide) (nm_r (rn_Y1 h) (And.intro (by decide) (nm_r (rn_Y2 h) ?_)))
  have hb := rn_FVb h
  rcases h with ⟨e, h1, h2, e2⟩ | ⟨e, h1, h2, e2⟩ | ⟨e, h1, h2, e2⟩ | ⟨e, h1, h2, h3, h4⟩
  · subst e e2
    refine br_f (by decide) (pk_eq a 35 (fun q => absurd q (by omega)) (fun _ => pk_eq a 37 (fun q => absurd q (by omega)) (fun _ => br_f (by decide) (br_f (by decide) (pk_le 30 a (fun q => absurd q (by omega)) (fun _ => ?_))))))
    exact yp_s1 h1 h2 ky hy K
  · subst e e2
    have d : a = 30 ∨ a = 31 ∨ a = 32 ∨ a = 33 ∨ a = 34 ∨ a = 35 ∨ a = 36 ∨ a = 37 ∨ a = 38 := by omega
    rcases d with e | e | e | e | e | e | e | e | e
    · subst e
      refine br_f (by decide) (br_f (by decide) (br_f (by decide) (br_f (by decide) (br_f (by decide) (br_t (by decide) (br_f (by decide) (br_t (by decide) ?_)))))))
      exact yp_sh1 ky hy K
    · subst e
      refine br_f (by decide) (br_f (by decide) (br_f (by decide) (br_f (by decide) (br_f (by decide) (br_t (by decide) (br_f (by decide) (br_f (by decide) ?_)))))))
      exact yp_cn1 ky hy K
    · subst e
      refine br_f (by decide) (br_f (by decide) (br_f (by decide) (br_f (by decide) (br_f (by decide) (br_t (by decide) (br_t (by decide) (br_f (by decide) (br_t (by decide) ?_))))))))
      exact yp_turn ky hy K
    · subst e
      refine br_f (by decide) (br_f (by decide) (br_f (by decide) (br_f (by decide) (br_f (by decide) (br_t (by decide) (br_t (by decide) (br_f (by decide) (br_f (by decide) ?_))))))))
      exact yp_bk1 ky hy K
    · subst e
      refine br_f (by decide) (br_f (by decide) (br_f (by decide) (br_f (by decide) (br_f (by decide) (br_t (by decide) (br_t (by decide) (br_t (by decide) (br_t (by decide) ?_))))))))
      exact yp_tk1 ky K
    · subst e
      exact br_f (by decide) (br_t (by decide) (yo_er K rfl))
    · subst e
      refine br_f (by decide) (br_f (by decide) (br_f (by decide) (br_f (by decide) (br_f (by decide) (br_t (by decide) (br_t (by decide) (br_t (by decide) (br_f (by decide) (br_t (by decide) ?_)))))))))
      exact yp_jn1 ky hy K
    · subst e
      exact br_f (by decide) (br_f (by decide) (br_t (by decide) (yo_er K rfl)))
    · subst e
      refine br_f (by decide) (br_f (by decide) (br_f (by decide) (br_f (by decide) (br_f (by decide) (br_t (by decide) (br_t (by decide) (br_t (by decide) (br_f (by decide) (br_f (by decide) ?_)))))))))
      exact yp_rise ky hy K
  · rcases e with e | e | e
    · subst e e2
      refine br_f (by decide) (pk_eq a 35 (fun q => absurd q (by omega)) (fun _ => pk_eq a 37 (fun q => absurd q (by omega)) (fun _ => br_t (by decide) ?_)))
      exact yp_fold h1 h2 ky hy K
    · subst e e2
      refine br_f (by decide) (pk_eq a 35 (fun q => absurd q (by omega)) (fun _ => pk_eq a 37 (fun q => absurd q (by omega)) (fun _ => br_f (by decide) (br_t (by decide) ?_))))
      exact yp_scan h1 h2 ky hy K
    · subst e e2
      exact br_t (by decide) (yo_er K rfl)
  · subst e
    exact br_t (by decide) (yo_er K rfl)
theorem yu_two (h : rn_FV fm a b) (kx : yw_K qk qr qw da x r m n c) (hx : x ≠ 13) (ky : yw_K qk qr qw da y r' m' n' c') (hy : y ≠ 13) (K : yw_O post (aq_two fm a b (r, m, n, c) (r', m', n', c')) cn lv ee tx qk qr qw da wa fi) : wpY_applyTwo post (cn, lv, ee, tx, qk, qr, qw, da, wa, fi) (nI (rn_Y fm a b)) (nI x) (nI y) := by
  refine And.intro (by decide) (nm_r (rn_Y1 h) (And.intro (by decide) (nm_r (rn_Y2 h) ?_)))
  have hb := rn_FVb h
  have hF := h
  rcases h with ⟨e, h1, h2, e2⟩ | ⟨e, h1, h2, e2⟩ | ⟨e, h1, h2, e2⟩ | ⟨e, h1, h2, h3, h4⟩
  · subst e e2
    refine br_f (by decide) (br_f (by decide) (pk_eq a 32 (fun q => absurd q (by omega)) (fun _ => pk_eq a 38 (fun q => absurd q (by omega)) (fun _ => br_f (by decide) (br_f (by decide) (pk_le 30 a (fun q => absurd q (by omega)) (fun _ => ?_)))))))
    exact yp_s2 h1 h2 kx hx ky hy K
  · subst e e2
    have d : a = 30 ∨ a = 31 ∨ a = 32 ∨ a = 33 ∨ a = 34 ∨ a = 35 ∨ a = 36 ∨ a = 37 ∨ a = 38 := by omega
    rcases d with e | e | e | e | e | e | e | e | e
    · subst e
      refine br_f (by decide) (br_f (by decide) (br_f (by decide) (br_f (by decide) (br_f (by decide) (br_f (by decide) (br_t (by decide) (br_f (by decide) (br_t (by decide) ?_))))))))
      exact yp_sh2 kx hx ky hy K
    · subst e
      refine br_f (by decide) (br_f (by decide) (br_f (by decide) (br_f (by decide) (br_f (by decide) (br_f (by decide) (br_t (by decide) (br_f (by decide) (br_f (by decide) ?_))))))))
      exact yp_cn2 kx hx ky hy K
    · subst e
      exact br_f (by decide) (br_f (by decide) (br_t (by decide) (yo_er K rfl)))
    · subst e
      refine br_f (by decide) (br_f (by decide) (br_f (by decide) (br_f (by decide) (br_f (by decide) (br_f (by decide) (br_t (by decide) (br_t (by decide) (br_t (by decide) (And.intro (yk_in kx) ?_)))))))))
      have bx := aw_okb kx.2.1
      have W : ∀ z0 : Int32, z0 = (if r = 0 then ee else -13) → wY_applyTwo_165 post (nI x) (nI y) z0 cn lv ee tx qk qr qw da wa fi := by
        intro z0 ez
        subst ez
        unfold wY_applyTwo_165
        refine yl_raw (k := 0) kx.1 (by decide) ?_
        refine yp_bk2 kx ky hy (fun z => ?_) K
        obtain ⟨z1, z2⟩ := aw_okz kx.2.1 z
        exact kx.2.2.2.2.2 0 (by rw [z1, z2]; decide)
      exact pk_eq r 0 (fun z => W _ (by rw [if_pos z])) (fun z => W _ (by rw [if_neg z])) (yk_qk kx)
    · subst e
      refine br_f (by decide) (br_f (by decide) (br_f (by decide) (br_f (by decide) (br_f (by decide) (br_f (by decide) (br_t (by decide) (br_t (by decide) (br_f (by decide) (br_f (by decide) (br_t (by decide) ?_))))))))))
      exact yp_tk2 kx ky hy K
    · subst e
      refine br_f (by decide) (br_f (by decide) (br_f (by decide) (br_f (by decide) (br_f (by decide) (br_f (by decide) (br_t (by decide) (br_t (by decide) (br_f (by decide) (br_f (by decide) (br_f (by decide) ?_))))))))))
      exact yp_drop kx ky hy K
    · subst e
      refine br_f (by decide) (br_f (by decide) (br_f (by decide) (br_f (by decide) (br_f (by decide) (br_f (by decide) (br_t (by decide) (br_t (by decide) (br_f (by decide) (br_t (by decide) (br_t (by decide) ?_))))))))))
      exact yp_jn2 kx hx ky hy K
    · subst e
      refine br_f (by decide) (br_f (by decide) (br_f (by decide) (br_f (by decide) (br_f (by decide) (br_f (by decide) (br_t (by decide) (br_t (by decide) (br_f (by decide) (br_t (by decide) (br_f (by decide) ?_))))))))))
      exact yp_pick kx hx ky hy K
    · subst e
      exact br_f (by decide) (br_f (by decide) (br_f (by decide) (br_t (by decide) (yo_er K rfl))))
  · rcases e with e | e | e
    · subst e e2
      exact br_t (by decide) (yo_er K rfl)
    · subst e e2
      exact br_f (by decide) (br_t (by decide) (yo_er K rfl))
    · subst e e2
      refine br_f (by decide) (br_f (by decide) (pk_eq a 32 (fun q => absurd q (by omega)) (fun _ => pk_eq a 38 (fun q => absurd q (by omega)) (fun _ => br_t (by decide) ?_))))
      exact yp_outer h1 h2 kx hx ky hy K
  · subst e
    refine br_f (by decide) (br_f (by decide) (pk_eq b 32 (fun q => absurd q (by omega)) (fun _ => pk_eq b 38 (fun q => absurd q (by omega)) (fun _ => br_f (by decide) (br_t (by decide) (And.intro (by decide) (And.intro (by decide) ?_)))))))
    rw [rn_Y3 hF]
    exact yp_inner h1 h2 h3 h4 kx hx ky hy K
end
end
section
/-! 30: statements, in plain Lean -/
def sy_ok (t : Nat) : Prop := t ≤ 15 ∨ (20 ≤ t ∧ t ≤ 27) ∨ (30 ≤ t ∧ t ≤ 38) ∨ (40 ≤ t ∧ t ≤ 43) ∨ (50 ≤ t ∧ t ≤ 52)
/-- the first N tokens of a text, as naturals -/
def sy_T (tx : Nat → Int32) (N : Nat) (tk : Nat → Nat) : Prop := N ≤ 30 ∧ ∀ i, i < N → tx i = nI (tk i) ∧ sy_ok (tk i)
abbrev sy_F : Type := Nat × Nat × Nat
abbrev sy_C : Type := Nat × Nat × Nat × Nat
/-- tokens s to q - 1 are a function -/
def sy_fn (tk : Nat → Nat) (s q : Nat) (F : sy_F) : Prop :=
  (q = s + 1 ∧ 30 ≤ tk s ∧ tk s ≤ 38 ∧ F = (1, tk s, 0)) ∨
  (q = s + 2 ∧ 20 ≤ tk s ∧ tk s ≤ 27 ∧ tk (s + 1) = 40 ∧ F = (2, tk s, 0)) ∨
  (q = s + 2 ∧ 20 ≤ tk s ∧ tk s ≤ 27 ∧ tk (s + 1) = 41 ∧ F = (3, tk s, 0)) ∨
  (q = s + 2 ∧ tk s = 42 ∧ 20 ≤ tk (s + 1) ∧ tk (s + 1) ≤ 27 ∧ F = (4, tk (s + 1), 0)) ∨
  (q = s + 3 ∧ 20 ≤ tk s ∧ tk s ≤ 27 ∧ tk (s + 1) = 43 ∧ 20 ≤ tk (s + 2) ∧ tk (s + 2) ≤ 27 ∧ F = (5, tk s, tk (s + 2))) ∨
  (q = s + 1 ∧ 20 ≤ tk s ∧ tk s ≤ 27 ∧ (s = 0 ∨ (tk (s - 1) ≠ 42 ∧ tk (s - 1) ≠ 43)) ∧ F = (0, tk s, 0))
def sy_fp (tk : Nat → Nat) (s q : Nat) : Prop :=
  (q = s + 1 ∧ 30 ≤ tk s ∧ tk s ≤ 38) ∨ (q = s + 1 ∧ 20 ≤ tk s ∧ tk s ≤ 27) ∨
  (q = s + 2 ∧ 20 ≤ tk s ∧ tk s ≤ 27 ∧ (tk (s + 1) = 40 ∨ tk (s + 1) = 41)) ∨
  (q = s + 2 ∧ tk s = 42 ∧ 20 ≤ tk (s + 1) ∧ tk (s + 1) ≤ 27) ∨
  (q = s + 3 ∧ 20 ≤ tk s ∧ tk s ≤ 27 ∧ tk (s + 1) = 43 ∧ 20 ≤ tk (s + 2) ∧ tk (s + 2) ≤ 27)
theorem sy_fnp {tk : Nat → Nat} {s q : Nat} {F : sy_F} (h : sy_fn tk s q F) : sy_fp tk s q := by
  rcases h with ⟨h1, h2, h3, _⟩ | ⟨h1, h2, h3, h4, _⟩ | ⟨h1, h2, h3, h4, _⟩ | ⟨h1, h2, h3, h4, _⟩ | ⟨h1, h2, h3, h4, h5, h6, _⟩ | ⟨h1, h2, h3, _, _⟩
  · exact Or.inl ⟨h1, h2, h3⟩
  · exact Or.inr (Or.inr (Or.inl ⟨h1, h2, h3, Or.inl h4⟩))
  · exact Or.inr (Or.inr (Or.inl ⟨h1, h2, h3, Or.inr h4⟩))
  · exact Or.inr (Or.inr (Or.inr (Or.inl ⟨h1, h2, h3, h4⟩)))
  · exact Or.inr (Or.inr (Or.inr (Or.inr ⟨h1, h2, h3, h4, h5, h6⟩)))
  · exact Or.inr (Or.inl ⟨h1, h2, h3⟩)
theorem sy_fnV {tk : Nat → Nat} {s q : Nat} {F : sy_F} (h : sy_fn tk s q F) : rn_FV F.1 F.2.1 F.2.2 := by
  unfold rn_FV
  rcases h with ⟨h1, h2, h3, e⟩ | ⟨h1, h2, h3, h4, e⟩ | ⟨h1, h2, h3, h4, e⟩ | ⟨h1, h2, h3, h4, e⟩ | ⟨h1, h2, h3, h4, h5, h6, e⟩ | ⟨h1, h2, h3, _, e⟩
  · subst e; exact Or.inr (Or.inl ⟨rfl, h2, h3, rfl⟩)
  · subst e; exact Or.inr (Or.inr (Or.inl ⟨Or.inl rfl, h2, h3, rfl⟩))
  · subst e; exact Or.inr (Or.inr (Or.inl ⟨Or.inr (Or.inl rfl), h2, h3, rfl⟩))
  · subst e; exact Or.inr (Or.inr (Or.inl ⟨Or.inr (Or.inr rfl), h3, h4, rfl⟩))
  · subst e; exact Or.inr (Or.inr (Or.inr ⟨rfl, h2, h3, h5, h6⟩))
  · subst e; exact Or.inl ⟨rfl, h2, h3, rfl⟩
/-- an operand ends ahead of place s -/
def sy_lo (tk : Nat → Nat) (s : Nat) : Prop := 0 < s ∧ (tk (s - 1) ≤ 15 ∨ tk (s - 1) = 51)
def sy_two (w : Option sy_F) (cs : List sy_C) : List sy_C := match w with | none => cs | some F => (4, F) :: cs
/-- what reading from the right end makes of the first q tokens -/
def sy_Clo (tk : Nat → Nat) (S : Nat → Bool → List (Option sy_F) → List sy_C → Prop) : Prop :=
  S 0 false [none] [] ∧
  (∀ q w ws cs, tk q = 51 → S q true (none :: w :: ws) cs → S (q + 1) true (w :: ws) cs) ∧
  (∀ q w ws cs, 10 ≤ tk q → tk q ≤ 15 → S q false (none :: ws) cs → S (q + 1) true (w :: ws) ((1, tk q - 10, 0, 0) :: sy_two w cs)) ∧
  (∀ s q w ws cs, s < q → (∀ i, s ≤ i → i < q → tk i ≤ 9) → (s = 0 ∨ 10 ≤ tk (s - 1)) → S s false (none :: ws) cs → S q true (w :: ws) ((0, s, q - s, 0) :: sy_two w cs)) ∧
  (∀ q w ws cs, tk q = 50 → S q false (none :: ws) cs → S (q + 1) false (none :: w :: ws) (sy_two w cs)) ∧
  (∀ q ws cs, tk (q + 1) = 52 → 10 ≤ tk q → tk q ≤ 15 → S q false ws cs → S (q + 2) false ws ((2, tk q - 10, 0, 0) :: cs)) ∧
  (∀ s q F ws cs, sy_fn tk s q F → sy_lo tk s → S s true (some F :: ws) cs → S q false (none :: ws) cs) ∧
  (∀ s q F ws cs, sy_fn tk s q F → ¬ sy_lo tk s → S s false ws cs → S q false ws ((3, F) :: cs))
def sy_CS (tk : Nat → Nat) (q : Nat) (b : Bool) (ws : List (Option sy_F)) (cs : List sy_C) : Prop := ∀ S, sy_Clo tk S → S q b ws cs
theorem sy_cs (tk : Nat → Nat) : sy_Clo tk (sy_CS tk) := by
  refine ⟨fun S h => h.1, ?_, ?_, ?_, ?_, ?_, ?_, ?_⟩
  · exact fun q w ws cs a H S h => h.2.1 q w ws cs a (H S h)
  · exact fun q w ws cs a a2 H S h => h.2.2.1 q w ws cs a a2 (H S h)
  · exact fun s q w ws cs a a2 a3 H S h => h.2.2.2.1 s q w ws cs a a2 a3 (H S h)
  · exact fun q w ws cs a H S h => h.2.2.2.2.1 q w ws cs a (H S h)
  · exact fun q ws cs a a2 a3 H S h => h.2.2.2.2.2.1 q ws cs a a2 a3 (H S h)
  · exact fun s q F ws cs a a2 H S h => h.2.2.2.2.2.2.1 s q F ws cs a a2 (H S h)
  · exact fun s q F ws cs a a2 H S h => h.2.2.2.2.2.2.2 s q F ws cs a a2 (H S h)
/-! the same from the left: places, whether an operand ends there, brackets not closed -/
def sy_E (tk : Nat → Nat) (N p : Nat) (b : Bool) (d p' : Nat) (b' : Bool) (d' : Nat) : Prop :=
  p' ≤ N ∧ (
  (p' = p + 1 ∧ tk p ≤ 9 ∧ (b = false ∨ (0 < p ∧ tk (p - 1) ≤ 9)) ∧ b' = true ∧ d' = d) ∨
  (p' = p + 1 ∧ 10 ≤ tk p ∧ tk p ≤ 15 ∧ b = false ∧ b' = true ∧ d' = d) ∨
  (p' = p + 2 ∧ 10 ≤ tk p ∧ tk p ≤ 15 ∧ tk (p + 1) = 52 ∧ b = false ∧ b' = false ∧ d' = d) ∨
  (p' = p + 1 ∧ tk p = 50 ∧ b = false ∧ b' = false ∧ d' = d + 1) ∨
  (p' = p + 1 ∧ tk p = 51 ∧ b = true ∧ b' = true ∧ d = d' + 1) ∨
  (sy_fp tk p p' ∧ b' = false ∧ d' = d))
def sy_R (tk : Nat → Nat) (N p : Nat) (b : Bool) (d p' : Nat) (b' : Bool) (d' : Nat) : Prop :=
  ∀ S : Nat → Bool → Nat → Prop, S p b d → (∀ p1 b1 d1 p2 b2 d2, S p1 b1 d1 → sy_E tk N p1 b1 d1 p2 b2 d2 → S p2 b2 d2) → S p' b' d'
section
variable {tk : Nat → Nat} {N p d p' d' p1 d1 : Nat} {b b' b1 : Bool}
theorem sy_rf : sy_R tk N p b d p b d := fun _ h _ => h
theorem sy_sn (h : sy_R tk N p b d p1 b1 d1) (e : sy_E tk N p1 b1 d1 p' b' d') : sy_R tk N p b d p' b' d' := fun S h0 hs => hs _ _ _ _ _ _ (h S h0 hs) e
theorem sy_hd (e : sy_E tk N p b d p1 b1 d1) (h : sy_R tk N p1 b1 d1 p' b' d') : sy_R tk N p b d p' b' d' := fun S h0 hs => h S (hs _ _ _ _ _ _ h0 e) hs
/-- the last step -/
theorem sy_tl (h : sy_R tk N p b d p' b' d') : (p' = p ∧ b' = b ∧ d' = d) ∨ ∃ p1 b1 d1, sy_R tk N p b d p1 b1 d1 ∧ sy_E tk N p1 b1 d1 p' b' d' := by
  have := h (fun p' b' d' => sy_R tk N p b d p' b' d' ∧ ((p' = p ∧ b' = b ∧ d' = d) ∨ ∃ p1 b1 d1, sy_R tk N p b d p1 b1 d1 ∧ sy_E tk N p1 b1 d1 p' b' d')) ⟨sy_rf, Or.inl ⟨rfl, rfl, rfl⟩⟩ (fun p1 b1 d1 p2 b2 d2 I e => ⟨sy_sn I.1 e, Or.inr ⟨p1, b1, d1, I.1, e⟩⟩)
  exact this.2
/-- the first step -/
theorem sy_ft (h : sy_R tk N p b d p' b' d') : (p' = p ∧ b' = b ∧ d' = d) ∨ ∃ p1 b1 d1, sy_E tk N p b d p1 b1 d1 ∧ sy_R tk N p1 b1 d1 p' b' d' := by
  refine h (fun p' b' d' => (p' = p ∧ b' = b ∧ d' = d) ∨ ∃ p1 b1 d1, sy_E tk N p b d p1 b1 d1 ∧ sy_R tk N p1 b1 d1 p' b' d') (Or.inl ⟨rfl, rfl, rfl⟩) ?_
  intro p1 b1 d1 p2 b2 d2 I e
  rcases I with ⟨e1, e2, e3⟩ | ⟨p3, b3, d3, e3, r3⟩
  · subst e1 e2 e3; exact Or.inr ⟨p2, b2, d2, e, sy_rf⟩
  · exact Or.inr ⟨p3, b3, d3, e3, sy_sn r3 e⟩
end
/-- from the left end -/
def sy_Fw (tk : Nat → Nat) (N q : Nat) (b : Bool) (d : Nat) : Prop := sy_R tk N 0 false 0 q b d
section
variable {tk : Nat → Nat} {N q d : Nat} {b : Bool}
theorem fw_in (h : sy_Fw tk N q b d) : (q = 0 ∧ b = false ∧ d = 0) ∨ ∃ p b1 d1, sy_Fw tk N p b1 d1 ∧ sy_E tk N p b1 d1 q b d := sy_tl h
theorem fw_0 (h : sy_Fw tk N 0 b d) : b = false ∧ d = 0 := by
  rcases fw_in h with ⟨_, h1, h2⟩ | ⟨p, b1, d1, _, _, e⟩
  · exact ⟨h1, h2⟩
  · unfold sy_fp at e; omega
/-- the last token and the state -/
theorem fw_last (h : sy_Fw tk N (q + 1) b d) : (b = true ∧ (tk q ≤ 15 ∨ tk q = 51)) ∨ (b = false ∧ ((20 ≤ tk q ∧ tk q ≤ 27) ∨ (30 ≤ tk q ∧ tk q ≤ 38) ∨ tk q = 40 ∨ tk q = 41 ∨ tk q = 50 ∨ tk q = 52)) := by
  rcases fw_in h with ⟨h0, _, _⟩ | ⟨p, b1, d1, _, _, e⟩
  · omega
  · rcases e with ⟨e1, e2, _, e3, _⟩ | ⟨e1, e2, e2', _, e3, _⟩ | ⟨e1, _, _, e2, _, e3, _⟩ | ⟨e1, e2, _, e3, _⟩ | ⟨e1, e2, _, e3, _⟩ | ⟨e1, e3, _⟩
    · have : q = p := by omega
      subst this; exact Or.inl ⟨e3, Or.inl (by omega)⟩
    · have : q = p := by omega
      subst this; exact Or.inl ⟨e3, Or.inl (by omega)⟩
    · have : q = p + 1 := by omega
      subst this; exact Or.inr ⟨e3, by omega⟩
    · have : q = p := by omega
      subst this; exact Or.inr ⟨e3, by omega⟩
    · have : q = p := by omega
      subst this; exact Or.inl ⟨e3, Or.inr e2⟩
    · refine Or.inr ⟨e3, ?_⟩
      rcases e1 with ⟨a1, a2, a3⟩ | ⟨a1, a2, a3⟩ | ⟨a1, a2, a3, a4⟩ | ⟨a1, a2, a3, a4⟩ | ⟨a1, a2, a3, a4, a5, a6⟩
      · have : q = p := by omega
        subst this; omega
      · have : q = p := by omega
        subst this; omega
      · have : q = p + 1 := by omega
        subst this; omega
      · have : q = p + 1 := by omega
        subst this; omega
      · have : q = p + 2 := by omega
        subst this; omega
theorem fw_lo (h : sy_Fw tk N q b d) : b = true ↔ sy_lo tk q := by
  unfold sy_lo
  cases q with
  | zero =>
    have := (fw_0 h).1
    subst this
    exact ⟨fun z => (nomatch z), fun z => absurd z.1 (by omega)⟩
  | succ q =>
    rcases fw_last h with ⟨h1, h2⟩ | ⟨h1, h2⟩
    · subst h1; exact ⟨fun _ => ⟨by omega, h2⟩, fun _ => rfl⟩
    · subst h1; refine ⟨fun z => (nomatch z), fun z => ?_⟩
      have := z.2
      rw [Nat.add_sub_cancel] at this
      omega
theorem fw_le (h : sy_Fw tk N q b d) : q ≤ N := by
  rcases fw_in h with ⟨h0, _, _⟩ | ⟨p, b1, d1, _, e, _⟩
  · omega
  · exact e
theorem fw_cs (h : sy_Fw tk N (q + 1) b d) :
    (tk q ≤ 9 ∧ b = true ∧ ∃ b1, sy_Fw tk N q b1 d ∧ (b1 = false ∨ (0 < q ∧ tk (q - 1) ≤ 9))) ∨
    (10 ≤ tk q ∧ tk q ≤ 15 ∧ b = true ∧ sy_Fw tk N q false d) ∨
    (tk q = 52 ∧ b = false ∧ ∃ p, q = p + 1 ∧ 10 ≤ tk p ∧ tk p ≤ 15 ∧ sy_Fw tk N p false d) ∨
    (tk q = 50 ∧ b = false ∧ ∃ d1, d = d1 + 1 ∧ sy_Fw tk N q false d1) ∨
    (tk q = 51 ∧ b = true ∧ sy_Fw tk N q true (d + 1)) ∨
    (b = false ∧ ∃ p b1, sy_fp tk p (q + 1) ∧ sy_Fw tk N p b1 d) := by
  rcases fw_in h with ⟨h0, _, _⟩ | ⟨p, b1, d1, H, _, z⟩
  · omega
  · rcases z with ⟨e1, e2, e4, e3, e5⟩ | ⟨e1, e2, e2', e4, e3, e5⟩ | ⟨e1, e6, e7, e2, e4, e3, e5⟩ | ⟨e1, e2, e4, e3, e5⟩ | ⟨e1, e2, e4, e3, e5⟩ | ⟨e1, e3, e5⟩
    · have : q = p := by omega
      subst this; subst e5; exact Or.inl ⟨e2, e3, b1, H, e4⟩
    · have : q = p := by omega
      subst this; subst e5 e4; exact Or.inr (Or.inl ⟨e2, e2', e3, H⟩)
    · have : q = p + 1 := by omega
      subst this; subst e5 e4; exact Or.inr (Or.inr (Or.inl ⟨e2, e3, p, rfl, e6, e7, H⟩))
    · have : q = p := by omega
      subst this; subst e5 e4; exact Or.inr (Or.inr (Or.inr (Or.inl ⟨e2, e3, d1, rfl, H⟩)))
    · have : q = p := by omega
      subst this; subst e5 e4; exact Or.inr (Or.inr (Or.inr (Or.inr (Or.inl ⟨e2, e3, H⟩))))
    · subst e5; exact Or.inr (Or.inr (Or.inr (Or.inr (Or.inr ⟨e3, p, b1, e1, H⟩))))
/-- where a function ends -/
theorem fp_last {p : Nat} (h : sy_fp tk p (q + 1)) : (20 ≤ tk q ∧ tk q ≤ 27) ∨ (30 ≤ tk q ∧ tk q ≤ 38) ∨ tk q = 40 ∨ tk q = 41 := by
  rcases h with ⟨a1, a2, a3⟩ | ⟨a1, a2, a3⟩ | ⟨a1, a2, a3, a4⟩ | ⟨a1, a2, a3, a4⟩ | ⟨a1, a2, a3, a4, a5, a6⟩
  · have : q = p := by omega
    subst this; omega
  · have : q = p := by omega
    subst this; omega
  · have : q = p + 1 := by omega
    subst this; omega
  · have : q = p + 1 := by omega
    subst this; omega
  · have : q = p + 2 := by omega
    subst this; omega
theorem fw_51 (h : sy_Fw tk N (q + 1) true d) (e : tk q = 51) : sy_Fw tk N q true (d + 1) := by
  rcases fw_cs h with ⟨h1, _⟩ | ⟨h1, h2, _⟩ | ⟨_, h2, _⟩ | ⟨_, h2, _⟩ | ⟨_, _, H⟩ | ⟨h2, _⟩
  · omega
  · omega
  · exact nomatch h2
  · exact nomatch h2
  · exact H
  · exact nomatch h2
theorem fw_name (h : sy_Fw tk N (q + 1) true d) (e : 10 ≤ tk q) (e' : tk q ≤ 15) : sy_Fw tk N q false d := by
  rcases fw_cs h with ⟨h1, _⟩ | ⟨h1, h2, _, H⟩ | ⟨_, h2, _⟩ | ⟨_, h2, _⟩ | ⟨h1, _⟩ | ⟨h2, _⟩
  · omega
  · exact H
  · exact nomatch h2
  · exact nomatch h2
  · omega
  · exact nomatch h2
theorem fw_bad (h : sy_Fw tk N (q + 1) true d) (e : 16 ≤ tk q) (e' : tk q ≠ 51) : False := by
  rcases fw_last h with ⟨_, h2⟩ | ⟨h1, _⟩
  · omega
  · exact nomatch h1
theorem fw_num : ∀ (k s : Nat), (∀ i, s ≤ i → i < s + k + 1 → tk i ≤ 9) → (s = 0 ∨ 10 ≤ tk (s - 1)) → sy_Fw tk N (s + k + 1) true d → sy_Fw tk N s false d := by
  intro k
  induction k with
  | zero =>
    intro s hs hm h
    rcases fw_cs h with ⟨h1, _, b1, H, h2⟩ | ⟨h1, _⟩ | ⟨_, h2, _⟩ | ⟨_, h2, _⟩ | ⟨h1, _⟩ | ⟨h2, _⟩
    · rcases h2 with h2 | ⟨h2, h3⟩
      · subst h2; exact H
      · have h3' : tk (s - 1) ≤ 9 := h3
        omega
    · have : tk s ≤ 9 := hs s (by omega) (by omega)
      omega
    · exact nomatch h2
    · exact nomatch h2
    · have : tk s ≤ 9 := hs s (by omega) (by omega)
      omega
    · exact nomatch h2
  | succ k ih =>
    intro s hs hm h
    have h9 := hs (s + k) (by omega) (by omega)
    rcases fw_cs h with ⟨h1, _, b1, H, h2⟩ | ⟨h1, _⟩ | ⟨_, h2, _⟩ | ⟨_, h2, _⟩ | ⟨h1, _⟩ | ⟨h2, _⟩
    · have h9' : tk (s + (k + 1) - 1) ≤ 15 := by
        have : s + (k + 1) - 1 = s + k := by omega
        rw [this]; omega
      have e : b1 = true := (fw_lo H).mpr ⟨by omega, Or.inl h9'⟩
      subst e
      exact ih s (fun i a b => hs i a (by omega)) hm H
    · have := hs (s + (k + 1)) (by omega) (by omega); omega
    · exact nomatch h2
    · exact nomatch h2
    · have := hs (s + (k + 1)) (by omega) (by omega); omega
    · exact nomatch h2
theorem fw_50 (h : sy_Fw tk N (q + 1) false d) (e : tk q = 50) : ∃ d1, d = d1 + 1 ∧ sy_Fw tk N q false d1 := by
  rcases fw_cs h with ⟨_, h2, _⟩ | ⟨_, _, h2, _⟩ | ⟨h1, _⟩ | ⟨_, _, H⟩ | ⟨_, h2, _⟩ | ⟨_, p, b1, h2, _⟩
  · exact nomatch h2
  · exact nomatch h2
  · omega
  · exact H
  · exact nomatch h2
  · have := fp_last h2; omega
theorem fw_52 (h : sy_Fw tk N (q + 1) false d) (e : tk q = 52) : ∃ p, q = p + 1 ∧ 10 ≤ tk p ∧ tk p ≤ 15 ∧ sy_Fw tk N p false d := by
  rcases fw_cs h with ⟨_, h2, _⟩ | ⟨_, _, h2, _⟩ | ⟨h1, _, H⟩ | ⟨h1, _⟩ | ⟨_, h2, _⟩ | ⟨_, p, b1, h2, _⟩
  · exact nomatch h2
  · exact nomatch h2
  · exact H
  · omega
  · exact nomatch h2
  · have := fp_last h2; omega
theorem fw_fn (h : sy_Fw tk N (q + 1) false d) (e : tk q ≠ 50) (e' : tk q ≠ 52) : ∃ p b1, sy_fp tk p (q + 1) ∧ sy_Fw tk N p b1 d := by
  rcases fw_cs h with ⟨_, h2, _⟩ | ⟨_, _, h2, _⟩ | ⟨h1, _⟩ | ⟨h1, _⟩ | ⟨_, h2, _⟩ | ⟨_, H⟩
  · exact nomatch h2
  · exact nomatch h2
  · exact absurd h1 e'
  · exact absurd h1 e
  · exact nomatch h2
  · exact H
theorem fw_n43 {p : Nat} (h : sy_Fw tk N (p + 1) b d) : tk p ≠ 42 ∧ tk p ≠ 43 := by
  have := fw_last h
  omega
/-- the function that reading from the right end takes is the one that stands there -/
theorem fw_fnu {s : Nat} {F : sy_F} (h : sy_Fw tk N (q + 1) false d) (hf : sy_fn tk s (q + 1) F) : ∃ b1, sy_Fw tk N s b1 d := by
  have l := fp_last (sy_fnp hf)
  obtain ⟨p, b1, hp, H⟩ := fw_fn h (by omega) (by omega)
  have hH : ∀ p1, p = p1 + 1 → tk p1 ≠ 42 ∧ tk p1 ≠ 43 := fun p1 e => by subst e; exact fw_n43 H
  suffices e : p = s by subst e; exact ⟨b1, H⟩
  rcases hf with ⟨h1, h2, h3, _⟩ | ⟨h1, h2, h3, h4, _⟩ | ⟨h1, h2, h3, h4, _⟩ | ⟨h1, h2, h3, h4, _⟩ | ⟨h1, h2, h3, h4, h5, h6, _⟩ | ⟨h1, h2, h3, h4, _⟩
  · have e0 : q = s := by omega
    subst e0
    rcases hp with ⟨a1, a2, a3⟩ | ⟨a1, a2, a3⟩ | ⟨a1, a2, a3, a4⟩ | ⟨a1, a2, a3, a4⟩ | ⟨a1, a2, a3, a4, a5, a6⟩
    · omega
    · omega
    · have : q = p + 1 := by omega
      subst this; omega
    · have : q = p + 1 := by omega
      subst this; omega
    · have : q = p + 2 := by omega
      subst this; omega
  · have e0 : q = s + 1 := by omega
    subst e0
    rcases hp with ⟨a1, a2, a3⟩ | ⟨a1, a2, a3⟩ | ⟨a1, a2, a3, a4⟩ | ⟨a1, a2, a3, a4⟩ | ⟨a1, a2, a3, a4, a5, a6⟩
    · have : p = s + 1 := by omega
      subst this; omega
    · have : p = s + 1 := by omega
      subst this; omega
    · omega
    · omega
    · have : s = p + 1 := by omega
      subst this; omega
  · have e0 : q = s + 1 := by omega
    subst e0
    rcases hp with ⟨a1, a2, a3⟩ | ⟨a1, a2, a3⟩ | ⟨a1, a2, a3, a4⟩ | ⟨a1, a2, a3, a4⟩ | ⟨a1, a2, a3, a4, a5, a6⟩
    · have : p = s + 1 := by omega
      subst this; omega
    · have : p = s + 1 := by omega
      subst this; omega
    · omega
    · omega
    · have : s = p + 1 := by omega
      subst this; omega
  · have e0 : q = s + 1 := by omega
    subst e0
    rcases hp with ⟨a1, a2, a3⟩ | ⟨a1, a2, a3⟩ | ⟨a1, a2, a3, a4⟩ | ⟨a1, a2, a3, a4⟩ | ⟨a1, a2, a3, a4, a5, a6⟩
    · have : p = s + 1 := by omega
      have := hH s this; omega
    · have : p = s + 1 := by omega
      have := hH s this; omega
    · omega
    · omega
    · have : s = p + 1 := by omega
      subst this; omega
  · have e0 : q = s + 2 := by omega
    subst e0
    rcases hp with ⟨a1, a2, a3⟩ | ⟨a1, a2, a3⟩ | ⟨a1, a2, a3, a4⟩ | ⟨a1, a2, a3, a4⟩ | ⟨a1, a2, a3, a4, a5, a6⟩
    · have : p = s + 2 := by omega
      have := hH (s + 1) this; omega
    · have : p = s + 2 := by omega
      have := hH (s + 1) this; omega
    · have : p = s + 1 := by omega
      subst this; omega
    · have : p = s + 1 := by omega
      subst this; omega
    · omega
  · have e0 : q = s := by omega
    subst e0
    rcases hp with ⟨a1, a2, a3⟩ | ⟨a1, a2, a3⟩ | ⟨a1, a2, a3, a4⟩ | ⟨a1, a2, a3, a4⟩ | ⟨a1, a2, a3, a4, a5, a6⟩
    · omega
    · omega
    · have : q = p + 1 := by omega
      subst this; omega
    · have : q = p + 1 := by omega
      subst this
      rw [Nat.add_sub_cancel] at h4
      omega
    · have : q = p + 2 := by omega
      subst this
      have : p + 2 - 1 = p + 1 := by omega
      rw [this] at h4
      omega
/-- a place that reading from the right end can't get past -/
theorem fw_fno {P : Prop} (h : sy_Fw tk N (q + 1) false d) (e : tk q ≠ 50) (e' : tk q ≠ 52) (hn : ¬ ∃ s F, sy_fn tk s (q + 1) F) : P := by
  obtain ⟨p, b1, hp, H⟩ := fw_fn h e e'
  refine absurd ?_ hn
  rcases hp with ⟨a1, a2, a3⟩ | ⟨a1, a2, a3⟩ | ⟨a1, a2, a3, a4⟩ | ⟨a1, a2, a3, a4⟩ | ⟨a1, a2, a3, a4, a5, a6⟩
  · exact ⟨p, _, Or.inl ⟨a1, a2, a3, rfl⟩⟩
  · refine ⟨p, _, Or.inr (Or.inr (Or.inr (Or.inr (Or.inr ⟨a1, a2, a3, ?_, rfl⟩))))⟩
    cases p with
    | zero => exact Or.inl rfl
    | succ p => exact Or.inr (fw_n43 H)
  · rcases a4 with a4 | a4
    · exact ⟨p, _, Or.inr (Or.inl ⟨a1, a2, a3, a4, rfl⟩)⟩
    · exact ⟨p, _, Or.inr (Or.inr (Or.inl ⟨a1, a2, a3, a4, rfl⟩))⟩
  · exact ⟨p, _, Or.inr (Or.inr (Or.inr (Or.inl ⟨a1, a2, a3, a4, rfl⟩)))⟩
  · exact ⟨p, _, Or.inr (Or.inr (Or.inr (Or.inr (Or.inl ⟨a1, a2, a3, a4, a5, a6, rfl⟩))))⟩
/-- codes are there: a statement, from the left end as well -/
theorem cs_fw {ws : List (Option sy_F)} {cs : List sy_C} (h : sy_CS tk q b ws cs) : q ≤ N → sy_Fw tk N q b (ws.length - 1) ∧ 0 < ws.length := by
  refine h (fun q b ws _ => q ≤ N → sy_Fw tk N q b (ws.length - 1) ∧ 0 < ws.length) ⟨?_, ?_, ?_, ?_, ?_, ?_, ?_, ?_⟩
  · exact fun _ => ⟨sy_rf, by decide⟩
  · intro q w ws cs e I hq
    obtain ⟨H, _⟩ := I (by omega)
    exact ⟨sy_sn H ⟨hq, Or.inr (Or.inr (Or.inr (Or.inr (Or.inl ⟨rfl, e, rfl, rfl, rfl⟩))))⟩, by rw [List.length_cons]; omega⟩
  · intro q w ws cs e e2 I hq
    obtain ⟨H, _⟩ := I (by omega)
    exact ⟨sy_sn H ⟨hq, Or.inr (Or.inl ⟨rfl, e, e2, rfl, rfl, rfl⟩)⟩, by rw [List.length_cons]; omega⟩
  · intro s q w ws cs h1 h2 h3 I hq
    obtain ⟨H, _⟩ := I (by omega)
    refine ⟨?_, by rw [List.length_cons]; omega⟩
    have key : ∀ k, s + k + 1 ≤ q → sy_Fw tk N (s + k + 1) true ws.length := by
      intro k
      induction k with
      | zero => intro hk; exact sy_sn H ⟨by omega, Or.inl ⟨rfl, h2 s (by omega) (by omega), Or.inl rfl, rfl, rfl⟩⟩
      | succ k ih =>
        intro hk
        have h9 : tk (s + k + 1 - 1) ≤ 9 := h2 _ (by omega) (by omega)
        exact sy_sn (ih (by omega)) ⟨by omega, Or.inl ⟨rfl, h2 _ (by omega) (by omega), Or.inr ⟨by omega, h9⟩, rfl, rfl⟩⟩
    have := key (q - s - 1) (by omega)
    have e : s + (q - s - 1) + 1 = q := by omega
    rw [e] at this
    exact this
  · intro q w ws cs e I hq
    obtain ⟨H, _⟩ := I (by omega)
    exact ⟨sy_sn H ⟨hq, Or.inr (Or.inr (Or.inr (Or.inl ⟨rfl, e, rfl, rfl, rfl⟩)))⟩, by rw [List.length_cons]; omega⟩
  · intro q ws cs e e1 e2 I hq
    obtain ⟨H, hl⟩ := I (by omega)
    exact ⟨sy_sn H ⟨hq, Or.inr (Or.inr (Or.inl ⟨rfl, e1, e2, e, rfl, rfl, rfl⟩))⟩, hl⟩
  · intro s q F ws cs hf _ I hq
    have hfp := sy_fnp hf
    have hs : s < q := by unfold sy_fp at hfp; omega
    obtain ⟨H, hl⟩ := I (by omega)
    exact ⟨sy_sn H ⟨hq, Or.inr (Or.inr (Or.inr (Or.inr (Or.inr ⟨hfp, rfl, rfl⟩))))⟩, by rw [List.length_cons]; omega⟩
  · intro s q F ws cs hf _ I hq
    have hfp := sy_fnp hf
    have hs : s < q := by unfold sy_fp at hfp; omega
    obtain ⟨H, hl⟩ := I (by omega)
    exact ⟨sy_sn H ⟨hq, Or.inr (Or.inr (Or.inr (Or.inr (Or.inr ⟨hfp, rfl, rfl⟩))))⟩, hl⟩
/-- brackets not closed at a place stand ahead of it -/
theorem fw_d (h : sy_Fw tk N q b d) : d ≤ q := by
  refine h (fun q _ d => d ≤ q) (Nat.le_refl 0) (fun p1 b1 d1 p2 b2 d2 I e => ?_)
  obtain ⟨_, e⟩ := e
  rcases e with e | e | e | e | e | ⟨e1, e2, e3⟩
  · omega
  · omega
  · omega
  · omega
  · omega
  · unfold sy_fp at e1; omega
end
end
section
/-! 31: the component reads a text -/
def sy_at (tk : Nat → Nat) : Nat → Int32
  | 0 => -1
  | p + 1 => nI (tk p)
def xs_cw : Option sy_F → Int32
  | none => -1
  | some F => nI (rn_F F.1 F.2.1 F.2.2)
def xs_WT (wt : Nat → Int32) : List (Option sy_F) → Prop
  | [] => True
  | w :: ws => wt ws.length = xs_cw w ∧ (∀ F, w = some F → rn_FV F.1 F.2.1 F.2.2) ∧ xs_WT wt ws
def xs_A (c : sy_C) : Int32 := if c.1 ≤ 2 then nI c.2.1 else nI (rn_F c.2.1 c.2.2.1 c.2.2.2)
def xs_CA (co ca cb : Nat → Int32) : Nat → List sy_C → Prop
  | _, [] => True
  | k, c :: cs => (co k = nI c.1 ∧ ca k = xs_A c ∧ (c.1 = 0 → cb k = nI c.2.2.1)) ∧ xs_CA co ca cb (k + 1) cs
def xs_AG (k : Nat) (co ca cb co' ca' cb' : Nat → Int32) : Prop := ∀ i, i < k → co' i = co i ∧ ca' i = ca i ∧ cb' i = cb i
def xs_b (b : Bool) : Int32 := if b then 1 else 0
theorem xs_wtu {wt : Nat → Int32} {v : Int32} : ∀ {ws : List (Option sy_F)} {j : Nat}, ws.length ≤ j → xs_WT wt ws → xs_WT (upd wt j v) ws := by
  intro ws
  induction ws with
  | nil => intro j _ _; trivial
  | cons w ws ih =>
    intro j hj h
    rw [List.length_cons] at hj
    exact ⟨by rw [pk_un (by omega)]; exact h.1, h.2.1, ih (by omega) h.2.2⟩
theorem xs_nF {F : sy_F} (h : rn_FV F.1 F.2.1 F.2.2) : ¬ nI (rn_F F.1 F.2.1 F.2.2) = -1 := by
  have hb := rn_FVb h
  intro z
  have h1 : ¬ nI (rn_F F.1 F.2.1 F.2.2) < 0 := nI_pos (by unfold rn_F; omega)
  rw [z] at h1
  exact h1 (by decide)
theorem xs_F {fm a b : Nat} : nI fm * 10000 + nI a * 100 + nI b = nI (rn_F fm a b) := by
  have e1 : nI fm * 10000 = nI (fm * 10000) := pk_mul fm 10000
  have e2 : nI a * 100 = nI (a * 100) := pk_mul a 100
  rw [e1, e2, nI_add, nI_add]; rfl
section
variable {cn cd nx ws fn tp us er fl : Int32} {tx co ca cb wt rk ro cl sr rs sp hv st mv : Nat → Int32} {tk : Nat → Nat} {N q k L : Nat}
theorem xs_tok {post : Int32 → Prop} {p0 : Int32} (hT : sy_T tx N tk) (hq : q ≤ N) (K : post (sy_at tk q)) (h0 : p0 = nI q - 1 := by rfl) : wpX_tokenAt post (cn, cd, nx, ws, fn, tp, us, er, fl, tx, co, ca, cb, wt, rk, ro, cl, sr, rs, sp, hv, st, mv) p0 := by
  subst h0
  have hN := hT.1
  cases q with
  | zero => exact br_f (by decide) K
  | succ p =>
    rw [nI_pred]
    refine br_t (nI_pos' (by omega)) (And.intro (vp_in_nI (by omega) (by decide)) ?_)
    rw [nI_clamp (by omega), (hT.2 p (by omega)).1]
    exact K
theorem sy_okb {t : Nat} (h : sy_ok t) : t < 100 := by unfold sy_ok at h; omega
theorem sy_rng {post : Int32 → Prop} {lo hi : Nat} (hT : sy_T tx N tk) (hq : q ≤ N) (hl : lo < 100) (hh : hi < 100) (K : post (if 0 < q ∧ lo ≤ tk (q - 1) ∧ tk (q - 1) ≤ hi then 1 else 0)) :
    (sy_at tk q < nI lo → post 0) ∧ (¬ sy_at tk q < nI lo → ((nI hi < sy_at tk q → post 0) ∧ (¬ nI hi < sy_at tk q → post 1))) := by
  cases q with
  | zero =>
    rw [if_neg (by omega)] at K
    have h0 : (-1 : Int32) < nI lo := by
      rw [Int32.lt_iff_toInt_lt, nI_toInt (by omega)]
      have : (-1 : Int32).toInt = -1 := by decide
      omega
    exact br_t h0 K
  | succ p =>
    have hb := sy_okb (hT.2 p (by omega)).2
    rw [Nat.add_sub_cancel] at K
    show (nI (tk p) < nI lo → post 0) ∧ (¬ nI (tk p) < nI lo → ((nI hi < nI (tk p) → post 0) ∧ (¬ nI hi < nI (tk p) → post 1)))
    refine pk_lt (tk p) lo (fun l => ?_) (fun l => pk_lt hi (tk p) (fun l2 => ?_) (fun l2 => ?_))
    · rw [if_neg (by omega)] at K; exact K
    · rw [if_neg (by omega)] at K; exact K
    · rw [if_pos (by omega)] at K; exact K
theorem xs_num {post : Int32 → Prop} (hT : sy_T tx N tk) (hq : q ≤ N) (K : post (if 0 < q ∧ 0 ≤ tk (q - 1) ∧ tk (q - 1) ≤ 9 then 1 else 0)) : wpX_isNumber post (cn, cd, nx, ws, fn, tp, us, er, fl, tx, co, ca, cb, wt, rk, ro, cl, sr, rs, sp, hv, st, mv) (sy_at tk q) :=
  sy_rng (lo := 0) (hi := 9) hT hq (by omega) (by omega) K
theorem xs_name {post : Int32 → Prop} (hT : sy_T tx N tk) (hq : q ≤ N) (K : post (if 0 < q ∧ 10 ≤ tk (q - 1) ∧ tk (q - 1) ≤ 15 then 1 else 0)) : wpX_isName post (cn, cd, nx, ws, fn, tp, us, er, fl, tx, co, ca, cb, wt, rk, ro, cl, sr, rs, sp, hv, st, mv) (sy_at tk q) :=
  sy_rng (lo := 10) (hi := 15) hT hq (by omega) (by omega) K
theorem xs_sca {post : Int32 → Prop} (hT : sy_T tx N tk) (hq : q ≤ N) (K : post (if 0 < q ∧ 20 ≤ tk (q - 1) ∧ tk (q - 1) ≤ 27 then 1 else 0)) : wpX_isScalar post (cn, cd, nx, ws, fn, tp, us, er, fl, tx, co, ca, cb, wt, rk, ro, cl, sr, rs, sp, hv, st, mv) (sy_at tk q) :=
  sy_rng (lo := 20) (hi := 27) hT hq (by omega) (by omega) K
theorem xs_mix {post : Int32 → Prop} (hT : sy_T tx N tk) (hq : q ≤ N) (K : post (if 0 < q ∧ 30 ≤ tk (q - 1) ∧ tk (q - 1) ≤ 38 then 1 else 0)) : wpX_isMixed post (cn, cd, nx, ws, fn, tp, us, er, fl, tx, co, ca, cb, wt, rk, ro, cl, sr, rs, sp, hv, st, mv) (sy_at tk q) :=
  sy_rng (lo := 30) (hi := 38) hT hq (by omega) (by omega) K
theorem xs_emit {post : SX → Prop} {p0 p1 p2 : Int32} (hk : k < 64) (K : post (cn, nI (k + 1), nx, ws, fn, tp, us, er, fl, tx, upd co k p0, upd ca k p1, upd cb k p2, wt, rk, ro, cl, sr, rs, sp, hv, st, mv)) : wpX_emit post (cn, nI k, nx, ws, fn, tp, us, er, fl, tx, co, ca, cb, wt, rk, ro, cl, sr, rs, sp, hv, st, mv) p0 p1 p2 := by
  have hin : vp_in (nI k) 64 := vp_in_nI hk (by decide)
  exact And.intro hin (nm_r (xl_uc (by omega) rfl) (And.intro hin (nm_r (xl_uc (by omega) rfl) (And.intro hin (nm_r (xl_uc (by omega) rfl) (nm_r (nI_1 k) K))))))
theorem sy_run (tk : Nat → Nat) : ∀ q : Nat, ∃ s, s ≤ q ∧ (∀ i, s ≤ i → i < q → tk i ≤ 9) ∧ (s = 0 ∨ 10 ≤ tk (s - 1)) := by
  intro q
  induction q with
  | zero => exact ⟨0, by omega, fun i _ h => absurd h (by omega), Or.inl rfl⟩
  | succ q ih =>
    by_cases z : tk q ≤ 9
    · obtain ⟨s, h1, h2, h3⟩ := ih
      refine ⟨s, by omega, fun i a b => ?_, h3⟩
      by_cases e : i = q
      · subst e; exact z
      · exact h2 i a (by omega)
    · exact ⟨q + 1, by omega, fun i a b => absurd b (by omega), Or.inr (by rw [Nat.add_sub_cancel]; omega)⟩
theorem xs_oper {post : Int32 → SX → Prop} (hT : sy_T tx N tk) (hq : q ≤ N) (hk : k < 64)
    (Kn : ∀ p, q = p + 1 → 10 ≤ tk p → tk p ≤ 15 → post 1 (cn, nI (k + 1), nI p - 1, ws, fn, tp, us, er, fl, tx, upd co k 1, upd ca k (nI (tk p - 10)), upd cb k 0, wt, rk, ro, cl, sr, rs, sp, hv, st, mv))
    (Kd : ∀ s, s < q → (∀ i, s ≤ i → i < q → tk i ≤ 9) → (s = 0 ∨ 10 ≤ tk (s - 1)) → post 1 (cn, nI (k + 1), nI s - 1, ws, fn, tp, us, er, fl, tx, upd co k 0, upd ca k (nI s), upd cb k (nI (q - s)), wt, rk, ro, cl, sr, rs, sp, hv, st, mv))
    (K0 : (q = 0 ∨ 16 ≤ tk (q - 1)) → post 0 (cn, nI k, nI q - 1, ws, fn, tp, us, er, fl, tx, co, ca, cb, wt, rk, ro, cl, sr, rs, sp, hv, st, mv)) : wpX_readOperand post (cn, nI k, nI q - 1, ws, fn, tp, us, er, fl, tx, co, ca, cb, wt, rk, ro, cl, sr, rs, sp, hv, st, mv) := by
  have hN := hT.1
  unfold wpX_readOperand
  refine xs_tok hT hq ?_
  refine xs_name hT hq ?_
  by_cases z : 0 < q ∧ 10 ≤ tk (q - 1) ∧ tk (q - 1) ≤ 15
  · rw [if_pos z]
    obtain ⟨p, rfl⟩ : ∃ p, q = p + 1 := ⟨q - 1, by omega⟩
    rw [Nat.add_sub_cancel] at z
    refine br_f (by decide) ?_
    have e1 : sy_at tk (p + 1) - 10 = nI (tk p - 10) := pk_sub (b := 10) z.2.1
    rw [e1]
    refine xs_emit hk (nm_r (e' := nI p - 1) (by rw [nI_pred]) (Kn p rfl z.2.1 z.2.2))
  · rw [if_neg z]
    refine br_t rfl ?_
    obtain ⟨s0, h1, h2, h3⟩ := sy_run tk q
    have e83 : wX_readOperand_83 post (nI q - 1) cn (nI k) (nI s0 - 1) ws fn tp us er fl tx co ca cb wt rk ro cl sr rs sp hv st mv := by
      by_cases e : s0 = q
      · subst e
        refine br_t rfl (K0 ?_)
        rcases h3 with h3 | h3
        · exact Or.inl h3
        · by_cases h0 : s0 = 0
          · exact Or.inl h0
          · refine Or.inr ?_
            have : ¬ (10 ≤ tk (s0 - 1) ∧ tk (s0 - 1) ≤ 15) := fun w => z ⟨by omega, w⟩
            omega
      · have ne : ¬ nI s0 - 1 = nI q - 1 := by
          intro w
          have w2 : nI s0 = nI q := by grind
          exact e ((nI_eq (by omega) (by omega)).mp w2)
        refine br_f ne ?_
        have e1 : nI s0 - 1 + 1 = nI s0 := by grind
        have e2 : nI q - 1 - (nI s0 - 1) = nI (q - s0) := by rw [← pk_sub h1]; grind
        rw [e1, e2]
        exact xs_emit hk (Kd s0 (by omega) h2 h3)
    have loop : ∀ (d n5 : Nat), s0 + d ≤ q → d < n5 → wX_readOperand_46 post (nI q - 1) cn (nI k) ws fn tp us er fl tx co ca cb wt rk ro cl sr rs sp hv st mv n5 (nI (q - (s0 + d))) (nI (s0 + d) - 1) := by
      intro d
      induction d with
      | zero =>
        intro n5 hd hn
        obtain ⟨n5, rfl⟩ : ∃ j, n5 = j + 1 := ⟨n5 - 1, by omega⟩
        refine br_c (fun _ => e83) (fun _ => ?_)
        refine xs_tok (q := s0) hT (by omega) ?_
        refine xs_num (q := s0) hT (by omega) ?_
        rw [if_neg (by omega)]
        exact br_t rfl e83
      | succ d ih =>
        intro n5 hd hn
        obtain ⟨n5, rfl⟩ : ∃ j, n5 = j + 1 := ⟨n5 - 1, by omega⟩
        have t9 := h2 (s0 + d) (by omega) (by omega)
        refine br_f (nI_ge (b := 30) (by omega) (by decide)) ?_
        refine xs_tok (q := s0 + (d + 1)) hT (by omega) ?_
        refine xs_num (q := s0 + (d + 1)) hT (by omega) ?_
        have e0 : s0 + (d + 1) - 1 = s0 + d := by omega
        rw [e0, if_pos (by omega)]
        refine br_f (by decide) (nm_r (e' := nI (s0 + d) - 1) ?_ (nm_r (e' := nI (q - (s0 + d))) ?_ (ih n5 (by omega) (by omega))))
        · show nI (s0 + d + 1) - 1 - 1 = nI (s0 + d) - 1
          rw [nI_pred]
        · rw [nI_1]; exact congrArg nI (by omega)
    have fin := loop (q - s0) (q - s0 + 1) (by omega) (by omega)
    have e0 : s0 + (q - s0) = q := by omega
    rw [e0, Nat.sub_self] at fin
    exact ⟨_, fin⟩
end
end
section
/-! 32: the component reads functions and whole texts -/
section
variable {cn cd nx ws fn tp us er fl : Int32} {tx co ca cb wt rk ro cl sr rs sp hv st mv : Nat → Int32} {tk : Nat → Nat} {N q k L : Nat}
theorem fn_no1 (h1 : ¬ (20 ≤ tk q ∧ tk q ≤ 27)) (h2 : ¬ (30 ≤ tk q ∧ tk q ≤ 38)) (h3 : tk q ≠ 40) (h4 : tk q ≠ 41) : ¬ ∃ s F, sy_fn tk s (q + 1) F := by
  rintro ⟨s, F, h⟩
  have := fp_last (sy_fnp h)
  omega
theorem fn_no2 (h : tk q = 40 ∨ tk q = 41) (hs : ¬ (0 < q ∧ 20 ≤ tk (q - 1) ∧ tk (q - 1) ≤ 27)) : ¬ ∃ s F, sy_fn tk s (q + 1) F := by
  rintro ⟨s, F, hf⟩
  rcases hf with ⟨h1, h2, h3, _⟩ | ⟨h1, h2, h3, h4, _⟩ | ⟨h1, h2, h3, h4, _⟩ | ⟨h1, h2, h3, h4, _⟩ | ⟨h1, h2, h3, h4, h5, h6, _⟩ | ⟨h1, h2, h3, h4, _⟩
  · have e : q = s := by omega
    subst e; omega
  · have e : q = s + 1 := by omega
    subst e; exact hs ⟨by omega, h2, h3⟩
  · have e : q = s + 1 := by omega
    subst e; exact hs ⟨by omega, h2, h3⟩
  · have e : q = s + 1 := by omega
    subst e; omega
  · have e : q = s + 2 := by omega
    subst e; omega
  · have e : q = s := by omega
    subst e; omega
theorem fn_no3 (h0 : 20 ≤ tk q) (h0' : tk q ≤ 27) (hq : 0 < q) (hb : tk (q - 1) = 43) (hs : ¬ (0 < q - 1 ∧ 20 ≤ tk (q - 1 - 1) ∧ tk (q - 1 - 1) ≤ 27)) : ¬ ∃ s F, sy_fn tk s (q + 1) F := by
  rintro ⟨s, F, hf⟩
  rcases hf with ⟨h1, h2, h3, _⟩ | ⟨h1, h2, h3, h4, _⟩ | ⟨h1, h2, h3, h4, _⟩ | ⟨h1, h2, h3, h4, _⟩ | ⟨h1, h2, h3, h4, h5, h6, _⟩ | ⟨h1, h2, h3, h4, _⟩
  · have e : q = s := by omega
    subst e; omega
  · have e : q = s + 1 := by omega
    subst e; omega
  · have e : q = s + 1 := by omega
    subst e; omega
  · have e : q = s + 1 := by omega
    subst e; rw [Nat.add_sub_cancel] at hb; omega
  · have e : q = s + 2 := by omega
    subst e; exact hs ⟨by omega, h2, h3⟩
  · have e : q = s := by omega
    subst e; omega
def xs_far (x : Int32) : Prop := x < 0 ∨ ∃ j, j < 30 ∧ x = nI j
theorem xs_faro (hq : q ≤ 30) : xs_far (nI q - 1) := by
  cases q with
  | zero => exact Or.inl (by decide)
  | succ p => exact Or.inr ⟨p, by omega, nI_pred p⟩
theorem xs_fun {post : Int32 → SX → Prop} (hT : sy_T tx N tk) (hq : q + 1 ≤ N)
    (K1 : ∀ s F, sy_fn tk s (q + 1) F → post 1 (cn, cd, nI s - 1, ws, nI (rn_F F.1 F.2.1 F.2.2), tp, us, er, fl, tx, co, ca, cb, wt, rk, ro, cl, sr, rs, sp, hv, st, mv))
    (K0 : (¬ ∃ s F, sy_fn tk s (q + 1) F) → ∀ nx' fn', xs_far nx' → post 0 (cn, cd, nx', ws, fn', tp, us, er, fl, tx, co, ca, cb, wt, rk, ro, cl, sr, rs, sp, hv, st, mv)) : wpX_readFunction post (cn, cd, nI q, ws, fn, tp, us, er, fl, tx, co, ca, cb, wt, rk, ro, cl, sr, rs, sp, hv, st, mv) := by
  have hN := hT.1
  have hb := sy_okb (hT.2 q (by omega)).2
  have ok := (hT.2 q (by omega)).2
  unfold wpX_readFunction
  refine xs_tok (q := q + 1) hT hq ?_ (by rw [nI_pred])
  refine xs_tok (q := q) hT (by omega) ?_
  refine xs_mix (q := q + 1) hT hq ?_
  rw [Nat.add_sub_cancel]
  have far1 : xs_far (nI q) := Or.inr ⟨q, by omega, rfl⟩
  have far2 : xs_far (nI q - 2) := by
    cases q with
    | zero => exact Or.inl (by decide)
    | succ p =>
      have e : nI (p + 1) - 2 = nI p - 1 := by rw [← nI_1]; grind
      rw [e]; exact xs_faro (by omega)
  show ((if 0 < q + 1 ∧ 30 ≤ tk q ∧ tk q ≤ 38 then (1 : Int32) else 0) = 0 → _) ∧ _
  by_cases z30 : 30 ≤ tk q ∧ tk q ≤ 38
  · rw [if_pos ⟨by omega, z30⟩]
    refine br_f (by decide) (nm_e ?_)
    have e : ((1 : Int32) * 10000 + sy_at tk (q + 1) * 100 + 0) = nI (rn_F 1 (tk q) 0) := xs_F
    show post 1 (cn, cd, nI q - 1, ws, (1 : Int32) * 10000 + sy_at tk (q + 1) * 100 + 0, tp, us, er, fl, tx, co, ca, cb, wt, rk, ro, cl, sr, rs, sp, hv, st, mv)
    rw [e]
    exact K1 q (1, tk q, 0) (Or.inl ⟨rfl, z30.1, z30.2, rfl⟩)
  rw [if_neg (fun w => z30 w.2)]
  refine br_t rfl ?_
  -- a stroke
  have strk : ∀ fm : Nat, (tk q = 40 ∧ fm = 2 ∨ tk q = 41 ∧ fm = 3) → wX_readFunction_76 post (sy_at tk q) (nI fm) cn cd (nI q) ws fn tp us er fl tx co ca cb wt rk ro cl sr rs sp hv st mv := by
    intro fm hfm
    unfold wX_readFunction_76
    show ∀ x : Int32, x = nI q - 2 → _
    refine nm_e ?_
    refine xs_sca (q := q) hT (by omega) ?_
    by_cases zs : 0 < q ∧ 20 ≤ tk (q - 1) ∧ tk (q - 1) ≤ 27
    · rw [if_pos zs]
      refine And.intro rfl ?_
      obtain ⟨p, rfl⟩ : ∃ p, q = p + 1 := ⟨q - 1, by omega⟩
      rw [Nat.add_sub_cancel] at zs
      have e : (nI fm * 10000 + sy_at tk (p + 1) * 100 + 0) = nI (rn_F fm (tk p) 0) := xs_F
      have e2 : nI (p + 1) - 2 = nI p - 1 := by rw [← nI_1]; grind
      rw [e, e2]
      rcases hfm with ⟨h40, e3⟩ | ⟨h41, e3⟩
      · subst e3; exact K1 p (2, tk p, 0) (Or.inr (Or.inl ⟨rfl, zs.2.1, zs.2.2, h40, rfl⟩))
      · subst e3; exact K1 p (3, tk p, 0) (Or.inr (Or.inr (Or.inl ⟨rfl, zs.2.1, zs.2.2, h41, rfl⟩)))
    · rw [if_neg zs]
      exact And.intro rfl (K0 (fn_no2 (by omega) zs) _ _ far2)
  show (nI (tk q) = 40 → _) ∧ _
  refine pk_eq (tk q) 40 (fun z => ?_) (fun z => ?_)
  · exact br_t (by show nI (tk q) = 40; rw [z]; rfl) (strk 2 (Or.inl ⟨z, rfl⟩))
  refine pk_eq (tk q) 41 (fun z1 => ?_) (fun z1 => ?_)
  · exact br_f (fun w => z ((nI_eq (by omega) (by decide)).mp w)) (strk 3 (Or.inr ⟨z1, rfl⟩))
  refine xs_sca (q := q + 1) hT hq ?_
  rw [Nat.add_sub_cancel]
  by_cases zs : 20 ≤ tk q ∧ tk q ≤ 27
  · rw [if_pos ⟨by omega, zs⟩]
    refine br_f (by decide) ?_
    -- what stands before it
    cases q with
    | zero =>
      refine br_f (show ¬ (-1 : Int32) = 42 by decide) (br_f (show ¬ (-1 : Int32) = 43 by decide) (nm_e ?_))
      have e : ((0 : Int32) * 10000 + sy_at tk 1 * 100 + 0) = nI (rn_F 0 (tk 0) 0) := xs_F
      show post 1 (cn, cd, nI 0 - 1, ws, (0 : Int32) * 10000 + sy_at tk 1 * 100 + 0, tp, us, er, fl, tx, co, ca, cb, wt, rk, ro, cl, sr, rs, sp, hv, st, mv)
      rw [e]
      exact K1 0 (0, tk 0, 0) (Or.inr (Or.inr (Or.inr (Or.inr (Or.inr ⟨rfl, zs.1, zs.2, Or.inl rfl, rfl⟩)))))
    | succ p =>
      have hbp := sy_okb (hT.2 p (by omega)).2
      have e2 : nI (p + 1) - 2 = nI p - 1 := by rw [← nI_1]; grind
      show (nI (tk p) = 42 → _) ∧ _
      refine pk_eq (tk p) 42 (fun z42 => ?_) (fun z42 => pk_eq (tk p) 43 (fun z43 => ?_) (fun z43 => ?_))
      · refine nm_r e2 ?_
        have e : ((4 : Int32) * 10000 + sy_at tk (p + 2) * 100 + 0) = nI (rn_F 4 (tk (p + 1)) 0) := xs_F
        show post 1 (cn, cd, nI p - 1, ws, (4 : Int32) * 10000 + sy_at tk (p + 2) * 100 + 0, tp, us, er, fl, tx, co, ca, cb, wt, rk, ro, cl, sr, rs, sp, hv, st, mv)
        rw [e]
        exact K1 p (4, tk (p + 1), 0) (Or.inr (Or.inr (Or.inr (Or.inl ⟨rfl, z42, zs.1, zs.2, rfl⟩))))
      · refine xs_tok (q := p) hT (by omega) ?_ e2
        refine nm_e ?_
        refine xs_sca (q := p) hT (by omega) ?_
        by_cases zf : 0 < p ∧ 20 ≤ tk (p - 1) ∧ tk (p - 1) ≤ 27
        · rw [if_pos zf]
          refine And.intro rfl ?_
          obtain ⟨o, rfl⟩ : ∃ o, p = o + 1 := ⟨p - 1, by omega⟩
          rw [Nat.add_sub_cancel] at zf
          have e : ((5 : Int32) * 10000 + sy_at tk (o + 1) * 100 + sy_at tk (o + 3)) = nI (rn_F 5 (tk o) (tk (o + 2))) := xs_F
          have e3 : nI (o + 1 + 1) - 3 = nI o - 1 := by rw [← nI_1, ← nI_1]; grind
          show post 1 (cn, cd, nI (o + 1 + 1) - 3, ws, (5 : Int32) * 10000 + sy_at tk (o + 1) * 100 + sy_at tk (o + 3), tp, us, er, fl, tx, co, ca, cb, wt, rk, ro, cl, sr, rs, sp, hv, st, mv)
          rw [e, e3]
          exact K1 o (5, tk o, tk (o + 2)) (Or.inr (Or.inr (Or.inr (Or.inr (Or.inl ⟨rfl, zf.2.1, zf.2.2, z43, zs.1, zs.2, rfl⟩)))))
        · rw [if_neg zf]
          refine And.intro rfl (K0 (fn_no3 zs.1 zs.2 (by omega) z43 zf) _ _ ?_)
          cases p with
          | zero => exact Or.inl (by decide)
          | succ o =>
            have e3 : nI (o + 1 + 1) - 3 = nI o - 1 := by rw [← nI_1, ← nI_1]; grind
            rw [e3]; exact xs_faro (by omega)
      · refine nm_e ?_
        have e : ((0 : Int32) * 10000 + sy_at tk (p + 2) * 100 + 0) = nI (rn_F 0 (tk (p + 1)) 0) := xs_F
        show post 1 (cn, cd, nI (p + 1) - 1, ws, (0 : Int32) * 10000 + sy_at tk (p + 2) * 100 + 0, tp, us, er, fl, tx, co, ca, cb, wt, rk, ro, cl, sr, rs, sp, hv, st, mv)
        rw [e]
        exact K1 (p + 1) (0, tk (p + 1), 0) (Or.inr (Or.inr (Or.inr (Or.inr (Or.inr ⟨rfl, zs.1, zs.2, Or.inr ⟨z42, z43⟩, rfl⟩)))))
  · rw [if_neg (fun w => zs w.2)]
    exact br_t rfl (K0 (fn_no1 zs z30 z z1) _ _ far1)
end
end
section
/-! 33: the component reads whole texts -/
def xs_K0 (post : Int32 → SX → Prop) (cn tp us er : Int32) (tx rk ro cl sr rs sp hv st mv : Nat → Int32) : Prop := ∀ cd nx ws fn fl co ca cb wt, post 0 (cn, cd, nx, ws, fn, tp, us, er, fl, tx, co, ca, cb, wt, rk, ro, cl, sr, rs, sp, hv, st, mv)
def xs_K1 (post : Int32 → SX → Prop) (k : Nat) (cs : List sy_C) (co0 ca0 cb0 : Nat → Int32) (cn tp us er : Int32) (tx rk ro cl sr rs sp hv st mv : Nat → Int32) : Prop :=
  ∀ nx ws fn fl co ca cb wt, xs_AG k co0 ca0 cb0 co ca cb → xs_CA co ca cb k cs → post 1 (cn, nI (k + cs.length), nx, ws, fn, tp, us, er, fl, tx, co, ca, cb, wt, rk, ro, cl, sr, rs, sp, hv, st, mv)
section
variable {cn cd nx ws fn tp us er fl : Int32} {tx co ca cb wt rk ro cl sr rs sp hv st mv : Nat → Int32} {tk : Nat → Nat} {N q k L : Nat}
theorem xs_beh {post : Int32 → SX → Prop} (hT : sy_T tx N tk) (hq : q + 1 ≤ N) (hk : k < 64) (hL : 0 < L) (hL' : L ≤ 32) (h50 : tk q ≠ 50)
    (Ka : ∀ p, q = p + 1 → tk q = 52 → 10 ≤ tk p → tk p ≤ 15 → post 0 (cn, nI (k + 1), nI p - 1, nI L, fn, tp, us, er, 0, tx, upd co k 2, upd ca k (nI (tk p - 10)), upd cb k 0, wt, rk, ro, cl, sr, rs, sp, hv, st, mv))
    (Kd : ∀ s F, sy_fn tk s (q + 1) F → sy_lo tk s → post 1 (cn, nI k, nI s - 1, nI L, nI (rn_F F.1 F.2.1 F.2.2), tp, us, er, 0, tx, co, ca, cb, upd wt (L - 1) (nI (rn_F F.1 F.2.1 F.2.2)), rk, ro, cl, sr, rs, sp, hv, st, mv))
    (Km : ∀ s F, sy_fn tk s (q + 1) F → ¬ sy_lo tk s → post 0 (cn, nI (k + 1), nI s - 1, nI L, nI (rn_F F.1 F.2.1 F.2.2), tp, us, er, 0, tx, upd co k 3, upd ca k (nI (rn_F F.1 F.2.1 F.2.2)), upd cb k 0, wt, rk, ro, cl, sr, rs, sp, hv, st, mv))
    (Kf : (∀ d, ¬ sy_Fw tk N (q + 1) false d) → ∀ cd nx fn co ca cb, post 0 (cn, cd, nx, nI L, fn, tp, us, er, 1, tx, co, ca, cb, wt, rk, ro, cl, sr, rs, sp, hv, st, mv)) : wpX_readBehind post (cn, nI k, nI q, nI L, fn, tp, us, er, 0, tx, co, ca, cb, wt, rk, ro, cl, sr, rs, sp, hv, st, mv) := by
  have hN := hT.1
  have hb := sy_okb (hT.2 q (by omega)).2
  unfold wpX_readBehind
  refine xs_tok (q := q + 1) hT hq ?_ (by rw [nI_pred])
  show (nI (tk q) = 52 → _) ∧ _
  refine pk_eq (tk q) 52 (fun z => ?_) (fun z => ?_)
  · refine xs_tok (q := q) hT (by omega) ?_
    refine xs_emit hk ?_
    refine nm_e ?_
    refine br_t rfl ?_
    refine xs_name (q := q) hT (by omega) ?_
    by_cases zn : 0 < q ∧ 10 ≤ tk (q - 1) ∧ tk (q - 1) ≤ 15
    · rw [if_pos zn]
      refine br_f (by decide) ?_
      obtain ⟨p, rfl⟩ : ∃ p, q = p + 1 := ⟨q - 1, by omega⟩
      rw [Nat.add_sub_cancel] at zn
      have e1 : sy_at tk (p + 1) - 10 = nI (tk p - 10) := pk_sub (b := 10) zn.2.1
      have e2 : nI (p + 1) - 2 = nI p - 1 := by rw [← nI_1]; grind
      rw [e1, e2]
      exact Ka p rfl z zn.2.1 zn.2.2
    · rw [if_neg zn]
      refine br_t rfl (Kf (fun d H => ?_) _ _ _ _ _ _)
      obtain ⟨p, e, h1, h2, _⟩ := fw_52 H z
      subst e
      exact zn ⟨by omega, h1, h2⟩
  · refine xs_fun hT hq ?_ ?_
    · intro s F hf
      have hs : s < q + 1 := by have := sy_fnp hf; unfold sy_fp at this; omega
      refine br_t rfl (br_f (by decide) (And.intro rfl (And.intro rfl ?_)))
      refine xs_tok (q := s) hT (by omega) ?_
      refine br_f (by decide) ?_
      have go1 : sy_lo tk s → wX_readBehind_132 post cn (nI k) (nI s - 1) (nI L) (nI (rn_F F.1 F.2.1 F.2.2)) tp us er 0 tx co ca cb wt rk ro cl sr rs sp hv st mv := by
        intro lo
        have e : nI L - 1 = nI (L - 1) := pk_sub (b := 1) hL
        refine And.intro (pk_in (L - 1) 32 (by omega) e) (nm_r (e' := upd wt (L - 1) (nI (rn_F F.1 F.2.1 F.2.2))) ?_ (Kd s F hf lo))
        rw [e, nI_clamp (by omega)]
      refine xs_num (q := s) hT (by omega) ?_
      by_cases z1 : 0 < s ∧ 0 ≤ tk (s - 1) ∧ tk (s - 1) ≤ 9
      · rw [if_pos z1]
        exact br_f (by decide) (go1 ⟨z1.1, Or.inl (by omega)⟩)
      · rw [if_neg z1]
        refine br_t rfl ?_
        refine xs_name (q := s) hT (by omega) ?_
        by_cases z2 : 0 < s ∧ 10 ≤ tk (s - 1) ∧ tk (s - 1) ≤ 15
        · rw [if_pos z2]
          exact br_f (by decide) (go1 ⟨z2.1, Or.inl (by omega)⟩)
        · rw [if_neg z2]
          refine br_t rfl ?_
          have key : sy_at tk s = 51 ↔ sy_lo tk s := by
            unfold sy_lo
            cases s with
            | zero => exact ⟨fun w => absurd w (show ¬ (-1 : Int32) = 51 by decide), fun w => absurd w.1 (by omega)⟩
            | succ s =>
              rw [Nat.add_sub_cancel] at z1 z2 ⊢
              have hbs := sy_okb (hT.2 s (by omega)).2
              show nI (tk s) = nI 51 ↔ _
              rw [nI_eq (by omega) (by omega)]
              omega
          refine br_c (fun w => go1 (key.mp w)) (fun w => ?_)
          unfold wX_readBehind_149
          exact xs_emit hk (Km s F hf (fun lo => w (key.mpr lo)))
    · intro hno nx' fn' hfar
      have KF := Kf (fun d H => fw_fno H h50 z hno)
      refine br_t rfl (br_t rfl (And.intro rfl (And.intro rfl ?_)))
      have fin : ∀ v : Int32, wX_readBehind_149 post cn (nI k) nx' (nI L) fn' tp us er 1 tx co ca cb wt rk ro cl sr rs sp hv st mv := by
        intro v
        unfold wX_readBehind_149
        exact xs_emit hk (KF _ _ _ _ _ _)
      rcases hfar with h | ⟨j, h1, h2⟩
      · exact br_f (fun w => absurd h (Int32.not_lt.mpr w)) (br_t rfl (fin 0))
      · subst h2
        exact br_t (nI_pos' (by omega)) (And.intro (vp_in_nI h1 (by decide)) (br_t rfl (fin 0)))
theorem xs_useW {post : SX → Prop} {w : Option sy_F} {wl : List (Option sy_F)} (hk : k < 64) (hL : L = wl.length + 1) (hL' : L ≤ 32) (hw : xs_WT wt (w :: wl))
    (K : (w = none → post (cn, nI k, nx, nI L, fn, tp, us, er, fl, tx, co, ca, cb, wt, rk, ro, cl, sr, rs, sp, hv, st, mv)) ∧ (∀ F, w = some F → post (cn, nI (k + 1), nx, nI L, fn, tp, us, er, fl, tx, upd co k 4, upd ca k (nI (rn_F F.1 F.2.1 F.2.2)), upd cb k 0, upd wt wl.length (-1), rk, ro, cl, sr, rs, sp, hv, st, mv))) : wpX_useWaiting post (cn, nI k, nx, nI L, fn, tp, us, er, fl, tx, co, ca, cb, wt, rk, ro, cl, sr, rs, sp, hv, st, mv) := by
  have e : nI L - 1 = nI wl.length := by rw [hL]; exact nI_pred _
  have hin : vp_in (nI L - 1) 32 := pk_in wl.length 32 (by omega) e
  have ev : wt (nI L - 1).toNatClampNeg = xs_cw w := by rw [e, nI_clamp (by omega)]; exact hw.1
  refine And.intro hin ?_
  rw [ev]
  cases w with
  | none => exact br_t rfl (K.1 rfl)
  | some F =>
    refine br_f (xs_nF (hw.2.1 F rfl)) (And.intro hin ?_)
    refine xs_emit hk ?_
    refine And.intro hin (nm_r (e' := upd wt wl.length (-1)) ?_ (K.2 F rfl))
    rw [e, nI_clamp (by omega)]
theorem xs_fail {post : Int32 → SX → Prop} {n : Nat} {x1 x2 : Int32} (K : post 0 (cn, cd, nx, ws, fn, tp, us, er, 1, tx, co, ca, cb, wt, rk, ro, cl, sr, rs, sp, hv, st, mv)) : wX_readAll_33 post (n + 1) x1 x2 cn cd nx ws fn tp us er 1 tx co ca cb wt rk ro cl sr rs sp hv st mv :=
  br_c (fun _ => br_f (by decide) K) (fun _ => br_f (by decide) (br_f (by decide) K))
theorem xs_ag {i : Nat} {v1 v2 v3 : Int32} {co' ca' cb' : Nat → Int32} (h : xs_AG (k + 1) (upd co k v1) (upd ca k v2) (upd cb k v3) co' ca' cb') : xs_AG k co ca cb co' ca' cb' ∧ co' k = v1 ∧ ca' k = v2 ∧ cb' k = v3 := by
  refine ⟨fun i hi => ?_, ?_, ?_, ?_⟩
  · obtain ⟨h1, h2, h3⟩ := h i (by omega)
    rw [pk_un (by omega)] at h1 h2 h3
    exact ⟨h1, h2, h3⟩
  · have := (h k (by omega)).1; rw [pk_us] at this; exact this
  · have := (h k (by omega)).2.1; rw [pk_us] at this; exact this
  · have := (h k (by omega)).2.2; rw [pk_us] at this; exact this
/-- a code more -/
theorem xs_k1 {post : Int32 → SX → Prop} {c : sy_C} {cs : List sy_C} {v1 v2 v3 : Int32} (K : xs_K1 post k (c :: cs) co ca cb cn tp us er tx rk ro cl sr rs sp hv st mv) (e1 : v1 = nI c.1) (e2 : v2 = xs_A c) (e3 : c.1 = 0 → v3 = nI c.2.2.1) :
    xs_K1 post (k + 1) cs (upd co k v1) (upd ca k v2) (upd cb k v3) cn tp us er tx rk ro cl sr rs sp hv st mv := by
  intro nx ws fn fl co' ca' cb' wt' h1 h2
  obtain ⟨a1, a2, a3, a4⟩ := xs_ag (i := 0) h1
  have := K nx ws fn fl co' ca' cb' wt' a1 ⟨⟨a2.trans e1, a3.trans e2, fun z => a4.trans (e3 z)⟩, h2⟩
  rw [List.length_cons] at this
  have e : k + (cs.length + 1) = k + 1 + cs.length := by omega
  rw [e] at this
  exact this
end
end
section
/-! 34: the component's reading loop -/
section
variable {cn cd nx ws fn tp us er fl : Int32} {tx co ca cb wt rk ro cl sr rs sp hv st mv : Nat → Int32} {tk : Nat → Nat} {N q k L : Nat}
theorem xs_k1w {post : Int32 → SX → Prop} {F : sy_F} {cs : List sy_C} (K : xs_K1 post k ((4, F) :: cs) co ca cb cn tp us er tx rk ro cl sr rs sp hv st mv) : xs_K1 post (k + 1) cs (upd co k 4) (upd ca k (nI (rn_F F.1 F.2.1 F.2.2))) (upd cb k 0) cn tp us er tx rk ro cl sr rs sp hv st mv :=
  xs_k1 K rfl rfl (fun z => absurd z (by show ¬ (4 : Nat) = 0; omega))
theorem xs_33 {post : Int32 → SX → Prop} (hT : sy_T tx N tk) : ∀ (n q i k : Nat) (b : Bool) (wl : List (Option sy_F)) (fn : Int32) (co ca cb wt : Nat → Int32), q + 1 < n → q ≤ N → i + q ≤ N → k + 2 * q ≤ 2 * N → 0 < wl.length → wl.length + q ≤ 1 + N → (b = false → ∃ wl', wl = none :: wl') → xs_WT wt wl →
    (∀ cs, sy_CS tk q b wl cs → xs_K1 post k cs co ca cb cn tp us er tx rk ro cl sr rs sp hv st mv) → (¬ sy_Fw tk N q b (wl.length - 1) → xs_K0 post cn tp us er tx rk ro cl sr rs sp hv st mv) →
    wX_readAll_33 post n (xs_b b) (nI i) cn (nI k) (nI q - 1) (nI wl.length) fn tp us er 0 tx co ca cb wt rk ro cl sr rs sp hv st mv := by
  have hN := hT.1
  intro n
  induction n with
  | zero => intro q i k b wl fn co ca cb wt h; omega
  | succ n ih =>
    intro q i k b wl fn co ca cb wt hn hq hi hk hl hl2 hb0 hw K1 K0
    obtain ⟨n1, en⟩ : ∃ n1, n = n1 + 1 := ⟨n - 1, by omega⟩
    refine br_f (nI_ge (b := 60) (by omega) (by decide)) (br_t rfl ?_)
    cases b with
    | false =>
      obtain ⟨wl', rfl⟩ := hb0 rfl
      refine br_t rfl ?_
      cases q with
      | zero =>
        refine br_t (by decide) (br_t rfl (pk_eq (none :: wl').length 1 (fun z => ?_) (fun z => ?_)))
        · rw [List.length_cons] at z
          have e : wl' = [] := List.length_eq_zero_iff.mp (by omega)
          subst e
          exact K1 [] (sy_cs tk).1 _ _ _ _ _ _ _ _ (fun _ _ => ⟨rfl, rfl, rfl⟩) trivial
        · refine K0 (fun H => ?_) _ _ _ _ _ _ _ _ _
          have := (fw_0 H).2
          rw [List.length_cons] at this z
          omega
      | succ p =>
        rw [nI_pred]
        refine br_f (nI_pos (by omega)) ?_
        unfold wX_readAll_57
        refine xs_tok (q := p + 1) hT hq ?_ (by rw [nI_pred])
        refine br_t rfl (br_t rfl ?_)
        have hbp := sy_okb (hT.2 p (by omega)).2
        refine pk_eq (tk p) 50 (fun z => ?_) (fun z => ?_)
        · -- a left bracket
          have eL : nI (none :: wl').length - 1 = nI wl'.length := nI_pred _
          refine nm_e (nm_r eL ?_)
          rw [List.length_cons] at hl2
          cases wl' with
          | nil =>
            have KK := K0 (fun H => by obtain ⟨d1, e, _⟩ := fw_50 H z; exact absurd e (by show ¬ 0 = d1 + 1; omega))
            refine br_t rfl (And.intro rfl (And.intro rfl (br_f (by decide) (nm_e ?_))))
            subst en
            exact xs_fail (KK _ _ _ _ _ _ _ _ _)
          | cons w wl2 =>
            have Fd : sy_Fw tk N (p + 1) false ((none :: w :: wl2).length - 1) → sy_Fw tk N p false ((none :: wl2).length - 1) := by
              intro H
              obtain ⟨d1, e, H2⟩ := fw_50 H z
              have e2 : d1 = (none :: wl2).length - 1 := by simp only [List.length_cons] at e ⊢; omega
              subst e2; exact H2
            refine br_f (nI_ne0 (by rw [List.length_cons]; omega) (by omega)) (And.intro rfl (And.intro rfl (br_t rfl ?_)))
            rw [List.length_cons] at hl2
            refine xs_useW (w := w) (wl := wl2) (by omega) (List.length_cons) (by rw [List.length_cons]; omega) hw.2.2 ⟨fun ew => ?_, fun F ew => ?_⟩
            · subst ew
              refine nm_r (nI_1 i) (ih p (i + 1) k false (none :: wl2) fn co ca cb wt (by omega) (by omega) (by omega) (by omega) (by rw [List.length_cons]; omega) (by rw [List.length_cons]; omega) (fun _ => ⟨wl2, rfl⟩) hw.2.2 ?_ (fun H => K0 (fun H2 => H (Fd H2))))
              exact fun cs H => K1 cs ((sy_cs tk).2.2.2.2.1 p none wl2 cs z H)
            · subst ew
              refine nm_r (nI_1 i) (ih p (i + 1) (k + 1) false (none :: wl2) fn _ _ _ _ (by omega) (by omega) (by omega) (by omega) (by rw [List.length_cons]; omega) (by rw [List.length_cons]; omega) (fun _ => ⟨wl2, rfl⟩) ⟨pk_us, fun F e => (nomatch e), xs_wtu (Nat.le_refl _) hw.2.2.2.2⟩ ?_ (fun H => K0 (fun H2 => H (Fd H2))))
              exact fun cs H => xs_k1w (K1 _ ((sy_cs tk).2.2.2.2.1 p (some F) wl2 cs z H))
        · -- behind a value
          rw [List.length_cons] at hl2
          refine xs_beh (L := (none :: wl').length) hT hq (by omega) (by rw [List.length_cons]; omega) (by rw [List.length_cons]; omega) z ?_ ?_ ?_ ?_
          · intro o eo z52 h1 h2
            subst eo
            refine nm_r (nI_1 i) (ih o (i + 1) (k + 1) false (none :: wl') fn _ _ _ wt (by omega) (by omega) (by omega) (by omega) hl (by rw [List.length_cons]; omega) (fun _ => ⟨wl', rfl⟩) hw ?_ (fun H => K0 (fun H2 => ?_)))
            · exact fun cs H => xs_k1 (c := (2, tk o - 10, 0, 0)) (K1 _ ((sy_cs tk).2.2.2.2.2.1 o (none :: wl') cs z52 h1 h2 H)) rfl rfl (fun w => absurd w (by show ¬ (2 : Nat) = 0; omega))
            · obtain ⟨o', e, _, _, H3⟩ := fw_52 H2 z52
              have : o' = o := by omega
              subst this; exact H H3
          · intro s F hf lo
            have hs : s < p + 1 := by have := sy_fnp hf; unfold sy_fp at this; omega
            have eL : (none :: wl').length - 1 = wl'.length := by rw [List.length_cons, Nat.add_sub_cancel]
            rw [eL]
            refine nm_r (nI_1 i) (ih s (i + 1) k true (some F :: wl') (nI (rn_F F.1 F.2.1 F.2.2)) co ca cb _ (by omega) (by omega) (by omega) (by omega) hl (by rw [List.length_cons]; omega) (fun e => (nomatch e)) ⟨pk_us, fun F' e => by cases e; exact sy_fnV hf, xs_wtu (Nat.le_refl _) hw.2.2⟩ ?_ (fun H => K0 (fun H2 => ?_)))
            · exact fun cs H => K1 _ ((sy_cs tk).2.2.2.2.2.2.1 s (p + 1) F wl' cs hf lo H)
            · obtain ⟨b1, H3⟩ := fw_fnu H2 hf
              have e : b1 = true := (fw_lo H3).mpr lo
              subst e; exact H H3
          · intro s F hf lo
            have hs : s < p + 1 := by have := sy_fnp hf; unfold sy_fp at this; omega
            refine nm_r (nI_1 i) (ih s (i + 1) (k + 1) false (none :: wl') (nI (rn_F F.1 F.2.1 F.2.2)) _ _ _ wt (by omega) (by omega) (by omega) (by omega) hl (by rw [List.length_cons]; omega) (fun _ => ⟨wl', rfl⟩) hw ?_ (fun H => K0 (fun H2 => ?_)))
            · exact fun cs H => xs_k1 (c := (3, F)) (K1 _ ((sy_cs tk).2.2.2.2.2.2.2 s (p + 1) F (none :: wl') cs hf lo H)) rfl rfl (fun w => absurd w (by show ¬ (3 : Nat) = 0; omega))
            · obtain ⟨b1, H3⟩ := fw_fnu H2 hf
              have e : b1 = false := by
                cases b1 with
                | false => rfl
                | true => exact absurd ((fw_lo H3).mp rfl) lo
              subst e; exact H H3
          · intro hno cd nx fn co ca cb
            refine nm_e ?_
            subst en
            exact xs_fail (K0 (fun H => hno _ H) _ _ _ _ _ _ _ _ _)
    | true =>
      refine br_f (by decide) ?_
      obtain ⟨w, wl', rfl⟩ : ∃ w wl', wl = w :: wl' := by
        cases wl with
        | nil => exact absurd hl (by decide)
        | cons w wl' => exact ⟨w, wl', rfl⟩
      rw [List.length_cons] at hl2
      unfold wX_readAll_57
      refine xs_tok (q := q) hT hq ?_
      refine br_f (by decide) ?_
      -- reading an operand
      have op : (∀ p, q = p + 1 → tk p ≠ 51) → wX_readAll_93 post (wX_readAll_33 post n) 1 (nI i) (sy_at tk q) cn (nI k) (nI q - 1) (nI (w :: wl').length) fn tp us er 0 tx co ca cb wt rk ro cl sr rs sp hv st mv := by
        intro n51
        refine br_f (by decide) ?_
        -- a value is there
        have good : ∀ (s : Nat) (c : sy_C) (v1 v2 v3 : Int32), s < q → v1 = nI c.1 → v2 = xs_A c → (c.1 = 0 → v3 = nI c.2.2.1) → (∀ cs, sy_CS tk s false (none :: wl') cs → sy_CS tk q true (w :: wl') (c :: sy_two w cs)) →
            (sy_Fw tk N q true wl'.length → sy_Fw tk N s false wl'.length) → wX_readAll_114 post (wX_readAll_33 post n) (nI i) 0 cn (nI (k + 1)) (nI s - 1) (nI (w :: wl').length) fn tp us er 0 tx (upd co k v1) (upd ca k v2) (upd cb k v3) wt rk ro cl sr rs sp hv st mv := by
          intro s c v1 v2 v3 hs e1 e2 e3 HC HF
          refine And.intro rfl (And.intro rfl ?_)
          refine xs_useW (w := w) (wl := wl') (by omega) (List.length_cons) (by rw [List.length_cons]; omega) hw ⟨fun ew => ?_, fun F ew => ?_⟩
          · subst ew
            refine nm_r (nI_1 i) (ih s (i + 1) (k + 1) false (none :: wl') fn _ _ _ wt (by omega) (by omega) (by omega) (by omega) hl (by rw [List.length_cons]; omega) (fun _ => ⟨wl', rfl⟩) hw ?_ (fun H => K0 (fun H2 => H (HF H2))))
            exact fun cs H => xs_k1 (K1 _ (HC cs H)) e1 e2 e3
          · subst ew
            refine nm_r (nI_1 i) (ih s (i + 1) (k + 1 + 1) false (none :: wl') fn _ _ _ _ (by omega) (by omega) (by omega) (by omega) hl (by rw [List.length_cons]; omega) (fun _ => ⟨wl', rfl⟩) ⟨pk_us, fun F e => (nomatch e), xs_wtu (Nat.le_refl _) hw.2.2⟩ ?_ (fun H => K0 (fun H2 => H (HF H2))))
            exact fun cs H => xs_k1w (xs_k1 (K1 _ (HC cs H)) e1 e2 e3)
        refine xs_oper hT hq (by omega) ?_ ?_ ?_
        · intro p eq h1 h2
          subst eq
          refine br_f (by decide) (good p (1, tk p - 10, 0, 0) _ _ _ (by omega) rfl rfl (fun w => absurd w (by show ¬ (1 : Nat) = 0; omega)) (fun cs H => (sy_cs tk).2.2.1 p w wl' cs h1 h2 H) (fun H => fw_name H h1 h2))
        · intro s hs h1 h2
          refine br_f (by decide) (good s (0, s, q - s, 0) _ _ _ hs rfl rfl (fun _ => rfl) (fun cs H => (sy_cs tk).2.2.2.1 s q w wl' cs hs h1 h2 H) (fun H => ?_))
          have e : q = s + (q - s - 1) + 1 := by omega
          rw [e] at H
          exact fw_num (q - s - 1) s (fun i a b => h1 i a (by omega)) h2 H
        · intro hbad
          have KK : xs_K0 post cn tp us er tx rk ro cl sr rs sp hv st mv := K0 (fun H => by
            cases q with
            | zero => exact nomatch (fw_0 H).1
            | succ p =>
              rcases hbad with h | h
              · omega
              · rw [Nat.add_sub_cancel] at h
                exact fw_bad H h (n51 p rfl))
          refine br_t rfl (And.intro rfl (And.intro rfl ?_))
          refine xs_useW (w := w) (wl := wl') (by omega) (List.length_cons) (by rw [List.length_cons]; omega) hw ⟨fun _ => nm_e ?_, fun F _ => nm_e ?_⟩
          · subst en; exact xs_fail (KK _ _ _ _ _ _ _ _ _)
          · subst en; exact xs_fail (KK _ _ _ _ _ _ _ _ _)
      cases q with
      | zero => exact br_f (show ¬ (-1 : Int32) = 51 by decide) (op (fun p e => absurd e (by omega)))
      | succ p =>
        have hbp := sy_okb (hT.2 p (by omega)).2
        have o51 : tk p ≠ 51 → ∀ p', p + 1 = p' + 1 → tk p' ≠ 51 := by
          intro z p' e
          have e2 : p' = p := by omega
          subst e2
          exact z
        refine pk_eq (tk p) 51 (fun z => ?_) (fun z => op (o51 z))
        refine nm_r (e' := nI p - 1) (by rw [nI_pred]) ?_
        have hL : (w :: wl').length < 32 := by rw [List.length_cons]; omega
        refine And.intro (vp_in_nI hL (by decide)) (nm_r (xl_uc (by omega) rfl) (nm_r (nI_1 _) (nm_r (nI_1 i) ?_)))
        refine ih p (i + 1) k true (none :: w :: wl') fn co ca cb _ (by omega) (by omega) (by omega) (by omega) (by rw [List.length_cons]; omega) (by simp only [List.length_cons]; omega) (fun e => (nomatch e)) ⟨pk_us, fun F e => (nomatch e), xs_wtu (Nat.le_refl _) hw⟩ ?_ (fun H => K0 (fun H2 => H ?_))
        · exact fun cs H => K1 _ ((sy_cs tk).2.1 p w wl' cs z H)
        · exact fw_51 H2 z
theorem xs_all {post : Int32 → SX → Prop} (hT : sy_T tx N tk) (K1 : ∀ cs, sy_CS tk N true [none] cs → xs_K1 post 0 cs co ca cb (nI N) tp us er tx rk ro cl sr rs sp hv st mv) (K0 : ¬ sy_Fw tk N N true 0 → xs_K0 post (nI N) tp us er tx rk ro cl sr rs sp hv st mv) : wpX_readAll post (nI N, cd, nx, ws, fn, tp, us, er, fl, tx, co, ca, cb, wt, rk, ro, cl, sr, rs, sp, hv, st, mv) := by
  have hN := hT.1
  refine nm_e ?_
  refine And.intro (vp_in_nI (n := 0) (by decide) (by decide)) (nm_e (nm_e ?_))
  refine ⟨N + 2, xs_33 hT (N + 2) N 0 0 true [none] fn co ca cb _ (by omega) (by omega) (by omega) (by omega) (by decide) (by show 1 + N ≤ 1 + N; omega) (fun e => (nomatch e)) ⟨pk_us, fun F e => (nomatch e), trivial⟩ K1 K0⟩
end
end
section
/-! 35: the reference judges a text -/
def sy_y (tk : Nat → Nat) (N i : Nat) : Int32 := if i < N then nI (tk i) else -1
def sy_dead (tk : Nat → Nat) (N p : Nat) : Prop := p < N ∧ (tk p = 40 ∨ tk p = 41 ∨ tk p = 43)
/-- to the right end -/
def sy_B (tk : Nat → Nat) (N p : Nat) (b : Bool) (d : Nat) : Prop := sy_R tk N p b d N true 0
section
variable {tk : Nat → Nat} {N p d i : Nat} {b : Bool}
theorem sb_ft (h : sy_B tk N p b d) (hp : p < N) : ∃ p1 b1 d1, sy_E tk N p b d p1 b1 d1 ∧ sy_B tk N p1 b1 d1 := by
  rcases sy_ft h with ⟨e, _⟩ | h
  · omega
  · exact h
theorem fp_first {p1 : Nat} (h : sy_fp tk p p1) : p < p1 ∧ ((20 ≤ tk p ∧ tk p ≤ 27) ∨ (30 ≤ tk p ∧ tk p ≤ 38) ∨ tk p = 42) := by
  unfold sy_fp at h; omega
theorem sb_dead (h : sy_dead tk N p) : ¬ sy_B tk N p b d := by
  intro H
  obtain ⟨p1, b1, d1, ⟨_, e⟩, _⟩ := sb_ft H h.1
  have h2 := h.2
  rcases e with e | e | e | e | e | ⟨e, _⟩
  · omega
  · omega
  · omega
  · omega
  · omega
  · have := fp_first e; omega
theorem sb_end (h : sy_B tk N N b d) : b = true ∧ d = 0 := by
  rcases sy_ft h with ⟨_, e1, e2⟩ | ⟨p1, b1, d1, ⟨h1, e⟩, _⟩
  · exact ⟨e1.symm, e2.symm⟩
  · rcases e with e | e | e | e | e | ⟨e, _⟩
    · omega
    · omega
    · omega
    · omega
    · omega
    · have := fp_first e; omega
/-- a function stands here -/
theorem sb_fn {s : Nat} (hf : sy_fp tk i s) (hs : s ≤ N) (hu : ∀ p1, p1 ≤ N → sy_fp tk i p1 → p1 = s ∨ sy_dead tk N p1) : sy_B tk N i b d ↔ sy_B tk N s false d := by
  have hi := fp_first hf
  refine ⟨fun H => ?_, fun H => sy_hd ⟨hs, Or.inr (Or.inr (Or.inr (Or.inr (Or.inr ⟨hf, rfl, rfl⟩))))⟩ H⟩
  obtain ⟨p1, b1, d1, ⟨h1, e⟩, H2⟩ := sb_ft H (by omega)
  rcases e with e | e | e | e | e | ⟨e, e2, e3⟩
  · omega
  · omega
  · omega
  · omega
  · omega
  · subst e2 e3
    rcases hu p1 h1 e with e4 | e4
    · subst e4; exact H2
    · exact absurd H2 (sb_dead e4)
/-- what else may stand behind a value -/
theorem sb_true (H : sy_B tk N i true d) (hi : i < N) (hn : tk i ≤ 9 → ¬ (0 < i ∧ tk (i - 1) ≤ 9)) (hu : ∀ p1, p1 ≤ N → sy_fp tk i p1 → sy_dead tk N p1) : tk i = 51 ∧ ∃ d1, d = d1 + 1 ∧ sy_B tk N (i + 1) true d1 := by
  obtain ⟨p1, b1, d1, ⟨h1, e⟩, H2⟩ := sb_ft H hi
  rcases e with ⟨_, e2, e3, _⟩ | ⟨_, _, _, e, _⟩ | ⟨_, _, _, _, e, _⟩ | ⟨_, _, e, _⟩ | ⟨e1, e2, _, e3, e4⟩ | ⟨e, e2, e3⟩
  · rcases e3 with e3 | e3
    · exact nomatch e3
    · exact absurd e3 (hn e2)
  · exact nomatch e
  · exact nomatch e
  · exact nomatch e
  · subst e1 e3; exact ⟨e2, d1, e4, H2⟩
  · subst e2 e3; exact absurd H2 (sb_dead (hu p1 h1 e))
theorem sb_close (e : tk i = 51) (hi : i < N) (H : sy_B tk N (i + 1) true d) : sy_B tk N i true (d + 1) :=
  sy_hd ⟨by omega, Or.inr (Or.inr (Or.inr (Or.inr (Or.inl ⟨rfl, e, rfl, rfl, rfl⟩))))⟩ H
/-- what may stand where a value is wanted -/
theorem sb_false (H : sy_B tk N i false d) (hi : i < N) (hu : ∀ p1, p1 ≤ N → sy_fp tk i p1 → sy_dead tk N p1) :
    (tk i ≤ 9 ∧ sy_B tk N (i + 1) true d) ∨ (10 ≤ tk i ∧ tk i ≤ 15 ∧ sy_B tk N (i + 1) true d) ∨ (10 ≤ tk i ∧ tk i ≤ 15 ∧ i + 2 ≤ N ∧ tk (i + 1) = 52 ∧ sy_B tk N (i + 2) false d) ∨ (tk i = 50 ∧ sy_B tk N (i + 1) false (d + 1)) := by
  obtain ⟨p1, b1, d1, ⟨h1, e⟩, H2⟩ := sb_ft H hi
  rcases e with ⟨e1, e2, _, e3, e4⟩ | ⟨e1, e2, e2', _, e3, e4⟩ | ⟨e1, e2, e2', e5, _, e3, e4⟩ | ⟨e1, e2, _, e3, e4⟩ | ⟨_, _, e, _⟩ | ⟨e, e2, e3⟩
  · subst e1 e3 e4; exact Or.inl ⟨e2, H2⟩
  · subst e1 e3 e4; exact Or.inr (Or.inl ⟨e2, e2', H2⟩)
  · subst e1 e3 e4; exact Or.inr (Or.inr (Or.inl ⟨e2, e2', h1, e5, H2⟩))
  · subst e1 e3 e4; exact Or.inr (Or.inr (Or.inr ⟨e2, H2⟩))
  · exact nomatch e
  · subst e2 e3; exact absurd H2 (sb_dead (hu p1 h1 e))
/-- numbers go on -/
theorem sb_num (h1 : tk i ≤ 9) (h2 : 0 < i) (h3 : tk (i - 1) ≤ 9) (hi : i < N) : sy_B tk N i true d ↔ sy_B tk N (i + 1) true d := by
  refine ⟨fun H => ?_, fun H => sy_hd ⟨by omega, Or.inl ⟨rfl, h1, Or.inr ⟨h2, h3⟩, rfl, rfl⟩⟩ H⟩
  obtain ⟨p1, b1, d1, ⟨_, e⟩, H2⟩ := sb_ft H hi
  rcases e with ⟨e1, _, _, e3, e4⟩ | ⟨_, _, _, e, _⟩ | ⟨_, _, _, _, e, _⟩ | ⟨_, _, e, _⟩ | ⟨_, e, _⟩ | ⟨e, _⟩
  · subst e1 e3 e4; exact H2
  · exact nomatch e
  · exact nomatch e
  · exact nomatch e
  · omega
  · have := fp_first e; omega
end
section
variable {cn lv ee : Int32} {tx qk qr qw da wa fi : Nat → Int32} {tk : Nat → Nat} {N i : Nat}
theorem ys_tok {post : Int32 → Prop} {p0 : Int32} (hT : sy_T tx N tk) (hi : i ≤ 100) (K : post (sy_y tk N i)) (h0 : p0 = nI i := by rfl) : wpY_tokenAt post (nI N, lv, ee, tx, qk, qr, qw, da, wa, fi) p0 := by
  subst h0
  have hN := hT.1
  unfold sy_y at K
  refine br_f (nI_pos (by omega)) (pk_le N i (fun l => ?_) (fun l => ?_))
  · rw [if_neg (by omega)] at K; exact K
  · rw [if_pos l] at K
    refine And.intro (vp_in_nI (by omega) (by decide)) ?_
    rw [nI_clamp (by omega), (hT.2 i l).1]; exact K
theorem ys_sca {post : Int32 → Prop} {p0 : Int32} (hT : sy_T tx N tk) (hi : i ≤ 100) (K : post (if i < N ∧ 20 ≤ tk i ∧ tk i ≤ 27 then 1 else 0)) (h0 : p0 = nI i := by rfl) : wpY_isScalar post (nI N, lv, ee, tx, qk, qr, qw, da, wa, fi) p0 := by
  unfold wpY_isScalar
  refine ys_tok hT hi ?_ h0
  by_cases l : i < N
  · have e : sy_y tk N i = nI (tk i) := if_pos l
    have hb := sy_okb (hT.2 i l).2
    rw [e]
    refine pk_lt (tk i) 20 (fun l2 => ?_) (fun l2 => ?_)
    · rw [if_neg (by omega)] at K; exact K
    · refine ys_tok hT hi ?_ h0
      rw [e]
      refine pk_lt 27 (tk i) (fun l3 => ?_) (fun l3 => ?_)
      · rw [if_neg (by omega)] at K; exact K
      · rw [if_pos ⟨l, l2, l3⟩] at K; exact K
  · have e : sy_y tk N i = -1 := if_neg l
    rw [e]
    rw [if_neg (fun w => l w.1)] at K
    exact br_t (by decide) K
/-- how long a function is that begins here -/
theorem ys_fs {post : Int32 → Prop} (hT : sy_T tx N tk) (hi : i < N)
    (K1 : ∀ s, 0 < s → s ≤ 3 → i + s ≤ N → sy_fp tk i (i + s) → (∀ p1, p1 ≤ N → sy_fp tk i p1 → p1 = i + s ∨ sy_dead tk N p1) → post (nI s))
    (K0 : (∀ p1, p1 ≤ N → sy_fp tk i p1 → sy_dead tk N p1) → post 0) : wpY_functionSize post (nI N, lv, ee, tx, qk, qr, qw, da, wa, fi) (nI i) := by
  have hN := hT.1
  have hb := sy_okb (hT.2 i hi).2
  have e : sy_y tk N i = nI (tk i) := if_pos hi
  unfold wpY_functionSize
  refine ys_tok (i := i) hT (by omega) ?_
  rw [e]
  have w20 : ¬ (30 ≤ tk i ∧ tk i ≤ 38) → wY_functionSize_20 post (nI i) (nI (tk i)) (nI N) lv ee tx qk qr qw da wa fi := by
    intro n30
    refine pk_eq (tk i) 42 (fun z => ?_) (fun z => ?_)
    · refine ys_sca (i := i + 1) hT (by omega) ?_ (nI_1 i)
      by_cases zs : i + 1 < N ∧ 20 ≤ tk (i + 1) ∧ tk (i + 1) ≤ 27
      · rw [if_pos zs]
        refine br_f (by decide) (K1 2 (by omega) (by omega) (by omega) (Or.inr (Or.inr (Or.inr (Or.inl ⟨rfl, z, zs.2.1, zs.2.2⟩)))) (fun p1 h1 h2 => ?_))
        unfold sy_fp at h2; omega
      · rw [if_neg zs]
        refine br_t rfl (K0 (fun p1 h1 h2 => ?_))
        rcases h2 with h2 | h2 | h2 | ⟨a1, a2, a3, a4⟩ | h2
        · omega
        · omega
        · omega
        · exact absurd ⟨by omega, a3, a4⟩ zs
        · omega
    · refine ys_sca (i := i) hT (by omega) ?_
      by_cases zs : i < N ∧ 20 ≤ tk i ∧ tk i ≤ 27
      · rw [if_pos zs]
        refine br_f (by decide) ?_
        refine ys_tok (i := i + 1) hT (by omega) ?_ (nI_1 i)
        by_cases l : i + 1 < N
        · have e1 : sy_y tk N (i + 1) = nI (tk (i + 1)) := if_pos l
          have hb1 := sy_okb (hT.2 (i + 1) l).2
          rw [e1]
          refine pk_eq (tk (i + 1)) 43 (fun z43 => ?_) (fun z43 => ?_)
          · refine ys_sca (i := i + 2) hT (by omega) ?_ (nI_add i 2)
            by_cases z2 : i + 2 < N ∧ 20 ≤ tk (i + 2) ∧ tk (i + 2) ≤ 27
            · rw [if_pos z2]
              refine br_f (by decide) (K1 3 (by omega) (by omega) (by omega) (Or.inr (Or.inr (Or.inr (Or.inr ⟨rfl, zs.2.1, zs.2.2, z43, z2.2.1, z2.2.2⟩)))) (fun p1 h1 h2 => ?_))
              rcases h2 with h2 | ⟨a1, _⟩ | h2 | h2 | h2
              · omega
              · subst a1; exact Or.inr ⟨by omega, by omega⟩
              · omega
              · omega
              · exact Or.inl h2.1
            · rw [if_neg z2]
              refine br_t rfl (K0 (fun p1 h1 h2 => ?_))
              rcases h2 with h2 | ⟨a1, _⟩ | h2 | h2 | ⟨a1, a2, a3, a4, a5, a6⟩
              · omega
              · subst a1; exact ⟨by omega, by omega⟩
              · omega
              · omega
              · exact absurd ⟨by omega, a5, a6⟩ z2
          · have two : (tk (i + 1) = 40 ∨ tk (i + 1) = 41) → post 2 := by
              intro z4
              refine K1 2 (by omega) (by omega) (by omega) (Or.inr (Or.inr (Or.inl ⟨rfl, zs.2.1, zs.2.2, z4⟩))) (fun p1 h1 h2 => ?_)
              rcases h2 with h2 | ⟨a1, _⟩ | h2 | h2 | h2
              · omega
              · subst a1; exact Or.inr ⟨by omega, by omega⟩
              · exact Or.inl h2.1
              · omega
              · omega
            refine pk_eq (tk (i + 1)) 40 (fun z40 => two (Or.inl z40)) (fun z40 => pk_eq (tk (i + 1)) 41 (fun z41 => two (Or.inr z41)) (fun z41 => ?_))
            refine K1 1 (by omega) (by omega) (by omega) (Or.inr (Or.inl ⟨rfl, zs.2.1, zs.2.2⟩)) (fun p1 h1 h2 => ?_)
            unfold sy_fp at h2; omega
        · have e1 : sy_y tk N (i + 1) = -1 := if_neg l
          rw [e1]
          refine br_f (by decide) (br_f (by decide) (br_f (by decide) ?_))
          refine K1 1 (by omega) (by omega) (by omega) (Or.inr (Or.inl ⟨rfl, zs.2.1, zs.2.2⟩)) (fun p1 h1 h2 => ?_)
          unfold sy_fp at h2; omega
      · rw [if_neg zs]
        refine br_t rfl (K0 (fun p1 h1 h2 => ?_))
        have := fp_first h2; omega
  refine pk_lt (tk i) 30 (fun l => w20 (by omega)) (fun l => pk_lt 38 (tk i) (fun l2 => w20 (by omega)) (fun l2 => ?_))
  refine K1 1 (by omega) (by omega) (by omega) (Or.inl ⟨rfl, l, l2⟩) (fun p1 h1 h2 => ?_)
  unfold sy_fp at h2; omega
theorem ys_76 {post : Int32 → Prop} {J : Int32 → Int32 → Int32 → Prop} {x1 : Int32} {d : Nat} (hT : sy_T tx N tk)
    (KJ : ∀ e, e ≤ N → i < e → (e < N → 9 < tk e) → tk (e - 1) ≤ 9 → (sy_B tk N e true d ↔ sy_B tk N (i + 1) true d) → J x1 1 (nI e)) :
    ∀ (m j : Nat), j + m + 1 = N → i ≤ j → tk j ≤ 9 → (sy_B tk N (j + 1) true d ↔ sy_B tk N (i + 1) true d) → wY_isStatement_76 post J x1 (nI N) lv ee tx qk qr qw da wa fi (m + 1) (nI j) := by
  intro m
  have hN := hT.1
  induction m with
  | zero =>
    intro j hj hij h0 hB
    unfold wY_isStatement_76
    refine ys_tok (i := j + 1) hT (by omega) ?_ (nI_1 j)
    have e1 : sy_y tk N (j + 1) = -1 := if_neg (by omega)
    rw [e1]
    exact br_t (by decide) (nm_r (nI_1 j) (KJ (j + 1) (by omega) (by omega) (fun l => absurd l (by omega)) h0 hB))
  | succ m ih =>
    intro j hj hij h0 hB
    have hb1 := sy_okb (hT.2 (j + 1) (by omega)).2
    have e1 : sy_y tk N (j + 1) = nI (tk (j + 1)) := if_pos (by omega)
    unfold wY_isStatement_76
    refine ys_tok (i := j + 1) hT (by omega) ?_ (nI_1 j)
    rw [e1]
    refine br_f (nI_pos (by omega)) ?_
    refine ys_tok (i := j + 1) hT (by omega) ?_ (nI_1 j)
    rw [e1]
    refine pk_le 10 (tk (j + 1)) (fun l => ?_) (fun l => ?_)
    · exact nm_r (nI_1 j) (KJ (j + 1) (by omega) (by omega) (fun _ => by omega) h0 hB)
    · refine nm_r (nI_1 j) (ih (j + 1) (by omega) (by omega) (by omega) ?_)
      exact (sb_num (by omega) (by omega) h0 (by omega)).symm.trans hB
theorem ys_6 {post : Int32 → Prop} (hT : sy_T tx N tk) : ∀ (n i d : Nat) (b : Bool), N < i + n → i ≤ N → d ≤ i → (b = true → i < N → tk i ≤ 9 → ¬ (0 < i ∧ tk (i - 1) ≤ 9)) → (sy_B tk N i b d → post 1) → (¬ sy_B tk N i b d → post 0) →
    wY_isStatement_6 post (nI N) lv ee tx qk qr qw da wa fi n (nI d) (xs_b b) (nI i) := by
  have hN := hT.1
  intro n
  induction n with
  | zero => intro i d b h; omega
  | succ n ih =>
    intro i d b hn hi hd hinv K1 K0
    refine pk_le N i (fun l => ?_) (fun l => ?_)
    · have e : i = N := by omega
      subst e
      cases b with
      | false => exact br_t rfl (K0 (fun H => nomatch (sb_end H).1))
      | true =>
        refine br_f (by decide) (pk_eq d 0 (fun z => ?_) (fun z => K0 (fun H => z (sb_end H).2)))
        subst z; exact K1 sy_rf
    · have hb := sy_okb (hT.2 i l).2
      have ok := (hT.2 i l).2
      refine And.intro (vp_in_nI (by omega) (by decide)) (nm_r (e' := nI (tk i)) (by rw [nI_clamp (by omega)]; exact (hT.2 i l).1) ?_)
      refine ys_fs hT l ?_ ?_
      · intro s s1 s2 s3 hf hu
        refine br_f (nI_nle s1 (by omega)) (nm_e (nm_r (e' := nI (i + s)) (by rw [nI_add]; grind) ?_))
        have key := sb_fn (b := b) (d := d) hf s3 hu
        exact ih (i + s) d false (by omega) s3 (by omega) (fun e => nomatch e) (fun H => K1 (key.mpr H)) (fun H => K0 (fun H2 => H (key.mp H2)))
      · intro hu
        refine br_t (by decide) ?_
        cases b with
        | true =>
          refine br_f (by decide) ?_
          have inv : sy_B tk N i true d → _ := fun H => sb_true H l (hinv rfl l) hu
          refine pk_eq (tk i) 51 (fun z => ?_) (fun z => K0 (fun H => z (inv H).1))
          cases d with
          | zero => exact br_t rfl (K0 (fun H => by obtain ⟨_, d1, e, _⟩ := inv H; omega))
          | succ d =>
            refine br_f (nI_ne0 (by omega) (by omega)) (nm_r (pk_m1 d) (nm_r (nI_1 i) ?_))
            refine ih (i + 1) d true (by omega) (by omega) (by omega) (fun _ _ _ w => ?_) (fun H => K1 (sb_close z l H)) (fun H => K0 (fun H2 => ?_))
            · have := w.2
              rw [Nat.add_sub_cancel] at this; omega
            · obtain ⟨_, d1, e, H3⟩ := inv H2
              have : d1 = d := by omega
              subst this; exact H H3
        | false =>
          refine br_t rfl ?_
          have inv : sy_B tk N i false d → _ := fun H => sb_false H l hu
          refine pk_le 10 (tk i) (fun l10 => pk_le 16 (tk i) (fun l16 => ?_) (fun l16 => ?_)) (fun l10 => ?_)
          · refine pk_eq (tk i) 50 (fun z => ?_) (fun z => ?_)
            · refine nm_r (nI_1 d) (nm_r (nI_1 i) (ih (i + 1) (d + 1) false (by omega) (by omega) (by omega) (fun e => nomatch e) (fun H => K1 ?_) (fun H => K0 (fun H2 => ?_))))
              · exact sy_hd ⟨by omega, Or.inr (Or.inr (Or.inr (Or.inl ⟨rfl, z, rfl, rfl, rfl⟩)))⟩ H
              · rcases inv H2 with h | h | h | h
                · omega
                · omega
                · omega
                · exact H h.2
            · refine K0 (fun H2 => ?_)
              rcases inv H2 with h | h | h | h
              · omega
              · omega
              · omega
              · exact z h.1
          · refine ys_tok (i := i + 1) hT (by omega) ?_ (nI_1 i)
            by_cases z52 : i + 1 < N ∧ tk (i + 1) = 52
            · have e1 : sy_y tk N (i + 1) = 52 := by unfold sy_y; rw [if_pos z52.1, z52.2]; rfl
              rw [e1]
              refine br_t rfl (br_t rfl (nm_r (nI_1 i) (nm_r (nI_1 (i + 1)) (ih (i + 2) d false (by omega) (by omega) (by omega) (fun e => nomatch e) (fun H => K1 ?_) (fun H => K0 (fun H2 => ?_))))))
              · exact sy_hd ⟨by omega, Or.inr (Or.inr (Or.inl ⟨rfl, l10, by omega, z52.2, rfl, rfl, rfl⟩))⟩ H
              · rcases inv H2 with h | ⟨_, _, h⟩ | h | h
                · omega
                · obtain ⟨p1, b1, d1, ⟨_, e⟩, _⟩ := sb_ft h z52.1
                  have e52 := z52.2
                  rcases e with e | e | e | e | e | ⟨e, _⟩
                  · omega
                  · omega
                  · omega
                  · omega
                  · omega
                  · have := fp_first e; omega
                · exact H h.2.2.2.2
                · omega
            · have e1 : ¬ sy_y tk N (i + 1) = 52 := by
                unfold sy_y
                by_cases l1 : i + 1 < N
                · rw [if_pos l1]
                  have hb1 := sy_okb (hT.2 (i + 1) l1).2
                  exact fun w => z52 ⟨l1, (nI_eq (by omega) (by decide)).mp w⟩
                · rw [if_neg l1]; decide
              refine br_f e1 (br_f (by decide) (nm_r (nI_1 i) (ih (i + 1) d true (by omega) (by omega) (by omega) (fun _ _ _ w => ?_) (fun H => K1 ?_) (fun H => K0 (fun H2 => ?_)))))
              · have := w.2
                rw [Nat.add_sub_cancel] at this; omega
              · exact sy_hd ⟨by omega, Or.inr (Or.inl ⟨rfl, l10, by omega, rfl, rfl, rfl⟩)⟩ H
              · rcases inv H2 with h | h | h | h
                · omega
                · exact H h.2.2
                · exact z52 ⟨by omega, h.2.2.2.1⟩
                · omega
          · have key : sy_B tk N i false d ↔ sy_B tk N (i + 1) true d := by
              refine ⟨fun H2 => ?_, fun H => sy_hd ⟨by omega, Or.inl ⟨rfl, by omega, Or.inl rfl, rfl, rfl⟩⟩ H⟩
              rcases inv H2 with h | h | h | h
              · exact h.2
              · omega
              · omega
              · omega
            refine ⟨N - i - 1 + 1, ys_76 (i := i) (d := d) hT (fun e e1 e2 e3 e4 e5 => ?_) (N - i - 1) i (by omega) (Nat.le_refl i) (by omega) Iff.rfl⟩
            exact ih e d true (by omega) e1 (by omega) (fun _ l9 w9 => absurd (e3 l9) (by omega)) (fun H => K1 (key.mpr (e5.mp H))) (fun H => K0 (fun H2 => H (e5.mpr (key.mp H2))))
theorem ys_stat {post : Int32 → Prop} (hT : sy_T tx N tk) (K1 : sy_Fw tk N N true 0 → post 1) (K0 : ¬ sy_Fw tk N N true 0 → post 0) : wpY_isStatement post (nI N, lv, ee, tx, qk, qr, qw, da, wa, fi) :=
  Exists.intro (N + 1) (ys_6 hT (N + 1) 0 0 false (by omega) (by omega) (by omega) (fun e => nomatch e) K1 K0)
end
end
section
/-! 40: working codes out, in plain Lean -/
abbrev rn_S : Type := (Nat → Option aw_V) × List aw_V
noncomputable def rn_st (tx : Nat → Int32) (c : sy_C) (s : rn_S) : Int32 × rn_S :=
  if c.1 = 0 then (0, s.1, (if c.2.2.1 = 1 then 0 else 1, 1, c.2.2.1, fun k => tx (c.2.1 + k)) :: s.2)
  else if c.1 = 1 then (match s.1 c.2.1 with | none => (-11, s) | some V => (0, s.1, V :: s.2))
  else if c.1 = 2 then (match s.2 with | [] => (0, s) | V :: pl => (0, (fun i => if i = c.2.1 then some V else s.1 i), V :: pl))
  else if c.1 = 3 then (match s.2 with | [] => (0, s) | V :: pl => ((aq_one c.2.1 c.2.2.1 V).1, s.1, (aq_one c.2.1 c.2.2.1 V).2 :: pl))
  else (match s.2 with | [] => (0, s) | X :: pl => (match pl with | [] => (0, s) | Y :: pl => ((aq_two c.2.1 c.2.2.1 c.2.2.2 X Y).1, s.1, (aq_two c.2.1 c.2.2.1 c.2.2.2 X Y).2 :: pl)))
noncomputable def rn_ev (tx : Nat → Int32) : List sy_C → rn_S → Int32 × rn_S
  | [], s => (0, s)
  | c :: cs, s => if (rn_st tx c s).1 = 0 then rn_ev tx cs (rn_st tx c s).2 else ((rn_st tx c s).1, s)
theorem ev_ok {tx : Nat → Int32} {c : sy_C} {cs : List sy_C} {s s' : rn_S} (h : rn_st tx c s = (0, s')) : rn_ev tx (c :: cs) s = rn_ev tx cs s' := by
  show (if (rn_st tx c s).1 = 0 then rn_ev tx cs (rn_st tx c s).2 else ((rn_st tx c s).1, s)) = _
  rw [h, if_pos rfl]
theorem ev_er {tx : Nat → Int32} {c : sy_C} {cs : List sy_C} {s : rn_S} (h : ¬ (rn_st tx c s).1 = 0) : rn_ev tx (c :: cs) s = ((rn_st tx c s).1, s) := if_neg h
theorem es_num {tx : Nat → Int32} {a b e : Nat} {nm : Nat → Option aw_V} {pl : List aw_V} : rn_st tx (0, a, b, e) (nm, pl) = (0, nm, (if b = 1 then 0 else 1, 1, b, fun k => tx (a + k)) :: pl) := rfl
theorem es_nm1 {tx : Nat → Int32} {a b e : Nat} {nm : Nat → Option aw_V} {pl : List aw_V} {V : aw_V} (h : nm a = some V) : rn_st tx (1, a, b, e) (nm, pl) = (0, nm, V :: pl) := by
  simp [rn_st, h]
theorem es_nm0 {tx : Nat → Int32} {a b e : Nat} {nm : Nat → Option aw_V} {pl : List aw_V} (h : nm a = none) : rn_st tx (1, a, b, e) (nm, pl) = (-11, nm, pl) := by
  simp [rn_st, h]
theorem es_bec {tx : Nat → Int32} {a b e : Nat} {nm : Nat → Option aw_V} {pl : List aw_V} {V : aw_V} : rn_st tx (2, a, b, e) (nm, V :: pl) = (0, (fun i => if i = a then some V else nm i), V :: pl) := rfl
theorem es_one {tx : Nat → Int32} {a b e : Nat} {nm : Nat → Option aw_V} {pl : List aw_V} {V : aw_V} : rn_st tx (3, a, b, e) (nm, V :: pl) = ((aq_one a b V).1, nm, (aq_one a b V).2 :: pl) := rfl
theorem es_two {tx : Nat → Int32} {a b e : Nat} {nm : Nat → Option aw_V} {pl : List aw_V} {X Y : aw_V} : rn_st tx (4, a, b, e) (nm, X :: Y :: pl) = ((aq_two a b e X Y).1, nm, (aq_two a b e X Y).2 :: pl) := rfl
/-- codes that can be worked out over n values, to one value -/
def rn_D (N : Nat) : List sy_C → Nat → Prop
  | [], n => n = 1
  | c :: cs, n =>
    (c.1 = 0 ∧ 0 < c.2.2.1 ∧ c.2.1 + c.2.2.1 ≤ N ∧ rn_D N cs (n + 1)) ∨ (c.1 = 1 ∧ c.2.1 < 6 ∧ rn_D N cs (n + 1)) ∨ (c.1 = 2 ∧ c.2.1 < 6 ∧ 0 < n ∧ rn_D N cs n) ∨
    (c.1 = 3 ∧ rn_FV c.2.1 c.2.2.1 c.2.2.2 ∧ 0 < n ∧ rn_D N cs n) ∨ (c.1 = 4 ∧ rn_FV c.2.1 c.2.2.1 c.2.2.2 ∧ 1 < n ∧ rn_D N cs (n - 1))
def rn_pd : List (Option sy_F) → Nat
  | [] => 0
  | none :: ws => rn_pd ws
  | some _ :: ws => rn_pd ws + 1
def rn_wv : List (Option sy_F) → Prop
  | [] => True
  | w :: ws => (∀ F, w = some F → rn_FV F.1 F.2.1 F.2.2) ∧ rn_wv ws
def rn_b (b : Bool) : Nat := if b then 0 else 1
theorem cs_D {tk : Nat → Nat} {N q : Nat} {b : Bool} {ws : List (Option sy_F)} {cs : List sy_C} (h : sy_CS tk q b ws cs) : q ≤ N → rn_wv ws → rn_D N cs (rn_pd ws + rn_b b) := by
  refine h (fun q b ws cs => q ≤ N → rn_wv ws → rn_D N cs (rn_pd ws + rn_b b)) ⟨?_, ?_, ?_, ?_, ?_, ?_, ?_, ?_⟩
  · exact fun _ _ => rfl
  · intro q w ws cs _ I hq hw
    exact I (by omega) ⟨fun F e => (nomatch e), hw⟩
  · intro q w ws cs h1 h2 I hq hw
    have D := I (by omega) ⟨fun F e => (nomatch e), hw.2⟩
    refine Or.inr (Or.inl ⟨rfl, (by show tk q - 10 < 6; omega), ?_⟩)
    cases w with
    | none => exact D
    | some F => exact Or.inr (Or.inr (Or.inr (Or.inr ⟨rfl, hw.1 F rfl, (by show 1 < rn_pd ws + 1 + 0 + 1; omega), D⟩)))
  · intro s q w ws cs h1 h2 h3 I hq hw
    have D := I (by omega) ⟨fun F e => (nomatch e), hw.2⟩
    refine Or.inl ⟨rfl, (by show 0 < q - s; omega), (by show s + (q - s) ≤ N; omega), ?_⟩
    cases w with
    | none => exact D
    | some F => exact Or.inr (Or.inr (Or.inr (Or.inr ⟨rfl, hw.1 F rfl, (by show 1 < rn_pd ws + 1 + 0 + 1; omega), D⟩)))
  · intro q w ws cs _ I hq hw
    have D := I (by omega) ⟨fun F e => (nomatch e), hw.2.2⟩
    cases w with
    | none => exact D
    | some F => exact Or.inr (Or.inr (Or.inr (Or.inr ⟨rfl, hw.2.1 F rfl, (by show 1 < rn_pd ws + 1 + 1; omega), D⟩)))
  · intro q ws cs _ h1 h2 I hq hw
    exact Or.inr (Or.inr (Or.inl ⟨rfl, (by show tk q - 10 < 6; omega), (by show 0 < rn_pd ws + 1; omega), I (by omega) hw⟩))
  · intro s q F ws cs hf _ I hq hw
    have hs : s < q := (fp_first (sy_fnp hf)).1
    exact I (by omega) ⟨fun F' e => by cases e; exact sy_fnV hf, hw.2⟩
  · intro s q F ws cs hf _ I hq hw
    have hs : s < q := (fp_first (sy_fnp hf)).1
    exact Or.inr (Or.inr (Or.inr (Or.inl ⟨rfl, sy_fnV hf, (by show 0 < rn_pd ws + 1; omega), I (by omega) hw⟩)))
theorem cs_len {tk : Nat → Nat} {q : Nat} {b : Bool} {ws : List (Option sy_F)} {cs : List sy_C} (h : sy_CS tk q b ws cs) : cs.length ≤ q + rn_pd ws := by
  refine h (fun q _ ws cs => cs.length ≤ q + rn_pd ws) ⟨?_, ?_, ?_, ?_, ?_, ?_, ?_, ?_⟩
  · exact Nat.le_refl 0
  · intro q w ws cs _ I
    have I' : cs.length ≤ q + rn_pd (w :: ws) := I
    show cs.length ≤ q + 1 + rn_pd (w :: ws)
    omega
  · intro q w ws cs _ _ I
    have I' : cs.length ≤ q + rn_pd ws := I
    cases w with
    | none => show cs.length + 1 ≤ q + 1 + rn_pd ws; omega
    | some F => show cs.length + 1 + 1 ≤ q + 1 + (rn_pd ws + 1); omega
  · intro s q w ws cs hs _ _ I
    have I' : cs.length ≤ s + rn_pd ws := I
    cases w with
    | none => show cs.length + 1 ≤ q + rn_pd ws; omega
    | some F => show cs.length + 1 + 1 ≤ q + (rn_pd ws + 1); omega
  · intro q w ws cs _ I
    have I' : cs.length ≤ q + rn_pd ws := I
    cases w with
    | none => show cs.length ≤ q + 1 + rn_pd ws; omega
    | some F => show cs.length + 1 ≤ q + 1 + (rn_pd ws + 1); omega
  · intro q ws cs _ _ _ I
    have I' : cs.length ≤ q + rn_pd ws := I
    show cs.length + 1 ≤ q + 2 + rn_pd ws
    omega
  · intro s q F ws cs hf _ I
    have hs : s < q := (fp_first (sy_fnp hf)).1
    have I' : cs.length ≤ s + (rn_pd ws + 1) := I
    show cs.length ≤ q + rn_pd ws
    omega
  · intro s q F ws cs hf _ I
    have hs : s < q := (fp_first (sy_fnp hf)).1
    have I' : cs.length ≤ s + rn_pd ws := I
    show cs.length + 1 ≤ q + rn_pd ws
    omega
end
section
/-! 41: the component works codes out -/
def rn_PL (g : Nat → Option aw_V) : List aw_V → Prop
  | [] => True
  | V :: pl => g (13 + pl.length) = some V ∧ rn_PL g pl
theorem pl_gs {g : Nat → Option aw_V} {t : Nat} {v : aw_V} : ∀ {pl : List aw_V}, (t < 13 ∨ 13 + pl.length ≤ t) → rn_PL g pl → rn_PL (aw_gs g t v) pl := by
  intro pl
  induction pl with
  | nil => intro _ _; trivial
  | cons V pl ih =>
    intro h H
    rw [List.length_cons] at h
    exact ⟨by rw [aw_gsn (by omega)]; exact H.1, ih (by omega) H.2⟩
/-- the pile and the names that slots hold -/
def rn_X (g g0 : Nat → Option aw_V) (T : Nat) (nm : Nat → Option aw_V) (pl : List aw_V) : Prop :=
  T = 13 + pl.length ∧ rn_PL g pl ∧ (∀ i, i < 6 → rn_nm g i = nm i) ∧ ∀ a, a < 7 → g a = g0 a
theorem rn_ngs {g : Nat → Option aw_V} {t i : Nat} {v : aw_V} (h : 13 ≤ t) (hi : i < 6) : rn_nm (aw_gs g t v) i = rn_nm g i := by
  unfold rn_nm
  rw [aw_gsn (by omega), aw_gsn (by omega)]
theorem rn_ngs7 {g : Nat → Option aw_V} {a i : Nat} {v : aw_V} (hi : i < 6) (ha : a < 6) : rn_nm (aw_gs g (7 + a) v) i = if i = a then some v else rn_nm g i := by
  unfold rn_nm
  by_cases z : i = a
  · subst z; rw [aw_gss, if_pos rfl]
  · rw [aw_gsn (by omega), aw_gsn (by omega), if_neg z]
section
variable {cn cd nx ws fn tp us er fl : Int32} {tx co ca cb wt rk ro cl sr rs sp hv st mv : Nat → Int32} {g g0 nm : Nat → Option aw_V} {T U N k : Nat} {pl : List aw_V}
theorem rx_gs {v : aw_V} (h : rn_X g g0 T nm pl) {t : Nat} (ht : 13 ≤ t) {pl' : List aw_V} (hp : rn_PL (aw_gs g t v) pl') : rn_X (aw_gs g t v) g0 (13 + pl'.length) nm pl' :=
  ⟨rfl, hp, fun i hi => (rn_ngs ht hi).trans (h.2.2.1 i hi), fun a ha => by rw [aw_gsn (by omega)]; exact h.2.2.2 a ha⟩
/-- one code -/
theorem xr_perf {post : SX → Prop} {c : sy_C} {cs : List sy_C} (hN : N ≤ 30) (hk : k < 64) (e1 : co k = nI c.1) (e2 : ca k = xs_A c) (e3 : c.1 = 0 → cb k = nI c.2.2.1) (h : aw_HX g T us rk ro cl sr rs sp hv st) (R : rn_X g g0 T nm pl) (hT : T ≤ 46) (D : rn_D N (c :: cs) pl.length)
    (K0 : ∀ nm' pl' g' T', rn_st tx c (nm, pl) = (0, nm', pl') → rn_D N cs pl'.length → pl'.length ≤ pl.length + 1 → rn_X g' g0 T' nm' pl' → aw_PO post g' T' T' cn cd nx ws fn 0 fl tx co ca cb wt)
    (K1 : ¬ (rn_st tx c (nm, pl)).1 = 0 → aw_PO post g T T cn cd nx ws fn ((rn_st tx c (nm, pl)).1) fl tx co ca cb wt) : wpX_perform post (cn, cd, nx, ws, fn, nI T, us, 0, fl, tx, co, ca, cb, wt, rk, ro, cl, sr, rs, sp, hv, st, mv) (nI k) := by
  have hin : vp_in (nI k) 64 := vp_in_nI hk (by decide)
  have ek : (nI k).toNatClampNeg = k := nI_clamp (by omega)
  obtain ⟨op, a, b, f⟩ := c
  have hT13 : 13 ≤ T := by have := R.1; omega
  refine And.intro hin (nm_r (e' := nI op) (by rw [ek]; exact e1) ?_)
  rw [ek]
  rcases D with ⟨h0, h1, h2, D⟩ | ⟨h0, h1, D⟩ | ⟨h0, h1, h2, D⟩ | ⟨h0, h1, h2, D⟩ | ⟨h0, h1, h2, D⟩
  · have h0' : op = 0 := h0
    subst h0'
    have e2' : ca k = nI a := e2
    have e3' : cb k = nI b := e3 rfl
    refine br_t rfl (And.intro hin (And.intro hin ?_))
    rw [e2', e3']
    have R' := rx_gs (v := (if b = 1 then 0 else 1, 1, b, fun k => tx (a + k))) (t := T) (pl' := (if b = 1 then 0 else 1, 1, b, fun k => tx (a + k)) :: pl) R hT13 ⟨by rw [← R.1]; exact aw_gss, pl_gs (by have := R.1; omega) R.2.1⟩
    have eT : T + 1 = 13 + ((if b = 1 then 0 else 1, 1, b, fun k => tx (a + k)) :: pl : List aw_V).length := by rw [List.length_cons, R.1]; omega
    have K := K0 _ _ _ _ es_num D (by rw [List.length_cons]; omega) R'
    rw [← eT] at K
    have h1' : 0 < b := h1
    have h2' : a + b ≤ N := h2
    exact xu_nums (p := a) (q := b) h hT13 (by omega) h1' (by omega) K
  · have h0' : op = 1 := h0
    subst h0'
    have h1' : a < 6 := h1
    have e2' : ca k = nI a := e2
    refine br_f (by decide) (br_t rfl (And.intro hin ?_))
    rw [e2']
    refine xu_name h hT13 hT h1' (fun V hV => ?_) (fun hV => ?_)
    · have hn : nm a = some V := (R.2.2.1 a h1').symm.trans hV
      have R' := rx_gs (v := V) (t := T) (pl' := V :: pl) R hT13 ⟨by rw [← R.1]; exact aw_gss, pl_gs (by have := R.1; omega) R.2.1⟩
      have eT : T + 1 = 13 + (V :: pl).length := by rw [List.length_cons, R.1]; omega
      have K := K0 _ _ _ _ (es_nm1 hn) D (by rw [List.length_cons]; omega) R'
      rw [← eT] at K
      exact K
    · have hn : nm a = none := (R.2.2.1 a h1').symm.trans hV
      have e : rn_st tx (1, a, b, f) (nm, pl) = (-11, nm, pl) := es_nm0 hn
      rw [e] at K1
      exact K1 (show ¬ (-11 : Int32) = 0 by decide)
  · have h0' : op = 2 := h0
    subst h0'
    have h1' : a < 6 := h1
    have e2' : ca k = nI a := e2
    cases pl with
    | nil => exact absurd h2 (by decide)
    | cons V pl =>
      refine br_f (by decide) (br_f (by decide) (br_t rfl (And.intro hin ?_)))
      rw [e2']
      have e7 : 7 + nI a = nI (7 + a) := nI_add 7 a
      have eT : T = 13 + pl.length + 1 := by have := R.1; rw [List.length_cons] at this; omega
      have et : nI T - 1 = nI (13 + pl.length) := by rw [eT]; exact nI_pred _
      obtain ⟨U, rfl, H⟩ := h
      obtain ⟨r, m, n, c⟩ := V
      refine xl_share (f := 13 + pl.length) (t := 7 + a) (by omega) (by omega) ?_ et e7
      have R' : rn_X (aw_gs g (7 + a) (r, m, n, c)) g0 T (fun i => if i = a then some (r, m, n, c) else nm i) ((r, m, n, c) :: pl) := by
        refine ⟨R.1, pl_gs (Or.inl (by omega)) R.2.1, fun i hi => ?_, fun b hb => by rw [aw_gsn (by omega)]; exact R.2.2.2 b hb⟩
        rw [rn_ngs7 hi h1', R.2.2.1 i hi]
      exact K0 _ _ _ _ es_bec D (by omega) R' _ _ _ _ _ _ _ _ _ _ ⟨U, rfl, hp_share H (by omega) R.2.1.1 (fun b hb z => hb)⟩
  · have h0' : op = 3 := h0
    subst h0'
    have hb := rn_FVb h1
    have e2' : ca k = nI (rn_F a b f) := e2
    cases pl with
    | nil => exact absurd h2 (by decide)
    | cons V pl =>
      refine br_f (by decide) (br_f (by decide) (br_f (by decide) (br_t rfl (And.intro hin ?_))))
      rw [e2']
      have eT : 13 + pl.length + 1 = T := by have := R.1; rw [List.length_cons] at this; omega
      obtain ⟨r, m, n, c⟩ := V
      refine xu_one hb.1 hb.2.1 hb.2.2 h hT13 (by omega) eT R.2.1.1 (fun z => ?_) (fun z => ?_)
      · have R' := rx_gs (v := (aq_one a b (r, m, n, c)).2) (t := 13 + pl.length) (pl' := (aq_one a b (r, m, n, c)).2 :: pl) R (by omega) ⟨aw_gss, pl_gs (Or.inr (Nat.le_refl _)) R.2.1.2⟩
        have eT' : T = 13 + ((aq_one a b (r, m, n, c)).2 :: pl).length := by rw [List.length_cons]; omega
        have es : rn_st tx (3, a, b, f) (nm, (r, m, n, c) :: pl) = (0, nm, (aq_one a b (r, m, n, c)).2 :: pl) := by rw [es_one, z]
        have K := K0 _ _ _ _ es D (by rw [List.length_cons, List.length_cons]; omega) R'
        rw [← eT'] at K
        exact K
      · exact K1 z
  · have h0' : op = 4 := h0
    subst h0'
    have hb := rn_FVb h1
    have e2' : ca k = nI (rn_F a b f) := e2
    cases pl with
    | nil => exact absurd h2 (by decide)
    | cons X pl =>
      cases pl with
      | nil => exact absurd h2 (show ¬ 1 < 1 by decide)
      | cons Y pl =>
        refine br_f (by decide) (br_f (by decide) (br_f (by decide) (br_f (by decide) (And.intro hin ?_))))
        rw [e2']
        have eT : 13 + pl.length + 1 + 1 = T := by have := R.1; rw [List.length_cons, List.length_cons] at this; omega
        obtain ⟨r, m, n, c⟩ := X
        obtain ⟨r', m', n', c'⟩ := Y
        have gx : g (13 + pl.length + 1) = some (r, m, n, c) := by have := R.2.1.1; rw [List.length_cons] at this; exact this
        refine xu_two hb.1 hb.2.1 hb.2.2 h hT13 (by omega) eT gx (y := 13 + pl.length) (by omega) R.2.1.2.1 (fun z => ?_) (fun z => ?_)
        · have R' := rx_gs (v := (aq_two a b f (r, m, n, c) (r', m', n', c')).2) (t := 13 + pl.length) (pl' := (aq_two a b f (r, m, n, c) (r', m', n', c')).2 :: pl) R (by omega) ⟨aw_gss, pl_gs (Or.inr (Nat.le_refl _)) R.2.1.2.2⟩
          have eT' : 13 + pl.length + 1 = 13 + ((aq_two a b f (r, m, n, c) (r', m', n', c')).2 :: pl).length := by rw [List.length_cons]; omega
          have es : rn_st tx (4, a, b, f) (nm, (r, m, n, c) :: (r', m', n', c') :: pl) = (0, nm, (aq_two a b f (r, m, n, c) (r', m', n', c')).2 :: pl) := by rw [es_two, z]
          have K := K0 _ _ _ _ es (by rw [List.length_cons, List.length_cons] at D; exact D) (by rw [List.length_cons, List.length_cons, List.length_cons]; omega) R'
          rw [← eT'] at K
          exact K
        · exact K1 z
/-- all codes -/
theorem xr_49 {post : Int32 → SX → Prop} (hN : N ≤ 30) : ∀ (cs : List sy_C) (k n T : Nat) (g nm : Nat → Option aw_V) (pl : List aw_V) (us : Int32) (rk ro cl sr rs sp hv st mv : Nat → Int32), cs.length < n → xs_CA co ca cb k cs → k + cs.length ≤ 32 → pl.length ≤ k → rn_D N cs pl.length → aw_HX g T us rk ro cl sr rs sp hv st → rn_X g g0 T nm pl →
    (∀ nm' V g', rn_ev tx cs (nm, pl) = (0, nm', [V]) → rn_X g' g0 14 nm' [V] → aw_PO (fun u => match u with | (cn, cd, nx, ws, fn, tp, us, er, fl, tx, co, ca, cb, wt, rk, ro, cl, sr, rs, sp, hv, st, mv) => wX_run_75 post cn cd nx ws fn tp us er fl tx co ca cb wt rk ro cl sr rs sp hv st mv) g' 14 14 cn (nI (k + cs.length)) nx ws fn 0 fl tx co ca cb wt) →
    (∀ g' T', ¬ (rn_ev tx cs (nm, pl)).1 = 0 → 13 ≤ T' → T' ≤ 46 → (∀ a, a < 7 → g' a = g0 a) → aw_PO (fun u => match u with | (cn, cd, nx, ws, fn, tp, us, er, fl, tx, co, ca, cb, wt, rk, ro, cl, sr, rs, sp, hv, st, mv) => wX_run_75 post cn cd nx ws fn tp us er fl tx co ca cb wt rk ro cl sr rs sp hv st mv) g' T' T' cn (nI (k + cs.length)) nx ws fn ((rn_ev tx cs (nm, pl)).1) fl tx co ca cb wt) →
    wX_run_49 post n (nI k) cn (nI (k + cs.length)) nx ws fn (nI T) us 0 fl tx co ca cb wt rk ro cl sr rs sp hv st mv := by
  intro cs
  induction cs with
  | nil =>
    intro k n T g nm pl us rk ro cl sr rs sp hv st mv hn hC hk hp D h R K0 K1
    obtain ⟨n, rfl⟩ : ∃ j, n = j + 1 := ⟨n - 1, by omega⟩
    have e1 : pl.length = 1 := D
    obtain ⟨V, rfl⟩ : ∃ V, pl = [V] := by
      cases pl with
      | nil => exact absurd e1 (by decide)
      | cons V pl =>
        cases pl with
        | nil => exact ⟨V, rfl⟩
        | cons W pl => rw [List.length_cons, List.length_cons] at e1; omega
    have eT : T = 14 := R.1
    subst eT
    refine br_t (nI_le (by show k + 0 ≤ k; omega) (by omega)) (K0 nm V g rfl R _ _ _ _ _ _ _ _ _ _ h)
  | cons c cs ih =>
    intro k n T g nm pl us rk ro cl sr rs sp hv st mv hn hC hk hp D h R K0 K1
    rw [List.length_cons] at hn hk
    obtain ⟨n, rfl⟩ : ∃ j, n = j + 1 := ⟨n - 1, by omega⟩
    have eT := R.1
    have eL : k + (c :: cs).length = k + 1 + cs.length := by rw [List.length_cons]; omega
    rw [eL] at K0 K1 ⊢
    refine br_f (nI_ge (by omega) (by omega)) (br_t rfl ?_)
    refine xr_perf hN (by omega) hC.1.1 hC.1.2.1 hC.1.2.2 h R (by omega) D ?_ ?_
    · intro nm' pl' g' T' es D' hp' R' us rk ro cl sr rs sp hv st mv h'
      have ev := ev_ok (cs := cs) es
      rw [ev] at K0 K1
      exact nm_r (nI_1 k) (ih (k + 1) n T' g' nm' pl' us rk ro cl sr rs sp hv st mv (by omega) hC.2 (by omega) (by omega) D' h' R' K0 K1)
    · intro z us rk ro cl sr rs sp hv st mv h'
      have ev := ev_er (cs := cs) z
      rw [ev] at K1
      obtain ⟨n, rfl⟩ : ∃ j, n = j + 1 := ⟨n - 1, by omega⟩
      refine nm_r (nI_1 k) ?_
      have KK := K1 g T z (by omega) (by omega) R.2.2.2 us rk ro cl sr rs sp hv st mv h'
      exact br_c (fun _ => KK) (fun _ => br_f z KK)
end
end
section
/-! 42: the component's run -/
def rn_z (g : Nat → Option aw_V) (n : Nat) : Nat → Option aw_V := fun a => if 7 ≤ a ∧ a < 7 + n then none else g a
def rn_y (g : Nat → Option aw_V) (n : Nat) : Nat → Option aw_V := fun a => if a < n then rn_nm g a else g a
section
variable {cn cd nx ws fn tp us er fl : Int32} {tx co ca cb wt rk ro cl sr rs sp hv st mv : Nat → Int32} {g g0 nm : Nat → Option aw_V} {T U N k n : Nat} {pl : List aw_V}
theorem hz_step (h : aw_HX (rn_z g n) T us rk ro cl sr rs sp hv st) : aw_HX (rn_z g (n + 1)) T us rk ro cl sr rs sp (upd hv (7 + n) 0) st := by
  obtain ⟨U, rfl, H⟩ := h
  refine ⟨U, rfl, H.1, fun a ha => ?_⟩
  by_cases z : a = 7 + n
  · subst z
    have e : rn_z g (n + 1) (7 + n) = none := if_pos (by omega)
    rw [e, pk_us]
    exact ⟨fun _ => rfl, fun r m n c w => (nomatch w)⟩
  · have e : rn_z g (n + 1) a = rn_z g n a := by
      unfold rn_z
      by_cases w : 7 ≤ a ∧ a < 7 + n
      · rw [if_pos w, if_pos (by omega)]
      · rw [if_neg w, if_neg (by omega)]
    rw [e, pk_un z]
    exact H.2 a ha
theorem hz_0 (h : aw_HX g T us rk ro cl sr rs sp hv st) : aw_HX (rn_z g 0) T us rk ro cl sr rs sp hv st := hp_ext h (fun a _ => if_neg (by omega))
theorem xr_127 {post : Int32 → SX → Prop} (h : aw_HX g T us rk ro cl sr rs sp hv st) (K : ∀ hv, aw_HX (rn_z g 6) T us rk ro cl sr rs sp hv st → (er = 0 → post (rk 6) (cn, cd, nx, ws, fn, 13, us, er, fl, tx, co, ca, cb, wt, rk, ro, cl, sr, rs, sp, hv, st, mv)) ∧ (¬ er = 0 → post er (cn, cd, nx, ws, fn, 13, us, er, fl, tx, co, ca, cb, wt, rk, ro, cl, sr, rs, sp, hv, st, mv))) : ∃ n127, wX_run_127 post cn cd nx ws fn tp us er fl n127 0 tx co ca cb wt rk ro cl sr rs sp hv st mv := by
  refine loop_0 (fun n1 k hv => wX_run_127 post cn cd nx ws fn tp us er fl n1 (nI k) tx co ca cb wt rk ro cl sr rs sp hv st mv) (fun k hv => aw_HX (rn_z g k) T us rk ro cl sr rs sp hv st) 6 hv (hz_0 h) ?_ ?_
  · intro n1 hv I
    exact br_t (by decide) (K hv I)
  · intro n1 k hv hk I ih
    have e7 : 7 + nI k = nI (7 + k) := nI_add 7 k
    refine br_f (nI_ge (b := 6) hk (by decide)) (And.intro (pk_in (7 + k) 48 (by omega) e7) (nm_r (e' := upd hv (7 + k) 0) ?_ (nm_r (nI_1 k) (ih _ (hz_step I)))))
    rw [e7, nI_clamp (by omega)]; rfl
theorem hy_step (h : aw_HX (rn_y g n) T us rk ro cl sr rs sp hv st) (hn : n < 6) (hT : 13 ≤ T) : (hv (7 + n) = 0 → aw_HX (rn_y g (n + 1)) T us rk ro cl sr rs sp hv st) ∧
    (¬ hv (7 + n) = 0 → aw_HX (rn_y g (n + 1)) T us (upd rk n (rk (7 + n))) (upd ro n (ro (7 + n))) (upd cl n (cl (7 + n))) (upd sr n (sr (7 + n))) (upd rs n (rs (7 + n))) (upd sp n (sp (7 + n))) (upd hv n 1) st) := by
  have e7 : rn_y g n (7 + n) = g (7 + n) := if_neg (by omega)
  have eo : ∀ a, a ≠ n → rn_y g (n + 1) a = rn_y g n a := by
    intro a ha
    unfold rn_y
    by_cases w : a < n
    · rw [if_pos w, if_pos (by omega)]
    · rw [if_neg w, if_neg (by omega)]
  have en : rn_y g (n + 1) n = rn_nm g n := if_pos (by omega)
  have en0 : rn_y g n n = g n := if_neg (by omega)
  obtain ⟨U, rfl, H⟩ := h
  refine ⟨fun z => ?_, fun z => ?_⟩
  · refine hp_ext ⟨U, rfl, H⟩ (fun a ha => ?_)
    by_cases w : a = n
    · subst w
      rw [en, en0]
      unfold rn_nm
      cases hg : g (7 + a) with
      | none => rfl
      | some V =>
        obtain ⟨r, m, n, c⟩ := V
        exact absurd z (hp_hv H (by omega) (e7.trans hg))
    · exact eo a w
  · cases hg : g (7 + n) with
    | none => exact absurd (hp_none H (by omega) (e7.trans hg)) z
    | some V =>
      obtain ⟨r, m, n', c⟩ := V
      refine hp_ext ⟨U, rfl, hp_share (T' := T) H (by omega) (e7.trans hg) (fun a ha _ => ha)⟩ (fun a ha => ?_)
      by_cases w : a = n
      · subst w
        rw [en, aw_gss]
        unfold rn_nm
        rw [hg]
      · rw [eo a w, aw_gsn w]
theorem xr_92 {post : Int32 → SX → Prop} (hT : 13 ≤ T) (K : ∀ us rk ro cl sr rs sp hv st mv, aw_HX (rn_y g 6) T us rk ro cl sr rs sp hv st → ∃ n127, wX_run_127 post cn cd nx ws fn tp us er fl n127 0 tx co ca cb wt rk ro cl sr rs sp hv st mv) :
    ∀ (d n n1 : Nat) (us : Int32) (rk ro cl sr rs sp hv st mv : Nat → Int32), n + d = 6 → d < n1 → aw_HX (rn_y g n) T us rk ro cl sr rs sp hv st → wX_run_92 post n1 (nI n) cn cd nx ws fn tp us er fl tx co ca cb wt rk ro cl sr rs sp hv st mv := by
  intro d
  induction d with
  | zero =>
    intro n n1 us rk ro cl sr rs sp hv st mv hn hd h
    obtain ⟨n1, rfl⟩ : ∃ j, n1 = j + 1 := ⟨n1 - 1, by omega⟩
    have e : n = 6 := by omega
    subst e
    exact br_t (by decide) (K _ _ _ _ _ _ _ _ _ _ h)
  | succ d ih =>
    intro n n1 us rk ro cl sr rs sp hv st mv hn hd h
    obtain ⟨n1, rfl⟩ : ∃ j, n1 = j + 1 := ⟨n1 - 1, by omega⟩
    have e7 : 7 + nI n = nI (7 + n) := nI_add 7 n
    have S := hy_step h (by omega) hT
    refine br_f (nI_ge (b := 6) (by omega) (by decide)) (And.intro (pk_in (7 + n) 48 (by omega) e7) ?_)
    have eh : hv (7 + nI n).toNatClampNeg = hv (7 + n) := by rw [e7, nI_clamp (by omega)]
    rw [eh]
    refine br_c (fun z => nm_r (nI_1 n) (ih (n + 1) n1 _ _ _ _ _ _ _ _ _ _ (by omega) (by omega) (S.1 z))) (fun z => ?_)
    exact xl_share (f := 7 + n) (t := n) (by omega) (by omega) (nm_r (nI_1 n) (ih (n + 1) n1 _ _ _ _ _ _ _ _ _ _ (by omega) (by omega) (S.2 z))) e7
/-- what a run leaves, and answers -/
def rn_KX (post : Int32 → SX → Prop) (e : Int32) (g' : Nat → Option aw_V) (cn : Int32) (tx : Nat → Int32) : Prop :=
  ∀ cd nx ws fn us er fl co ca cb wt rk ro cl sr rs sp hv st mv, aw_HX g' 13 us rk ro cl sr rs sp hv st → post (if e = 0 then rk 6 else e) (cn, cd, nx, ws, fn, 13, us, er, fl, tx, co, ca, cb, wt, rk, ro, cl, sr, rs, sp, hv, st, mv)
theorem xr_75 {post : Int32 → SX → Prop} {V : aw_V} (h : aw_HX g 14 us rk ro cl sr rs sp hv st) (hV : g 13 = some V) (K : rn_KX post 0 (rn_z (rn_y (aw_gs g 6 V) 6) 6) cn tx) : wX_run_75 post cn cd nx ws fn (nI 14) us 0 fl tx co ca cb wt rk ro cl sr rs sp hv st mv := by
  obtain ⟨U, rfl, H⟩ := h
  obtain ⟨r, m, n, c⟩ := V
  refine br_t rfl ?_
  refine xl_share (f := 13) (t := 6) (by decide) (by decide) ⟨7, xr_92 (T := 14) (g := aw_gs g 6 (r, m, n, c)) (by omega) ?_ 6 0 7 _ _ _ _ _ _ _ _ _ _ (by omega) (by omega) (hp_ext ⟨U, rfl, hp_share (T' := 14) H (by omega) hV (fun a ha _ => ha)⟩ (fun a ha => if_neg (by omega)))⟩
  intro us rk ro cl sr rs sp hv st mv h
  refine xr_127 h (fun hv h2 => br_t rfl ?_)
  obtain ⟨U2, rfl, H2⟩ := h2
  have := K cd nx ws fn (nI U2) 0 fl co ca cb wt rk ro cl sr rs sp hv st mv ⟨U2, rfl, hp_less H2 (by omega)⟩
  rw [if_pos rfl] at this
  exact this
theorem xr_75e {post : Int32 → SX → Prop} (h : aw_HX g T us rk ro cl sr rs sp hv st) (hT : 13 ≤ T) (he : ¬ er = 0) (K : rn_KX post er (rn_z g 6) cn tx) : wX_run_75 post cn cd nx ws fn (nI T) us er fl tx co ca cb wt rk ro cl sr rs sp hv st mv := by
  refine br_f he ?_
  refine xr_127 h (fun hv h2 => br_f he ?_)
  obtain ⟨U2, rfl, H2⟩ := h2
  have := K cd nx ws fn (nI U2) er fl co ca cb wt rk ro cl sr rs sp hv st mv ⟨U2, rfl, hp_less H2 hT⟩
  rw [if_neg he] at this
  exact this
theorem xr_25 {post : Int32 → SX → Prop} (h : aw_HX g 13 us rk ro cl sr rs sp hv st) (K : ∀ hv, aw_HX (rn_z g 6) 13 us rk ro cl sr rs sp hv st → ∃ n49, wX_run_49 post n49 0 cn cd nx ws fn tp us er fl tx co ca cb wt rk ro cl sr rs sp hv st mv) : ∃ n25, wX_run_25 post cn cd nx ws fn tp us er fl n25 0 tx co ca cb wt rk ro cl sr rs sp hv st mv := by
  refine loop_0 (fun n1 k hv => wX_run_25 post cn cd nx ws fn tp us er fl n1 (nI k) tx co ca cb wt rk ro cl sr rs sp hv st mv) (fun k hv => aw_HX (rn_z g k) 13 us rk ro cl sr rs sp hv st) 6 hv (hz_0 h) ?_ ?_
  · intro n1 hv I
    exact br_t (by decide) (K hv I)
  · intro n1 k hv hk I ih
    have e7 : 7 + nI k = nI (7 + k) := nI_add 7 k
    refine br_f (nI_ge (b := 6) hk (by decide)) (And.intro (pk_in (7 + k) 48 (by omega) e7) (nm_r (e' := upd hv (7 + k) 0) ?_ (nm_r (nI_1 k) (ih _ (hz_step I)))))
    rw [e7, nI_clamp (by omega)]; rfl
theorem xr_run {post : Int32 → SX → Prop} {tk : Nat → Nat} (hT : sy_T tx N tk) (h : aw_HX g 13 us rk ro cl sr rs sp hv st)
    (K0 : ¬ sy_Fw tk N N true 0 → ∀ cd nx ws fn fl co ca cb wt, post (-10) (nI N, cd, nx, ws, fn, tp, us, er, fl, tx, co, ca, cb, wt, rk, ro, cl, sr, rs, sp, hv, st, mv))
    (K1 : ∀ cs, sy_CS tk N true [none] cs → (∀ nm' V, rn_ev tx cs (g, []) = (0, nm', [V]) → ∀ g', (∀ i, i < 6 → g' i = nm' i) → g' 6 = some V → rn_KX post 0 g' (nI N) tx) ∧
      (¬ (rn_ev tx cs (g, [])).1 = 0 → ∀ g', (∀ a, a < 7 → g' a = g a) → rn_KX post (rn_ev tx cs (g, [])).1 g' (nI N) tx)) : wpX_run post (nI N, cd, nx, ws, fn, tp, us, er, fl, tx, co, ca, cb, wt, rk, ro, cl, sr, rs, sp, hv, st, mv) := by
  have hN := hT.1
  unfold wpX_run
  refine xs_all hT ?_ ?_
  · intro cs hcs nx ws fn fl co ca cb wt _ hCA
    have hl := cs_len hcs
    have hD := cs_D hcs (Nat.le_refl N) ⟨fun F e => (nomatch e), trivial⟩
    obtain ⟨Ka, Kb⟩ := K1 cs hcs
    have e0 : 0 + cs.length = cs.length := Nat.zero_add _
    have hl' : cs.length ≤ N := hl
    refine br_f (by decide) (xr_25 h (fun hv h2 => ⟨cs.length + 1, ?_⟩))
    have R : rn_X (rn_z g 6) g 13 g [] := by
      refine ⟨rfl, trivial, fun i hi => ?_, fun a ha => if_neg (by omega)⟩
      unfold rn_nm
      have e1 : rn_z g 6 (7 + i) = none := if_pos (by omega)
      have e2 : rn_z g 6 i = g i := if_neg (by omega)
      rw [e1, e2]
    refine xr_49 (g0 := g) hN cs 0 (cs.length + 1) 13 (rn_z g 6) g [] _ _ _ _ _ _ _ _ _ _ (by omega) hCA (by omega) (by show 0 ≤ 0; omega) hD h2 R ?_ ?_
    · intro nm' V g' ev R' us rk ro cl sr rs sp hv st mv h3
      refine xr_75 h3 R'.2.1.1 (Ka nm' V ev _ (fun i hi => ?_) ?_)
      · show (if 7 ≤ i ∧ i < 7 + 6 then none else rn_y (aw_gs g' 6 V) 6 i) = nm' i
        rw [if_neg (by omega)]
        show (if i < 6 then rn_nm (aw_gs g' 6 V) i else aw_gs g' 6 V i) = nm' i
        rw [if_pos hi, ← R'.2.2.1 i hi]
        unfold rn_nm
        rw [aw_gsn (by omega), aw_gsn (by omega)]
      · show (if 7 ≤ 6 ∧ 6 < 7 + 6 then none else rn_y (aw_gs g' 6 V) 6 6) = some V
        rw [if_neg (by omega)]
        show (if 6 < 6 then rn_nm (aw_gs g' 6 V) 6 else aw_gs g' 6 V 6) = some V
        rw [if_neg (by omega), aw_gss]
    · intro g' T' he h1 h2 hg us rk ro cl sr rs sp hv st mv h3
      refine xr_75e h3 h1 he (Kb he _ (fun a ha => ?_))
      show (if 7 ≤ a ∧ a < 7 + 6 then none else g' a) = g a
      rw [if_neg (by omega)]
      exact hg a ha
  · intro hF cd nx ws fn fl co ca cb wt
    exact br_t rfl (K0 hF _ _ _ _ _ _ _ _ _)
end
end
section
/-! 43: the reference's places during a run -/
def yn_K (qk qr qw da : Nat → Int32) (p : Nat) (V : aw_V) : Prop := yw_K qk qr qw da p V.1 V.2.1 V.2.2.1 V.2.2.2
def yn_N (qk qr qw da : Nat → Int32) (p : Nat) (v : Option aw_V) : Prop := (v = none → qk p = -1) ∧ ∀ V, v = some V → yn_K qk qr qw da p V
/-- places outside X are as they were -/
def yn_fr (X : Nat → Prop) (qk qr qw da qk' qr' qw' da' : Nat → Int32) : Prop :=
  ∀ p, ¬ X p → qk' p = qk p ∧ qr' p = qr p ∧ qw' p = qw p ∧ ∀ k, k < 36 → da' (36 * p + k) = da (36 * p + k)
def yn_B (nm0 : Nat → Option aw_V) (V0 : aw_V) (qk qr qw da : Nat → Int32) : Prop := (∀ i, i < 6 → yn_N qk qr qw da (6 + i) (nm0 i)) ∧ yn_K qk qr qw da 12 V0
def yn_I (nm : Nat → Option aw_V) (qk qr qw da : Nat → Int32) : Prop := ∀ i, i < 6 → yn_N qk qr qw da i (nm i)
section
variable {cn lv ee : Int32} {tx qk qr qw da wa fi qk' qr' qw' da' qk2 qr2 qw2 da2 : Nat → Int32} {X Y : Nat → Prop} {p l : Nat} {V : aw_V} {nm nm0 : Nat → Option aw_V} {V0 : aw_V}
theorem fr_K (F : yn_fr X qk qr qw da qk' qr' qw' da') (h : yn_K qk qr qw da p V) (hp : ¬ X p) : yn_K qk' qr' qw' da' p V := by
  obtain ⟨h1, h2, h3, h4, h5, h6⟩ := h
  obtain ⟨e1, e2, e3, e4⟩ := F p hp
  have hb := aw_okb h2
  exact ⟨h1, h2, e1.trans h3, e2.trans h4, e3.trans h5, fun k hk => (e4 k (by omega)).trans (h6 k hk)⟩
theorem fr_N {v : Option aw_V} (F : yn_fr X qk qr qw da qk' qr' qw' da') (h : yn_N qk qr qw da p v) (hp : ¬ X p) : yn_N qk' qr' qw' da' p v :=
  ⟨fun e => (F p hp).1.trans (h.1 e), fun V e => fr_K F (h.2 V e) hp⟩
theorem fr_B (F : yn_fr X qk qr qw da qk' qr' qw' da') (h : yn_B nm0 V0 qk qr qw da) (hX : ∀ p, 6 ≤ p → p ≤ 12 → ¬ X p) : yn_B nm0 V0 qk' qr' qw' da' :=
  ⟨fun i hi => fr_N F (h.1 i hi) (hX _ (by omega) (by omega)), fr_K F h.2 (hX 12 (by omega) (by omega))⟩
theorem fr_I (F : yn_fr X qk qr qw da qk' qr' qw' da') (h : yn_I nm qk qr qw da) (hX : ∀ p, p < 6 → ¬ X p) : yn_I nm qk' qr' qw' da' := fun i hi => fr_N F (h i hi) (hX i hi)
theorem fr_tr (F : yn_fr X qk qr qw da qk' qr' qw' da') (G : yn_fr Y qk' qr' qw' da' qk2 qr2 qw2 da2) : yn_fr (fun p => X p ∨ Y p) qk qr qw da qk2 qr2 qw2 da2 := by
  intro p hp
  obtain ⟨a1, a2, a3, a4⟩ := F p (fun z => hp (Or.inl z))
  obtain ⟨b1, b2, b3, b4⟩ := G p (fun z => hp (Or.inr z))
  exact ⟨b1.trans a1, b2.trans a2, b3.trans a3, fun k hk => (b4 k hk).trans (a4 k hk)⟩
theorem fr_mo (F : yn_fr X qk qr qw da qk' qr' qw' da') (h : ∀ p, X p → Y p) : yn_fr Y qk qr qw da qk' qr' qw' da' := fun p hp => F p (fun z => hp (h p z))
theorem fr_13 (F : yw_F qk qr qw da qk' qr' qw' da') : yn_fr (fun p => p = 13) qk qr qw da qk' qr' qw' da' := by
  intro p hp
  obtain ⟨e1, e2, e3⟩ := F.1 p hp
  have hp' : p ≠ 13 := hp
  exact ⟨e1, e2, e3, fun k hk => F.2 _ (by omega)⟩
/-- copy, as places -/
theorem yn_copy {post : SY → Prop} {p0 p1 : Int32} {a b : Nat} (ha : a < 50) (hb : b < 50) (hab : a ≠ b)
    (K : ∀ qk' qr' qw' da', yn_fr (fun p => p = b) qk qr qw da qk' qr' qw' da' → (∀ v, yn_N qk qr qw da a v → yn_N qk' qr' qw' da' b v) → qk' b = qk a → post (cn, lv, ee, tx, qk', qr', qw', da', wa, fi))
    (h0 : p0 = nI a := by rfl) (h1 : p1 = nI b := by rfl) : wpY_copy post (cn, lv, ee, tx, qk, qr, qw, da, wa, fi) p0 p1 := by
  refine yl_copy ha hb hab (fun da' F1 F2 => K _ _ _ da' (fun p hp => ?_) (fun v h => ?_) pk_us) h0 h1
  · have hp' : p ≠ b := hp
    exact ⟨pk_un hp', pk_un hp', pk_un hp', fun k hk => F1 _ (by omega)⟩
  · refine ⟨fun e => pk_us.trans (h.1 e), fun V e => ?_⟩
    obtain ⟨g1, g2, g3, g4, g5, g6⟩ := h.2 V e
    have hb2 := aw_okb g2
    exact ⟨hb, g2, pk_us.trans g3, pk_us.trans g4, pk_us.trans g5, fun k hk => (F2 k (by omega)).trans (g6 k hk)⟩
theorem yn_cpK {post : SY → Prop} {p0 p1 : Int32} {a b : Nat} (hb : b < 50) (hab : a ≠ b) (h : yn_K qk qr qw da a V)
    (K : ∀ qk' qr' qw' da', yn_fr (fun p => p = b) qk qr qw da qk' qr' qw' da' → yn_K qk' qr' qw' da' b V → post (cn, lv, ee, tx, qk', qr', qw', da', wa, fi))
    (h0 : p0 = nI a := by rfl) (h1 : p1 = nI b := by rfl) : wpY_copy post (cn, lv, ee, tx, qk, qr, qw, da, wa, fi) p0 p1 :=
  yn_copy h.1 hb hab (fun _ _ _ _ F G _ => K _ _ _ _ F ((G (some V) ⟨fun e => (nomatch e), fun W e => by cases e; exact h⟩).2 V rfl)) h0 h1
def yn_cw : Option sy_F → Int32
  | none => -1
  | some F => nI (rn_Y F.1 F.2.1 F.2.2)
def yn_lc : Option sy_F → List sy_C
  | none => []
  | some F => [(3, F)]
theorem yn_vp (hl : l ≤ 15) : 14 + 2 * nI l = nI (14 + 2 * l) := by rw [← nI_add, ← pk_mul]; rfl
theorem yn_val {post : Int32 → Prop} (hl : l ≤ 15) (K : post (nI (14 + 2 * l))) : wpY_valuePlace post (cn, nI l, ee, tx, qk, qr, qw, da, wa, fi) := by
  show post (14 + 2 * nI l)
  rw [yn_vp hl]; exact K
/-- settle without an error so far -/
theorem yn_set {post : SY → Prop} {lag : Option sy_F} (hl : l ≤ 15) (hw : wa l = yn_cw lag) (hF : ∀ F, lag = some F → rn_FV F.1 F.2.1 F.2.2) (kV : yn_K qk qr qw da (14 + 2 * l) V)
    (K0 : ∀ V' qk' qr' qw' da', (lag = none → V' = V) → (∀ F, lag = some F → aq_one F.1 F.2.1 V = (0, V')) → yn_fr (fun p => p = 13 ∨ p = 14 + 2 * l) qk qr qw da qk' qr' qw' da' → yn_K qk' qr' qw' da' (14 + 2 * l) V' → post (cn, nI l, 0, tx, qk', qr', qw', da', upd wa l (-1), fi))
    (K1 : ∀ F qk' qr' qw' da', lag = some F → ¬ (aq_one F.1 F.2.1 V).1 = 0 → yn_fr (fun p => p = 13 ∨ p = 14 + 2 * l) qk qr qw da qk' qr' qw' da' → post (cn, nI l, (aq_one F.1 F.2.1 V).1, tx, qk', qr', qw', da', upd wa l (-1), fi)) :
    wpY_settle post (cn, nI l, 0, tx, qk, qr, qw, da, wa, fi) := by
  have hin : vp_in (nI l) 17 := vp_in_nI (by omega) (by decide)
  have ew : wa (nI l).toNatClampNeg = yn_cw lag := by rw [nI_clamp (by omega)]; exact hw
  refine And.intro hin ?_
  rw [ew]
  cases lag with
  | none =>
    exact br_t (by decide) (And.intro hin (nm_r (xl_uc (by omega) rfl) (K0 V _ _ _ _ (fun _ => rfl) (fun F e => (nomatch e)) (fun p _ => ⟨rfl, rfl, rfl, fun _ _ => rfl⟩) kV)))
  | some F =>
    have hFV := hF F rfl
    have hYb := rn_Yb hFV
    refine br_f (nI_pos (by omega)) (br_t rfl (And.intro hin ?_))
    refine yn_val hl ?_
    obtain ⟨r, m, n, c⟩ := V
    refine yu_one hFV kV (by omega) ⟨fun z qk1 qr1 qw1 da1 F1 k13 => ?_, fun z qk1 qr1 qw1 da1 F1 => ?_⟩
    · refine yn_val hl ?_
      refine yn_cpK (a := 13) (b := 14 + 2 * l) (V := (aq_one F.1 F.2.1 (r, m, n, c)).2) (by omega) (by omega) k13 (fun qk2 qr2 qw2 da2 F2 k2 => ?_)
      refine And.intro hin (nm_r (xl_uc (by omega) rfl) (K0 _ _ _ _ _ (fun e => (nomatch e)) (fun F' e => ?_) (fr_tr (fr_13 F1) F2) k2))
      cases e
      rw [← z]
    · refine yn_val hl ?_
      refine yn_copy (a := 13) (b := 14 + 2 * l) (by omega) (by omega) (by omega) (fun qk2 qr2 qw2 da2 F2 _ _ => ?_)
      exact And.intro hin (nm_r (xl_uc (by omega) rfl) (K1 F _ _ _ _ rfl z (fr_tr (fr_13 F1) F2)))
/-- settle behind an error -/
theorem yn_sete {post : SY → Prop} (hl : l ≤ 16) (he : ¬ ee = 0) (K : post (cn, nI l, ee, tx, qk, qr, qw, da, upd wa l (-1), fi)) : wpY_settle post (cn, nI l, ee, tx, qk, qr, qw, da, wa, fi) := by
  have hin : vp_in (nI l) 17 := vp_in_nI (by omega) (by decide)
  exact And.intro hin (br_c (fun _ => And.intro hin (nm_r (xl_uc (by omega) rfl) K)) (fun _ => br_f he (And.intro hin (nm_r (xl_uc (by omega) rfl) K))))
/-- an operand W at the place behind that of the level's value -/
theorem yn_op {post : SY → Prop} {W : aw_V} {w : Option sy_F} (hl : l ≤ 15) (hw : wa l = yn_cw w) (hf : w = none ↔ fi l = 0) (hF : ∀ F, w = some F → rn_FV F.1 F.2.1 F.2.2 ∧ yn_K qk qr qw da (14 + 2 * l) V) (kW : yn_K qk qr qw da (14 + 2 * l + 1) W)
    (K0 : ∀ V' qk' qr' qw' da', (w = none → V' = W) → (∀ F, w = some F → aq_two F.1 F.2.1 F.2.2 W V = (0, V')) → yn_fr (fun p => p = 13 ∨ p = 14 + 2 * l) qk qr qw da qk' qr' qw' da' → yn_K qk' qr' qw' da' (14 + 2 * l) V' → post (cn, nI l, 0, tx, qk', qr', qw', da', upd wa l (-1), upd fi l 1))
    (K1 : ∀ F qk' qr' qw' da', w = some F → ¬ (aq_two F.1 F.2.1 F.2.2 W V).1 = 0 → yn_fr (fun p => p = 13 ∨ p = 14 + 2 * l) qk qr qw da qk' qr' qw' da' → post (cn, nI l, (aq_two F.1 F.2.1 F.2.2 W V).1, tx, qk', qr', qw', da', upd wa l (-1), upd fi l 1)) :
    wpY_operand post (cn, nI l, 0, tx, qk, qr, qw, da, wa, fi) := by
  have hin : vp_in (nI l) 17 := vp_in_nI (by omega) (by decide)
  have ew : wa (nI l).toNatClampNeg = yn_cw w := by rw [nI_clamp (by omega)]; exact hw
  have efi : fi (nI l).toNatClampNeg = fi l := by rw [nI_clamp (by omega)]
  have eP1 : 14 + 2 * nI l + 1 = nI (14 + 2 * l + 1) := by rw [yn_vp hl, nI_1]
  refine And.intro hin ?_
  rw [efi]
  have fin : ∀ (e : Int32) qk' qr' qw' da', post (cn, nI l, e, tx, qk', qr', qw', da', upd wa l (-1), upd fi l 1) → wY_operand_59 post cn (nI l) e tx qk' qr' qw' da' wa fi :=
    fun e qk' qr' qw' da' K => And.intro hin (nm_r (xl_uc (by omega) aw_nb) (And.intro hin (nm_r (xl_uc (by omega) rfl) K)))
  cases w with
  | none =>
    refine br_t (hf.mp rfl) ?_
    refine yn_cpK (a := 14 + 2 * l + 1) (b := 14 + 2 * l) (by omega) (by omega) kW (fun qk2 qr2 qw2 da2 F2 k2 => ?_) eP1 (yn_vp hl)
    exact fin 0 _ _ _ _ (K0 W _ _ _ _ (fun _ => rfl) (fun F e => (nomatch e)) (fr_mo F2 (fun p z => Or.inr z)) k2)
  | some F =>
    obtain ⟨hFV, kV⟩ := hF F rfl
    refine br_f (fun z => nomatch (hf.mpr z)) (br_t rfl (And.intro hin ?_))
    rw [ew]
    show wpY_applyTwo _ _ _ (14 + 2 * nI l + 1) (14 + 2 * nI l)
    rw [eP1, yn_vp hl]
    obtain ⟨r, m, n, c⟩ := W
    obtain ⟨r', m', n', c'⟩ := V
    refine yu_two hFV kW (by omega) kV (by omega) ⟨fun z qk1 qr1 qw1 da1 F1 k13 => ?_, fun z qk1 qr1 qw1 da1 F1 => ?_⟩
    · refine yn_cpK (a := 13) (b := 14 + 2 * l) (V := (aq_two F.1 F.2.1 F.2.2 (r, m, n, c) (r', m', n', c')).2) (by omega) (by omega) k13 (fun qk2 qr2 qw2 da2 F2 k2 => ?_)
      refine fin 0 _ _ _ _ (K0 _ _ _ _ _ (fun e => (nomatch e)) (fun F' e => ?_) (fr_tr (fr_13 F1) F2) k2)
      cases e
      rw [← z]
    · refine yn_copy (a := 13) (b := 14 + 2 * l) (by omega) (by omega) (by omega) (fun qk2 qr2 qw2 da2 F2 _ _ => ?_)
      exact fin _ _ _ _ _ (K1 F _ _ _ _ rfl z (fr_tr (fr_13 F1) F2))
/-- an operand behind an error -/
theorem yn_ope {post : SY → Prop} (hl : l ≤ 15) (he : ¬ ee = 0) (K : ∀ qk' qr' qw' da', yn_fr (fun p => p = 14 + 2 * l) qk qr qw da qk' qr' qw' da' → post (cn, nI l, ee, tx, qk', qr', qw', da', upd wa l (-1), upd fi l 1)) : wpY_operand post (cn, nI l, ee, tx, qk, qr, qw, da, wa, fi) := by
  have hin : vp_in (nI l) 17 := vp_in_nI (by omega) (by decide)
  have eP1 : 14 + 2 * nI l + 1 = nI (14 + 2 * l + 1) := by rw [yn_vp hl, nI_1]
  have fin : ∀ qk' qr' qw' da', post (cn, nI l, ee, tx, qk', qr', qw', da', upd wa l (-1), upd fi l 1) → wY_operand_59 post cn (nI l) ee tx qk' qr' qw' da' wa fi :=
    fun qk' qr' qw' da' K => And.intro hin (nm_r (xl_uc (by omega) aw_nb) (And.intro hin (nm_r (xl_uc (by omega) rfl) K)))
  refine And.intro hin (br_c (fun _ => ?_) (fun _ => br_f he (fin _ _ _ _ (K _ _ _ _ (fun p _ => ⟨rfl, rfl, rfl, fun _ _ => rfl⟩)))))
  exact yn_copy (a := 14 + 2 * l + 1) (b := 14 + 2 * l) (by omega) (by omega) (by omega) (fun qk2 qr2 qw2 da2 F2 _ _ => fin _ _ _ _ (K _ _ _ _ F2)) eP1 (yn_vp hl)
end
end
section
/-! 44: the reference's levels; its reading of one token -/
def yn_L (qk qr qw da wa fi : Nat → Int32) : List (Option sy_F) → List aw_V → Prop
  | [], pl => pl = []
  | none :: ws, pl => fi ws.length = 0 ∧ wa ws.length = -1 ∧ yn_L qk qr qw da wa fi ws pl
  | some _ :: _, [] => False
  | some F :: ws, V :: pl => ¬ fi ws.length = 0 ∧ wa ws.length = nI (rn_Y F.1 F.2.1 F.2.2) ∧ rn_FV F.1 F.2.1 F.2.2 ∧ yn_K qk qr qw da (14 + 2 * ws.length) V ∧ yn_L qk qr qw da wa fi ws pl
theorem yL_fr {qk qr qw da wa fi qk' qr' qw' da' wa' fi' : Nat → Int32} {X : Nat → Prop} (F : yn_fr X qk qr qw da qk' qr' qw' da') : ∀ (ws : List (Option sy_F)) (pl : List aw_V), (∀ i, i < ws.length → ¬ X (14 + 2 * i)) → (∀ i, i < ws.length → wa' i = wa i ∧ fi' i = fi i) →
    yn_L qk qr qw da wa fi ws pl → yn_L qk' qr' qw' da' wa' fi' ws pl := by
  intro ws
  induction ws with
  | nil => intro pl _ _ h; exact h
  | cons w ws ih =>
    intro pl hX hw h
    rw [List.length_cons] at hX
    have e := hw ws.length (by rw [List.length_cons]; omega)
    cases w with
    | none =>
      obtain ⟨h1, h2, h3⟩ := h
      exact ⟨e.2.trans h1, e.1.trans h2, ih pl (fun i hi => hX i (by omega)) (fun i hi => hw i (by rw [List.length_cons]; omega)) h3⟩
    | some G =>
      cases pl with
      | nil => exact h
      | cons V pl =>
        obtain ⟨h1, h2, h3, h4, h5⟩ := h
        exact ⟨by rw [e.2]; exact h1, e.1.trans h2, h3, fr_K F h4 (hX _ (by omega)), ih pl (fun i hi => hX i (by omega)) (fun i hi => hw i (by rw [List.length_cons]; omega)) h5⟩
def yn_SB (b : Bool) (lag : Option sy_F) (ws : List (Option sy_F)) (pl : List aw_V) (qk qr qw da wa fi : Nat → Int32) : Prop :=
  (b = true ∧ lag = none ∧ yn_L qk qr qw da wa fi ws pl) ∨
  (b = false ∧ ∃ ws' V pl', ws = none :: ws' ∧ pl = V :: pl' ∧ ¬ fi ws'.length = 0 ∧ wa ws'.length = yn_cw lag ∧ (∀ F, lag = some F → rn_FV F.1 F.2.1 F.2.2) ∧ yn_K qk qr qw da (14 + 2 * ws'.length) V ∧ yn_L qk qr qw da wa fi ws' pl')
def yn_KK (post : Int32 → SY → Prop) (nm0 : Nat → Option aw_V) (V0 : aw_V) (cn : Int32) (tx : Nat → Int32) (res : Int32 × rn_S) : Prop :=
  (∀ nm' V, res = (0, nm', [V]) → ∀ lv qk qr qw da wa fi, yn_I nm' qk qr qw da → yn_B nm0 V0 qk qr qw da → yn_K qk qr qw da 14 V → ∃ n92, wY_run_92 post n92 0 cn lv 0 tx qk qr qw da wa fi) ∧
  (¬ res.1 = 0 → ∀ lv qk qr qw da wa fi, yn_B nm0 V0 qk qr qw da → ∃ n92, wY_run_92 post n92 0 cn lv res.1 tx qk qr qw da wa fi)
def yn_Sem (post : Int32 → SY → Prop) (nm0 : Nat → Option aw_V) (V0 : aw_V) (tx : Nat → Int32) (N q : Nat) (b : Bool) (ws : List (Option sy_F)) (cs : List sy_C) : Prop :=
  ws.length ≤ q + 1 ∧ (q ≤ N → ws.length + q ≤ 1 + N → ∀ lag nm pl qk qr qw da wa fi n, q < n → yn_SB b lag ws pl qk qr qw da wa fi → yn_I nm qk qr qw da → yn_B nm0 V0 qk qr qw da →
    yn_KK post nm0 V0 (nI N) tx (rn_ev tx (yn_lc lag ++ cs) (nm, pl)) → wY_run_64 post n (nI q - 1) (nI N) (nI (ws.length - 1)) 0 tx qk qr qw da wa fi)
section
variable {cn lv ee : Int32} {tx qk qr qw da wa fi qk' qr' qw' da' wa0 : Nat → Int32} {X : Nat → Prop} {p l N s n : Nat} {V V0 : aw_V} {nm nm0 : Nat → Option aw_V} {post : Int32 → SY → Prop} {tk : Nat → Nat} {pl : List aw_V}
theorem yr_err {res : Int32 × rn_S} {x1 e : Int32} (hl : l ≤ 16) (hr : res.1 = e) (he : ¬ e = 0) (K : yn_KK post nm0 V0 cn tx res) (B : yn_B nm0 V0 qk qr qw da) (hn : 0 < n) : wY_run_64 post n x1 cn (nI l) e tx qk qr qw da wa fi := by
  subst hr
  obtain ⟨n, rfl⟩ : ∃ j, n = j + 1 := ⟨n - 1, by omega⟩
  have W : wY_run_86 post cn (nI l) res.1 tx qk qr qw da wa fi := by
    unfold wY_run_86
    exact yn_sete hl he (K.2 he _ _ _ _ _ _ _ B)
  exact br_c (fun _ => W) (fun _ => br_f he W)
theorem ev_lg0 {lag : Option sy_F} {V' : aw_V} {cs : List sy_C} (h1 : lag = none → V' = V) (h2 : ∀ F, lag = some F → aq_one F.1 F.2.1 V = (0, V')) : rn_ev tx (yn_lc lag ++ cs) (nm, V :: pl) = rn_ev tx cs (nm, V' :: pl) := by
  cases lag with
  | none => rw [h1 rfl]; rfl
  | some F =>
    have e := h2 F rfl
    refine ev_ok (c := (3, F)) ?_
    obtain ⟨f1, f2, f3⟩ := F
    rw [es_one, e]
theorem ev_lg1 {lag : Option sy_F} {F : sy_F} {cs : List sy_C} (h1 : lag = some F) (h2 : ¬ (aq_one F.1 F.2.1 V).1 = 0) : (rn_ev tx (yn_lc lag ++ cs) (nm, V :: pl)).1 = (aq_one F.1 F.2.1 V).1 := by
  subst h1
  obtain ⟨f1, f2, f3⟩ := F
  have e : rn_st tx (3, f1, f2, f3) (nm, V :: pl) = ((aq_one f1 f2 V).1, nm, (aq_one f1 f2 V).2 :: pl) := es_one
  have := ev_er (tx := tx) (c := (3, f1, f2, f3)) (cs := cs) (s := (nm, V :: pl)) (by rw [e]; exact h2)
  show (rn_ev tx ((3, f1, f2, f3) :: cs) (nm, V :: pl)).1 = _
  rw [this, e]
/-- an operand has come -/
theorem yr_push {R : Int32} {W : aw_V} {w : Option sy_F} {ws : List (Option sy_F)} {cs : List sy_C} (S : yn_Sem post nm0 V0 tx N s false (none :: ws) cs) (hs : s ≤ N) (hsN : ws.length + 1 + s ≤ 1 + N) (hl : ws.length ≤ 15) (hn : s < n) (hn0 : 0 < n) (hR : R = nI s)
    (hL : yn_L qk qr qw da wa fi (w :: ws) pl) (kW : yn_K qk qr qw da (14 + 2 * ws.length + 1) W) (I : yn_I nm qk qr qw da) (B : yn_B nm0 V0 qk qr qw da) (K : yn_KK post nm0 V0 (nI N) tx (rn_ev tx (sy_two w cs) (nm, W :: pl))) :
    wpY_operand (fun u => match u with | (cn, lv, ee, tx, qk, qr, qw, da, wa, fi) => ∀ x1 : Int32, x1 = R - 1 → wY_run_64 post n x1 cn lv ee tx qk qr qw da wa fi) (nI N, nI ws.length, 0, tx, qk, qr, qw, da, wa, fi) := by
  subst hR
  have step : ∀ V' pl' qk' qr' qw' da', yn_fr (fun p => p = 13 ∨ p = 14 + 2 * ws.length) qk qr qw da qk' qr' qw' da' → yn_K qk' qr' qw' da' (14 + 2 * ws.length) V' → yn_L qk qr qw da wa fi ws pl' → yn_KK post nm0 V0 (nI N) tx (rn_ev tx cs (nm, V' :: pl')) →
      wY_run_64 post n (nI s - 1) (nI N) (nI ws.length) 0 tx qk' qr' qw' da' (upd wa ws.length (-1)) (upd fi ws.length 1) := by
    intro V' pl' qk' qr' qw' da' F kV hL' K'
    have e : (none :: ws).length - 1 = ws.length := by rw [List.length_cons, Nat.add_sub_cancel]
    have S2 := S.2 hs (by rw [List.length_cons]; omega) none nm (V' :: pl') qk' qr' qw' da' (upd wa ws.length (-1)) (upd fi ws.length 1) n hn
      (Or.inr ⟨rfl, ws, V', pl', rfl, rfl, by rw [pk_us]; decide, pk_us, fun F e => (nomatch e), kV, yL_fr F ws pl' (fun i hi => by omega) (fun i hi => ⟨pk_un (by omega), pk_un (by omega)⟩) hL'⟩)
      (fr_I F I (fun p a => by omega)) (fr_B F B (fun p a b => by omega)) K'
    rw [e] at S2
    exact S2
  cases w with
  | none =>
    obtain ⟨h1, h2, h3⟩ := hL
    refine yn_op (w := none) (V := W) hl h2 ⟨fun _ => h1, fun _ => rfl⟩ (fun F e => (nomatch e)) kW (fun V' qk' qr' qw' da' a1 _ F kV => nm_e ?_) (fun F qk' qr' qw' da' e => (nomatch e))
    have := a1 rfl
    subst this
    exact step V' pl qk' qr' qw' da' F kV h3 K
  | some G =>
    cases pl with
    | nil => exact hL.elim
    | cons V pl =>
      obtain ⟨h1, h2, h3, h4, h5⟩ := hL
      obtain ⟨f1, f2, f3⟩ := G
      have est : rn_st tx (4, f1, f2, f3) (nm, W :: V :: pl) = ((aq_two f1 f2 f3 W V).1, nm, (aq_two f1 f2 f3 W V).2 :: pl) := es_two
      refine yn_op (w := some (f1, f2, f3)) (V := V) hl h2 ⟨fun e => (nomatch e), fun z => absurd z h1⟩ (fun F e => by cases e; exact ⟨h3, h4⟩) kW (fun V' qk' qr' qw' da' _ a2 F kV => nm_e ?_) (fun F qk' qr' qw' da' e z Fr => nm_e ?_)
      · have a3 := a2 _ rfl
        refine step V' pl qk' qr' qw' da' F kV h5 ?_
        have e : rn_ev tx (sy_two (some (f1, f2, f3)) cs) (nm, W :: V :: pl) = rn_ev tx cs (nm, V' :: pl) := ev_ok (c := (4, f1, f2, f3)) (by rw [est, a3])
        rw [e] at K
        exact K
      · cases e
        have e : (rn_ev tx (sy_two (some (f1, f2, f3)) cs) (nm, W :: V :: pl)).1 = (aq_two f1 f2 f3 W V).1 := by
          have := ev_er (tx := tx) (c := (4, f1, f2, f3)) (cs := cs) (s := (nm, W :: V :: pl)) (by rw [est]; exact z)
          show (rn_ev tx ((4, f1, f2, f3) :: cs) (nm, W :: V :: pl)).1 = _
          rw [this, est]
        exact yr_err (by omega) e z K (fr_B Fr B (fun p a b => by omega)) hn0
/-- an operand behind an error -/
theorem yr_pushe {R e : Int32} {res : Int32 × rn_S} (hl : l ≤ 15) (hn0 : 0 < n) (hr : res.1 = e) (he : ¬ e = 0) (B : yn_B nm0 V0 qk qr qw da) (K : yn_KK post nm0 V0 (nI N) tx res) :
    wpY_operand (fun u => match u with | (cn, lv, ee, tx, qk, qr, qw, da, wa, fi) => ∀ x1 : Int32, x1 = R - 1 → wY_run_64 post n x1 cn lv ee tx qk qr qw da wa fi) (nI N, nI l, e, tx, qk, qr, qw, da, wa, fi) :=
  yn_ope hl he (fun qk' qr' qw' da' F => nm_e (yr_err (by omega) hr he K (fr_B F B (fun p a b => by omega)) hn0))
/-- numbers: the array of tokens s to p -/
theorem yr_nums {post : Int32 → SY → Prop} (hT : sy_T tx N tk) (hp : p < N) (hs : s ≤ p) (h9 : ∀ i, s ≤ i → i < p + 1 → tk i ≤ 9) (hm : s = 0 ∨ 10 ≤ tk (s - 1)) (hl : l ≤ 15)
    (K : ∀ qk' qr' qw' da', yn_fr (fun q => q = 14 + 2 * l + 1) qk qr qw da qk' qr' qw' da' → yn_K qk' qr' qw' da' (14 + 2 * l + 1) (if p + 1 - s = 1 then 0 else 1, 1, p + 1 - s, fun k => tx (s + k)) → wpY_operand (fun u => post (nI s) u) (nI N, nI l, ee, tx, qk', qr', qw', da', wa, fi)) :
    wpY_readNumbers post (nI N, nI l, ee, tx, qk, qr, qw, da, wa, fi) (nI p) := by
  have hN := hT.1
  have eP1 : 14 + 2 * nI l + 1 = nI (14 + 2 * l + 1) := by rw [yn_vp hl, nI_1]
  have fill : ∀ (q1 : Nat), q1 = (if p + 1 - s = 1 then 0 else 1) → wY_readNumbers_44 post (nI p) (nI s) (nI (14 + 2 * l + 1)) (nI q1) (nI (14 + 2 * l + 1)) (nI N) (nI l) ee tx qk qr qw da wa fi := by
    intro q1 eq1
    rw [← eq1] at K
    have hok : aw_ok q1 1 (p + 1 - s) := by
      by_cases z : p + 1 - s = 1
      · rw [eq1, if_pos z, z]; exact aw_ok0
      · rw [eq1, if_neg z]; exact aw_ok1 (by omega)
    have efl : aw_fl q1 1 (p + 1 - s) = p + 1 - s := by unfold aw_fl; rw [if_neg (by rw [eq1]; split <;> omega)]
    have ewd : aw_wd q1 (p + 1 - s) = 1 := by unfold aw_wd; rw [if_neg (by rw [eq1]; split <;> omega)]
    have elen : nI p - nI s + 1 = nI (p + 1 - s) := by rw [pk_sub hs, nI_1]; exact congrArg nI (by omega)
    unfold wY_readNumbers_44
    refine yl_shape (p := 14 + 2 * l + 1) (r := q1) (v2 := nI (p + 1 - s)) (v3 := 1) (by omega) (by rw [eq1]; split <;> omega) (fun z => ?_) (fun _ => elen) (fun _ => rfl) (fun z => absurd z (by rw [eq1]; split <;> omega)) ?_
    · have : p + 1 - s = 1 := by
        by_cases w : p + 1 - s = 1
        · exact w
        · rw [eq1, if_neg w] at z; omega
      rw [this]; rfl
    have loop : ∃ n56, (fun n1 k da' => wY_readNumbers_56 post (nI p) (nI s) (nI (14 + 2 * l + 1)) (nI N) (nI l) ee n1 (nI (s + k)) tx (upd qk (14 + 2 * l + 1) (nI q1)) (upd qr (14 + 2 * l + 1) (nI (p + 1 - s))) (upd qw (14 + 2 * l + 1) 1) da' wa fi) n56 0 da := by
      refine loop_0 (fun n1 k da' => wY_readNumbers_56 post (nI p) (nI s) (nI (14 + 2 * l + 1)) (nI N) (nI l) ee n1 (nI (s + k)) tx (upd qk (14 + 2 * l + 1) (nI q1)) (upd qr (14 + 2 * l + 1) (nI (p + 1 - s))) (upd qw (14 + 2 * l + 1) 1) da' wa fi) (fun k da' => (∀ q, (q < 36 * (14 + 2 * l + 1) ∨ 36 * (14 + 2 * l + 1) + 36 ≤ q) → da' q = da q) ∧ ∀ j, j < k → da' (36 * (14 + 2 * l + 1) + j) = tx (s + j)) (p + 1 - s) da ⟨fun _ _ => rfl, fun j hj => absurd hj (by omega)⟩ ?_ ?_
      · intro n1 da' I
        refine br_t (nI_lt (by omega) (by omega)) (K _ _ _ _ (fun q hq => ?_) ⟨by omega, hok, pk_us, ?_, ?_, fun k hk => I.2 k (by have hk' : k < 1 * (p + 1 - s) := hk; omega)⟩)
        · have hq' : q ≠ 14 + 2 * l + 1 := hq
          exact ⟨pk_un hq', pk_un hq', pk_un hq', fun k hk => I.1 _ (by omega)⟩
        · rw [pk_us]; exact congrArg nI efl.symm
        · rw [pk_us]; exact (congrArg nI ewd).symm
      · intro n1 k da' hk I ih
        have e1 : 36 * nI (14 + 2 * l + 1) + nI (s + k) - nI s = nI (36 * (14 + 2 * l + 1) + k) := by
          have : 36 * nI (14 + 2 * l + 1) = nI (36 * (14 + 2 * l + 1)) := pk_mul 36 _
          rw [this, nI_add, pk_sub (by omega)]; exact congrArg nI (by omega)
        refine br_f (nI_nlt (by omega) (by omega)) (And.intro (vp_in_nI (by omega) (by decide)) (And.intro (pk_in _ 1800 (show 36 * (14 + 2 * l + 1) + k < 1800 by omega) e1) (nm_r (e' := upd da' (36 * (14 + 2 * l + 1) + k) (tx (s + k))) ?_ (nm_r (nI_1 (s + k)) (ih _ ⟨fun q hq => ?_, fun j hj => ?_⟩)))))
        · rw [e1, nI_clamp (by omega), nI_clamp (by omega)]
        · rw [pk_un (by omega)]; exact I.1 q hq
        · by_cases z : j = k
          · subst z; exact pk_us
          · rw [pk_un (by omega)]; exact I.2 j (by omega)
    exact loop
  have w25 : wY_readNumbers_25 post (nI p) (nI s) (nI N) (nI l) ee tx qk qr qw da wa fi := by
    unfold wY_readNumbers_25
    refine yn_val hl (nm_r (nI_1 _) (pk_eq s p (fun z => fill 0 ?_) (fun z => fill 1 ?_)))
    · rw [if_pos (by omega)]
    · rw [if_neg (by omega)]
  have loop2 : ∀ (d n1 : Nat), s + d ≤ p → d < n1 → wY_readNumbers_2 post (nI p) (nI N) (nI l) ee tx qk qr qw da wa fi n1 (nI (s + d)) := by
    intro d
    induction d with
    | zero =>
      intro n1 hd hn
      obtain ⟨n1, rfl⟩ : ∃ j, n1 = j + 1 := ⟨n1 - 1, by omega⟩
      refine pk_le s 0 (fun _ => w25) (fun l0 => ?_)
      have e1 : nI s - 1 = nI (s - 1) := pk_sub (b := 1) l0
      show vp_in (nI s - 1) 30 ∧ _
      refine And.intro (pk_in (s - 1) 30 (by omega) e1) (br_t ?_ w25)
      show 10 ≤ tx (nI s - 1).toNatClampNeg
      rw [e1, nI_clamp (by omega), (hT.2 (s - 1) (by omega)).1]
      have hb := sy_okb (hT.2 (s - 1) (by omega)).2
      exact nI_le (a := 10) (by omega) (by omega)
    | succ d ih =>
      intro n1 hd hn
      obtain ⟨n1, rfl⟩ : ∃ j, n1 = j + 1 := ⟨n1 - 1, by omega⟩
      have e1 : nI (s + (d + 1)) - 1 = nI (s + d) := nI_pred (s + d)
      have t9 := h9 (s + d) (by omega) (by omega)
      refine br_f (nI_nle (by omega) (by omega)) (And.intro (pk_in (s + d) 30 (by omega) e1) (br_f ?_ (nm_r (pk_m1 (s + d)) (ih n1 (by omega) (by omega)))))
      rw [e1, nI_clamp (by omega), (hT.2 (s + d) (by omega)).1]
      exact nI_ge (b := 10) (by omega) (by decide)
  have fin := loop2 (p - s) (p - s + 1) (by omega) (by omega)
  have e0 : s + (p - s) = p := by omega
  rw [e0] at fin
  exact ⟨_, fin⟩
end
end
section
/-! 45: the reference reads a statement from its right end -/
section
variable {cn lv ee : Int32} {tx qk qr qw da wa fi qk' qr' qw' da' wa0 : Nat → Int32} {X : Nat → Prop} {p l N s n : Nat} {V V0 : aw_V} {nm nm0 : Nat → Option aw_V} {post : Int32 → SY → Prop} {tk : Nat → Nat} {pl : List aw_V}
/-- the head of a round -/
theorem yr_round (hT : sy_T tx N tk) (hp : p < N) (K : ∀ x2 : Int32, x2 = nI (tk p) → wpY_readToken (fun r u => match u with | (cn, lv, ee, tx, qk, qr, qw, da, wa, fi) => ∀ x1 : Int32, x1 = r - 1 → wY_run_64 post n x1 cn lv ee tx qk qr qw da wa fi) (cn, lv, 0, tx, qk, qr, qw, da, wa, fi) (nI p)) : wY_run_64 post (n + 1) (nI (p + 1) - 1) cn lv 0 tx qk qr qw da wa fi := by
  have hN := hT.1
  rw [nI_pred]
  exact br_f (nI_pos (by omega)) (br_t rfl (K _ rfl))
theorem yr_tm {Q : Int32 → Prop} (hT : sy_T tx N tk) (hp : p < N) (hQ : Q (sy_at tk p)) : wpY_tokenAt Q (nI N, lv, ee, tx, qk, qr, qw, da, wa, fi) (nI p - 1) := by
  have hN := hT.1
  cases p with
  | zero => exact br_t (by decide) hQ
  | succ p1 =>
    refine ys_tok (i := p1) hT (by omega) ?_ (nI_pred p1)
    have e : sy_y tk N p1 = nI (tk p1) := if_pos (by omega)
    rw [e]; exact hQ
/-- a function read: settle, then its code -/
theorem yr_fun {post : Int32 → SY → Prop} {F : sy_F} {G : Int32 → (Nat → Int32) → (Nat → Int32) → (Nat → Int32) → (Nat → Int32) → (Nat → Int32) → Prop} {qk0 qr0 qw0 da0 : Nat → Int32} (hT : sy_T tx N tk) (hp : p < N) (hl : l ≤ 15) (hf : sy_fn tk s (p + 1) F)
    (HS : ∀ Q : SY → Prop, (∀ ee qk qr qw da wa, G ee qk qr qw da wa → Q (nI N, nI l, ee, tx, qk, qr, qw, da, wa, fi)) → wpY_settle Q (nI N, nI l, 0, tx, qk0, qr0, qw0, da0, wa0, fi))
    (K : ∀ ee qk qr qw da wa, G ee qk qr qw da wa → post (nI s) (nI N, nI l, ee, tx, qk, qr, qw, da, upd wa l (nI (rn_Y F.1 F.2.1 F.2.2)), fi)) : wpY_readFunction post (nI N, nI l, 0, tx, qk0, qr0, qw0, da0, wa0, fi) (nI p) := by
  have hN := hT.1
  have hin : vp_in (nI l) 17 := vp_in_nI (by omega) (by decide)
  have etp : tx (nI p).toNatClampNeg = nI (tk p) := by rw [nI_clamp (by omega)]; exact (hT.2 p hp).1
  have hb := sy_okb (hT.2 p hp).2
  unfold wpY_readFunction
  refine HS _ (fun ee qk qr qw da wa hG => ?_)
  have KK := K ee qk qr qw da wa hG
  refine And.intro (vp_in_nI (by omega) (by decide)) (nm_r etp ?_)
  refine yr_tm hT hp ?_
  rcases hf with ⟨h1, h2, h3, e⟩ | ⟨h1, h2, h3, h4, e⟩ | ⟨h1, h2, h3, h4, e⟩ | ⟨h1, h2, h3, h4, e⟩ | ⟨h1, h2, h3, h4, h5, h6, e⟩ | ⟨h1, h2, h3, h4, e⟩
  · -- mixed
    have es : p = s := by omega
    subst es
    subst e
    have eY : nI (tk p) = nI (rn_Y 1 (tk p) 0) := rfl
    refine pk_eq (tk p) 40 (fun z => absurd z (by omega)) (fun _ => pk_eq (tk p) 41 (fun z => absurd z (by omega)) (fun _ => pk_le 30 (tk p) (fun _ => pk_le 30 (tk p) (fun _ => ?_) (fun z => absurd z (by omega))) (fun z => absurd z (by omega))))
    exact br_t rfl (And.intro hin (nm_r (xl_uc (by omega) eY) (br_t rfl KK)))
  · -- a fold
    have es : p = s + 1 := by omega
    subst es
    subst e
    refine br_t (show nI (tk (s + 1)) = 40 by rw [h4]; rfl) (And.intro hin (nm_r (xl_uc (w := nI (10000 + tk s)) (by omega) ?_) ?_))
    · show 10000 * (nI (tk (s + 1)) - 39) + nI (tk s) = nI (10000 + tk s)
      rw [h4, ← nI_add]; rfl
    · show post (nI (s + 1) - 1) _
      rw [nI_pred]; exact KK
  · -- a scan
    have es : p = s + 1 := by omega
    subst es
    subst e
    refine br_f (show ¬ nI (tk (s + 1)) = 40 by rw [h4]; decide) (br_t (show nI (tk (s + 1)) = 41 by rw [h4]; rfl) (And.intro hin (nm_r (xl_uc (w := nI (20000 + tk s)) (by omega) ?_) ?_)))
    · show 10000 * (nI (tk (s + 1)) - 39) + nI (tk s) = nI (20000 + tk s)
      rw [h4, ← nI_add]; rfl
    · show post (nI (s + 1) - 1) _
      rw [nI_pred]; exact KK
  · -- an outer product
    have es : p = s + 1 := by omega
    subst es
    subst e
    refine pk_eq (tk (s + 1)) 40 (fun z => absurd z (by omega)) (fun _ => pk_eq (tk (s + 1)) 41 (fun z => absurd z (by omega)) (fun _ => pk_le 30 (tk (s + 1)) (fun z => absurd z (by omega)) (fun _ => ?_)))
    refine br_f (show ¬ nI (tk s) = 43 by rw [h2]; decide) (pk_le 30 (tk (s + 1)) (fun z => absurd z (by omega)) (fun _ => ?_))
    refine br_t (show nI (tk s) = 42 by rw [h2]; rfl) (br_f (by decide) (And.intro hin (nm_r (xl_uc (w := nI (30000 + tk (s + 1))) (by omega) ?_) (br_f (by decide) ?_))))
    · show 30000 + nI (tk (s + 1)) = nI (30000 + tk (s + 1))
      exact nI_add 30000 _
    · show post (nI (s + 1) - 1) _
      rw [nI_pred]; exact KK
  · -- an inner product
    have es : p = s + 2 := by omega
    subst es
    subst e
    refine pk_eq (tk (s + 2)) 40 (fun z => absurd z (by omega)) (fun _ => pk_eq (tk (s + 2)) 41 (fun z => absurd z (by omega)) (fun _ => pk_le 30 (tk (s + 2)) (fun z => absurd z (by omega)) (fun _ => ?_)))
    have e2 : nI (s + 2) - 2 = nI s := pk_sub (a := s + 2) (b := 2) (by omega)
    refine br_t (show nI (tk (s + 1)) = 43 by rw [h4]; rfl) (And.intro (pk_in s 30 (by omega) e2) (And.intro hin (nm_r (xl_uc (w := nI (40000 + 100 * tk s + tk (s + 2))) (by omega) ?_) ?_)))
    · show 40000 + 100 * tx (nI (s + 2) - 2).toNatClampNeg + nI (tk (s + 2)) = nI (40000 + 100 * tk s + tk (s + 2))
      rw [e2, nI_clamp (by omega), (hT.2 s (by omega)).1, ← nI_add, ← nI_add, ← pk_mul]; rfl
    · show post (nI (s + 2) - 2) _
      rw [e2]; exact KK
  · -- a scalar function
    have es : p = s := by omega
    subst es
    subst e
    have eY : nI (tk p) = nI (rn_Y 0 (tk p) 0) := rfl
    refine pk_eq (tk p) 40 (fun z => absurd z (by omega)) (fun _ => pk_eq (tk p) 41 (fun z => absurd z (by omega)) (fun _ => pk_le 30 (tk p) (fun z => absurd z (by omega)) (fun _ => ?_)))
    have nb : ¬ sy_at tk p = 43 ∧ ¬ sy_at tk p = 42 := by
      cases p with
      | zero => exact ⟨show ¬ (-1 : Int32) = 43 by decide, show ¬ (-1 : Int32) = 42 by decide⟩
      | succ p1 =>
        have hb1 := sy_okb (hT.2 p1 (by omega)).2
        rw [Nat.add_sub_cancel] at h4
        exact ⟨fun z => by have := (nI_eq (a := tk p1) (b := 43) (by omega) (by decide)).mp z; omega, fun z => by have := (nI_eq (a := tk p1) (b := 42) (by omega) (by decide)).mp z; omega⟩
    refine br_f nb.1 (pk_le 30 (tk p) (fun z => absurd z (by omega)) (fun _ => br_f nb.2 ?_))
    exact br_t rfl (And.intro hin (nm_r (xl_uc (by omega) eY) (br_t rfl KK)))
end
end
section
/-! 46: every rule of reading, on the reference's side -/
section
variable {cn lv ee : Int32} {tx qk qr qw da wa fi qk' qr' qw' da' wa0 : Nat → Int32} {X : Nat → Prop} {p l N s n : Nat} {V V0 : aw_V} {nm nm0 : Nat → Option aw_V} {post : Int32 → SY → Prop} {tk : Nat → Nat} {pl : List aw_V}
/-- what a settle leads to -/
def yn_G (lag : Option sy_F) (l : Nat) (V : aw_V) (qk0 qr0 qw0 da0 wa0 : Nat → Int32) (ee : Int32) (qk qr qw da wa : Nat → Int32) : Prop :=
  wa = upd wa0 l (-1) ∧ yn_fr (fun p => p = 13 ∨ p = 14 + 2 * l) qk0 qr0 qw0 da0 qk qr qw da ∧
  ((ee = 0 ∧ ∃ V', (lag = none → V' = V) ∧ (∀ F, lag = some F → aq_one F.1 F.2.1 V = (0, V')) ∧ yn_K qk qr qw da (14 + 2 * l) V') ∨ (∃ F, lag = some F ∧ ¬ (aq_one F.1 F.2.1 V).1 = 0 ∧ ee = (aq_one F.1 F.2.1 V).1))
theorem yn_HS {Q : SY → Prop} {lag : Option sy_F} (hl : l ≤ 15) (hw : wa l = yn_cw lag) (hF : ∀ F, lag = some F → rn_FV F.1 F.2.1 F.2.2) (kV : yn_K qk qr qw da (14 + 2 * l) V)
    (K : ∀ ee qk' qr' qw' da' wa', yn_G lag l V qk qr qw da wa ee qk' qr' qw' da' wa' → Q (cn, nI l, ee, tx, qk', qr', qw', da', wa', fi)) : wpY_settle Q (cn, nI l, 0, tx, qk, qr, qw, da, wa, fi) :=
  yn_set hl hw hF kV (fun V' _ _ _ _ a1 a2 F k => K _ _ _ _ _ _ ⟨rfl, F, Or.inl ⟨rfl, V', a1, a2, k⟩⟩) (fun F _ _ _ _ a1 a2 Fr => K _ _ _ _ _ _ ⟨rfl, Fr, Or.inr ⟨F, a1, a2, rfl⟩⟩)
theorem ym_0 : yn_Sem post nm0 V0 tx N 0 false [none] [] := by
  refine ⟨Nat.le_refl _, fun _ _ lag nm pl qk qr qw da wa fi n hn S I B K => ?_⟩
  obtain ⟨n, rfl⟩ : ∃ j, n = j + 1 := ⟨n - 1, by omega⟩
  rcases S with ⟨e, _⟩ | ⟨_, ws', V, pl', e1, e2, h1, h2, h3, h4, h5⟩
  · exact nomatch e
  · cases e1
    subst e2
    have e3 : pl' = [] := h5
    subst e3
    refine br_t (by decide) ?_
    unfold wY_run_86
    refine yn_set (l := 0) (by omega) h2 h3 h4 (fun V' qk' qr' qw' da' a1 a2 F k => ?_) (fun G qk' qr' qw' da' a1 a2 F => ?_)
    · have e := ev_lg0 (tx := tx) (nm := nm) (pl := []) (cs := []) a1 a2
      exact K.1 nm V' e _ _ _ _ _ _ _ (fr_I F I (fun p a => by omega)) (fr_B F B (fun p a b => by omega)) k
    · have e := ev_lg1 (tx := tx) (nm := nm) (pl := []) (cs := []) a1 a2
      have K2 := K.2 (by rw [e]; exact a2) (nI 0) qk' qr' qw' da' (upd wa 0 (-1)) fi (fr_B F B (fun p a b => by omega))
      rw [e] at K2
      exact K2
theorem ym_1 (hT : sy_T tx N tk) (q : Nat) (w : Option sy_F) (ws : List (Option sy_F)) (cs : List sy_C) (h51 : tk q = 51) (S : yn_Sem post nm0 V0 tx N q true (none :: w :: ws) cs) : yn_Sem post nm0 V0 tx N (q + 1) true (w :: ws) cs := by
  have hN := hT.1
  obtain ⟨S1, S2⟩ := S
  rw [List.length_cons, List.length_cons] at S1
  refine ⟨by rw [List.length_cons]; omega, fun hq hl lag nm pl qk qr qw da wa fi n hn SB I B K => ?_⟩
  rw [List.length_cons] at hl
  obtain ⟨n, rfl⟩ : ∃ j, n = j + 1 := ⟨n - 1, by omega⟩
  rcases SB with ⟨_, e1, hL⟩ | ⟨e, _⟩
  · subst e1
    have etp : tx (nI q).toNatClampNeg = 51 := by rw [nI_clamp (by omega), (hT.2 q (by omega)).1, h51]; rfl
    have hin : vp_in (nI (ws.length + 1)) 17 := vp_in_nI (by omega) (by decide)
    refine yr_round hT (by omega) (fun _ _ => ?_)
    refine And.intro (vp_in_nI (by omega) (by decide)) (nm_r etp (br_t (by decide) (br_t (by decide) (br_t rfl (nm_r (nI_1 ws.length) (And.intro hin (nm_r (xl_uc (by omega) rfl) (And.intro hin (nm_r (xl_uc (by omega) aw_nb0) (nm_e ?_))))))))))
    refine S2 (by omega) (by rw [List.length_cons, List.length_cons]; omega) none nm pl qk qr qw da _ _ n (by omega) (Or.inl ⟨rfl, rfl, pk_us, pk_us, ?_⟩) I B K
    exact yL_fr (X := fun _ => False) (fun p _ => ⟨rfl, rfl, rfl, fun _ _ => rfl⟩) (w :: ws) pl (fun _ _ z => z) (fun i hi => ⟨pk_un (by rw [List.length_cons] at hi; omega), pk_un (by rw [List.length_cons] at hi; omega)⟩) hL
  · exact nomatch e
theorem ym_2 (hT : sy_T tx N tk) (q : Nat) (w : Option sy_F) (ws : List (Option sy_F)) (cs : List sy_C) (h1 : 10 ≤ tk q) (h2 : tk q ≤ 15) (S : yn_Sem post nm0 V0 tx N q false (none :: ws) cs) : yn_Sem post nm0 V0 tx N (q + 1) true (w :: ws) ((1, tk q - 10, 0, 0) :: sy_two w cs) := by
  have hN := hT.1
  have S1 := S.1
  rw [List.length_cons] at S1
  refine ⟨by rw [List.length_cons]; omega, fun hq hl lag nm pl qk qr qw da wa fi n hn SB I B K => ?_⟩
  rw [List.length_cons] at hl
  obtain ⟨n, rfl⟩ : ∃ j, n = j + 1 := ⟨n - 1, by omega⟩
  rcases SB with ⟨_, e1, hL⟩ | ⟨e, _⟩
  · subst e1
    have etp : tx (nI q).toNatClampNeg = nI (tk q) := by rw [nI_clamp (by omega), (hT.2 q (by omega)).1]
    have ea : nI (tk q) - 10 = nI (tk q - 10) := pk_sub (b := 10) h1
    have ha : tk q - 10 < 6 := by omega
    refine yr_round hT (by omega) (fun _ _ => ?_)
    refine And.intro (vp_in_nI (by omega) (by decide)) (nm_r etp (pk_le 10 (tk q) (fun _ => pk_le 16 (tk q) (fun z => absurd z (by omega)) (fun _ => ?_)) (fun z => absurd z (by omega))))
    rw [ea]
    refine And.intro (vp_in_nI (by omega) (by decide)) ?_
    have eq : qk (nI (tk q - 10)).toNatClampNeg = qk (tk q - 10) := by rw [nI_clamp (by omega)]
    rw [eq]
    have IN := I _ ha
    cases hnm : nm (tk q - 10) with
    | none =>
      have er : rn_st tx (1, tk q - 10, 0, 0) (nm, pl) = (-11, nm, pl) := es_nm0 hnm
      have e : (rn_ev tx (yn_lc none ++ (1, tk q - 10, 0, 0) :: sy_two w cs) (nm, pl)).1 = -11 := by
        have := ev_er (tx := tx) (c := (1, tk q - 10, 0, 0)) (cs := sy_two w cs) (s := (nm, pl)) (by rw [er]; exact (show ¬ (-11 : Int32) = 0 by decide))
        show (rn_ev tx ((1, tk q - 10, 0, 0) :: sy_two w cs) (nm, pl)).1 = -11
        rw [this, er]
      refine br_f (by rw [IN.1 hnm]; decide) (nm_e ?_)
      exact yr_err (l := ws.length) (by omega) e (by decide) K B (by omega)
    | some W =>
      have kW := IN.2 W hnm
      have hb := aw_okb kW.2.1
      have er : rn_st tx (1, tk q - 10, 0, 0) (nm, pl) = (0, nm, W :: pl) := es_nm1 hnm
      have e : rn_ev tx (yn_lc none ++ (1, tk q - 10, 0, 0) :: sy_two w cs) (nm, pl) = rn_ev tx (sy_two w cs) (nm, W :: pl) := ev_ok (c := (1, tk q - 10, 0, 0)) er
      rw [e] at K
      refine br_t (by rw [kW.2.2.1]; exact nI_pos' (by omega)) ?_
      refine yn_val (l := ws.length) (by omega) ?_
      refine yn_cpK (a := tk q - 10) (b := 14 + 2 * ws.length + 1) (by omega) (by omega) kW (fun qk' qr' qw' da' F k2 => ?_) rfl (nI_1 _)
      exact yr_push S (by omega) (by omega) (by omega) (by omega) (by omega) rfl (yL_fr F (w :: ws) pl (fun i hi => by rw [List.length_cons] at hi; omega) (fun i hi => ⟨rfl, rfl⟩) hL) k2 (fr_I F I (fun p a => by omega)) (fr_B F B (fun p a b => by omega)) K
  · exact nomatch e
theorem ym_3 (hT : sy_T tx N tk) (s q : Nat) (w : Option sy_F) (ws : List (Option sy_F)) (cs : List sy_C) (hs : s < q) (h9 : ∀ i, s ≤ i → i < q → tk i ≤ 9) (hm : s = 0 ∨ 10 ≤ tk (s - 1)) (S : yn_Sem post nm0 V0 tx N s false (none :: ws) cs) :
    yn_Sem post nm0 V0 tx N q true (w :: ws) ((0, s, q - s, 0) :: sy_two w cs) := by
  have hN := hT.1
  have S1 := S.1
  rw [List.length_cons] at S1
  obtain ⟨p, rfl⟩ : ∃ p, q = p + 1 := ⟨q - 1, by omega⟩
  refine ⟨by rw [List.length_cons]; omega, fun hq hl lag nm pl qk qr qw da wa fi n hn SB I B K => ?_⟩
  rw [List.length_cons] at hl
  obtain ⟨n, rfl⟩ : ∃ j, n = j + 1 := ⟨n - 1, by omega⟩
  rcases SB with ⟨_, e1, hL⟩ | ⟨e, _⟩
  · subst e1
    have etp : tx (nI p).toNatClampNeg = nI (tk p) := by rw [nI_clamp (by omega), (hT.2 p (by omega)).1]
    have t9 := h9 p (by omega) (by omega)
    have e : rn_ev tx (yn_lc none ++ (0, s, p + 1 - s, 0) :: sy_two w cs) (nm, pl) = rn_ev tx (sy_two w cs) (nm, (if p + 1 - s = 1 then 0 else 1, 1, p + 1 - s, fun k => tx (s + k)) :: pl) := ev_ok (c := (0, s, p + 1 - s, 0)) es_num
    rw [e] at K
    refine yr_round hT (by omega) (fun _ _ => ?_)
    refine And.intro (vp_in_nI (by omega) (by decide)) (nm_r etp (pk_le 10 (tk p) (fun z => absurd z (by omega)) (fun _ => ?_)))
    refine yr_nums (l := ws.length) hT (by omega) (by omega) h9 hm (by omega) (fun qk' qr' qw' da' F k2 => ?_)
    exact yr_push S (by omega) (by omega) (by omega) (by omega) (by omega) rfl (yL_fr F (w :: ws) pl (fun i hi => by rw [List.length_cons] at hi; omega) (fun i hi => ⟨rfl, rfl⟩) hL) k2 (fr_I F I (fun p a => by omega)) (fr_B F B (fun p a b => by omega)) K
  · exact nomatch e
end
end
section
/-! 47: the reference's run -/
section
variable {cn lv ee : Int32} {tx qk qr qw da wa fi qk' qr' qw' da' wa0 : Nat → Int32} {X : Nat → Prop} {p l N s n : Nat} {V V0 : aw_V} {nm nm0 : Nat → Option aw_V} {post : Int32 → SY → Prop} {tk : Nat → Nat} {pl : List aw_V}
theorem ym_4 (hT : sy_T tx N tk) (q : Nat) (w : Option sy_F) (ws : List (Option sy_F)) (cs : List sy_C) (h50 : tk q = 50) (S : yn_Sem post nm0 V0 tx N q false (none :: ws) cs) : yn_Sem post nm0 V0 tx N (q + 1) false (none :: w :: ws) (sy_two w cs) := by
  have hN := hT.1
  have S1 := S.1
  rw [List.length_cons] at S1
  refine ⟨by rw [List.length_cons, List.length_cons]; omega, fun hq hl lag nm pl qk qr qw da wa fi n hn SB I B K => ?_⟩
  rw [List.length_cons, List.length_cons] at hl
  obtain ⟨n, rfl⟩ : ∃ j, n = j + 1 := ⟨n - 1, by omega⟩
  rcases SB with ⟨e, _⟩ | ⟨_, ws', V, pl', e1, e2, h1, h2, h3, h4, h5⟩
  · exact nomatch e
  · cases e1
    subst e2
    have etp : tx (nI q).toNatClampNeg = 50 := by rw [nI_clamp (by omega), (hT.2 q (by omega)).1, h50]; rfl
    refine yr_round hT (by omega) (fun _ _ => ?_)
    refine And.intro (vp_in_nI (by omega) (by decide)) (nm_r etp (br_t (by decide) (br_t (by decide) (br_f (by decide) (br_t rfl ?_)))))
    refine yn_HS (l := ws.length + 1) (by omega) h2 h3 h4 (fun ee qk' qr' qw' da' wa' G => ?_)
    obtain ⟨g1, F, g3⟩ := G
    subst g1
    refine yn_val (l := ws.length + 1) (by omega) (nm_r (nI_pred ws.length) ?_)
    refine yn_val (l := ws.length) (by omega) ?_
    rcases g3 with ⟨ez, V', a1, a2, k2⟩ | ⟨G, a1, a2, a3⟩
    · subst ez
      have e := ev_lg0 (tx := tx) (nm := nm) (pl := pl') (cs := sy_two w cs) a1 a2
      rw [e] at K
      refine yn_cpK (a := 14 + 2 * (ws.length + 1)) (b := 14 + 2 * ws.length + 1) (by omega) (by omega) k2 (fun qk2 qr2 qw2 da2 F2 k3 => ?_) rfl (nI_1 _)
      have F3 := fr_tr F F2
      refine yr_push S (by omega) (by omega) (by omega) (by omega) (by omega) rfl (yL_fr F3 (w :: ws) pl' (fun i hi => by rw [List.length_cons] at hi; omega) (fun i hi => ⟨pk_un (by rw [List.length_cons] at hi; omega), rfl⟩) h5) k3 (fr_I F3 I (fun p a => by omega)) (fr_B F3 B (fun p a b => by omega)) K
    · subst a3
      have e := ev_lg1 (tx := tx) (nm := nm) (pl := pl') (cs := sy_two w cs) a1 a2
      refine yn_copy (a := 14 + 2 * (ws.length + 1)) (b := 14 + 2 * ws.length + 1) (by omega) (by omega) (by omega) (fun qk2 qr2 qw2 da2 F2 _ _ => ?_) rfl (nI_1 _)
      exact yr_pushe (l := ws.length) (by omega) (by omega) e a2 (fr_B (fr_tr F F2) B (fun p a b => by omega)) K
theorem ym_5 (hT : sy_T tx N tk) (q : Nat) (ws : List (Option sy_F)) (cs : List sy_C) (h52 : tk (q + 1) = 52) (h1 : 10 ≤ tk q) (h2 : tk q ≤ 15) (S : yn_Sem post nm0 V0 tx N q false ws cs) : yn_Sem post nm0 V0 tx N (q + 2) false ws ((2, tk q - 10, 0, 0) :: cs) := by
  have hN := hT.1
  have S1 := S.1
  refine ⟨by omega, fun hq hl lag nm pl qk qr qw da wa fi n hn SB I B K => ?_⟩
  obtain ⟨n, rfl⟩ : ∃ j, n = j + 1 := ⟨n - 1, by omega⟩
  rcases SB with ⟨e, _⟩ | ⟨_, ws', V, pl', e1, e2, g1, g2, g3, g4, g5⟩
  · exact nomatch e
  · subst e1 e2
    rw [List.length_cons] at S1 hl
    have etp : tx (nI (q + 1)).toNatClampNeg = 52 := by rw [nI_clamp (by omega), (hT.2 (q + 1) (by omega)).1, h52]; rfl
    refine yr_round (p := q + 1) hT (by omega) (fun _ _ => ?_)
    refine And.intro (vp_in_nI (by omega) (by decide)) (nm_r etp (br_t (by decide) (br_t (by decide) (br_f (by decide) (br_f (by decide) (br_t rfl ?_))))))
    refine yn_HS (l := ws'.length) (by omega) g2 g3 g4 (fun ee qk' qr' qw' da' wa' G => ?_)
    obtain ⟨b1, F, b3⟩ := G
    subst b1
    have ex : nI (q + 1) - 1 - 1 = nI q - 1 := by rw [nI_pred]
    rcases b3 with ⟨ez, V', a1, a2, k2⟩ | ⟨G, a1, a2, a3⟩
    · subst ez
      have e := ev_lg0 (tx := tx) (nm := nm) (pl := pl') (cs := (2, tk q - 10, 0, 0) :: cs) a1 a2
      have e' : rn_ev tx ((2, tk q - 10, 0, 0) :: cs) (nm, V' :: pl') = rn_ev tx cs ((fun i => if i = tk q - 10 then some V' else nm i), V' :: pl') := ev_ok es_bec
      rw [e, e'] at K
      refine br_t rfl ?_
      refine yn_val (l := ws'.length) (by omega) ?_
      have eq1 : nI (q + 1) - 1 = nI q := nI_pred q
      refine And.intro (pk_in q 30 (by omega) eq1) ?_
      have ea : tx (nI (q + 1) - 1).toNatClampNeg - 10 = nI (tk q - 10) := by rw [eq1, nI_clamp (by omega), (hT.2 q (by omega)).1]; exact pk_sub (b := 10) h1
      refine yn_cpK (a := 14 + 2 * ws'.length) (b := tk q - 10) (by omega) (by omega) k2 (fun qk2 qr2 qw2 da2 F2 k3 => nm_r ex ?_) rfl ea
      have F3 := fr_tr F F2
      refine S.2 (by omega) (by rw [List.length_cons]; omega) none (fun i => if i = tk q - 10 then some V' else nm i) (V' :: pl') qk2 qr2 qw2 da2 (upd wa ws'.length (-1)) fi n (by omega)
        (Or.inr ⟨rfl, ws', V', pl', rfl, rfl, g1, pk_us, fun F e => (nomatch e), fr_K F2 k2 (by omega), yL_fr F3 ws' pl' (fun i hi => by omega) (fun i hi => ⟨pk_un (by omega), rfl⟩) g5⟩) (fun i hi => ?_) (fr_B F3 B (fun p a b => by omega)) K
      by_cases z : i = tk q - 10
      · show yn_N qk2 qr2 qw2 da2 i (if i = tk q - 10 then some V' else nm i)
        rw [if_pos z, z]
        exact ⟨fun e => (nomatch e), fun W e => by cases e; exact k3⟩
      · show yn_N qk2 qr2 qw2 da2 i (if i = tk q - 10 then some V' else nm i)
        rw [if_neg z]
        exact fr_N F3 (I i hi) (by omega)
    · subst a3
      have e := ev_lg1 (tx := tx) (nm := nm) (pl := pl') (cs := (2, tk q - 10, 0, 0) :: cs) a1 a2
      refine br_f a2 (nm_e ?_)
      exact yr_err (l := ws'.length) (by omega) e a2 K (fr_B F B (fun p a b => by omega)) (by omega)
/-- the common way of both kinds of function -/
theorem ym_67 (hT : sy_T tx N tk) {q : Nat} {F : sy_F} {ws' : List (Option sy_F)} {cs : List sy_C} {lag : Option sy_F} {pl' : List aw_V} (hf : sy_fn tk s q F) (hq : q ≤ N) (hl : ws'.length ≤ 15) (hn : s < n) (g1 : ¬ fi ws'.length = 0) (g2 : wa ws'.length = yn_cw lag) (g3 : ∀ F, lag = some F → rn_FV F.1 F.2.1 F.2.2) (g4 : yn_K qk qr qw da (14 + 2 * ws'.length) V) (g5 : yn_L qk qr qw da wa fi ws' pl')
    (I : yn_I nm qk qr qw da) (B : yn_B nm0 V0 qk qr qw da) (K : yn_KK post nm0 V0 (nI N) tx (rn_ev tx (yn_lc lag ++ cs) (nm, V :: pl')))
    (go : ∀ V' qk2 qr2 qw2 da2 wa2, wa2 ws'.length = nI (rn_Y F.1 F.2.1 F.2.2) → yn_K qk2 qr2 qw2 da2 (14 + 2 * ws'.length) V' → yn_L qk2 qr2 qw2 da2 wa2 fi ws' pl' → yn_I nm qk2 qr2 qw2 da2 → yn_B nm0 V0 qk2 qr2 qw2 da2 → yn_KK post nm0 V0 (nI N) tx (rn_ev tx cs (nm, V' :: pl')) →
      wY_run_64 post n (nI s - 1) (nI N) (nI ws'.length) 0 tx qk2 qr2 qw2 da2 wa2 fi) : wY_run_64 post (n + 1) (nI q - 1) (nI N) (nI ws'.length) 0 tx qk qr qw da wa fi := by
  have hN := hT.1
  have hs := (fp_first (sy_fnp hf)).1
  obtain ⟨p, rfl⟩ : ∃ p, q = p + 1 := ⟨q - 1, by omega⟩
  have hlast := fp_last (sy_fnp hf)
  have etp : tx (nI p).toNatClampNeg = nI (tk p) := by rw [nI_clamp (by omega), (hT.2 p (by omega)).1]
  refine yr_round hT (by omega) (fun _ _ => ?_)
  refine And.intro (vp_in_nI (by omega) (by decide)) (nm_r etp (pk_le 10 (tk p) (fun _ => pk_le 16 (tk p) (fun _ => pk_eq (tk p) 51 (fun z => absurd z (by omega)) (fun _ => pk_eq (tk p) 50 (fun z => absurd z (by omega)) (fun _ => pk_eq (tk p) 52 (fun z => absurd z (by omega)) (fun _ => ?_)))) (fun z => absurd z (by omega))) (fun z => absurd z (by omega))))
  refine yr_fun (G := fun ee qk' qr' qw' da' wa' => yn_G lag ws'.length V qk qr qw da wa ee qk' qr' qw' da' wa') hT (by omega) hl hf (fun Q hQ => yn_HS hl g2 g3 g4 (fun ee qk' qr' qw' da' wa' G => hQ ee qk' qr' qw' da' wa' G)) (fun ee qk' qr' qw' da' wa' G => nm_e ?_)
  obtain ⟨b1, Fr, b3⟩ := G
  subst b1
  rcases b3 with ⟨ez, V', a1, a2, k2⟩ | ⟨G, a1, a2, a3⟩
  · subst ez
    have e := ev_lg0 (tx := tx) (nm := nm) (pl := pl') (cs := cs) a1 a2
    rw [e] at K
    exact go V' qk' qr' qw' da' _ pk_us k2 (yL_fr Fr ws' pl' (fun i hi => by omega) (fun i hi => ⟨by rw [pk_un (by omega), pk_un (by omega)], rfl⟩) g5) (fr_I Fr I (fun p a => by omega)) (fr_B Fr B (fun p a b => by omega)) K
  · subst a3
    have e := ev_lg1 (tx := tx) (nm := nm) (pl := pl') (cs := cs) a1 a2
    exact yr_err (l := ws'.length) (by omega) e a2 K (fr_B Fr B (fun p a b => by omega)) (by omega)
theorem ym_6 (hT : sy_T tx N tk) (s q : Nat) (F : sy_F) (ws : List (Option sy_F)) (cs : List sy_C) (hf : sy_fn tk s q F) (S : yn_Sem post nm0 V0 tx N s true (some F :: ws) cs) : yn_Sem post nm0 V0 tx N q false (none :: ws) cs := by
  have hN := hT.1
  have S1 := S.1
  have hs := (fp_first (sy_fnp hf)).1
  rw [List.length_cons] at S1
  refine ⟨by rw [List.length_cons]; omega, fun hq hl lag nm pl qk qr qw da wa fi n hn SB I B K => ?_⟩
  rw [List.length_cons] at hl
  obtain ⟨n, rfl⟩ : ∃ j, n = j + 1 := ⟨n - 1, by omega⟩
  rcases SB with ⟨e, _⟩ | ⟨_, ws', V, pl', e1, e2, g1, g2, g3, g4, g5⟩
  · exact nomatch e
  · cases e1
    subst e2
    refine ym_67 hT hf hq (by omega) (by omega) g1 g2 g3 g4 g5 I B K (fun V' qk2 qr2 qw2 da2 wa2 c1 c2 c3 c4 c5 c6 => ?_)
    exact S.2 (by omega) (by rw [List.length_cons]; omega) none nm (V' :: pl') qk2 qr2 qw2 da2 wa2 fi n (by omega) (Or.inl ⟨rfl, rfl, g1, c1, sy_fnV hf, c2, c3⟩) c4 c5 c6
theorem ym_7 (hT : sy_T tx N tk) (s q : Nat) (F : sy_F) (ws : List (Option sy_F)) (cs : List sy_C) (hf : sy_fn tk s q F) (S : yn_Sem post nm0 V0 tx N s false ws cs) : yn_Sem post nm0 V0 tx N q false ws ((3, F) :: cs) := by
  have hN := hT.1
  have S1 := S.1
  have hs := (fp_first (sy_fnp hf)).1
  refine ⟨by omega, fun hq hl lag nm pl qk qr qw da wa fi n hn SB I B K => ?_⟩
  obtain ⟨n, rfl⟩ : ∃ j, n = j + 1 := ⟨n - 1, by omega⟩
  rcases SB with ⟨e, _⟩ | ⟨_, ws', V, pl', e1, e2, g1, g2, g3, g4, g5⟩
  · exact nomatch e
  · subst e1 e2
    rw [List.length_cons] at S1 hl
    refine ym_67 hT hf hq (by omega) (by omega) g1 g2 g3 g4 g5 I B K (fun V' qk2 qr2 qw2 da2 wa2 c1 c2 c3 c4 c5 c6 => ?_)
    exact S.2 (by omega) (by rw [List.length_cons]; omega) (some F) nm (V' :: pl') qk2 qr2 qw2 da2 wa2 fi n (by omega) (Or.inr ⟨rfl, ws', V', pl', rfl, rfl, g1, c1, fun F' e => by cases e; exact sy_fnV hf, c2, c3⟩) c4 c5 c6
theorem ym_all (hT : sy_T tx N tk) : sy_Clo tk (yn_Sem post nm0 V0 tx N) :=
  ⟨ym_0, ym_1 hT, ym_2 hT, ym_3 hT, ym_4 hT, ym_5 hT, fun s q F ws cs hf _ S => ym_6 hT s q F ws cs hf S, fun s q F ws cs hf _ S => ym_7 hT s q F ws cs hf S⟩
end
end
section
/-! 48: the reference's run, whole -/
def yn_KY (post : Int32 → SY → Prop) (e : Int32) (nm : Nat → Option aw_V) (V : aw_V) (cn : Int32) (tx : Nat → Int32) : Prop :=
  ∀ lv ee qk qr qw da wa fi, yn_I nm qk qr qw da → yn_K qk qr qw da 12 V → post (if e = 0 then nI V.1 else e) (cn, lv, ee, tx, qk, qr, qw, da, wa, fi)
section
variable {cn lv ee : Int32} {tx qk qr qw da wa fi : Nat → Int32} {N : Nat} {V V0 : aw_V} {nm nm0 : Nat → Option aw_V} {post : Int32 → SY → Prop} {tk : Nat → Nat}
theorem yr_92k (I : yn_I nm qk qr qw da) (k : yn_K qk qr qw da 14 V) (K : yn_KY post 0 nm V cn tx) : ∃ n92, wY_run_92 post n92 0 cn lv 0 tx qk qr qw da wa fi := by
  refine ⟨1, br_f (by decide) (br_t rfl (br_t rfl ?_))⟩
  refine yn_cpK (a := 14) (b := 12) (by decide) (by decide) k (fun qk' qr' qw' da' F k2 => ?_)
  have := K lv 0 qk' qr' qw' da' wa fi (fr_I F I (fun p a => by omega)) k2
  rw [if_pos rfl] at this
  show post (qk' 12) _
  rw [k2.2.2.1]
  exact this
theorem yr_92e (he : ¬ ee = 0) (K : yn_KY post ee nm0 V0 cn tx) : ∀ (d i n1 : Nat) (qk qr qw da : Nat → Int32), i + d = 6 → d < n1 → yn_B nm0 V0 qk qr qw da → (∀ j, j < i → yn_N qk qr qw da j (nm0 j)) → wY_run_92 post n1 (nI i) cn lv ee tx qk qr qw da wa fi := by
  intro d
  induction d with
  | zero =>
    intro i n1 qk qr qw da hi hn B H
    obtain ⟨n1, rfl⟩ : ∃ j, n1 = j + 1 := ⟨n1 - 1, by omega⟩
    have e : i = 6 := by omega
    subst e
    have := K lv ee qk qr qw da wa fi H B.2
    rw [if_neg he] at this
    exact br_t (by decide) (br_f he this)
  | succ d ih =>
    intro i n1 qk qr qw da hi hn B H
    obtain ⟨n1, rfl⟩ : ∃ j, n1 = j + 1 := ⟨n1 - 1, by omega⟩
    refine br_f (nI_ge (b := 6) (by omega) (by decide)) (br_f he ?_)
    refine yn_copy (a := 6 + i) (b := i) (by omega) (by omega) (by omega) (fun qk' qr' qw' da' F G _ => nm_r (nI_1 i) (ih (i + 1) n1 qk' qr' qw' da' (by omega) (by omega) (fr_B F B (fun p a b => by omega)) (fun j hj => ?_))) (nI_add 6 i)
    by_cases z : j = i
    · subst z; exact G _ (B.1 j (by omega))
    · exact fr_N F (H j (by omega)) (by omega)
theorem yr_12 (K : ∀ qk qr qw da, yn_I nm qk qr qw da → yn_B nm V0 qk qr qw da → ∃ n64, wY_run_64 post n64 (cn - 1) cn 0 0 tx qk qr qw da (upd wa 0 (-1)) (upd fi 0 0)) :
    ∀ (d i n1 : Nat) (qk qr qw da : Nat → Int32), i + d = 6 → d < n1 → yn_I nm qk qr qw da → yn_K qk qr qw da 12 V0 → (∀ j, j < i → yn_N qk qr qw da (6 + j) (nm j)) → wY_run_12 post n1 (nI i) cn lv ee tx qk qr qw da wa fi := by
  intro d
  induction d with
  | zero =>
    intro i n1 qk qr qw da hi hn I k H
    obtain ⟨n1, rfl⟩ : ∃ j, n1 = j + 1 := ⟨n1 - 1, by omega⟩
    have e : i = 6 := by omega
    subst e
    exact br_t (by decide) (nm_e (nm_r (e' := upd fi 0 0) (by rw [aw_nb0]) (nm_e (K qk qr qw da I ⟨H, k⟩))))
  | succ d ih =>
    intro i n1 qk qr qw da hi hn I k H
    obtain ⟨n1, rfl⟩ : ∃ j, n1 = j + 1 := ⟨n1 - 1, by omega⟩
    refine br_f (nI_ge (b := 6) (by omega) (by decide)) ?_
    refine yn_copy (a := i) (b := 6 + i) (by omega) (by omega) (by omega) (fun qk' qr' qw' da' F G _ => nm_r (nI_1 i) (ih (i + 1) n1 qk' qr' qw' da' (by omega) (by omega) (fr_I F I (fun p a => by omega)) (fr_K F k (by omega)) (fun j hj => ?_))) rfl (nI_add 6 i)
    by_cases z : j = i
    · subst z; exact G _ (I j (by omega))
    · exact fr_N F (H j (by omega)) (by omega)
theorem yr_run0 (hT : sy_T tx N tk) (hF : ¬ sy_Fw tk N N true 0) (K : post (-10) (nI N, lv, ee, tx, qk, qr, qw, da, wa, fi)) : wpY_run post (nI N, lv, ee, tx, qk, qr, qw, da, wa, fi) := by
  unfold wpY_run
  exact ys_stat hT (fun H => absurd H hF) (fun _ => br_t rfl K)
theorem yr_run1 {cs : List sy_C} (hT : sy_T tx N tk) (hcs : sy_CS tk N true [none] cs) (I : yn_I nm qk qr qw da) (k : yn_K qk qr qw da 12 V0)
    (K0 : ∀ nm' V, rn_ev tx cs (nm, []) = (0, nm', [V]) → yn_KY post 0 nm' V (nI N) tx) (K1 : ¬ (rn_ev tx cs (nm, [])).1 = 0 → yn_KY post (rn_ev tx cs (nm, [])).1 nm V0 (nI N) tx) : wpY_run post (nI N, lv, ee, tx, qk, qr, qw, da, wa, fi) := by
  have hF := (cs_fw (N := N) hcs (Nat.le_refl N)).1
  unfold wpY_run
  refine ys_stat hT (fun _ => br_f (by decide) ⟨7, ?_⟩) (fun H => absurd hF H)
  refine yr_12 ?_ 6 0 7 qk qr qw da (by omega) (by omega) I k (fun j hj => absurd hj (by omega))
  intro qk qr qw da I B
  have S := hcs (yn_Sem post nm V0 tx N) (ym_all hT)
  refine ⟨N + 1, S.2 (Nat.le_refl N) (by show 1 + N ≤ 1 + N; omega) none nm [] qk qr qw da _ _ (N + 1) (by omega) (Or.inl ⟨rfl, rfl, pk_us, pk_us, rfl⟩) I B ⟨fun nm' V e lv qk qr qw da wa fi I' B' k' => ?_, fun e lv qk qr qw da wa fi B' => ?_⟩⟩
  · exact yr_92k I' k' (K0 nm' V e)
  · exact ⟨7, yr_92e e (K1 e) 6 0 7 qk qr qw da (by omega) (by omega) B' (fun j hj => absurd hj (by omega))⟩
end
end
section
/-! 50: the relation; methods that only read -/
def ar_R (cn : Int32) (tx : Nat → Int32) (us : Int32) (rk ro cl sr rs sp hv st : Nat → Int32) (cn' : Int32) (tx' qk qr qw da : Nat → Int32) : Prop :=
  ∃ (N : Nat) (tk : Nat → Nat) (g : Nat → Option aw_V) (V : aw_V), cn = nI N ∧ cn' = nI N ∧ tx' = tx ∧ sy_T tx N tk ∧ aw_HX g 13 us rk ro cl sr rs sp hv st ∧ g 6 = some V ∧ yn_I g qk qr qw da ∧ yn_K qk qr qw da 12 V
/-- the same text; names and the result hold the same arrays -/
def i_Rel (_ : Nat) (u : SX) (v : SY) : Prop := match u, v with
  | (cn, cd, nx, ws, fn, tp, us, er, fl, tx, co, ca, cb, wt, rk, ro, cl, sr, rs, sp, hv, st, mv), (cn', _, _, tx', qk, qr, qw, da, _, _) => ar_R cn tx us rk ro cl sr rs sp hv st cn' tx' qk qr qw da
theorem i_up {k : Nat} {u : SX} {v : SY} (h : i_Rel k u v) : i_Rel (k + 5) u v := h
theorem ar_in {k N : Nat} {tk : Nat → Nat} {g : Nat → Option aw_V} {V : aw_V} {cd nx ws fn tp us er fl lv ee : Int32} {tx co ca cb wt rk ro cl sr rs sp hv st mv qk qr qw da wa fi : Nat → Int32}
    (hT : sy_T tx N tk) (h : aw_HX g 13 us rk ro cl sr rs sp hv st) (hg : g 6 = some V) (I : yn_I g qk qr qw da) (kV : yn_K qk qr qw da 12 V) : i_Rel k (nI N, cd, nx, ws, fn, tp, us, er, fl, tx, co, ca, cb, wt, rk, ro, cl, sr, rs, sp, hv, st, mv) (nI N, lv, ee, tx, qk, qr, qw, da, wa, fi) := ⟨N, tk, g, V, rfl, rfl, rfl, hT, h, hg, I, kV⟩
theorem ar_el {k : Nat} {u : SX} {v : SY} {P : SX → SY → Prop} (h : ∀ (N : Nat) (tk : Nat → Nat) (g : Nat → Option aw_V) (r m n : Nat) (c : Nat → Int32) (cd nx ws fn tp us er fl lv ee : Int32) (tx co ca cb wt rk ro cl sr rs sp hv st mv qk qr qw da wa fi : Nat → Int32),
    sy_T tx N tk → aw_HX g 13 us rk ro cl sr rs sp hv st → g 6 = some (r, m, n, c) → yn_I g qk qr qw da → yw_K qk qr qw da 12 r m n c → P (nI N, cd, nx, ws, fn, tp, us, er, fl, tx, co, ca, cb, wt, rk, ro, cl, sr, rs, sp, hv, st, mv) (nI N, lv, ee, tx, qk, qr, qw, da, wa, fi)) (I : i_Rel k u v) : P u v := by
  obtain ⟨cn, cd, nx, ws, fn, tp, us, er, fl, tx, co, ca, cb, wt, rk, ro, cl, sr, rs, sp, hv, st, mv⟩ := u
  obtain ⟨cn', lv, ee, tx', qk, qr, qw, da, wa, fi⟩ := v
  obtain ⟨N, tk, g, V, e1, e2, e3, hT, hH, hg, hI, hK⟩ : ar_R cn tx us rk ro cl sr rs sp hv st cn' tx' qk qr qw da := I
  subst e1 e2 e3
  obtain ⟨r, m, n, c⟩ := V
  exact h N tk g r m n c cd nx ws fn tp us er fl lv ee tx' co ca cb wt rk ro cl sr rs sp hv st mv qk qr qw da wa fi hT hH hg hI hK
section
variable {cn cd nx ws fn tp us er fl lv ee : Int32} {tx co ca cb wt rk ro cl sr rs sp hv st mv qk qr qw da wa fi : Nat → Int32} {g : Nat → Option aw_V} {U N r m n : Nat} {c : Nat → Int32}
def ar_dg (c : Nat → Int32) : Nat → Nat → Int32 → Int32
  | 0, _, v => v
  | d + 1, j, v => ar_dg c d (j + 1) (v + (nI j + 1) * c j)
theorem ar_dx {post : Int32 → Prop} (k6 : aw_SK st rk ro cl sr rs sp U 6 r m n c) : ∀ (d j : Nat) (v : Int32), j + d = m * n → post (ar_dg c d j v) → wX_digest_11 post (nI (m * n)) cn cd nx ws fn tp us er fl tx co ca cb wt rk ro cl sr rs sp hv st mv (d + 1) v (nI j) := by
  have hb := aw_okb k6.2.2.1
  intro d
  induction d with
  | zero => intro j v hj K; exact br_t (nI_le (by omega) (by omega)) K
  | succ d ih =>
    intro j v hj K
    exact br_f (nI_ge (by omega) (by omega)) (xl_rav k6 (show j < m * n by omega) (nm_e (nm_r (nI_1 j) (ih (j + 1) _ (by omega) K))))
theorem ar_dy {post : Int32 → Prop} (k12 : yw_K qk qr qw da 12 r m n c) : ∀ (d j : Nat) (v : Int32), j + d = m * n → post (ar_dg c d j v) → wY_digest_4 post cn lv ee tx qk qr qw da wa fi (d + 1) v (nI j) := by
  have hb := aw_okb k12.2.1
  intro d
  induction d with
  | zero =>
    intro j v hj K
    unfold wY_digest_4
    refine yl_size k12 ?_
    exact br_t (nI_le (by omega) (by omega)) K
  | succ d ih =>
    intro j v hj K
    unfold wY_digest_4
    refine yl_size k12 ?_
    exact br_f (nI_ge (by omega) (by omega)) (yl_num k12 (show j < m * n by omega) (nm_e (nm_r (nI_1 j) (ih (j + 1) _ (by omega) K))))
end
section
variable {k : Nat} {u : SX} {v : SY}
theorem i_vc_rank {k : Nat} {u : SX} {v : SY} (I : i_Rel k u v) (hk : k + 5 ≤ 2560) : wpX_rank (fun r => wpY_rank (fun r' => r' = r ∧ i_Rel (k + 5) u v) v) u := by
  refine ar_el (P := fun u v => wpX_rank (fun r => wpY_rank (fun r' => r' = r ∧ i_Rel (k + 5) u v) v) u) ?_ I
  intro N tk g r m n c cd nx ws fn tp us er fl lv ee tx co ca cb wt rk ro cl sr rs sp hv st mv qk qr qw da wa fi hT h hg hI k12
  obtain ⟨U, eU, H⟩ := h
  have k6 := hp_sk H (by omega) (by omega) hg
  refine ⟨?_, ar_in hT ⟨U, eU, H⟩ hg hI k12⟩
  show qk 12 = rk 6
  rw [k12.2.2.1, k6.2.2.2.1]
theorem i_vc_size {k : Nat} {u : SX} {v : SY} (I : i_Rel k u v) (hk : k + 5 ≤ 2560) : wpX_size (fun r => wpY_size (fun r' => r' = r ∧ i_Rel (k + 5) u v) v) u := by
  refine ar_el (P := fun u v => wpX_size (fun r => wpY_size (fun r' => r' = r ∧ i_Rel (k + 5) u v) v) u) ?_ I
  intro N tk g r m n c cd nx ws fn tp us er fl lv ee tx co ca cb wt rk ro cl sr rs sp hv st mv qk qr qw da wa fi hT h hg hI k12
  obtain ⟨U, eU, H⟩ := h
  have k6 := hp_sk H (by omega) (by omega) hg
  unfold wpX_size
  refine xl_size k6 ?_
  unfold wpY_size
  refine yl_size k12 ?_
  exact ⟨rfl, ar_in hT ⟨U, eU, H⟩ hg hI k12⟩
theorem i_vc_length {k : Nat} {u : SX} {v : SY} (I : i_Rel k u v) (hk : k + 5 ≤ 2560) (v1 : Int32) : wpX_length (fun r => wpY_length (fun r' => r' = r ∧ i_Rel (k + 5) u v) v v1) u v1 := by
  refine ar_el (P := fun u v => wpX_length (fun r => wpY_length (fun r' => r' = r ∧ i_Rel (k + 5) u v) v v1) u v1) ?_ I
  intro N tk g r m n c cd nx ws fn tp us er fl lv ee tx co ca cb wt rk ro cl sr rs sp hv st mv qk qr qw da wa fi hT h hg hI k12
  obtain ⟨U, eU, H⟩ := h
  have k6 := hp_sk H (by omega) (by omega) hg
  have hb := aw_okb k12.2.1
  have R := ar_in (k := k + 5) (cd := cd) (nx := nx) (ws := ws) (fn := fn) (tp := tp) (er := er) (fl := fl) (lv := lv) (ee := ee) (co := co) (ca := ca) (cb := cb) (wt := wt) (mv := mv) (wa := wa) (fi := fi) hT ⟨U, eU, H⟩ hg hI k12
  have er6 : rk 6 = nI r := k6.2.2.2.1
  have eq12 : qk 12 = nI r := k12.2.2.1
  by_cases l0 : v1 < 0
  · exact br_t l0 (br_t l0 ⟨rfl, R⟩)
  · obtain ⟨j, hj, rfl⟩ := nI_of l0
    refine br_f l0 (pk_lt j r (fun l => ?_) (fun l => br_f l0 (pk_lt j r (fun z => absurd z (by omega)) (fun _ => ⟨rfl, R⟩) rfl eq12)) rfl er6)
    refine pk_eq j 0 (fun z => ?_) (fun z => ?_)
    · refine xl_first k6 (br_f l0 (pk_lt j r (fun _ => pk_eq j 0 (fun _ => ⟨?_, R⟩) (fun q => absurd z q)) (fun q => absurd q (by omega)) rfl eq12))
      exact k12.2.2.2.1
    · refine br_f l0 (pk_lt j r (fun _ => pk_eq j 0 (fun q => absurd q z) (fun _ => ⟨?_, R⟩)) (fun q => absurd q (by omega)) rfl eq12)
      show qw 12 = cl 6
      rw [k12.2.2.2.2.1, k6.2.2.2.2.2.1]
      unfold aw_wd
      rw [if_pos (by omega)]
theorem i_vc_at {k : Nat} {u : SX} {v : SY} (I : i_Rel k u v) (hk : k + 5 ≤ 2560) (v1 : Int32) : wpX_at (fun r => wpY_at (fun r' => r' = r ∧ i_Rel (k + 5) u v) v v1) u v1 := by
  refine ar_el (P := fun u v => wpX_at (fun r => wpY_at (fun r' => r' = r ∧ i_Rel (k + 5) u v) v v1) u v1) ?_ I
  intro N tk g r m n c cd nx ws fn tp us er fl lv ee tx co ca cb wt rk ro cl sr rs sp hv st mv qk qr qw da wa fi hT h hg hI k12
  obtain ⟨U, eU, H⟩ := h
  have k6 := hp_sk H (by omega) (by omega) hg
  have hb := aw_okb k12.2.1
  have R := ar_in (k := k + 5) (cd := cd) (nx := nx) (ws := ws) (fn := fn) (tp := tp) (er := er) (fl := fl) (lv := lv) (ee := ee) (co := co) (ca := ca) (cb := cb) (wt := wt) (mv := mv) (wa := wa) (fi := fi) hT ⟨U, eU, H⟩ hg hI k12
  by_cases l0 : v1 < 0
  · exact br_t l0 (br_t l0 ⟨rfl, R⟩)
  · obtain ⟨j, hj, rfl⟩ := nI_of l0
    refine br_f l0 (xl_size k6 (pk_lt j (m * n) (fun l => xl_rav k6 l (br_f l0 (yl_size k12 (pk_le (m * n) j (fun z => absurd z (by omega)) (fun _ => yl_num k12 l ⟨rfl, R⟩))))) (fun l => br_f l0 (yl_size k12 (pk_le (m * n) j (fun _ => ⟨rfl, R⟩) (fun z => absurd z (by omega)))))))
theorem i_vc_digest {k : Nat} {u : SX} {v : SY} (I : i_Rel k u v) (hk : k + 5 ≤ 2560) : wpX_digest (fun r => wpY_digest (fun r' => r' = r ∧ i_Rel (k + 5) u v) v) u := by
  refine ar_el (P := fun u v => wpX_digest (fun r => wpY_digest (fun r' => r' = r ∧ i_Rel (k + 5) u v) v) u) ?_ I
  intro N tk g r m n c cd nx ws fn tp us er fl lv ee tx co ca cb wt rk ro cl sr rs sp hv st mv qk qr qw da wa fi hT h hg hI k12
  obtain ⟨U, eU, H⟩ := h
  have k6 := hp_sk H (by omega) (by omega) hg
  unfold wpX_digest
  refine xl_size k6 ?_
  refine ⟨m * n + 1, ar_dx k6 (m * n) 0 0 (by omega) ?_⟩
  exact Exists.intro (m * n + 1) (ar_dy k12 (m * n) 0 0 (by omega) ⟨rfl, ar_in hT ⟨U, eU, H⟩ hg hI k12⟩)
theorem i_vc_untoken {k : Nat} {u : SX} {v : SY} (I : i_Rel k u v) (hk : k + 5 ≤ 2560) : wpX_untoken (fun r u' => wpY_untoken (fun r' v' => r' = r ∧ i_Rel (k + 5) u' v') v) u := by
  refine ar_el (P := fun u v => wpX_untoken (fun r u' => wpY_untoken (fun r' v' => r' = r ∧ i_Rel (k + 5) u' v') v) u) ?_ I
  intro N tk g r m n c cd nx ws fn tp us er fl lv ee tx co ca cb wt rk ro cl sr rs sp hv st mv qk qr qw da wa fi hT h hg hI k12
  have hN := hT.1
  refine pk_eq N 0 (fun z => ?_) (fun z => ?_)
  · exact br_t (by rw [z]; rfl) ⟨rfl, ar_in hT h hg hI k12⟩
  · obtain ⟨M, rfl⟩ : ∃ M, N = M + 1 := ⟨N - 1, by omega⟩
    have hin : vp_in (nI M) 30 := vp_in_nI (by omega) (by decide)
    refine nm_r (nI_pred M) (And.intro hin (br_f (nI_ne0 (by omega) (by omega)) (nm_r (nI_pred M) (And.intro hin ⟨rfl, ?_⟩))))
    exact ar_in (tk := tk) ⟨by omega, fun i hi => hT.2 i (by omega)⟩ h hg hI k12
theorem i_vc_clear {k : Nat} {u : SX} {v : SY} (I : i_Rel k u v) (hk : k + 5 ≤ 2560) : wpX_clear (fun u' => wpY_clear (fun v' => i_Rel (k + 5) u' v') v) u := by
  refine ar_el (P := fun u v => wpX_clear (fun u' => wpY_clear (fun v' => i_Rel (k + 5) u' v') v) u) ?_ I
  intro N tk g r m n c cd nx ws fn tp us er fl lv ee tx co ca cb wt rk ro cl sr rs sp hv st mv qk qr qw da wa fi hT h hg hI k12
  show i_Rel (k + 5) (nI 0, cd, nx, ws, fn, tp, us, er, fl, tx, co, ca, cb, wt, rk, ro, cl, sr, rs, sp, hv, st, mv) (nI 0, lv, ee, tx, qk, qr, qw, da, wa, fi)
  exact ar_in (N := 0) (tk := tk) ⟨by omega, fun i hi => absurd hi (by omega)⟩ h hg hI k12
theorem i_vc_reads {k : Nat} {u : SX} {v : SY} (I : i_Rel k u v) (hk : k + 5 ≤ 2560) : wpX_reads (fun r u' => wpY_reads (fun r' => r' = r ∧ i_Rel (k + 5) u' v) v) u := by
  refine ar_el (P := fun u v => wpX_reads (fun r u' => wpY_reads (fun r' => r' = r ∧ i_Rel (k + 5) u' v) v) u) ?_ I
  intro N tk g r m n c cd nx ws fn tp us er fl lv ee tx co ca cb wt rk ro cl sr rs sp hv st mv qk qr qw da wa fi hT h hg hI k12
  unfold wpX_reads
  refine xs_all hT ?_ ?_
  · intro cs hcs nx ws fn fl co ca cb wt _ _
    have hF := (cs_fw (N := N) hcs (Nat.le_refl N)).1
    refine And.intro rfl ?_
    unfold wpY_reads
    exact ys_stat hT (fun _ => And.intro rfl ⟨rfl, ar_in hT h hg hI k12⟩) (fun q => absurd hF q)
  · intro hF cd nx ws fn fl co ca cb wt
    refine And.intro rfl ?_
    unfold wpY_reads
    exact ys_stat hT (fun q => absurd q hF) (fun _ => And.intro rfl ⟨rfl, ar_in hT h hg hI k12⟩)
theorem i_vc_run {k : Nat} {u : SX} {v : SY} (I : i_Rel k u v) (hk : k + 5 ≤ 2560) : wpX_run (fun r u' => wpY_run (fun r' v' => r' = r ∧ i_Rel (k + 5) u' v') v) u := by
  refine ar_el (P := fun u v => wpX_run (fun r u' => wpY_run (fun r' v' => r' = r ∧ i_Rel (k + 5) u' v') v) u) ?_ I
  intro N tk g r m n c cd nx ws fn tp us er fl lv ee tx co ca cb wt rk ro cl sr rs sp hv st mv qk qr qw da wa fi hT h hg hI k12
  refine xr_run hT h ?_ ?_
  · intro hF cd nx ws fn fl co ca cb wt
    exact yr_run0 hT hF ⟨rfl, ar_in hT h hg hI k12⟩
  · intro cs hcs
    refine ⟨fun nm' V ev g' hg1 hg2 => ?_, fun he g' hg1 => ?_⟩
    · intro cd nx ws fn us er fl co ca cb wt rk ro cl sr rs sp hv st mv h'
      obtain ⟨r', m', n', c'⟩ := V
      refine yr_run1 (V0 := (r, m, n, c)) hT hcs hI k12 (fun nm2 V2 ev2 => ?_) (fun he => absurd (by rw [ev]) he)
      rw [ev] at ev2
      cases ev2
      intro lv ee qk qr qw da wa fi I2 k2
      refine ⟨?_, ar_in (g := g') hT h' hg2 (fun i hi => by rw [hg1 i hi]; exact I2 i hi) k2⟩
      obtain ⟨U, eU, H⟩ := h'
      have k6 := hp_sk H (by omega) (by omega) hg2
      rw [if_pos rfl, if_pos rfl]
      exact k6.2.2.2.1.symm
    · intro cd nx ws fn us er fl co ca cb wt rk ro cl sr rs sp hv st mv h'
      refine yr_run1 (V0 := (r, m, n, c)) hT hcs hI k12 (fun nm2 V2 ev2 => absurd (by rw [ev2]) he) (fun _ => ?_)
      intro lv ee qk qr qw da wa fi I2 k2
      refine ⟨?_, ar_in (g := g') hT h' ((hg1 6 (by omega)).trans hg) (fun i hi => by rw [hg1 i (by omega)]; exact I2 i hi) k2⟩
      rw [if_neg he, if_neg he]
end
end
section
/-! 51: keep, show, forget, put -/
section
variable {k : Nat} {u : SX} {v : SY}
/-- names, by the index -/
theorem ar_bn {post : Int32 → Prop} {p : Int32} {cn cd nx ws fn tp us er fl : Int32} {tx co ca cb wt rk ro cl sr rs sp hv st mv : Nat → Int32} (K1 : (p < 0 ∨ nI 6 ≤ p) → post 1) (K0 : ∀ j, j < 6 → p = nI j → post 0) : wpX_badName post (cn, cd, nx, ws, fn, tp, us, er, fl, tx, co, ca, cb, wt, rk, ro, cl, sr, rs, sp, hv, st, mv) p := by
  rcases pk_ix p (n := 6) (by decide) with h | h | ⟨j, hj, rfl⟩
  · exact br_t h (K1 (Or.inl h))
  · have h0 : ¬ p < 0 := fun z => by
      have := Int32.lt_of_lt_of_le z (Int32.le_trans (show (0 : Int32) ≤ nI 6 by decide) h)
      exact Int32.lt_irrefl this
    exact br_f h0 (br_f (Int32.not_lt.mpr h) (K1 (Or.inr h)))
  · exact br_f (nI_pos (by omega)) (br_t (nI_lt (b := 6) hj (by decide)) (K0 j hj rfl))
theorem ar_in6 {post : Int32 → Prop} {p : Int32} {cn lv ee : Int32} {tx qk qr qw da wa fi : Nat → Int32} (K1 : (p < 0 ∨ nI 6 ≤ p) → post 0) (K0 : ∀ j, j < 6 → p = nI j → post 1) : wpY_isName post (cn, lv, ee, tx, qk, qr, qw, da, wa, fi) p := by
  rcases pk_ix p (n := 6) (by decide) with h | h | ⟨j, hj, rfl⟩
  · exact br_t h (K1 (Or.inl h))
  · have h0 : ¬ p < 0 := fun z => by
      have := Int32.lt_of_lt_of_le z (Int32.le_trans (show (0 : Int32) ≤ nI 6 by decide) h)
      exact Int32.lt_irrefl this
    have h5 : (5 : Int32) < p := Int32.lt_of_lt_of_le (show (5 : Int32) < nI 6 by decide) h
    exact br_f h0 (br_t h5 (K1 (Or.inr h)))
  · exact br_f (nI_pos (by omega)) (br_f (nI_nlt (a := 5) (by omega) (by decide)) (K0 j hj rfl))
theorem ar_no {p : Int32} {j : Nat} (h : p < 0 ∨ nI 6 ≤ p) (hj : j < 6) (e : p = nI j) : False := by
  subst e
  rcases h with h | h
  · exact nI_pos (by omega) h
  · exact nI_ge hj (by decide) h
theorem i_vc_keep {k : Nat} {u : SX} {v : SY} (I : i_Rel k u v) (hk : k + 5 ≤ 2560) (v1 : Int32) : wpX_keep (fun r u' => wpY_keep (fun r' v' => r' = r ∧ i_Rel (k + 5) u' v') v v1) u v1 := by
  refine ar_el (P := fun u v => wpX_keep (fun r u' => wpY_keep (fun r' v' => r' = r ∧ i_Rel (k + 5) u' v') v v1) u v1) ?_ I
  intro N tk g r m n c cd nx ws fn tp us er fl lv ee tx co ca cb wt rk ro cl sr rs sp hv st mv qk qr qw da wa fi hT h hg hI k12
  obtain ⟨U, eU, H⟩ := h
  unfold wpX_keep
  refine ar_bn (fun hb => ?_) (fun j hj e => ?_)
  · refine br_f (by decide) ?_
    unfold wpY_keep
    exact ar_in6 (fun _ => br_t rfl ⟨rfl, ar_in hT ⟨U, eU, H⟩ hg hI k12⟩) (fun j hj e => (ar_no hb hj e).elim)
  · subst e
    refine br_t rfl ?_
    refine xl_share (f := 6) (t := j) (by decide) (by omega) ?_
    unfold wpY_keep
    refine ar_in6 (fun hb => (ar_no hb hj rfl).elim) (fun _ _ _ => br_f (by decide) ?_)
    refine yn_cpK (V := (r, m, n, c)) (a := 12) (b := j) (by omega) (by omega) k12 (fun qk' qr' qw' da' F k2 => ⟨rfl, ?_⟩)
    refine ar_in (g := aw_gs g j (r, m, n, c)) (V := (r, m, n, c)) hT ⟨U, eU, hp_share (T' := 13) H (by omega) hg (fun a ha _ => ha)⟩ (by rw [aw_gsn (by omega)]; exact hg) (fun i hi => ?_) (fr_K F (V := (r, m, n, c)) k12 (by omega))
    by_cases z : i = j
    · subst z
      rw [aw_gss]
      exact ⟨fun e => (nomatch e), fun W e => by cases e; exact k2⟩
    · rw [aw_gsn z]; exact fr_N F (hI i hi) z
theorem i_vc_show {k : Nat} {u : SX} {v : SY} (I : i_Rel k u v) (hk : k + 5 ≤ 2560) (v1 : Int32) : wpX_show (fun r u' => wpY_show (fun r' v' => r' = r ∧ i_Rel (k + 5) u' v') v v1) u v1 := by
  refine ar_el (P := fun u v => wpX_show (fun r u' => wpY_show (fun r' v' => r' = r ∧ i_Rel (k + 5) u' v') v v1) u v1) ?_ I
  intro N tk g r m n c cd nx ws fn tp us er fl lv ee tx co ca cb wt rk ro cl sr rs sp hv st mv qk qr qw da wa fi hT h hg hI k12
  obtain ⟨U, eU, H⟩ := h
  unfold wpX_show
  refine ar_bn (fun hb => ?_) (fun j hj e => ?_)
  · refine br_f (by decide) ?_
    unfold wpY_show
    exact ar_in6 (fun _ => br_t rfl ⟨rfl, ar_in hT ⟨U, eU, H⟩ hg hI k12⟩) (fun j hj e => (ar_no hb hj e).elim)
  · subst e
    have eh : hv (nI j).toNatClampNeg = hv j := by rw [nI_clamp (by omega)]
    have eq : qk (nI j).toNatClampNeg = qk j := by rw [nI_clamp (by omega)]
    refine br_t rfl (And.intro (vp_in_nI (by omega) (by decide)) ?_)
    rw [eh]
    cases hgj : g j with
    | none =>
      refine br_t (hp_none H (by omega) hgj) ?_
      unfold wpY_show
      refine ar_in6 (fun hb => (ar_no hb hj rfl).elim) (fun _ _ _ => br_f (by decide) (And.intro (vp_in_nI (by omega) (by decide)) ?_))
      rw [eq]
      exact br_f (by rw [(hI j hj).1 hgj]; decide) ⟨rfl, ar_in hT ⟨U, eU, H⟩ hg hI k12⟩
    | some W =>
      obtain ⟨r', m', n', c'⟩ := W
      have kj := (hI j hj).2 _ hgj
      have kx := hp_sk H (by omega) (by omega) hgj
      have hb := aw_okb kx.2.2.1
      refine br_f (hp_hv H (by omega) hgj) ?_
      refine xl_share (f := j) (t := 6) (by omega) (by decide) ?_
      unfold wpY_show
      refine ar_in6 (fun hb => (ar_no hb hj rfl).elim) (fun _ _ _ => br_f (by decide) (And.intro (vp_in_nI (by omega) (by decide)) ?_))
      rw [eq]
      refine br_t (by rw [kj.2.2.1]; exact nI_pos' (by show r' < 2 ^ 31; omega)) ?_
      refine yn_cpK (V := (r', m', n', c')) (a := j) (b := 12) (by omega) (by omega) kj (fun qk' qr' qw' da' F k2 => And.intro (vp_in_nI (by omega) (by decide)) ⟨?_, ?_⟩)
      · show qk' (nI j).toNatClampNeg = upd rk 6 (rk j) 6
        rw [nI_clamp (by omega), pk_us, (F j (by omega)).1, kj.2.2.1]
        exact kx.2.2.2.1.symm
      · refine ar_in (g := aw_gs g 6 (r', m', n', c')) (V := (r', m', n', c')) hT ⟨U, eU, hp_share (T' := 13) H (by omega) hgj (fun a ha _ => ha)⟩ aw_gss (fun i hi => ?_) k2
        rw [aw_gsn (by omega)]; exact fr_N F (hI i hi) (by omega)
theorem i_vc_forget {k : Nat} {u : SX} {v : SY} (I : i_Rel k u v) (hk : k + 5 ≤ 2560) (v1 : Int32) : wpX_forget (fun r u' => wpY_forget (fun r' v' => r' = r ∧ i_Rel (k + 5) u' v') v v1) u v1 := by
  refine ar_el (P := fun u v => wpX_forget (fun r u' => wpY_forget (fun r' v' => r' = r ∧ i_Rel (k + 5) u' v') v v1) u v1) ?_ I
  intro N tk g r m n c cd nx ws fn tp us er fl lv ee tx co ca cb wt rk ro cl sr rs sp hv st mv qk qr qw da wa fi hT h hg hI k12
  obtain ⟨U, eU, H⟩ := h
  unfold wpX_forget
  refine ar_bn (fun hb => ?_) (fun j hj e => ?_)
  · refine br_f (by decide) ?_
    unfold wpY_forget
    exact ar_in6 (fun _ => br_t rfl ⟨rfl, ar_in hT ⟨U, eU, H⟩ hg hI k12⟩) (fun j hj e => (ar_no hb hj e).elim)
  · subst e
    have eh : hv (nI j).toNatClampNeg = hv j := by rw [nI_clamp (by omega)]
    have eq : qk (nI j).toNatClampNeg = qk j := by rw [nI_clamp (by omega)]
    -- the states behind it
    have R : ∀ cdx nxx wsx fnx tpx erx flx, i_Rel (k + 5) (nI N, cdx, nxx, wsx, fnx, tpx, us, erx, flx, tx, co, ca, cb, wt, rk, ro, cl, sr, rs, sp, upd hv j 0, st, mv) (nI N, lv, ee, tx, upd qk j (-1), qr, qw, da, wa, fi) := by
      intro cdx nxx wsx fnx tpx erx flx
      refine ar_in (g := fun a => if a = j then none else g a) (V := (r, m, n, c)) hT ⟨U, eU, H.1, fun a ha => ?_⟩ (by show (if 6 = j then none else g 6) = _; rw [if_neg (by omega)]; exact hg) (fun i hi => ?_) ⟨k12.1, k12.2.1, by rw [pk_un (by omega)]; exact k12.2.2.1, k12.2.2.2⟩
      · by_cases z : a = j
        · subst z
          show ((if a = a then none else g a) = none → _) ∧ _
          rw [if_pos rfl, pk_us]
          exact ⟨fun _ => rfl, fun r m n c e => by have e' : (if a = a then none else g a) = some (r, m, n, c) := e; rw [if_pos rfl] at e'; cases e'⟩
        · show ((if a = j then none else g a) = none → _) ∧ ∀ r m n c, (if a = j then none else g a) = some (r, m, n, c) → _
          rw [if_neg z, pk_un z]
          exact H.2 a ha
      · show yn_N (upd qk j (-1)) qr qw da i (if i = j then none else g i)
        by_cases z : i = j
        · subst z
          rw [if_pos rfl]
          exact ⟨fun _ => pk_us, fun V e => (nomatch e)⟩
        · rw [if_neg z]
          exact fr_N (X := fun p => p = j) (fun p hp => ⟨pk_un hp, rfl, rfl, fun _ _ => rfl⟩) (hI i hi) z
    refine br_t rfl (And.intro (vp_in_nI (by omega) (by decide)) ?_)
    rw [eh]
    have hin : vp_in (nI j) 48 := vp_in_nI (by omega) (by decide)
    have hin5 : vp_in (nI j) 50 := vp_in_nI (by omega) (by decide)
    cases hgj : g j with
    | none =>
      refine br_t (hp_none H (by omega) hgj) (And.intro hin (nm_r (xl_uc (by omega) aw_nb0) ?_))
      unfold wpY_forget
      refine ar_in6 (fun hb => (ar_no hb hj rfl).elim) (fun _ _ _ => br_f (by decide) (And.intro hin5 ?_))
      rw [eq]
      exact br_f (by rw [(hI j hj).1 hgj]; decide) (And.intro hin5 (nm_r (xl_uc (by omega) rfl) ⟨rfl, R _ _ _ _ _ _ _⟩))
    | some W =>
      obtain ⟨r', m', n', c'⟩ := W
      have kj := (hI j hj).2 _ hgj
      have hb := aw_okb kj.2.1
      refine br_f (hp_hv H (by omega) hgj) (And.intro hin (nm_r (xl_uc (by omega) aw_nb0) ?_))
      unfold wpY_forget
      refine ar_in6 (fun hb => (ar_no hb hj rfl).elim) (fun _ _ _ => br_f (by decide) (And.intro hin5 ?_))
      rw [eq]
      have hr : r' ≤ 2 := hb.1
      exact br_t (by rw [kj.2.2.1]; exact nI_pos' (by show r' < 2 ^ 31; omega)) (And.intro hin5 (nm_r (xl_uc (by omega) rfl) ⟨rfl, R _ _ _ _ _ _ _⟩))
end
end
section
/-! 52: put; the constructors -/
section
variable {k : Nat} {u : SX} {v : SY}
theorem i_vc_put {k : Nat} {u : SX} {v : SY} (I : i_Rel k u v) (hk : k + 5 ≤ 2560) (v1 : Int32) (v2 : Int32) : wpX_put (fun r u' => wpY_put (fun r' v' => r' = r ∧ i_Rel (k + 5) u' v') v v1 v2) u v1 v2 := by
  refine ar_el (P := fun u v => wpX_put (fun r u' => wpY_put (fun r' v' => r' = r ∧ i_Rel (k + 5) u' v') v v1 v2) u v1 v2) ?_ I
  intro N tk g r m n c cd nx ws fn tp us er fl lv ee tx co ca cb wt rk ro cl sr rs sp hv st mv qk qr qw da wa fi hT h hg hI k12
  have H0 := h
  obtain ⟨U, eU, H⟩ := h
  have k6 := hp_sk H (by omega) (by omega) hg
  have hb := aw_okb k12.2.1
  have R := ar_in (k := k + 5) (cd := cd) (nx := nx) (ws := ws) (fn := fn) (tp := tp) (er := er) (fl := fl) (lv := lv) (ee := ee) (co := co) (ca := ca) (cb := cb) (wt := wt) (mv := mv) (wa := wa) (fi := fi) hT H0 hg hI k12
  unfold wpX_put
  refine xl_size k6 ?_
  by_cases l0 : v1 < 0
  · exact br_t l0 (br_t l0 ⟨rfl, R⟩)
  obtain ⟨i, hi, rfl⟩ := nI_of l0
  refine br_f l0 (pk_lt i (m * n) (fun l => ?_) (fun l => ?_))
  · refine xl_make (T := 13) H0 (by omega) (by omega) k12.2.1 ?_ rfl k6.2.2.2.1 k6.2.2.2.2.1 k6.2.2.2.2.2.1
    intro s us rk ro cl sr rs sp hv st mv M
    have hs := mk_room M
    refine xl_fill0 (fun n1 k st => wX_put_57 (fun r u' => wpY_put (fun r' v' => r' = r ∧ i_Rel (_ + 5) u' v') (nI N, lv, ee, tx, qk, qr, qw, da, wa, fi) (nI i) v2) (nI i) v2 (nI (m * n)) (nI N) cd nx ws fn 13 us er fl n1 (nI k) tx co ca cb wt rk ro cl sr rs sp hv st mv) (m * n) c (mk_hp M) ?_ ?_
    · intro n1 st' H1 hc
      refine br_t (nI_le (Nat.le_refl _) (by omega)) ?_
      refine xl_share (f := 13) (t := 6) (by decide) (by decide) ?_ rfl rfl
      have es : upd sr 6 (sr 13) 6 = nI s := pk_us.trans (mk_top M)
      have eE : upd sr 6 (sr 13) 6 + nI i = nI (s + i) := by rw [es, nI_add]
      have hin : vp_in (upd sr 6 (sr 13) 6 + nI i) 1800 := pk_in (s + i) 1800 (by omega) eE
      refine And.intro hin (nm_r (e' := c i) (by rw [eE, nI_clamp (by omega)]; exact hc i l) (And.intro hin (nm_r (e' := upd st' (s + i) v2) (by rw [eE, nI_clamp (by omega)]) ?_)))
      -- the reference
      refine br_f l0 (yl_size k12 (pk_lt i (m * n) (fun _ => yl_num k12 l ?_) (fun z => absurd z (by omega))))
      have e432 : 432 + nI i = nI (432 + i) := nI_add 432 i
      refine And.intro (pk_in (432 + i) 1800 (by omega) e432) (nm_r (e' := upd da (432 + i) v2) (by rw [e432, nI_clamp (by omega)]) ⟨rfl, ?_⟩)
      have F : yn_fr (fun p => p = 12) qk qr qw da qk qr qw (upd da (432 + i) v2) := by
        intro p hp
        have hp' : p ≠ 12 := hp
        exact ⟨rfl, rfl, rfl, fun k hk => pk_un (by omega)⟩
      obtain ⟨_, a1, a2, a3, a4, a5, a6, a7, a8, a9, a10⟩ := M
      have HH := hp_more (hp_upd (v := v2) H1 (Nat.le_add_right s i)) (Nat.le_add_right s (m * n)) hs
      refine ar_in (g := aw_gs g 6 (r, m, n, fun k => if k = i then v2 else c k)) (V := (r, m, n, fun k => if k = i then v2 else c k)) hT ⟨s + m * n, a2, hp_put (T' := 13) HH (fun a ha _ => ha) (fun a _ z => ⟨pk_un z, pk_un z, pk_un z, pk_un z, pk_un z, pk_un z, pk_un z⟩) (by rw [pk_us]; decide) k12.2.1 ⟨pk_us.trans a4, pk_us.trans a5, pk_us.trans a6, fun i1 j1 h1 h2 => ?_⟩⟩ aw_gss (fun a ha => ?_) ?_
      · have hij := aw_ij h1 h2
        refine ⟨s + (i1 * n + j1), by omega, ?_, ?_⟩
        · rw [pk_us, pk_us, pk_us, a7, a8, a9, pk_mul, nI_add, Int32.mul_one, nI_add, Nat.add_assoc]
        · show upd st' (s + i) v2 (s + (i1 * n + j1)) = if i1 * n + j1 = i then v2 else c (i1 * n + j1)
          by_cases z : i1 * n + j1 = i
          · rw [if_pos z, z, pk_us]
          · rw [if_neg z, pk_un (by omega)]; exact hc _ hij
      · rw [aw_gsn (by omega)]; exact fr_N F (hI a ha) (by omega)
      · refine ⟨k12.1, k12.2.1, k12.2.2.1, k12.2.2.2.1, k12.2.2.2.2.1, fun q hq => ?_⟩
        have hq' : q < m * n := hq
        show upd da (432 + i) v2 (36 * 12 + q) = if q = i then v2 else c q
        by_cases z : q = i
        · rw [if_pos z, z]; exact pk_us
        · rw [if_neg z, pk_un (by omega)]; exact k12.2.2.2.2.2 q hq'
    · intro n1 k st' hk H1 ih
      have E : sr (13 : Int32).toNatClampNeg + nI k = nI (s + k) := by
        have e13 : (13 : Int32).toNatClampNeg = 13 := by decide
        rw [e13, mk_top M, nI_add]
      exact br_f (nI_ge hk (by omega)) (And.intro (vp_in_nI (n := 13) (by decide) (by decide)) (xl_rav (hp_sk H1 (by omega) (by omega) hg) hk (xl_tail E (by omega) rfl ih)))
  · refine br_f l0 (yl_size k12 (pk_lt i (m * n) (fun z => absurd z (by omega)) (fun _ => ⟨rfl, R⟩)))
theorem i_vc0 : wpX_init (fun u => wpY_init (fun v => i_Rel 0 u v)) := by
  have hin : vp_in (6 : Int32) 48 := vp_in_nI (n := 6) (by decide) (by decide)
  have e6 : (6 : Int32).toNatClampNeg = 6 := by decide
  unfold wpX_init wpX_makeScalar wpX_make
  refine And.intro hin (nm_e (And.intro hin (nm_e (And.intro hin (nm_e (And.intro hin (nm_e (And.intro hin (nm_e (And.intro hin (nm_e (br_t (by decide) (And.intro hin (nm_e (nm_e (And.intro hin ?_))))))))))))))))
  rw [e6]
  refine And.intro (vp_in_nI (n := 0) (by decide) (by decide)) (nm_e ?_)
  -- the reference
  refine Exists.elim (loop_0 (fun n1 i qk => wY_init_63 (fun v => i_Rel 0 (0, 0, 0, 0, 0, 13, 0 + 1 * 1, 0, 0, (fun _ => 0), (fun _ => 0), (fun _ => 0), (fun _ => 0), (fun _ => 0), upd (fun _ => 0) 6 0, upd (fun _ => 0) 6 1, upd (fun _ => 0) 6 1, upd (fun _ => 0) 6 0, upd (fun _ => 0) 6 1, upd (fun _ => 0) 6 1, upd (fun _ => 0) 6 (vp_nar .boolean 1), upd (fun _ => 0) (upd (fun _ => 0) 6 0 6).toNatClampNeg 0, (fun _ => 0)) v) 0 0 0 n1 (nI i) (fun _ => 0) qk (fun _ => 0) (fun _ => 0) (fun _ => 0) (fun _ => 0) (fun _ => 0)) (fun i qk => ∀ j, j < i → qk j = -1) 12 (fun _ => 0) (fun j hj => absurd hj (by omega)) ?_ ?_) (fun n63 W => Exists.intro n63 W)
  · intro n1 qk J
    refine br_t (by decide) ?_
    refine yl_shape (p := 12) (r := 0) (v2 := 1) (v3 := 1) (by decide) (by decide) (fun _ => rfl) (fun z => absurd rfl z) (fun _ => rfl) (fun z => absurd z (by decide)) ?_
    refine ar_in (N := 0) (tk := fun _ => 0) (g := fun a => if a = 6 then some (0, 1, 1, fun _ => 0) else none) (V := (0, 1, 1, fun _ => 0)) ⟨by decide, fun i hi => absurd hi (by omega)⟩ ⟨1, rfl, by decide, fun a ha => ?_⟩ (if_pos rfl) (fun i hi => ?_) ⟨by decide, aw_ok0, pk_us, pk_us, pk_us, fun q _ => rfl⟩
    · dsimp only
      by_cases z : a = 6
      · subst z
        rw [if_pos rfl]
        refine ⟨fun e => (nomatch e), fun r m n c e => ?_⟩
        cases e
        refine ⟨by rw [pk_us]; decide, aw_ok0, pk_us, pk_us, pk_us, fun i j hi hj => ⟨0, by decide, ?_, ?_⟩⟩
        · have ei : i = 0 := by omega
          have ej : j = 0 := by omega
          subst ei ej
          show (0 : Int32) + nI 0 * 1 + nI 0 * 1 = nI 0
          decide
        · show (if 0 = _ then (0 : Int32) else 0) = 0
          split <;> rfl
      · rw [if_neg z, pk_un z]
        exact ⟨fun _ => rfl, fun r m n c e => (nomatch e)⟩
    · show yn_N (upd qk 12 0) (upd (fun _ => 0) 12 1) (upd (fun _ => 0) 12 1) (fun _ => 0) i (if i = 6 then some (0, 1, 1, fun _ => 0) else none)
      rw [if_neg (by omega)]
      exact ⟨fun _ => (pk_un (by omega)).trans (J i (by omega)), fun V e => (nomatch e)⟩
  · intro n1 i qk hi J ih
    refine br_f (nI_ge (b := 12) hi (by decide)) (And.intro (vp_in_nI (by omega) (by decide)) (nm_r (xl_uc (by omega) rfl) (nm_r (nI_1 i) (ih _ (fun j hj => ?_)))))
    by_cases z : j = i
    · subst z; exact pk_us
    · rw [pk_un z]; exact J j (by omega)
end
end
section
/-! 53: tokens -/
def sy_v (v : Int32) : Prop := ∃ t, v = nI t ∧ sy_ok t
def ar_tb (v : Int32) : Prop := ¬ v = -1 ∧ ¬ sy_v v
theorem sy_vn {v : Int32} (h : v < 0) : ¬ sy_v v := by
  rintro ⟨t, rfl, ht⟩
  have := sy_okb ht
  exact nI_pos (by omega) h
theorem sy_vt {t : Nat} (ht : t < 2 ^ 31) : sy_v (nI t) ↔ sy_ok t := by
  refine ⟨fun h => ?_, fun h => ⟨t, rfl, h⟩⟩
  obtain ⟨t', e, h'⟩ := h
  have := sy_okb h'
  have e2 := (nI_eq ht (by omega)).mp e
  subst e2; exact h'
section
variable {cn cd nx ws fn tp us er fl lv ee : Int32} {tx co ca cb wt rk ro cl sr rs sp hv st mv qk qr qw da wa fi : Nat → Int32}
theorem xt_75 {post : Int32 → Prop} {x2 x3 z0 : Int32} (K : post (if x2 = 0 ∧ x3 = 0 ∧ z0 = 0 then 1 else 0)) : wX_badToken_75 post x2 x3 z0 cn cd nx ws fn tp us er fl tx co ca cb wt rk ro cl sr rs sp hv st mv := by
  by_cases h1 : x2 = 0
  · by_cases h2 : x3 = 0
    · by_cases h3 : z0 = 0
      · rw [if_pos ⟨h1, h2, h3⟩] at K; exact br_t h1 (br_t h2 (br_t h3 K))
      · rw [if_neg (fun q => h3 q.2.2)] at K; exact br_t h1 (br_t h2 (br_f h3 K))
    · rw [if_neg (fun q => h2 q.2.1)] at K; exact br_t h1 (br_f h2 K)
  · rw [if_neg (fun q => h1 q.1)] at K; exact br_f h1 K
theorem xt_neg {post : Int32 → Prop} {v : Int32} (h : v < 0) (K : post 1) : wpX_badToken post (cn, cd, nx, ws, fn, tp, us, er, fl, tx, co, ca, cb, wt, rk, ro, cl, sr, rs, sp, hv, st, mv) v := by
  have l : ∀ w : Int32, 0 ≤ w → v < w := fun w hw => Int32.lt_of_lt_of_le h hw
  exact br_t h (br_t (l 20 (by decide)) (br_t (l 30 (by decide)) (br_t (l 40 (by decide)) (br_t (l 50 (by decide)) (xt_75 K)))))
theorem xt_bt {post : Int32 → Prop} {v : Int32} (K0 : sy_v v → post 0) (K1 : ¬ sy_v v → post 1) : wpX_badToken post (cn, cd, nx, ws, fn, tp, us, er, fl, tx, co, ca, cb, wt, rk, ro, cl, sr, rs, sp, hv, st, mv) v := by
  by_cases h : v < 0
  · exact xt_neg h (K1 (sy_vn h))
  obtain ⟨t, ht, rfl⟩ := nI_of h
  rw [sy_vt ht] at K0 K1
  -- by the ranges, from the last one
  have w58 : ∀ x2 x3 : Int32, (¬ (x2 = 0 ∧ x3 = 0) → sy_ok t) → ((x2 = 0 ∧ x3 = 0) → (sy_ok t → 50 ≤ t ∧ t ≤ 52)) → wX_badToken_58 post (nI t) x2 x3 cn cd nx ws fn tp us er fl tx co ca cb wt rk ro cl sr rs sp hv st mv := by
    intro x2 x3 h1 h2
    have no : ¬ (50 ≤ t ∧ t ≤ 52) → wX_badToken_74 post x2 x3 cn cd nx ws fn tp us er fl tx co ca cb wt rk ro cl sr rs sp hv st mv := by
      intro n
      refine xt_75 ?_
      by_cases z : x2 = 0 ∧ x3 = 0
      · rw [if_pos ⟨z.1, z.2, rfl⟩]; exact K1 (fun q => n (h2 z q))
      · rw [if_neg (fun q => z ⟨q.1, q.2.1⟩)]; exact K0 (h1 z)
    refine pk_lt t 50 (fun l => no (by omega)) (fun l => pk_lt 52 t (fun l2 => no (by omega)) (fun l2 => ?_))
    refine xt_75 ?_
    rw [if_neg (fun q => absurd q.2.2 (by decide))]
    exact K0 (by unfold sy_ok; omega)
  have w45 : ∀ x2 z0 : Int32, (¬ (x2 = 0 ∧ z0 = 0) → sy_ok t) → ((x2 = 0 ∧ z0 = 0) → (sy_ok t → 40 ≤ t)) → wX_badToken_45 post (nI t) x2 z0 cn cd nx ws fn tp us er fl tx co ca cb wt rk ro cl sr rs sp hv st mv := by
    intro x2 z0 h1 h2
    refine pk_lt t 40 (fun l => w58 x2 z0 h1 (fun q q2 => absurd (h2 q q2) (by omega))) (fun l => pk_le t 43 (fun l2 => ?_) (fun l2 => w58 x2 z0 h1 (fun _ q2 => by unfold sy_ok at q2; omega)))
    refine xt_75 ?_
    rw [if_neg (fun q => absurd q.2.2 (by decide))]
    exact K0 (by unfold sy_ok; omega)
  have w28 : ∀ x2 : Int32, (¬ x2 = 0 → sy_ok t) → (x2 = 0 → (sy_ok t → 30 ≤ t)) → wX_badToken_28 post (nI t) x2 cn cd nx ws fn tp us er fl tx co ca cb wt rk ro cl sr rs sp hv st mv := by
    intro x2 h1 h2
    have no : ¬ (30 ≤ t ∧ t ≤ 38) → wX_badToken_44 post (nI t) x2 cn cd nx ws fn tp us er fl tx co ca cb wt rk ro cl sr rs sp hv st mv := by
      intro n
      refine w45 x2 0 (fun q => h1 (fun e => q ⟨e, rfl⟩)) (fun q q2 => ?_)
      have := h2 q.1 q2
      unfold sy_ok at q2; omega
    refine pk_lt t 30 (fun l => no (by omega)) (fun l => pk_lt 38 t (fun l2 => no (by omega)) (fun l2 => ?_))
    exact w45 x2 1 (fun _ => by unfold sy_ok; omega) (fun q => absurd q.2 (by decide))
  have w15 : ∀ z0 : Int32, (¬ z0 = 0 → sy_ok t) → (z0 = 0 → (sy_ok t → 20 ≤ t)) → wX_badToken_15 post (nI t) z0 cn cd nx ws fn tp us er fl tx co ca cb wt rk ro cl sr rs sp hv st mv := by
    intro z0 h1 h2
    refine pk_lt t 20 (fun l => w28 z0 h1 (fun q q2 => absurd (h2 q q2) (by omega))) (fun l => pk_le t 27 (fun l2 => ?_) (fun l2 => w28 z0 h1 (fun _ q2 => by unfold sy_ok at q2; omega)))
    exact w45 z0 1 (fun _ => by unfold sy_ok; omega) (fun q => absurd q.2 (by decide))
  refine br_f h (pk_lt 15 t (fun l => ?_) (fun l => ?_))
  · exact w15 0 (fun q => absurd rfl q) (fun _ q2 => by unfold sy_ok at q2; omega)
  · exact w15 1 (fun _ => by unfold sy_ok; omega) (fun q => absurd q (by decide))
theorem xt_bp {post : Int32 → Prop} {v : Int32} (K0 : ¬ ar_tb v → post 0) (K1 : ar_tb v → post 1) : wpX_badPart post (cn, cd, nx, ws, fn, tp, us, er, fl, tx, co, ca, cb, wt, rk, ro, cl, sr, rs, sp, hv, st, mv) v := by
  by_cases h : v = -1
  · exact br_t h (K0 (fun q => q.1 h))
  · exact br_f h (xt_bt (fun q => br_t rfl (K0 (fun w => w.2 q))) (fun q => br_f (by decide) (K1 ⟨h, q⟩)))
theorem yt_tok {post : Int32 → Prop} {v : Int32} (K1 : sy_v v → post 1) (K0 : ¬ sy_v v → post 0) : wpY_isToken post (cn, lv, ee, tx, qk, qr, qw, da, wa, fi) v := by
  by_cases h : v < 0
  · have l : ∀ w : Int32, 0 ≤ w → v < w := fun w hw => Int32.lt_of_lt_of_le h hw
    exact br_t h (br_t (l 20 (by decide)) (br_t (l 30 (by decide)) (br_t (l 40 (by decide)) (br_t (l 50 (by decide)) (K0 (sy_vn h))))))
  obtain ⟨t, ht, rfl⟩ := nI_of h
  rw [sy_vt ht] at K0 K1
  have w46 : (sy_ok t → 50 ≤ t) → wY_isToken_46 post (nI t) cn lv ee tx qk qr qw da wa fi := fun q => pk_lt t 50 (fun l => K0 (fun q2 => absurd (q q2) (by omega))) (fun l => pk_lt 52 t (fun l2 => K0 (fun q2 => by unfold sy_ok at q2; omega)) (fun l2 => K1 (by unfold sy_ok; omega)))
  have w34 : (sy_ok t → 40 ≤ t) → wY_isToken_34 post (nI t) cn lv ee tx qk qr qw da wa fi := fun q => pk_lt t 40 (fun l => w46 (fun q2 => absurd (q q2) (by omega))) (fun l => pk_le t 43 (fun l2 => K1 (by unfold sy_ok; omega)) (fun l2 => w46 (fun q2 => by unfold sy_ok at q2; omega)))
  have w22 : (sy_ok t → 30 ≤ t) → wY_isToken_22 post (nI t) cn lv ee tx qk qr qw da wa fi := fun q => pk_lt t 30 (fun l => w34 (fun q2 => absurd (q q2) (by omega))) (fun l => pk_le t 38 (fun l2 => K1 (by unfold sy_ok; omega)) (fun l2 => w34 (fun q2 => by unfold sy_ok at q2; omega)))
  have w10 : (sy_ok t → 20 ≤ t) → wY_isToken_10 post (nI t) cn lv ee tx qk qr qw da wa fi := fun q => pk_lt t 20 (fun l => w22 (fun q2 => absurd (q q2) (by omega))) (fun l => pk_le t 27 (fun l2 => K1 (by unfold sy_ok; omega)) (fun l2 => w22 (fun q2 => by unfold sy_ok at q2; omega)))
  exact br_f h (pk_le t 15 (fun l => K1 (by unfold sy_ok; omega)) (fun l => w10 (fun q2 => by unfold sy_ok at q2; omega)))
/-! appending -/
def ar_m (v : Int32) : Nat := if v = -1 then 0 else 1
def ar_t (tx : Nat → Int32) (N : Nat) (v : Int32) : Nat → Int32 := if v = -1 then tx else upd tx N v
theorem ar_ts {tk : Nat → Nat} {N : Nat} {v : Int32} (hT : sy_T tx N tk) (hv : ¬ ar_tb v) (hN : N + ar_m v ≤ 30) : ∃ tk', sy_T (ar_t tx N v) (N + ar_m v) tk' := by
  unfold ar_t ar_m at *
  by_cases z : v = -1
  · rw [if_pos z]
    rw [if_pos z] at hN ⊢
    exact ⟨tk, hT⟩
  · rw [if_neg z]
    rw [if_neg z] at hN ⊢
    have hs : sy_v v := by
      by_cases w : sy_v v
      · exact w
      · exact absurd ⟨z, w⟩ hv
    obtain ⟨t, et, ht⟩ := hs
    refine ⟨fun i => if i = N then t else tk i, hN, fun i hi => ?_⟩
    dsimp only
    by_cases e : i = N
    · subst e
      rw [pk_us, if_pos rfl]
      exact ⟨et, ht⟩
    · rw [pk_un e, if_neg e]
      exact hT.2 i (by omega)
theorem xt_app {post : SX → Prop} {N : Nat} {v : Int32} (hN : N + ar_m v ≤ 30) (K : post (nI (N + ar_m v), cd, nx, ws, fn, tp, us, er, fl, ar_t tx N v, co, ca, cb, wt, rk, ro, cl, sr, rs, sp, hv, st, mv)) : wpX_appendPart post (nI N, cd, nx, ws, fn, tp, us, er, fl, tx, co, ca, cb, wt, rk, ro, cl, sr, rs, sp, hv, st, mv) v := by
  unfold ar_m ar_t at *
  by_cases z : v = -1
  · rw [if_pos z] at K
    rw [if_pos z] at K
    exact br_t z K
  · rw [if_neg z] at hN
    rw [if_neg z] at K
    rw [if_neg z] at K
    exact br_f z (And.intro (vp_in_nI (by omega) (by decide)) (nm_r (xl_uc (by omega) rfl) (nm_r (nI_1 N) K)))
/-- the reference's checks, one token -/
theorem yt_6 {post : Int32 → SY → Prop} {n i q : Nat} {v1 v2 v3 v4 w : Int32} (hi : i < 4) (hw : w = (if i = 0 then v1 else if i = 1 then v2 else if i = 2 then v3 else v4)) (K0 : ar_tb w → post (-1) (cn, lv, ee, tx, qk, qr, qw, da, wa, fi)) (K1 : ¬ ar_tb w → wY_tokens_6 post v1 v2 v3 v4 cn lv ee tx qk qr qw da wa fi n (nI (q + ar_m w)) (nI (i + 1))) :
    wY_tokens_6 post v1 v2 v3 v4 cn lv ee tx qk qr qw da wa fi (n + 1) (nI q) (nI i) := by
  have go : ∀ P : Int32 → Prop, P w → wpY_oneOf P (cn, lv, ee, tx, qk, qr, qw, da, wa, fi) (nI i) v1 v2 v3 v4 := by
    intro P hP
    rw [hw] at hP
    have d : i = 0 ∨ i = 1 ∨ i = 2 ∨ i = 3 := by omega
    rcases d with e | e | e | e
    · subst e; exact br_t rfl hP
    · subst e; exact br_f (by decide) (br_t rfl hP)
    · subst e; exact br_f (by decide) (br_f (by decide) (br_t rfl hP))
    · subst e; exact br_f (by decide) (br_f (by decide) (br_f (by decide) hP))
  refine br_f (nI_ge (b := 4) hi (by decide)) (go _ ?_)
  unfold ar_m at K1
  by_cases z : w = -1
  · rw [if_pos z] at K1
    exact br_t z (br_t z (nm_r (nI_1 i) (K1 (fun q => q.1 z))))
  · rw [if_neg z] at K1
    refine br_f z (yt_tok (fun hs => ?_) (fun hs => br_t rfl (K0 ⟨z, hs⟩)))
    exact br_f (by decide) (br_f z (nm_r (nI_1 q) (nm_r (nI_1 i) (K1 (fun q => q.2 hs)))))
theorem yt_83 {post : Int32 → SY → Prop} {n i N : Nat} {v1 v2 v3 v4 w : Int32} (hi : i < 4) (hw : w = (if i = 0 then v1 else if i = 1 then v2 else if i = 2 then v3 else v4)) (hN : N + ar_m w ≤ 30)
    (K : wY_tokens_83 post v1 v2 v3 v4 lv ee n (nI (i + 1)) (nI (N + ar_m w)) (ar_t tx N w) qk qr qw da wa fi) : wY_tokens_83 post v1 v2 v3 v4 lv ee (n + 1) (nI i) (nI N) tx qk qr qw da wa fi := by
  have go : ∀ P : Int32 → Prop, P w → wpY_oneOf P (nI N, lv, ee, tx, qk, qr, qw, da, wa, fi) (nI i) v1 v2 v3 v4 := by
    intro P hP
    rw [hw] at hP
    have d : i = 0 ∨ i = 1 ∨ i = 2 ∨ i = 3 := by omega
    rcases d with e | e | e | e
    · subst e; exact br_t rfl hP
    · subst e; exact br_f (by decide) (br_t rfl hP)
    · subst e; exact br_f (by decide) (br_f (by decide) (br_t rfl hP))
    · subst e; exact br_f (by decide) (br_f (by decide) (br_f (by decide) hP))
  refine br_f (nI_ge (b := 4) hi (by decide)) (go _ ?_)
  unfold ar_m ar_t at *
  by_cases z : w = -1
  · rw [if_pos z] at K
    rw [if_pos z] at K
    exact br_t z (nm_r (nI_1 i) K)
  · rw [if_neg z] at hN
    rw [if_neg z] at K
    rw [if_neg z] at K
    exact br_f z (And.intro (vp_in_nI (by omega) (by decide)) (nm_r (xl_uc (by omega) rfl) (nm_r (nI_1 N) (nm_r (nI_1 i) K))))
end
theorem xt_mm {v : Int32} {W : Int32 → Prop} (h : W (nI (ar_m v))) : (v = -1 → W 0) ∧ (¬ v = -1 → W 1) := by
  unfold ar_m at h
  by_cases z : v = -1
  · rw [if_pos z] at h; exact br_t z h
  · rw [if_neg z] at h; exact br_f z h
theorem ar_m1 (v : Int32) : ar_m v ≤ 1 := by unfold ar_m; split <;> omega
theorem i_vc_tokens {k : Nat} {u : SX} {v : SY} (I : i_Rel k u v) (hk : k + 5 ≤ 2560) (v1 : Int32) (v2 : Int32) (v3 : Int32) (v4 : Int32) : wpX_tokens (fun r u' => wpY_tokens (fun r' v' => r' = r ∧ i_Rel (k + 5) u' v') v v1 v2 v3 v4) u v1 v2 v3 v4 := by
  refine ar_el (P := fun u v => wpX_tokens (fun r u' => wpY_tokens (fun r' v' => r' = r ∧ i_Rel (k + 5) u' v') v v1 v2 v3 v4) u v1 v2 v3 v4) ?_ I
  intro N tk g r m n c cd nx ws fn tp us er fl lv ee tx co ca cb wt rk ro cl sr rs sp hv st mv qk qr qw da wa fi hT h hg hI k12
  have hN := hT.1
  have R := ar_in (k := k + 5) (cd := cd) (nx := nx) (ws := ws) (fn := fn) (tp := tp) (er := er) (fl := fl) (lv := lv) (ee := ee) (co := co) (ca := ca) (cb := cb) (wt := wt) (mv := mv) (wa := wa) (fi := fi) hT h hg hI k12
  have h1 := ar_m1 v1
  have h2 := ar_m1 v2
  have h3 := ar_m1 v3
  have h4 := ar_m1 v4
  unfold wpX_tokens
  refine xt_bp (fun b1 => br_t rfl ?_) (fun b1 => br_f (by decide) ?_)
  · refine xt_bp (fun b2 => br_t rfl ?_) (fun b2 => br_f (by decide) ?_)
    · refine xt_bp (fun b3 => br_t rfl ?_) (fun b3 => br_f (by decide) ?_)
      · refine xt_bp (fun b4 => br_t rfl ?_) (fun b4 => br_f (by decide) ?_)
        · refine xt_mm (W := fun z => wX_tokens_45 _ v1 v2 v3 v4 z (nI N) cd nx ws fn tp us er fl tx co ca cb wt rk ro cl sr rs sp hv st mv) ?_
          refine xt_mm (W := fun z => wX_tokens_55 _ v1 v2 v3 v4 z (nI (ar_m v1)) (nI N) cd nx ws fn tp us er fl tx co ca cb wt rk ro cl sr rs sp hv st mv) ?_
          refine xt_mm (W := fun z => wX_tokens_66 _ v1 v2 v3 v4 z (nI (ar_m v1) + nI (ar_m v2)) (nI N) cd nx ws fn tp us er fl tx co ca cb wt rk ro cl sr rs sp hv st mv) ?_
          refine xt_mm (W := fun z => wX_tokens_78 _ v1 v2 v3 v4 z (nI (ar_m v1) + nI (ar_m v2) + nI (ar_m v3)) (nI N) cd nx ws fn tp us er fl tx co ca cb wt rk ro cl sr rs sp hv st mv) ?_
          refine nm_r (e' := nI (ar_m v1 + ar_m v2 + ar_m v3 + ar_m v4)) (by rw [nI_add, nI_add, nI_add]) ?_
          have Y6 : ∀ {post : Int32 → SY → Prop}, (N + (ar_m v1 + ar_m v2 + ar_m v3 + ar_m v4) ≤ 30 → ∃ n83, wY_tokens_83 post v1 v2 v3 v4 lv ee n83 0 (nI N) tx qk qr qw da wa fi) → (30 < N + (ar_m v1 + ar_m v2 + ar_m v3 + ar_m v4) → post (-2) (nI N, lv, ee, tx, qk, qr, qw, da, wa, fi)) → wpY_tokens post (nI N, lv, ee, tx, qk, qr, qw, da, wa, fi) v1 v2 v3 v4 := by
            intro post Ka Kb
            refine Exists.intro 5 (yt_6 (i := 0) (q := 0) (w := v1) (by omega) rfl (fun z => absurd z b1) (fun _ => yt_6 (i := 1) (w := v2) (by omega) rfl (fun z => absurd z b2) (fun _ => yt_6 (i := 2) (w := v3) (by omega) rfl (fun z => absurd z b3) (fun _ => yt_6 (i := 3) (w := v4) (by omega) rfl (fun z => absurd z b4) (fun _ => ?_)))))
            refine br_t (by decide) (pk_le (N + (ar_m v1 + ar_m v2 + ar_m v3 + ar_m v4)) 30 Ka Kb ?_)
            rw [nI_add]; exact congrArg nI (by omega)
          refine pk_le (N + (ar_m v1 + ar_m v2 + ar_m v3 + ar_m v4)) 30 (fun l => ?_) (fun l => ?_) (nI_add N _)
          · obtain ⟨t1, T1⟩ := ar_ts hT b1 (by omega)
            obtain ⟨t2, T2⟩ := ar_ts T1 b2 (by omega)
            obtain ⟨t3, T3⟩ := ar_ts T2 b3 (by omega)
            obtain ⟨t4, T4⟩ := ar_ts T3 b4 (by omega)
            refine xt_app (v := v1) (by omega) ?_
            refine xt_app (v := v2) (by omega) ?_
            refine xt_app (v := v3) (by omega) ?_
            refine xt_app (v := v4) (by omega) ?_
            refine Y6 (fun _ => ⟨5, ?_⟩) (fun q => absurd q (by omega))
            refine yt_83 (i := 0) (w := v1) (by omega) rfl (by omega) (yt_83 (i := 1) (w := v2) (by omega) rfl (by omega) (yt_83 (i := 2) (w := v3) (by omega) rfl (by omega) (yt_83 (i := 3) (w := v4) (by omega) rfl (by omega) (br_t (by decide) ⟨rfl, ?_⟩))))
            exact ar_in T4 h hg hI k12
          · exact Y6 (fun q => absurd q (by omega)) (fun _ => ⟨rfl, R⟩)
        · exact Exists.intro 4 (yt_6 (i := 0) (q := 0) (w := v1) (by omega) rfl (fun z => absurd z b1) (fun _ => yt_6 (i := 1) (w := v2) (by omega) rfl (fun z => absurd z b2) (fun _ => yt_6 (i := 2) (w := v3) (by omega) rfl (fun z => absurd z b3) (fun _ => yt_6 (i := 3) (w := v4) (by omega) rfl (fun _ => ⟨rfl, R⟩) (fun z => absurd b4 z)))))
      · exact Exists.intro 3 (yt_6 (i := 0) (q := 0) (w := v1) (by omega) rfl (fun z => absurd z b1) (fun _ => yt_6 (i := 1) (w := v2) (by omega) rfl (fun z => absurd z b2) (fun _ => yt_6 (i := 2) (w := v3) (by omega) rfl (fun _ => ⟨rfl, R⟩) (fun z => absurd b3 z))))
    · exact Exists.intro 2 (yt_6 (i := 0) (q := 0) (w := v1) (by omega) rfl (fun z => absurd z b1) (fun _ => yt_6 (i := 1) (w := v2) (by omega) rfl (fun _ => ⟨rfl, R⟩) (fun z => absurd b2 z)))
  · exact Exists.intro 1 (yt_6 (i := 0) (q := 0) (w := v1) (by omega) rfl (fun _ => ⟨rfl, R⟩) (fun z => absurd b1 z))
end
