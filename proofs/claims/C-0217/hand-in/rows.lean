section
theorem pk_us {f : Nat → Int32} {k : Nat} {x : Int32} : upd f k x k = x := if_pos rfl
theorem pk_un {f : Nat → Int32} {k j : Nat} {x : Int32} (h : j ≠ k) : upd f k x j = f j := if_neg h
theorem pk_sub {a b : Nat} (h : b ≤ a) : nI a - nI b = nI (a - b) := by
  obtain ⟨c, rfl⟩ : ∃ c, a = c + b := ⟨a - b, by omega⟩
  rw [← nI_add, Int32.add_sub_cancel, Nat.add_sub_cancel]
theorem pk_m1 (n : Nat) : nI (n + 1) + (-1) = nI n := by
  rw [← nI_1, Int32.add_assoc, show (1 : Int32) + (-1) = 0 from rfl, Int32.add_zero]
theorem pk_mul (a b : Nat) : nI a * nI b = nI (a * b) := (Int32.ofNat_mul a b).symm
theorem pk_div {a d : Nat} (ha : a < 2 ^ 31) (h0 : 0 < d) (hd : d < 2 ^ 31) : nI a / nI d = nI (a / d) := by
  apply Int32.toInt_inj.mp
  rw [lg_idiv_nonneg (by rw [nI_toInt ha]; omega) (by rw [nI_toInt hd]; omega), nI_toInt ha, nI_toInt hd, nI_toInt (Nat.lt_of_le_of_lt (Nat.div_le_self a d) ha)]
  first | rfl | exact (Int.natCast_ediv _ _).symm
theorem pk_rem {a d : Nat} (ha : a < 2 ^ 31) (h0 : 0 < d) (hd : d < 2 ^ 31) : nI a - nI a / nI d * nI d = nI (a % d) := by
  rw [pk_div ha h0 hd, pk_mul, pk_sub (Nat.div_mul_le_self a d)]
  exact congrArg nI (by have := Nat.div_add_mod' a d; omega)
theorem pk_ix (x : Int32) {n : Nat} (hn : n < 2 ^ 31) : x < 0 ∨ nI n ≤ x ∨ ∃ j : Nat, j < n ∧ x = nI j := by
  by_cases h : x < 0
  · exact Or.inl h
  · obtain ⟨j, hj, rfl⟩ := nI_of h
    by_cases h2 : j < n
    · exact Or.inr (Or.inr ⟨j, h2, rfl⟩)
    · exact Or.inr (Or.inl (nI_le (by omega) hj))
theorem pk_le {x y : Int32} {A B : Prop} (a b : Nat) (f : a ≤ b → A) (g : b < a → B) (hx : x = nI a := by rfl) (hy : y = nI b := by rfl) (ha : a < 2 ^ 31 := by omega) (hb : b < 2 ^ 31 := by omega) : (x ≤ y → A) ∧ (¬ x ≤ y → B) := by
  subst hx hy
  rw [nI_leI ha hb]
  exact ⟨f, fun z => g (by omega)⟩
theorem pk_lt {x y : Int32} {A B : Prop} (a b : Nat) (f : a < b → A) (g : b ≤ a → B) (hx : x = nI a := by rfl) (hy : y = nI b := by rfl) (ha : a < 2 ^ 31 := by omega) (hb : b < 2 ^ 31 := by omega) : (x < y → A) ∧ (¬ x < y → B) := by
  subst hx hy
  rw [nI_ltI ha hb]
  exact ⟨f, fun z => g (by omega)⟩
theorem pk_eq {x y : Int32} {A B : Prop} (a b : Nat) (f : a = b → A) (g : a ≠ b → B) (hx : x = nI a := by rfl) (hy : y = nI b := by rfl) (ha : a < 2 ^ 31 := by omega) (hb : b < 2 ^ 31 := by omega) : (x = y → A) ∧ (¬ x = y → B) := by
  subst hx hy
  rw [nI_eq ha hb]
  exact ⟨f, g⟩
theorem pk_in {x : Int32} (n N : Nat) (h : n < N) (hx : x = nI n := by rfl) (hN : N < 2 ^ 31 := by omega) : vp_in x N := by
  subst hx
  exact vp_in_nI h hN
theorem pk_cl {x : Int32} (n : Nat) (hx : x = nI n := by rfl) (h : n < 2 ^ 31 := by omega) : x.toNatClampNeg = n := by
  subst hx
  exact nI_clamp h
def bt (x : Int32) (i : Nat) : Bool := x.toBitVec.getLsbD i
theorem b_ext {x y : Int32} (h : ∀ i, i < 32 → bt x i = bt y i) : x = y := Int32.toBitVec_inj.mp (BitVec.eq_of_getLsbD_eq (fun i hi => h i hi))
theorem b_or (x y : Int32) (i : Nat) : bt (x ||| y) i = (bt x i || bt y i) := by unfold bt; rw [Int32.toBitVec_or, BitVec.getLsbD_or]
theorem b_and (x y : Int32) (i : Nat) : bt (x &&& y) i = (bt x i && bt y i) := by unfold bt; rw [Int32.toBitVec_and, BitVec.getLsbD_and]
theorem b_xor (x y : Int32) (i : Nat) : bt (x ^^^ y) i = (bt x i ^^ bt y i) := by unfold bt; rw [Int32.toBitVec_xor, BitVec.getLsbD_xor]
theorem b_big {x : Int32} {i : Nat} (h : 32 ≤ i) : bt x i = false := BitVec.getLsbD_of_ge _ _ h
theorem b_65535 (i : Nat) : bt 65535 i = decide (i < 16) := by
  rcases Nat.lt_or_ge i 32 with h | h
  · exact (by decide +kernel : ∀ i, i < 32 → bt 65535 i = decide (i < 16)) i h
  · rw [b_big h, decide_eq_false (by omega)]
theorem b_m1 : ∀ i, i < 32 → bt (-1) i = true := by decide +kernel
theorem b_0 (i : Nat) : bt 0 i = false := BitVec.getLsbD_zero
theorem s_l : ∀ n, n < 32 → ((nI n &&& 31).toBitVec.smod 32).toNat = n := by decide +kernel
theorem b_shl (n : Nat) (hn : n < 32) (x : Int32) {i : Nat} (hi : i < 32) : bt (x <<< (nI n &&& 31)) i = (decide (n ≤ i) && bt x (i - n)) := by
  unfold bt
  rw [Int32.toBitVec_shiftLeft]
  show (x.toBitVec <<< ((nI n &&& 31).toBitVec.smod 32).toNat).getLsbD i = _
  rw [s_l n hn, BitVec.getLsbD_shiftLeft]
  rcases Nat.lt_or_ge i n with h | h
  · simp [h, Nat.not_le.mpr h]
  · simp [hi, h, Nat.not_lt.mpr h]
theorem b_sshr (n : Nat) (hn : n < 32) (x : Int32) {i : Nat} (hi : i < 32) : bt (x >>> (nI n &&& 31)) i = if n + i < 32 then bt x (n + i) else bt x 31 := by
  unfold bt
  rw [Int32.toBitVec_shiftRight]
  show (x.toBitVec.sshiftRight ((nI n &&& 31).toBitVec.smod 32).toNat).getLsbD i = _
  rw [s_l n hn, BitVec.getLsbD_sshiftRight, BitVec.msb_eq_getLsbD_last]
  simp [hi]
end
section
/-! booleans as ints, bits, files, points, indices -/
def sc_b (b : Bool) : Int32 := if b = true then 1 else 0
theorem sc_bt : sc_b true = 1 := rfl
theorem sc_bf : sc_b false = 0 := rfl
theorem sc_01 (b : Bool) : sc_b b = 0 ∨ sc_b b = 1 := by cases b <;> simp [sc_b]
theorem sc_b0 {b : Bool} : sc_b b = 0 ↔ b = false := by cases b <;> simp [sc_b]
theorem sc_bi {a b : Bool} : sc_b a = sc_b b ↔ a = b := by cases a <;> cases b <;> simp [sc_b]
theorem sc_n0 : vp_nar .boolean 0 = 0 := rfl
theorem sc_n1 : vp_nar .boolean 1 = 1 := rfl
theorem sc_nar {x : Int32} (h : x = 0 ∨ x = 1) : vp_nar .boolean x = x := by
  rcases h with h | h <;> rw [h] <;> rfl
theorem sc_b1bit : ∀ i, i < 32 → bt 1 i = decide (i = 0) := by decide +kernel
theorem sc_bit (x : Int32) {f : Nat} (hf : f < 32) : (x >>> (nI f &&& 31)) &&& 1 = sc_b (bt x f) := by
  apply b_ext
  intro i hi
  rw [b_and, b_sshr f hf x hi, sc_b1bit i hi]
  rcases Nat.eq_zero_or_pos i with h | h
  · subst h
    rw [if_pos (by omega : f + 0 < 32), Nat.add_zero]
    cases bt x f <;> decide
  · have e : decide (i = 0) = false := decide_eq_false (by omega)
    rw [e, Bool.and_false]
    cases bt x f
    · rw [sc_bf, b_0]
    · rw [sc_bt, sc_b1bit i hi, e]
theorem sc_has {post : Int32 → Prop} {x : Int32} {f : Nat} (hf : f < 16) (h : post (sc_b (bt x f))) : wpX_has post x (nI f) := by
  unfold wpX_has
  rw [sc_bit x (by omega : f < 32)]
  cases e : bt x f
  · rw [e] at h
    exact br_f (by decide) h
  · rw [e] at h
    exact br_t (by decide) h
theorem sc_shl {f g : Nat} (hf : f < 16) (hg : g < 16) : bt ((1 : Int32) <<< (nI f &&& 31)) g = decide (g = f) := by
  rw [b_shl f (by omega) 1 (by omega)]
  by_cases h : f ≤ g
  · rw [sc_b1bit (g - f) (by omega)]
    by_cases e : g = f
    · subst e; simp
    · rw [decide_eq_false e, decide_eq_false (by omega : ¬ g - f = 0)]; simp
  · rw [decide_eq_false h, decide_eq_false (by omega)]; rfl
theorem sc_not (x : Int32) {g : Nat} (hg : g < 16) : bt (x ^^^ (-1)) g = !(bt x g) := by
  rw [b_xor, b_m1 g (by omega)]; cases bt x g <;> rfl
theorem sc_fX {post : Int32 → Prop} {f : Nat} (hf : f < 16) (h : post 1) : wpX_isFile post (nI f) :=
  br_f (nI_pos (by omega)) (br_f (nI_nlt (a := 15) (by omega) (by omega)) h)
theorem sc_fY {post : Int32 → Prop} {v : SY} {f : Nat} (hf : f < 16) (h : post 0) : wpY_badFile post v (nI f) := by
  obtain ⟨a, b, c, d, e, g, i, j, k⟩ := v
  exact br_f (nI_pos (by omega)) (br_t (nI_le (b := 15) (by omega) (by omega)) h)
theorem sc_f (x : Int32) : (∃ f : Nat, f < 16 ∧ x = nI f) ∨ ((∀ post : Int32 → Prop, post 0 → wpX_isFile post x) ∧ ∀ (v : SY) (post : Int32 → Prop), post 1 → wpY_badFile post v x) := by
  rcases pk_ix x (n := 16) (by omega) with h | h | h
  · refine Or.inr ⟨fun post hp => br_t h hp, fun v post hp => ?_⟩
    obtain ⟨a, b, c, d, e, g, i, j, k⟩ := v
    exact br_t h hp
  · have h0 : ¬ x < 0 := by
      intro z
      have := Int32.lt_of_le_of_lt h z
      exact absurd this (by decide)
    obtain ⟨j, hj, rfl⟩ := nI_of h0
    rw [nI_leI (by omega) hj] at h
    refine Or.inr ⟨fun post hp => br_f h0 (br_t (nI_lt (a := 15) (by omega) hj) hp), fun v post hp => ?_⟩
    obtain ⟨a, b, c, d, e, g, i, j, k⟩ := v
    exact br_f h0 (br_f (nI_ge (a := 15) (by omega) hj) hp)
  · exact Or.inl h
section
variable {lm : Int32} {c T : Nat} {lc od bs en pr co dy pn tc tk kp : Nat → Int32} {lt lv hd cn yd pd kt : Nat → Int32} {o D : Nat → Nat}
theorem sc_pX {post : Int32 → Prop} {p : Nat} (hc : c ≤ 14) (hp : p < c) (h : post 1) : wpX_isPoint post (lm, (nI c), (nI T), lc, od, bs, en, pr, co, dy, pn, tc, tk, kp) (nI p) :=
  br_f (nI_pos (by omega)) (br_f (nI_ge hp (by omega)) h)
theorem sc_pY {post : Int32 → Prop} {p : Nat} (hc : c ≤ 14) (hp : p < c) (h : post 0) : wpY_badPoint post ((nI T), (nI c), lt, lv, hd, cn, yd, pd, kt) (nI p) :=
  br_f (nI_pos (by omega)) (br_f (nI_ge hp (by omega)) (br_t (nI_lt (b := 14) (by omega) (by omega)) h))
end
theorem sc_p (x : Int32) (c : Nat) (hc : c ≤ 14) : (∃ p : Nat, p < c ∧ x = nI p) ∨
    ((∀ (lm tI : Int32) (lc od bs en pr co dy pn tc tk kp : Nat → Int32) (post : Int32 → Prop), post 0 → wpX_isPoint post (lm, (nI c), tI, lc, od, bs, en, pr, co, dy, pn, tc, tk, kp) x) ∧
     (∀ (tI : Int32) (lt lv hd cn yd pd kt : Nat → Int32) (post : Int32 → Prop), post 1 → wpY_badPoint post (tI, (nI c), lt, lv, hd, cn, yd, pd, kt) x)) := by
  rcases pk_ix x (n := c) (by omega) with h | h | h
  · exact Or.inr ⟨fun lm tI lc od bs en pr co dy pn tc tk kp post hp => br_t h hp, fun tI lt lv hd cn yd pd kt post hp => br_t h hp⟩
  · by_cases h0 : x < 0
    · exact Or.inr ⟨fun lm tI lc od bs en pr co dy pn tc tk kp post hp => br_t h0 hp, fun tI lt lv hd cn yd pd kt post hp => br_t h0 hp⟩
    · exact Or.inr ⟨fun lm tI lc od bs en pr co dy pn tc tk kp post hp => br_f h0 (br_t h hp), fun tI lt lv hd cn yd pd kt post hp => br_f h0 (br_t h hp)⟩
  · exact Or.inl h
theorem sc_ix (p f : Nat) : (16 : Int32) * nI p + nI f = nI (16 * p + f) := by
  show nI 16 * nI p + nI f = _
  rw [pk_mul, nI_add]
theorem sc_in {p f : Nat} (hp : p < 14) (hf : f < 16) : vp_in ((16 : Int32) * nI p + nI f) 224 := by
  rw [sc_ix]; exact vp_in_nI (by omega) (by omega)
theorem sc_cl {p f : Nat} (hp : p < 14) (hf : f < 16) : ((16 : Int32) * nI p + nI f).toNatClampNeg = 16 * p + f := by
  rw [sc_ix]; exact nI_clamp (by omega)
theorem sc_c (n : Nat) (h : n < 16) : (nI n).toNatClampNeg = n := nI_clamp (by omega)
theorem sc_i14 {n : Nat} (h : n < 14) : vp_in (nI n) 14 := vp_in_nI h (by omega)
theorem sc_i16 {n : Nat} (h : n < 16) : vp_in (nI n) 16 := vp_in_nI h (by omega)
theorem sc_m1 {n : Nat} (h : n < 14) : ¬ nI n = -1 := by
  intro e
  have h1 : (0 : Int32) ≤ nI n := nI_pos' (by omega)
  rw [e] at h1
  exact absurd h1 (by decide)
theorem sc_sub1 {c : Nat} (h : 1 ≤ c) : nI c - 1 = nI (c - 1) := by
  obtain ⟨d, rfl⟩ : ∃ d, c = d + 1 := ⟨c - 1, by omega⟩
  rw [nI_pred, Nat.add_sub_cancel]
theorem sc_dec (i : Nat) : nI i + (-1) = nI i - 1 := (Int32.sub_eq_add_neg (a := nI i) (b := 1)).symm
theorem sc_us {f : Nat → Int32} {k j : Nat} {x : Int32} (h : j = k) : upd f k x j = x := if_pos h
theorem sc_self {f : Nat → Int32} {k : Nat} {x : Int32} (h : f k = x) : upd f k x = f := by
  funext j
  by_cases e : j = k
  · rw [sc_us e, e, h]
  · exact pk_un e
end
section
/-! the relation -/
def sc_L (lm : Int32) (lc lt lv : Nat → Int32) : Prop :=
  ∀ f, f < 16 → lt f = sc_b (bt lm f) ∧ lv f = lc f ∧ (bt lm f = false → lc f = 0)
def sc_O (c : Nat) (o : Nat → Nat) (od tk : Nat → Int32) : Prop :=
  (∀ p, p < c → o p < 14 ∧ od p = nI (o p)) ∧ (∀ p q, p < c → q < c → o p = o q → p = q) ∧
  (∀ s, s < 14 → (tk s ≠ 0 ↔ ∃ p, p < c ∧ o p = s))
def sc_D (c T : Nat) (o D : Nat → Nat) (dy yd : Nat → Int32) : Prop :=
  ∀ p, p < c → yd p = nI (D p) ∧ dy (o p) = nI (D p) ∧ D p ≤ T ∧ ∀ q, q < p → D q ≤ D p
def sc_P (c : Nat) (o : Nat → Nat) (pn pd : Nat → Int32) : Prop :=
  ∀ p, p < c → pd p = pn (o p) ∧ (pd p = 0 ∨ pd p = 1)
def sc_H (c : Nat) (hd cn : Nat → Int32) : Prop :=
  ∀ p f, p < c → f < 16 → (hd (16 * p + f) = 0 ∨ hd (16 * p + f) = 1) ∧ (hd (16 * p + f) = 0 → cn (16 * p + f) = 0)
def sc_E (c : Nat) (o : Nat → Nat) (en pr co hd cn : Nat → Int32) : Prop :=
  ∀ p f, p < c → f < 16 → (bt (en (o p)) f = true → hd (16 * p + f) = sc_b (bt (pr (o p)) f) ∧ cn (16 * p + f) = co (16 * o p + f)) ∧
    (bt (en (o p)) f = false → bt (pr (o p)) f = false)
def sc_T (c : Nat) (o : Nat → Nat) (tc lt lv hd cn : Nat → Int32) : Prop :=
  ∀ p f, p < c → f < 16 → bt (tc (o p)) f = false → hd (16 * p + f) = lt f ∧ cn (16 * p + f) = lv f
def sc_B (c : Nat) (o : Nat → Nat) (bs en hd cn : Nat → Int32) : Prop :=
  ∀ p, p < c → (bs (o p) = -1 ∧ ∀ f, f < 16 → bt (en (o p)) f = true) ∨
    ∃ q, q < p ∧ bs (o p) = nI (o q) ∧ ∀ f, f < 16 → bt (en (o p)) f = false → hd (16 * p + f) = hd (16 * q + f) ∧ cn (16 * p + f) = cn (16 * q + f)
def sc_R (c T : Nat) (o D : Nat → Nat) (lm : Int32) (lc od bs en pr co dy pn tc tk lt lv hd cn yd pd : Nat → Int32) : Prop :=
  (c ≤ 14 ∧ T ≤ 5000) ∧ sc_L lm lc lt lv ∧ sc_O c o od tk ∧ sc_D c T o D dy yd ∧ sc_P c o pn pd ∧ sc_H c hd cn ∧
  sc_E c o en pr co hd cn ∧ sc_T c o tc lt lv hd cn ∧ sc_B c o bs en hd cn
/-- the relation at the head of a turn -/
def i_Rel (k : Nat) (u : SX) (v : SY) : Prop :=
  ∃ (c T : Nat) (o D : Nat → Nat) (lm : Int32) (lc od bs en pr co dy pn tc tk kp lt lv hd cn yd pd kt : Nat → Int32),
    u = (lm, (nI c), (nI T), lc, od, bs, en, pr, co, dy, pn, tc, tk, kp) ∧ v = ((nI T), (nI c), lt, lv, hd, cn, yd, pd, kt) ∧ sc_R c T o D lm lc od bs en pr co dy pn tc tk lt lv hd cn yd pd
theorem sc_el {k : Nat} {u : SX} {v : SY} (I : i_Rel k u v) (P : SX → SY → Prop)
    (H : ∀ (c T : Nat) (o D : Nat → Nat) (lm : Int32) (lc od bs en pr co dy pn tc tk kp lt lv hd cn yd pd kt : Nat → Int32),
      sc_R c T o D lm lc od bs en pr co dy pn tc tk lt lv hd cn yd pd → P (lm, (nI c), (nI T), lc, od, bs, en, pr, co, dy, pn, tc, tk, kp) ((nI T), (nI c), lt, lv, hd, cn, yd, pd, kt)) : P u v := by
  obtain ⟨c, T, o, D, lm, lc, od, bs, en, pr, co, dy, pn, tc, tk, kp, lt, lv, hd, cn, yd, pd, kt, hu, hv, h⟩ := I
  rw [hu, hv]
  exact H c T o D lm lc od bs en pr co dy pn tc tk kp lt lv hd cn yd pd kt h
theorem i_up {k : Nat} {u : SX} {v : SY} (h : i_Rel k u v) : i_Rel (k + 4) u v := h
section
variable {lm : Int32} {c T : Nat} {lc od bs en pr co dy pn tc tk kp : Nat → Int32} {lt lv hd cn yd pd kt : Nat → Int32} {o D : Nat → Nat}
theorem sc_mk (k : Nat) (h : sc_R c T o D lm lc od bs en pr co dy pn tc tk lt lv hd cn yd pd) : i_Rel k (lm, (nI c), (nI T), lc, od, bs, en, pr, co, dy, pn, tc, tk, kp) ((nI T), (nI c), lt, lv, hd, cn, yd, pd, kt) :=
  ⟨c, T, o, D, lm, lc, od, bs, en, pr, co, dy, pn, tc, tk, kp, lt, lv, hd, cn, yd, pd, kt, rfl, rfl, h⟩
theorem sc_hc (h : sc_R c T o D lm lc od bs en pr co dy pn tc tk lt lv hd cn yd pd) : c ≤ 14 := h.1.1
theorem sc_hT (h : sc_R c T o D lm lc od bs en pr co dy pn tc tk lt lv hd cn yd pd) : T ≤ 5000 := h.1.2
theorem sc_hL (h : sc_R c T o D lm lc od bs en pr co dy pn tc tk lt lv hd cn yd pd) : sc_L lm lc lt lv := h.2.1
theorem sc_hO (h : sc_R c T o D lm lc od bs en pr co dy pn tc tk lt lv hd cn yd pd) : sc_O c o od tk := h.2.2.1
theorem sc_hD (h : sc_R c T o D lm lc od bs en pr co dy pn tc tk lt lv hd cn yd pd) : sc_D c T o D dy yd := h.2.2.2.1
theorem sc_hP (h : sc_R c T o D lm lc od bs en pr co dy pn tc tk lt lv hd cn yd pd) : sc_P c o pn pd := h.2.2.2.2.1
theorem sc_hH (h : sc_R c T o D lm lc od bs en pr co dy pn tc tk lt lv hd cn yd pd) : sc_H c hd cn := h.2.2.2.2.2.1
theorem sc_hE (h : sc_R c T o D lm lc od bs en pr co dy pn tc tk lt lv hd cn yd pd) : sc_E c o en pr co hd cn := h.2.2.2.2.2.2.1
theorem sc_hTc (h : sc_R c T o D lm lc od bs en pr co dy pn tc tk lt lv hd cn yd pd) : sc_T c o tc lt lv hd cn := h.2.2.2.2.2.2.2.1
theorem sc_hB (h : sc_R c T o D lm lc od bs en pr co dy pn tc tk lt lv hd cn yd pd) : sc_B c o bs en hd cn := h.2.2.2.2.2.2.2.2
theorem sc_o (h : sc_R c T o D lm lc od bs en pr co dy pn tc tk lt lv hd cn yd pd) {p : Nat} (hp : p < c) : o p < 14 := ((sc_hO h).1 p hp).1
theorem sc_od (h : sc_R c T o D lm lc od bs en pr co dy pn tc tk lt lv hd cn yd pd) {p : Nat} (hp : p < c) : od p = nI (o p) := ((sc_hO h).1 p hp).2
end
theorem i_vc0 : wpX_init (fun u => wpY_init (fun v => i_Rel 0 u v)) := by
  refine ⟨0, 0, fun _ => 0, fun _ => 0, 0, fun _ => 0, fun _ => 0, fun _ => 0, fun _ => 0, fun _ => 0, fun _ => 0, fun _ => 0, fun _ => 0, fun _ => 0, fun _ => 0, fun _ => 0, fun _ => 0, fun _ => 0, fun _ => 0, fun _ => 0, fun _ => 0, fun _ => 0, fun _ => 0, rfl, rfl, ?_⟩
  refine ⟨⟨by omega, by omega⟩, fun f _ => ⟨?_, rfl, fun _ => rfl⟩, ⟨fun p hp => absurd hp (by omega), fun p q hp => absurd hp (by omega), fun s _ => ⟨fun z => absurd rfl z, fun ⟨p, hp, _⟩ => absurd hp (by omega)⟩⟩, fun p hp => absurd hp (by omega), fun p hp => absurd hp (by omega), fun p f hp => absurd hp (by omega), fun p f hp => absurd hp (by omega), fun p f hp => absurd hp (by omega), fun p hp => absurd hp (by omega)⟩
  rw [b_0]; rfl
end
section
/-! setLive, and the methods that write the live set -/
section
variable {lm : Int32} {c T : Nat} {lc od bs en pr co dy pn tc tk kp : Nat → Int32} {lt lv hd cn yd pd kt : Nat → Int32} {o D : Nat → Nat}
theorem sc_set77 (b : Int32) : ∀ (d i : Nat) (tc : Nat → Int32), i + d = 14 →
    ∃ tc' : Nat → Int32, (∀ s, i ≤ s → s < 14 → tc' s = tc s ||| b) ∧ (∀ s, s < i → tc' s = tc s) ∧
      ∀ post : SX → Prop, post (lm, (nI c), (nI T), lc, od, bs, en, pr, co, dy, pn, tc', tk, kp) → wX_setLive_77 post b lm (nI c) (nI T) (d + 1) (nI i) lc od bs en pr co dy pn tc tk kp := by
  intro d
  induction d with
  | zero =>
    intro i tc hi
    obtain rfl : i = 14 := by omega
    exact ⟨tc, fun s h1 h2 => absurd h1 (by omega), fun s _ => rfl, fun post hp => br_t (nI_le (a := 14) (b := 14) (by omega) (by omega)) hp⟩
  | succ d ih =>
    intro i tc hi
    obtain ⟨tc', h1, h2, K⟩ := ih (i + 1) (upd tc i (tc i ||| b)) (by omega)
    refine ⟨tc', fun s hs hs' => ?_, fun s hs => ?_, fun post hp => ?_⟩
    · by_cases e : s = i
      · rw [h2 s (by omega), sc_us e, e]
      · rw [h1 s (by omega) hs', pk_un e]
    · rw [h2 s (by omega), pk_un (by omega)]
    · have hi' : i < 14 := by omega
      refine br_f (nI_ge (b := 14) hi' (by omega)) ⟨sc_i14 hi', sc_i14 hi', nm_r (e' := upd tc i (tc i ||| b)) ?_ (nm_r (nI_1 i) (K post hp))⟩
      rw [sc_c i (by omega)]
theorem sc_set56 {f : Nat} (hf : f < 16) (b : Bool) (v w bit z0 : Int32) (hw : w = if b = true then v else 0) :
    ∃ tc' : Nat → Int32, (∀ s, s < 14 → tc' s = tc s ||| bit) ∧
      ∀ post : SX → Prop, post (z0, (nI c), (nI T), (upd lc f w), od, bs, en, pr, co, dy, pn, tc', tk, kp) → wX_setLive_56 post (nI f) (sc_b b) v bit z0 lm (nI c) (nI T) lc od bs en pr co dy pn tc tk kp := by
  obtain ⟨tc', h1, -, K⟩ := sc_set77 (lm := z0) (c := c) (T := T) (lc := upd lc f w) (od := od) (bs := bs) (en := en) (pr := pr) (co := co) (dy := dy) (pn := pn) (tk := tk) (kp := kp) bit 14 0 tc rfl
  refine ⟨tc', fun s hs => h1 s (by omega) hs, fun post hp => ?_⟩
  cases b with
  | false =>
    refine br_t rfl ⟨sc_i16 hf, nm_r (e' := upd lc f w) ?_ ⟨15, K post hp⟩⟩
    rw [sc_c f hf, hw]; rfl
  | true =>
    refine br_f (by decide) ⟨sc_i16 hf, nm_r (e' := upd lc f w) ?_ ⟨15, K post hp⟩⟩
    rw [sc_c f hf, hw]; rfl
def sc_nlm (b : Bool) (f : Nat) (lm : Int32) : Int32 :=
  if b = true then lm ||| ((1 : Int32) <<< (nI f &&& 31)) else lm &&& (((1 : Int32) <<< (nI f &&& 31)) ^^^ (-1))
theorem sc_set27 {f : Nat} (hf : f < 16) (b : Bool) (v w : Int32) (hw : w = if b = true then v else 0) :
    ∃ tc' : Nat → Int32, (∀ s, s < 14 → tc' s = tc s ||| ((1 : Int32) <<< (nI f &&& 31))) ∧
      ∀ post : SX → Prop, post ((sc_nlm b f lm), (nI c), (nI T), (upd lc f w), od, bs, en, pr, co, dy, pn, tc', tk, kp) → wX_setLive_27 post (nI f) (sc_b b) v lm (nI c) (nI T) lc od bs en pr co dy pn tc tk kp := by
  obtain ⟨tc', h1, K⟩ := sc_set56 (lm := lm) (c := c) (T := T) (lc := lc) (od := od) (bs := bs) (en := en) (pr := pr) (co := co) (dy := dy) (pn := pn) (tc := tc) (tk := tk) (kp := kp) hf b v w ((1 : Int32) <<< (nI f &&& 31)) (sc_nlm b f lm) hw
  refine ⟨tc', h1, fun post hp => nm_e ?_⟩
  cases b with
  | false => exact br_t rfl (K post hp)
  | true => exact br_f (by decide) (K post hp)
theorem sc_nlm_bt {b : Bool} {f g : Nat} (hf : f < 16) (hg : g < 16) : bt (sc_nlm b f lm) g = if g = f then b else bt lm g := by
  unfold sc_nlm
  cases b with
  | false =>
    rw [if_neg (by decide), b_and, sc_not _ hg, sc_shl hf hg]
    by_cases e : g = f
    · rw [if_pos e, decide_eq_true e]; simp
    · rw [if_neg e, decide_eq_false e]; simp
  | true =>
    rw [if_pos rfl, b_or, sc_shl hf hg]
    by_cases e : g = f
    · rw [if_pos e, decide_eq_true e]; simp
    · rw [if_neg e, decide_eq_false e]; simp
theorem sc_set (kp : Nat → Int32) (h : sc_R c T o D lm lc od bs en pr co dy pn tc tk lt lv hd cn yd pd) {f : Nat} (hf : f < 16) (b : Bool) (v w : Int32) (hw : w = if b = true then v else 0) :
    ∃ (lm' : Int32) (lc' tc' : Nat → Int32), sc_R c T o D lm' lc' od bs en pr co dy pn tc' tk (upd lt f (sc_b b)) (upd lv f w) hd cn yd pd ∧
      ∀ post : SX → Prop, post (lm', (nI c), (nI T), lc', od, bs, en, pr, co, dy, pn, tc', tk, kp) → wpX_setLive post (lm, (nI c), (nI T), lc, od, bs, en, pr, co, dy, pn, tc, tk, kp) (nI f) (sc_b b) v := by
  by_cases same : bt lm f = b ∧ (b = true → lc f = v)
  · obtain ⟨s1, s2⟩ := same
    have hl := sc_hL h f hf
    have e1 : upd lt f (sc_b b) = lt := sc_self (by rw [hl.1, s1])
    have e2 : upd lv f w = lv := by
      apply sc_self
      rw [hl.2.1, hw]
      cases b with
      | false => exact hl.2.2 s1
      | true => exact s2 rfl
    refine ⟨lm, lc, tc, by rw [e1, e2]; exact h, fun post hp => ?_⟩
    unfold wpX_setLive; dsimp only
    refine sc_has hf ?_
    rw [s1]
    refine br_t rfl ?_
    cases b with
    | false => exact br_t rfl hp
    | true => exact br_f (by decide) ⟨sc_i16 hf, br_t (by rw [sc_c f hf]; exact s2 rfl) hp⟩
  · obtain ⟨tc', h1, K⟩ := sc_set27 (lm := lm) (c := c) (T := T) (lc := lc) (od := od) (bs := bs) (en := en) (pr := pr) (co := co) (dy := dy) (pn := pn) (tc := tc) (tk := tk) (kp := kp) hf b v w hw
    refine ⟨sc_nlm b f lm, upd lc f w, tc', ?_, fun post hp => ?_⟩
    · obtain ⟨hct, hL, hO, hD, hP, hH, hE, hTc, hB⟩ := h
      refine ⟨hct, fun g hg => ?_, hO, hD, hP, hH, hE, fun p g hp hg z => ?_, hB⟩
      · obtain ⟨a1, a2, a3⟩ := hL g hg
        rw [sc_nlm_bt hf hg]
        by_cases e : g = f
        · rw [if_pos e, sc_us e, sc_us e, sc_us e]
          exact ⟨rfl, rfl, fun z => by rw [hw, z]; rfl⟩
        · rw [if_neg e, pk_un e, pk_un e, pk_un e]
          exact ⟨a1, a2, a3⟩
      · rw [h1 (o p) (hO.1 p hp).1, b_or, sc_shl hf hg, Bool.or_eq_false_iff] at z
        have ne : g ≠ f := of_decide_eq_false z.2
        rw [pk_un ne, pk_un ne]
        exact hTc p g hp hg z.1
    · unfold wpX_setLive; dsimp only
      refine sc_has hf ?_
      by_cases e : bt lm f = b
      · refine br_t (by rw [e]) ?_
        cases b with
        | false => exact absurd ⟨e, fun z => absurd z (by decide)⟩ same
        | true => exact br_f (by decide) ⟨sc_i16 hf, br_f (by rw [sc_c f hf]; exact fun z => same ⟨e, fun _ => z⟩) (K post hp)⟩
      · exact br_f (fun z => e (sc_bi.mp z)) (K post hp)
theorem sc_lt0 (h : sc_R c T o D lm lc od bs en pr co dy pn tc tk lt lv hd cn yd pd) {f : Nat} (hf : f < 16) : lt f = 0 ↔ bt lm f = false := by
  rw [(sc_hL h f hf).1]; exact sc_b0
theorem sc_lt01 (h : sc_R c T o D lm lc od bs en pr co dy pn tc tk lt lv hd cn yd pd) {f : Nat} (hf : f < 16) : lt f = 0 ∨ lt f = 1 := by
  rw [(sc_hL h f hf).1]; exact sc_01 _
theorem sc_yput24 {post : Int32 → SY → Prop} {f : Nat} (hf : f < 16) {x z : Int32} (hp : post z ((nI T), (nI c), (upd lt f 1), (upd lv f x), hd, cn, yd, pd, kt)) :
    wY_put_24 post (nI f) x z (nI T) (nI c) lt lv hd cn yd pd kt := by
  unfold wY_put_24
  exact ⟨sc_i16 hf, nm_r (e' := upd lt f 1) (by rw [sc_c f hf]; rfl) ⟨sc_i16 hf, nm_r (e' := upd lv f x) (by rw [sc_c f hf]) hp⟩⟩
theorem sc_yput {post : Int32 → SY → Prop} {f : Nat} (hf : f < 16) {x : Int32} (h01 : lt f = 0 ∨ lt f = 1) (hp : post (lt f) ((nI T), (nI c), (upd lt f 1), (upd lv f x), hd, cn, yd, pd, kt)) :
    wpY_put post ((nI T), (nI c), lt, lv, hd, cn, yd, pd, kt) (nI f) x := by
  unfold wpY_put; dsimp only
  refine sc_fY hf (br_t rfl ⟨sc_i16 hf, ?_⟩)
  rw [sc_c f hf]
  rcases h01 with e | e
  · rw [e] at hp; exact br_t e (sc_yput24 hf hp)
  · rw [e] at hp; exact br_f (by rw [e]; decide) (sc_yput24 hf hp)
theorem sc_ydel24 {post : Int32 → SY → Prop} {f : Nat} (hf : f < 16) {z : Int32} (hp : post z ((nI T), (nI c), (upd lt f 0), (upd lv f 0), hd, cn, yd, pd, kt)) :
    wY_delete_24 post (nI f) z (nI T) (nI c) lt lv hd cn yd pd kt := by
  unfold wY_delete_24
  exact ⟨sc_i16 hf, nm_r (e' := upd lt f 0) (by rw [sc_c f hf]; rfl) ⟨sc_i16 hf, nm_r (e' := upd lv f 0) (by rw [sc_c f hf]) hp⟩⟩
theorem sc_ydel {post : Int32 → SY → Prop} {f : Nat} (hf : f < 16) (h01 : lt f = 0 ∨ lt f = 1) (hp : post (lt f) ((nI T), (nI c), (upd lt f 0), (upd lv f 0), hd, cn, yd, pd, kt)) :
    wpY_delete post ((nI T), (nI c), lt, lv, hd, cn, yd, pd, kt) (nI f) := by
  unfold wpY_delete; dsimp only
  refine sc_fY hf (br_t rfl ⟨sc_i16 hf, ?_⟩)
  rw [sc_c f hf]
  rcases h01 with e | e
  · rw [e] at hp; exact br_t e (sc_ydel24 hf hp)
  · rw [e] at hp; exact br_f (by rw [e]; decide) (sc_ydel24 hf hp)
theorem sc_rew (x y : Int32) : ∀ (d f : Nat), f + d = 16 → ∀ (sum lm : Int32) (lc tc lt lv : Nat → Int32), sc_R c T o D lm lc od bs en pr co dy pn tc tk lt lv hd cn yd pd →
    ∃ (r lm' : Int32) (lc' tc' lt' lv' : Nat → Int32), sc_R c T o D lm' lc' od bs en pr co dy pn tc' tk lt' lv' hd cn yd pd ∧
      (∀ post : Int32 → SX → Prop, post r (lm', (nI c), (nI T), lc', od, bs, en, pr, co, dy, pn, tc', tk, kp) → wX_rewrite_15 post x y (d + 1) sum (nI f) lm (nI c) (nI T) lc od bs en pr co dy pn tc tk kp) ∧
      (∀ post : Int32 → SY → Prop, post r ((nI T), (nI c), lt', lv', hd, cn, yd, pd, kt) → wY_rewrite_16 post x y (nI T) (nI c) (d + 1) sum (nI f) lt lv hd cn yd pd kt) := by
  intro d
  induction d with
  | zero =>
    intro f hf sum lm lc tc lt lv h
    obtain rfl : f = 16 := by omega
    have e : (16 : Int32) ≤ nI 16 := nI_le (a := 16) (b := 16) (by omega) (by omega)
    exact ⟨sum, lm, lc, tc, lt, lv, h, fun post hp => br_t e hp, fun post hp => br_t e hp⟩
  | succ d ih =>
    intro f hfd sum lm lc tc lt lv h
    have hf : f < 16 := by omega
    have e : ¬ (16 : Int32) ≤ nI f := nI_ge (b := 16) hf (by omega)
    cases hb : bt lm f with
    | false =>
      obtain ⟨r, lm', lc', tc', lt', lv', h', KX, KY⟩ := ih (f + 1) (by omega) sum lm lc tc lt lv h
      refine ⟨r, lm', lc', tc', lt', lv', h', fun post hp => br_f e (sc_has hf ?_), fun post hp => br_f e ⟨sc_i16 hf, br_t ?_ (nm_r (nI_1 f) (KY post hp))⟩⟩
      · exact br_t (by rw [hb]; rfl) (nm_r (nI_1 f) (KX post hp))
      · rw [sc_c f hf]; exact (sc_lt0 h hf).mpr hb
    | true =>
      obtain ⟨lm1, lc1, tc1, h1, K1⟩ := sc_set kp h hf true (x + nI f * y) (x + nI f * y) rfl
      rw [sc_self (f := lt) (by rw [(sc_hL h f hf).1, hb])] at h1
      obtain ⟨r, lm', lc', tc', lt', lv', h', KX, KY⟩ := ih (f + 1) (by omega) (sum + 1) lm1 lc1 tc1 lt (upd lv f (x + nI f * y)) h1
      refine ⟨r, lm', lc', tc', lt', lv', h', fun post hp => br_f e (sc_has hf ?_), fun post hp => br_f e ⟨sc_i16 hf, br_f ?_ ⟨sc_i16 hf, nm_r (e' := upd lv f (x + nI f * y)) (by rw [sc_c f hf]) (nm_e (nm_r (nI_1 f) (KY post hp)))⟩⟩⟩
      · exact br_f (by rw [hb]; decide) (K1 _ (nm_e (nm_r (nI_1 f) (KX post hp))))
      · rw [sc_c f hf]; intro z; rw [(sc_lt0 h hf).mp z] at hb; cases hb
end
theorem i_vc_put {k : Nat} {u : SX} {v : SY} (I : i_Rel k u v) (hk : k + 4 ≤ 2048) (v1 : Int32) (v2 : Int32) : wpX_put (fun r u' => wpY_put (fun r' v' => r' = r ∧ i_Rel (k + 4) u' v') v v1 v2) u v1 v2 := by
  refine sc_el I (fun u v => wpX_put (fun r u' => wpY_put (fun r' v' => r' = r ∧ i_Rel (k + 4) u' v') v v1 v2) u v1 v2) ?_
  intro c T o D lm lc od bs en pr co dy pn tc tk kp lt lv hd cn yd pd kt h
  unfold wpX_put; dsimp only
  rcases sc_f v1 with ⟨f, hf, rfl⟩ | ⟨hx, hy⟩
  · obtain ⟨lm', lc', tc', h', K⟩ := sc_set kp h hf true v2 v2 rfl
    refine sc_fX hf (br_f (by decide) (nm_r (sc_bit lm (by omega)) (K _ ?_)))
    exact sc_yput hf (sc_lt01 h hf) ⟨(sc_hL h f hf).1, sc_mk _ h'⟩
  · refine hx _ (br_t rfl ?_)
    unfold wpY_put; dsimp only
    exact hy _ _ (br_f (by decide) ⟨rfl, sc_mk _ h⟩)
theorem i_vc_delete {k : Nat} {u : SX} {v : SY} (I : i_Rel k u v) (hk : k + 4 ≤ 2048) (v1 : Int32) : wpX_delete (fun r u' => wpY_delete (fun r' v' => r' = r ∧ i_Rel (k + 4) u' v') v v1) u v1 := by
  refine sc_el I (fun u v => wpX_delete (fun r u' => wpY_delete (fun r' v' => r' = r ∧ i_Rel (k + 4) u' v') v v1) u v1) ?_
  intro c T o D lm lc od bs en pr co dy pn tc tk kp lt lv hd cn yd pd kt h
  unfold wpX_delete; dsimp only
  rcases sc_f v1 with ⟨f, hf, rfl⟩ | ⟨hx, hy⟩
  · obtain ⟨lm', lc', tc', h', K⟩ := sc_set kp h hf false 0 0 rfl
    refine sc_fX hf (br_f (by decide) (nm_r (sc_bit lm (by omega)) (K _ ?_)))
    exact sc_ydel hf (sc_lt01 h hf) ⟨(sc_hL h f hf).1, sc_mk _ h'⟩
  · refine hx _ (br_t rfl ?_)
    unfold wpY_delete; dsimp only
    exact hy _ _ (br_f (by decide) ⟨rfl, sc_mk _ h⟩)
theorem i_vc_rename {k : Nat} {u : SX} {v : SY} (I : i_Rel k u v) (hk : k + 4 ≤ 2048) (v1 : Int32) (v2 : Int32) : wpX_rename (fun r u' => wpY_rename (fun r' v' => r' = r ∧ i_Rel (k + 4) u' v') v v1 v2) u v1 v2 := by
  refine sc_el I (fun u v => wpX_rename (fun r u' => wpY_rename (fun r' v' => r' = r ∧ i_Rel (k + 4) u' v') v v1 v2) u v1 v2) ?_
  intro c T o D lm lc od bs en pr co dy pn tc tk kp lt lv hd cn yd pd kt h
  unfold wpX_rename wpY_rename; dsimp only
  rcases sc_f v1 with ⟨f, hf, rfl⟩ | ⟨hx, hy⟩
  · rcases sc_f v2 with ⟨g, hg, rfl⟩ | ⟨hx, hy⟩
    · by_cases e : f = g
      · subst e
        exact sc_fX hf (br_f (by decide) (sc_fX hf (br_f (by decide) (br_t rfl
          (sc_fY hf (br_t rfl (sc_fY hf (br_t rfl (br_t rfl ⟨rfl, sc_mk _ h⟩)))))))))
      · have ne : ¬ nI f = nI g := fun z => e ((nI_eq (by omega) (by omega)).mp z)
        cases hb : bt lm f with
        | false =>
          refine sc_fX hf (br_f (by decide) (sc_fX hg (br_f (by decide) (br_f ne (sc_has hf (br_t (by rw [hb]; rfl)
            (sc_fY hf (br_t rfl (sc_fY hg (br_t rfl (br_f ne ⟨sc_i16 hf, br_t ?_ ⟨rfl, sc_mk _ h⟩⟩)))))))))))
          rw [sc_c f hf]; exact (sc_lt0 h hf).mpr hb
        | true =>
          obtain ⟨lm1, lc1, tc1, h1, K1⟩ := sc_set kp h hg true (lc f) (lc f) rfl
          obtain ⟨lm2, lc2, tc2, h2, K2⟩ := sc_set kp h1 hf false 0 0 rfl
          refine sc_fX hf (br_f (by decide) (sc_fX hg (br_f (by decide) (br_f ne (sc_has hf (br_f (by rw [hb]; decide) ⟨sc_i16 hf, ?_⟩))))))
          rw [sc_c f hf]
          refine K1 _ (K2 _ ?_)
          refine sc_fY hf (br_t rfl (sc_fY hg (br_t rfl (br_f ne ⟨sc_i16 hf, br_f ?_ ⟨sc_i16 hg, nm_r (e' := upd lt g 1) ?_ ⟨sc_i16 hf, sc_i16 hg, nm_r (e' := upd lv g (lc f)) ?_ ⟨sc_i16 hf, nm_r (e' := upd (upd lt g 1) f 0) ?_ ⟨sc_i16 hf, nm_r (e' := upd (upd lv g (lc f)) f 0) ?_ ⟨rfl, sc_mk _ h2⟩⟩⟩⟩⟩⟩))))
          · intro z; rw [(sc_lt0 h hf).mp z] at hb; cases hb
          · rw [sc_c g hg]; rfl
          · rw [sc_c g hg, (sc_hL h f hf).2.1]
          · rw [sc_n0]
          · rfl
    · exact sc_fX hf (br_f (by decide) (hx _ (br_t rfl (sc_fY hf (br_t rfl (hy _ _ (br_f (by decide) ⟨rfl, sc_mk _ h⟩)))))))
  · exact hx _ (br_t rfl (hy _ _ (br_f (by decide) ⟨rfl, sc_mk _ h⟩)))
theorem i_vc_rewrite {k : Nat} {u : SX} {v : SY} (I : i_Rel k u v) (hk : k + 4 ≤ 2048) (v1 : Int32) (v2 : Int32) (v3 : Int32) : wpX_rewrite (fun r u' => wpY_rewrite (fun r' v' => r' = r ∧ i_Rel (k + 4) u' v') v v1 v2 v3) u v1 v2 v3 := by
  refine sc_el I (fun u v => wpX_rewrite (fun r u' => wpY_rewrite (fun r' v' => r' = r ∧ i_Rel (k + 4) u' v') v v1 v2 v3) u v1 v2 v3) ?_
  intro c T o D lm lc od bs en pr co dy pn tc tk kp lt lv hd cn yd pd kt h
  unfold wpX_rewrite wpY_rewrite; dsimp only
  rcases sc_f v1 with ⟨f, hf, rfl⟩ | ⟨hx, hy⟩
  · obtain ⟨r, lm', lc', tc', lt', lv', h', KX, KY⟩ := sc_rew (kp := kp) (kt := kt) v2 v3 (16 - f) f (by omega) 0 lm lc tc lt lv h
    exact sc_fX hf (br_f (by decide) ⟨_, KX _ (sc_fY hf (br_t rfl ⟨_, KY _ ⟨rfl, sc_mk _ h'⟩⟩))⟩)
  · exact hx _ (br_t rfl (hy _ _ (br_f (by decide) ⟨rfl, sc_mk _ h⟩)))
end
section
/-! holder, isLive, changed, differs, bring -/
section
variable {lm : Int32} {c T : Nat} {lc od bs en pr co dy pn tc tk kp : Nat → Int32} {lt lv hd cn yd pd kt : Nat → Int32} {o D : Nat → Nat}
theorem sc_hold5 (kp : Nat → Int32) (h : sc_R c T o D lm lc od bs en pr co dy pn tc tk lt lv hd cn yd pd) {f : Nat} (hf : f < 16) : ∀ m q : Nat, q < m → q < c → ∀ k, k + q ≤ 13 →
    ∃ s, s < 14 ∧ hd (16 * q + f) = sc_b (bt (pr s) f) ∧ cn (16 * q + f) = co (16 * s + f) ∧
      ∀ n, q < n → ∀ post : Int32 → Prop, post (nI s) → wX_holder_5 post (nI f) lm (nI c) (nI T) lc od bs en pr co dy pn tc tk kp n (nI (o q)) (nI k) := by
  intro m
  induction m with
  | zero => intro q hq; exact absurd hq (by omega)
  | succ m ih =>
    intro q hqm hq k hk
    have ho := sc_o h hq
    have e14 : ¬ (14 : Int32) ≤ nI k := nI_ge (b := 14) (by omega) (by omega)
    cases hb : bt (en (o q)) f with
    | true =>
      obtain ⟨a1, a2⟩ := (sc_hE h q f hq hf).1 hb
      refine ⟨o q, ho, a1, a2, fun n hn post hp => ?_⟩
      obtain ⟨n, rfl⟩ : ∃ n', n = n' + 1 := ⟨n - 1, by omega⟩
      refine br_f e14 ⟨sc_i14 ho, sc_has hf ?_⟩
      rw [sc_c _ (by omega), hb]
      exact br_f (by decide) hp
    | false =>
      rcases sc_hB h q hq with ⟨b1, b2⟩ | ⟨q', hq', b1, b2⟩
      · rw [b2 f hf] at hb; cases hb
      · obtain ⟨s, hs, a1, a2, K⟩ := ih q' (by omega) (by omega) (k + 1) (by omega)
        obtain ⟨c1, c2⟩ := b2 f hf hb
        refine ⟨s, hs, by rw [c1, a1], by rw [c2, a2], fun n hn post hp => ?_⟩
        obtain ⟨n, rfl⟩ : ∃ n', n = n' + 1 := ⟨n - 1, by omega⟩
        refine br_f e14 ⟨sc_i14 ho, sc_has hf ?_⟩
        rw [sc_c _ (by omega), hb]
        refine br_t rfl ⟨sc_i14 ho, ?_⟩
        rw [b1]
        exact br_f (sc_m1 (sc_o h (by omega : q' < c))) ⟨sc_i14 ho, nm_e (nm_r (nI_1 k) (K n (by omega) post hp))⟩
theorem sc_hold (kp : Nat → Int32) (h : sc_R c T o D lm lc od bs en pr co dy pn tc tk lt lv hd cn yd pd) {p f : Nat} (hp : p < c) (hf : f < 16) :
    ∃ s, s < 14 ∧ hd (16 * p + f) = sc_b (bt (pr s) f) ∧ cn (16 * p + f) = co (16 * s + f) ∧
      ∀ post : Int32 → Prop, post (nI s) → wpX_holder post (lm, (nI c), (nI T), lc, od, bs, en, pr, co, dy, pn, tc, tk, kp) (nI (o p)) (nI f) := by
  have hc := sc_hc h
  obtain ⟨s, hs, a1, a2, K⟩ := sc_hold5 kp h hf (p + 1) p (by omega) hp 0 (by omega)
  exact ⟨s, hs, a1, a2, fun post hpost => by
    unfold wpX_holder; dsimp only
    exact ⟨p + 1, K (p + 1) (by omega) post hpost⟩⟩
theorem sc_isLive (h : sc_R c T o D lm lc od bs en pr co dy pn tc tk lt lv hd cn yd pd) {p f : Nat} (hp : p < c) (hf : f < 16) {post : Int32 → Prop}
    (h1 : hd (16 * p + f) = lt f ∧ cn (16 * p + f) = lv f → post 1) (h0 : ¬ (hd (16 * p + f) = lt f ∧ cn (16 * p + f) = lv f) → post 0) :
    wpX_isLive post (lm, (nI c), (nI T), lc, od, bs, en, pr, co, dy, pn, tc, tk, kp) (nI (o p)) (nI f) := by
  obtain ⟨s, hs, a1, a2, K⟩ := sc_hold kp h hp hf
  obtain ⟨l1, l2, l3⟩ := sc_hL h f hf
  have hH := (sc_hH h p f hp hf).2
  unfold wpX_isLive; dsimp only
  refine K _ ⟨sc_i14 hs, sc_has hf (sc_has hf ?_)⟩
  rw [sc_c s (by omega), ← a1, ← l1]
  by_cases e : hd (16 * p + f) = lt f
  · refine br_t e (sc_has hf ?_)
    rw [← l1]
    by_cases z : lt f = 0
    · refine br_t z (h1 ⟨e, ?_⟩)
      rw [hH (e.trans z), l2, l3 ((sc_lt0 h hf).mp z)]
    · refine br_f z ⟨sc_in hs hf, sc_i16 hf, ?_⟩
      rw [sc_cl hs hf, sc_c f hf, ← a2, ← l2]
      exact br_c (fun y => h1 ⟨e, y⟩) (fun y => h0 (fun w => y w.2))
  · exact br_f e (h0 (fun w => e w.1))
theorem sc_changed (hc : c ≤ 14) {p f : Nat} (hp : p < c) (hf : f < 16) {post : Int32 → Prop}
    (h0 : hd (16 * p + f) = lt f ∧ cn (16 * p + f) = lv f → post 0) (h1 : ¬ (hd (16 * p + f) = lt f ∧ cn (16 * p + f) = lv f) → post 1) :
    wpY_changed post ((nI T), (nI c), lt, lv, hd, cn, yd, pd, kt) (nI p) (nI f) := by
  have hp' : p < 14 := by omega
  unfold wpY_changed; dsimp only
  refine ⟨sc_i16 hf, sc_in hp' hf, ?_⟩
  rw [sc_cl hp' hf, sc_c f hf]
  by_cases e : lt f = hd (16 * p + f)
  · exact br_t e ⟨sc_i16 hf, sc_in hp' hf, br_c (fun y => h0 ⟨e.symm, y.symm⟩) (fun y => h1 (fun w => y w.2.symm))⟩
  · exact br_f e (h1 (fun w => e w.1.symm))
theorem sc_diffX (h : sc_R c T o D lm lc od bs en pr co dy pn tc tk lt lv hd cn yd pd) {p q f : Nat} (hp : p < c) (hq : q < c) (hf : f < 16) {post : Int32 → Prop}
    (h0 : hd (16 * p + f) = hd (16 * q + f) ∧ cn (16 * p + f) = cn (16 * q + f) → post 0)
    (h1 : ¬ (hd (16 * p + f) = hd (16 * q + f) ∧ cn (16 * p + f) = cn (16 * q + f)) → post 1) :
    wpX_differs post (lm, (nI c), (nI T), lc, od, bs, en, pr, co, dy, pn, tc, tk, kp) (nI (o p)) (nI (o q)) (nI f) := by
  obtain ⟨s, hs, a1, a2, K⟩ := sc_hold kp h hp hf
  obtain ⟨t, ht, b1, b2, K2⟩ := sc_hold kp h hq hf
  have hHp := (sc_hH h p f hp hf).2
  have hHq := (sc_hH h q f hq hf).2
  unfold wpX_differs; dsimp only
  refine K _ (K2 _ ?_)
  by_cases e : s = t
  · subst e
    exact br_t rfl (h0 ⟨by rw [a1, b1], by rw [a2, b2]⟩)
  · refine br_f (fun z => e ((nI_eq (by omega) (by omega)).mp z)) ⟨sc_i14 hs, sc_has hf ⟨sc_i14 ht, sc_has hf ?_⟩⟩
    rw [sc_c s (by omega), sc_c t (by omega), ← a1, ← b1]
    by_cases e2 : hd (16 * p + f) = hd (16 * q + f)
    · refine br_t e2 ⟨sc_i14 hs, sc_has hf ?_⟩
      rw [← a1]
      by_cases z : hd (16 * p + f) = 0
      · exact br_t z (h0 ⟨e2, by rw [hHp z, hHq (e2 ▸ z)]⟩)
      · refine br_f z ⟨sc_in hs hf, sc_in ht hf, ?_⟩
        rw [sc_cl hs hf, sc_cl ht hf, ← a2, ← b2]
        exact br_c (fun y => h0 ⟨e2, y⟩) (fun y => h1 (fun w => y w.2))
    · exact br_f e2 (h1 (fun w => e2 w.1))
theorem sc_diffY (hc : c ≤ 14) {p q f : Nat} (hp : p < c) (hq : q < c) (hf : f < 16) {post : Int32 → Prop}
    (h0 : hd (16 * p + f) = hd (16 * q + f) ∧ cn (16 * p + f) = cn (16 * q + f) → post 0)
    (h1 : ¬ (hd (16 * p + f) = hd (16 * q + f) ∧ cn (16 * p + f) = cn (16 * q + f)) → post 1) :
    wpY_differ post ((nI T), (nI c), lt, lv, hd, cn, yd, pd, kt) (nI p) (nI q) (nI f) := by
  have hp' : p < 14 := by omega
  have hq' : q < 14 := by omega
  unfold wpY_differ; dsimp only
  refine ⟨sc_in hp' hf, sc_in hq' hf, ?_⟩
  rw [sc_cl hp' hf, sc_cl hq' hf]
  by_cases e : hd (16 * p + f) = hd (16 * q + f)
  · exact br_t e ⟨sc_in hp' hf, sc_in hq' hf, br_c (fun y => h0 ⟨e, y⟩) (fun y => h1 (fun w => y w.2))⟩
  · exact br_f e (h1 (fun w => e w.1))
theorem sc_bring (kp : Nat → Int32) (h : sc_R c T o D lm lc od bs en pr co dy pn tc tk lt lv hd cn yd pd) {p f : Nat} (hp : p < c) (hf : f < 16) :
    ∃ (r lm' : Int32) (lc' tc' : Nat → Int32), sc_R c T o D lm' lc' od bs en pr co dy pn tc' tk (upd lt f (hd (16 * p + f))) (upd lv f (cn (16 * p + f))) hd cn yd pd ∧
      ((hd (16 * p + f) = lt f ∧ cn (16 * p + f) = lv f) ∧ r = 0 ∨ ¬ (hd (16 * p + f) = lt f ∧ cn (16 * p + f) = lv f) ∧ r = 1) ∧
      ∀ post : Int32 → SX → Prop, post r (lm', (nI c), (nI T), lc', od, bs, en, pr, co, dy, pn, tc', tk, kp) → wpX_bring post (lm, (nI c), (nI T), lc, od, bs, en, pr, co, dy, pn, tc, tk, kp) (nI (o p)) (nI f) := by
  have ho := sc_o h hp
  by_cases P : hd (16 * p + f) = lt f ∧ cn (16 * p + f) = lv f
  · refine ⟨0, lm, lc, tc, ?_, Or.inl ⟨P, rfl⟩, fun post hpost => ?_⟩
    · rw [sc_self P.1.symm, sc_self P.2.symm]; exact h
    · unfold wpX_bring; dsimp only
      refine ⟨sc_i14 ho, sc_has hf ?_⟩
      exact br_c (fun _ => hpost) (fun _ => sc_isLive h hp hf (fun _ => br_f (by decide) hpost) (fun z => absurd P z))
  · obtain ⟨s, hs, a1, a2, K⟩ := sc_hold kp h hp hf
    have hH := (sc_hH h p f hp hf).2
    obtain ⟨lm', lc', tc', h', K'⟩ := sc_set kp h hf (bt (pr s) f) (co (16 * s + f)) (cn (16 * p + f)) (by
      cases hb : bt (pr s) f with
      | false => rw [hb] at a1; rw [hH a1]; rfl
      | true => rw [a2]; rfl)
    rw [← a1] at h'
    refine ⟨1, lm', lc', tc', h', Or.inr ⟨P, rfl⟩, fun post hpost => ?_⟩
    unfold wpX_bring; dsimp only
    refine ⟨sc_i14 ho, sc_has hf ?_⟩
    rw [sc_c _ (by omega)]
    have ht : bt (tc (o p)) f = true := by
      cases hb : bt (tc (o p)) f with
      | false => exact absurd (sc_hTc h p f hp hf hb) P
      | true => rfl
    rw [ht]
    refine br_f (by decide) (sc_isLive h hp hf (fun z => absurd z P) (fun _ => br_t rfl (K _ ⟨sc_i14 hs, sc_has hf ⟨sc_in hs hf, ?_⟩⟩)))
    rw [sc_c s (by omega), sc_cl hs hf]
    exact K' _ hpost
theorem sc_back {post : SY → Prop} (hc : c ≤ 14) (hH : sc_H c hd cn) {p f : Nat} (hp : p < c) (hf : f < 16)
    (h : post ((nI T), (nI c), (upd lt f (hd (16 * p + f))), (upd lv f (cn (16 * p + f))), hd, cn, yd, pd, kt)) : wpY_back post ((nI T), (nI c), lt, lv, hd, cn, yd, pd, kt) (nI p) (nI f) := by
  have hp' : p < 14 := by omega
  unfold wpY_back; dsimp only
  exact ⟨sc_in hp' hf, sc_i16 hf, nm_r (e' := upd lt f (hd (16 * p + f))) (by rw [sc_c f hf, sc_cl hp' hf, sc_nar (hH p f hp hf).1])
    ⟨sc_in hp' hf, sc_i16 hf, nm_r (e' := upd lv f (cn (16 * p + f))) (by rw [sc_c f hf, sc_cl hp' hf]) h⟩⟩
theorem sc_rest (p : Nat) (hp : p < c) : ∀ (d f : Nat), f + d = 16 → ∀ (sum lm : Int32) (lc tc lt lv : Nat → Int32), sc_R c T o D lm lc od bs en pr co dy pn tc tk lt lv hd cn yd pd →
    ∃ (r lm' : Int32) (lc' tc' lt' lv' : Nat → Int32), sc_R c T o D lm' lc' od bs en pr co dy pn tc' tk lt' lv' hd cn yd pd ∧
      (∀ post : Int32 → SX → Prop, post r (lm', (nI c), (nI T), lc', od, bs, en, pr, co, dy, pn, tc', tk, kp) → wX_restore_14 post (nI p) (d + 1) sum (nI f) lm (nI c) (nI T) lc od bs en pr co dy pn tc tk kp) ∧
      (∀ post : Int32 → SY → Prop, post r ((nI T), (nI c), lt', lv', hd, cn, yd, pd, kt) → wY_restore_14 post (nI p) (d + 1) sum (nI f) (nI T) (nI c) lt lv hd cn yd pd kt) := by
  intro d
  induction d with
  | zero =>
    intro f hf sum lm lc tc lt lv h
    obtain rfl : f = 16 := by omega
    have e : (16 : Int32) ≤ nI 16 := nI_le (a := 16) (b := 16) (by omega) (by omega)
    exact ⟨sum, lm, lc, tc, lt, lv, h, fun post hp => br_t e hp, fun post hp => br_t e hp⟩
  | succ d ih =>
    intro f hfd sum lm lc tc lt lv h
    have hf : f < 16 := by omega
    have hc := sc_hc h
    have hp' : p < 14 := by omega
    have e : ¬ (16 : Int32) ≤ nI f := nI_ge (b := 16) hf (by omega)
    obtain ⟨r1, lm1, lc1, tc1, h1, hr, K⟩ := sc_bring kp h hp hf
    obtain ⟨r, lm', lc', tc', lt', lv', h', KX, KY⟩ := ih (f + 1) (by omega) (sum + r1) lm1 lc1 tc1 _ _ h1
    refine ⟨r, lm', lc', tc', lt', lv', h', fun post hpost => br_f e ⟨sc_i14 hp', ?_⟩, fun post hpost => br_f e ?_⟩
    · rw [sc_c p (by omega), sc_od h hp]
      exact K _ (nm_e (nm_r (nI_1 f) (KX post hpost)))
    · rcases hr with ⟨P, rfl⟩ | ⟨P, rfl⟩
      · rw [Int32.add_zero] at KY
        refine sc_changed hc hp hf (fun _ => br_t rfl ?_) (fun z => absurd P z)
        unfold wY_restore_32
        exact sc_back hc (sc_hH h) hp hf (nm_r (nI_1 f) (KY post hpost))
      · refine sc_changed hc hp hf (fun z => absurd z P) (fun _ => br_f (by decide) (nm_e ?_))
        unfold wY_restore_32
        exact sc_back hc (sc_hH h) hp hf (nm_r (nI_1 f) (KY post hpost))
theorem sc_dfg (kp kt : Nat → Int32) (h : sc_R c T o D lm lc od bs en pr co dy pn tc tk lt lv hd cn yd pd) {p q : Nat} (hp : p < c) (hq : q < c) : ∀ (d f : Nat), f + d = 16 → ∀ (sum : Int32),
    ∃ r : Int32, (∀ post : Int32 → Prop, post r → wX_differing_23 post (nI p) (nI q) lm (nI c) (nI T) lc od bs en pr co dy pn tc tk kp (d + 1) sum (nI f)) ∧
      (∀ post : Int32 → Prop, post r → wY_differing_23 post (nI p) (nI q) (nI T) (nI c) lt lv hd cn yd pd kt (d + 1) sum (nI f)) := by
  have hc := sc_hc h
  intro d
  induction d with
  | zero =>
    intro f hf sum
    obtain rfl : f = 16 := by omega
    have e : (16 : Int32) ≤ nI 16 := nI_le (a := 16) (b := 16) (by omega) (by omega)
    exact ⟨sum, fun post hp => br_t e hp, fun post hp => br_t e hp⟩
  | succ d ih =>
    intro f hfd sum
    have hf : f < 16 := by omega
    have e : ¬ (16 : Int32) ≤ nI f := nI_ge (b := 16) hf (by omega)
    by_cases P : hd (16 * p + f) = hd (16 * q + f) ∧ cn (16 * p + f) = cn (16 * q + f)
    · obtain ⟨r, KX, KY⟩ := ih (f + 1) (by omega) sum
      refine ⟨r, fun post hpost => br_f e ⟨sc_i14 (by omega), sc_i14 (by omega), ?_⟩, fun post hpost => br_f e ?_⟩
      · rw [sc_c p (by omega), sc_c q (by omega), sc_od h hp, sc_od h hq]
        exact sc_diffX h hp hq hf (fun _ => br_t rfl (nm_r (nI_1 f) (KX post hpost))) (fun z => absurd P z)
      · exact sc_diffY hc hp hq hf (fun _ => br_t rfl (nm_r (nI_1 f) (KY post hpost))) (fun z => absurd P z)
    · obtain ⟨r, KX, KY⟩ := ih (f + 1) (by omega) (sum + 1)
      refine ⟨r, fun post hpost => br_f e ⟨sc_i14 (by omega), sc_i14 (by omega), ?_⟩, fun post hpost => br_f e ?_⟩
      · rw [sc_c p (by omega), sc_c q (by omega), sc_od h hp, sc_od h hq]
        exact sc_diffX h hp hq hf (fun z => absurd z P) (fun _ => br_f (by decide) (nm_e (nm_r (nI_1 f) (KX post hpost))))
      · exact sc_diffY hc hp hq hf (fun z => absurd z P) (fun _ => br_f (by decide) (nm_e (nm_r (nI_1 f) (KY post hpost))))
theorem sc_chs (kp kt : Nat → Int32) (h : sc_R c T o D lm lc od bs en pr co dy pn tc tk lt lv hd cn yd pd) {p : Nat} (hp : p < c) : ∀ (d f : Nat), f + d = 16 → ∀ (sum : Int32),
    ∃ r : Int32, (∀ post : Int32 → Prop, post r → wX_changedSince_22 post (nI (o p)) lm (nI c) (nI T) lc od bs en pr co dy pn tc tk kp (d + 1) sum (nI f)) ∧
      (∀ post : Int32 → Prop, post r → wY_changedSince_14 post (nI p) (nI T) (nI c) lt lv hd cn yd pd kt (d + 1) sum (nI f)) := by
  have hc := sc_hc h
  intro d
  induction d with
  | zero =>
    intro f hf sum
    obtain rfl : f = 16 := by omega
    have e : (16 : Int32) ≤ nI 16 := nI_le (a := 16) (b := 16) (by omega) (by omega)
    exact ⟨sum, fun post hp => br_t e hp, fun post hp => br_t e hp⟩
  | succ d ih =>
    intro f hfd sum
    have hf : f < 16 := by omega
    have e : ¬ (16 : Int32) ≤ nI f := nI_ge (b := 16) hf (by omega)
    have ho := sc_o h hp
    by_cases P : hd (16 * p + f) = lt f ∧ cn (16 * p + f) = lv f
    · obtain ⟨r, KX, KY⟩ := ih (f + 1) (by omega) sum
      refine ⟨r, fun post hpost => br_f e ⟨sc_i14 ho, sc_has hf (br_c (fun _ => nm_r (nI_1 f) (KX post hpost)) (fun _ => ?_))⟩, fun post hpost => br_f e ?_⟩
      · exact sc_isLive h hp hf (fun _ => br_f (by decide) (nm_r (nI_1 f) (KX post hpost))) (fun z => absurd P z)
      · exact sc_changed hc hp hf (fun _ => br_t rfl (nm_r (nI_1 f) (KY post hpost))) (fun z => absurd P z)
    · obtain ⟨r, KX, KY⟩ := ih (f + 1) (by omega) (sum + 1)
      have ht : bt (tc (o p)) f = true := by
        cases hb : bt (tc (o p)) f with
        | false => exact absurd (sc_hTc h p f hp hf hb) P
        | true => rfl
      refine ⟨r, fun post hpost => br_f e ⟨sc_i14 ho, sc_has hf (br_f ?_ ?_)⟩, fun post hpost => br_f e ?_⟩
      · rw [sc_c _ (by omega), ht]; decide
      · exact sc_isLive h hp hf (fun z => absurd z P) (fun _ => br_t rfl (nm_e (nm_r (nI_1 f) (KX post hpost))))
      · exact sc_changed hc hp hf (fun z => absurd z P) (fun _ => br_f (by decide) (nm_e (nm_r (nI_1 f) (KY post hpost))))
theorem sc_ver (kp kt : Nat → Int32) (h : sc_R c T o D lm lc od bs en pr co dy pn tc tk lt lv hd cn yd pd) {f : Nat} (hf : f < 16) : ∀ (d p : Nat), p + 1 + d = c ∨ c ≤ p + 1 ∧ d = 0 → ∀ (sum : Int32), p + 1 < 16 →
    ∃ r : Int32, (∀ post : Int32 → Prop, post r → wX_versions_13 post (nI f) lm (nI c) (nI T) lc od bs en pr co dy pn tc tk kp (d + 1) sum (nI (p + 1))) ∧
      (∀ post : Int32 → Prop, post r → wY_versions_14 post (nI f) (nI T) (nI c) lt lv hd cn yd pd kt (d + 1) sum (nI (p + 1))) := by
  have hc := sc_hc h
  intro d
  induction d with
  | zero =>
    intro p hp sum hp16
    have e : nI c ≤ nI (p + 1) := nI_le (by omega) (by omega)
    exact ⟨sum, fun post hp => br_t e hp, fun post hp => br_t e hp⟩
  | succ d ih =>
    intro p hpd sum hp16
    have hp : p + 1 < c := by omega
    have hp0 : p < c := by omega
    have e : ¬ nI c ≤ nI (p + 1) := nI_ge hp (by omega)
    have e14 : ¬ (14 : Int32) ≤ nI (p + 1) := nI_ge (b := 14) (by omega) (by omega)
    by_cases P : hd (16 * p + f) = hd (16 * (p + 1) + f) ∧ cn (16 * p + f) = cn (16 * (p + 1) + f)
    · obtain ⟨r, KX, KY⟩ := ih (p + 1) (by omega) sum (by omega)
      have P' : hd (16 * (p + 1) + f) = hd (16 * p + f) ∧ cn (16 * (p + 1) + f) = cn (16 * p + f) := ⟨P.1.symm, P.2.symm⟩
      refine ⟨r, fun post hpost => br_f e ?_, fun post hpost => br_f e (br_f e14 ?_)⟩
      · rw [nI_pred]
        refine ⟨sc_i14 (by omega), sc_i14 (by omega), ?_⟩
        rw [sc_c p (by omega), sc_c (p + 1) (by omega), sc_od h hp0, sc_od h hp]
        exact sc_diffX h hp0 hp hf (fun _ => br_t rfl (nm_r (nI_1 _) (KX post hpost))) (fun z => absurd P z)
      · rw [nI_pred]
        exact sc_diffY hc hp hp0 hf (fun _ => br_t rfl (nm_r (nI_1 _) (KY post hpost))) (fun z => absurd P' z)
    · obtain ⟨r, KX, KY⟩ := ih (p + 1) (by omega) (sum + 1) (by omega)
      have P' : ¬ (hd (16 * (p + 1) + f) = hd (16 * p + f) ∧ cn (16 * (p + 1) + f) = cn (16 * p + f)) := fun w => P ⟨w.1.symm, w.2.symm⟩
      refine ⟨r, fun post hpost => br_f e ?_, fun post hpost => br_f e (br_f e14 ?_)⟩
      · rw [nI_pred]
        refine ⟨sc_i14 (by omega), sc_i14 (by omega), ?_⟩
        rw [sc_c p (by omega), sc_c (p + 1) (by omega), sc_od h hp0, sc_od h hp]
        exact sc_diffX h hp0 hp hf (fun z => absurd z P) (fun _ => br_f (by decide) (nm_e (nm_r (nI_1 _) (KX post hpost))))
      · rw [nI_pred]
        exact sc_diffY hc hp hp0 hf (fun z => absurd z P') (fun _ => br_f (by decide) (nm_e (nm_r (nI_1 _) (KY post hpost))))
theorem sc_sm (kp kt : Nat → Int32) (h : sc_R c T o D lm lc od bs en pr co dy pn tc tk lt lv hd cn yd pd) {p : Nat} (hp : p < c) : ∀ (d f : Nat), f + d = 16 → ∀ (sum : Int32),
    ∃ r : Int32, (∀ post : Int32 → Prop, post r → wX_sum_14 post (nI p) lm (nI c) (nI T) lc od bs en pr co dy pn tc tk kp (d + 1) sum (nI f)) ∧
      (∀ post : Int32 → Prop, post r → wY_sum_14 post (nI p) (nI T) (nI c) lt lv hd cn yd pd kt (d + 1) sum (nI f)) := by
  have hc := sc_hc h
  intro d
  induction d with
  | zero =>
    intro f hf sum
    obtain rfl : f = 16 := by omega
    have e : (16 : Int32) ≤ nI 16 := nI_le (a := 16) (b := 16) (by omega) (by omega)
    exact ⟨sum, fun post hp => br_t e hp, fun post hp => br_t e hp⟩
  | succ d ih =>
    intro f hfd sum
    have hf : f < 16 := by omega
    have hp' : p < 14 := by omega
    have e : ¬ (16 : Int32) ≤ nI f := nI_ge (b := 16) hf (by omega)
    obtain ⟨s, hs, a1, a2, K⟩ := sc_hold kp h hp hf
    by_cases z : hd (16 * p + f) = 0
    · obtain ⟨r, KX, KY⟩ := ih (f + 1) (by omega) sum
      refine ⟨r, fun post hpost => br_f e ⟨sc_i14 hp', ?_⟩, fun post hpost => br_f e ⟨sc_in hp' hf, br_t ?_ (nm_r (nI_1 f) (KY post hpost))⟩⟩
      · rw [sc_c p (by omega), sc_od h hp]
        refine K _ ⟨sc_i14 hs, sc_has hf ?_⟩
        rw [sc_c s (by omega), ← a1]
        exact br_t z (nm_r (Int32.add_zero sum) (nm_r (nI_1 f) (KX post hpost)))
      · rw [sc_cl hp' hf]; exact z
    · obtain ⟨r, KX, KY⟩ := ih (f + 1) (by omega) (sum + cn (16 * p + f))
      refine ⟨r, fun post hpost => br_f e ⟨sc_i14 hp', ?_⟩, fun post hpost => br_f e ⟨sc_in hp' hf, br_f ?_ ⟨sc_in hp' hf, nm_r (e' := sum + cn (16 * p + f)) ?_ (nm_r (nI_1 f) (KY post hpost))⟩⟩⟩
      · rw [sc_c p (by omega), sc_od h hp]
        refine K _ ⟨sc_i14 hs, sc_has hf ?_⟩
        rw [sc_c s (by omega), ← a1]
        refine br_f z ⟨sc_in hs hf, nm_r (e' := sum + cn (16 * p + f)) ?_ (nm_r (nI_1 f) (KX post hpost))⟩
        rw [sc_cl hs hf, a2]
      · rw [sc_cl hp' hf]; exact z
      · rw [sc_cl hp' hf]
end
end
section
/-! the owed rows of the methods that read, and of restore, restoreFile, advance, pin -/
theorem i_vc_restore {k : Nat} {u : SX} {v : SY} (I : i_Rel k u v) (hk : k + 4 ≤ 2048) (v1 : Int32) : wpX_restore (fun r u' => wpY_restore (fun r' v' => r' = r ∧ i_Rel (k + 4) u' v') v v1) u v1 := by
  refine sc_el I (fun u v => wpX_restore (fun r u' => wpY_restore (fun r' v' => r' = r ∧ i_Rel (k + 4) u' v') v v1) u v1) ?_
  intro c T o D lm lc od bs en pr co dy pn tc tk kp lt lv hd cn yd pd kt h
  unfold wpX_restore wpY_restore; dsimp only
  have hc := sc_hc h
  rcases sc_p v1 c hc with ⟨p, hp, rfl⟩ | ⟨hx, hy⟩
  · obtain ⟨r, lm', lc', tc', lt', lv', h', KX, KY⟩ := sc_rest (kp := kp) (kt := kt) p hp 16 0 rfl 0 lm lc tc lt lv h
    exact sc_pX hc hp (br_f (by decide) ⟨_, KX _ (sc_pY hc hp (br_t rfl ⟨_, KY _ ⟨rfl, sc_mk _ h'⟩⟩))⟩)
  · exact hx _ _ _ _ _ _ _ _ _ _ _ _ _ _ (br_t rfl (hy _ _ _ _ _ _ _ _ _ (br_f (by decide) ⟨rfl, sc_mk _ h⟩)))
theorem i_vc_restoreFile {k : Nat} {u : SX} {v : SY} (I : i_Rel k u v) (hk : k + 4 ≤ 2048) (v1 : Int32) (v2 : Int32) : wpX_restoreFile (fun r u' => wpY_restoreFile (fun r' v' => r' = r ∧ i_Rel (k + 4) u' v') v v1 v2) u v1 v2 := by
  refine sc_el I (fun u v => wpX_restoreFile (fun r u' => wpY_restoreFile (fun r' v' => r' = r ∧ i_Rel (k + 4) u' v') v v1 v2) u v1 v2) ?_
  intro c T o D lm lc od bs en pr co dy pn tc tk kp lt lv hd cn yd pd kt h
  unfold wpX_restoreFile wpY_restoreFile; dsimp only
  have hc := sc_hc h
  rcases sc_p v1 c hc with ⟨p, hp, rfl⟩ | ⟨hx, hy⟩
  · rcases sc_f v2 with ⟨f, hf, rfl⟩ | ⟨hx, hy⟩
    · obtain ⟨r, lm', lc', tc', h', hr, K⟩ := sc_bring kp h hp hf
      refine sc_pX hc hp (br_f (by decide) (sc_fX hf (br_f (by decide) ⟨sc_i14 (by omega), ?_⟩)))
      rw [sc_c p (by omega), sc_od h hp]
      refine K _ (sc_pY hc hp (br_t rfl (sc_fY hf (br_t rfl ?_))))
      rcases hr with ⟨P, rfl⟩ | ⟨P, rfl⟩
      · refine sc_changed hc hp hf (fun _ => br_t rfl ?_) (fun z => absurd P z)
        unfold wY_restoreFile_35
        exact sc_back hc (sc_hH h) hp hf ⟨rfl, sc_mk _ h'⟩
      · refine sc_changed hc hp hf (fun z => absurd z P) (fun _ => br_f (by decide) ?_)
        unfold wY_restoreFile_35
        exact sc_back hc (sc_hH h) hp hf ⟨rfl, sc_mk _ h'⟩
    · exact sc_pX hc hp (br_f (by decide) (hx _ (br_t rfl (sc_pY hc hp (br_t rfl (hy _ _ (br_f (by decide) ⟨rfl, sc_mk _ h⟩)))))))
  · exact hx _ _ _ _ _ _ _ _ _ _ _ _ _ _ (br_t rfl (hy _ _ _ _ _ _ _ _ _ (br_f (by decide) ⟨rfl, sc_mk _ h⟩)))
theorem i_vc_advance {k : Nat} {u : SX} {v : SY} (I : i_Rel k u v) (hk : k + 4 ≤ 2048) (v1 : Int32) : wpX_advance (fun r u' => wpY_advance (fun r' v' => r' = r ∧ i_Rel (k + 4) u' v') v v1) u v1 := by
  refine sc_el I (fun u v => wpX_advance (fun r u' => wpY_advance (fun r' v' => r' = r ∧ i_Rel (k + 4) u' v') v v1) u v1) ?_
  intro c T o D lm lc od bs en pr co dy pn tc tk kp lt lv hd cn yd pd kt h
  unfold wpX_advance wpY_advance; dsimp only
  have hT := sc_hT h
  by_cases h1 : v1 < 1
  · exact br_t h1 (br_t h1 ⟨rfl, sc_mk _ h⟩)
  · by_cases h60 : v1 ≤ 60
    · have h0 : ¬ v1 < 0 := fun z => h1 (Int32.lt_trans z (by decide))
      obtain ⟨j, hj, rfl⟩ := nI_of2 (M := 60) (n := 60) (by decide) h0 h60
      by_cases h5 : nI T + nI j ≤ 5000
      · refine br_f h1 (br_t h60 (br_t h5 (nm_r (nI_add T j) (br_f h1 (br_t h60 (br_t h5 (nm_r (nI_add T j) ⟨rfl, sc_mk (o := o) (D := D) _ ?_⟩)))))))
        have h5' : T + j ≤ 5000 := by
          rw [nI_add] at h5
          exact (nI_leI (a := T + j) (b := 5000) (by omega) (by omega)).mp h5
        obtain ⟨hct, hL, hO, hD, hP, hH, hE, hTc, hB⟩ := h
        exact ⟨⟨hct.1, h5'⟩, hL, hO, fun p hp => ⟨(hD p hp).1, (hD p hp).2.1, by have := (hD p hp).2.2.1; omega, (hD p hp).2.2.2⟩, hP, hH, hE, hTc, hB⟩
      · exact br_f h1 (br_t h60 (br_f h5 (br_f h1 (br_t h60 (br_f h5 ⟨rfl, sc_mk _ h⟩)))))
    · exact br_f h1 (br_f h60 (br_f h1 (br_f h60 ⟨rfl, sc_mk _ h⟩)))
section
variable {lm : Int32} {c T : Nat} {lc od bs en pr co dy pn tc tk kp : Nat → Int32} {lt lv hd cn yd pd kt : Nat → Int32} {o D : Nat → Nat}
theorem sc_pinR (h : sc_R c T o D lm lc od bs en pr co dy pn tc tk lt lv hd cn yd pd) {p : Nat} (hp : p < c) (b : Bool) : sc_R c T o D lm lc od bs en pr co dy (upd pn (o p) (sc_b b)) tc tk lt lv hd cn yd (upd pd p (sc_b b)) := by
  obtain ⟨hct, hL, hO, hD, hP, hH, hE, hTc, hB⟩ := h
  refine ⟨hct, hL, hO, hD, fun q hq => ?_, hH, hE, hTc, hB⟩
  by_cases e : q = p
  · rw [sc_us e, sc_us (by rw [e])]; exact ⟨rfl, sc_01 b⟩
  · rw [pk_un e, pk_un (fun z => e (hO.2.1 q p hq hp z))]; exact hP q hq
theorem sc_pin29 {post : Int32 → SX → Prop} {p : Nat} (hp : p < 14) (h14 : o p < 14) (ho : od p = nI (o p)) (x z : Int32) (b : Bool) (hb : b = decide (¬ x = 0))
    (hpost : post z (lm, (nI c), (nI T), lc, od, bs, en, pr, co, dy, (upd pn (o p) (sc_b b)), tc, tk, kp)) : wX_pin_29 post (nI p) x z lm (nI c) (nI T) lc od bs en pr co dy pn tc tk kp := by
  unfold wX_pin_29
  refine ⟨sc_i14 hp, ?_⟩
  rw [sc_c p (by omega), ho]
  by_cases hx : x = 0
  · refine br_t hx ⟨sc_i14 h14, nm_r (e' := upd pn (o p) (sc_b b)) ?_ hpost⟩
    rw [sc_c _ (by omega), hb, decide_eq_false (not_not_intro hx)]; rfl
  · refine br_f hx ⟨sc_i14 h14, nm_r (e' := upd pn (o p) (sc_b b)) ?_ hpost⟩
    rw [sc_c _ (by omega), hb, decide_eq_true hx]; rfl
theorem sc_pin24 {post : Int32 → SY → Prop} {p : Nat} (hp : p < 14) (x z : Int32) (b : Bool) (hb : b = decide (¬ x = 0))
    (hpost : post z ((nI T), (nI c), lt, lv, hd, cn, yd, (upd pd p (sc_b b)), kt)) : wY_pin_24 post (nI p) x z (nI T) (nI c) lt lv hd cn yd pd kt := by
  unfold wY_pin_24
  by_cases hx : x = 0
  · refine br_t hx ⟨sc_i14 hp, nm_r (e' := upd pd p (sc_b b)) ?_ hpost⟩
    rw [sc_c _ (by omega), hb, decide_eq_false (not_not_intro hx)]; rfl
  · refine br_f hx ⟨sc_i14 hp, nm_r (e' := upd pd p (sc_b b)) ?_ hpost⟩
    rw [sc_c _ (by omega), hb, decide_eq_true hx]; rfl
end
theorem i_vc_pin {k : Nat} {u : SX} {v : SY} (I : i_Rel k u v) (hk : k + 4 ≤ 2048) (v1 : Int32) (v2 : Int32) : wpX_pin (fun r u' => wpY_pin (fun r' v' => r' = r ∧ i_Rel (k + 4) u' v') v v1 v2) u v1 v2 := by
  refine sc_el I (fun u v => wpX_pin (fun r u' => wpY_pin (fun r' v' => r' = r ∧ i_Rel (k + 4) u' v') v v1 v2) u v1 v2) ?_
  intro c T o D lm lc od bs en pr co dy pn tc tk kp lt lv hd cn yd pd kt h
  unfold wpX_pin wpY_pin; dsimp only
  have hc := sc_hc h
  rcases sc_p v1 c hc with ⟨p, hp, rfl⟩ | ⟨hx, hy⟩
  · have hp' : p < 14 := by omega
    have ho := sc_o h hp
    have hR := sc_mk (kp := kp) (kt := kt) (k + 4) (sc_pinR h hp (decide (¬ v2 = 0)))
    refine sc_pX hc hp (br_f (by decide) ⟨sc_i14 hp', ?_⟩)
    rw [sc_c p (by omega), sc_od h hp]
    refine ⟨sc_i14 ho, ?_⟩
    rw [sc_c _ (by omega), ← (sc_hP h p hp).1]
    by_cases z : pd p = 0
    · refine br_t z (sc_pin29 hp' ho (sc_od h hp) v2 0 _ rfl (sc_pY hc hp (br_t rfl ⟨sc_i14 hp', br_t ?_ (sc_pin24 hp' v2 0 _ rfl ⟨rfl, hR⟩)⟩)))
      exact z
    · refine br_f z (sc_pin29 hp' ho (sc_od h hp) v2 1 _ rfl (sc_pY hc hp (br_t rfl ⟨sc_i14 hp', br_f ?_ (sc_pin24 hp' v2 1 _ rfl ⟨rfl, hR⟩)⟩)))
      exact z
  · exact hx _ _ _ _ _ _ _ _ _ _ _ _ _ _ (br_t rfl (hy _ _ _ _ _ _ _ _ _ (br_f (by decide) ⟨rfl, sc_mk _ h⟩)))
theorem i_vc_points {k : Nat} {u : SX} {v : SY} (I : i_Rel k u v) (hk : k + 4 ≤ 2048) : wpX_points (fun r => wpY_points (fun r' => r' = r ∧ i_Rel (k + 4) u v) v) u := by
  refine sc_el I (fun u v => wpX_points (fun r => wpY_points (fun r' => r' = r ∧ i_Rel (k + 4) u v) v) u) ?_
  intro c T o D lm lc od bs en pr co dy pn tc tk kp lt lv hd cn yd pd kt h
  unfold wpX_points wpY_points; dsimp only
  exact ⟨rfl, sc_mk _ h⟩
theorem i_vc_dayOf {k : Nat} {u : SX} {v : SY} (I : i_Rel k u v) (hk : k + 4 ≤ 2048) (v1 : Int32) : wpX_dayOf (fun r => wpY_dayOf (fun r' => r' = r ∧ i_Rel (k + 4) u v) v v1) u v1 := by
  refine sc_el I (fun u v => wpX_dayOf (fun r => wpY_dayOf (fun r' => r' = r ∧ i_Rel (k + 4) u v) v v1) u v1) ?_
  intro c T o D lm lc od bs en pr co dy pn tc tk kp lt lv hd cn yd pd kt h
  unfold wpX_dayOf wpY_dayOf; dsimp only
  have hc := sc_hc h
  rcases sc_p v1 c hc with ⟨p, hp, rfl⟩ | ⟨hx, hy⟩
  · have hp' : p < 14 := by omega
    have ho := sc_o h hp
    obtain ⟨d1, d2, -⟩ := sc_hD h p hp
    refine sc_pX hc hp (br_f (by decide) ⟨sc_i14 hp', ?_⟩)
    rw [sc_c p (by omega), sc_od h hp]
    refine ⟨sc_i14 ho, sc_pY hc hp (br_t rfl ⟨sc_i14 hp', ?_, sc_mk _ h⟩)⟩
    rw [sc_c _ (by omega), d1, d2]
  · exact hx _ _ _ _ _ _ _ _ _ _ _ _ _ _ (br_t rfl (hy _ _ _ _ _ _ _ _ _ (br_f (by decide) ⟨rfl, sc_mk _ h⟩)))
theorem i_vc_pinned {k : Nat} {u : SX} {v : SY} (I : i_Rel k u v) (hk : k + 4 ≤ 2048) (v1 : Int32) : wpX_pinned (fun r => wpY_pinned (fun r' => r' = r ∧ i_Rel (k + 4) u v) v v1) u v1 := by
  refine sc_el I (fun u v => wpX_pinned (fun r => wpY_pinned (fun r' => r' = r ∧ i_Rel (k + 4) u v) v v1) u v1) ?_
  intro c T o D lm lc od bs en pr co dy pn tc tk kp lt lv hd cn yd pd kt h
  unfold wpX_pinned wpY_pinned; dsimp only
  have hc := sc_hc h
  rcases sc_p v1 c hc with ⟨p, hp, rfl⟩ | ⟨hx, hy⟩
  · have hp' : p < 14 := by omega
    have ho := sc_o h hp
    refine sc_pX hc hp (br_f (by decide) ⟨sc_i14 hp', ?_⟩)
    rw [sc_c p (by omega), sc_od h hp]
    refine ⟨sc_i14 ho, ?_⟩
    rw [sc_c _ (by omega), ← (sc_hP h p hp).1]
    by_cases z : pd p = 0
    · refine br_t z (sc_pY hc hp (br_t rfl ⟨sc_i14 hp', br_t ?_ ⟨rfl, sc_mk _ h⟩⟩))
      exact z
    · refine br_f z (sc_pY hc hp (br_t rfl ⟨sc_i14 hp', br_f ?_ ⟨rfl, sc_mk _ h⟩⟩))
      exact z
  · exact hx _ _ _ _ _ _ _ _ _ _ _ _ _ _ (br_t rfl (hy _ _ _ _ _ _ _ _ _ (br_f (by decide) ⟨rfl, sc_mk _ h⟩)))
theorem i_vc_there {k : Nat} {u : SX} {v : SY} (I : i_Rel k u v) (hk : k + 4 ≤ 2048) (v1 : Int32) (v2 : Int32) : wpX_there (fun r => wpY_there (fun r' => r' = r ∧ i_Rel (k + 4) u v) v v1 v2) u v1 v2 := by
  refine sc_el I (fun u v => wpX_there (fun r => wpY_there (fun r' => r' = r ∧ i_Rel (k + 4) u v) v v1 v2) u v1 v2) ?_
  intro c T o D lm lc od bs en pr co dy pn tc tk kp lt lv hd cn yd pd kt h
  unfold wpX_there wpY_there; dsimp only
  have hc := sc_hc h
  rcases sc_p v1 c hc with ⟨p, hp, rfl⟩ | ⟨hx, hy⟩
  · rcases sc_f v2 with ⟨f, hf, rfl⟩ | ⟨hx, hy⟩
    · have hp' : p < 14 := by omega
      obtain ⟨s, hs, a1, a2, K⟩ := sc_hold kp h hp hf
      refine sc_pX hc hp (br_f (by decide) (sc_fX hf (br_f (by decide) ⟨sc_i14 hp', ?_⟩)))
      rw [sc_c p (by omega), sc_od h hp]
      refine K _ ⟨sc_i14 hs, ?_⟩
      rw [sc_c s (by omega), sc_bit _ (by omega : f < 32), ← a1]
      refine sc_pY hc hp (br_t rfl (sc_fY hf (br_t rfl ⟨sc_in hp' hf, ?_⟩)))
      rw [sc_cl hp' hf]
      rcases (sc_hH h p f hp hf).1 with e | e
      · exact br_t e ⟨e.symm, sc_mk _ h⟩
      · exact br_f (by rw [e]; decide) ⟨e.symm, sc_mk _ h⟩
    · exact sc_pX hc hp (br_f (by decide) (hx _ (br_t rfl (sc_pY hc hp (br_t rfl (hy _ _ (br_f (by decide) ⟨rfl, sc_mk _ h⟩)))))))
  · exact hx _ _ _ _ _ _ _ _ _ _ _ _ _ _ (br_t rfl (hy _ _ _ _ _ _ _ _ _ (br_f (by decide) ⟨rfl, sc_mk _ h⟩)))
theorem i_vc_content {k : Nat} {u : SX} {v : SY} (I : i_Rel k u v) (hk : k + 4 ≤ 2048) (v1 : Int32) (v2 : Int32) : wpX_content (fun r => wpY_content (fun r' => r' = r ∧ i_Rel (k + 4) u v) v v1 v2) u v1 v2 := by
  refine sc_el I (fun u v => wpX_content (fun r => wpY_content (fun r' => r' = r ∧ i_Rel (k + 4) u v) v v1 v2) u v1 v2) ?_
  intro c T o D lm lc od bs en pr co dy pn tc tk kp lt lv hd cn yd pd kt h
  unfold wpX_content wpY_content; dsimp only
  have hc := sc_hc h
  rcases sc_p v1 c hc with ⟨p, hp, rfl⟩ | ⟨hx, hy⟩
  · rcases sc_f v2 with ⟨f, hf, rfl⟩ | ⟨hx, hy⟩
    · have hp' : p < 14 := by omega
      obtain ⟨s, hs, a1, a2, K⟩ := sc_hold kp h hp hf
      refine sc_pX hc hp (br_f (by decide) (sc_fX hf (br_f (by decide) ⟨sc_i14 hp', ?_⟩)))
      rw [sc_c p (by omega), sc_od h hp]
      refine K _ ⟨sc_i14 hs, sc_has hf ?_⟩
      rw [sc_c s (by omega), ← a1]
      by_cases z : hd (16 * p + f) = 0
      · refine br_t z (sc_pY hc hp (br_t rfl (sc_fY hf (br_t rfl ⟨sc_in hp' hf, br_t ?_ ⟨rfl, sc_mk _ h⟩⟩))))
        rw [sc_cl hp' hf]; exact z
      · refine br_f z ⟨sc_in hs hf, sc_pY hc hp (br_t rfl (sc_fY hf (br_t rfl ⟨sc_in hp' hf, br_f ?_ ⟨sc_in hp' hf, ?_, sc_mk _ h⟩⟩)))⟩
        · rw [sc_cl hp' hf]; exact z
        · rw [sc_cl hp' hf, sc_cl hs hf, a2]
    · exact sc_pX hc hp (br_f (by decide) (hx _ (br_t rfl (sc_pY hc hp (br_t rfl (hy _ _ (br_f (by decide) ⟨rfl, sc_mk _ h⟩)))))))
  · exact hx _ _ _ _ _ _ _ _ _ _ _ _ _ _ (br_t rfl (hy _ _ _ _ _ _ _ _ _ (br_f (by decide) ⟨rfl, sc_mk _ h⟩)))
theorem i_vc_liveThere {k : Nat} {u : SX} {v : SY} (I : i_Rel k u v) (hk : k + 4 ≤ 2048) (v1 : Int32) : wpX_liveThere (fun r => wpY_liveThere (fun r' => r' = r ∧ i_Rel (k + 4) u v) v v1) u v1 := by
  refine sc_el I (fun u v => wpX_liveThere (fun r => wpY_liveThere (fun r' => r' = r ∧ i_Rel (k + 4) u v) v v1) u v1) ?_
  intro c T o D lm lc od bs en pr co dy pn tc tk kp lt lv hd cn yd pd kt h
  unfold wpX_liveThere wpY_liveThere; dsimp only
  rcases sc_f v1 with ⟨f, hf, rfl⟩ | ⟨hx, hy⟩
  · refine sc_fX hf (br_f (by decide) ?_)
    rw [sc_bit _ (by omega : f < 32), ← (sc_hL h f hf).1]
    refine sc_fY hf (br_t rfl ⟨sc_i16 hf, ?_⟩)
    rw [sc_c f hf]
    rcases sc_lt01 h hf with e | e
    · exact br_t e ⟨e.symm, sc_mk _ h⟩
    · exact br_f (by rw [e]; decide) ⟨e.symm, sc_mk _ h⟩
  · exact hx _ (br_t rfl (hy _ _ (br_f (by decide) ⟨rfl, sc_mk _ h⟩)))
theorem i_vc_live {k : Nat} {u : SX} {v : SY} (I : i_Rel k u v) (hk : k + 4 ≤ 2048) (v1 : Int32) : wpX_live (fun r => wpY_live (fun r' => r' = r ∧ i_Rel (k + 4) u v) v v1) u v1 := by
  refine sc_el I (fun u v => wpX_live (fun r => wpY_live (fun r' => r' = r ∧ i_Rel (k + 4) u v) v v1) u v1) ?_
  intro c T o D lm lc od bs en pr co dy pn tc tk kp lt lv hd cn yd pd kt h
  unfold wpX_live wpY_live; dsimp only
  rcases sc_f v1 with ⟨f, hf, rfl⟩ | ⟨hx, hy⟩
  · refine sc_fX hf (br_f (by decide) (sc_has hf ?_))
    rw [← (sc_hL h f hf).1]
    by_cases z : lt f = 0
    · refine br_t z (sc_fY hf (br_t rfl ⟨sc_i16 hf, br_t ?_ ⟨rfl, sc_mk _ h⟩⟩))
      rw [sc_c f hf]; exact z
    · refine br_f z ⟨sc_i16 hf, sc_fY hf (br_t rfl ⟨sc_i16 hf, br_f ?_ ⟨sc_i16 hf, ?_, sc_mk _ h⟩⟩)⟩
      · rw [sc_c f hf]; exact z
      · rw [sc_c f hf, (sc_hL h f hf).2.1]
  · exact hx _ (br_t rfl (hy _ _ (br_f (by decide) ⟨rfl, sc_mk _ h⟩)))
theorem i_vc_differing {k : Nat} {u : SX} {v : SY} (I : i_Rel k u v) (hk : k + 4 ≤ 2048) (v1 : Int32) (v2 : Int32) : wpX_differing (fun r => wpY_differing (fun r' => r' = r ∧ i_Rel (k + 4) u v) v v1 v2) u v1 v2 := by
  refine sc_el I (fun u v => wpX_differing (fun r => wpY_differing (fun r' => r' = r ∧ i_Rel (k + 4) u v) v v1 v2) u v1 v2) ?_
  intro c T o D lm lc od bs en pr co dy pn tc tk kp lt lv hd cn yd pd kt h
  unfold wpX_differing wpY_differing; dsimp only
  have hc := sc_hc h
  rcases sc_p v1 c hc with ⟨p, hp, rfl⟩ | ⟨hx, hy⟩
  · rcases sc_p v2 c hc with ⟨q, hq, rfl⟩ | ⟨hx, hy⟩
    · obtain ⟨r, KX, KY⟩ := sc_dfg kp kt h hp hq 16 0 rfl 0
      exact sc_pX hc hp (br_f (by decide) (sc_pX hc hq (br_f (by decide) ⟨_, KX _ (sc_pY hc hp (br_t rfl (sc_pY hc hq (br_t rfl ⟨_, KY _ ⟨rfl, sc_mk _ h⟩⟩))))⟩)))
    · exact sc_pX hc hp (br_f (by decide) (hx _ _ _ _ _ _ _ _ _ _ _ _ _ _ (br_t rfl (sc_pY hc hp (br_t rfl (hy _ _ _ _ _ _ _ _ _ (br_f (by decide) ⟨rfl, sc_mk _ h⟩)))))))
  · exact hx _ _ _ _ _ _ _ _ _ _ _ _ _ _ (br_t rfl (hy _ _ _ _ _ _ _ _ _ (br_f (by decide) ⟨rfl, sc_mk _ h⟩)))
theorem i_vc_changedSince {k : Nat} {u : SX} {v : SY} (I : i_Rel k u v) (hk : k + 4 ≤ 2048) (v1 : Int32) : wpX_changedSince (fun r => wpY_changedSince (fun r' => r' = r ∧ i_Rel (k + 4) u v) v v1) u v1 := by
  refine sc_el I (fun u v => wpX_changedSince (fun r => wpY_changedSince (fun r' => r' = r ∧ i_Rel (k + 4) u v) v v1) u v1) ?_
  intro c T o D lm lc od bs en pr co dy pn tc tk kp lt lv hd cn yd pd kt h
  unfold wpX_changedSince wpY_changedSince; dsimp only
  have hc := sc_hc h
  rcases sc_p v1 c hc with ⟨p, hp, rfl⟩ | ⟨hx, hy⟩
  · obtain ⟨r, KX, KY⟩ := sc_chs kp kt h hp 16 0 rfl 0
    refine sc_pX hc hp (br_f (by decide) ⟨sc_i14 (by omega), nm_r (e' := nI (o p)) ?_ ⟨_, KX _ (sc_pY hc hp (br_t rfl ⟨_, KY _ ⟨rfl, sc_mk _ h⟩⟩))⟩⟩)
    rw [sc_c p (by omega), sc_od h hp]
  · exact hx _ _ _ _ _ _ _ _ _ _ _ _ _ _ (br_t rfl (hy _ _ _ _ _ _ _ _ _ (br_f (by decide) ⟨rfl, sc_mk _ h⟩)))
theorem i_vc_versions {k : Nat} {u : SX} {v : SY} (I : i_Rel k u v) (hk : k + 4 ≤ 2048) (v1 : Int32) : wpX_versions (fun r => wpY_versions (fun r' => r' = r ∧ i_Rel (k + 4) u v) v v1) u v1 := by
  refine sc_el I (fun u v => wpX_versions (fun r => wpY_versions (fun r' => r' = r ∧ i_Rel (k + 4) u v) v v1) u v1) ?_
  intro c T o D lm lc od bs en pr co dy pn tc tk kp lt lv hd cn yd pd kt h
  unfold wpX_versions wpY_versions; dsimp only
  have hc := sc_hc h
  rcases sc_f v1 with ⟨f, hf, rfl⟩ | ⟨hx, hy⟩
  · obtain ⟨r, KX, KY⟩ := sc_ver kp kt h hf (c - 1) 0 (by omega) 0 (by omega)
    exact sc_fX hf (br_f (by decide) ⟨_, KX _ (sc_fY hf (br_t rfl ⟨_, KY _ ⟨rfl, sc_mk _ h⟩⟩))⟩)
  · exact hx _ (br_t rfl (hy _ _ (br_f (by decide) ⟨rfl, sc_mk _ h⟩)))
theorem i_vc_sum {k : Nat} {u : SX} {v : SY} (I : i_Rel k u v) (hk : k + 4 ≤ 2048) (v1 : Int32) : wpX_sum (fun r => wpY_sum (fun r' => r' = r ∧ i_Rel (k + 4) u v) v v1) u v1 := by
  refine sc_el I (fun u v => wpX_sum (fun r => wpY_sum (fun r' => r' = r ∧ i_Rel (k + 4) u v) v v1) u v1) ?_
  intro c T o D lm lc od bs en pr co dy pn tc tk kp lt lv hd cn yd pd kt h
  unfold wpX_sum wpY_sum; dsimp only
  have hc := sc_hc h
  rcases sc_p v1 c hc with ⟨p, hp, rfl⟩ | ⟨hx, hy⟩
  · obtain ⟨r, KX, KY⟩ := sc_sm kp kt h hp 16 0 rfl 0
    exact sc_pX hc hp (br_f (by decide) ⟨_, KX _ (sc_pY hc hp (br_t rfl ⟨_, KY _ ⟨rfl, sc_mk _ h⟩⟩))⟩)
  · exact hx _ _ _ _ _ _ _ _ _ _ _ _ _ _ (br_t rfl (hy _ _ _ _ _ _ _ _ _ (br_f (by decide) ⟨rfl, sc_mk _ h⟩)))
end
section
/-! take -/
theorem sc_pig : ∀ (n c : Nat) (o : Nat → Nat), c < n → ∃ s, s < n ∧ ∀ p, p < c → o p ≠ s := by
  intro n
  induction n with
  | zero => intro c o h; exact absurd h (by omega)
  | succ n ih =>
    intro c o h
    by_cases hx : ∃ p, p < c ∧ o p = n
    · obtain ⟨p0, hp0, e0⟩ := hx
      obtain ⟨s, hs, hn⟩ := ih (c - 1) (fun p => if p = p0 then o (c - 1) else o p) (by omega)
      refine ⟨s, by omega, fun p hp e => ?_⟩
      by_cases e1 : p = p0
      · rw [e1, e0] at e; omega
      · by_cases e2 : p = c - 1
        · have h2 := hn p0 (by omega)
          rw [if_pos rfl, ← e2] at h2
          exact h2 e
        · have h2 := hn p (by omega)
          rw [if_neg e1] at h2
          exact h2 e
    · exact ⟨n, by omega, fun p hp e => hx ⟨p, hp, e⟩⟩
section
variable {lm : Int32} {c T : Nat} {lc od bs en pr co dy pn tc tk kp : Nat → Int32} {lt lv hd cn yd pd kt : Nat → Int32} {o D : Nat → Nat}
theorem sc_free2 : ∀ d i : Nat, i + d = 14 → (∃ s, i ≤ s ∧ s < 14 ∧ tk s = 0) →
    ∃ s, s < 14 ∧ tk s = 0 ∧ ∀ post : Int32 → Prop, post (nI s) → wX_freeSlot_2 post lm (nI c) (nI T) lc od bs en pr co dy pn tc tk kp (d + 1) (nI i) := by
  intro d
  induction d with
  | zero => intro i hi ⟨s, h1, h2, _⟩; exact absurd h1 (by omega)
  | succ d ih =>
    intro i hi ⟨s, h1, h2, h3⟩
    have hi' : i < 14 := by omega
    have e : ¬ (14 : Int32) ≤ nI i := nI_ge (b := 14) hi' (by omega)
    by_cases z : tk i = 0
    · refine ⟨i, hi', z, fun post hp => br_f e ⟨sc_i14 hi', br_t ?_ hp⟩⟩
      rw [sc_c i (by omega)]; exact z
    · have hne : s ≠ i := fun w => z (w ▸ h3)
      obtain ⟨s', a1, a2, K⟩ := ih (i + 1) (by omega) ⟨s, by omega, h2, h3⟩
      refine ⟨s', a1, a2, fun post hp => br_f e ⟨sc_i14 hi', br_f ?_ (nm_r (nI_1 i) (K post hp))⟩⟩
      rw [sc_c i (by omega)]; exact z
theorem sc_free (kp : Nat → Int32) (h : sc_R c T o D lm lc od bs en pr co dy pn tc tk lt lv hd cn yd pd) (hc : c < 14) :
    ∃ s, s < 14 ∧ tk s = 0 ∧ ∀ post : Int32 → Prop, post (nI s) → wpX_freeSlot post (lm, (nI c), (nI T), lc, od, bs, en, pr, co, dy, pn, tc, tk, kp) := by
  obtain ⟨s, hs, hn⟩ := sc_pig 14 c o hc
  have ht : tk s = 0 := by
    by_cases z : tk s = 0
    · exact z
    · obtain ⟨p, hp, e⟩ := ((sc_hO h).2.2 s hs).mp z
      exact absurd e (hn p hp)
  obtain ⟨s', a1, a2, K⟩ := sc_free2 (lm := lm) (c := c) (T := T) (lc := lc) (od := od) (bs := bs) (en := en) (pr := pr) (co := co) (dy := dy) (pn := pn) (tc := tc) (tk := tk) (kp := kp) 14 0 rfl ⟨s, by omega, hs, ht⟩
  exact ⟨s', a1, a2, fun post hp => by
    unfold wpX_freeSlot; dsimp only
    exact ⟨15, K post hp⟩⟩
theorem sc_base25 (kp : Nat → Int32) (h : sc_R c T o D lm lc od bs en pr co dy pn tc tk lt lv hd cn yd pd) : ∀ p, p < c → ∃ q, q < c ∧
    ∀ post : Int32 → Prop, post (nI (o q)) → wX_baseFor_25 post lm (nI c) (nI T) lc od bs en pr co dy pn tc tk kp (p + 1) (nI p) := by
  have hc := sc_hc h
  intro p
  induction p with
  | zero =>
    intro hp
    refine ⟨0, hp, fun post hpost => br_t (nI_le (a := 0) (b := 0) (by omega) (by omega)) ⟨sc_i14 (by omega), ?_⟩⟩
    rw [sc_c 0 (by omega), sc_od h hp]
    exact hpost
  | succ p ih =>
    intro hp
    have e : ¬ nI (p + 1) ≤ 0 := nI_nle (by omega) (by omega)
    by_cases z : bs (o (p + 1)) = -1
    · refine ⟨p + 1, hp, fun post hpost => br_f e ⟨sc_i14 (by omega), ?_⟩⟩
      rw [sc_c (p + 1) (by omega), sc_od h hp]
      refine ⟨sc_i14 (sc_o h hp), br_t ?_ ⟨sc_i14 (by omega), hpost⟩⟩
      rw [sc_c _ (by have := sc_o h hp; omega)]; exact z
    · obtain ⟨q, hq, K⟩ := ih (by omega)
      refine ⟨q, hq, fun post hpost => br_f e ⟨sc_i14 (by omega), ?_⟩⟩
      rw [sc_c (p + 1) (by omega), sc_od h hp]
      refine ⟨sc_i14 (sc_o h hp), br_f ?_ (nm_r (pk_m1 p) (K post hpost))⟩
      rw [sc_c _ (by have := sc_o h hp; omega)]; exact z
theorem sc_basefor (kp : Nat → Int32) (h : sc_R c T o D lm lc od bs en pr co dy pn tc tk lt lv hd cn yd pd) (w : Int32) : ∃ r, (r = -1 ∨ ∃ q, q < c ∧ r = nI (o q)) ∧
    ∀ post : Int32 → Prop, post r → wpX_baseFor post (lm, (nI c), (nI T), lc, od, bs, en, pr, co, dy, pn, tc, tk, kp) w := by
  have hc := sc_hc h
  unfold wpX_baseFor; dsimp only
  by_cases h0 : w = 0
  · exact ⟨-1, Or.inl rfl, fun post hp => br_t h0 hp⟩
  · rcases Nat.eq_zero_or_pos c with hz | hz
    · subst hz
      exact ⟨-1, Or.inl rfl, fun post hp => br_f h0 (br_t rfl hp)⟩
    · have e : ¬ nI c = 0 := nI_ne0 hz (by omega)
      by_cases h2 : w = 2
      · obtain ⟨q, hq, K⟩ := sc_base25 kp h (c - 1) (by omega)
        exact ⟨_, Or.inr ⟨q, hq, rfl⟩, fun post hp => br_f h0 (br_f e (nm_r (sc_sub1 hz) (br_t h2 ⟨_, K post hp⟩)))⟩
      · refine ⟨_, Or.inr ⟨c - 1, by omega, rfl⟩, fun post hp => br_f h0 (br_f e (nm_r (sc_sub1 hz) (br_f h2 ⟨sc_i14 (by omega), ?_⟩)))⟩
        rw [sc_c _ (by omega), sc_od h (by omega : c - 1 < c)]
        exact hp
theorem sc_take83 {s : Nat} (hs : s < 14) : ∀ d f : Nat, f + d = 16 → ∀ co : Nat → Int32, ∃ co' : Nat → Int32,
    (∀ g, f ≤ g → g < 16 → co' (16 * s + g) = if bt (en s) g = true then lc g else 0) ∧
    (∀ j, j < 16 * s + f ∨ 16 * s + 16 ≤ j → co' j = co j) ∧
    ∀ post : Int32 → SX → Prop, wX_take_83 post (nI s) lm (nI c) (nI T) 1 (nI 16) lc od bs en pr co' dy pn tc tk kp → wX_take_83 post (nI s) lm (nI c) (nI T) (d + 1) (nI f) lc od bs en pr co dy pn tc tk kp := by
  intro d
  induction d with
  | zero =>
    intro f hf co
    obtain rfl : f = 16 := by omega
    exact ⟨co, fun g h1 h2 => absurd h1 (by omega), fun j _ => rfl, fun post hp => hp⟩
  | succ d ih =>
    intro f hfd co
    have hf : f < 16 := by omega
    have e : ¬ (16 : Int32) ≤ nI f := nI_ge (b := 16) hf (by omega)
    obtain ⟨co', h1, h2, K⟩ := ih (f + 1) (by omega) (upd co (16 * s + f) (if bt (en s) f = true then lc f else 0))
    refine ⟨co', fun g hg hg' => ?_, fun j hj => ?_, fun post hp => br_f e ⟨sc_i14 hs, sc_has hf ?_⟩⟩
    · by_cases eg : g = f
      · rw [h2 _ (by omega), sc_us (by omega), eg]
      · exact h1 g (by omega) hg'
    · rw [h2 j (by omega), pk_un (by omega)]
    · rw [sc_c s (by omega)]
      cases hb : bt (en s) f with
      | false =>
        refine br_t rfl ⟨sc_in hs hf, nm_r (e' := upd co (16 * s + f) (if bt (en s) f = true then lc f else 0)) ?_ (nm_r (nI_1 f) (K post hp))⟩
        rw [sc_cl hs hf, hb]; rfl
      | true =>
        refine br_f (by decide) ⟨sc_i16 hf, sc_in hs hf, nm_r (e' := upd co (16 * s + f) (if bt (en s) f = true then lc f else 0)) ?_ (nm_r (nI_1 f) (K post hp))⟩
        rw [sc_cl hs hf, sc_c f hf, hb]; rfl
theorem sc_take83x {s : Nat} (hs : s < 14) (hc : c < 14) {post : Int32 → SX → Prop}
    (hp : post (nI c) (lm, (nI (c+1)), (nI T), lc, (upd od c (nI s)), bs, en, pr, co, (upd dy s (nI T)), (upd pn s 0), (upd tc s 0), (upd tk s 1), kp)) :
    wX_take_83 post (nI s) lm (nI c) (nI T) 1 (nI 16) lc od bs en pr co dy pn tc tk kp := by
  refine br_t (nI_le (a := 16) (b := 16) (by omega) (by omega)) ⟨sc_i14 hs, nm_r (e' := upd dy s (nI T)) ?_ ⟨sc_i14 hs, nm_r (e' := upd pn s 0) ?_ ⟨sc_i14 hs, nm_r (e' := upd tc s 0) ?_ ⟨sc_i14 hs, nm_r (e' := upd tk s 1) ?_ ⟨sc_i14 hc, nm_r (e' := upd od c (nI s)) ?_ (nm_r (nI_1 c) ?_)⟩⟩⟩⟩⟩
  · rw [sc_c s (by omega)]
  · rw [sc_c s (by omega)]; rfl
  · rw [sc_c s (by omega)]
  · rw [sc_c s (by omega)]; rfl
  · rw [sc_c c (by omega)]
  · rw [nI_pred]; exact hp
theorem sc_take62 {s : Nat} (hs : s < 14) (hc : c < 14) (z : Int32) : ∃ co' : Nat → Int32,
    (∀ g, g < 16 → co' (16 * s + g) = if bt z g = true then lc g else 0) ∧
    (∀ j, j < 16 * s ∨ 16 * s + 16 ≤ j → co' j = co j) ∧
    ∀ post : Int32 → SX → Prop, post (nI c) (lm, (nI (c+1)), (nI T), lc, (upd od c (nI s)), bs, (upd en s z), (upd pr s (lm &&& z)), co', (upd dy s (nI T)), (upd pn s 0), (upd tc s 0), (upd tk s 1), kp) →
      wX_take_62 post (nI s) z (nI s) lm (nI c) (nI T) lc od bs en pr co dy pn tc tk kp := by
  obtain ⟨co', h1, h2, K⟩ := sc_take83 (lm := lm) (c := c) (T := T) (lc := lc) (od := od) (bs := bs) (en := upd en s z) (pr := upd pr s (lm &&& z)) (dy := dy) (pn := pn) (tc := tc) (tk := tk) (kp := kp) hs 16 0 rfl co
  refine ⟨co', fun g hg => ?_, fun j hj => h2 j (by omega), fun post hp => ?_⟩
  · rw [h1 g (by omega) hg, pk_us]
  · unfold wX_take_62
    refine ⟨sc_i14 hs, nm_r (e' := upd en s z) (by rw [sc_c s (by omega)]) ⟨sc_i14 hs, sc_i14 hs, nm_r (e' := upd pr s (lm &&& z)) ?_ ⟨17, K post (sc_take83x hs hc hp)⟩⟩⟩
    rw [sc_c s (by omega), pk_us]
theorem sc_takeX (kp : Nat → Int32) (h : sc_R c T o D lm lc od bs en pr co dy pn tc tk lt lv hd cn yd pd) (hc : c < 14) {w : Int32} (w0 : ¬ w < 0) (w2 : w ≤ 2) :
    ∃ (s : Nat) (r z : Int32) (co' : Nat → Int32), s < 14 ∧ tk s = 0 ∧ (r = -1 ∧ z = 65535 ∨ ∃ q, q < c ∧ r = nI (o q) ∧ z = tc (o q)) ∧
      (∀ g, g < 16 → co' (16 * s + g) = if bt z g = true then lc g else 0) ∧
      (∀ j, j < 16 * s ∨ 16 * s + 16 ≤ j → co' j = co j) ∧
      ∀ post : Int32 → SX → Prop, post (nI c) (lm, (nI (c+1)), (nI T), lc, (upd od c (nI s)), (upd bs s r), (upd en s z), (upd pr s (lm &&& z)), co', (upd dy s (nI T)), (upd pn s 0), (upd tc s 0), (upd tk s 1), kp) →
        wpX_take post (lm, (nI c), (nI T), lc, od, bs, en, pr, co, dy, pn, tc, tk, kp) w := by
  unfold wpX_take; dsimp only
  obtain ⟨s, hs, ht, KF⟩ := sc_free kp h hc
  obtain ⟨r, hr, KB⟩ := sc_basefor kp h w
  have e : ¬ nI c = 14 := fun y => absurd ((nI_eq (a := c) (b := 14) (by omega) (by omega)).mp y) (by omega)
  rcases hr with rfl | ⟨q, hq, rfl⟩
  · obtain ⟨co', h1, h2, K⟩ := sc_take62 (lm := lm) (c := c) (T := T) (lc := lc) (od := od) (bs := upd bs s (-1)) (en := en) (pr := pr) (co := co) (dy := dy) (pn := pn) (tc := tc) (tk := tk) (kp := kp) hs hc 65535
    refine ⟨s, -1, 65535, co', hs, ht, Or.inl ⟨rfl, rfl⟩, h1, h2, fun post hp => br_f w0 (br_t w2 (br_f e (KF _ (KB _ ⟨sc_i14 hs, nm_r (e' := upd bs s (-1)) ?_ (br_t rfl (K post hp))⟩))))⟩
    rw [sc_c s (by omega)]
  · have ho := sc_o h hq
    obtain ⟨co', h1, h2, K⟩ := sc_take62 (lm := lm) (c := c) (T := T) (lc := lc) (od := od) (bs := upd bs s (nI (o q))) (en := en) (pr := pr) (co := co) (dy := dy) (pn := pn) (tc := tc) (tk := tk) (kp := kp) hs hc (tc (o q))
    refine ⟨s, nI (o q), tc (o q), co', hs, ht, Or.inr ⟨q, hq, rfl, rfl⟩, h1, h2, fun post hp => br_f w0 (br_t w2 (br_f e (KF _ (KB _ ⟨sc_i14 hs, nm_r (e' := upd bs s (nI (o q))) ?_ (br_f (sc_m1 ho) ⟨sc_i14 ho, ?_⟩)⟩))))⟩
    · rw [sc_c s (by omega)]
    · rw [sc_c (o q) (by omega)]; exact K post hp
theorem sc_take27 (hc : c < 14) (h01 : ∀ f, f < 16 → lt f = 0 ∨ lt f = 1) : ∀ d f : Nat, f + d = 16 → ∀ hd cn : Nat → Int32, ∃ hd' cn' : Nat → Int32,
    (∀ g, f ≤ g → g < 16 → hd' (16 * c + g) = lt g ∧ cn' (16 * c + g) = lv g) ∧
    (∀ j, j < 16 * c + f → hd' j = hd j ∧ cn' j = cn j) ∧
    ∀ post : Int32 → SY → Prop, wY_take_27 post (nI c) (nI T) (nI c) 1 (nI 16) lt lv hd' cn' yd pd kt → wY_take_27 post (nI c) (nI T) (nI c) (d + 1) (nI f) lt lv hd cn yd pd kt := by
  intro d
  induction d with
  | zero =>
    intro f hf hd cn
    obtain rfl : f = 16 := by omega
    exact ⟨hd, cn, fun g h1 h2 => absurd h1 (by omega), fun j _ => ⟨rfl, rfl⟩, fun post hp => hp⟩
  | succ d ih =>
    intro f hfd hd cn
    have hf : f < 16 := by omega
    have e : ¬ (16 : Int32) ≤ nI f := nI_ge (b := 16) hf (by omega)
    obtain ⟨hd', cn', h1, h2, K⟩ := ih (f + 1) (by omega) (upd hd (16 * c + f) (lt f)) (upd cn (16 * c + f) (lv f))
    refine ⟨hd', cn', fun g hg hg' => ?_, fun j hj => ?_, fun post hp => br_f e ⟨sc_i16 hf, sc_in hc hf, nm_r (e' := upd hd (16 * c + f) (lt f)) ?_ ⟨sc_i16 hf, sc_in hc hf, nm_r (e' := upd cn (16 * c + f) (lv f)) ?_ (nm_r (nI_1 f) (K post hp))⟩⟩⟩
    · by_cases eg : g = f
      · rw [(h2 _ (by omega)).1, (h2 _ (by omega)).2, sc_us (by omega), sc_us (by omega), eg]; exact ⟨rfl, rfl⟩
      · exact h1 g (by omega) hg'
    · rw [(h2 j (by omega)).1, (h2 j (by omega)).2, pk_un (by omega), pk_un (by omega)]; exact ⟨rfl, rfl⟩
    · rw [sc_cl hc hf, sc_c f hf, sc_nar (h01 f hf)]
    · rw [sc_cl hc hf, sc_c f hf]
theorem sc_takeY (hc : c < 14) (h01 : ∀ f, f < 16 → lt f = 0 ∨ lt f = 1) {w : Int32} (w0 : ¬ w < 0) (w2 : w ≤ 2) :
    ∃ hd' cn' : Nat → Int32, (∀ g, g < 16 → hd' (16 * c + g) = lt g ∧ cn' (16 * c + g) = lv g) ∧
      (∀ j, j < 16 * c → hd' j = hd j ∧ cn' j = cn j) ∧
      ∀ post : Int32 → SY → Prop, post (nI c) ((nI T), (nI (c+1)), lt, lv, hd', cn', (upd yd c (nI T)), (upd pd c 0), kt) → wpY_take post ((nI T), (nI c), lt, lv, hd, cn, yd, pd, kt) w := by
  unfold wpY_take; dsimp only
  obtain ⟨hd', cn', h1, h2, K⟩ := sc_take27 (c := c) (T := T) (lt := lt) (lv := lv) (yd := yd) (pd := pd) (kt := kt) hc h01 16 0 rfl hd cn
  refine ⟨hd', cn', fun g hg => h1 g (by omega) hg, fun j hj => h2 j (by omega), fun post hp => br_f w0 (br_t w2 (br_t (nI_lt (b := 14) hc (by omega)) ⟨17, K post ?_⟩))⟩
  refine br_t (nI_le (a := 16) (b := 16) (by omega) (by omega)) ⟨sc_i14 hc, nm_r (e' := upd yd c (nI T)) ?_ ⟨sc_i14 hc, nm_r (e' := upd pd c 0) ?_ (nm_r (nI_1 c) hp)⟩⟩
  · rw [sc_c c (by omega)]
  · rw [sc_c c (by omega)]; rfl
theorem sc_takeR (h : sc_R c T o D lm lc od bs en pr co dy pn tc tk lt lv hd cn yd pd) (hc : c < 14) {s : Nat} (hs : s < 14) (hts : tk s = 0) {r z : Int32} {co' hd' cn' : Nat → Int32} {o' D' : Nat → Nat}
    (hrz : r = -1 ∧ z = 65535 ∨ ∃ q, q < c ∧ r = nI (o q) ∧ z = tc (o q))
    (hco1 : ∀ g, g < 16 → co' (16 * s + g) = if bt z g = true then lc g else 0)
    (hco2 : ∀ j, j < 16 * s ∨ 16 * s + 16 ≤ j → co' j = co j)
    (hy1 : ∀ g, g < 16 → hd' (16 * c + g) = lt g ∧ cn' (16 * c + g) = lv g)
    (hy2 : ∀ j, j < 16 * c → hd' j = hd j ∧ cn' j = cn j)
    (ho1 : o' c = s) (ho2 : ∀ p, p < c → o' p = o p) (hD1 : D' c = T) (hD2 : ∀ p, p < c → D' p = D p) :
    sc_R (c+1) T o' D' lm lc (upd od c (nI s)) (upd bs s r) (upd en s z) (upd pr s (lm &&& z)) co' (upd dy s (nI T)) (upd pn s 0) (upd tc s 0) (upd tk s 1) lt lv hd' cn' (upd yd c (nI T)) (upd pd c 0) := by
  have h01 := fun f hf => sc_lt01 h (f := f) hf
  have hl0 := fun f hf => sc_lt0 h (f := f) hf
  obtain ⟨hct, hL, hO, hD, hP, hH, hE, hTc, hB⟩ := h
  have hne : ∀ p, p < c → o p ≠ s := fun p hp e => ((hO.2.2 s hs).mpr ⟨p, hp, e⟩) hts
  have hyp : ∀ p f, p < c → f < 16 → hd' (16 * p + f) = hd (16 * p + f) ∧ cn' (16 * p + f) = cn (16 * p + f) := fun p f hp hf => hy2 _ (by omega)
  have hcp : ∀ p f, p < c → f < 16 → co' (16 * o p + f) = co (16 * o p + f) := fun p f hp hf => hco2 _ (by have := hne p hp; omega)
  have cs : ∀ p, p < c + 1 → p < c ∨ p = c := fun p hp => by omega
  refine ⟨⟨by omega, hct.2⟩, hL, ⟨fun p hp => ?_, fun p q hp hq e => ?_, fun t ht => ?_⟩, fun p hp => ?_, fun p hp => ?_, fun p f hp hf => ?_, fun p f hp hf => ?_, fun p f hp hf => ?_, fun p hp => ?_⟩
  · rcases cs p hp with hp | rfl
    · rw [ho2 p hp, pk_un (by omega)]; exact hO.1 p hp
    · rw [ho1, pk_us]; exact ⟨hs, rfl⟩
  · rcases cs p hp with hp | rfl
    · rcases cs q hq with hq | rfl
      · rw [ho2 p hp, ho2 q hq] at e; exact hO.2.1 p q hp hq e
      · rw [ho2 p hp, ho1] at e; exact absurd e (hne p hp)
    · rcases cs q hq with hq | rfl
      · rw [ho2 q hq, ho1] at e; exact absurd e.symm (hne q hq)
      · rfl
  · by_cases et : t = s
    · rw [sc_us et]
      exact ⟨fun _ => ⟨c, by omega, ho1.trans et.symm⟩, fun _ => by decide⟩
    · rw [pk_un et, hO.2.2 t ht]
      constructor
      · intro ⟨p, hp, e⟩; exact ⟨p, by omega, by rw [ho2 p hp]; exact e⟩
      · intro ⟨p, hp, e⟩
        rcases cs p hp with hp | rfl
        · exact ⟨p, hp, by rw [← ho2 p hp]; exact e⟩
        · exact absurd (e.symm.trans ho1) et
  · rcases cs p hp with hp | rfl
    · obtain ⟨d1, d2, d3, d4⟩ := hD p hp
      rw [hD2 p hp, ho2 p hp, pk_un (by omega), pk_un (hne p hp)]
      exact ⟨d1, d2, d3, fun q hq => by rw [hD2 q (by omega)]; exact d4 q hq⟩
    · rw [hD1, ho1, pk_us, pk_us]
      exact ⟨rfl, rfl, Nat.le_refl _, fun q hq => by rw [hD2 q hq]; exact (hD q hq).2.2.1⟩
  · rcases cs p hp with hp | rfl
    · rw [ho2 p hp, pk_un (by omega), pk_un (hne p hp)]; exact hP p hp
    · rw [ho1, pk_us, pk_us]; exact ⟨rfl, Or.inl rfl⟩
  · rcases cs p hp with hp | rfl
    · rw [(hyp p f hp hf).1, (hyp p f hp hf).2]; exact hH p f hp hf
    · rw [(hy1 f hf).1, (hy1 f hf).2]
      exact ⟨h01 f hf, fun y => by rw [(hL f hf).2.1]; exact (hL f hf).2.2 ((hl0 f hf).mp y)⟩
  · rcases cs p hp with hp | rfl
    · rw [(hyp p f hp hf).1, (hyp p f hp hf).2, ho2 p hp, pk_un (hne p hp), pk_un (hne p hp), hcp p f hp hf]; exact hE p f hp hf
    · rw [(hy1 f hf).1, (hy1 f hf).2, ho1, pk_us, pk_us, hco1 f hf, b_and]
      refine ⟨fun y => ?_, fun y => ?_⟩
      · rw [y, if_pos rfl, Bool.and_true]; exact ⟨(hL f hf).1, (hL f hf).2.1⟩
      · rw [y, Bool.and_false]
  · rcases cs p hp with hp | rfl
    · rw [(hyp p f hp hf).1, (hyp p f hp hf).2, ho2 p hp, pk_un (hne p hp)]; exact hTc p f hp hf
    · rw [(hy1 f hf).1, (hy1 f hf).2]; exact fun _ => ⟨rfl, rfl⟩
  · rcases cs p hp with hp | rfl
    · rw [ho2 p hp, pk_un (hne p hp), pk_un (hne p hp)]
      rcases hB p hp with b | ⟨q, hq, b1, b2⟩
      · exact Or.inl b
      · refine Or.inr ⟨q, hq, by rw [ho2 q (by omega)]; exact b1, fun f hf y => ?_⟩
        rw [(hyp p f hp hf).1, (hyp p f hp hf).2, (hyp q f (by omega) hf).1, (hyp q f (by omega) hf).2]
        exact b2 f hf y
    · rw [ho1, pk_us, pk_us]
      rcases hrz with ⟨r1, z1⟩ | ⟨q, hq, r1, z1⟩
      · exact Or.inl ⟨r1, fun f hf => by rw [z1, b_65535, decide_eq_true hf]⟩
      · refine Or.inr ⟨q, hq, by rw [ho2 q hq]; exact r1, fun f hf y => ?_⟩
        rw [z1] at y
        rw [(hy1 f hf).1, (hy1 f hf).2, (hyp q f hq hf).1, (hyp q f hq hf).2]
        exact ⟨(hTc q f hq hf y).1.symm, (hTc q f hq hf y).2.symm⟩
end
theorem i_vc_take {k : Nat} {u : SX} {v : SY} (I : i_Rel k u v) (hk : k + 4 ≤ 2048) (v1 : Int32) : wpX_take (fun r u' => wpY_take (fun r' v' => r' = r ∧ i_Rel (k + 4) u' v') v v1) u v1 := by
  refine sc_el I (fun u v => wpX_take (fun r u' => wpY_take (fun r' v' => r' = r ∧ i_Rel (k + 4) u' v') v v1) u v1) ?_
  intro c T o D lm lc od bs en pr co dy pn tc tk kp lt lv hd cn yd pd kt h
  have hc := sc_hc h
  by_cases w0 : v1 < 0
  · unfold wpX_take wpY_take; dsimp only
    exact br_t w0 (br_t w0 ⟨rfl, sc_mk _ h⟩)
  · by_cases w2 : v1 ≤ 2
    · rcases Nat.lt_or_ge c 14 with hc' | hc'
      · obtain ⟨s, r, z, co', hs, ht, hrz, k1, k2, KX⟩ := sc_takeX kp h hc' w0 w2
        obtain ⟨hd', cn', y1, y2, KY⟩ := sc_takeY (c := c) (T := T) (lt := lt) (lv := lv) (hd := hd) (cn := cn) (yd := yd) (pd := pd) (kt := kt) hc' (fun f hf => sc_lt01 h hf) w0 w2
        refine KX _ (KY _ ⟨rfl, sc_mk (o := fun p => if p = c then s else o p) (D := fun p => if p = c then T else D p) _ ?_⟩)
        exact sc_takeR h hc' hs ht hrz k1 k2 y1 y2 (if_pos rfl) (fun p hp => if_neg (by omega)) (if_pos rfl) (fun p hp => if_neg (by omega))
      · obtain rfl : c = 14 := by omega
        unfold wpX_take wpY_take; dsimp only
        exact br_f w0 (br_t w2 (br_t rfl (br_f w0 (br_t w2 (br_f (nI_nlt (a := 14) (b := 14) (by omega) (by omega)) ⟨rfl, sc_mk _ h⟩)))))
    · unfold wpX_take wpY_take; dsimp only
      exact br_f w0 (br_f w2 (br_f w0 (br_f w2 ⟨rfl, sc_mk _ h⟩)))
end
section
/-! drop and takeOut -/
section
variable {lm : Int32} {c T : Nat} {lc od bs en pr co dy pn tc tk kp : Nat → Int32} {lt lv hd cn yd pd kt : Nat → Int32} {o D : Nat → Nat}
theorem sc_drop54 {s t : Nat} (hs : s < 14) (ht : t < 14) (hst : s ≠ t) (m : Int32) : ∀ d f : Nat, f + d = 16 → ∀ co : Nat → Int32, ∃ co' : Nat → Int32,
    (∀ g, f ≤ g → g < 16 → co' (16 * t + g) = if bt m g = true then co (16 * s + g) else co (16 * t + g)) ∧
    (∀ j, j < 16 * t + f ∨ 16 * t + 16 ≤ j → co' j = co j) ∧
    ∀ (post : SX → Prop) (J : Int32 → (Nat → Int32) → (Nat → Int32) → (Nat → Int32) → (Nat → Int32) → (Nat → Int32) → (Nat → Int32) → (Nat → Int32) → (Nat → Int32) → (Nat → Int32) → (Nat → Int32) → (Nat → Int32) → Prop) (x1 : Int32),
      J (nI (t + 1)) lc od (upd bs t (bs s)) (upd en t (en t ||| en s)) (upd pr t (pr t ||| (pr s &&& m))) co' dy pn tc tk kp →
      wX_drop_54 post J x1 (nI s) (nI t) m lm (nI c) (nI T) (d + 1) (nI f) lc od bs en pr co dy pn tc tk kp := by
  intro d
  induction d with
  | zero =>
    intro f hf co
    obtain rfl : f = 16 := by omega
    refine ⟨co, fun g h1 h2 => absurd h1 (by omega), fun j _ => rfl, fun post J x1 hp => br_t (nI_le (a := 16) (b := 16) (by omega) (by omega))
      ⟨sc_i14 ht, sc_i14 hs, sc_i14 ht, nm_r (e' := upd pr t (pr t ||| (pr s &&& m))) ?_ ⟨sc_i14 ht, sc_i14 hs, sc_i14 ht, nm_r (e' := upd en t (en t ||| en s)) ?_ ⟨sc_i14 hs, sc_i14 ht, nm_r (e' := upd bs t (bs s)) ?_ (nm_r (nI_1 t) hp)⟩⟩⟩⟩
    · rw [sc_c t (by omega), sc_c s (by omega)]
    · rw [sc_c t (by omega), sc_c s (by omega)]
    · rw [sc_c t (by omega), sc_c s (by omega)]
  | succ d ih =>
    intro f hfd co
    have hf : f < 16 := by omega
    have e : ¬ (16 : Int32) ≤ nI f := nI_ge (b := 16) hf (by omega)
    cases hb : bt m f with
    | false =>
      obtain ⟨co', h1, h2, K⟩ := ih (f + 1) (by omega) co
      refine ⟨co', fun g hg hg' => ?_, fun j hj => h2 j (by omega), fun post J x1 hp => br_f e (sc_has hf (br_t (by rw [hb]; rfl) (nm_r (nI_1 f) (K post J x1 hp))))⟩
      by_cases eg : g = f
      · rw [h2 _ (by omega), eg, hb]; rfl
      · exact h1 g (by omega) hg'
    | true =>
      obtain ⟨co', h1, h2, K⟩ := ih (f + 1) (by omega) (upd co (16 * t + f) (co (16 * s + f)))
      refine ⟨co', fun g hg hg' => ?_, fun j hj => ?_, fun post J x1 hp => br_f e (sc_has hf (br_f (by rw [hb]; decide) ⟨sc_in hs hf, sc_in ht hf, nm_r (e' := upd co (16 * t + f) (co (16 * s + f))) ?_ (nm_r (nI_1 f) (K post J x1 hp))⟩))⟩
      · by_cases eg : g = f
        · rw [h2 _ (by omega), eg, hb, pk_us]; rfl
        · rw [h1 g (by omega) hg', pk_un (by omega), pk_un (by omega)]
      · rw [h2 j (by omega), pk_un (by omega)]
      · rw [sc_cl hs hf, sc_cl ht hf]
theorem sc_mergeR (h : sc_R c T o D lm lc od bs en pr co dy pn tc tk lt lv hd cn yd pd) {p t : Nat} (hp : p < c) (ht : t < c) (hb : bs (o t) = nI (o p)) {co' : Nat → Int32}
    (h1 : ∀ g, g < 16 → co' (16 * o t + g) = if bt (en (o p) &&& (en (o t) ^^^ (-1))) g = true then co (16 * o p + g) else co (16 * o t + g))
    (h2 : ∀ j, j < 16 * o t ∨ 16 * o t + 16 ≤ j → co' j = co j) :
    sc_R c T o D lm lc od (upd bs (o t) (bs (o p))) (upd en (o t) (en (o t) ||| en (o p))) (upd pr (o t) (pr (o t) ||| (pr (o p) &&& (en (o p) &&& (en (o t) ^^^ (-1)))))) co' dy pn tc tk lt lv hd cn yd pd := by
  have hop := sc_o h hp
  obtain ⟨hct, hL, hO, hD, hP, hH, hE, hTc, hB⟩ := h
  have hne : ∀ q, q < c → q ≠ t → o q ≠ o t := fun q hq n e => n (hO.2.1 q t hq ht e)
  obtain ⟨hpt, hsame⟩ : p < t ∧ ∀ f, f < 16 → bt (en (o t)) f = false → hd (16 * t + f) = hd (16 * p + f) ∧ cn (16 * t + f) = cn (16 * p + f) := by
    rcases hB t ht with ⟨b1, _⟩ | ⟨q, hq, b1, b2⟩
    · rw [hb] at b1; exact absurd b1 (sc_m1 hop)
    · rw [hb] at b1
      have hoq := (hO.1 q (by omega)).1
      have e := (nI_eq (by omega) (by omega)).mp b1
      have e2 := hO.2.1 p q hp (by omega) e
      subst e2
      exact ⟨hq, b2⟩
  refine ⟨hct, hL, hO, hD, hP, hH, fun q f hq hf => ?_, hTc, fun q hq => ?_⟩
  · by_cases e : q = t
    · subst e
      rw [pk_us, pk_us, h1 f hf, b_or, b_or, b_and, b_and, sc_not _ hf]
      obtain ⟨e1, e2⟩ := hE q f ht hf
      obtain ⟨p1, p2⟩ := hE p f hp hf
      cases x1 : bt (en (o q)) f with
      | true =>
        obtain ⟨a1, a2⟩ := e1 x1
        simp only [Bool.not_true, Bool.and_false, Bool.or_false, Bool.true_or]
        exact ⟨fun _ => ⟨a1, a2⟩, fun z => absurd z (by decide)⟩
      | false =>
        obtain ⟨s1, s2⟩ := hsame f hf x1
        rw [e2 x1]
        cases x2 : bt (en (o p)) f with
        | true =>
          obtain ⟨a1, a2⟩ := p1 x2
          simp only [Bool.not_false, Bool.and_true, Bool.false_or]
          exact ⟨fun _ => ⟨s1.trans a1, s2.trans a2⟩, fun z => absurd z (by decide)⟩
        | false =>
          simp only [Bool.and_false, Bool.false_and, Bool.or_false]
          exact ⟨fun z => absurd z (by decide), fun _ => by trivial⟩
    · have n := hne q hq e
      rw [pk_un n, pk_un n, h2 _ (by omega)]
      exact hE q f hq hf
  · by_cases e : q = t
    · subst e
      rw [pk_us, pk_us]
      rcases hB p hp with ⟨b1, b2⟩ | ⟨q', hq', b1, b2⟩
      · exact Or.inl ⟨b1, fun f hf => by rw [b_or, b2 f hf, Bool.or_true]⟩
      · refine Or.inr ⟨q', by omega, b1, fun f hf z => ?_⟩
        rw [b_or, Bool.or_eq_false_iff] at z
        obtain ⟨s1, s2⟩ := hsame f hf z.1
        obtain ⟨t1, t2⟩ := b2 f hf z.2
        exact ⟨s1.trans t1, s2.trans t2⟩
    · have n := hne q hq e
      rw [pk_un n, pk_un n]
      exact hB q hq
theorem sc_bne (h : sc_R c T o D lm lc od bs en pr co dy pn tc tk lt lv hd cn yd pd) {p : Nat} (hp : p < c) : bs (o p) ≠ nI (o p) := by
  have hop := sc_o h hp
  intro z
  rcases sc_hB h p hp with ⟨b1, _⟩ | ⟨q, hq, b1, _⟩
  · rw [b1] at z; exact sc_m1 hop z.symm
  · rw [b1] at z
    have hoq := sc_o h (by omega : q < c)
    have e := (nI_eq (by omega) (by omega)).mp z
    have := (sc_hO h).2.1 q p (by omega) hp e
    omega
theorem sc_drop9 {p : Nat} (hp : p < c) : ∀ d t : Nat, t + d = 14 → ∀ bs en pr co : Nat → Int32, sc_R c T o D lm lc od bs en pr co dy pn tc tk lt lv hd cn yd pd →
    (∀ t', t' < t → tk t' ≠ 0 → bs t' ≠ nI (o p)) →
    ∃ bs' en' pr' co' : Nat → Int32, sc_R c T o D lm lc od bs' en' pr' co' dy pn tc tk lt lv hd cn yd pd ∧ (∀ t', t' < 14 → tk t' ≠ 0 → bs' t' ≠ nI (o p)) ∧
      ∀ post : SX → Prop, wX_drop_9 post (nI p) (nI (o p)) lm (nI c) (nI T) 1 (nI 14) lc od bs' en' pr' co' dy pn tc tk kp →
        wX_drop_9 post (nI p) (nI (o p)) lm (nI c) (nI T) (d + 1) (nI t) lc od bs en pr co dy pn tc tk kp := by
  intro d
  induction d with
  | zero =>
    intro t ht bs en pr co h hn
    obtain rfl : t = 14 := by omega
    exact ⟨bs, en, pr, co, h, hn, fun post hp => hp⟩
  | succ d ih =>
    intro t htd bs en pr co h hn
    have ht : t < 14 := by omega
    have e : ¬ (14 : Int32) ≤ nI t := nI_ge (b := 14) ht (by omega)
    by_cases z : tk t = 0
    · obtain ⟨bs', en', pr', co', h', hn', K⟩ := ih (t + 1) (by omega) bs en pr co h (fun t' ht' hk => by
        by_cases e : t' = t
        · rw [e] at hk; exact absurd z hk
        · exact hn t' (by omega) hk)
      refine ⟨bs', en', pr', co', h', hn', fun post hp => br_f e ⟨sc_i14 ht, br_t ?_ (nm_r (nI_1 t) (K post hp))⟩⟩
      rw [sc_c t (by omega)]; exact z
    · by_cases y : bs t = nI (o p)
      · obtain ⟨pt, hpt, et⟩ := ((sc_hO h).2.2 t ht).mp z
        subst et
        have hop := sc_o h hp
        have hst : o p ≠ o pt := fun w => sc_bne h hp (by rw [w] at y ⊢; exact y)
        obtain ⟨co1, h1, h2, K1⟩ := sc_drop54 (lm := lm) (c := c) (T := T) (lc := lc) (od := od) (bs := bs) (en := en) (pr := pr) (dy := dy) (pn := pn) (tc := tc) (tk := tk) (kp := kp) hop ht hst (en (o p) &&& (en (o pt) ^^^ (-1))) 16 0 rfl co
        have hm := sc_mergeR h hp hpt y (fun g hg => h1 g (by omega) hg) (fun j hj => h2 j (by omega))
        obtain ⟨bs', en', pr', co', h', hn', K⟩ := ih (o pt + 1) (by omega) _ _ _ _ hm (fun t' ht' hk => by
          by_cases e : t' = o pt
          · rw [sc_us e]; exact sc_bne h hp
          · rw [pk_un e]; exact hn t' (by omega) hk)
        refine ⟨bs', en', pr', co', h', hn', fun post hpost => br_f e ⟨sc_i14 ht, br_f ?_ ⟨sc_i14 ht, br_t ?_ ⟨sc_i14 hop, sc_i14 ht, nm_r (e' := en (o p) &&& (en (o pt) ^^^ (-1))) ?_ ⟨17, K1 _ _ _ (K post hpost)⟩⟩⟩⟩⟩
        · rw [sc_c _ (by omega)]; exact z
        · rw [sc_c _ (by omega)]; exact y
        · rw [sc_c _ (by omega), sc_c _ (by omega)]
      · obtain ⟨bs', en', pr', co', h', hn', K⟩ := ih (t + 1) (by omega) bs en pr co h (fun t' ht' hk => by
          by_cases e : t' = t
          · rw [e]; exact y
          · exact hn t' (by omega) hk)
        refine ⟨bs', en', pr', co', h', hn', fun post hp => br_f e ⟨sc_i14 ht, br_f ?_ ⟨sc_i14 ht, br_f ?_ (nm_r (nI_1 t) (K post hp))⟩⟩⟩
        · rw [sc_c t (by omega)]; exact z
        · rw [sc_c t (by omega)]; exact y
theorem sc_drop171 (hc : c ≤ 14) : ∀ d k : Nat, k + 1 + d = c → ∀ od : Nat → Int32, ∃ od' : Nat → Int32,
    (∀ q, k ≤ q → q + 1 < c → od' q = od (q + 1)) ∧ (∀ q, q < k → od' q = od q) ∧
    ∀ post : SX → Prop, post (lm, (nI (c-1)), (nI T), lc, od', bs, en, pr, co, dy, pn, tc, tk, kp) → wX_drop_171 post lm (nI c) (nI T) (d + 1) (nI (k + 1)) lc od bs en pr co dy pn tc tk kp := by
  intro d
  induction d with
  | zero =>
    intro k hk od
    exact ⟨od, fun q h1 h2 => absurd h1 (by omega), fun q _ => rfl, fun post hp => br_t (nI_le (by omega) (by omega)) (nm_r (sc_sub1 (by omega)) hp)⟩
  | succ d ih =>
    intro k hk od
    obtain ⟨od', h1, h2, K⟩ := ih (k + 1) (by omega) (upd od k (od (k + 1)))
    refine ⟨od', fun q hq hq' => ?_, fun q hq => ?_, fun post hp => br_f (nI_ge (by omega) (by omega)) ⟨sc_i14 (by omega), ?_⟩⟩
    · by_cases e : q = k
      · rw [h2 q (by omega), sc_us e, e]
      · rw [h1 q (by omega) hq', pk_un (by omega)]
    · rw [h2 q (by omega), pk_un (by omega)]
    · rw [nI_pred]
      refine ⟨sc_i14 (by omega), nm_r (e' := upd od k (od (k + 1))) ?_ (nm_r (nI_1 (k + 1)) (K post hp))⟩
      rw [sc_c k (by omega), sc_c (k + 1) (by omega)]
def sc_g (p q : Nat) : Nat := if q < p then q else q + 1
theorem sc_gc (p q : Nat) : q < p ∧ sc_g p q = q ∨ p ≤ q ∧ sc_g p q = q + 1 := by
  unfold sc_g
  by_cases h : q < p
  · exact Or.inl ⟨h, if_pos h⟩
  · exact Or.inr ⟨by omega, if_neg h⟩
theorem sc_dropX (kp : Nat → Int32) (h : sc_R c T o D lm lc od bs en pr co dy pn tc tk lt lv hd cn yd pd) {p : Nat} (hp : p < c) :
    ∃ od' bs' en' pr' co' : Nat → Int32, sc_R c T o D lm lc od bs' en' pr' co' dy pn tc tk lt lv hd cn yd pd ∧ (∀ t', t' < 14 → tk t' ≠ 0 → bs' t' ≠ nI (o p)) ∧
      (∀ q, q + 1 < c → od' q = od (sc_g p q)) ∧
      ∀ post : SX → Prop, post (lm, (nI (c-1)), (nI T), lc, od', bs', en', pr', co', dy, pn, tc, (upd tk (o p) 0), kp) → wpX_drop post (lm, (nI c), (nI T), lc, od, bs, en, pr, co, dy, pn, tc, tk, kp) (nI p) := by
  have hc := sc_hc h
  have hop := sc_o h hp
  obtain ⟨bs', en', pr', co', h', hn', K⟩ := sc_drop9 (kp := kp) hp 14 0 rfl bs en pr co h (fun t' ht' => absurd ht' (by omega))
  obtain ⟨od', k1, k2, K2⟩ := sc_drop171 (lm := lm) (c := c) (T := T) (lc := lc) (bs := bs') (en := en') (pr := pr') (co := co') (dy := dy) (pn := pn) (tc := tc) (tk := upd tk (o p) 0) (kp := kp) hc (c - 1 - p) p (by omega) od
  refine ⟨od', bs', en', pr', co', h', hn', fun q hq => ?_, fun post hpost => ?_⟩
  · rcases sc_gc p q with ⟨g1, g2⟩ | ⟨g1, g2⟩
    · rw [g2, k2 q g1]
    · rw [g2, k1 q g1 hq]
  · unfold wpX_drop; dsimp only
    refine ⟨sc_i14 (by omega), nm_r (e' := nI (o p)) (by rw [sc_c p (by omega)]; exact sc_od h hp) ⟨15, K post ?_⟩⟩
    refine br_t (nI_le (a := 14) (b := 14) (by omega) (by omega)) ⟨sc_i14 hop, nm_r (e' := upd tk (o p) 0) ?_ (nm_r (nI_1 p) ⟨_, K2 post hpost⟩)⟩
    rw [sc_c _ (by omega)]; rfl
theorem sc_out20 {i : Nat} (hi : i + 1 < 14) (hpd : pd (i + 1) = 0 ∨ pd (i + 1) = 1) : ∀ d f : Nat, f + d = 16 → ∀ hd cn : Nat → Int32,
    (∀ g, g < 16 → hd (16 * (i + 1) + g) = 0 ∨ hd (16 * (i + 1) + g) = 1) → ∃ hd' cn' : Nat → Int32,
    (∀ g, f ≤ g → g < 16 → hd' (16 * i + g) = hd (16 * (i + 1) + g) ∧ cn' (16 * i + g) = cn (16 * (i + 1) + g)) ∧
    (∀ j, j < 16 * i + f ∨ 16 * i + 16 ≤ j → hd' j = hd j ∧ cn' j = cn j) ∧
    ∀ (post : SY → Prop) (J : Int32 → (Nat → Int32) → (Nat → Int32) → (Nat → Int32) → (Nat → Int32) → (Nat → Int32) → (Nat → Int32) → (Nat → Int32) → Prop),
      J (nI (i + 1)) lt lv hd' cn' (upd yd i (yd (i + 1))) (upd pd i (pd (i + 1))) (upd kt i (vp_nar .boolean (kt (i + 1)))) →
      wY_takeOut_20 post J (nI i) (nI T) (nI c) (d + 1) (nI f) lt lv hd cn yd pd kt := by
  have hi' : i < 14 := by omega
  intro d
  induction d with
  | zero =>
    intro f hf hd cn h01
    obtain rfl : f = 16 := by omega
    refine ⟨hd, cn, fun g h1 h2 => absurd h1 (by omega), fun j _ => ⟨rfl, rfl⟩, fun post J hp => br_t (nI_le (a := 16) (b := 16) (by omega) (by omega)) ?_⟩
    rw [nI_1 i]
    refine ⟨sc_i14 hi, sc_i14 hi', nm_r (e' := upd yd i (yd (i + 1))) ?_ ⟨sc_i14 hi, sc_i14 hi', nm_r (e' := upd pd i (pd (i + 1))) ?_ ⟨sc_i14 hi, sc_i14 hi', nm_r (e' := upd kt i (vp_nar .boolean (kt (i + 1)))) ?_ (nm_e hp)⟩⟩⟩
    · rw [sc_c i (by omega), sc_c (i + 1) (by omega)]
    · rw [sc_c i (by omega), sc_c (i + 1) (by omega), sc_nar hpd]
    · rw [sc_c i (by omega), sc_c (i + 1) (by omega)]
  | succ d ih =>
    intro f hfd hd cn h01
    have hf : f < 16 := by omega
    have e : ¬ (16 : Int32) ≤ nI f := nI_ge (b := 16) hf (by omega)
    obtain ⟨hd', cn', h1, h2, K⟩ := ih (f + 1) (by omega) (upd hd (16 * i + f) (hd (16 * (i + 1) + f))) (upd cn (16 * i + f) (cn (16 * (i + 1) + f))) (fun g hg => by
      rw [pk_un (by omega)]; exact h01 g hg)
    refine ⟨hd', cn', fun g hg hg' => ?_, fun j hj => ?_, fun post J hp => br_f e ?_⟩
    · by_cases eg : g = f
      · rw [(h2 _ (by omega)).1, (h2 _ (by omega)).2, sc_us (by omega), sc_us (by omega), eg]; exact ⟨rfl, rfl⟩
      · rw [(h1 g (by omega) hg').1, (h1 g (by omega) hg').2, pk_un (by omega), pk_un (by omega)]; exact ⟨rfl, rfl⟩
    · rw [(h2 j (by omega)).1, (h2 j (by omega)).2, pk_un (by omega), pk_un (by omega)]; exact ⟨rfl, rfl⟩
    · rw [nI_1 i]
      refine ⟨sc_in hi hf, sc_in hi' hf, nm_r (e' := upd hd (16 * i + f) (hd (16 * (i + 1) + f))) ?_ ⟨sc_in hi hf, sc_in hi' hf, nm_r (e' := upd cn (16 * i + f) (cn (16 * (i + 1) + f))) ?_ (nm_r (nI_1 f) (K post J hp))⟩⟩
      · rw [sc_cl hi' hf, sc_cl hi hf, sc_nar (h01 f hf)]
      · rw [sc_cl hi' hf, sc_cl hi hf]
theorem sc_out2 (hc : c ≤ 14) : ∀ d i : Nat, i + 1 + d = c → ∀ hd cn yd pd kt : Nat → Int32,
    (∀ q g, q < c → g < 16 → hd (16 * q + g) = 0 ∨ hd (16 * q + g) = 1) → (∀ q, q < c → pd q = 0 ∨ pd q = 1) →
    ∃ hd' cn' yd' pd' kt' : Nat → Int32,
    (∀ q g, i ≤ q → q + 1 < c → g < 16 → hd' (16 * q + g) = hd (16 * (q + 1) + g) ∧ cn' (16 * q + g) = cn (16 * (q + 1) + g)) ∧
    (∀ q g, q < i → g < 16 → hd' (16 * q + g) = hd (16 * q + g) ∧ cn' (16 * q + g) = cn (16 * q + g)) ∧
    (∀ q, i ≤ q → q + 1 < c → yd' q = yd (q + 1) ∧ pd' q = pd (q + 1)) ∧
    (∀ q, q < i → yd' q = yd q ∧ pd' q = pd q ∧ kt' q = kt q) ∧
    ∀ post : SY → Prop, post ((nI T), (nI (c-1)), lt, lv, hd', cn', yd', pd', kt') → wY_takeOut_2 post (nI T) (nI c) (d + 1) (nI i) lt lv hd cn yd pd kt := by
  intro d
  induction d with
  | zero =>
    intro i hi hd cn yd pd kt _ _
    refine ⟨hd, cn, yd, pd, kt, fun q g h1 h2 => absurd h1 (by omega), fun q g _ _ => ⟨rfl, rfl⟩, fun q h1 h2 => absurd h1 (by omega), fun q _ => ⟨rfl, rfl, rfl⟩, fun post hp => br_t ?_ (nm_r (sc_sub1 (by omega)) hp)⟩
    rw [sc_sub1 (by omega)]
    exact nI_le (by omega) (by omega)
  | succ d ih =>
    intro i hi hd cn yd pd kt h01 p01
    obtain ⟨hd1, cn1, a1, a2, K1⟩ := sc_out20 (c := c) (T := T) (lt := lt) (lv := lv) (yd := yd) (pd := pd) (kt := kt) (i := i) (by omega) (p01 (i + 1) (by omega)) 16 0 rfl hd cn (fun g hg => h01 (i + 1) g (by omega) hg)
    have b1 : ∀ g, g < 16 → hd1 (16 * i + g) = hd (16 * (i + 1) + g) ∧ cn1 (16 * i + g) = cn (16 * (i + 1) + g) := fun g hg => a1 g (by omega) hg
    have b2 : ∀ q g, q ≠ i → g < 16 → hd1 (16 * q + g) = hd (16 * q + g) ∧ cn1 (16 * q + g) = cn (16 * q + g) := fun q g hq hg => a2 _ (by omega)
    obtain ⟨hd', cn', yd', pd', kt', c1, c2, c3, c4, K⟩ := ih (i + 1) (by omega) hd1 cn1 (upd yd i (yd (i + 1))) (upd pd i (pd (i + 1))) (upd kt i (vp_nar .boolean (kt (i + 1))))
      (fun q g hq hg => by
        by_cases e : q = i
        · rw [e, (b1 g hg).1]; exact h01 (i + 1) g (by omega) hg
        · rw [(b2 q g e hg).1]; exact h01 q g hq hg)
      (fun q hq => by
        by_cases e : q = i
        · rw [sc_us e]; exact p01 (i + 1) (by omega)
        · rw [pk_un e]; exact p01 q hq)
    refine ⟨hd', cn', yd', pd', kt', fun q g h1 h2 hg => ?_, fun q g hq hg => ?_, fun q h1 h2 => ?_, fun q hq => ?_, fun post hp => br_f ?_ (br_f (nI_ge (b := 13) (by omega) (by omega)) ⟨17, K1 post _ (K post hp)⟩)⟩
    · by_cases e : q = i
      · rw [(c2 q g (by omega) hg).1, (c2 q g (by omega) hg).2, e]; exact b1 g hg
      · rw [(c1 q g (by omega) h2 hg).1, (c1 q g (by omega) h2 hg).2]; exact b2 (q + 1) g (by omega) hg
    · rw [(c2 q g (by omega) hg).1, (c2 q g (by omega) hg).2]; exact b2 q g (by omega) hg
    · by_cases e : q = i
      · rw [(c4 q (by omega)).1, (c4 q (by omega)).2.1, sc_us e, sc_us e, e]; exact ⟨rfl, rfl⟩
      · rw [(c3 q (by omega) h2).1, (c3 q (by omega) h2).2, pk_un (by omega), pk_un (by omega)]; exact ⟨rfl, rfl⟩
    · rw [(c4 q (by omega)).1, (c4 q (by omega)).2.1, (c4 q (by omega)).2.2, pk_un (by omega), pk_un (by omega), pk_un (by omega)]; exact ⟨rfl, rfl, rfl⟩
    · rw [sc_sub1 (by omega)]
      exact nI_ge (by omega) (by omega)
theorem sc_shiftR (h : sc_R c T o D lm lc od bs en pr co dy pn tc tk lt lv hd cn yd pd) {p : Nat} (hp : p < c) (hno : ∀ t, t < 14 → tk t ≠ 0 → bs t ≠ nI (o p)) {od' hd' cn' yd' pd' : Nat → Int32}
    (hod : ∀ q, q + 1 < c → od' q = od (sc_g p q))
    (hY : ∀ q f, q + 1 < c → f < 16 → hd' (16 * q + f) = hd (16 * sc_g p q + f) ∧ cn' (16 * q + f) = cn (16 * sc_g p q + f))
    (hyd : ∀ q, q + 1 < c → yd' q = yd (sc_g p q) ∧ pd' q = pd (sc_g p q)) :
    sc_R (c-1) T (fun q => o (sc_g p q)) (fun q => D (sc_g p q)) lm lc od' bs en pr co dy pn tc (upd tk (o p) 0) lt lv hd' cn' yd' pd' := by
  obtain ⟨hct, hL, hO, hD, hP, hH, hE, hTc, hB⟩ := h
  have gl : ∀ q, q < c - 1 → sc_g p q < c := fun q hq => by have := sc_gc p q; omega
  have gne : ∀ q, sc_g p q ≠ p := fun q => by have := sc_gc p q; omega
  have gs : ∀ q2, q2 < c → q2 ≠ p → ∃ q3, q3 < c - 1 ∧ sc_g p q3 = q2 := fun q2 h2 hn => by
    rcases Nat.lt_or_ge q2 p with hlt | hge
    · exact ⟨q2, by omega, by have := sc_gc p q2; omega⟩
    · exact ⟨q2 - 1, by omega, by have := sc_gc p (q2 - 1); omega⟩
  have gm : ∀ a b, a < b → sc_g p a < sc_g p b := fun a b hab => by have := sc_gc p a; have := sc_gc p b; omega
  have gi : ∀ a b, sc_g p a < sc_g p b → a < b := fun a b hab => by have := sc_gc p a; have := sc_gc p b; omega
  have ge : ∀ a b, sc_g p a = sc_g p b → a = b := fun a b hab => by have := sc_gc p a; have := sc_gc p b; omega
  refine ⟨⟨by omega, hct.2⟩, hL, ⟨fun q hq => ?_, fun q q' hq hq' e => ?_, fun t ht => ?_⟩, fun q hq => ?_, fun q hq => ?_, fun q f hq hf => ?_, fun q f hq hf => ?_, fun q f hq hf => ?_, fun q hq => ?_⟩
  · rw [hod q (by omega)]; exact hO.1 _ (gl q hq)
  · exact ge q q' (hO.2.1 _ _ (gl q hq) (gl q' hq') e)
  · by_cases et : t = o p
    · rw [sc_us et]
      refine ⟨fun z => absurd rfl z, fun ⟨q, hq, e⟩ => ?_⟩
      exact absurd (hO.2.1 _ _ (gl q hq) hp (e.trans et)) (gne q)
    · rw [pk_un et, hO.2.2 t ht]
      constructor
      · intro ⟨q2, h2, e⟩
        obtain ⟨q3, h3, e3⟩ := gs q2 h2 (fun w => et (by rw [← e, w]))
        exact ⟨q3, h3, by show o (sc_g p q3) = t; rw [e3]; exact e⟩
      · intro ⟨q, hq, e⟩; exact ⟨_, gl q hq, e⟩
  · obtain ⟨d1, d2, d3, d4⟩ := hD _ (gl q hq)
    exact ⟨by rw [(hyd q (by omega)).1]; exact d1, d2, d3, fun a ha => d4 _ (gm a q ha)⟩
  · rw [(hyd q (by omega)).2]; exact hP _ (gl q hq)
  · rw [(hY q f (by omega) hf).1, (hY q f (by omega) hf).2]; exact hH _ f (gl q hq) hf
  · rw [(hY q f (by omega) hf).1, (hY q f (by omega) hf).2]; exact hE _ f (gl q hq) hf
  · rw [(hY q f (by omega) hf).1, (hY q f (by omega) hf).2]; exact hTc _ f (gl q hq) hf
  · rcases hB _ (gl q hq) with b | ⟨q2, h2, b1, b2⟩
    · exact Or.inl b
    · have hg := gl q hq
      have n2 : q2 ≠ p := fun w => by
        rw [w] at b1
        exact hno _ (hO.1 _ hg).1 ((hO.2.2 _ (hO.1 _ hg).1).mpr ⟨_, hg, rfl⟩) b1
      obtain ⟨q3, h3, e3⟩ := gs q2 (by omega) n2
      subst e3
      refine Or.inr ⟨q3, gi q3 q h2, b1, fun f hf z => ?_⟩
      rw [(hY q f (by omega) hf).1, (hY q f (by omega) hf).2, (hY q3 f (by omega) hf).1, (hY q3 f (by omega) hf).2]
      exact b2 f hf z
theorem sc_drop (kp kt : Nat → Int32) (h : sc_R c T o D lm lc od bs en pr co dy pn tc tk lt lv hd cn yd pd) {p : Nat} (hp : p < c) :
    ∃ (o' D' : Nat → Nat) (od' bs' en' pr' co' tk' hd' cn' yd' pd' kt' : Nat → Int32),
      sc_R (c-1) T o' D' lm lc od' bs' en' pr' co' dy pn tc tk' lt lv hd' cn' yd' pd' ∧ (∀ q, q < p → kt' q = kt q) ∧
      (∀ post : SX → Prop, post (lm, (nI (c-1)), (nI T), lc, od', bs', en', pr', co', dy, pn, tc, tk', kp) → wpX_drop post (lm, (nI c), (nI T), lc, od, bs, en, pr, co, dy, pn, tc, tk, kp) (nI p)) ∧
      (∀ post : SY → Prop, post ((nI T), (nI (c-1)), lt, lv, hd', cn', yd', pd', kt') → wpY_takeOut post ((nI T), (nI c), lt, lv, hd, cn, yd, pd, kt) (nI p)) := by
  have hc := sc_hc h
  obtain ⟨od', bs', en', pr', co', h', hno, hod, KX⟩ := sc_dropX kp h hp
  obtain ⟨hd', cn', yd', pd', kt', c1, c2, c3, c4, KY⟩ := sc_out2 (c := c) (T := T) (lt := lt) (lv := lv) hc (c - 1 - p) p (by omega) hd cn yd pd kt (fun q g hq hg => (sc_hH h q g hq hg).1) (fun q hq => (sc_hP h q hq).2)
  refine ⟨_, _, od', bs', en', pr', co', _, hd', cn', yd', pd', kt', sc_shiftR h' hp hno hod (fun q f hq hf => ?_) (fun q hq => ?_), fun q hq => (c4 q hq).2.2, KX, fun post hpost => by
    unfold wpY_takeOut; dsimp only
    exact ⟨_, KY post hpost⟩⟩
  · rcases sc_gc p q with ⟨g1, g2⟩ | ⟨g1, g2⟩
    · rw [g2]; exact c2 q f g1 hf
    · rw [g2]; exact c1 q f g1 hq hf
  · rcases sc_gc p q with ⟨g1, g2⟩ | ⟨g1, g2⟩
    · rw [g2]; exact ⟨(c4 q g1).1, (c4 q g1).2.1⟩
    · rw [g2]; exact c3 q g1 hq
end
theorem i_vc_forget {k : Nat} {u : SX} {v : SY} (I : i_Rel k u v) (hk : k + 4 ≤ 2048) (v1 : Int32) : wpX_forget (fun r u' => wpY_forget (fun r' v' => r' = r ∧ i_Rel (k + 4) u' v') v v1) u v1 := by
  refine sc_el I (fun u v => wpX_forget (fun r u' => wpY_forget (fun r' v' => r' = r ∧ i_Rel (k + 4) u' v') v v1) u v1) ?_
  intro c T o D lm lc od bs en pr co dy pn tc tk kp lt lv hd cn yd pd kt h
  unfold wpX_forget wpY_forget; dsimp only
  have hc := sc_hc h
  rcases sc_p v1 c hc with ⟨p, hp, rfl⟩ | ⟨hx, hy⟩
  · have hp' : p < 14 := by omega
    have ho := sc_o h hp
    refine sc_pX hc hp (br_f (by decide) ⟨sc_i14 hp', ?_⟩)
    rw [sc_c p (by omega), sc_od h hp]
    refine ⟨sc_i14 ho, ?_⟩
    rw [sc_c _ (by omega), ← (sc_hP h p hp).1]
    by_cases z : pd p = 0
    · obtain ⟨o', D', od', bs', en', pr', co', tk', hd', cn', yd', pd', kt', h', -, KX, KY⟩ := sc_drop kp kt h hp
      refine br_t z (KX _ (sc_pY hc hp (br_t rfl ⟨sc_i14 hp', br_t ?_ (KY _ ⟨rfl, sc_mk _ h'⟩)⟩)))
      exact z
    · refine br_f z (sc_pY hc hp (br_t rfl ⟨sc_i14 hp', br_f ?_ ⟨rfl, sc_mk _ h⟩⟩))
      exact z
  · exact hx _ _ _ _ _ _ _ _ _ _ _ _ _ _ (br_t rfl (hy _ _ _ _ _ _ _ _ _ (br_f (by decide) ⟨rfl, sc_mk _ h⟩)))
end
section
/-! prune -/
section
variable {lm : Int32} {c T : Nat} {lc od bs en pr co dy pn tc tk kp : Nat → Int32} {lt lv hd cn yd pd kt : Nat → Int32} {o D : Nat → Nat}
theorem sc_div (h : sc_R c T o D lm lc od bs en pr co dy pn tc tk lt lv hd cn yd pd) {q l : Nat} (hq : q < c) (hl : 0 < l) (hl2 : l < 100) : nI (D q) / nI l = nI (D q / l) :=
  pk_div (by have := (sc_hD h q hq).2.2.1; have := sc_hT h; omega) hl (by omega)
theorem sc_divI (h : sc_R c T o D lm lc od bs en pr co dy pn tc tk lt lv hd cn yd pd) {q i l : Nat} (hq : q < c) (hi : i < c) : nI (D q / l) = nI (D i / l) ↔ D q / l = D i / l := by
  have h1 := (sc_hD h q hq).2.2.1
  have h2 := (sc_hD h i hi).2.2.1
  have h3 := sc_hT h
  have h4 : D q / l ≤ D q := Nat.div_le_self _ _
  have h5 : D i / l ≤ D i := Nat.div_le_self _ _
  exact nI_eq (by omega) (by omega)
theorem sc_head16 (h : sc_R c T o D lm lc od bs en pr co dy pn tc tk lt lv hd cn yd pd) {i l : Nat} (hi : i < c) (hl : 0 < l) (hl2 : l < 100) {post : Int32 → Prop} (hp : post 1) : ∀ d j : Nat, j + d = c → i < j →
    (∀ q, j ≤ q → q < c → D q / l ≠ D i / l) → wY_head_16 post (nI i) (nI l) (nI T) (nI c) lt lv hd cn yd pd kt (d + 1) (nI j) := by
  have hc := sc_hc h
  intro d
  induction d with
  | zero =>
    intro j hj _ _
    exact br_t (nI_le (by omega) (by omega)) hp
  | succ d ih =>
    intro j hj hij hn
    have hjc : j < c := by omega
    have e0 : ¬ nI l = 0 := nI_ne0 hl (by omega)
    refine br_f (nI_ge hjc (by omega)) (br_f (nI_ge (b := 14) (by omega) (by omega)) ⟨sc_i14 (by omega), e0, sc_i14 (by omega), e0, br_f ?_ (nm_r (nI_1 j) (ih (j + 1) (by omega) (by omega) (fun q h1 h2 => hn q (by omega) h2)))⟩)
    rw [sc_c j (by omega), sc_c i (by omega), (sc_hD h j hjc).1, (sc_hD h i hi).1, sc_div h hjc hl hl2, sc_div h hi hl hl2, sc_divI h hjc hi]
    exact hn j (Nat.le_refl _) hjc
theorem sc_headY (h : sc_R c T o D lm lc od bs en pr co dy pn tc tk lt lv hd cn yd pd) {i l : Nat} (hi : i < c) (hl : 0 < l) (hl2 : l < 100) {post : Int32 → Prop}
    (h1 : (i + 1 = c ∨ D (i + 1) / l ≠ D i / l) → post 1) (h0 : ¬ (i + 1 = c ∨ D (i + 1) / l ≠ D i / l) → post 0) :
    wpY_head post ((nI T), (nI c), lt, lv, hd, cn, yd, pd, kt) (nI i) (nI l) := by
  have hc := sc_hc h
  unfold wpY_head; dsimp only
  refine br_t (nI_le (a := 1) (by omega) (by omega)) (nm_r (nI_1 i) ?_)
  by_cases H : i + 1 = c ∨ D (i + 1) / l ≠ D i / l
  · refine ⟨_, sc_head16 h hi hl hl2 (h1 H) (c - (i + 1)) (i + 1) (by omega) (by omega) (fun q hq hqc => ?_)⟩
    rcases H with H | H
    · omega
    · have a1 : D i / l ≤ D (i + 1) / l := Nat.div_le_div_right ((sc_hD h (i + 1) (by omega)).2.2.2 i (by omega))
      have a2 : D (i + 1) / l ≤ D q / l := by
        by_cases e : q = i + 1
        · rw [e]; exact Nat.le_refl _
        · exact Nat.div_le_div_right ((sc_hD h q hqc).2.2.2 (i + 1) (by omega))
      omega
  · have hi1 : i + 1 < c := by omega
    have e0 : ¬ nI l = 0 := nI_ne0 hl (by omega)
    refine ⟨1, br_f (nI_ge hi1 (by omega)) (br_f (nI_ge (b := 14) (by omega) (by omega)) ⟨sc_i14 (by omega), e0, sc_i14 (by omega), e0, br_t ?_ (h0 H)⟩)⟩
    rw [sc_c (i + 1) (by omega), sc_c i (by omega), (sc_hD h (i + 1) hi1).1, (sc_hD h i hi).1, sc_div h hi1 hl hl2, sc_div h hi hl hl2, sc_divI h hi1 hi]
    by_cases e : D (i + 1) / l = D i / l
    · exact e
    · exact absurd (Or.inr e) H
theorem sc_kh36 (h : sc_R c T o D lm lc od bs en pr co dy pn tc tk lt lv hd cn yd pd) {i l : Nat} (hi : i < c) (hl : 0 < l) (hl2 : l < 100) {post : SX → Prop}
    {J : Int32 → Int32 → (Nat → Int32) → (Nat → Int32) → (Nat → Int32) → (Nat → Int32) → (Nat → Int32) → (Nat → Int32) → (Nat → Int32) → (Nat → Int32) → (Nat → Int32) → (Nat → Int32) → (Nat → Int32) → Prop} {x2 x3 : Int32}
    (h1 : (i + 1 = c ∨ D (i + 1) / l ≠ D i / l) → wX_keepHeads_84 post J (nI l) x2 x3 (nI i) 1 lm (nI c) (nI T) lc od bs en pr co dy pn tc tk kp)
    (h0 : ¬ (i + 1 = c ∨ D (i + 1) / l ≠ D i / l) → wX_keepHeads_84 post J (nI l) x2 x3 (nI i) 0 lm (nI c) (nI T) lc od bs en pr co dy pn tc tk kp) :
    wX_keepHeads_36 post J (nI l) x2 x3 (nI i) (nI l) (nI (D i)) lm (nI c) (nI T) lc od bs en pr co dy pn tc tk kp := by
  have hc := sc_hc h
  have e0 : ¬ nI l = 0 := nI_ne0 hl (by omega)
  unfold wX_keepHeads_36
  refine ⟨e0, nm_r (sc_div h hi hl hl2) ?_⟩
  by_cases e : i + 1 = c
  · refine br_t ?_ ?_
    · rw [← e, nI_pred]
    · unfold wX_keepHeads_79; exact h1 (Or.inl e)
  · have hi1 : i + 1 < c := by omega
    have ho := sc_o h hi1
    refine br_f ?_ ?_
    · rw [sc_sub1 (by omega), nI_eq (by omega) (by omega)]; omega
    · rw [nI_1 i]
      refine ⟨sc_i14 (by omega), ?_⟩
      rw [sc_c (i + 1) (by omega), sc_od h hi1]
      refine ⟨sc_i14 ho, br_f (nI_nle hl (by omega)) ?_⟩
      rw [sc_c _ (by omega), (sc_hD h (i + 1) hi1).2.1]
      unfold wX_keepHeads_73
      refine ⟨e0, ?_⟩
      rw [sc_div h hi1 hl hl2]
      by_cases y : D (i + 1) / l = D i / l
      · exact br_t ((sc_divI h hi1 hi).mpr y) (h0 (fun w => by omega))
      · refine br_f (fun w => y ((sc_divI h hi1 hi).mp w)) ?_
        unfold wX_keepHeads_79; exact h1 (Or.inr y)
theorem sc_heads (h : sc_R c T o D lm lc od bs en pr co dy pn tc tk lt lv hd cn yd pd) {l m : Nat} (hl : 0 < l) (hl2 : l < 100) (hm : m < 100) : ∀ i, i ≤ c → ∀ (a : Nat) (kp kt : Nat → Int32), a + i ≤ c →
    (∀ q, q < c → kp q = kt q) → ∃ kp' kt' : Nat → Int32, (∀ q, q < c → kp' q = kt' q) ∧
      (∀ post : SX → Prop, post (lm, (nI c), (nI T), lc, od, bs, en, pr, co, dy, pn, tc, tk, kp') → wX_keepHeads_10 post (nI l) (nI m) lm (nI c) (nI T) (i + 1) (nI a) (nI i - 1) lc od bs en pr co dy pn tc tk kp) ∧
      (∀ post : SY → Prop, post ((nI T), (nI c), lt, lv, hd, cn, yd, pd, kt') → wY_keep_6 post (nI l) (nI m) (nI T) (nI c) (i + 1) (nI (min a m)) (nI i - 1) lt lv hd cn yd pd kt) := by
  have hc := sc_hc h
  intro i
  induction i with
  | zero =>
    intro _ a kp kt _ hk
    exact ⟨kp, kt, hk, fun post hp => br_t (by decide) hp, fun post hp => br_t (by decide) hp⟩
  | succ i ih =>
    intro hic a kp kt ha hk
    have hi : i < c := by omega
    have ho := sc_o h hi
    rw [nI_pred i]
    have n0 : ¬ nI i < 0 := nI_pos (by omega)
    have nc : ¬ nI c ≤ nI i := nI_ge hi (by omega)
    have body : ∀ (kp : Nat → Int32) (post : SX → Prop), wX_keepHeads_36 post (wX_keepHeads_10 post (nI l) (nI m) lm (nI c) (nI T) (i + 1)) (nI l) (nI m) (nI a) (nI i) (nI l) (nI (D i)) lm (nI c) (nI T) lc od bs en pr co dy pn tc tk kp →
        wX_keepHeads_10 post (nI l) (nI m) lm (nI c) (nI T) (i + 1 + 1) (nI a) (nI i) lc od bs en pr co dy pn tc tk kp := by
      intro kp post hp
      refine br_f n0 ⟨sc_i14 (by omega), ?_⟩
      rw [sc_c i (by omega), sc_od h hi]
      refine ⟨sc_i14 ho, br_f (nI_nle hl (by omega)) ?_⟩
      rw [sc_c _ (by omega), (sc_hD h i hi).2.1]
      exact hp
    by_cases H : i + 1 = c ∨ D (i + 1) / l ≠ D i / l
    · rcases Nat.lt_or_ge a m with ham | ham
      · obtain ⟨kp', kt', hk', KX, KY⟩ := ih (by omega) (a + 1) (upd kp i 1) (upd kt i 1) (by omega) (fun q hq => by
          by_cases e : q = i
          · rw [sc_us e, sc_us e]
          · rw [pk_un e, pk_un e]; exact hk q hq)
        refine ⟨kp', kt', hk', fun post hp => body kp post (sc_kh36 h hi hl hl2 (fun _ => ?_) (fun w => absurd H w)), fun post hp => br_f n0 (br_f nc (br_f ?_ (sc_headY h hi hl hl2 (fun _ => br_f (by decide) ⟨sc_i14 (by omega), nm_r (e' := upd kt i 1) ?_ (nm_r (e' := nI (min (a + 1) m)) ?_ (nm_r (sc_dec i) (KY post hp)))⟩) (fun w => absurd H w))))⟩
        · unfold wX_keepHeads_84
          refine br_f (by decide) (nm_r (nI_1 a) (br_f (nI_nlt (by omega) (by omega)) ⟨sc_i14 (by omega), nm_r (e' := upd kp i 1) ?_ (nm_r (sc_dec i) (KX post hp))⟩))
          rw [sc_c i (by omega)]; rfl
        · exact nI_ge (by omega) (by omega)
        · rw [sc_c i (by omega)]; rfl
        · rw [nI_1]
          have e1 : min a m + 1 = min (a + 1) m := by omega
          rw [e1]
      · obtain ⟨kp', kt', hk', KX, KY⟩ := ih (by omega) (a + 1) kp kt (by omega) hk
        have e1 : min (a + 1) m = min a m := by omega
        rw [e1] at KY
        refine ⟨kp', kt', hk', fun post hp => body kp post (sc_kh36 h hi hl hl2 (fun _ => ?_) (fun w => absurd H w)), fun post hp => br_f n0 (br_f nc (br_t ?_ (nm_r (sc_dec i) (KY post hp))))⟩
        · unfold wX_keepHeads_84
          exact br_f (by decide) (nm_r (nI_1 a) (br_t (nI_lt (by omega) (by omega)) (nm_r (sc_dec i) (KX post hp))))
        · exact nI_le (by omega) (by omega)
    · obtain ⟨kp', kt', hk', KX, KY⟩ := ih (by omega) a kp kt (by omega) hk
      refine ⟨kp', kt', hk', fun post hp => body kp post (sc_kh36 h hi hl hl2 (fun w => absurd w H) (fun _ => ?_)), fun post hp => br_f n0 (br_f nc (br_c (fun _ => nm_r (sc_dec i) (KY post hp)) (fun _ => sc_headY h hi hl hl2 (fun w => absurd w H) (fun _ => br_t rfl (nm_r (sc_dec i) (KY post hp))))))⟩
      unfold wX_keepHeads_84
      exact br_t rfl (nm_r (sc_dec i) (KX post hp))
theorem sc_kskip {x1 x2 x3 : Int32} {post : SY → Prop} (hp : wY_keep_6 post x1 x2 (nI T) (nI c) (c + 1) x3 (nI c - 1) lt lv hd cn yd pd kt) : ∀ e : Nat, c + e ≤ 14 →
    wY_keep_6 post x1 x2 (nI T) (nI c) (c + e + 1) x3 (nI (c + e) - 1) lt lv hd cn yd pd kt := by
  intro e
  induction e with
  | zero => intro _; exact hp
  | succ e ih =>
    intro he
    rw [← Nat.add_assoc, nI_pred]
    exact br_f (nI_pos (by omega)) (br_t (nI_le (by omega) (by omega)) (nm_r (sc_dec _) (ih (by omega))))
theorem sc_keepP (h : sc_R c T o D lm lc od bs en pr co dy pn tc tk lt lv hd cn yd pd) {l m : Nat} (hl : 0 < l) (hl2 : l < 100) (hm : m < 100) {x y : Int32} (hx : x = nI l) (hy : y = nI m)
    (hk : ∀ q, q < c → kp q = kt q) : ∃ kp' kt' : Nat → Int32, (∀ q, q < c → kp' q = kt' q) ∧
      (∀ post : SX → Prop, post (lm, (nI c), (nI T), lc, od, bs, en, pr, co, dy, pn, tc, tk, kp') → wpX_keepHeads post (lm, (nI c), (nI T), lc, od, bs, en, pr, co, dy, pn, tc, tk, kp) x y) ∧
      (∀ post : SY → Prop, post ((nI T), (nI c), lt, lv, hd, cn, yd, pd, kt') → wpY_keep post ((nI T), (nI c), lt, lv, hd, cn, yd, pd, kt) x y) := by
  have hc := sc_hc h
  subst hx hy
  obtain ⟨kp', kt', hk', KX, KY⟩ := sc_heads h hl hl2 hm c (Nat.le_refl _) 0 kp kt (by omega) hk
  rw [Nat.zero_min] at KY
  refine ⟨kp', kt', hk', fun post hp => ?_, fun post hp => ?_⟩
  · unfold wpX_keepHeads; dsimp only
    exact nm_e ⟨_, KX post hp⟩
  · unfold wpY_keep; dsimp only
    have K := sc_kskip (KY post hp) (14 - c) (by omega)
    rw [show c + (14 - c) = 14 by omega] at K
    exact ⟨_, K⟩
def sc_v (pd : Nat → Int32) (c q : Nat) : Int32 := if pd q = 0 then (if q + 1 = c then 1 else 0) else 1
theorem sc_pr15X (h : sc_R c T o D lm lc od bs en pr co dy pn tc tk lt lv hd cn yd pd) : ∀ d i : Nat, i + d = c → ∀ kp : Nat → Int32, ∃ kp' : Nat → Int32,
    (∀ q, i ≤ q → q < c → kp' q = sc_v pd c q) ∧ (∀ q, q < i → kp' q = kp q) ∧
    ∀ (post : Int32 → SX → Prop) (x1 : Int32), wX_prune_15 post x1 lm (nI c) (nI T) 1 (nI c) lc od bs en pr co dy pn tc tk kp' → wX_prune_15 post x1 lm (nI c) (nI T) (d + 1) (nI i) lc od bs en pr co dy pn tc tk kp := by
  have hc := sc_hc h
  intro d
  induction d with
  | zero =>
    intro i hi kp
    obtain rfl : i = c := by omega
    exact ⟨kp, fun q h1 h2 => absurd h1 (by omega), fun q _ => rfl, fun post x1 hp => hp⟩
  | succ d ih =>
    intro i hid kp
    have hi : i < c := by omega
    have ho := sc_o h hi
    obtain ⟨kp', h1, h2, K⟩ := ih (i + 1) (by omega) (upd kp i (sc_v pd c i))
    refine ⟨kp', fun q hq hq' => ?_, fun q hq => ?_, fun post x1 hp => br_f (nI_ge hi (by omega)) ⟨sc_i14 (by omega), ?_⟩⟩
    · by_cases e : q = i
      · rw [h2 q (by omega), sc_us e, e]
      · exact h1 q (by omega) hq'
    · rw [h2 q (by omega), pk_un (by omega)]
    · rw [sc_c i (by omega), sc_od h hi]
      refine ⟨sc_i14 ho, ?_⟩
      rw [sc_c _ (by omega), ← (sc_hP h i hi).1]
      by_cases z : pd i = 0
      · refine br_t z ?_
        by_cases e : i + 1 = c
        · refine br_t (by rw [← e, nI_pred]) ⟨sc_i14 (by omega), nm_r (e' := upd kp i (sc_v pd c i)) ?_ (nm_r (nI_1 i) (K post x1 hp))⟩
          unfold sc_v; rw [if_pos z, if_pos e]; rfl
        · refine br_f ?_ ⟨sc_i14 (by omega), nm_r (e' := upd kp i (sc_v pd c i)) ?_ (nm_r (nI_1 i) (K post x1 hp))⟩
          · rw [sc_sub1 (by omega), nI_eq (by omega) (by omega)]; omega
          · unfold sc_v; rw [if_pos z, if_neg e]; rfl
      · refine br_f z ⟨sc_i14 (by omega), nm_r (e' := upd kp i (sc_v pd c i)) ?_ (nm_r (nI_1 i) (K post x1 hp))⟩
        unfold sc_v; rw [if_neg z]; rfl
theorem sc_pr15Y (hc : c ≤ 14) : ∀ d i : Nat, i + d = 14 → ∀ kt : Nat → Int32, ∃ kt' : Nat → Int32,
    (∀ q, i ≤ q → q < c → kt' q = sc_v pd c q) ∧ (∀ q, q < i → kt' q = kt q) ∧
    ∀ (post : Int32 → SY → Prop) (x1 : Int32), wY_prune_15 post x1 (nI T) (nI c) 1 (nI 14) lt lv hd cn yd pd kt' → wY_prune_15 post x1 (nI T) (nI c) (d + 1) (nI i) lt lv hd cn yd pd kt := by
  intro d
  induction d with
  | zero =>
    intro i hi kt
    obtain rfl : i = 14 := by omega
    exact ⟨kt, fun q h1 h2 => absurd h1 (by omega), fun q _ => rfl, fun post x1 hp => hp⟩
  | succ d ih =>
    intro i hid kt
    have hi : i < 14 := by omega
    have e14 : ¬ (14 : Int32) ≤ nI i := nI_ge (b := 14) hi (by omega)
    rcases Nat.lt_or_ge i c with hic | hic
    · obtain ⟨kt', h1, h2, K⟩ := ih (i + 1) (by omega) (upd kt i (sc_v pd c i))
      refine ⟨kt', fun q hq hq' => ?_, fun q hq => ?_, fun post x1 hp => br_f e14 (br_f (nI_ge hic (by omega)) ⟨sc_i14 hi, ?_⟩)⟩
      · by_cases e : q = i
        · rw [h2 q (by omega), sc_us e, e]
        · exact h1 q (by omega) hq'
      · rw [h2 q (by omega), pk_un (by omega)]
      · rw [sc_c i (by omega)]
        by_cases z : pd i = 0
        · refine br_t z ?_
          by_cases e : i + 1 = c
          · refine br_t (by rw [← e, nI_pred]) ⟨sc_i14 hi, nm_r (e' := upd kt i (sc_v pd c i)) ?_ (nm_r (nI_1 i) (K post x1 hp))⟩
            unfold sc_v; rw [if_pos z, if_pos e]; rfl
          · refine br_f ?_ ⟨sc_i14 hi, nm_r (e' := upd kt i (sc_v pd c i)) ?_ (nm_r (nI_1 i) (K post x1 hp))⟩
            · rw [sc_sub1 (by omega), nI_eq (by omega) (by omega)]; omega
            · unfold sc_v; rw [if_pos z, if_neg e]; rfl
        · refine br_f z ⟨sc_i14 hi, nm_r (e' := upd kt i (sc_v pd c i)) ?_ (nm_r (nI_1 i) (K post x1 hp))⟩
          unfold sc_v; rw [if_neg z]; rfl
    · obtain ⟨kt', h1, h2, K⟩ := ih (i + 1) (by omega) (upd kt i 0)
      refine ⟨kt', fun q hq hq' => absurd hq (by omega), fun q hq => ?_, fun post x1 hp => br_f e14 (br_t (nI_le hic (by omega)) ⟨sc_i14 hi, nm_r (e' := upd kt i 0) ?_ (nm_r (nI_1 i) (K post x1 hp))⟩)⟩
      · rw [h2 q (by omega), pk_un (by omega)]
      · rw [sc_c i (by omega)]; rfl
theorem sc_pr105 : ∀ (i c : Nat) (o D : Nat → Nat) (od bs en pr co tk hd cn yd pd kt : Nat → Int32), sc_R c T o D lm lc od bs en pr co dy pn tc tk lt lv hd cn yd pd → i ≤ c → (∀ q, q < i → kp q = kt q) → ∀ x2 : Int32,
    ∃ (r : Int32) (c' : Nat) (o' D' : Nat → Nat) (od' bs' en' pr' co' tk' hd' cn' yd' pd' kt' : Nat → Int32),
      sc_R c' T o' D' lm lc od' bs' en' pr' co' dy pn tc tk' lt lv hd' cn' yd' pd' ∧
      (∀ post : Int32 → SX → Prop, post r (lm, (nI c'), (nI T), lc, od', bs', en', pr', co', dy, pn, tc, tk', kp) → wX_prune_105 post (i + 1) x2 (nI i - 1) lm (nI c) (nI T) lc od bs en pr co dy pn tc tk kp) ∧
      (∀ post : Int32 → SY → Prop, post r ((nI T), (nI c'), lt, lv, hd', cn', yd', pd', kt') → wY_prune_102 post (i + 1) x2 (nI i - 1) (nI T) (nI c) lt lv hd cn yd pd kt) := by
  intro i
  induction i with
  | zero =>
    intro c o D od bs en pr co tk hd cn yd pd kt h _ _ x2
    exact ⟨x2, c, o, D, od, bs, en, pr, co, tk, hd, cn, yd, pd, kt, h, fun post hp => br_t (by decide) hp, fun post hp => br_t (by decide) hp⟩
  | succ i ih =>
    intro c o D od bs en pr co tk hd cn yd pd kt h hic hk x2
    have hc := sc_hc h
    have hi : i < c := by omega
    rw [nI_pred i]
    have n0 : ¬ nI i < 0 := nI_pos (by omega)
    have nc : ¬ nI c ≤ nI i := nI_ge hi (by omega)
    by_cases z : kp i = 0
    · have z' : kt i = 0 := by rw [← hk i (by omega)]; exact z
      obtain ⟨o1, D1, od1, bs1, en1, pr1, co1, tk1, hd1, cn1, yd1, pd1, kt1, h1, hk1, KX, KY⟩ := sc_drop kp kt h hi
      obtain ⟨r, c', o', D', od', bs', en', pr', co', tk', hd', cn', yd', pd', kt', h', LX, LY⟩ := ih (c - 1) o1 D1 od1 bs1 en1 pr1 co1 tk1 hd1 cn1 yd1 pd1 kt1 h1 (by omega) (fun q hq => by rw [hk1 q hq]; exact hk q (by omega)) (x2 + 1)
      refine ⟨r, c', o', D', od', bs', en', pr', co', tk', hd', cn', yd', pd', kt', h', fun post hp => br_f n0 ⟨sc_i14 (by omega), br_t ?_ (KX _ (nm_e (nm_r (sc_dec i) (LX post hp))))⟩, fun post hp => br_f n0 (br_f nc ⟨sc_i14 (by omega), br_t ?_ (KY _ (nm_e (nm_r (sc_dec i) (LY post hp))))⟩)⟩
      · rw [sc_c i (by omega)]; exact z
      · rw [sc_c i (by omega)]; exact z'
    · have z' : ¬ kt i = 0 := by rw [← hk i (by omega)]; exact z
      obtain ⟨r, c', o', D', od', bs', en', pr', co', tk', hd', cn', yd', pd', kt', h', LX, LY⟩ := ih c o D od bs en pr co tk hd cn yd pd kt h (by omega) (fun q hq => hk q (by omega)) x2
      refine ⟨r, c', o', D', od', bs', en', pr', co', tk', hd', cn', yd', pd', kt', h', fun post hp => br_f n0 ⟨sc_i14 (by omega), br_f ?_ (nm_r (sc_dec i) (LX post hp))⟩, fun post hp => br_f n0 (br_f nc ⟨sc_i14 (by omega), br_f ?_ (nm_r (sc_dec i) (LY post hp))⟩)⟩
      · rw [sc_c i (by omega)]; exact z
      · rw [sc_c i (by omega)]; exact z'
theorem sc_pskip {x2 : Int32} {post : Int32 → SY → Prop} (hp : wY_prune_102 post (c + 1) x2 (nI c - 1) (nI T) (nI c) lt lv hd cn yd pd kt) : ∀ e : Nat, c + e ≤ 14 →
    wY_prune_102 post (c + e + 1) x2 (nI (c + e) - 1) (nI T) (nI c) lt lv hd cn yd pd kt := by
  intro e
  induction e with
  | zero => intro _; exact hp
  | succ e ih =>
    intro he
    rw [← Nat.add_assoc, nI_pred]
    exact br_f (nI_pos (by omega)) (br_t (nI_le (by omega) (by omega)) (nm_r (sc_dec _) (ih (by omega))))
end
theorem i_vc_prune {k : Nat} {u : SX} {v : SY} (I : i_Rel k u v) (hk : k + 4 ≤ 2048) (v1 : Int32) : wpX_prune (fun r u' => wpY_prune (fun r' v' => r' = r ∧ i_Rel (k + 4) u' v') v v1) u v1 := by
  refine sc_el I (fun u v => wpX_prune (fun r u' => wpY_prune (fun r' v' => r' = r ∧ i_Rel (k + 4) u' v') v v1) u v1) ?_
  intro c T o D lm lc od bs en pr co dy pn tc tk kp lt lv hd cn yd pd kt h
  have hc := sc_hc h
  unfold wpX_prune wpY_prune; dsimp only
  by_cases w0 : v1 < 0
  · exact br_t w0 (br_t w0 ⟨rfl, sc_mk _ h⟩)
  · by_cases w9 : v1 ≤ 999
    · obtain ⟨j, hj, rfl⟩ := nI_of2 (M := 999) (n := 999) (by decide) w0 w9
      obtain ⟨kp0, a1, -, KX0⟩ := sc_pr15X h c 0 (by omega) kp
      obtain ⟨kt0, b1, -, KY0⟩ := sc_pr15Y (c := c) (T := T) (lt := lt) (lv := lv) (hd := hd) (cn := cn) (yd := yd) (pd := pd) hc 14 0 rfl kt
      have e1 : nI j / 100 = nI (j / 100) := pk_div (d := 100) (by omega) (by omega) (by omega)
      have e2 : nI j / 10 = nI (j / 10) := pk_div (d := 10) (by omega) (by omega) (by omega)
      have e3 : (nI j / 10) - (nI j / 10) / 10 * 10 = nI (j / 10 % 10) := by
        rw [e2]; exact pk_rem (d := 10) (by omega) (by omega) (by omega)
      have e4 : nI j - nI j / 10 * 10 = nI (j % 10) := pk_rem (d := 10) (by omega) (by omega) (by omega)
      obtain ⟨kp1, kt1, k1, KX1, KY1⟩ := sc_keepP (kp := kp0) (kt := kt0) h (l := 1) (x := 1) (by omega) (by omega) (by omega) rfl e1 (fun q hq => by rw [a1 q (by omega) hq, b1 q (by omega) hq])
      obtain ⟨kp2, kt2, k2, KX2, KY2⟩ := sc_keepP h (l := 7) (x := 7) (by omega) (by omega) (by omega) rfl e3 k1
      obtain ⟨kp3, kt3, k3, KX3, KY3⟩ := sc_keepP h (l := 28) (x := 28) (by omega) (by omega) (by omega) rfl e4 k2
      obtain ⟨r, c', o', D', od', bs', en', pr', co', tk', hd', cn', yd', pd', kt', h', LX, LY⟩ := sc_pr105 (kp := kp3) c c o D od bs en pr co tk hd cn yd pd kt3 h (Nat.le_refl _) k3 0
      refine br_f w0 (br_t w9 ⟨_, KX0 _ _ (br_t (nI_le (Nat.le_refl c) (by omega)) ⟨by decide, KX1 _ ⟨by decide, by decide, KX2 _ ⟨by decide, KX3 _ (nm_e ⟨_, LX _ ?_⟩)⟩⟩⟩)⟩)
      refine br_f w0 (br_t w9 ⟨_, KY0 _ _ (br_t (nI_le (a := 14) (b := 14) (by omega) (by omega)) ⟨by decide, KY1 _ ⟨by decide, by decide, KY2 _ ⟨by decide, KY3 _ ?_⟩⟩⟩)⟩)
      have K := sc_pskip (LY (fun r' v' => r' = r ∧ i_Rel (k + 4) (lm, (nI c'), (nI T), lc, od', bs', en', pr', co', dy, pn, tc, tk', kp3) v') ⟨rfl, sc_mk _ h'⟩) (14 - c) (by omega)
      rw [show c + (14 - c) = 14 by omega] at K
      exact ⟨_, K⟩
    · exact br_f w0 (br_f w9 (br_f w0 (br_f w9 ⟨rfl, sc_mk _ h⟩)))
end
