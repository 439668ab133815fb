section
theorem pk_us {f : Nat → Int32} {k : Nat} {x : Int32} : upd f k x k = x := if_pos rfl
theorem pk_un {f : Nat → Int32} {k j : Nat} {x : Int32} (h : j ≠ k) : upd f k x j = f j := if_neg h
theorem pk_uLs {f : Nat → Int64} {k : Nat} {x : Int64} : vp_updL f k x k = x := if_pos rfl
theorem pk_uLn {f : Nat → Int64} {k j : Nat} {x : Int64} (h : j ≠ k) : vp_updL f k x j = f j := if_neg h
theorem pk_sub {a b : Nat} (h : b ≤ a) : nI a - nI b = nI (a - b) := by
  obtain ⟨c, rfl⟩ : ∃ c, a = c + b := ⟨a - b, by omega⟩
  rw [← nI_add, Int32.add_sub_cancel, Nat.add_sub_cancel]
theorem pk_m1 (n : Nat) : nI (n + 1) + (-1) = nI n := by
  rw [← nI_1, Int32.add_assoc, show (1 : Int32) + (-1) = 0 from rfl, Int32.add_zero]
theorem pk_mul (a b : Nat) : nI a * nI b = nI (a * b) := (Int32.ofNat_mul a b).symm
theorem pk_div {a d : Nat} (ha : a < 2 ^ 31) (h0 : 0 < d) (hd : d < 2 ^ 31) : nI a / nI d = nI (a / d) := by
  apply Int32.toInt_inj.mp
  rw [lg_idiv_nonneg (by rw [nI_toInt ha]; omega) (by rw [nI_toInt hd]; omega), nI_toInt ha, nI_toInt hd, nI_toInt (Nat.lt_of_le_of_lt (Nat.div_le_self a d) ha)]
  first | rfl | exact (Int.natCast_ediv _ _).symm
theorem pk_rem {a d : Nat} (ha : a < 2 ^ 31) (h0 : 0 < d) (hd : d < 2 ^ 31) : nI a - nI a / nI d * nI d = nI (a % d) := by
  rw [pk_div ha h0 hd, pk_mul, pk_sub (Nat.div_mul_le_self a d)]
  exact congrArg nI (by have := Nat.div_add_mod' a d; omega)
theorem pk_sub_toInt {a b : Nat} (ha : a < 2 ^ 30) (hb : b < 2 ^ 30) : (nI a - nI b).toInt = (a : Int) - b := by
  rw [Int32.toInt_sub, nI_toInt (by omega), nI_toInt (by omega)]
  exact Int.bmod_eq_of_le (by omega) (by omega)
theorem pk_sneg {a b : Nat} (hb : b < 2 ^ 30) (h : a < b) : nI a - nI b < 0 := by
  rw [Int32.lt_iff_toInt_lt, pk_sub_toInt (by omega) hb, show (0 : Int32).toInt = 0 from by decide]
  omega
theorem pk_ix (x : Int32) {n : Nat} (hn : n < 2 ^ 31) : x < 0 ∨ nI n ≤ x ∨ ∃ j : Nat, j < n ∧ x = nI j := by
  by_cases h : x < 0
  · exact Or.inl h
  · obtain ⟨j, hj, rfl⟩ := nI_of h
    by_cases h2 : j < n
    · exact Or.inr (Or.inr ⟨j, h2, rfl⟩)
    · exact Or.inr (Or.inl (nI_le (by omega) hj))
theorem pk_le {x y : Int32} {A B : Prop} (a b : Nat) (f : a ≤ b → A) (g : b < a → B) (hx : x = nI a := by rfl) (hy : y = nI b := by rfl) (ha : a < 2 ^ 31 := by omega) (hb : b < 2 ^ 31 := by omega) : (x ≤ y → A) ∧ (¬ x ≤ y → B) := by
  subst hx hy
  rw [nI_leI ha hb]
  exact ⟨f, fun z => g (by omega)⟩
theorem pk_lt {x y : Int32} {A B : Prop} (a b : Nat) (f : a < b → A) (g : b ≤ a → B) (hx : x = nI a := by rfl) (hy : y = nI b := by rfl) (ha : a < 2 ^ 31 := by omega) (hb : b < 2 ^ 31 := by omega) : (x < y → A) ∧ (¬ x < y → B) := by
  subst hx hy
  rw [nI_ltI ha hb]
  exact ⟨f, fun z => g (by omega)⟩
theorem pk_eq {x y : Int32} {A B : Prop} (a b : Nat) (f : a = b → A) (g : a ≠ b → B) (hx : x = nI a := by rfl) (hy : y = nI b := by rfl) (ha : a < 2 ^ 31 := by omega) (hb : b < 2 ^ 31 := by omega) : (x = y → A) ∧ (¬ x = y → B) := by
  subst hx hy
  rw [nI_eq ha hb]
  exact ⟨f, g⟩
theorem pk_in {x : Int32} (n N : Nat) (h : n < N) (hx : x = nI n := by rfl) (hN : N < 2 ^ 31 := by omega) : vp_in x N := by
  subst hx
  exact vp_in_nI h hN
theorem pk_cl {x : Int32} (n : Nat) (hx : x = nI n := by rfl) (h : n < 2 ^ 31 := by omega) : x.toNatClampNeg = n := by
  subst hx
  exact nI_clamp h
theorem pk_tn {n : Nat} (h : n < 2 ^ 32) : (nI n).toBitVec.toNat = n := Nat.mod_eq_of_lt h
theorem pk_and (x : Int32) {m : Int32} (k : Nat) (hm : m.toBitVec.toNat = 2 ^ k - 1) : x &&& m = nI (x.toBitVec.toNat % 2 ^ k) := by
  apply Int32.toBitVec_inj.mp
  apply BitVec.eq_of_toNat_eq
  rw [Int32.toBitVec_and, BitVec.toNat_and, hm, Nat.and_two_pow_sub_one_eq_mod]
  show _ = (BitVec.ofNat 32 _).toNat
  rw [BitVec.toNat_ofNat]
  exact (Nat.mod_eq_of_lt (Nat.lt_of_le_of_lt (Nat.mod_le _ _) x.toBitVec.isLt)).symm
theorem pk_andN {n : Nat} (h : n < 2 ^ 32) {m : Int32} (k : Nat) (hm : m.toBitVec.toNat = 2 ^ k - 1) : nI n &&& m = nI (n % 2 ^ k) := by
  rw [pk_and _ k hm, pk_tn h]
theorem pk_andE (x : Int32) {m : Int32} (k : Nat) (hm : m.toBitVec.toNat = 2 ^ k - 1) : ∃ j : Nat, j < 2 ^ k ∧ x &&& m = nI j := ⟨_, Nat.mod_lt _ (Nat.two_pow_pos k), pk_and x k hm⟩
theorem pk_andIn (x : Int32) {m : Int32} (k : Nat) (hm : m.toBitVec.toNat = 2 ^ k - 1) (hk : k ≤ 30) : vp_in (x &&& m) (2 ^ k) := by
  obtain ⟨j, hj, e⟩ := pk_andE x k hm
  rw [e]
  exact vp_in_nI hj (Nat.lt_of_le_of_lt (Nat.pow_le_pow_right (by decide) hk) (by decide))
theorem pk_shl (a s : Int32) (k : Nat) (hs : (s.toBitVec.smod 32).toNat = k) : (a <<< s).toBitVec.toNat = a.toBitVec.toNat * 2 ^ k % 2 ^ 32 := by
  show (a.toBitVec <<< (s.toBitVec.smod 32).toNat).toNat = _
  rw [hs, BitVec.toNat_shiftLeft, Nat.shiftLeft_eq]
theorem pk_shlN {n : Nat} (s : Int32) (k : Nat) (hs : (s.toBitVec.smod 32).toNat = k) (h : n * 2 ^ k < 2 ^ 32) : nI n <<< s = nI (n * 2 ^ k) := by
  apply Int32.toBitVec_inj.mp
  apply BitVec.eq_of_toNat_eq
  have hn : n < 2 ^ 32 := Nat.lt_of_le_of_lt (Nat.le_mul_of_pos_right n (Nat.two_pow_pos k)) h
  rw [pk_shl _ _ k hs, pk_tn hn, pk_tn h, Nat.mod_eq_of_lt h]
theorem pk_shr (a s : Int32) (k : Nat) (hs : (s.toBitVec.smod 32).toNat = k) : (a >>> s).toInt = a.toInt >>> k := by
  show (a.toBitVec.sshiftRight (s.toBitVec.smod 32).toNat).toInt = _
  rw [hs, BitVec.toInt_sshiftRight]
  rfl
theorem pk_shrN {n : Nat} (h : n < 2 ^ 31) (s : Int32) (k : Nat) (hs : (s.toBitVec.smod 32).toNat = k) : nI n >>> s = nI (n / 2 ^ k) := by
  apply Int32.toInt_inj.mp
  have h2 : n / 2 ^ k ≤ n := Nat.div_le_self _ _
  rw [pk_shr _ _ k hs, nI_toInt h, nI_toInt (by omega), Int.shiftRight_eq_div_pow]
  rfl
theorem pk_lT {n : Nat} (h : n < 2 ^ 63) : (lN n).toInt = (n : Int) := lg_ofNat_toInt h
theorem pk_lLT {a b : Nat} (ha : a < 2 ^ 63) (hb : b < 2 ^ 63) : lN a < lN b ↔ a < b := by
  rw [Int64.lt_iff_toInt_lt, pk_lT ha, pk_lT hb]; omega
theorem pk_lLE {a b : Nat} (ha : a < 2 ^ 63) (hb : b < 2 ^ 63) : lN a ≤ lN b ↔ a ≤ b := by
  rw [Int64.le_iff_toInt_le, pk_lT ha, pk_lT hb]; omega
theorem pk_lEQ {a b : Nat} (ha : a < 2 ^ 63) (hb : b < 2 ^ 63) : lN a = lN b ↔ a = b := by
  rw [← Int64.toInt_inj, pk_lT ha, pk_lT hb]; omega
theorem pk_lOf {x : Int64} (h : ¬ x < 0) : ∃ k : Nat, k < 2 ^ 63 ∧ x = lN k := by
  rw [Int64.lt_iff_toInt_lt] at h
  have h0 : (0 : Int64).toInt = 0 := by decide
  have hx := Int64.toInt_lt x
  refine ⟨x.toInt.toNat, by omega, Int64.toInt_inj.mp ?_⟩
  rw [pk_lT (by omega)]
  omega
theorem pk_lDiv {a b : Nat} (ha : a < 2 ^ 63) (h0 : 0 < b) (hb : b < 2 ^ 63) : lN a / lN b = lN (a / b) := by
  apply Int64.toInt_inj.mp
  rw [lg_ldiv_nonneg (by rw [pk_lT ha]; omega) (by rw [pk_lT hb]; omega), pk_lT ha, pk_lT hb, pk_lT (Nat.lt_of_le_of_lt (Nat.div_le_self a b) ha)]
  rfl
theorem pk_lRem {a b : Nat} (ha : a < 2 ^ 63) (h0 : 0 < b) (hb : b < 2 ^ 63) : lN a - lN a / lN b * lN b = lN (a % b) := by
  rw [pk_lDiv ha h0 hb, lN_mul, lN_sub (Nat.div_mul_le_self a b)]
  exact congrArg lN (by have := Nat.div_add_mod' a b; omega)
def bx_sum (f : Nat → Int32) : Nat → Int32
  | 0 => 0
  | n + 1 => bx_sum f n + f n
end
section
theorem pm_nm1 {n : Nat} (h : n < 2 ^ 31) : ¬ nI n = (-1) := by
  intro e
  have h1 := nI_toInt h
  rw [e] at h1
  have h2 : (-1 : Int32).toInt = -1 := by decide
  omega
theorem pm_ix (v k : Nat) : (32 : Int32) * nI v + nI k = nI (32 * v + k) := by
  show nI 32 * nI v + nI k = _
  rw [pk_mul, nI_add]
theorem pm_n10 : ¬ (1 : Int32) = 0 := by decide
theorem pm_nar {t : Int32} (h : t = 0 ∨ t = 1) : vp_nar .boolean t = t := by
  rcases h with rfl | rfl
  · rfl
  · rfl
/-- the least member of S whose f is at least b, or -1 -/
def pm_sc (S : Nat → Prop) (f : Nat → Nat) (b : Nat) (r : Int32) : Prop :=
  (r = (-1) ∧ ∀ y, S y → f y < b) ∨ (∃ y, r = nI y ∧ S y ∧ b ≤ f y ∧ ∀ z, S z → b ≤ f z → f y ≤ f z)
/-- e is the member of S with the greatest f that is at most L -/
def pm_mx (S : Nat → Prop) (f : Nat → Nat) (L e : Nat) : Prop := S e ∧ f e ≤ L ∧ ∀ z, S z → f z ≤ L → f z ≤ f e
def pm_no (S : Nat → Prop) (f : Nat → Nat) (L : Nat) : Prop := ∀ z, S z → L < f z
def pm_pd (S : Nat → Prop) (f : Nat → Nat) (L : Nat) (r : Int32) : Prop :=
  (r = (-1) ∧ pm_no S f L) ∨ (∃ e, r = nI e ∧ pm_mx S f L e)
theorem pm_sc_map {S : Nat → Prop} {f g : Nat → Nat} {b d : Nat} {r : Int32} (h1 : ∀ y z, S y → S z → f y ≤ f z → g y ≤ g z) (h2 : ∀ y, S y → (b ≤ f y ↔ d ≤ g y)) (h : pm_sc S f b r) : pm_sc S g d r := by
  rcases h with ⟨hr, h⟩ | ⟨y, hr, hy, hb, h⟩
  · refine Or.inl ⟨hr, fun y hy => ?_⟩
    have a := h y hy
    have c := h2 y hy
    omega
  · refine Or.inr ⟨y, hr, hy, (h2 y hy).mp hb, fun z hz hd => h1 y z hy hz (h z hz ((h2 z hz).mpr hd))⟩
theorem pm_sc_set {S T : Nat → Prop} {f g : Nat → Nat} {b : Nat} {r : Int32} (h1 : ∀ y, S y ↔ T y) (h2 : ∀ y, S y → g y = f y) (h : pm_sc S f b r) : pm_sc T g b r := by
  rcases h with ⟨hr, h⟩ | ⟨y, hr, hy, hb, h⟩
  · refine Or.inl ⟨hr, fun y hy => ?_⟩
    have hs := (h1 y).mpr hy
    rw [h2 y hs]
    exact h y hs
  · refine Or.inr ⟨y, hr, (h1 y).mp hy, by rw [h2 y hy]; exact hb, fun z hz hd => ?_⟩
    have hs := (h1 z).mpr hz
    rw [h2 z hs] at hd ⊢
    rw [h2 y hy]
    exact h z hs hd
/-! ancestors -/
def pm_an (pn : Nat → Nat) (v : Nat) : Nat → Nat → Bool
  | 0, w => decide (w = v)
  | k + 1, w => if w ≤ v then decide (w = v) else pm_an pn v k (pn w)
def pm_anc (pn : Nat → Nat) (v w : Nat) : Bool := pm_an pn v w w
def pm_dn (pn : Nat → Nat) (c : Nat) : Prop := ∀ x, 0 < x → x < c → pn x < x
theorem pm_an_f {pn : Nat → Nat} {c v : Nat} (hd : pm_dn pn c) : ∀ (k l w : Nat), w < c → w ≤ k → w ≤ l → pm_an pn v k w = pm_an pn v l w := by
  intro k
  induction k with
  | zero =>
    intro l w _ hk _
    have e : w = 0 := by omega
    subst e
    cases l with
    | zero => rfl
    | succ l => show _ = if 0 ≤ v then _ else _; rw [if_pos (Nat.zero_le v)]; rfl
  | succ k ih =>
    intro l w hc hk hl
    cases l with
    | zero =>
      have e : w = 0 := by omega
      subst e
      show (if 0 ≤ v then _ else _) = _
      rw [if_pos (Nat.zero_le v)]
      rfl
    | succ l =>
      show (if w ≤ v then _ else _) = if w ≤ v then _ else _
      by_cases h : w ≤ v
      · rw [if_pos h, if_pos h]
      · rw [if_neg h, if_neg h]
        have := hd w (by omega) hc
        exact ih l (pn w) (by omega) (by omega) (by omega)
theorem pm_anc_le {pn : Nat → Nat} {v w : Nat} (h : w ≤ v) : pm_anc pn v w = decide (w = v) := by
  unfold pm_anc
  cases w with
  | zero => rfl
  | succ w => show (if w + 1 ≤ v then _ else _) = _; rw [if_pos h]
theorem pm_anc_gt {pn : Nat → Nat} {c v w : Nat} (hd : pm_dn pn c) (hw : w < c) (h : ¬ w ≤ v) : pm_anc pn v w = pm_anc pn v (pn w) := by
  unfold pm_anc
  cases w with
  | zero => exact absurd (Nat.zero_le v) h
  | succ w =>
    show (if w + 1 ≤ v then _ else _) = _
    rw [if_neg h]
    have := hd (w + 1) (by omega) hw
    exact pm_an_f hd _ _ _ (by omega) (by omega) (by omega)
theorem pm_anc_rf {pn : Nat → Nat} {v : Nat} : pm_anc pn v v = true := by
  rw [pm_anc_le (Nat.le_refl v)]
  exact decide_eq_true rfl
theorem pm_anc_le2 {pn : Nat → Nat} {v w : Nat} (h : pm_anc pn v w = true) : v ≤ w := by
  by_cases hc : w ≤ v
  · rw [pm_anc_le hc] at h
    have := of_decide_eq_true h
    omega
  · omega
theorem pm_anc_0 {pn : Nat → Nat} {c : Nat} (hd : pm_dn pn c) : ∀ (d w : Nat), w ≤ d → w < c → pm_anc pn 0 w = true := by
  intro d
  induction d with
  | zero =>
    intro w h _
    have e : w = 0 := by omega
    subst e
    exact pm_anc_rf
  | succ d ih =>
    intro w h hw
    by_cases h0 : w ≤ 0
    · have e : w = 0 := by omega
      subst e
      exact pm_anc_rf
    · rw [pm_anc_gt hd hw h0]
      have := hd w (by omega) hw
      exact ih _ (by omega) (by omega)
theorem pm_anc_tr {pn : Nat → Nat} {c a b : Nat} (hd : pm_dn pn c) (hab : pm_anc pn a b = true) : ∀ (d w : Nat), w ≤ d → w < c → pm_anc pn b w = true → pm_anc pn a w = true := by
  intro d
  induction d with
  | zero =>
    intro w h hw hb
    have := pm_anc_le2 hb
    have e : w = b := by omega
    subst e
    exact hab
  | succ d ih =>
    intro w h hw hb
    by_cases h0 : w ≤ b
    · have := pm_anc_le2 hb
      have e : w = b := by omega
      subst e
      exact hab
    · have := pm_anc_le2 hab
      rw [pm_anc_gt hd hw h0] at hb
      rw [pm_anc_gt hd hw (by omega)]
      have := hd w (by omega) hw
      exact ih _ (by omega) (by omega) hb
theorem pm_an_cg {pn qn : Nat → Nat} {c v : Nat} (hd : pm_dn pn c) (he : ∀ x, x < c → qn x = pn x) : ∀ (k w : Nat), w < c → pm_an qn v k w = pm_an pn v k w := by
  intro k
  induction k with
  | zero => intro w _; rfl
  | succ k ih =>
    intro w hw
    show (if w ≤ v then _ else _) = if w ≤ v then _ else _
    by_cases h : w ≤ v
    · rw [if_pos h, if_pos h]
    · rw [if_neg h, if_neg h, he w hw]
      have := hd w (by omega) hw
      exact ih _ (by omega)
theorem pm_anc_cg {pn qn : Nat → Nat} {c v w : Nat} (hd : pm_dn pn c) (he : ∀ x, x < c → qn x = pn x) (hw : w < c) : pm_anc qn v w = pm_anc pn v w := pm_an_cg hd he w w hw
/-! counts -/
def pm_cn (P : Nat → Bool) : Nat → Nat
  | 0 => 0
  | n + 1 => pm_cn P n + (if P n = true then 1 else 0)
theorem pm_cn_le (P : Nat → Bool) : ∀ n, pm_cn P n ≤ n := by
  intro n
  induction n with
  | zero => exact Nat.le_refl 0
  | succ n ih => show pm_cn P n + _ ≤ _; split <;> omega
theorem pm_cn_cg {P Q : Nat → Bool} : ∀ n, (∀ x, x < n → P x = Q x) → pm_cn P n = pm_cn Q n := by
  intro n
  induction n with
  | zero => intro _; rfl
  | succ n ih =>
    intro h
    show pm_cn P n + (if P n = true then 1 else 0) = pm_cn Q n + (if Q n = true then 1 else 0)
    rw [ih (fun x hx => h x (by omega)), h n (by omega)]
theorem pm_cn_1 {P Q : Nat → Bool} {y : Nat} (hp : P y = false) (hq : Q y = true) : ∀ n, y < n → (∀ x, x < n → x ≠ y → P x = Q x) → pm_cn Q n = pm_cn P n + 1 := by
  intro n
  induction n with
  | zero => intro h; omega
  | succ n ih =>
    intro hy h
    show pm_cn Q n + (if Q n = true then 1 else 0) = pm_cn P n + (if P n = true then 1 else 0) + 1
    by_cases e : y = n
    · subst e
      rw [hp, hq, pm_cn_cg y (fun x hx => h x (by omega) (by omega))]
      rfl
    · rw [ih (by omega) (fun x hx hn => h x (by omega) hn), h n (by omega) (by omega)]
      omega
theorem pm_cn_0 {P : Nat → Bool} : ∀ n, (∀ x, x < n → P x = false) → pm_cn P n = 0 := by
  intro n
  induction n with
  | zero => intro _; rfl
  | succ n ih =>
    intro h
    show pm_cn P n + (if P n = true then 1 else 0) = 0
    rw [ih (fun x hx => h x (by omega)), h n (by omega)]
    rfl
/-- how many x below c have lab x < b and q x -/
def pm_cq (lab : Nat → Nat) (q : Nat → Bool) (c b : Nat) : Nat := pm_cn (fun x => decide (lab x < b) && q x) c
def pm_inj (c : Nat) (lab : Nat → Nat) : Prop := ∀ x y, x < c → y < c → lab x = lab y → x = y
theorem pm_cq_step {lab : Nat → Nat} {q : Nat → Bool} {c b y : Nat} (hi : pm_inj c lab) (hy : y < c) (hb : b ≤ lab y) (hm : ∀ z, z < c → b ≤ lab z → lab y ≤ lab z) :
    pm_cq lab q c (lab y + 1) = pm_cq lab q c b + (if q y = true then 1 else 0) := by
  have hx : ∀ x, x < c → x ≠ y → decide (lab x < b) = decide (lab x < lab y + 1) := by
    intro x hx hn
    have h1 := hm x hx
    have h2 : lab x ≠ lab y := fun e => hn (hi x y hx hy e)
    apply decide_eq_decide.mpr
    omega
  unfold pm_cq
  cases hq : q y with
  | true =>
    rw [if_pos rfl]
    refine pm_cn_1 (y := y) ?_ ?_ c hy (fun x hx' hn => ?_)
    · show (decide (lab y < b) && q y) = false
      rw [decide_eq_false (by omega)]; rfl
    · show (decide (lab y < lab y + 1) && q y) = true
      rw [decide_eq_true (by omega), hq]; rfl
    · show (decide (lab x < b) && q x) = (decide (lab x < lab y + 1) && q x)
      rw [hx x hx' hn]
  | false =>
    rw [if_neg (by decide), Nat.add_zero]
    refine pm_cn_cg c (fun x hx' => ?_)
    show (decide (lab x < lab y + 1) && q x) = (decide (lab x < b) && q x)
    by_cases e : x = y
    · subst e
      rw [hq, Bool.and_false, Bool.and_false]
    · rw [hx x hx' e]
theorem pm_cq_all {lab : Nat → Nat} {q : Nat → Bool} {c b : Nat} (h : ∀ x, x < c → q x = true → lab x < b) : pm_cq lab q c b = pm_cn q c := by
  refine pm_cn_cg c (fun x hx => ?_)
  show (decide (lab x < b) && q x) = q x
  cases hq : q x with
  | true => rw [decide_eq_true (h x hx hq)]; rfl
  | false => exact Bool.and_false _
theorem pm_cq_none {lab : Nat → Nat} {q : Nat → Bool} {c b : Nat} (h : ∀ x, x < c → q x = true → b ≤ lab x) : pm_cq lab q c b = 0 := by
  refine pm_cn_0 c (fun x hx => ?_)
  show (decide (lab x < b) && q x) = false
  cases hq : q x with
  | true => rw [decide_eq_false (by have := h x hx hq; omega)]; rfl
  | false => exact Bool.and_false _
theorem pm_cq_cg {lab : Nat → Nat} {q : Nat → Bool} {c b d : Nat} (h : ∀ x, x < c → (lab x < b ↔ lab x < d)) : pm_cq lab q c b = pm_cq lab q c d := by
  refine pm_cn_cg c (fun x hx => ?_)
  show (decide (lab x < b) && q x) = (decide (lab x < d) && q x)
  rw [decide_eq_decide.mpr (h x hx)]
end
section
def pm_M : Nat := 2305843009213693952
theorem pm_M63 : pm_M < 2 ^ 63 := by decide
def pm_b : Bool → Int32
  | true => 1
  | false => 0
def pm_th : Option Int32 → Int32
  | none => 0
  | some _ => 1
def pm_va : Option Int32 → Int32
  | none => 0
  | some x => x
theorem pm_th0 : pm_th none = 0 := rfl
theorem pm_th1 {x : Int32} : ¬ pm_th (some x) = 0 := by
  show ¬ (1 : Int32) = 0
  decide
theorem pm_th01 (o : Option Int32) : pm_th o = 0 ∨ pm_th o = 1 := by
  cases o with
  | none => exact Or.inl rfl
  | some x => exact Or.inr rfl
/-- an int that is one of the naturals below c -/
def pm_ver (c : Nat) (p : Int32) : Prop := ∃ v, v < c ∧ p = nI v
theorem pm_ver_n {c : Nat} {p : Int32} (hc : c < 2 ^ 31) (h : ¬ pm_ver c p) : p < 0 ∨ nI c ≤ p := by
  rcases pk_ix p hc with a | a | a
  · exact Or.inl a
  · exact Or.inr a
  · exact absurd a h
/-- a plan: first key f, size s -/
def pm_pl (p : Int32) : Prop := ∃ f s : Nat, f ≤ 31 ∧ 1 ≤ s ∧ s ≤ 8 ∧ f + s ≤ 32 ∧ p = nI (16 * f + s)
def pm_PI (c : Nat) (pn : Nat → Nat) (pa : Nat → Int32) : Prop := ∀ x, 0 < x → x < c → pn x < x ∧ pa x = nI (pn x)
def pm_LA (c : Nat) (lab : Nat → Nat) (la : Nat → Int64) : Prop := ∀ x, x < c → la x = lN (lab x) ∧ lab x < pm_M
def pm_FO (c : Nat) (lab : Nat → Nat) (fo : Nat → Int32) : Prop := ∀ x, x < c → pm_sc (fun y => y < c) lab (lab x + 1) (fo x)
def pm_CT (c : Nat) (pn lab : Nat → Nat) : Prop := ∀ a x y, a < c → x < c → y < c → pm_anc pn a x = true → lab a < lab y → lab y < lab x → pm_anc pn a y = true
def pm_MO (c : Nat) (pn lab : Nat → Nat) : Prop := ∀ a x, a < c → x < c → pm_anc pn a x = true → lab a ≤ lab x
/-- the order of the versions -/
def pm_VO (c : Nat) (pn lab : Nat → Nat) (fo : Nat → Int32) : Prop :=
  pm_inj c lab ∧ pm_FO c lab fo ∧ (∀ x, x < c → lab 0 ≤ lab x) ∧ pm_CT c pn lab ∧ pm_MO c pn lab
def pm_S (n : Nat) (ek : Nat → Nat) (k e : Nat) : Prop := e < n ∧ ek e = k
/-- the entries' chains -/
def pm_ES (c n : Nat) (lab ek ev : Nat → Nat) (he eV eN : Nat → Int32) : Prop :=
  (∀ e, e < n → ek e < 32 ∧ ev e < c ∧ eV e = nI (ev e)) ∧
  (∀ e d, e < n → d < n → ek e = ek d → ev e = ev d → e = d) ∧
  (∀ k, k < 32 → pm_sc (pm_S n ek k) (fun e => lab (ev e)) 0 (he k)) ∧
  (∀ e, e < n → pm_sc (pm_S n ek (ek e)) (fun e => lab (ev e)) (lab (ev e) + 1) (eN e))
def pm_ov (eL eT : Nat → Int32) (e : Nat) : Option Int32 := if eT e = 0 then none else some (eL e)
/-- what the entries say -/
def pm_EV (c n : Nat) (lab ek ev : Nat → Nat) (A : Nat → Nat → Option Int32) (eL eT : Nat → Int32) : Prop :=
  ∀ v k, v < c → k < 32 → (pm_no (pm_S n ek k) (fun e => lab (ev e)) (lab v) → A v k = none) ∧
    (∀ e, pm_mx (pm_S n ek k) (fun e => lab (ev e)) (lab v) e → A v k = pm_ov eL eT e)
def pm_XI (c n : Nat) (pn lab ek ev : Nat → Nat) (A : Nat → Nat → Option Int32) (pa : Nat → Int32) (la : Nat → Int64) (fo he eV eL eT eN : Nat → Int32) : Prop :=
  (1 ≤ c ∧ c ≤ 40 ∧ n ≤ 640) ∧ pm_PI c pn pa ∧ pm_LA c lab la ∧ pm_VO c pn lab fo ∧ pm_ES c n lab ek ev he eV eN ∧ pm_EV c n lab ek ev A eL eT
def pm_yv (t w : Int32) (o : Option Int32) : Prop := (t = 0 ∧ o = none) ∨ (t = 1 ∧ o = some w)
def pm_YI (c : Nat) (pn : Nat → Nat) (A : Nat → Nat → Option Int32) (qa th wo : Nat → Int32) : Prop :=
  (1 ≤ c ∧ c ≤ 40) ∧ pm_PI c pn qa ∧ (∀ v k, v < c → k < 32 → pm_yv (th (32 * v + k)) (wo (32 * v + k)) (A v k))
theorem pm_PI_dn {c : Nat} {pn : Nat → Nat} {pa : Nat → Int32} (h : pm_PI c pn pa) : pm_dn pn c := fun x h0 hx => (h x h0 hx).1
theorem pm_la_lt {c : Nat} {lab : Nat → Nat} {la : Nat → Int64} (h : pm_LA c lab la) {x y : Nat} (hx : x < c) (hy : y < c) : la x < la y ↔ lab x < lab y := by
  rw [(h x hx).1, (h y hy).1]
  exact pk_lLT (Nat.lt_trans (h x hx).2 pm_M63) (Nat.lt_trans (h y hy).2 pm_M63)
theorem pm_pdx {S : Nat → Prop} {f : Nat → Nat} {L b : Nat} {x4 : Int32} (h : (x4 = (-1) ∧ b = 0) ∨ (∃ e, x4 = nI e ∧ S e ∧ f e ≤ L ∧ b = f e + 1)) (hx : ∀ z, S z → b ≤ f z → L < f z) : pm_pd S f L x4 := by
  rcases h with ⟨e, hb⟩ | ⟨e, hr, hs, hl, hb⟩
  · exact Or.inl ⟨e, fun z hz => hx z hz (by omega)⟩
  · refine Or.inr ⟨e, hr, hs, hl, fun z hz hzl => ?_⟩
    have := hx z hz
    omega
end
section
section
variable {c n : Nat} {pn lab ek ev : Nat → Nat} {A : Nat → Nat → Option Int32} {tn vn : Int32} {pa : Nat → Int32} {la : Nat → Int64} {fo he eV eL eT eN : Nat → Int32}
theorem pm_xV_t {post : Int32 → Prop} {v : Nat} (hc : c ≤ 40) (hv : v < c) (hp : post 1) : wpX_isVersion post (nI c, nI n, tn, vn, pa, la, fo, he, eV, eL, eT, eN) (nI v) :=
  br_f (nI_pos (by omega)) (br_f (nI_ge hv (by omega)) hp)
theorem pm_xV_f {post : Int32 → Prop} {p : Int32} (hc : c ≤ 40) (hv : ¬ pm_ver c p) (hp : post 0) : wpX_isVersion post (nI c, nI n, tn, vn, pa, la, fo, he, eV, eL, eT, eN) p := by
  rcases pm_ver_n (by omega) hv with h | h
  · exact br_t h hp
  · exact br_c (fun _ => hp) (fun _ => br_t h hp)
theorem pm_xK_t {post : Int32 → Prop} {v : Nat} (hv : v < 32) (hp : post 1) : wpX_isKey post (nI v) :=
  br_f (nI_pos (by omega)) (br_f (nI_ge (b := 32) hv (by omega)) hp)
theorem pm_xK_f {post : Int32 → Prop} {p : Int32} (hv : ¬ pm_ver 32 p) (hp : post 0) : wpX_isKey post p := by
  rcases pm_ver_n (by omega) hv with h | h
  · exact br_t h hp
  · exact br_c (fun _ => hp) (fun _ => br_t h hp)
theorem pm_pl_and (f s : Nat) (hf : f ≤ 31) (h8 : s ≤ 8) : nI (16 * f + s) &&& 15 = nI s := by
  rw [pk_andN (by omega) 4 (by decide)]
  exact congrArg nI (by omega)
theorem pm_pl_shr (f s : Nat) (hf : f ≤ 31) (h8 : s ≤ 8) : nI (16 * f + s) >>> ((4 : Int32) &&& 31) = nI f := by
  rw [pk_shrN (by omega) _ 4 (by decide)]
  exact congrArg nI (by omega)
theorem pm_pl_div (f s : Nat) (hf : f ≤ 31) (h8 : s ≤ 8) : nI (16 * f + s) / 16 = nI f := by
  show nI (16 * f + s) / nI 16 = nI f
  rw [pk_div (by omega) (by omega) (by omega)]
  exact congrArg nI (by omega)
theorem pm_pl_rem (f s : Nat) (hf : f ≤ 31) (h8 : s ≤ 8) : nI (16 * f + s) - nI (16 * f + s) / 16 * 16 = nI s := by
  show nI (16 * f + s) - nI (16 * f + s) / nI 16 * nI 16 = nI s
  rw [pk_rem (by omega) (by omega) (by omega)]
  exact congrArg nI (by omega)
theorem pm_xP_t {post : Int32 → Prop} {f s : Nat} (hf : f ≤ 31) (h1 : 1 ≤ s) (h8 : s ≤ 8) (h32 : f + s ≤ 32) (hp : post 1) : wpX_isPlan post (nI (16 * f + s)) := by
  unfold wpX_isPlan
  refine nm_r (pm_pl_and f s hf h8) ?_
  refine br_f (nI_pos (by omega)) (br_f (nI_nlt (b := 1) h1 (by omega)) (br_f (nI_nlt (a := 8) h8 (by omega)) (br_f (nI_nlt (a := 511) (by omega) (by omega)) ?_)))
  rw [pm_pl_shr f s hf h8, nI_add]
  exact br_f (nI_nlt (a := 32) h32 (by omega)) hp
theorem pm_xP_f {post : Int32 → Prop} {p : Int32} (hv : ¬ pm_pl p) (hp : post 0) : wpX_isPlan post p := by
  unfold wpX_isPlan
  refine nm_e ?_
  refine br_c (fun _ => hp) (fun h0 => ?_)
  obtain ⟨j, hj, rfl⟩ := nI_of h0
  have e : nI j &&& 15 = nI (j % 16) := by rw [pk_andN (by omega) 4 (by decide)]
  have e2 : nI j >>> ((4 : Int32) &&& 31) = nI (j / 16) := by rw [pk_shrN (by omega) _ 4 (by decide)]
  rw [e, e2, nI_add]
  refine pk_lt (j % 16) 1 (fun _ => hp) (fun h1 => ?_)
  refine pk_lt 8 (j % 16) (fun _ => hp) (fun h8 => ?_)
  refine pk_lt 511 j (fun _ => hp) (fun h511 => ?_)
  refine pk_lt 32 (j / 16 + j % 16) (fun _ => hp) (fun h32 => ?_)
  exact absurd ⟨j / 16, j % 16, by omega, h1, h8, h32, congrArg nI (by omega)⟩ hv
theorem pm_xan30 {post : Int32 → Prop} {v w : Nat} (hv : v < 40) (hw : w < 40) (hp : post (pm_b (decide (w = v)))) : wX_isAncestor_30 post (nI v) (nI w) (nI c) (nI n) tn vn pa la fo he eV eL eT eN := by
  unfold wX_isAncestor_30
  refine pk_eq w v (fun h => ?_) (fun h => ?_)
  · rw [decide_eq_true h] at hp; exact hp
  · rw [decide_eq_false h] at hp; exact hp
theorem pm_xanL {v : Nat} (hc : c ≤ 40) (hP : pm_PI c pn pa) (hv : v < 40) {post : Int32 → Prop} : ∀ (m w k : Nat), w < c → w ≤ m → w + k < 40 → post (pm_b (pm_anc pn v w)) → wX_isAncestor_5 post (nI v) (nI c) (nI n) tn vn pa la fo he eV eL eT eN (m + 1) (nI w) (nI k) := by
  intro m
  induction m with
  | zero =>
    intro w k hw hm hk hp
    have hl : w ≤ v := by omega
    rw [pm_anc_le hl] at hp
    exact br_f (nI_ge (b := 40) (by omega) (by decide)) (br_t (nI_le hl (by omega)) (pm_xan30 hv (by omega) hp))
  | succ m ih =>
    intro w k hw hm hk hp
    refine br_f (nI_ge (b := 40) (by omega) (by decide)) ?_
    refine pk_le w v (fun hl => ?_) (fun hl => ?_)
    · rw [pm_anc_le hl] at hp
      exact pm_xan30 hv (by omega) hp
    · obtain ⟨h1, h2⟩ := hP w (by omega) hw
      rw [pm_anc_gt (pm_PI_dn hP) hw (by omega)] at hp
      exact ⟨vp_in_nI (by omega) (by decide), nm_r (by rw [nI_clamp (by omega), h2]) (nm_r (nI_1 k) (ih (pn w) (k + 1) (by omega) (by omega) (by omega) hp))⟩
theorem pm_xan {v w : Nat} (hc : c ≤ 40) (hP : pm_PI c pn pa) (hv : v < 40) (hw : w < c) {post : Int32 → Prop} (hp : post (pm_b (pm_anc pn v w))) : wpX_isAncestor post (nI c, nI n, tn, vn, pa, la, fo, he, eV, eL, eT, eN) (nI v) (nI w) :=
  ⟨w + 1, pm_xanL hc hP hv w w 0 hw (Nat.le_refl w) (by omega) hp⟩
theorem pm_advL {k v : Nat} (hn : n ≤ 640) (hc : c ≤ 40) (hL : pm_LA c lab la) (hE : pm_ES c n lab ek ev he eV eN) (hv : v < c) {post : Int32 → Prop} (hp : ∀ r, pm_pd (pm_S n ek k) (fun e => lab (ev e)) (lab v) r → post r) {M : Nat} (hM : ∀ x, x < c → lab x < M) :
    ∀ (m b : Nat) (x4 x5 : Int32), M ≤ b + m → ((x4 = (-1) ∧ b = 0) ∨ (∃ e, x4 = nI e ∧ pm_S n ek k e ∧ lab (ev e) ≤ lab v ∧ b = lab (ev e) + 1)) →
    pm_sc (pm_S n ek k) (fun e => lab (ev e)) b x5 → wX_advance_25 post (nI v) (nI c) (nI n) tn vn pa la fo he eV eL eT eN (m + 1) x4 x5 := by
  intro m
  induction m with
  | zero =>
    intro b x4 x5 hm hx hs
    rcases hs with ⟨rfl, hs⟩ | ⟨y, rfl, ⟨hy, hk⟩, hb, hs⟩
    · exact br_t rfl (hp _ (pm_pdx hx (fun z hz hbz => absurd (hs z hz) (Nat.not_lt.mpr hbz))))
    · have h1 := hM _ (hE.1 y hy).2.1
      have h2 : b ≤ lab (ev y) := hb
      omega
  | succ m ih =>
    intro b x4 x5 hm hx hs
    rcases hs with ⟨rfl, hs⟩ | ⟨y, rfl, ⟨hy, hk⟩, hb, hs⟩
    · exact br_t rfl (hp _ (pm_pdx hx (fun z hz hbz => absurd (hs z hz) (Nat.not_lt.mpr hbz))))
    · have hb2 : b ≤ lab (ev y) := hb
      obtain ⟨hk32, hev, heV⟩ := hE.1 y hy
      have hN := hE.2.2.2 y hy
      rw [hk] at hN
      refine br_f (pm_nm1 (by omega)) ⟨vp_in_nI (by omega) (by decide), ?_⟩
      rw [nI_clamp (n := y) (by omega), heV, nI_clamp (n := ev y) (by omega), nI_clamp (n := v) (by omega)]
      refine ⟨vp_in_nI (by omega) (by decide), vp_in_nI (by omega) (by decide), ?_⟩
      by_cases hl : lab v < lab (ev y)
      · refine br_t ((pm_la_lt hL hv hev).mpr hl) (hp _ (pm_pdx hx (fun z hz hbz => ?_)))
        have : lab (ev y) ≤ lab (ev z) := hs z hz hbz
        show lab v < lab (ev z)
        omega
      · refine br_f (fun z => hl ((pm_la_lt hL hv hev).mp z)) ⟨vp_in_nI (by omega) (by decide), nm_e ?_⟩
        exact ih (lab (ev y) + 1) (nI y) (eN y) (by omega) (Or.inr ⟨y, rfl, ⟨hy, hk⟩, by omega, rfl⟩) hN
theorem pm_adv {k v : Nat} (H : pm_XI c n pn lab ek ev A pa la fo he eV eL eT eN) (hk : k < 32) (hv : v < c) {p1 : Int32} (h1 : p1 = (-1) ∨ ∃ e, p1 = nI e ∧ pm_S n ek k e ∧ lab (ev e) ≤ lab v) {post : Int32 → Prop}
    (hp : ∀ r, pm_pd (pm_S n ek k) (fun e => lab (ev e)) (lab v) r → post r) : wpX_advance post (nI c, nI n, tn, vn, pa, la, fo, he, eV, eL, eT, eN) (nI k) p1 (nI v) := by
  obtain ⟨⟨_, hc, hn⟩, hP, hL, hO, hE, hV⟩ := H
  have hM : ∀ x, x < c → lab x < pm_M := fun x hx => (hL x hx).2
  unfold wpX_advance
  rcases h1 with rfl | ⟨e, rfl, ⟨he1, he2⟩, hl⟩
  · refine br_t rfl ⟨vp_in_nI hk (by decide), nm_r (congrArg he (nI_clamp (by omega))) ⟨pm_M + 1, ?_⟩⟩
    exact pm_advL hn hc hL hE hv hp hM pm_M 0 (-1) (he k) (by omega) (Or.inl ⟨rfl, rfl⟩) (hE.2.2.1 k hk)
  · have hN := hE.2.2.2 e he1
    rw [he2] at hN
    refine br_f (pm_nm1 (by omega)) ⟨vp_in_nI (by omega) (by decide), nm_r (congrArg eN (nI_clamp (by omega))) ⟨pm_M + 1, ?_⟩⟩
    exact pm_advL hn hc hL hE hv hp hM pm_M (lab (ev e) + 1) (nI e) (eN e) (by omega) (Or.inr ⟨e, rfl, ⟨he1, he2⟩, hl, rfl⟩) hN
theorem pm_look27 {post : SX → Prop} {x3 : Int32} (hp : post (nI c, nI n, 0, 0, pa, la, fo, he, eV, eL, eT, eN)) : wX_look_27 post x3 (nI c) (nI n) tn vn pa la fo he eV eL eT eN := by
  unfold wX_look_27 wX_look_28
  exact ⟨narrow_b0, rfl, br_t rfl hp⟩
theorem pm_look {k v : Nat} (H : pm_XI c n pn lab ek ev A pa la fo he eV eL eT eN) (hk : k < 32) (hv : v < c) {post : SX → Prop} (hp : post (nI c, nI n, pm_th (A v k), pm_va (A v k), pa, la, fo, he, eV, eL, eT, eN)) : wpX_look post (nI c, nI n, tn, vn, pa, la, fo, he, eV, eL, eT, eN) (nI v) (nI k) := by
  unfold wpX_look
  refine pm_adv H hk hv (Or.inl rfl) (fun r hr => ?_)
  obtain ⟨⟨_, hc, hn⟩, hP, hL, hO, hE, hV⟩ := H
  rcases hr with ⟨rfl, hno⟩ | ⟨e, rfl, hmx⟩
  · rw [(hV v k hv hk).1 hno] at hp
    exact br_t rfl (pm_look27 hp)
  · have he : e < n := hmx.1.1
    have hA := (hV v k hv hk).2 e hmx
    refine br_f (pm_nm1 (by omega)) ⟨vp_in_nI (by omega) (by decide), ?_⟩
    rw [nI_clamp (n := e) (by omega)]
    unfold pm_ov at hA
    by_cases h0 : eT e = 0
    · rw [if_pos h0] at hA
      rw [hA] at hp
      exact br_t h0 (pm_look27 hp)
    · rw [if_neg h0] at hA
      rw [hA] at hp
      refine br_f h0 ?_
      unfold wX_look_28
      exact ⟨narrow_b1, rfl, br_f pm_n10 ⟨vp_in_nI (by omega) (by decide), nm_r (congrArg eL (nI_clamp (by omega))) hp⟩⟩
/-- 0 if they are the same, else 1 -/
def pm_df (o p : Option Int32) : Int32 := if o = p then 0 else 1
theorem pm_differ {k v w : Nat} (H : pm_XI c n pn lab ek ev A pa la fo he eV eL eT eN) (hk : k < 32) (hv : v < c) (hw : w < c) {post : Int32 → SX → Prop} (hp : ∀ tn vn, post (pm_df (A v k) (A w k)) (nI c, nI n, tn, vn, pa, la, fo, he, eV, eL, eT, eN)) : wpX_differ post (nI c, nI n, tn, vn, pa, la, fo, he, eV, eL, eT, eN) (nI v) (nI w) (nI k) := by
  unfold wpX_differ
  refine pm_look H hk hv ?_
  refine pm_look H hk hw ?_
  have hq := hp (pm_th (A w k)) (pm_va (A w k))
  unfold pm_df at hq
  rcases hA : A v k with _ | x
  · rcases hB : A w k with _ | y
    · rw [hA, hB, if_pos rfl] at hq
      exact br_t rfl (br_t rfl hq)
    · rw [hA, hB, if_neg (by simp)] at hq
      exact br_f (show ¬ (0 : Int32) = 1 by decide) hq
  · rcases hB : A w k with _ | y
    · rw [hA, hB, if_neg (by simp)] at hq
      exact br_f (show ¬ (1 : Int32) = 0 by decide) hq
    · rw [hA, hB] at hq
      refine br_t rfl (br_c (fun h => ?_) (fun h => ?_))
      · rw [if_pos (congrArg some (show x = y from h))] at hq
        exact hq
      · rw [if_neg (fun z => h (show x = y from Option.some.inj z))] at hq
        exact hq
end
end
section
def pm_nx (g : Nat → Int32) : Nat → Nat → Int32
  | 0, _ => (-2)
  | d + 1, j => if g j = 0 then pm_nx g d (j + 1) else nI j
def pm_pv (g : Nat → Int32) : Nat → Int32
  | 0 => (-2)
  | j + 1 => if g j = 0 then pm_pv g j else nI j
def pm_sl (g : Nat → Int32) (p : Int32) : Nat → Nat → Int32 → Int32
  | 0, _, _ => (-2)
  | d + 1, j, b => if g j = 0 then pm_sl g p d (j + 1) b else if b = p then nI j else pm_sl g p d (j + 1) (b + 1)
def pm_sf (lo h : Nat) (g : Nat → Int32) (k : Nat) : Int32 := if lo ≤ k ∧ k < h then g k else 0
theorem pm_bx_lo {lo h : Nat} {g : Nat → Int32} : ∀ j, j ≤ lo → bx_sum (pm_sf lo h g) j = 0 := by
  intro j
  induction j with
  | zero => intro _; rfl
  | succ j ih =>
    intro hj
    show bx_sum (pm_sf lo h g) j + (if lo ≤ j ∧ j < h then g j else 0) = 0
    rw [ih (by omega), if_neg (by omega)]
    rfl
theorem pm_bx_hi {lo h : Nat} {g : Nat → Int32} : ∀ d, bx_sum (pm_sf lo h g) (h + d) = bx_sum (pm_sf lo h g) h := by
  intro d
  induction d with
  | zero => rfl
  | succ d ih =>
    show bx_sum (pm_sf lo h g) (h + d) + (if lo ≤ h + d ∧ h + d < h then g (h + d) else 0) = _
    rw [ih, if_neg (by omega), Int32.add_zero]
theorem pm_bx_hi2 {lo h j : Nat} {g : Nat → Int32} (hj : h ≤ j) : bx_sum (pm_sf lo h g) j = bx_sum (pm_sf lo h g) h := by
  have := pm_bx_hi (lo := lo) (h := h) (g := g) (j - h)
  rw [show h + (j - h) = j by omega] at this
  exact this
/-- the least natural that is not less than an int -/
theorem pm_low (p : Int32) : ∃ q : Nat, q < 2 ^ 31 ∧ (∀ j : Nat, j < 2 ^ 31 → (nI j < p ↔ j < q)) ∧ (0 ≤ p → p = nI q) ∧ (¬ 0 ≤ p → q = 0) := by
  by_cases h : p < 0
  · have h0 : ¬ (0 : Int32) ≤ p := Int32.not_le.mpr h
    refine ⟨0, by decide, fun j hj => ⟨fun z => ?_, fun z => absurd z (by omega)⟩, fun z => absurd z h0, fun _ => rfl⟩
    have h1 := nI_pos' hj
    exact absurd (Int32.le_trans h1 (Int32.le_of_lt z)) h0
  · obtain ⟨q, hq, rfl⟩ := nI_of h
    exact ⟨q, hq, fun j hj => nI_ltI hj hq, fun _ => rfl, fun z => absurd (nI_pos' hq) z⟩
/-- how many of the naturals below 32 are not beyond an int -/
theorem pm_high (p : Int32) : ∃ h : Nat, h ≤ 32 ∧ (∀ j : Nat, j < 32 → (p < nI j ↔ h ≤ j)) ∧
    (p < 32 → (p < 0 ∧ h = 0) ∨ (∃ q, q < 32 ∧ p = nI q ∧ h = q + 1)) ∧ (¬ p < 32 → h = 32) := by
  by_cases h : p < 0
  · refine ⟨0, by decide, fun j hj => ⟨fun _ => Nat.zero_le j, fun _ => Int32.lt_of_lt_of_le h (nI_pos' (by omega))⟩, fun _ => Or.inl ⟨h, rfl⟩, fun z => ?_⟩
    exact absurd (Int32.lt_trans h (show (0 : Int32) < 32 by decide)) z
  · obtain ⟨q, hq, rfl⟩ := nI_of h
    by_cases hq2 : q < 32
    · refine ⟨q + 1, by omega, fun j hj => nI_ltI hq (by omega), fun _ => Or.inr ⟨q, hq2, rfl, rfl⟩, fun z => absurd (nI_lt (b := 32) hq2 (by decide)) z⟩
    · refine ⟨32, by omega, fun j hj => ?_, fun z => absurd z (nI_nlt (b := 32) (by omega) hq), fun _ => rfl⟩
      rw [nI_ltI hq (by omega)]
      omega
section
variable {c n : Nat} {pn lab ek ev : Nat → Nat} {A : Nat → Nat → Option Int32} {pa : Nat → Int32} {la : Nat → Int64} {fo he eV eL eT eN : Nat → Int32}
theorem pm_xsizeL {v : Nat} (H : pm_XI c n pn lab ek ev A pa la fo he eV eL eT eN) (hv : v < c) {post : Int32 → SX → Prop} (hp : ∀ tn vn, post (bx_sum (fun k => pm_th (A v k)) 32) (nI c, nI n, tn, vn, pa, la, fo, he, eV, eL, eT, eN)) :
    ∀ (d j : Nat) (tn vn : Int32), j + d = 32 → wX_size_14 post (nI v) (d + 1) (bx_sum (fun k => pm_th (A v k)) j) (nI j) (nI c) (nI n) tn vn pa la fo he eV eL eT eN := by
  intro d
  induction d with
  | zero =>
    intro j tn vn hj
    have e : j = 32 := by omega
    subst e
    exact br_t (nI_le (Nat.le_refl 32) (by decide)) (hp _ _)
  | succ d ih =>
    intro j tn vn hj
    refine br_f (nI_ge (b := 32) (by omega) (by decide)) ?_
    refine pm_look H (by omega) hv ?_
    have hs : bx_sum (fun k => pm_th (A v k)) (j + 1) = bx_sum (fun k => pm_th (A v k)) j + pm_th (A v j) := rfl
    rcases hA : A v j with _ | x
    · rw [hA] at hs
      exact br_t rfl (nm_r hs.symm (nm_r (nI_1 j) (ih (j + 1) _ _ (by omega))))
    · rw [hA] at hs
      exact br_f pm_n10 (nm_r hs.symm (nm_r (nI_1 j) (ih (j + 1) _ _ (by omega))))
theorem pm_xdifferingL {v w : Nat} (H : pm_XI c n pn lab ek ev A pa la fo he eV eL eT eN) (hv : v < c) (hw : w < c) {post : Int32 → SX → Prop} (hp : ∀ tn vn, post (bx_sum (fun k => pm_df (A v k) (A w k)) 32) (nI c, nI n, tn, vn, pa, la, fo, he, eV, eL, eT, eN)) :
    ∀ (d j : Nat) (tn vn : Int32), j + d = 32 → wX_differing_23 post (nI v) (nI w) (d + 1) (bx_sum (fun k => pm_df (A v k) (A w k)) j) (nI j) (nI c) (nI n) tn vn pa la fo he eV eL eT eN := by
  intro d
  induction d with
  | zero =>
    intro j tn vn hj
    have e : j = 32 := by omega
    subst e
    exact br_t (nI_le (Nat.le_refl 32) (by decide)) (hp _ _)
  | succ d ih =>
    intro j tn vn hj
    refine br_f (nI_ge (b := 32) (by omega) (by decide)) ?_
    refine pm_differ H (by omega) hv hw (fun tn vn => ?_)
    have hs : bx_sum (fun k => pm_df (A v k) (A w k)) (j + 1) = bx_sum (fun k => pm_df (A v k) (A w k)) j + pm_df (A v j) (A w j) := rfl
    by_cases hA : A v j = A w j
    · have hd : pm_df (A v j) (A w j) = 0 := if_pos hA
      rw [hd] at hs ⊢
      exact br_t rfl (nm_r hs.symm (nm_r (nI_1 j) (ih (j + 1) _ _ (by omega))))
    · have hd : pm_df (A v j) (A w j) = 1 := if_neg hA
      rw [hd] at hs ⊢
      exact br_f pm_n10 (nm_r hs.symm (nm_r (nI_1 j) (ih (j + 1) _ _ (by omega))))
theorem pm_xchangesL {k : Nat} (H : pm_XI c n pn lab ek ev A pa la fo he eV eL eT eN) (hk : k < 32) {post : Int32 → SX → Prop} (hp : ∀ tn vn, post (bx_sum (fun i => pm_df (A (i + 1) k) (A (pn (i + 1)) k)) (c - 1)) (nI c, nI n, tn, vn, pa, la, fo, he, eV, eL, eT, eN)) :
    ∀ (d j : Nat) (tn vn : Int32), j + d + 1 = c → wX_changes_13 post (nI k) (d + 1) (bx_sum (fun i => pm_df (A (i + 1) k) (A (pn (i + 1)) k)) j) (nI (j + 1)) (nI c) (nI n) tn vn pa la fo he eV eL eT eN := by
  have hc : c ≤ 40 := H.1.2.1
  intro d
  induction d with
  | zero =>
    intro j tn vn hj
    have e : c - 1 = j := by omega
    rw [e] at hp
    exact br_t (nI_le (by omega) (by omega)) (hp _ _)
  | succ d ih =>
    intro j tn vn hj
    obtain ⟨h1, h2⟩ := H.2.1 (j + 1) (by omega) (by omega)
    refine br_f (nI_ge (by omega) (by omega)) ⟨vp_in_nI (by omega) (by decide), ?_⟩
    rw [nI_clamp (n := j + 1) (by omega), h2]
    refine pm_differ H hk (by omega) (by omega) (fun tn vn => ?_)
    have hs : bx_sum (fun i => pm_df (A (i + 1) k) (A (pn (i + 1)) k)) (j + 1) = bx_sum (fun i => pm_df (A (i + 1) k) (A (pn (i + 1)) k)) j + pm_df (A (j + 1) k) (A (pn (j + 1)) k) := rfl
    by_cases hA : A (j + 1) k = A (pn (j + 1)) k
    · have hd : pm_df (A (j + 1) k) (A (pn (j + 1)) k) = 0 := if_pos hA
      rw [hd] at hs ⊢
      exact br_t rfl (nm_r hs.symm (nm_r (nI_1 (j + 1)) (ih (j + 1) _ _ (by omega))))
    · have hd : pm_df (A (j + 1) k) (A (pn (j + 1)) k) = 1 := if_neg hA
      rw [hd] at hs ⊢
      exact br_f pm_n10 (nm_r hs.symm (nm_r (nI_1 (j + 1)) (ih (j + 1) _ _ (by omega))))
theorem pm_xnextL {v : Nat} (H : pm_XI c n pn lab ek ev A pa la fo he eV eL eT eN) (hv : v < c) {post : Int32 → SX → Prop} :
    ∀ (d j : Nat) (tn vn : Int32), 32 - j = d → j < 2 ^ 31 → (∀ tn vn, post (pm_nx (fun k => pm_th (A v k)) d j) (nI c, nI n, tn, vn, pa, la, fo, he, eV, eL, eT, eN)) → wX_next_20 post (nI v) (d + 1) (nI j) (nI c) (nI n) tn vn pa la fo he eV eL eT eN := by
  intro d
  induction d with
  | zero =>
    intro j tn vn hj hj2 hp
    exact br_t (nI_le (a := 32) (by omega) hj2) (hp _ _)
  | succ d ih =>
    intro j tn vn hj hj2 hp
    refine br_f (nI_ge (b := 32) (by omega) (by decide)) ?_
    refine pm_look H (by omega) hv ?_
    have hs : pm_nx (fun k => pm_th (A v k)) (d + 1) j = if pm_th (A v j) = 0 then pm_nx (fun k => pm_th (A v k)) d (j + 1) else nI j := rfl
    rw [hs] at hp
    rcases hA : A v j with _ | x
    · rw [hA, if_pos pm_th0] at hp
      exact br_t rfl (nm_r (nI_1 j) (ih (j + 1) _ _ (by omega) (by omega) hp))
    · rw [hA, if_neg pm_th1] at hp
      exact br_f pm_n10 (hp _ _)
theorem pm_xprevL {v : Nat} (H : pm_XI c n pn lab ek ev A pa la fo he eV eL eT eN) (hv : v < c) {post : Int32 → SX → Prop} :
    ∀ (j : Nat) (tn vn : Int32), j ≤ 32 → (∀ tn vn, post (pm_pv (fun k => pm_th (A v k)) j) (nI c, nI n, tn, vn, pa, la, fo, he, eV, eL, eT, eN)) → wX_previous_23 post (nI v) (j + 1) (nI j + (-1)) (nI c) (nI n) tn vn pa la fo he eV eL eT eN := by
  intro j
  induction j with
  | zero =>
    intro tn vn _ hp
    exact br_t (show nI 0 + (-1) < 0 by decide) (hp _ _)
  | succ j ih =>
    intro tn vn hj hp
    rw [pk_m1]
    refine br_f (nI_pos (by omega)) ?_
    refine pm_look H (by omega) hv ?_
    have hs : pm_pv (fun k => pm_th (A v k)) (j + 1) = if pm_th (A v j) = 0 then pm_pv (fun k => pm_th (A v k)) j else nI j := rfl
    rw [hs] at hp
    rcases hA : A v j with _ | x
    · rw [hA, if_pos pm_th0] at hp
      exact br_t rfl (nm_e (ih _ _ (by omega) hp))
    · rw [hA, if_neg pm_th1] at hp
      exact br_f pm_n10 (hp _ _)
theorem pm_xselL {v : Nat} {p : Int32} (H : pm_XI c n pn lab ek ev A pa la fo he eV eL eT eN) (hv : v < c) {post : Int32 → SX → Prop} :
    ∀ (d j : Nat) (b l tn vn : Int32), j + d = 32 → l = p - b → (∀ tn vn, post (pm_sl (fun k => pm_th (A v k)) p d j b) (nI c, nI n, tn, vn, pa, la, fo, he, eV, eL, eT, eN)) → wX_select_15 post (nI v) (d + 1) l (nI j) (nI c) (nI n) tn vn pa la fo he eV eL eT eN := by
  intro d
  induction d with
  | zero =>
    intro j b l tn vn hj _ hp
    have e : j = 32 := by omega
    subst e
    exact br_t (nI_le (Nat.le_refl 32) (by decide)) (hp _ _)
  | succ d ih =>
    intro j b l tn vn hj hl hp
    refine br_f (nI_ge (b := 32) (by omega) (by decide)) ?_
    refine pm_look H (by omega) hv ?_
    have hs : pm_sl (fun k => pm_th (A v k)) p (d + 1) j b = if pm_th (A v j) = 0 then pm_sl (fun k => pm_th (A v k)) p d (j + 1) b else if b = p then nI j else pm_sl (fun k => pm_th (A v k)) p d (j + 1) (b + 1) := rfl
    rw [hs] at hp
    rcases hA : A v j with _ | x
    · rw [hA, if_pos pm_th0] at hp
      exact br_t rfl (nm_r (nI_1 j) (ih (j + 1) b l _ _ (by omega) hl hp))
    · rw [hA, if_neg pm_th1] at hp
      refine br_f pm_n10 ?_
      by_cases hb : b = p
      · rw [if_pos hb] at hp
        exact br_t (by rw [hl, hb]; exact Int32.sub_self p) (hp _ _)
      · rw [if_neg hb] at hp
        refine br_f (fun z => hb ?_) (nm_e (nm_r (nI_1 j) (ih (j + 1) (b + 1) (l + (-1)) _ _ (by omega) ?_ hp)))
        · have h : p - b = 0 := hl.symm.trans z
          grind
        · rw [hl]; grind
theorem pm_xsumL {v lo h : Nat} {x5 : Int32} (H : pm_XI c n pn lab ek ev A pa la fo he eV eL eT eN) (hv : v < c) (hh : h ≤ 32) (h5 : ∀ j : Nat, j < 2 ^ 31 → (x5 < nI j ↔ h ≤ j)) {post : Int32 → SX → Prop} (hp : ∀ tn vn, post (bx_sum (pm_sf lo h (fun k => pm_va (A v k))) 32) (nI c, nI n, tn, vn, pa, la, fo, he, eV, eL, eT, eN)) :
    ∀ (d j : Nat) (tn vn : Int32), h - j = d → lo ≤ j → j < 2 ^ 31 → wX_sum_38 post (nI v) x5 (d + 1) (bx_sum (pm_sf lo h (fun k => pm_va (A v k))) j) (nI j) (nI c) (nI n) tn vn pa la fo he eV eL eT eN := by
  intro d
  induction d with
  | zero =>
    intro j tn vn hd hl hj
    rw [pm_bx_hi2 (show h ≤ 32 from hh)] at hp
    rw [pm_bx_hi2 (show h ≤ j by omega)]
    exact br_t ((h5 j hj).mpr (by omega)) (hp _ _)
  | succ d ih =>
    intro j tn vn hd hl hj
    refine br_f (fun z => absurd ((h5 j hj).mp z) (by omega)) ?_
    refine pm_look H (by omega) hv ?_
    have hs : bx_sum (pm_sf lo h (fun k => pm_va (A v k))) (j + 1) = bx_sum (pm_sf lo h (fun k => pm_va (A v k))) j + (if lo ≤ j ∧ j < h then pm_va (A v j) else 0) := rfl
    rw [if_pos (by omega)] at hs
    rcases hA : A v j with _ | x
    · rw [hA] at hs
      exact br_t rfl (nm_r hs.symm (nm_r (nI_1 j) (ih (j + 1) _ _ (by omega) (by omega) (by omega))))
    · rw [hA] at hs
      exact br_f pm_n10 (nm_r hs.symm (nm_r (nI_1 j) (ih (j + 1) _ _ (by omega) (by omega) (by omega))))
end
section
variable {c n : Nat} {pn lab ek ev : Nat → Nat} {A : Nat → Nat → Option Int32} {tn vn : Int32} {pa : Nat → Int32} {la : Nat → Int64} {fo he eV eL eT eN : Nat → Int32}
theorem pm_xmeetL {v w : Nat} (hc : c ≤ 40) (hP : pm_PI c pn pa) (hv : v < c) (hw : w < c) {post : Int32 → Prop}
    (hp : ∀ r, r < c → pm_anc pn r v = true → pm_anc pn r w = true → (∀ x, x < c → pm_anc pn x v = true → pm_anc pn x w = true → x ≤ r) → post (nI r)) :
    ∀ (m a k : Nat), a ≤ m → a < c → a + k < 40 → pm_anc pn a v = true → (∀ x, x < c → pm_anc pn x v = true → pm_anc pn x w = true → pm_anc pn x a = true) → wX_meet_23 post (nI w) (nI c) (nI n) tn vn pa la fo he eV eL eT eN (m + 1) (nI a) (nI k) := by
  have hd := pm_PI_dn hP
  intro m
  induction m with
  | zero =>
    intro a k hm ha hk hav hx
    have e : a = 0 := by omega
    subst e
    refine br_f (nI_ge (b := 40) (by omega) (by decide)) (pm_xan hc hP (by omega) hw ?_)
    have h0 := pm_anc_0 hd w w (Nat.le_refl w) hw
    rw [h0]
    exact br_f pm_n10 (hp 0 ha hav h0 (fun x h1 h2 h3 => pm_anc_le2 (hx x h1 h2 h3)))
  | succ m ih =>
    intro a k hm ha hk hav hx
    refine br_f (nI_ge (b := 40) (by omega) (by decide)) (pm_xan hc hP (by omega) hw ?_)
    cases hb : pm_anc pn a w with
    | true => exact br_f pm_n10 (hp a ha hav hb (fun x h1 h2 h3 => pm_anc_le2 (hx x h1 h2 h3)))
    | false =>
      have ha0 : 0 < a := by
        rcases Nat.eq_zero_or_pos a with e | e
        · rw [e, pm_anc_0 hd w w (Nat.le_refl w) hw] at hb
          cases hb
        · exact e
      obtain ⟨h1, h2⟩ := hP a ha0 ha
      refine br_t rfl ⟨vp_in_nI (by omega) (by decide), nm_r (by rw [nI_clamp (by omega), h2]) (nm_r (nI_1 k) (ih (pn a) (k + 1) (by omega) (by omega) (by omega) ?_ (fun x hx1 hx2 hx3 => ?_)))⟩
      · have h3 : pm_anc pn (pn a) a = true := by
          rw [pm_anc_gt hd ha (by omega)]
          exact pm_anc_rf
        exact pm_anc_tr hd h3 v v (Nat.le_refl v) hv hav
      · have h3 := hx x hx1 hx2 hx3
        have hne : x ≠ a := fun e => by rw [e, hb] at hx3; cases hx3
        have h4 := pm_anc_le2 h3
        rw [pm_anc_gt hd ha (by omega)] at h3
        exact h3
theorem pm_xfamL {v : Nat} (hc : c ≤ 40) (hP : pm_PI c pn pa) (hO : pm_VO c pn lab fo) (hv : v < c) {post : Int32 → Prop} {M : Nat} (hM : ∀ x, x < c → lab x < M)
    (hp : post (nI (pm_cn (pm_anc pn v) c))) :
    ∀ (m b : Nat) (x3 : Int32), M ≤ b + m → lab v ≤ b → pm_sc (fun y => y < c) lab b x3 → wX_family_14 post (nI v) (nI c) (nI n) tn vn pa la fo he eV eL eT eN (m + 1) (nI (pm_cq lab (pm_anc pn v) c b)) x3 := by
  obtain ⟨hi, hf, h0, hct, hmo⟩ := hO
  intro m
  induction m with
  | zero =>
    intro b x3 hm hb hs
    rcases hs with ⟨rfl, hs⟩ | ⟨y, rfl, hy, hby, hs⟩
    · rw [pm_cq_all (fun x hx _ => hs x hx)]
      exact br_t rfl hp
    · have := hM y hy
      omega
  | succ m ih =>
    intro b x3 hm hb hs
    rcases hs with ⟨rfl, hs⟩ | ⟨y, rfl, hy, hby, hs⟩
    · rw [pm_cq_all (fun x hx _ => hs x hx)]
      exact br_t rfl hp
    · have hy2 : y < c := hy
      refine br_f (pm_nm1 (by omega)) (pm_xan hc hP (by omega) hy ?_)
      have hstep := pm_cq_step (q := pm_anc pn v) hi hy hby hs
      cases ha : pm_anc pn v y with
      | true =>
        rw [ha, if_pos rfl] at hstep
        refine br_f pm_n10 (nm_r (e' := nI (pm_cq lab (pm_anc pn v) c (lab y + 1))) (by rw [nI_1, hstep]) ⟨vp_in_nI (by omega) (by decide), nm_r (congrArg fo (nI_clamp (by omega))) (ih (lab y + 1) (fo y) (by omega) (by omega) (hf y hy))⟩)
      | false =>
        rw [pm_cq_all (fun x hx hax => ?_)]
        · exact br_t rfl hp
        · rcases Nat.lt_or_ge (lab x) b with h | h
          · exact h
          · exfalso
            have h1 := hs x hx h
            have h2 : lab x ≠ lab y := fun e => by
              rw [hi x y hx hy e, ha] at hax
              cases hax
            have h3 : lab v ≠ lab y := fun e => by
              rw [← hi v y hv hy e, pm_anc_rf] at ha
              cases ha
            have h4 := hct v x y hv hx hy hax (by omega) (by omega)
            rw [h4] at ha
            cases ha
theorem pm_xspreadL {k : Nat} (H : pm_XI c n pn lab ek ev A pa la fo he eV eL eT eN) (hk : k < 32) {post : Int32 → Prop} {M : Nat} (hM : ∀ x, x < c → lab x < M)
    (hp : post (nI (pm_cn (fun x => (A x k).isSome) c))) :
    ∀ (m b : Nat) (x3 x4 : Int32), M ≤ b + m → (x3 = (-1) ∨ ∃ e, x3 = nI e ∧ pm_S n ek k e ∧ lab (ev e) < b) → pm_sc (fun y => y < c) lab b x4 → wX_spread_16 post (nI k) (nI c) (nI n) tn vn pa la fo he eV eL eT eN (m + 1) (nI (pm_cq lab (fun x => (A x k).isSome) c b)) x3 x4 := by
  have hc : c ≤ 40 := H.1.2.1
  have hn : n ≤ 640 := H.1.2.2
  have hf := H.2.2.2.1.2.1
  have hi := H.2.2.2.1.1
  have hV := H.2.2.2.2.2
  intro m
  induction m with
  | zero =>
    intro b x3 x4 hm hx hs
    rcases hs with ⟨rfl, hs⟩ | ⟨y, rfl, hy, hby, hs⟩
    · rw [pm_cq_all (fun x hx _ => hs x hx)]
      exact br_t rfl hp
    · have := hM y hy
      omega
  | succ m ih =>
    intro b x3 x4 hm hx hs
    rcases hs with ⟨rfl, hs⟩ | ⟨y, rfl, hy, hby, hs⟩
    · rw [pm_cq_all (fun x hx _ => hs x hx)]
      exact br_t rfl hp
    · have hy2 : y < c := hy
      have hstep := pm_cq_step (q := fun x => (A x k).isSome) hi hy hby hs
      refine br_f (pm_nm1 (by omega)) (pm_adv H hk hy2 ?_ (fun r hr => ?_))
      · rcases hx with h | ⟨e, h1, h2, h3⟩
        · exact Or.inl h
        · exact Or.inr ⟨e, h1, h2, by omega⟩
      · have hx' : r = (-1) ∨ ∃ e, r = nI e ∧ pm_S n ek k e ∧ lab (ev e) < lab y + 1 := by
          rcases hr with ⟨h, _⟩ | ⟨e, h, h1, h2, h3⟩
          · exact Or.inl h
          · exact Or.inr ⟨e, h, h1, by have h2' : lab (ev e) ≤ lab y := h2; omega⟩
        have hgo := ih (lab y + 1) r (fo y) (by omega) hx' (hf y hy2)
        have h51 : ∀ z0 : Int32, nI (pm_cq lab (fun x => (A x k).isSome) c b) + z0 = nI (pm_cq lab (fun x => (A x k).isSome) c (lab y + 1)) → wX_spread_51 post (wX_spread_16 post (nI k) (nI c) (nI n) tn vn pa la fo he eV eL eT eN (m + 1)) (nI k) r (nI y) z0 (nI (pm_cq lab (fun x => (A x k).isSome) c b)) (nI c) (nI n) tn vn pa la fo he eV eL eT eN := by
          intro z0 hz
          unfold wX_spread_51
          exact nm_r hz ⟨vp_in_nI (by omega) (by decide), nm_r (congrArg fo (nI_clamp (by omega))) hgo⟩
        have h50 : A y k = none → wX_spread_50 post (wX_spread_16 post (nI k) (nI c) (nI n) tn vn pa la fo he eV eL eT eN (m + 1)) (nI k) r (nI y) (nI (pm_cq lab (fun x => (A x k).isSome) c b)) (nI c) (nI n) tn vn pa la fo he eV eL eT eN := by
          intro hA
          unfold wX_spread_50
          refine h51 0 ?_
          rw [hstep, hA, if_neg (by decide)]
          exact Int32.add_zero _
        rcases hr with ⟨rfl, hno⟩ | ⟨e, rfl, hmx⟩
        · exact br_t rfl (h50 ((hV y k hy2 hk).1 hno))
        · have he : e < n := hmx.1.1
          have hA := (hV y k hy2 hk).2 e hmx
          unfold pm_ov at hA
          refine br_f (pm_nm1 (by omega)) ⟨vp_in_nI (by omega) (by decide), ?_⟩
          rw [nI_clamp (n := e) (by omega)]
          by_cases h0 : eT e = 0
          · rw [if_pos h0] at hA
            exact br_t h0 (h50 hA)
          · rw [if_neg h0] at hA
            refine br_f h0 (h51 1 ?_)
            rw [hstep, hA, if_pos (show (some (eL e)).isSome = true from rfl)]
            exact nI_1 _
end
end
section
theorem pm_n16 : ¬ (16 : Int32) = 0 := by decide
theorem pm_yin {v k : Nat} (hv : v < 40) (hk : k < 32) : vp_in ((32 : Int32) * nI v + nI k) 1280 := by
  rw [pm_ix]
  exact vp_in_nI (by omega) (by decide)
theorem pm_ycl {v k : Nat} (hv : v < 40) (hk : k < 32) : ((32 : Int32) * nI v + nI k).toNatClampNeg = 32 * v + k := by
  rw [pm_ix]
  exact nI_clamp (by omega)
def pm_ag (o p : Option Int32) : Int32 := if o = p then 1 else 0
def pm_cp (A : Nat → Nat → Option Int32) (c v : Nat) : Nat → Nat → Option Int32 := fun x k => if x = c then A v k else A x k
def pm_up (A : Nat → Nat → Option Int32) (x k : Nat) (o : Option Int32) : Nat → Nat → Option Int32 := fun y l => if y = x ∧ l = k then o else A y l
def pm_pn (pn : Nat → Nat) (c v : Nat) : Nat → Nat := fun x => if x = c then v else pn x
def pm_fl (A : Nat → Nat → Option Int32) (x f : Nat) (a s : Int32) : Nat → (Nat → Nat → Option Int32)
  | 0 => A
  | j + 1 => pm_up (pm_fl A x f a s j) x (f + j) (some (a + nI j * s))
def pm_gr (A : Nat → Nat → Option Int32) (w x f : Nat) : Nat → (Nat → Nat → Option Int32)
  | 0 => A
  | j + 1 => pm_up (pm_gr A w x f j) x (f + j) (pm_gr A w x f j w (f + j))
theorem pm_PI_new {c v : Nat} {pn : Nat → Nat} {pa : Nat → Int32} (h : pm_PI c pn pa) (hv : v < c) : pm_PI (c + 1) (pm_pn pn c v) (upd pa c (nI v)) := by
  intro x h0 hx
  by_cases e : x = c
  · subst e
    rw [pk_us]
    unfold pm_pn
    rw [if_pos rfl]
    exact ⟨hv, rfl⟩
  · rw [pk_un e]
    unfold pm_pn
    rw [if_neg e]
    exact h x h0 (by omega)
section
variable {c : Nat} {pn : Nat → Nat} {A : Nat → Nat → Option Int32} {qa th wo : Nat → Int32}
theorem pm_yV_t {post : Int32 → Prop} {v : Nat} (hc : c ≤ 40) (hv : v < c) (hp : post 0) : wpY_bad post (nI c, qa, th, wo) (nI v) :=
  br_f (nI_pos (by omega)) (br_f (nI_ge hv (by omega)) (br_t (nI_le (b := 39) (by omega) (by decide)) hp))
theorem pm_yV_f {post : Int32 → Prop} {p : Int32} (hc : c ≤ 40) (hv : ¬ pm_ver c p) (hp : post 1) : wpY_bad post (nI c, qa, th, wo) p := by
  rcases pm_ver_n (by omega) hv with h | h
  · exact br_t h hp
  · exact br_c (fun _ => hp) (fun _ => br_t h hp)
theorem pm_yK_t {post : Int32 → Prop} {v : Nat} (hv : v < 32) (hp : post 0) : wpY_badKey post (nI c, qa, th, wo) (nI v) :=
  br_f (nI_pos (by omega)) (br_t (nI_le (b := 31) (by omega) (by decide)) hp)
theorem pm_yK_f {post : Int32 → Prop} {p : Int32} (hv : ¬ pm_ver 32 p) (hp : post 1) : wpY_badKey post (nI c, qa, th, wo) p := by
  rcases pm_ver_n (by omega) hv with h | h
  · exact br_t h hp
  · refine br_c (fun _ => hp) (fun _ => br_f (fun z => ?_) hp)
    have h1 : (32 : Int32) ≤ 31 := Int32.le_trans h z
    exact absurd h1 (by decide)
theorem pm_yP_t {post : Int32 → Prop} {f s : Nat} (hf : f ≤ 31) (h1 : 1 ≤ s) (h8 : s ≤ 8) (h32 : f + s ≤ 32) (hp : post 0) : wpY_badPlan post (nI c, qa, th, wo) (nI (16 * f + s)) := by
  unfold wpY_badPlan
  dsimp only
  rw [pm_pl_rem f s hf h8, pm_pl_div f s hf h8, nI_add]
  exact br_f (nI_pos (by omega)) ⟨pm_n16, br_f (nI_nlt (a := 31) hf (by omega)) ⟨pm_n16, br_f (nI_nlt (b := 1) h1 (by omega)) ⟨pm_n16, br_t (nI_le (b := 8) h8 (by omega)) ⟨pm_n16, pm_n16, br_t (nI_le (b := 32) h32 (by omega)) hp⟩⟩⟩⟩
theorem pm_yP_f {post : Int32 → Prop} {p : Int32} (hv : ¬ pm_pl p) (hp : post 1) : wpY_badPlan post (nI c, qa, th, wo) p := by
  unfold wpY_badPlan
  dsimp only
  refine br_c (fun _ => hp) (fun h0 => ⟨pm_n16, ?_⟩)
  obtain ⟨j, hj, rfl⟩ := nI_of h0
  have e : nI j - nI j / 16 * 16 = nI (j % 16) := pk_rem (d := 16) hj (by decide) (by decide)
  have e2 : nI j / 16 = nI (j / 16) := pk_div (d := 16) hj (by decide) (by decide)
  rw [e, e2, nI_add]
  refine pk_lt 31 (j / 16) (fun _ => hp) (fun h31 => ⟨pm_n16, ?_⟩)
  refine pk_lt (j % 16) 1 (fun _ => hp) (fun h1 => ⟨pm_n16, ?_⟩)
  refine pk_le (j % 16) 8 (fun h8 => ⟨pm_n16, pm_n16, ?_⟩) (fun _ => hp)
  refine pk_le (j / 16 + j % 16) 32 (fun h32 => ?_) (fun _ => hp)
  exact absurd ⟨j / 16, j % 16, h31, h1, h8, h32, congrArg nI (by omega)⟩ hv
theorem pm_yan30 {post : Int32 → Prop} {v w : Nat} (hv : v < 40) (hw : w < 40) (hp : post (pm_b (decide (w = v)))) : wY_leads_30 post (nI v) (nI w) (nI c) qa th wo := by
  unfold wY_leads_30
  refine pk_eq w v (fun h => ?_) (fun h => ?_)
  · rw [decide_eq_true h] at hp; exact hp
  · rw [decide_eq_false h] at hp; exact hp
theorem pm_yanL {v : Nat} (hc : c ≤ 40) (hP : pm_PI c pn qa) (hv : v < 40) {post : Int32 → Prop} : ∀ (m w k : Nat), w < c → w ≤ m → w + k < 40 → post (pm_b (pm_anc pn v w)) → wY_leads_5 post (nI v) (nI c) qa th wo (m + 1) (nI w) (nI k) := by
  intro m
  induction m with
  | zero =>
    intro w k hw hm hk hp
    have hl : w ≤ v := by omega
    rw [pm_anc_le hl] at hp
    exact br_f (nI_ge (b := 40) (by omega) (by decide)) (br_t (nI_le hl (by omega)) (pm_yan30 hv (by omega) hp))
  | succ m ih =>
    intro w k hw hm hk hp
    refine br_f (nI_ge (b := 40) (by omega) (by decide)) ?_
    refine pk_le w v (fun hl => ?_) (fun hl => ?_)
    · rw [pm_anc_le hl] at hp
      exact pm_yan30 hv (by omega) hp
    · obtain ⟨h1, h2⟩ := hP w (by omega) hw
      rw [pm_anc_gt (pm_PI_dn hP) hw (by omega)] at hp
      exact ⟨vp_in_nI (by omega) (by decide), nm_r (by rw [nI_clamp (by omega), h2]) (nm_r (nI_1 k) (ih (pn w) (k + 1) (by omega) (by omega) (by omega) hp))⟩
theorem pm_yan {v w : Nat} (hc : c ≤ 40) (hP : pm_PI c pn qa) (hv : v < 40) (hw : w < c) {post : Int32 → Prop} (hp : post (pm_b (pm_anc pn v w))) : wpY_leads post (nI c, qa, th, wo) (nI v) (nI w) :=
  ⟨w + 1, pm_yanL hc hP hv w w 0 hw (Nat.le_refl w) (by omega) hp⟩
theorem pm_yagree {k v w : Nat} (J : pm_YI c pn A qa th wo) (hk : k < 32) (hv : v < c) (hw : w < c) {post : Int32 → Prop} (hp : post (pm_ag (A v k) (A w k))) : wpY_agree post (nI c, qa, th, wo) (nI v) (nI w) (nI k) := by
  obtain ⟨⟨_, hc⟩, hP, hY⟩ := J
  unfold wpY_agree
  dsimp only
  have i1 := pm_yin (v := v) (k := k) (by omega) hk
  have i2 := pm_yin (v := w) (k := k) (by omega) hk
  rw [pm_ycl (v := v) (by omega) hk, pm_ycl (v := w) (by omega) hk]
  refine ⟨i1, i2, ?_⟩
  unfold pm_ag at hp
  rcases hY v k hv hk with ⟨a1, a2⟩ | ⟨a1, a2⟩
  · rcases hY w k hw hk with ⟨b1, b2⟩ | ⟨b1, b2⟩
    · rw [a2, b2, if_pos rfl] at hp
      exact br_t (a1.trans b1.symm) ⟨i1, br_t a1 hp⟩
    · rw [a2, b2, if_neg (by simp)] at hp
      exact br_f (by rw [a1, b1]; decide) hp
  · rcases hY w k hw hk with ⟨b1, b2⟩ | ⟨b1, b2⟩
    · rw [a2, b2, if_neg (by simp)] at hp
      exact br_f (by rw [a1, b1]; decide) hp
    · rw [a2, b2] at hp
      refine br_t (a1.trans b1.symm) ⟨i1, br_f (by rw [a1]; decide) ⟨i1, i2, br_c (fun h => ?_) (fun h => ?_)⟩⟩
      · rw [if_pos (congrArg some h)] at hp
        exact hp
      · rw [if_neg (fun z => h (Option.some.inj z))] at hp
        exact hp
theorem pm_ysizeL {v : Nat} (J : pm_YI c pn A qa th wo) (hv : v < c) {post : Int32 → Prop} (hp : post (bx_sum (fun k => pm_th (A v k)) 32)) :
    ∀ (d j : Nat), j + d = 32 → wY_size_14 post (nI v) (nI c) qa th wo (d + 1) (bx_sum (fun k => pm_th (A v k)) j) (nI j) := by
  obtain ⟨⟨_, hc⟩, hP, hY⟩ := J
  intro d
  induction d with
  | zero =>
    intro j hj
    have e : j = 32 := by omega
    subst e
    exact br_t (nI_le (Nat.le_refl 32) (by decide)) hp
  | succ d ih =>
    intro j hj
    refine br_f (nI_ge (b := 32) (by omega) (by decide)) ⟨pm_yin (by omega) (by omega), ?_⟩
    rw [pm_ycl (by omega) (by omega)]
    have hs : bx_sum (fun k => pm_th (A v k)) (j + 1) = bx_sum (fun k => pm_th (A v k)) j + pm_th (A v j) := rfl
    have hg := ih (j + 1) (by omega)
    rcases hY v j hv (by omega) with ⟨a1, a2⟩ | ⟨a1, a2⟩
    · rw [a2] at hs
      rw [hs, show bx_sum (fun k => pm_th (A v k)) j + pm_th none = bx_sum (fun k => pm_th (A v k)) j from Int32.add_zero _] at hg
      exact br_t a1 (nm_r (nI_1 j) hg)
    · rw [a2] at hs
      exact br_f (by rw [a1]; decide) (nm_r hs.symm (nm_r (nI_1 j) hg))
theorem pm_ydifferingL {v w : Nat} (J : pm_YI c pn A qa th wo) (hv : v < c) (hw : w < c) {post : Int32 → Prop} (hp : post (bx_sum (fun k => pm_df (A v k) (A w k)) 32)) :
    ∀ (d j : Nat), j + d = 32 → wY_differing_23 post (nI v) (nI w) (nI c) qa th wo (d + 1) (bx_sum (fun k => pm_df (A v k) (A w k)) j) (nI j) := by
  intro d
  induction d with
  | zero =>
    intro j hj
    have e : j = 32 := by omega
    subst e
    exact br_t (nI_le (Nat.le_refl 32) (by decide)) hp
  | succ d ih =>
    intro j hj
    refine br_f (nI_ge (b := 32) (by omega) (by decide)) (pm_yagree J (by omega) hv hw ?_)
    have hs : bx_sum (fun k => pm_df (A v k) (A w k)) (j + 1) = bx_sum (fun k => pm_df (A v k) (A w k)) j + pm_df (A v j) (A w j) := rfl
    have hg := ih (j + 1) (by omega)
    unfold pm_ag
    by_cases hA : A v j = A w j
    · have hd : pm_df (A v j) (A w j) = 0 := if_pos hA
      rw [hd] at hs
      rw [hs, Int32.add_zero] at hg
      rw [if_pos hA]
      exact br_f pm_n10 (nm_r (nI_1 j) hg)
    · have hd : pm_df (A v j) (A w j) = 1 := if_neg hA
      rw [hd] at hs
      rw [if_neg hA]
      exact br_t rfl (nm_r hs.symm (nm_r (nI_1 j) hg))
theorem pm_ychangesL {k : Nat} (J : pm_YI c pn A qa th wo) (hk : k < 32) {post : Int32 → Prop} (hp : post (bx_sum (fun i => pm_df (A (i + 1) k) (A (pn (i + 1)) k)) (c - 1))) :
    ∀ (d j : Nat), j + d + 1 = c → wY_changes_14 post (nI k) (nI c) qa th wo (d + 1) (bx_sum (fun i => pm_df (A (i + 1) k) (A (pn (i + 1)) k)) j) (nI (j + 1)) := by
  have hc : c ≤ 40 := J.1.2
  intro d
  induction d with
  | zero =>
    intro j hj
    have e : c - 1 = j := by omega
    rw [e] at hp
    exact br_t (nI_le (by omega) (by omega)) hp
  | succ d ih =>
    intro j hj
    obtain ⟨h1, h2⟩ := J.2.1 (j + 1) (by omega) (by omega)
    refine br_f (nI_ge (by omega) (by omega)) (br_f (nI_ge (b := 40) (by omega) (by decide)) ⟨vp_in_nI (by omega) (by decide), ?_⟩)
    rw [nI_clamp (n := j + 1) (by omega), h2]
    refine pm_yagree J hk (by omega) (by omega) ?_
    have hs : bx_sum (fun i => pm_df (A (i + 1) k) (A (pn (i + 1)) k)) (j + 1) = bx_sum (fun i => pm_df (A (i + 1) k) (A (pn (i + 1)) k)) j + pm_df (A (j + 1) k) (A (pn (j + 1)) k) := rfl
    have hg := ih (j + 1) (by omega)
    unfold pm_ag
    by_cases hA : A (j + 1) k = A (pn (j + 1)) k
    · have hd : pm_df (A (j + 1) k) (A (pn (j + 1)) k) = 0 := if_pos hA
      rw [hd] at hs
      rw [hs, Int32.add_zero] at hg
      rw [if_pos hA]
      exact br_f pm_n10 (nm_r (nI_1 (j + 1)) hg)
    · have hd : pm_df (A (j + 1) k) (A (pn (j + 1)) k) = 1 := if_neg hA
      rw [hd] at hs
      rw [if_neg hA]
      exact br_t rfl (nm_r hs.symm (nm_r (nI_1 (j + 1)) hg))
theorem pm_ynext1 {v q : Nat} {p : Int32} (J : pm_YI c pn A qa th wo) (hv : v < c) (hq : ∀ j : Nat, j < 2 ^ 31 → (nI j < p ↔ j < q)) {post : Int32 → Prop} :
    ∀ (d j : Nat), j + d = 32 → q ≤ j → post (pm_nx (fun k => pm_th (A v k)) d j) → wY_next_12 post (nI v) p (nI c) qa th wo (d + 1) (nI j) := by
  obtain ⟨⟨_, hc⟩, hP, hY⟩ := J
  intro d
  induction d with
  | zero =>
    intro j hj _ hp
    have e : j = 32 := by omega
    subst e
    exact br_t (nI_le (Nat.le_refl 32) (by decide)) hp
  | succ d ih =>
    intro j hj hqj hp
    refine br_f (nI_ge (b := 32) (by omega) (by decide)) (br_f (fun z => absurd ((hq j (by omega)).mp z) (by omega)) ⟨pm_yin (by omega) (by omega), ?_⟩)
    rw [pm_ycl (by omega) (by omega)]
    have hs : pm_nx (fun k => pm_th (A v k)) (d + 1) j = if pm_th (A v j) = 0 then pm_nx (fun k => pm_th (A v k)) d (j + 1) else nI j := rfl
    rw [hs] at hp
    rcases hY v j hv (by omega) with ⟨a1, a2⟩ | ⟨a1, a2⟩
    · rw [a2, if_pos pm_th0] at hp
      exact br_t a1 (nm_r (nI_1 j) (ih (j + 1) (by omega) (by omega) hp))
    · rw [a2, if_neg pm_th1] at hp
      exact br_f (by rw [a1]; decide) hp
theorem pm_ynext2 {v q : Nat} {p : Int32} (J : pm_YI c pn A qa th wo) (hv : v < c) (hq : ∀ j : Nat, j < 2 ^ 31 → (nI j < p ↔ j < q)) {post : Int32 → Prop} (hp : post (pm_nx (fun k => pm_th (A v k)) (32 - q) q)) :
    ∀ (d j : Nat), j + d = 32 → j ≤ q → wY_next_12 post (nI v) p (nI c) qa th wo (d + 1) (nI j) := by
  intro d
  induction d with
  | zero =>
    intro j hj hjq
    have e : j = 32 := by omega
    subst e
    rw [show 32 - q = 0 by omega] at hp
    exact br_t (nI_le (Nat.le_refl 32) (by decide)) hp
  | succ d ih =>
    intro j hj hjq
    by_cases e : j = q
    · subst e
      rw [show 32 - j = d + 1 by omega] at hp
      exact pm_ynext1 J hv hq (d + 1) j hj (Nat.le_refl j) hp
    · exact br_f (nI_ge (b := 32) (by omega) (by decide)) (br_t ((hq j (by omega)).mpr (by omega)) (nm_r (nI_1 j) (ih (j + 1) (by omega) (by omega))))
theorem pm_yprev1 {v h : Nat} {p : Int32} (J : pm_YI c pn A qa th wo) (hv : v < c) (hq : ∀ j : Nat, j < 32 → (p < nI j ↔ h ≤ j)) {post : Int32 → Prop} :
    ∀ (j : Nat), j ≤ 32 → j ≤ h → post (pm_pv (fun k => pm_th (A v k)) j) → wY_previous_13 post (nI v) p (nI c) qa th wo (j + 1) (nI j + (-1)) := by
  obtain ⟨⟨_, hc⟩, hP, hY⟩ := J
  intro j
  induction j with
  | zero =>
    intro _ _ hp
    exact br_t (show nI 0 + (-1) < 0 by decide) hp
  | succ j ih =>
    intro hj hjh hp
    rw [pk_m1]
    refine br_f (nI_pos (by omega)) (br_f (fun z => absurd ((hq j (by omega)).mp z) (by omega)) ⟨pm_yin (by omega) (by omega), ?_⟩)
    rw [pm_ycl (by omega) (by omega)]
    have hs : pm_pv (fun k => pm_th (A v k)) (j + 1) = if pm_th (A v j) = 0 then pm_pv (fun k => pm_th (A v k)) j else nI j := rfl
    rw [hs] at hp
    rcases hY v j hv (by omega) with ⟨a1, a2⟩ | ⟨a1, a2⟩
    · rw [a2, if_pos pm_th0] at hp
      exact br_t a1 (nm_e (ih (by omega) (by omega) hp))
    · rw [a2, if_neg pm_th1] at hp
      exact br_f (by rw [a1]; decide) hp
theorem pm_yprev2 {v h : Nat} {p : Int32} (J : pm_YI c pn A qa th wo) (hv : v < c) (hq : ∀ j : Nat, j < 32 → (p < nI j ↔ h ≤ j)) {post : Int32 → Prop} (hp : post (pm_pv (fun k => pm_th (A v k)) h)) :
    ∀ (j : Nat), j ≤ 32 → h ≤ j → wY_previous_13 post (nI v) p (nI c) qa th wo (j + 1) (nI j + (-1)) := by
  intro j
  induction j with
  | zero =>
    intro hj hjh
    have e : h = 0 := by omega
    subst e
    exact pm_yprev1 J hv hq 0 hj (Nat.le_refl 0) hp
  | succ j ih =>
    intro hj hjh
    by_cases e : j + 1 = h
    · subst e
      exact pm_yprev1 J hv hq (j + 1) hj (Nat.le_refl _) hp
    · rw [pk_m1]
      exact br_f (nI_pos (by omega)) (br_t ((hq j (by omega)).mpr (by omega)) (nm_e (ih (by omega) (by omega))))
theorem pm_yselL {v : Nat} {p : Int32} (J : pm_YI c pn A qa th wo) (hv : v < c) {post : Int32 → Prop} :
    ∀ (d j : Nat) (b : Int32), j + d = 32 → post (pm_sl (fun k => pm_th (A v k)) p d j b) → wY_select_15 post (nI v) p (nI c) qa th wo (d + 1) b (nI j) := by
  obtain ⟨⟨_, hc⟩, hP, hY⟩ := J
  intro d
  induction d with
  | zero =>
    intro j b hj hp
    have e : j = 32 := by omega
    subst e
    exact br_t (nI_le (Nat.le_refl 32) (by decide)) hp
  | succ d ih =>
    intro j b hj hp
    refine br_f (nI_ge (b := 32) (by omega) (by decide)) ⟨pm_yin (by omega) (by omega), ?_⟩
    rw [pm_ycl (by omega) (by omega)]
    have hs : pm_sl (fun k => pm_th (A v k)) p (d + 1) j b = if pm_th (A v j) = 0 then pm_sl (fun k => pm_th (A v k)) p d (j + 1) b else if b = p then nI j else pm_sl (fun k => pm_th (A v k)) p d (j + 1) (b + 1) := rfl
    rw [hs] at hp
    rcases hY v j hv (by omega) with ⟨a1, a2⟩ | ⟨a1, a2⟩
    · rw [a2, if_pos pm_th0] at hp
      exact br_t a1 (nm_r (nI_1 j) (ih (j + 1) b (by omega) hp))
    · rw [a2, if_neg pm_th1] at hp
      refine br_f (by rw [a1]; decide) ?_
      by_cases hb : b = p
      · rw [if_pos hb] at hp
        exact br_t hb hp
      · rw [if_neg hb] at hp
        exact br_f hb (nm_e (nm_r (nI_1 j) (ih (j + 1) (b + 1) (by omega) hp)))
theorem pm_ysumL {v lo h : Nat} {p q : Int32} (J : pm_YI c pn A qa th wo) (hv : v < c) (hp1 : ∀ j : Nat, j < 2 ^ 31 → (nI j < p ↔ j < lo)) (hq : ∀ j : Nat, j < 32 → (q < nI j ↔ h ≤ j)) {post : Int32 → Prop} (hp : post (bx_sum (pm_sf lo h (fun k => pm_va (A v k))) 32)) :
    ∀ (d j : Nat), j + d = 32 → wY_sum_16 post (nI v) p q (nI c) qa th wo (d + 1) (bx_sum (pm_sf lo h (fun k => pm_va (A v k))) j) (nI j) := by
  obtain ⟨⟨_, hc⟩, hP, hY⟩ := J
  intro d
  induction d with
  | zero =>
    intro j hj
    have e : j = 32 := by omega
    subst e
    exact br_t (nI_le (Nat.le_refl 32) (by decide)) hp
  | succ d ih =>
    intro j hj
    have hs : bx_sum (pm_sf lo h (fun k => pm_va (A v k))) (j + 1) = bx_sum (pm_sf lo h (fun k => pm_va (A v k))) j + (if lo ≤ j ∧ j < h then pm_va (A v j) else 0) := rfl
    have hg := ih (j + 1) (by omega)
    refine br_f (nI_ge (b := 32) (by omega) (by decide)) ?_
    by_cases h1 : j < lo
    · rw [hs, if_neg (by omega), Int32.add_zero] at hg
      exact br_t ((hp1 j (by omega)).mpr h1) (nm_r (nI_1 j) hg)
    · refine br_f (fun z => h1 ((hp1 j (by omega)).mp z)) ?_
      by_cases h2 : h ≤ j
      · rw [hs, if_neg (by omega), Int32.add_zero] at hg
        exact br_t ((hq j (by omega)).mpr h2) (nm_r (nI_1 j) hg)
      · refine br_f (fun z => h2 ((hq j (by omega)).mp z)) ⟨pm_yin (by omega) (by omega), ?_⟩
        rw [pm_ycl (by omega) (by omega)]
        rw [if_pos (by omega)] at hs
        rcases hY v j hv (by omega) with ⟨a1, a2⟩ | ⟨a1, a2⟩
        · rw [a2] at hs
          rw [hs, show bx_sum (pm_sf lo h (fun k => pm_va (A v k))) j + pm_va none = bx_sum (pm_sf lo h (fun k => pm_va (A v k))) j from Int32.add_zero _] at hg
          exact br_t a1 (nm_r (nI_1 j) hg)
        · rw [a2] at hs
          exact br_f (by rw [a1]; decide) ⟨pm_yin (by omega) (by omega), nm_r hs.symm (nm_r (nI_1 j) hg)⟩
theorem pm_ymeetL {v w r : Nat} (J : pm_YI c pn A qa th wo) (hv : v < c) (hw : w < c) (hr : r < c) (h1 : pm_anc pn r v = true) (h2 : pm_anc pn r w = true) (h3 : ∀ x, x < c → pm_anc pn x v = true → pm_anc pn x w = true → x ≤ r) {post : Int32 → Prop} (hp : post (nI r)) :
    ∀ (d i : Nat) (f : Int32), i + d = c → (r < i → f = nI r) → wY_meet_23 post (nI v) (nI w) (nI c) qa th wo (d + 1) f (nI i) := by
  obtain ⟨⟨_, hc⟩, hP, hY⟩ := J
  intro d
  induction d with
  | zero =>
    intro i f hi hf
    rw [hf (by omega)]
    exact br_t (nI_le (by omega) (by omega)) hp
  | succ d ih =>
    intro i f hi hf
    refine br_f (nI_ge (by omega) (by omega)) (pm_yan hc hP (by omega) hv ?_)
    cases ha : pm_anc pn i v with
    | false =>
      refine br_t rfl (nm_r (nI_1 i) (ih (i + 1) f (by omega) (fun hri => hf ?_)))
      rcases Nat.lt_or_ge r i with h | h
      · exact h
      · have e : i = r := by omega
        rw [e, h1] at ha
        cases ha
    | true =>
      refine br_f pm_n10 (pm_yan hc hP (by omega) hw ?_)
      cases hb : pm_anc pn i w with
      | false =>
        refine br_t rfl (nm_r (nI_1 i) (ih (i + 1) f (by omega) (fun hri => hf ?_)))
        rcases Nat.lt_or_ge r i with h | h
        · exact h
        · have e : i = r := by omega
          rw [e, h2] at hb
          cases hb
      | true =>
        refine br_f pm_n10 (nm_r (nI_1 i) (ih (i + 1) (nI i) (by omega) (fun hri => ?_)))
        have := h3 i (by omega) ha hb
        exact congrArg nI (by omega)
theorem pm_yfamL {v : Nat} (J : pm_YI c pn A qa th wo) (hv : v < c) {post : Int32 → Prop} (hp : post (nI (pm_cn (pm_anc pn v) c))) :
    ∀ (d i : Nat), i + d = c → wY_family_14 post (nI v) (nI c) qa th wo (d + 1) (nI (pm_cn (pm_anc pn v) i)) (nI i) := by
  obtain ⟨⟨_, hc⟩, hP, hY⟩ := J
  intro d
  induction d with
  | zero =>
    intro i hi
    have e : i = c := by omega
    subst e
    exact br_t (nI_le (by omega) (by omega)) hp
  | succ d ih =>
    intro i hi
    refine br_f (nI_ge (by omega) (by omega)) (pm_yan hc hP (by omega) (by omega) ?_)
    have hs : pm_cn (pm_anc pn v) (i + 1) = pm_cn (pm_anc pn v) i + (if pm_anc pn v i = true then 1 else 0) := rfl
    have hg := ih (i + 1) (by omega)
    cases ha : pm_anc pn v i with
    | false =>
      rw [ha, if_neg (by decide), Nat.add_zero] at hs
      rw [hs] at hg
      exact br_t rfl (nm_r (nI_1 i) hg)
    | true =>
      rw [ha, if_pos rfl] at hs
      rw [hs] at hg
      exact br_f pm_n10 (nm_r (nI_1 _) (nm_r (nI_1 i) hg))
theorem pm_yspreadL {k : Nat} (J : pm_YI c pn A qa th wo) (hk : k < 32) {post : Int32 → Prop} (hp : post (nI (pm_cn (fun x => (A x k).isSome) c))) :
    ∀ (d i : Nat), i + d = c → wY_spread_14 post (nI k) (nI c) qa th wo (d + 1) (nI (pm_cn (fun x => (A x k).isSome) i)) (nI i) := by
  obtain ⟨⟨_, hc⟩, hP, hY⟩ := J
  intro d
  induction d with
  | zero =>
    intro i hi
    have e : i = c := by omega
    subst e
    exact br_t (nI_le (by omega) (by omega)) hp
  | succ d ih =>
    intro i hi
    refine br_f (nI_ge (by omega) (by omega)) (br_f (nI_ge (b := 40) (by omega) (by decide)) ⟨pm_yin (by omega) hk, ?_⟩)
    rw [pm_ycl (by omega) hk]
    have hs : pm_cn (fun x => (A x k).isSome) (i + 1) = pm_cn (fun x => (A x k).isSome) i + (if (A i k).isSome = true then 1 else 0) := rfl
    have hg := ih (i + 1) (by omega)
    rcases hY i k (by omega) hk with ⟨a1, a2⟩ | ⟨a1, a2⟩
    · rw [a2, if_neg (by decide), Nat.add_zero] at hs
      rw [hs] at hg
      exact br_t a1 (nm_r (nI_1 i) hg)
    · rw [a2, if_pos (show (some (wo (32 * i + k))).isSome = true from rfl)] at hs
      rw [hs] at hg
      exact br_f (by rw [a1]; decide) (nm_r (nI_1 _) (nm_r (nI_1 i) hg))
end
end
section
theorem pm_yv01 {t w : Int32} {o : Option Int32} (h : pm_yv t w o) : t = 0 ∨ t = 1 := by
  rcases h with ⟨h, _⟩ | ⟨h, _⟩
  · exact Or.inl h
  · exact Or.inr h
section
variable {c : Nat} {pn : Nat → Nat} {A : Nat → Nat → Option Int32} {qa th wo : Nat → Int32}
theorem pm_yup {x k : Nat} {t w : Int32} {o : Option Int32} (J : pm_YI c pn A qa th wo) (hk : k < 32) (h : pm_yv t w o) : pm_YI c pn (pm_up A x k o) qa (upd th (32 * x + k) t) (upd wo (32 * x + k) w) := by
  obtain ⟨hc, hP, hY⟩ := J
  refine ⟨hc, hP, fun y l hy hl => ?_⟩
  unfold pm_up
  by_cases e : y = x ∧ l = k
  · rw [if_pos e, e.1, e.2, pk_us, pk_us]
    exact h
  · have e2 : 32 * y + l ≠ 32 * x + k := by omega
    rw [if_neg e, pk_un e2, pk_un e2]
    exact hY y l hy hl
theorem pm_yup0 {x k : Nat} (J : pm_YI c pn A qa th wo) (hk : k < 32) : pm_YI c pn (pm_up A x k none) qa (upd th (32 * x + k) 0) wo := by
  obtain ⟨hc, hP, hY⟩ := J
  refine ⟨hc, hP, fun y l hy hl => ?_⟩
  unfold pm_up
  by_cases e : y = x ∧ l = k
  · rw [if_pos e, e.1, e.2, pk_us]
    exact Or.inl ⟨rfl, rfl⟩
  · have e2 : 32 * y + l ≠ 32 * x + k := by omega
    rw [if_neg e, pk_un e2]
    exact hY y l hy hl
theorem pm_ygive {x k : Nat} {a : Int32} (J : pm_YI c pn A qa th wo) (hx : x < c) (hk : k < 32) {post : SY → Prop} (hp : ∀ th wo, pm_YI c pn (pm_up A x k (some a)) qa th wo → post (nI c, qa, th, wo)) : wpY_give post (nI c, qa, th, wo) (nI x) (nI k) a := by
  have hc : c ≤ 40 := J.1.2
  unfold wpY_give
  dsimp only
  have i1 := pm_yin (v := x) (k := k) (by omega) hk
  rw [pm_ycl (v := x) (by omega) hk]
  exact ⟨i1, nm_r (congrArg (upd th (32 * x + k)) (pm_nar (Or.inr rfl))) ⟨i1, nm_e (hp _ _ (pm_yup J hk (Or.inr ⟨rfl, rfl⟩)))⟩⟩
theorem pm_ycopy {x k y l : Nat} (J : pm_YI c pn A qa th wo) (hx : x < c) (hk : k < 32) (hy : y < c) (hl : l < 32) {post : SY → Prop} (hp : ∀ th wo, pm_YI c pn (pm_up A y l (A x k)) qa th wo → post (nI c, qa, th, wo)) : wpY_copy post (nI c, qa, th, wo) (nI x) (nI k) (nI y) (nI l) := by
  have hc : c ≤ 40 := J.1.2
  unfold wpY_copy
  dsimp only
  have i1 := pm_yin (v := x) (k := k) (by omega) hk
  have i2 := pm_yin (v := y) (k := l) (by omega) hl
  rw [pm_ycl (v := x) (by omega) hk, pm_ycl (v := y) (by omega) hl]
  have h := J.2.2 x k hx hk
  exact ⟨i1, i2, nm_r (congrArg (upd th (32 * y + l)) (pm_nar (pm_yv01 h))) ⟨i1, i2, nm_e (hp _ _ (pm_yup J hl h))⟩⟩
theorem pm_ymakeL {v : Nat} (hc : c < 40) (h1 : 1 ≤ c) (hv : v < c) (hP : pm_PI c pn qa) {post : Int32 → SY → Prop} (hp : ∀ qa th wo, pm_YI (c + 1) (pm_pn pn c v) (pm_cp A c v) qa th wo → post (nI c) (nI (c + 1), qa, th, wo)) :
    ∀ (d j : Nat) (th wo : Nat → Int32), j + d = 32 → (∀ x k, x < c → k < 32 → pm_yv (th (32 * x + k)) (wo (32 * x + k)) (A x k)) → (∀ k, k < j → pm_yv (th (32 * c + k)) (wo (32 * c + k)) (A v k)) →
    wY_make_16 post (nI v) (nI c) (nI c) (d + 1) (nI j) qa th wo := by
  intro d
  induction d with
  | zero =>
    intro j th wo hj hY hn
    have e : j = 32 := by omega
    subst e
    refine br_t (nI_le (Nat.le_refl 32) (by decide)) ⟨vp_in_nI hc (by decide), nm_e (nm_r (nI_1 c) ?_)⟩
    rw [nI_clamp (n := c) (by omega)]
    refine hp _ _ _ ⟨⟨by omega, by omega⟩, pm_PI_new hP hv, fun y l hy hl => ?_⟩
    unfold pm_cp
    by_cases e : y = c
    · rw [if_pos e, e]
      exact hn l hl
    · rw [if_neg e]
      exact hY y l (by omega) hl
  | succ d ih =>
    intro j th wo hj hY hn
    have i1 := pm_yin (v := v) (k := j) (by omega) (by omega)
    have i2 := pm_yin (v := c) (k := j) (by omega) (by omega)
    have h := hY v j hv (by omega)
    refine br_f (nI_ge (b := 32) (by omega) (by decide)) ?_
    rw [pm_ycl (v := v) (k := j) (by omega) (by omega), pm_ycl (v := c) (k := j) (by omega) (by omega)]
    refine ⟨i1, i2, nm_r (congrArg (upd th (32 * c + j)) (pm_nar (pm_yv01 h))) ⟨i1, i2, nm_e (nm_r (nI_1 j) (ih (j + 1) _ _ (by omega) (fun x k hx hk => ?_) (fun k hk => ?_)))⟩⟩
    · have e2 : 32 * x + k ≠ 32 * c + j := by omega
      rw [pk_un e2, pk_un e2]
      exact hY x k hx hk
    · by_cases e : k = j
      · subst e
        rw [pk_us, pk_us]
        exact h
      · have e2 : 32 * c + k ≠ 32 * c + j := by omega
        rw [pk_un e2, pk_un e2]
        exact hn k (by omega)
theorem pm_ymake {v : Nat} (J : pm_YI c pn A qa th wo) (hc : c < 40) (hv : v < c) {post : Int32 → SY → Prop} (hp : ∀ qa th wo, pm_YI (c + 1) (pm_pn pn c v) (pm_cp A c v) qa th wo → post (nI c) (nI (c + 1), qa, th, wo)) : wpY_make post (nI c, qa, th, wo) (nI v) := by
  obtain ⟨⟨h1, _⟩, hP, hY⟩ := J
  unfold wpY_make
  exact br_t (nI_le (b := 39) (by omega) (by decide)) ⟨33, pm_ymakeL hc h1 hv hP hp 32 0 th wo rfl hY (fun k hk => absurd hk (by omega))⟩
theorem pm_ymake_f {p : Int32} (hc : c = 40) {post : Int32 → SY → Prop} (hp : post (-3) (nI c, qa, th, wo)) : wpY_make post (nI c, qa, th, wo) p := by
  subst hc
  unfold wpY_make
  exact br_f (nI_ge (b := 40) (a := 39) (by decide) (by decide)) hp
theorem pm_yfillL {x f s : Nat} {a b : Int32} (hx : x < c) (hf : f ≤ 31) (h8 : s ≤ 8) (h32 : f + s ≤ 32) {post : Int32 → SY → Prop} (hp : ∀ th wo, pm_YI c pn (pm_fl A x f a b s) qa th wo → post (nI x) (nI c, qa, th, wo)) :
    ∀ (d j : Nat) (th wo : Nat → Int32), j + d = s → pm_YI c pn (pm_fl A x f a b j) qa th wo → wY_fill_31 post (nI (16 * f + s)) a b (nI x) (d + 1) (nI j) (nI c) qa th wo := by
  intro d
  induction d with
  | zero =>
    intro j th wo hj J
    have e : j = s := by omega
    subst e
    unfold wY_fill_31
    rw [pm_pl_rem f j hf h8]
    exact ⟨pm_n16, br_t (nI_le (Nat.le_refl j) (by omega)) (hp _ _ J)⟩
  | succ d ih =>
    intro j th wo hj J
    have hc := J.1.2
    unfold wY_fill_31
    rw [pm_pl_rem f s hf h8, pm_pl_div f s hf h8, nI_add]
    refine ⟨pm_n16, br_f (nI_ge (by omega) (by omega)) (br_f (nI_pos (by omega)) ⟨pm_n16, pm_ygive J hx (by omega) (fun th wo J2 => nm_r (nI_1 j) (ih (j + 1) th wo (by omega) J2))⟩)⟩
theorem pm_ygraftL {w x f s : Nat} (hw : w < c) (hx : x < c) (hf : f ≤ 31) (h8 : s ≤ 8) (h32 : f + s ≤ 32) {post : Int32 → SY → Prop} (hp : ∀ th wo, pm_YI c pn (pm_gr A w x f s) qa th wo → post (nI x) (nI c, qa, th, wo)) :
    ∀ (d j : Nat) (th wo : Nat → Int32), j + d = s → pm_YI c pn (pm_gr A w x f j) qa th wo → wY_graft_39 post (nI w) (nI (16 * f + s)) (nI x) (d + 1) (nI j) (nI c) qa th wo := by
  intro d
  induction d with
  | zero =>
    intro j th wo hj J
    have e : j = s := by omega
    subst e
    unfold wY_graft_39
    rw [pm_pl_rem f j hf h8]
    exact ⟨pm_n16, br_t (nI_le (Nat.le_refl j) (by omega)) (hp _ _ J)⟩
  | succ d ih =>
    intro j th wo hj J
    have hc := J.1.2
    unfold wY_graft_39
    rw [pm_pl_rem f s hf h8, pm_pl_div f s hf h8, nI_add]
    refine ⟨pm_n16, br_f (nI_ge (by omega) (by omega)) (br_f (nI_pos (by omega)) ⟨pm_n16, pm_n16, pm_ycopy J hw (by omega) hx (by omega) (fun th wo J2 => nm_r (nI_1 j) (ih (j + 1) th wo (by omega) J2))⟩)⟩
end
end
section
def pm_un (f : Nat → Nat) (k x : Nat) : Nat → Nat := fun j => if j = k then x else f j
theorem pm_uns {f : Nat → Nat} {k x : Nat} : pm_un f k x k = x := if_pos rfl
theorem pm_unn {f : Nat → Nat} {k x j : Nat} (h : j ≠ k) : pm_un f k x j = f j := if_neg h
/-! a chain with one more member: S z or z = n, whose f is L -/
theorem pm_scA {S T : Nat → Prop} {f g : Nat → Nat} {n L b : Nat} {r : Int32} (hT : ∀ z, T z ↔ S z ∨ z = n) (hg : ∀ z, S z → g z = f z) (hgn : g n = L) (h : L < b ∨ ∃ y, S y ∧ b ≤ f y ∧ f y ≤ L) (hs : pm_sc S f b r) : pm_sc T g b r := by
  rcases hs with ⟨hr, hs⟩ | ⟨y, hr, hy, hb, hs⟩
  · refine Or.inl ⟨hr, fun z hz => ?_⟩
    rcases (hT z).mp hz with hz | hz
    · rw [hg z hz]; exact hs z hz
    · rw [hz, hgn]
      rcases h with h | ⟨y, h1, h2, h3⟩
      · exact h
      · have := hs y h1
        omega
  · refine Or.inr ⟨y, hr, (hT y).mpr (Or.inl hy), by rw [hg y hy]; exact hb, fun z hz hbz => ?_⟩
    rw [hg y hy]
    rcases (hT z).mp hz with hz | hz
    · rw [hg z hz] at hbz ⊢; exact hs z hz hbz
    · rw [hz, hgn] at hbz ⊢
      rcases h with h | ⟨w, h1, h2, h3⟩
      · omega
      · have := hs w h1 h2
        omega
theorem pm_scB {S T : Nat → Prop} {f g : Nat → Nat} {n L b : Nat} (hT : ∀ z, T z ↔ S z ∨ z = n) (hg : ∀ z, S z → g z = f z) (hgn : g n = L) (hb : b ≤ L) (h : ∀ z, S z → b ≤ f z → L ≤ f z) : pm_sc T g b (nI n) := by
  refine Or.inr ⟨n, rfl, (hT n).mpr (Or.inr rfl), by rw [hgn]; exact hb, fun z hz hbz => ?_⟩
  rw [hgn]
  rcases (hT z).mp hz with hz | hz
  · rw [hg z hz] at hbz ⊢; exact h z hz hbz
  · rw [hz, hgn]; exact Nat.le_refl L
theorem pm_scC {S T : Nat → Prop} {f g : Nat → Nat} {n L b : Nat} {r : Int32} (hT : ∀ z, T z ↔ S z ∨ z = n) (hg : ∀ z, S z → g z = f z) (hgn : g n = L) (hb : b ≤ L + 1) (h : ∀ z, S z → b ≤ f z → L + 1 ≤ f z) (hs : pm_sc S f b r) : pm_sc T g (L + 1) r := by
  rcases hs with ⟨hr, hs⟩ | ⟨y, hr, hy, hby, hs⟩
  · refine Or.inl ⟨hr, fun z hz => ?_⟩
    rcases (hT z).mp hz with hz | hz
    · rw [hg z hz]
      have := hs z hz
      omega
    · rw [hz, hgn]; omega
  · refine Or.inr ⟨y, hr, (hT y).mpr (Or.inl hy), by rw [hg y hy]; exact h y hy hby, fun z hz hbz => ?_⟩
    rw [hg y hy]
    rcases (hT z).mp hz with hz | hz
    · rw [hg z hz] at hbz ⊢; exact hs z hz (by omega)
    · rw [hz, hgn] at hbz
      omega
section
variable {c n : Nat} {pn lab ek ev : Nat → Nat} {A : Nat → Nat → Option Int32} {fo he eV eL eT eN : Nat → Int32}
theorem pm_Sk {k x : Nat} : ∀ z, pm_S (n + 1) (pm_un ek n k) k z ↔ pm_S n ek k z ∨ z = n := by
  intro z
  unfold pm_S
  by_cases e : z = n
  · rw [e, pm_uns]
    exact ⟨fun _ => Or.inr rfl, fun _ => ⟨by omega, rfl⟩⟩
  · rw [pm_unn e]
    refine ⟨fun h => Or.inl ⟨by omega, h.2⟩, fun h => ?_⟩
    rcases h with h | h
    · exact ⟨by omega, h.2⟩
    · exact absurd h e
theorem pm_So {k l : Nat} (hl : l ≠ k) : ∀ z, pm_S n ek l z ↔ pm_S (n + 1) (pm_un ek n k) l z := by
  intro z
  unfold pm_S
  by_cases e : z = n
  · rw [e, pm_uns]
    exact ⟨fun h => absurd h.1 (by omega), fun h => absurd h.2.symm hl⟩
  · rw [pm_unn e]
    exact ⟨fun h => ⟨by omega, h.2⟩, fun h => ⟨by omega, h.2⟩⟩
theorem pm_fz {x l : Nat} : ∀ z, pm_S n ek l z → (fun e => lab (pm_un ev n x e)) z = (fun e => lab (ev e)) z := by
  intro z hz
  have e : z ≠ n := by have := hz.1; omega
  show lab (pm_un ev n x z) = lab (ev z)
  rw [pm_unn e]
theorem pm_fn {x : Nat} : (fun e => lab (pm_un ev n x e)) n = lab x := by
  show lab (pm_un ev n x n) = lab x
  rw [pm_uns]
theorem pm_insH {k x : Nat} (hE : pm_ES c n lab ek ev he eV eN) (hk : k < 32) (hx : x < c) (hno : ∀ e, e < n → ek e = k → ev e ≠ x) (hr : pm_no (pm_S n ek k) (fun e => lab (ev e)) (lab x)) :
    pm_ES c (n + 1) lab (pm_un ek n k) (pm_un ev n x) (upd he k (nI n)) (upd eV n (nI x)) (upd eN n (he k)) := by
  obtain ⟨h1, h2, h3, h4⟩ := hE
  refine ⟨fun e hen => ?_, fun e d hen hdn hk1 hv1 => ?_, fun l hl => ?_, fun e hen => ?_⟩
  · by_cases ee : e = n
    · rw [ee, pm_uns, pm_uns, pk_us]; exact ⟨hk, hx, rfl⟩
    · rw [pm_unn ee, pm_unn ee, pk_un ee]; exact h1 e (by omega)
  · by_cases ee : e = n
    · by_cases dd : d = n
      · rw [ee, dd]
      · rw [ee, pm_uns, pm_unn dd] at hk1 hv1
        exact absurd hv1.symm (hno d (by omega) hk1.symm)
    · by_cases dd : d = n
      · rw [dd, pm_uns, pm_unn ee] at hk1 hv1
        exact absurd hv1 (hno e (by omega) hk1)
      · rw [pm_unn ee, pm_unn dd] at hk1 hv1
        exact h2 e d (by omega) (by omega) hk1 hv1
  · by_cases ll : l = k
    · rw [ll, pk_us]
      exact pm_scB (pm_Sk (x := x)) pm_fz pm_fn (Nat.zero_le _) (fun z hz _ => Nat.le_of_lt (hr z hz))
    · rw [pk_un ll]
      exact pm_sc_set (pm_So ll) pm_fz (h3 l hl)
  · by_cases ee : e = n
    · rw [ee, pm_uns, pm_uns, pk_us]
      exact pm_scC (pm_Sk (x := x)) pm_fz pm_fn (Nat.zero_le _) (fun z hz _ => hr z hz) (h3 k hk)
    · rw [pm_unn ee, pm_unn ee, pk_un ee]
      have hs := h4 e (by omega)
      by_cases ll : ek e = k
      · rw [ll] at hs ⊢
        refine pm_scA (pm_Sk (x := x)) pm_fz pm_fn (Or.inl ?_) hs
        have : lab x < lab (ev e) := hr e ⟨by omega, ll⟩
        omega
      · exact pm_sc_set (pm_So ll) pm_fz hs
theorem pm_insB {k x b : Nat} (hi : pm_inj c lab) (hE : pm_ES c n lab ek ev he eV eN) (hk : k < 32) (hx : x < c) (hno : ∀ e, e < n → ek e = k → ev e ≠ x) (hr : pm_mx (pm_S n ek k) (fun e => lab (ev e)) (lab x) b) :
    pm_ES c (n + 1) lab (pm_un ek n k) (pm_un ev n x) he (upd eV n (nI x)) (upd (upd eN n (eN b)) b (nI n)) := by
  obtain ⟨h1, h2, h3, h4⟩ := hE
  obtain ⟨⟨hb1, hb2⟩, hb3, hb4⟩ := hr
  have hbL : lab (ev b) ≤ lab x := hb3
  have hbne : lab (ev b) ≠ lab x := fun e => hno b hb1 hb2 (hi _ _ (h1 b hb1).2.1 hx e)
  have hmax : ∀ z, pm_S n ek k z → lab (ev z) ≤ lab x → lab (ev z) ≤ lab (ev b) := hb4
  have hbn : b ≠ n := by omega
  refine ⟨fun e hen => ?_, fun e d hen hdn hk1 hv1 => ?_, fun l hl => ?_, fun e hen => ?_⟩
  · by_cases ee : e = n
    · rw [ee, pm_uns, pm_uns, pk_us]; exact ⟨hk, hx, rfl⟩
    · rw [pm_unn ee, pm_unn ee, pk_un ee]; exact h1 e (by omega)
  · by_cases ee : e = n
    · by_cases dd : d = n
      · rw [ee, dd]
      · rw [ee, pm_uns, pm_unn dd] at hk1 hv1
        exact absurd hv1.symm (hno d (by omega) hk1.symm)
    · by_cases dd : d = n
      · rw [dd, pm_uns, pm_unn ee] at hk1 hv1
        exact absurd hv1 (hno e (by omega) hk1)
      · rw [pm_unn ee, pm_unn dd] at hk1 hv1
        exact h2 e d (by omega) (by omega) hk1 hv1
  · by_cases ll : l = k
    · rw [ll]
      exact pm_scA (pm_Sk (x := x)) pm_fz pm_fn (Or.inr ⟨b, ⟨hb1, hb2⟩, Nat.zero_le _, hbL⟩) (h3 k hk)
    · exact pm_sc_set (pm_So ll) pm_fz (h3 l hl)
  · by_cases ee : e = n
    · rw [ee, pm_uns, pm_uns, pk_un (Ne.symm hbn), pk_us]
      have hs := h4 b hb1
      rw [hb2] at hs
      refine pm_scC (pm_Sk (x := x)) pm_fz pm_fn (by omega) (fun z hz hbz => ?_) hs
      have h5 := hmax z hz
      have h6 : lab (ev b) + 1 ≤ lab (ev z) := hbz
      show lab x + 1 ≤ lab (ev z)
      omega
    · rw [pm_unn ee, pm_unn ee]
      by_cases eb : e = b
      · rw [eb, pk_us, hb2]
        refine pm_scB (pm_Sk (x := x)) pm_fz pm_fn (by omega) (fun z hz hbz => ?_)
        have h5 := hmax z hz
        have h6 : lab (ev b) + 1 ≤ lab (ev z) := hbz
        show lab x ≤ lab (ev z)
        omega
      · rw [pk_un eb, pk_un ee]
        have hs := h4 e (by omega)
        by_cases ll : ek e = k
        · rw [ll] at hs ⊢
          refine pm_scA (pm_Sk (x := x)) pm_fz pm_fn ?_ hs
          have h5 := hmax e ⟨by omega, ll⟩
          have h6 : lab (ev e) ≠ lab (ev b) := fun z => eb (h2 e b (by omega) hb1 (ll.trans hb2.symm) (hi _ _ (h1 e (by omega)).2.1 (h1 b hb1).2.1 z))
          rcases Nat.lt_or_ge (lab x) (lab (ev e) + 1) with h | h
          · exact Or.inl h
          · refine Or.inr ⟨b, ⟨hb1, hb2⟩, ?_, hbL⟩
            show lab (ev e) + 1 ≤ lab (ev b)
            omega
        · exact pm_sc_set (pm_So ll) pm_fz hs
/-! what the entries say, after a write -/
theorem pm_upY {x k : Nat} {o : Option Int32} : pm_up A x k o x k = o := if_pos ⟨rfl, rfl⟩
theorem pm_upN {x k y l : Nat} {o : Option Int32} (h : ¬ (y = x ∧ l = k)) : pm_up A x k o y l = A y l := if_neg h
theorem pm_evW1 {x k e0 : Nat} {o : Option Int32} {eM eU : Nat → Int32} (hi : pm_inj c lab) (hE : pm_ES c n lab ek ev he eV eN) (hV : pm_EV c n lab ek ev A eL eT) (hx : x < c) (h0 : e0 < n) (h1 : ek e0 = k) (h2 : ev e0 = x)
    (ha : ∀ v, v < c → lab x < lab v → ∃ a, pm_S n ek k a ∧ lab x < lab (ev a) ∧ lab (ev a) ≤ lab v) (ho : pm_ov eM eU e0 = o) (hs : ∀ e, e ≠ e0 → pm_ov eM eU e = pm_ov eL eT e) : pm_EV c n lab ek ev (pm_up A x k o) eM eU := by
  intro v l hv hl
  refine ⟨fun hno => ?_, fun e hmx => ?_⟩
  · by_cases hc : v = x ∧ l = k
    · have h3 : lab v < lab (ev e0) := hno e0 ⟨h0, h1.trans hc.2.symm⟩
      rw [h2, hc.1] at h3
      omega
    · rw [pm_upN hc]
      exact (hV v l hv hl).1 hno
  · obtain ⟨⟨m1, m2⟩, m3, m4⟩ := hmx
    have m3' : lab (ev e) ≤ lab v := m3
    by_cases hc : v = x ∧ l = k
    · rw [hc.1, hc.2, pm_upY]
      have h3 : lab (ev e0) ≤ lab v → lab (ev e0) ≤ lab (ev e) := m4 e0 ⟨h0, h1.trans hc.2.symm⟩
      rw [h2, hc.1] at h3
      rw [hc.1] at m3'
      have h4 : ev e = x := hi _ _ (hE.1 e m1).2.1 hx (by omega)
      have h5 : e = e0 := hE.2.1 e e0 m1 h0 (by rw [m2, h1, hc.2]) (by rw [h4, h2])
      rw [h5, ho]
    · rw [pm_upN hc, (hV v l hv hl).2 e ⟨⟨m1, m2⟩, m3, m4⟩, hs e]
      intro ee
      rw [ee, h1] at m2
      rw [ee, h2] at m3'
      have hvx : lab x ≠ lab v := fun z => hc ⟨(hi _ _ hx hv z).symm, m2.symm⟩
      obtain ⟨a, a1, a2, a3⟩ := ha v hv (by omega)
      rw [m2] at a1
      have h6 : lab (ev a) ≤ lab (ev e) := m4 a a1 a3
      rw [ee, h2] at h6
      omega
theorem pm_evW2 {x k : Nat} {o : Option Int32} {eM eU : Nat → Int32} (hi : pm_inj c lab) (hE : pm_ES c n lab ek ev he eV eN) (hV : pm_EV c n lab ek ev A eL eT) (hx : x < c) (hno : ∀ e, e < n → ek e = k → ev e ≠ x)
    (ha : ∀ v, v < c → lab x < lab v → ∃ a, pm_S n ek k a ∧ lab x < lab (ev a) ∧ lab (ev a) ≤ lab v) (ho : pm_ov eM eU n = o) (hs : ∀ e, e < n → pm_ov eM eU e = pm_ov eL eT e) : pm_EV c (n + 1) lab (pm_un ek n k) (pm_un ev n x) (pm_up A x k o) eM eU := by
  intro v l hv hl
  by_cases ll : l = k
  · subst ll
    have hT := pm_Sk (n := n) (ek := ek) (k := l) (x := x)
    have hg := pm_fz (n := n) (ek := ek) (ev := ev) (lab := lab) (x := x) (l := l)
    have hgn := pm_fn (n := n) (ev := ev) (lab := lab) (x := x)
    generalize (fun e => lab (pm_un ev n x e)) = g at hg hgn ⊢
    refine ⟨fun h => ?_, fun e hmx => ?_⟩
    · have h3 := h n ((hT n).mpr (Or.inr rfl))
      rw [hgn] at h3
      rw [pm_upN (fun z => by rw [z.1] at h3; omega)]
      refine (hV v l hv hl).1 (fun z hz => ?_)
      have h4 := h z ((hT z).mpr (Or.inl hz))
      rw [hg z hz] at h4
      exact h4
    · obtain ⟨m1, m3, m4⟩ := hmx
      rcases (hT e).mp m1 with m1 | m1
      · rw [hg e m1] at m3
        have m3' : lab (ev e) ≤ lab v := m3
        have hvx : ¬ (v = x ∧ l = l) := by
          intro z
          rw [z.1] at m3' m4
          have h5 := m4 n ((hT n).mpr (Or.inr rfl)) (by rw [hgn]; exact Nat.le_refl _)
          rw [hgn, hg e m1] at h5
          have h5' : lab x ≤ lab (ev e) := h5
          exact hno e m1.1 m1.2 (hi _ _ (hE.1 e m1.1).2.1 hx (by omega))
        rw [pm_upN hvx, hs e m1.1]
        refine (hV v l hv hl).2 e ⟨m1, m3, fun z hz hzl => ?_⟩
        have h5 := m4 z ((hT z).mpr (Or.inl hz))
        rw [hg z hz, hg e m1] at h5
        exact h5 hzl
      · rw [m1, hgn] at m3
        by_cases hvx : v = x
        · rw [hvx, m1, pm_upY, ho]
        · have h6 : lab x ≠ lab v := fun z => hvx (hi _ _ hx hv z).symm
          obtain ⟨a, a1, a2, a3⟩ := ha v hv (by omega)
          have h5 := m4 a ((hT a).mpr (Or.inl a1))
          rw [hg a a1, m1, hgn] at h5
          have h5' : lab (ev a) ≤ lab x := h5 a3
          omega
  · have hT := pm_So (n := n) (ek := ek) ll
    have hg := pm_fz (n := n) (ek := ek) (ev := ev) (lab := lab) (x := x) (l := l)
    generalize (fun e => lab (pm_un ev n x e)) = g at hg ⊢
    rw [pm_upN (fun z => ll z.2)]
    refine ⟨fun h => (hV v l hv hl).1 (fun z hz => ?_), fun e hmx => ?_⟩
    · have h4 := h z ((hT z).mp hz)
      rw [hg z hz] at h4
      exact h4
    · obtain ⟨m1, m3, m4⟩ := hmx
      have m1' := (hT e).mpr m1
      rw [hs e m1'.1]
      rw [hg e m1'] at m3
      refine (hV v l hv hl).2 e ⟨m1', m3, fun z hz hzl => ?_⟩
      have h5 := m4 z ((hT z).mp hz)
      rw [hg z hz, hg e m1'] at h5
      exact h5 hzl
/-- two entries more: n for x, n + 1 for y, which comes just behind x -/
theorem pm_evW3 {x y k : Nat} {o p : Option Int32} {eM eU : Nat → Int32} (hi : pm_inj c lab) (hE : pm_ES c n lab ek ev he eV eN) (hV : pm_EV c n lab ek ev A eL eT) (hx : x < c) (hy : y < c) (hxy : lab x < lab y) (hnext : ∀ z, z < c → lab x < lab z → lab y ≤ lab z)
    (hno : ∀ e, e < n → ek e = k → ev e ≠ x) (hnoy : ∀ e, e < n → ek e = k → ev e ≠ y)
    (hold : (pm_no (pm_S n ek k) (fun e => lab (ev e)) (lab x) ∧ p = none) ∨ (∃ e, pm_mx (pm_S n ek k) (fun e => lab (ev e)) (lab x) e ∧ p = pm_ov eL eT e))
    (ho : pm_ov eM eU n = o) (hp : pm_ov eM eU (n + 1) = p) (hs : ∀ e, e < n → pm_ov eM eU e = pm_ov eL eT e) :
    pm_EV c (n + 2) lab (pm_un (pm_un ek n k) (n + 1) k) (pm_un (pm_un ev n x) (n + 1) y) (pm_up A x k o) eM eU := by
  intro v l hv hl
  have hg : ∀ z, z < n → lab (pm_un (pm_un ev n x) (n + 1) y z) = lab (ev z) := by
    intro z hz
    rw [pm_unn (by omega), pm_unn (by omega)]
  have hgn : lab (pm_un (pm_un ev n x) (n + 1) y n) = lab x := by
    rw [pm_unn (by omega), pm_uns]
  have hgm : lab (pm_un (pm_un ev n x) (n + 1) y (n + 1)) = lab y := by
    rw [pm_uns]
  have hT : ∀ z, pm_S (n + 2) (pm_un (pm_un ek n k) (n + 1) k) l z ↔ (pm_S n ek l z ∨ (l = k ∧ (z = n ∨ z = n + 1))) := by
    intro z
    unfold pm_S
    by_cases e1 : z = n + 1
    · rw [e1, pm_uns]
      refine ⟨fun h => Or.inr ⟨h.2.symm, Or.inr rfl⟩, fun h => ?_⟩
      rcases h with h | h
      · omega
      · exact ⟨by omega, h.1.symm⟩
    · rw [pm_unn e1]
      by_cases e2 : z = n
      · rw [e2, pm_uns]
        refine ⟨fun h => Or.inr ⟨h.2.symm, Or.inl rfl⟩, fun h => ?_⟩
        rcases h with h | h
        · omega
        · exact ⟨by omega, h.1.symm⟩
      · rw [pm_unn e2]
        refine ⟨fun h => Or.inl ⟨by omega, h.2⟩, fun h => ?_⟩
        rcases h with h | h
        · exact ⟨by omega, h.2⟩
        · omega
  by_cases ll : l = k
  · subst ll
    refine ⟨fun h => ?_, fun e hmx => ?_⟩
    · have h3 : lab v < lab (pm_un (pm_un ev n x) (n + 1) y n) := h n ((hT n).mpr (Or.inr ⟨rfl, Or.inl rfl⟩))
      rw [hgn] at h3
      rw [pm_upN (fun z => by rw [z.1] at h3; omega)]
      refine (hV v l hv hl).1 (fun z hz => ?_)
      have h4 : lab v < lab (pm_un (pm_un ev n x) (n + 1) y z) := h z ((hT z).mpr (Or.inl hz))
      rw [hg z hz.1] at h4
      exact h4
    · obtain ⟨m1, m3, m4⟩ := hmx
      have m3 : lab (pm_un (pm_un ev n x) (n + 1) y e) ≤ lab v := m3
      have m4 : ∀ z, pm_S (n + 2) (pm_un (pm_un ek n l) (n + 1) l) l z → lab (pm_un (pm_un ev n x) (n + 1) y z) ≤ lab v → lab (pm_un (pm_un ev n x) (n + 1) y z) ≤ lab (pm_un (pm_un ev n x) (n + 1) y e) := m4
      rcases (hT e).mp m1 with m1 | ⟨_, m1 | m1⟩
      · rw [hg e m1.1] at m3
        have hvx : ¬ (v = x ∧ l = l) := by
          intro z
          have h5 := m4 n ((hT n).mpr (Or.inr ⟨rfl, Or.inl rfl⟩))
          rw [hgn, hg e m1.1, z.1] at h5
          rw [z.1] at m3
          exact hno e m1.1 m1.2 (hi _ _ (hE.1 e m1.1).2.1 hx (by omega))
        rw [pm_upN hvx, hs e m1.1]
        refine (hV v l hv hl).2 e ⟨m1, m3, fun z hz hzl => ?_⟩
        have h5 := m4 z ((hT z).mpr (Or.inl hz))
        rw [hg z hz.1, hg e m1.1] at h5
        exact h5 hzl
      · rw [m1, hgn] at m3
        by_cases hvx : v = x
        · rw [hvx, m1, pm_upY, ho]
        · have h6 : lab x ≠ lab v := fun z => hvx (hi _ _ hx hv z).symm
          have h7 := hnext v hv (by omega)
          have h5 := m4 (n + 1) ((hT (n + 1)).mpr (Or.inr ⟨rfl, Or.inr rfl⟩))
          rw [hgm, m1, hgn] at h5
          omega
      · rw [m1, hgm] at m3
        have hvx : ¬ (v = x ∧ l = l) := by
          intro z
          rw [z.1] at m3
          omega
        rw [pm_upN hvx, m1, hp]
        have hbel : ∀ z, pm_S n ek l z → lab (ev z) ≤ lab v → lab (ev z) ≤ lab x := by
          intro z hz hzl
          have h5 := m4 z ((hT z).mpr (Or.inl hz))
          rw [hg z hz.1, m1, hgm] at h5
          have h6 := hnext (ev z) (hE.1 z hz.1).2.1
          have h7 : lab (ev z) ≠ lab y := fun q => hnoy z hz.1 hz.2 (hi _ _ (hE.1 z hz.1).2.1 hy q)
          omega
        rcases hold with ⟨q1, q2⟩ | ⟨e0, ⟨q1, q2, q3⟩, q4⟩
        · rw [q2]
          refine (hV v l hv hl).1 (fun z hz => ?_)
          have h5 := hbel z hz
          have h6 : lab x < lab (ev z) := q1 z hz
          show lab v < lab (ev z)
          omega
        · rw [q4]
          have q2' : lab (ev e0) ≤ lab x := q2
          refine (hV v l hv hl).2 e0 ⟨q1, ?_, fun z hz hzl => q3 z hz (hbel z hz hzl)⟩
          show lab (ev e0) ≤ lab v
          omega
  · have hT' : ∀ z, pm_S (n + 2) (pm_un (pm_un ek n k) (n + 1) k) l z ↔ pm_S n ek l z := by
      intro z
      rw [hT z]
      exact ⟨fun h => h.elim id (fun q => absurd q.1 ll), Or.inl⟩
    rw [pm_upN (fun z => ll z.2)]
    refine ⟨fun h => (hV v l hv hl).1 (fun z hz => ?_), fun e hmx => ?_⟩
    · have h4 : lab v < lab (pm_un (pm_un ev n x) (n + 1) y z) := h z ((hT' z).mpr hz)
      rw [hg z hz.1] at h4
      exact h4
    · obtain ⟨m1, m3, m4⟩ := hmx
      have m1' := (hT' e).mp m1
      have m3 : lab (pm_un (pm_un ev n x) (n + 1) y e) ≤ lab v := m3
      have m4 : ∀ z, pm_S (n + 2) (pm_un (pm_un ek n k) (n + 1) k) l z → lab (pm_un (pm_un ev n x) (n + 1) y z) ≤ lab v → lab (pm_un (pm_un ev n x) (n + 1) y z) ≤ lab (pm_un (pm_un ev n x) (n + 1) y e) := m4
      rw [hs e m1'.1]
      rw [hg e m1'.1] at m3
      refine (hV v l hv hl).2 e ⟨m1', m3, fun z hz hzl => ?_⟩
      have h5 := m4 z ((hT' z).mpr hz)
      rw [hg z hz.1, hg e m1'.1] at h5
      exact h5 hzl
end
end
section
/-- lab' orders the versions below c as lab does, and puts c just behind v -/
def pm_OC (c v : Nat) (lab lbb : Nat → Nat) : Prop :=
  (∀ x y, x < c → y < c → (lbb x < lbb y ↔ lab x < lab y)) ∧ (∀ x, x < c → (lbb x < lbb c ↔ lab x ≤ lab v)) ∧ (∀ x, x < c → (lbb c < lbb x ↔ lab v < lab x))
section
variable {c n v : Nat} {pn lab lbb ek ev : Nat → Nat} {A : Nat → Nat → Option Int32} {fo he eV eL eT eN : Nat → Int32}
theorem pm_pn_lt {x : Nat} (hx : x < c) : pm_pn pn c v x = pn x := if_neg (by omega)
theorem pm_pn_dn (hd : pm_dn pn c) (hv : v < c) : pm_dn (pm_pn pn c v) (c + 1) := by
  intro x h0 hx
  by_cases e : x = c
  · rw [e]
    unfold pm_pn
    rw [if_pos rfl]
    exact hv
  · rw [pm_pn_lt (by omega)]
    exact hd x h0 (by omega)
theorem pm_anc_o {a w : Nat} (hd : pm_dn pn c) (hw : w < c) : pm_anc (pm_pn pn c v) a w = pm_anc pn a w :=
  pm_anc_cg hd (fun _ hx => pm_pn_lt hx) hw
theorem pm_anc_n {a : Nat} (hd : pm_dn pn c) (hv : v < c) (ha : a < c) : pm_anc (pm_pn pn c v) a c = pm_anc pn a v := by
  rw [pm_anc_gt (pm_pn_dn hd hv) (Nat.lt_succ_self c) (by omega)]
  rw [show pm_pn pn c v c = v from if_pos rfl]
  exact pm_anc_o hd hv
theorem pm_anc_c {x : Nat} (hx : x < c + 1) (h : pm_anc (pm_pn pn c v) c x = true) : x = c := by
  have := pm_anc_le2 h
  omega
theorem pm_vo_new (hd : pm_dn pn c) (hO : pm_VO c pn lab fo) (hv : v < c) (h : pm_OC c v lab lbb) : pm_VO (c + 1) (pm_pn pn c v) lbb (upd (upd fo c (fo v)) v (nI c)) := by
  obtain ⟨hi, hf, h0, hct, hmo⟩ := hO
  obtain ⟨h1, h2, h3⟩ := h
  have hcv : lbb v < lbb c := (h2 v hv).mpr (Nat.le_refl _)
  refine ⟨fun x y hx hy hxy => ?_, fun x hx => ?_, fun x hx => ?_, fun a x y ha hx hy hax hay hyx => ?_, fun a x ha hx hax => ?_⟩
  · by_cases ex : x = c
    · by_cases ey : y = c
      · rw [ex, ey]
      · have a := h2 y (by omega)
        have b := h3 y (by omega)
        rw [ex] at hxy
        omega
    · by_cases ey : y = c
      · have a := h2 x (by omega)
        have b := h3 x (by omega)
        rw [ey] at hxy
        omega
      · have a := h1 x y (by omega) (by omega)
        have b := h1 y x (by omega) (by omega)
        exact hi x y (by omega) (by omega) (by omega)
  · by_cases exv : x = v
    · rw [exv, pk_us]
      refine Or.inr ⟨c, rfl, Nat.lt_succ_self c, hcv, fun z hz hb => ?_⟩
      by_cases ez : z = c
      · rw [ez]; exact Nat.le_refl _
      · have hz' : z < c := by have : z < c + 1 := hz; omega
        have a := h1 v z hv hz'
        have b := h3 z hz'
        omega
    · rw [pk_un exv]
      by_cases ex : x = c
      · rw [ex, pk_us]
        rcases hf v hv with ⟨hr, hs⟩ | ⟨y, hr, hy, hb, hs⟩
        · refine Or.inl ⟨hr, fun z hz => ?_⟩
          by_cases ez : z = c
          · rw [ez]; omega
          · have hz' : z < c := by have : z < c + 1 := hz; omega
            have a := hs z hz'
            have b := h2 z hz'
            omega
        · have hy' : y < c := hy
          refine Or.inr ⟨y, hr, by show y < c + 1; omega, ?_, fun z hz hbz => ?_⟩
          · have a := h3 y hy'
            omega
          · by_cases ez : z = c
            · rw [ez] at hbz; omega
            · have hz' : z < c := by have : z < c + 1 := hz; omega
              have a := h3 z hz'
              have b := hs z hz'
              have d := h1 z y hz' hy'
              omega
      · have hx' : x < c := by omega
        rw [pk_un ex]
        have hxv : lab x ≠ lab v := fun e => exv (hi x v hx' hv e)
        rcases hf x hx' with ⟨hr, hs⟩ | ⟨y, hr, hy, hb, hs⟩
        · refine Or.inl ⟨hr, fun z hz => ?_⟩
          by_cases ez : z = c
          · rw [ez]
            have a := hs v hv
            have b := h3 x hx'
            omega
          · have hz' : z < c := by have : z < c + 1 := hz; omega
            have a := hs z hz'
            have b := h1 x z hx' hz'
            omega
        · have hy' : y < c := hy
          refine Or.inr ⟨y, hr, by show y < c + 1; omega, ?_, fun z hz hbz => ?_⟩
          · have a := h1 x y hx' hy'
            omega
          · by_cases ez : z = c
            · rw [ez] at hbz ⊢
              have a := h2 x hx'
              have b := hs v hv
              have d := h1 v y hv hy'
              omega
            · have hz' : z < c := by have : z < c + 1 := hz; omega
              have a := h1 x z hx' hz'
              have b := hs z hz'
              have d := h1 z y hz' hy'
              omega
  · by_cases ex : x = c
    · rw [ex]
      have a := h2 0 (by omega)
      have b := h0 v hv
      omega
    · have a := h1 x 0 (by omega) (by omega)
      have b := h0 x (by omega)
      omega
  · by_cases ea : a = c
    · rw [ea] at hax hay
      have := pm_anc_c hx hax
      rw [this] at hyx
      omega
    · have ha' : a < c := by omega
      by_cases ex : x = c
      · rw [ex, pm_anc_n hd hv ha'] at hax
        rw [ex] at hyx
        by_cases ey : y = c
        · rw [ey] at hyx; omega
        · have hy' : y < c := by omega
          rw [pm_anc_o hd hy']
          have a1 := h2 y hy'
          have a2 := h1 a y ha' hy'
          by_cases eyv : y = v
          · rw [eyv]; exact hax
          · have a3 : lab y ≠ lab v := fun e => eyv (hi y v hy' hv e)
            exact hct a v y ha' hv hy' hax (by omega) (by omega)
      · have hx' : x < c := by omega
        rw [pm_anc_o hd hx'] at hax
        by_cases ey : y = c
        · rw [ey, pm_anc_n hd hv ha']
          rw [ey] at hay hyx
          have a1 := h2 a ha'
          have a2 := h3 x hx'
          by_cases eav : a = v
          · rw [eav]; exact pm_anc_rf
          · have a3 : lab a ≠ lab v := fun e => eav (hi a v ha' hv e)
            exact hct a x v ha' hx' hv hax (by omega) (by omega)
        · have hy' : y < c := by omega
          rw [pm_anc_o hd hy']
          have a1 := h1 a y ha' hy'
          have a2 := h1 y x hy' hx'
          exact hct a x y ha' hx' hy' hax (by omega) (by omega)
  · by_cases ea : a = c
    · rw [ea] at hax ⊢
      rw [pm_anc_c hx hax]
      exact Nat.le_refl _
    · have ha' : a < c := by omega
      by_cases ex : x = c
      · rw [ex, pm_anc_n hd hv ha'] at hax
        rw [ex]
        have a1 := hmo a v ha' hv hax
        have a2 := h2 a ha'
        omega
      · have hx' : x < c := by omega
        rw [pm_anc_o hd hx'] at hax
        have a1 := hmo a x ha' hx' hax
        have a2 := h1 x a hx' ha'
        omega
theorem pm_es_new (hE : pm_ES c n lab ek ev he eV eN) (h : pm_OC c v lab lbb) : pm_ES (c + 1) n lbb ek ev he eV eN := by
  obtain ⟨h1, h2, h3⟩ := h
  obtain ⟨e1, e2, e3, e4⟩ := hE
  refine ⟨fun e he => ?_, e2, fun k hk => ?_, fun e he => ?_⟩
  · have := e1 e he
    exact ⟨this.1, by omega, this.2.2⟩
  · refine pm_sc_map (fun y z hy hz hl => ?_) (fun y hy => ⟨fun _ => Nat.zero_le _, fun _ => Nat.zero_le _⟩) (e3 k hk)
    have a := h1 (ev z) (ev y) (e1 z hz.1).2.1 (e1 y hy.1).2.1
    have b : lab (ev y) ≤ lab (ev z) := hl
    show lbb (ev y) ≤ lbb (ev z)
    omega
  · refine pm_sc_map (fun y z hy hz hl => ?_) (fun y hy => ?_) (e4 e he)
    · have a := h1 (ev z) (ev y) (e1 z hz.1).2.1 (e1 y hy.1).2.1
      have b : lab (ev y) ≤ lab (ev z) := hl
      show lbb (ev y) ≤ lbb (ev z)
      omega
    · have a := h1 (ev e) (ev y) (e1 e he).2.1 (e1 y hy.1).2.1
      show lab (ev e) + 1 ≤ lab (ev y) ↔ lbb (ev e) + 1 ≤ lbb (ev y)
      omega
theorem pm_ev_new (hE : pm_ES c n lab ek ev he eV eN) (hV : pm_EV c n lab ek ev A eL eT) (hv : v < c) (h : pm_OC c v lab lbb) : pm_EV (c + 1) n lbb ek ev (pm_cp A c v) eL eT := by
  obtain ⟨h1, h2, h3⟩ := h
  have e1 := hE.1
  intro x k hx hk
  by_cases ex : x = c
  · have hA : pm_cp A c v x k = A v k := if_pos ex
    rw [hA, ex]
    refine ⟨fun hno => (hV v k hv hk).1 (fun z hz => ?_), fun e hmx => (hV v k hv hk).2 e ?_⟩
    · have a : lbb c < lbb (ev z) := hno z hz
      exact (h3 (ev z) (e1 z hz.1).2.1).mp a
    · obtain ⟨m1, m3, m4⟩ := hmx
      have m3' : lbb (ev e) ≤ lbb c := m3
      have a := h3 (ev e) (e1 e m1.1).2.1
      refine ⟨m1, by show lab (ev e) ≤ lab v; omega, fun z hz hzl => ?_⟩
      have b : lbb (ev z) ≤ lbb c → lbb (ev z) ≤ lbb (ev e) := m4 z hz
      have d : lab (ev z) ≤ lab v := hzl
      have f := h2 (ev z) (e1 z hz.1).2.1
      have g := h1 (ev e) (ev z) (e1 e m1.1).2.1 (e1 z hz.1).2.1
      show lab (ev z) ≤ lab (ev e)
      omega
  · have hA : pm_cp A c v x k = A x k := if_neg ex
    have hx' : x < c := by omega
    rw [hA]
    refine ⟨fun hno => (hV x k hx' hk).1 (fun z hz => ?_), fun e hmx => (hV x k hx' hk).2 e ?_⟩
    · have a : lbb x < lbb (ev z) := hno z hz
      exact (h1 x (ev z) hx' (e1 z hz.1).2.1).mp a
    · obtain ⟨m1, m3, m4⟩ := hmx
      have m3' : lbb (ev e) ≤ lbb x := m3
      have a := h1 x (ev e) hx' (e1 e m1.1).2.1
      refine ⟨m1, by show lab (ev e) ≤ lab x; omega, fun z hz hzl => ?_⟩
      have b : lbb (ev z) ≤ lbb x → lbb (ev z) ≤ lbb (ev e) := m4 z hz
      have d : lab (ev z) ≤ lab x := hzl
      have f := h1 x (ev z) hx' (e1 z hz.1).2.1
      have g := h1 (ev e) (ev z) (e1 e m1.1).2.1 (e1 z hz.1).2.1
      show lab (ev z) ≤ lab (ev e)
      omega
end
/-! ranks -/
def pm_rk (lab : Nat → Nat) (c b : Nat) : Nat := pm_cq lab (fun _ => true) c b
theorem pm_rk_le (lab : Nat → Nat) (c b : Nat) : pm_rk lab c b ≤ c := pm_cn_le _ c
theorem pm_cn_mono {P Q : Nat → Bool} : ∀ n, (∀ x, x < n → P x = true → Q x = true) → pm_cn P n ≤ pm_cn Q n := by
  intro n
  induction n with
  | zero => intro _; exact Nat.le_refl 0
  | succ n ih =>
    intro h
    show pm_cn P n + (if P n = true then 1 else 0) ≤ pm_cn Q n + (if Q n = true then 1 else 0)
    have h1 := ih (fun x hx => h x (by omega))
    by_cases hp : P n = true
    · rw [if_pos hp, if_pos (h n (by omega) hp)]
      omega
    · rw [if_neg hp]
      omega
theorem pm_rk_mono {lab : Nat → Nat} {c b d : Nat} (h : b ≤ d) : pm_rk lab c b ≤ pm_rk lab c d := by
  refine pm_cn_mono c (fun x _ hx => ?_)
  have hx' : (decide (lab x < b) && true) = true := hx
  show (decide (lab x < d) && true) = true
  rw [Bool.and_true] at hx' ⊢
  have := of_decide_eq_true hx'
  exact decide_eq_true (by omega)
theorem pm_rk_step {lab : Nat → Nat} {c b y : Nat} (hi : pm_inj c lab) (hy : y < c) (hb : b ≤ lab y) (hm : ∀ z, z < c → b ≤ lab z → lab y ≤ lab z) : pm_rk lab c (lab y + 1) = pm_rk lab c b + 1 := by
  have h := pm_cq_step (q := fun _ => true) hi hy hb hm
  rw [if_pos rfl] at h
  exact h
theorem pm_rk_same {lab : Nat → Nat} {c b y : Nat} (hb : b ≤ lab y) (hm : ∀ z, z < c → b ≤ lab z → lab y ≤ lab z) : pm_rk lab c (lab y) = pm_rk lab c b := by
  refine pm_cq_cg (fun x hx => ?_)
  have := hm x hx
  omega
theorem pm_rk_lt {lab : Nat → Nat} {c x y : Nat} (hi : pm_inj c lab) (hx : x < c) (h : lab x < lab y) : pm_rk lab c (lab x) < pm_rk lab c (lab y) := by
  have h1 := pm_rk_step hi hx (Nat.le_refl _) (fun z _ hz => hz)
  have h2 := pm_rk_mono (lab := lab) (c := c) (show lab x + 1 ≤ lab y from h)
  omega
/-- the labels after all are spread anew -/
def pm_l3 (K : Nat) (lab : Nat → Nat) (c x : Nat) : Nat := K * (pm_rk lab c (lab x) + 1)
theorem pm_l3_iff {K : Nat} {lab : Nat → Nat} {c x y : Nat} (hK : 0 < K) (hi : pm_inj c lab) (hx : x < c) (hy : y < c) : pm_l3 K lab c x < pm_l3 K lab c y ↔ lab x < lab y := by
  unfold pm_l3
  constructor
  · intro h
    rcases Nat.lt_or_ge (lab x) (lab y) with h1 | h1
    · exact h1
    · have h2 := pm_rk_mono (lab := lab) (c := c) h1
      have h3 := Nat.mul_le_mul_left K (show pm_rk lab c (lab y) + 1 ≤ pm_rk lab c (lab x) + 1 by omega)
      omega
  · intro h
    have h2 := pm_rk_lt hi hx h
    exact Nat.mul_lt_mul_of_pos_left (by omega) hK
/-- twice the old labels, and a place behind v -/
def pm_l2 (lab : Nat → Nat) (c v x : Nat) : Nat := if x = c then 2 * lab v + 1 else 2 * lab x
theorem pm_l2_c {lab : Nat → Nat} {c v : Nat} : pm_l2 lab c v c = 2 * lab v + 1 := if_pos rfl
theorem pm_l2_o {lab : Nat → Nat} {c v x : Nat} (h : x < c) : pm_l2 lab c v x = 2 * lab x := if_neg (by omega)
theorem pm_l2_OC {lab : Nat → Nat} {c v : Nat} : pm_OC c v lab (pm_l2 lab c v) := by
  refine ⟨fun x y hx hy => ?_, fun x hx => ?_, fun x hx => ?_⟩
  · rw [pm_l2_o hx, pm_l2_o hy]; omega
  · rw [pm_l2_o hx, pm_l2_c]; omega
  · rw [pm_l2_o hx, pm_l2_c]; omega
theorem pm_l3_OC {K : Nat} {lab : Nat → Nat} {c v : Nat} (hK : 0 < K) (hi : pm_inj (c + 1) (pm_l2 lab c v)) : pm_OC c v lab (pm_l3 K (pm_l2 lab c v) (c + 1)) := by
  obtain ⟨h1, h2, h3⟩ := pm_l2_OC (lab := lab) (c := c) (v := v)
  refine ⟨fun x y hx hy => ?_, fun x hx => ?_, fun x hx => ?_⟩
  · rw [pm_l3_iff hK hi (by omega) (by omega)]; exact h1 x y hx hy
  · rw [pm_l3_iff hK hi (by omega) (by omega)]; exact h2 x hx
  · rw [pm_l3_iff hK hi (by omega) (by omega)]; exact h3 x hx
/-- a label in the middle of the gap -/
def pm_l1 (lab : Nat → Nat) (c l x : Nat) : Nat := if x = c then l else lab x
theorem pm_l1_c {lab : Nat → Nat} {c l : Nat} : pm_l1 lab c l c = l := if_pos rfl
theorem pm_l1_o {lab : Nat → Nat} {c l x : Nat} (h : x < c) : pm_l1 lab c l x = lab x := if_neg (by omega)
theorem pm_l1_OC {lab : Nat → Nat} {c v l U : Nat} (h1 : lab v < l) (h2 : l < U) (hU : ∀ x, x < c → lab v < lab x → U ≤ lab x) : pm_OC c v lab (pm_l1 lab c l) := by
  refine ⟨fun x y hx hy => ?_, fun x hx => ?_, fun x hx => ?_⟩
  · rw [pm_l1_o hx, pm_l1_o hy]
  · rw [pm_l1_o hx, pm_l1_c]
    have := hU x hx
    omega
  · rw [pm_l1_o hx, pm_l1_c]
    have := hU x hx
    omega
end
section
/-- where the new version has an entry of a key, what comes behind it doesn't read it -/
def pm_loc (c n : Nat) (lab ek ev : Nat → Nat) (x : Nat) : Prop :=
  ∀ k e v, pm_S n ek k e → ev e = x → v < c → lab x < lab v → ∃ a, pm_S n ek k a ∧ lab x < lab (ev a) ∧ lab (ev a) ≤ lab v
theorem pm_ov_s {eL eT : Nat → Int32} {n : Nat} {a t : Int32} : pm_ov (upd eL n a) (upd eT n t) n = if t = 0 then none else some a := by
  unfold pm_ov
  rw [pk_us, pk_us]
theorem pm_ov_n {eL eT : Nat → Int32} {n e : Nat} {a t : Int32} (h : e ≠ n) : pm_ov (upd eL n a) (upd eT n t) e = pm_ov eL eT e := by
  unfold pm_ov
  rw [pk_un h, pk_un h]
section
variable {c n : Nat} {pn lab ek ev : Nat → Nat} {A : Nat → Nat → Option Int32} {tn vn : Int32} {pa : Nat → Int32} {la : Nat → Int64} {fo he eV eL eT eN : Nat → Int32}
theorem pm_xins {k x : Nat} {r t a : Int32} (hn : n < 640) (hi : pm_inj c lab) (hE : pm_ES c n lab ek ev he eV eN) (hk : k < 32) (hx : x < c) (hno : ∀ e, e < n → ek e = k → ev e ≠ x) (hr : pm_pd (pm_S n ek k) (fun e => lab (ev e)) (lab x) r) (ht : t = 0 ∨ t = 1)
    {post : Int32 → SX → Prop} (hp : ∀ hf eO, pm_ES c (n + 1) lab (pm_un ek n k) (pm_un ev n x) hf (upd eV n (nI x)) eO → post (nI n) (nI c, nI (n + 1), tn, vn, pa, la, fo, hf, upd eV n (nI x), upd eL n a, upd eT n t, eO)) :
    wpX_insert post (nI c, nI n, tn, vn, pa, la, fo, he, eV, eL, eT, eN) (nI k) r (nI x) t a := by
  have i1 : vp_in (nI n) 640 := vp_in_nI hn (by decide)
  have i2 : vp_in (nI k) 32 := vp_in_nI hk (by decide)
  unfold wpX_insert
  dsimp only
  rw [nI_clamp (n := n) (by omega), nI_clamp (n := k) (by omega), pm_nar ht]
  refine nm_r (nI_1 n) ⟨i1, nm_e ⟨i1, nm_e ⟨i1, nm_e ?_⟩⟩⟩
  rcases hr with ⟨rfl, hr⟩ | ⟨b, rfl, hr⟩
  · exact br_t rfl ⟨i2, i1, nm_e ⟨i2, nm_e (hp _ _ (pm_insH hE hk hx hno hr))⟩⟩
  · have hb : b < n := hr.1.1
    have i3 : vp_in (nI b) 640 := vp_in_nI (by omega) (by decide)
    rw [nI_clamp (n := b) (by omega)]
    exact br_f (pm_nm1 (by omega)) ⟨i3, i1, nm_e ⟨i3, nm_e (hp _ _ (pm_insB hi hE hk hx hno hr))⟩⟩
theorem pm_w138_n {x2 x7 x8 x9 z0 : Int32} {fc fe : Int32} {post : SX → Prop} (hp : post (fc, fe, tn, vn, pa, la, fo, he, eV, eL, eT, eN)) : wX_write_138 post x2 (-1) x7 x8 x9 z0 fc fe tn vn pa la fo he eV eL eT eN := by
  unfold wX_write_138
  exact br_t rfl hp
theorem pm_w91 {k x : Nat} {r t a x7 z0 : Int32} (H : pm_XI c n pn lab ek ev A pa la fo he eV eL eT eN) (hn2 : n + 2 ≤ 640) (hk : k < 32) (hx : x < c) (hno : ∀ e, e < n → ek e = k → ev e ≠ x) (hr : pm_pd (pm_S n ek k) (fun e => lab (ev e)) (lab x) r) (ht : t = 0 ∨ t = 1) (h7 : x7 = 0 ∨ x7 = 1)
    (hold : (pm_no (pm_S n ek k) (fun e => lab (ev e)) (lab x) ∧ (if x7 = 0 then none else some z0) = none) ∨ (∃ e, pm_mx (pm_S n ek k) (fun e => lab (ev e)) (lab x) e ∧ (if x7 = 0 then none else some z0) = pm_ov eL eT e))
    (hloc : pm_loc c n lab ek ev x)
    {post : SX → Prop} (hp : ∀ n2 ek ev he eV eL eT eN, n2 ≤ n + 2 → pm_XI c n2 pn lab ek ev (pm_up A x k (if t = 0 then none else some a)) pa la fo he eV eL eT eN → pm_loc c n2 lab ek ev x → post (nI c, nI n2, tn, vn, pa, la, fo, he, eV, eL, eT, eN)) :
    wX_write_91 post (nI x) (nI k) t a (fo x) r x7 z0 (nI c) (nI n) tn vn pa la fo he eV eL eT eN := by
  obtain ⟨⟨h1, hc, hn⟩, hP, hL, hO, hE, hV⟩ := H
  have hi := hO.1
  unfold wX_write_91
  refine pm_xins (by omega) hi hE hk hx hno hr ht (fun hf eO hE1 => ?_)
  have i1 : vp_in (nI n) 640 := vp_in_nI (by omega) (by decide)
  -- the entries without a second one
  have fin1 : (∀ v, v < c → lab x < lab v → ∃ b, pm_S n ek k b ∧ lab x < lab (ev b) ∧ lab (ev b) ≤ lab v) → post (nI c, nI (n + 1), tn, vn, pa, la, fo, hf, upd eV n (nI x), upd eL n a, upd eT n t, eO) := by
    intro ha
    refine hp (n + 1) (pm_un ek n k) (pm_un ev n x) hf _ _ _ eO (by omega) ⟨⟨h1, hc, by omega⟩, hP, hL, hO, hE1, ?_⟩ ?_
    · exact pm_evW2 hi hE hV hx hno ha pm_ov_s (fun e he => pm_ov_n (by omega))
    · intro l e v hS hev hv hxv
      by_cases ll : l = k
      · rw [ll]
        obtain ⟨b, b1, b2, b3⟩ := ha v hv hxv
        have hb := b1.1
        refine ⟨b, (pm_Sk (x := x) b).mpr (Or.inl b1), ?_, ?_⟩
        · rw [pm_unn (by omega)]; exact b2
        · rw [pm_unn (by omega)]; exact b3
      · have hS' := (pm_So ll e).mpr hS
        have he := hS'.1
        rw [pm_unn (by omega)] at hev
        obtain ⟨b, b1, b2, b3⟩ := hloc l e v hS' hev hv hxv
        have hb := b1.1
        refine ⟨b, (pm_So ll b).mp b1, ?_, ?_⟩
        · rw [pm_unn (by omega)]; exact b2
        · rw [pm_unn (by omega)]; exact b3
  have hN := hE1.2.2.2 n (by omega)
  rw [pm_uns, pm_uns] at hN
  rw [nI_clamp (n := n) (by omega)]
  refine ⟨i1, nm_e ?_⟩
  -- the second one
  have fin2 : ∀ y, y < c → lab x < lab y → fo x = nI y → (∀ z, z < c → lab x < lab z → lab y ≤ lab z) → (∀ e, e < n → ek e = k → ev e ≠ y) →
      wX_write_137 post (nI k) (fo x) x7 z0 (nI n) (nI c) (nI (n + 1)) tn vn pa la fo hf (upd eV n (nI x)) (upd eL n a) (upd eT n t) eO := by
    intro y hy hxy hfy hnext hnoy
    rw [hfy]
    unfold wX_write_137 wX_write_138
    have hno2 : ∀ e, e < n + 1 → pm_un ek n k e = k → pm_un ev n x e ≠ y := by
      intro e he hek hev
      by_cases ee : e = n
      · rw [ee, pm_uns] at hev
        rw [hev] at hxy
        omega
      · rw [pm_unn ee] at hek hev
        exact hnoy e (by omega) hek hev
    refine br_f (pm_nm1 (by omega)) (br_t rfl (pm_xins (by omega) hi hE1 hk hy hno2 (Or.inr ⟨n, rfl, (pm_Sk (x := x) n).mpr (Or.inr rfl), ?_, fun z hz hzl => ?_⟩) h7 (fun hf2 eO2 hE2 => ?_)))
    · show lab (pm_un ev n x n) ≤ lab y
      rw [pm_uns]
      omega
    · have hzl' : lab (pm_un ev n x z) ≤ lab y := hzl
      show lab (pm_un ev n x z) ≤ lab (pm_un ev n x n)
      rw [pm_uns]
      have a1 := hnext _ (hE1.1 z hz.1).2.1
      have a2 : lab (pm_un ev n x z) ≠ lab y := fun q => hno2 z hz.1 hz.2 (hi _ _ (hE1.1 z hz.1).2.1 hy q)
      omega
    · refine hp (n + 2) _ _ hf2 _ _ _ eO2 (by omega) ⟨⟨h1, hc, by omega⟩, hP, hL, hO, hE2, ?_⟩ ?_
      · refine pm_evW3 hi hE hV hx hy hxy hnext hno hnoy hold ?_ pm_ov_s (fun e he => ?_)
        · rw [pm_ov_n (by omega), pm_ov_s]
        · rw [pm_ov_n (by omega), pm_ov_n (by omega)]
      · intro l e v hS hev hv hxv
        by_cases ll : l = k
        · rw [ll]
          refine ⟨n + 1, ⟨by omega, pm_uns⟩, ?_, ?_⟩
          · rw [pm_uns]; exact hxy
          · rw [pm_uns]; exact hnext v hv hxv
        · have hS1 := (pm_So ll e).mpr hS
          have hS' := (pm_So ll e).mpr hS1
          have he := hS'.1
          rw [pm_unn (by omega), pm_unn (by omega)] at hev
          obtain ⟨b, b1, b2, b3⟩ := hloc l e v hS' hev hv hxv
          have hb := b1.1
          refine ⟨b, (pm_So ll b).mp ((pm_So ll b).mp b1), ?_, ?_⟩
          · rw [pm_unn (by omega), pm_unn (by omega)]; exact b2
          · rw [pm_unn (by omega), pm_unn (by omega)]; exact b3
  rcases hO.2.1 x hx with ⟨hfx, hlast⟩ | ⟨y, hfx, hy, hxy, hnext⟩
  · -- no version behind
    have fin := fin1 (fun v hv hxv => absurd (hlast v hv) (by omega))
    rw [hfx]
    rcases hN with ⟨hN, _⟩ | ⟨b, hN, ⟨hb, _⟩, _, _⟩
    · rw [hN]
      refine br_t rfl ?_
      unfold wX_write_137
      exact pm_w138_n fin
    · rw [hN]
      refine br_f (pm_nm1 (by omega)) ⟨vp_in_nI (by omega) (by decide), br_c (fun _ => pm_w138_n fin) (fun _ => ?_)⟩
      unfold wX_write_137
      exact pm_w138_n fin
  · have hy' : y < c := hy
    rcases hN with ⟨hN, hN2⟩ | ⟨b, hN, ⟨hb, hbk⟩, hb2, hb3⟩
    · rw [hN]
      refine br_t rfl (fin2 y hy' hxy hfx hnext (fun e he hek hev => ?_))
      have a1 : lab (pm_un ev n x e) < lab x + 1 := hN2 e ((pm_Sk (x := x) e).mpr (Or.inl ⟨he, hek⟩))
      rw [pm_unn (by omega), hev] at a1
      omega
    · rw [hN]
      have hb2' : lab x + 1 ≤ lab (pm_un ev n x b) := hb2
      have hbn : b ≠ n := fun e => by rw [e, pm_uns] at hb2'; omega
      have hbn2 : b < n := by omega
      rw [pm_unn hbn] at hb2' hbk
      obtain ⟨_, hbc, hbV⟩ := hE.1 b hbn2
      refine br_f (pm_nm1 (by omega)) ⟨vp_in_nI (by omega) (by decide), ?_⟩
      rw [nI_clamp (n := b) (by omega), pk_un hbn, hbV]
      by_cases hby : ev b = y
      · rw [hfx]
        refine br_t (congrArg nI hby) ?_
        unfold wX_write_138
        refine br_f (pm_nm1 (by omega)) (br_f pm_n10 (fin1 (fun v hv hxv => ⟨b, ⟨hbn2, hbk⟩, by omega, ?_⟩)))
        rw [hby]
        exact hnext v hv (by omega)
      · refine br_f (fun q => hby ?_) (fin2 y hy' hxy hfx hnext (fun e he hek hev => ?_))
        · rw [hfx] at q
          exact (nI_eq (by omega) (by omega)).mp q
        · have a1 : lab x + 1 ≤ lab (pm_un ev n x e) → lab (pm_un ev n x b) ≤ lab (pm_un ev n x e) := hb3 e ((pm_Sk (x := x) e).mpr (Or.inl ⟨he, hek⟩))
          rw [pm_unn (by omega), pm_unn hbn, hev] at a1
          have a2 := hnext (ev b) hbc (by omega)
          exact hby (hi _ _ hbc hy' (by omega))
theorem pm_xwrite {k x : Nat} {t a : Int32} (H : pm_XI c n pn lab ek ev A pa la fo he eV eL eT eN) (hn2 : n + 2 ≤ 640) (hk : k < 32) (hx : x < c) (ht : t = 0 ∨ t = 1) (hloc : pm_loc c n lab ek ev x)
    {post : SX → Prop} (hp : ∀ n2 ek ev he eV eL eT eN, n2 ≤ n + 2 → pm_XI c n2 pn lab ek ev (pm_up A x k (if t = 0 then none else some a)) pa la fo he eV eL eT eN → pm_loc c n2 lab ek ev x → post (nI c, nI n2, tn, vn, pa, la, fo, he, eV, eL, eT, eN)) :
    wpX_write post (nI c, nI n, tn, vn, pa, la, fo, he, eV, eL, eT, eN) (nI x) (nI k) t a := by
  have hc : c ≤ 40 := H.1.2.1
  have hi := H.2.2.2.1.1
  have hE := H.2.2.2.2.1
  have hV := H.2.2.2.2.2
  unfold wpX_write
  dsimp only
  rw [nI_clamp (n := x) (by omega)]
  refine ⟨vp_in_nI (by omega) (by decide), nm_e ?_⟩
  refine pm_adv H hk hx (Or.inl rfl) (fun r hr => ?_)
  rcases hr with ⟨rfl, hno⟩ | ⟨e, rfl, hmx⟩
  · refine br_t rfl ?_
    unfold wX_write_52
    refine br_t rfl ?_
    unfold wX_write_72 wX_write_73
    refine br_t rfl ?_
    refine pm_w91 H hn2 hk hx (fun e he hek hev => ?_) (Or.inl ⟨rfl, hno⟩) ht (Or.inl rfl) (Or.inl ⟨hno, if_pos rfl⟩) hloc hp
    have a1 : lab x < lab (ev e) := hno e ⟨he, hek⟩
    rw [hev] at a1
    omega
  · obtain ⟨⟨he1, he2⟩, he3, he4⟩ := hmx
    obtain ⟨_, hec, heV⟩ := hE.1 e he1
    have i1 : vp_in (nI e) 640 := vp_in_nI (by omega) (by decide)
    refine br_f (pm_nm1 (by omega)) ⟨i1, ?_⟩
    rw [nI_clamp (n := e) (by omega), heV, pm_nar ht]
    by_cases hev : ev e = x
    · refine br_t (congrArg nI hev) ⟨i1, nm_e ⟨i1, nm_e ?_⟩⟩
      refine hp n ek ev he eV _ _ eN (by omega) ⟨H.1, H.2.1, H.2.2.1, H.2.2.2.1, hE, ?_⟩ hloc
      exact pm_evW1 hi hE hV hx he1 he2 hev (fun v hv hxv => hloc k e v ⟨he1, he2⟩ hev hv hxv) pm_ov_s (fun d hd => pm_ov_n hd)
    · refine br_f (fun q => hev ((nI_eq (by omega) (by omega)).mp q)) ?_
      have hno : ∀ d, d < n → ek d = k → ev d ≠ x := by
        intro d hd hdk hdx
        have a1 : lab (ev d) ≤ lab x → lab (ev d) ≤ lab (ev e) := he4 d ⟨hd, hdk⟩
        have a2 : lab (ev e) ≤ lab x := he3
        rw [hdx] at a1
        exact hev (hi _ _ hec hx (by omega))
      have hmx : pm_mx (pm_S n ek k) (fun e => lab (ev e)) (lab x) e := ⟨⟨he1, he2⟩, he3, he4⟩
      unfold wX_write_52
      refine br_f (pm_nm1 (by omega)) ⟨i1, ?_⟩
      rw [nI_clamp (n := e) (by omega)]
      by_cases h0 : eT e = 0
      · refine br_t h0 ?_
        unfold wX_write_72 wX_write_73
        refine br_t rfl ?_
        refine pm_w91 H hn2 hk hx hno (Or.inr ⟨e, rfl, hmx⟩) ht (Or.inl rfl) (Or.inr ⟨e, hmx, ?_⟩) hloc hp
        unfold pm_ov
        rw [if_pos h0, if_pos rfl]
      · refine br_f h0 ?_
        unfold wX_write_73
        refine br_f pm_n10 ⟨i1, ?_⟩
        rw [nI_clamp (n := e) (by omega)]
        refine pm_w91 H hn2 hk hx hno (Or.inr ⟨e, rfl, hmx⟩) ht (Or.inr rfl) (Or.inr ⟨e, hmx, ?_⟩) hloc hp
        unfold pm_ov
        rw [if_neg h0, if_neg pm_n10]
end
end
section
def pm_K : Nat := 1125899906842624
theorem pm_K0 : 0 < pm_K := by decide
theorem pm_KM : pm_K * 42 < pm_M := by decide
theorem pm_Kl (q : Nat) : lN (pm_K * (q + 1)) + 1125899906842624 = lN (pm_K * (q + 1 + 1)) := by
  show lN (pm_K * (q + 1)) + lN pm_K = _
  rw [lN_add]
  exact congrArg lN rfl
theorem pm_Ml : (2305843009213693952 : Int64) = lN pm_M := rfl
section
variable {c n : Nat} {pn lab ek ev : Nat → Nat} {A : Nat → Nat → Option Int32} {tn vn : Int32} {pa : Nat → Int32} {la : Nat → Int64} {fo he eV eL eT eN : Nat → Int32}
theorem pm_xslL (hc : c ≤ 40) (hi : pm_inj c lab) (hf : pm_FO c lab fo) {M : Nat} (hM : ∀ x, x < c → lab x < M) {post : SX → Prop} (hp : ∀ la, (∀ x, x < c → la x = lN (pm_l3 pm_K lab c x)) → post (nI c, nI n, tn, vn, pa, la, fo, he, eV, eL, eT, eN)) :
    ∀ (m b : Nat) (x3 : Int32) (la : Nat → Int64), M ≤ b + m → pm_sc (fun y => y < c) lab b x3 → (∀ x, x < c → lab x < b → la x = lN (pm_l3 pm_K lab c x)) →
    wX_spreadLabels_6 post (nI c) (nI n) tn vn (m + 1) (lN (pm_K * (pm_rk lab c b + 1))) x3 pa la fo he eV eL eT eN := by
  intro m
  induction m with
  | zero =>
    intro b x3 la hm hs hl
    rcases hs with ⟨rfl, hs⟩ | ⟨y, rfl, hy, hby, hs⟩
    · exact br_t rfl (hp la (fun x hx => hl x hx (hs x hx)))
    · have := hM y hy
      omega
  | succ m ih =>
    intro b x3 la hm hs hl
    rcases hs with ⟨rfl, hs⟩ | ⟨y, rfl, hy, hby, hs⟩
    · exact br_t rfl (hp la (fun x hx => hl x hx (hs x hx)))
    · have hy' : y < c := hy
      have i1 : vp_in (nI y) 40 := vp_in_nI (by omega) (by decide)
      refine br_f (pm_nm1 (by omega)) ?_
      rw [nI_clamp (n := y) (by omega)]
      refine ⟨i1, nm_e (nm_r (pm_Kl _) ⟨i1, nm_e ?_⟩)⟩
      rw [← pm_rk_step hi hy' hby hs]
      refine ih (lab y + 1) (fo y) _ (by omega) (hf y hy') (fun x hx hxb => ?_)
      by_cases e : x = y
      · rw [e, pk_uLs, pm_rk_step hi hy' hby hs]
        unfold pm_l3
        rw [pm_rk_same hby hs]
      · rw [pk_uLn e]
        have a1 : lab x ≠ lab y := fun q => e (hi x y hx hy' q)
        have a2 := hs x hx
        exact hl x hx (by omega)
theorem pm_xsl (hc : c ≤ 40) (h1 : 1 ≤ c) (hi : pm_inj c lab) (hf : pm_FO c lab fo) (h0 : ∀ x, x < c → lab 0 ≤ lab x) {M : Nat} (hM : ∀ x, x < c → lab x < M) {post : SX → Prop} (hp : ∀ la, (∀ x, x < c → la x = lN (pm_l3 pm_K lab c x)) → post (nI c, nI n, tn, vn, pa, la, fo, he, eV, eL, eT, eN)) :
    wpX_spreadLabels post (nI c, nI n, tn, vn, pa, la, fo, he, eV, eL, eT, eN) := by
  unfold wpX_spreadLabels
  have h := pm_xslL (n := n) (tn := tn) (vn := vn) (pa := pa) (he := he) (eV := eV) (eL := eL) (eT := eT) (eN := eN) hc hi hf hM hp M 0 (nI 0) la (by omega) (Or.inr ⟨0, rfl, by omega, Nat.zero_le _, fun z hz _ => h0 z hz⟩) (fun x _ hx => absurd hx (by omega))
  have e : pm_rk lab c 0 = 0 := pm_cq_none (fun x _ _ => Nat.zero_le _)
  rw [e] at h
  exact ⟨M + 1, h⟩
theorem pm_xopn68 {v U : Nat} (H : pm_XI c n pn lab ek ev A pa la fo he eV eL eT eN) (hc : c < 40) (hv : v < c) (hU1 : lab v < U) (hU2 : U ≤ pm_M) (hU : ∀ x, x < c → lab v < lab x → U ≤ lab x)
    {post : Int32 → SX → Prop} (hp : ∀ lbb la, pm_XI (c + 1) n (pm_pn pn c v) lbb ek ev (pm_cp A c v) (upd pa c (nI v)) la (upd (upd fo c (fo v)) v (nI c)) he eV eL eT eN → pm_loc (c + 1) n lbb ek ev c → post (nI c) (nI (c + 1), nI n, tn, vn, upd pa c (nI v), la, upd (upd fo c (fo v)) v (nI c), he, eV, eL, eT, eN)) :
    wX_open_68 post (nI v) (nI c) (lN U) (nI (c + 1)) (nI n) tn vn (upd pa c (nI v)) la (upd (upd fo c (fo v)) v (nI c)) he eV eL eT eN := by
  obtain ⟨⟨h1, _, hn⟩, hP, hL, hO, hE, hV⟩ := H
  have hd := pm_PI_dn hP
  have hloc : ∀ lbb, pm_loc (c + 1) n lbb ek ev c := by
    intro lbb k e w hS hev
    have := (hE.1 e hS.1).2.1
    omega
  have i1 : vp_in (nI v) 40 := vp_in_nI (by omega) (by decide)
  have i2 : vp_in (nI c) 40 := vp_in_nI hc (by decide)
  unfold wX_open_68
  rw [nI_clamp (n := v) (by omega), nI_clamp (n := c) (by omega), (hL v hv).1, lN_sub (Nat.le_of_lt hU1)]
  refine ⟨i1, nm_e ?_⟩
  have hg63 : U - lab v < 2 ^ 63 := Nat.lt_of_le_of_lt (Nat.sub_le _ _) (Nat.lt_of_le_of_lt hU2 pm_M63)
  have h2 : (2 : Int64) ≤ lN (U - lab v) ↔ 2 ≤ U - lab v := pk_lLE (a := 2) (by decide) hg63
  by_cases hg : 2 ≤ U - lab v
  · have e2 : lN (U - lab v) / 2 = lN ((U - lab v) / 2) := pk_lDiv (b := 2) hg63 (by decide) (by decide)
    rw [e2, lN_add]
    have g1 : lab v < lab v + (U - lab v) / 2 := by omega
    have g2 : lab v + (U - lab v) / 2 < U := by omega
    have hOC := pm_l1_OC g1 g2 hU
    refine br_t (h2.mpr hg) ⟨i1, by decide, i2, nm_e (hp (pm_l1 lab c (lab v + (U - lab v) / 2)) _ ⟨⟨by omega, by omega, hn⟩, pm_PI_new hP hv, fun x hx => ?_, pm_vo_new hd hO hv hOC, pm_es_new hE hOC, pm_ev_new hE hV hv hOC⟩ (hloc _))⟩
    by_cases e : x = c
    · rw [e, pk_uLs, pm_l1_c]
      exact ⟨rfl, by omega⟩
    · rw [pk_uLn e, pm_l1_o (by omega)]
      exact hL x (by omega)
  · refine br_f (fun q => hg (h2.mp q)) ?_
    have hVO2 := pm_vo_new hd hO hv (pm_l2_OC (lab := lab) (c := c) (v := v))
    have hi2 := hVO2.1
    have hOC := pm_l3_OC (K := pm_K) pm_K0 hi2
    refine pm_xsl (lab := pm_l2 lab c v) (by omega) (by omega) hi2 hVO2.2.1 hVO2.2.2.1 (M := 2 * pm_M + 2) (fun x hx => ?_) (fun la2 hla => ?_)
    · have hm := (hL v hv).2
      by_cases e : x = c
      · rw [e, pm_l2_c]; omega
      · rw [pm_l2_o (by omega)]
        have := (hL x (by omega)).2
        omega
    · refine hp (pm_l3 pm_K (pm_l2 lab c v) (c + 1)) la2 ⟨⟨by omega, by omega, hn⟩, pm_PI_new hP hv, fun x hx => ⟨hla x hx, ?_⟩, pm_vo_new hd hO hv hOC, pm_es_new hE hOC, pm_ev_new hE hV hv hOC⟩ (hloc _)
      unfold pm_l3
      have r1 := pm_rk_le (pm_l2 lab c v) (c + 1) (pm_l2 lab c v x)
      exact Nat.lt_of_le_of_lt (Nat.mul_le_mul_left pm_K (show _ ≤ 42 by omega)) pm_KM
theorem pm_xopn {v : Nat} (H : pm_XI c n pn lab ek ev A pa la fo he eV eL eT eN) (hc : c < 40) (hv : v < c)
    {post : Int32 → SX → Prop} (hp : ∀ lbb pb la fp, pm_XI (c + 1) n (pm_pn pn c v) lbb ek ev (pm_cp A c v) pb la fp he eV eL eT eN → pm_loc (c + 1) n lbb ek ev c → post (nI c) (nI (c + 1), nI n, tn, vn, pb, la, fp, he, eV, eL, eT, eN)) :
    wpX_open post (nI c, nI n, tn, vn, pa, la, fo, he, eV, eL, eT, eN) (nI v) := by
  have i1 : vp_in (nI v) 40 := vp_in_nI (by omega) (by decide)
  have i2 : vp_in (nI c) 40 := vp_in_nI hc (by decide)
  have hL := H.2.2.1
  unfold wpX_open
  dsimp only
  rw [nI_clamp (n := v) (by omega), nI_clamp (n := c) (by omega)]
  refine ⟨i2, nm_e ⟨i1, i2, nm_e ⟨i1, nm_e (nm_r (nI_1 c) ⟨i2, ?_⟩)⟩⟩⟩
  have hfc : upd (upd fo c (fo v)) v (nI c) c = fo v := by
    rw [pk_un (by omega), pk_us]
  rw [hfc]
  rcases H.2.2.2.1.2.1 v hv with ⟨hfv, hlast⟩ | ⟨y, hfv, hy, hvy, hnext⟩
  · refine br_t hfv ?_
    rw [pm_Ml]
    exact pm_xopn68 H hc hv (hL v hv).2 (Nat.le_refl _) (fun x hx hvx => absurd (hlast x hx) (by omega)) (fun lbb la HI hl => hp lbb _ la _ HI hl)
  · have hy' : y < c := hy
    refine br_f (by rw [hfv]; exact pm_nm1 (by omega)) ⟨i2, by rw [hfv]; exact vp_in_nI (by omega) (by decide), ?_⟩
    have e : la (fo v).toNatClampNeg = lN (lab y) := by rw [hfv, nI_clamp (by omega)]; exact (hL y hy').1
    rw [e]
    exact pm_xopn68 H hc hv (by omega) (Nat.le_of_lt (hL y hy').2) (fun x hx hvx => hnext x hx hvx) (fun lbb la HI hl => hp lbb _ la _ HI hl)
end
section
variable {c : Nat} {pn lab : Nat → Nat} {A : Nat → Nat → Option Int32} {pa : Nat → Int32} {la : Nat → Int64} {fo : Nat → Int32}
theorem pm_xfillL {x f s N : Nat} {a b : Int32} (hx : x < c) (hf : f ≤ 31) (h8 : s ≤ 8) (h32 : f + s ≤ 32) (hN : N + 2 * s ≤ 640) {post : Int32 → SX → Prop}
    (hp : ∀ n tn vn ek ev he eV eL eT eN, n ≤ N + 2 * s → pm_XI c n pn lab ek ev (pm_fl A x f a b s) pa la fo he eV eL eT eN → post (nI x) (nI c, nI n, tn, vn, pa, la, fo, he, eV, eL, eT, eN)) :
    ∀ (d j n : Nat) (tn vn : Int32) (ek ev : Nat → Nat) (he eV eL eT eN : Nat → Int32), j + d = s → n ≤ N + 2 * j → pm_XI c n pn lab ek ev (pm_fl A x f a b j) pa la fo he eV eL eT eN → pm_loc c n lab ek ev x → wX_fill_47 post (nI (16 * f + s)) a b (nI x) (nI f) (d + 1) (nI j) (nI c) (nI n) tn vn pa la fo he eV eL eT eN := by
  intro d
  induction d with
  | zero =>
    intro j n tn vn ek ev he eV eL eT eN hj hn H hl
    have e : j = s := by omega
    subst e
    unfold wX_fill_47
    rw [pm_pl_and f j hf h8]
    exact br_t (nI_le (Nat.le_refl j) (by omega)) (hp n tn vn ek ev he eV eL eT eN hn H)
  | succ d ih =>
    intro j n tn vn ek ev he eV eL eT eN hj hn H hl
    unfold wX_fill_47
    rw [pm_pl_and f s hf h8, nI_add]
    refine br_f (nI_ge (by omega) (by omega)) (pm_xwrite H (by omega) (by omega) hx (Or.inr rfl) hl (fun n2 ek ev he eV eL eT eN hn2 H2 hl2 => nm_r (nI_1 j) (ih (j + 1) n2 tn vn ek ev he eV eL eT eN (by omega) (by omega) ?_ hl2)))
    rw [if_neg pm_n10] at H2
    exact H2
theorem pm_opt (o : Option Int32) : (if pm_th o = 0 then none else some (pm_va o)) = o := by
  cases o with
  | none => exact if_pos rfl
  | some x => exact if_neg pm_n10
theorem pm_xgraftL {w x f s N : Nat} (hw : w < c) (hx : x < c) (hf : f ≤ 31) (h8 : s ≤ 8) (h32 : f + s ≤ 32) (hN : N + 2 * s ≤ 640) {post : Int32 → SX → Prop}
    (hp : ∀ n tn vn ek ev he eV eL eT eN, n ≤ N + 2 * s → pm_XI c n pn lab ek ev (pm_gr A w x f s) pa la fo he eV eL eT eN → post (nI x) (nI c, nI n, tn, vn, pa, la, fo, he, eV, eL, eT, eN)) :
    ∀ (d j n : Nat) (tn vn : Int32) (ek ev : Nat → Nat) (he eV eL eT eN : Nat → Int32), j + d = s → n ≤ N + 2 * j → pm_XI c n pn lab ek ev (pm_gr A w x f j) pa la fo he eV eL eT eN → pm_loc c n lab ek ev x → wX_graft_55 post (nI w) (nI (16 * f + s)) (nI x) (nI f) (d + 1) (nI j) (nI c) (nI n) tn vn pa la fo he eV eL eT eN := by
  intro d
  induction d with
  | zero =>
    intro j n tn vn ek ev he eV eL eT eN hj hn H hl
    have e : j = s := by omega
    subst e
    unfold wX_graft_55
    rw [pm_pl_and f j hf h8]
    exact br_t (nI_le (Nat.le_refl j) (by omega)) (hp n tn vn ek ev he eV eL eT eN hn H)
  | succ d ih =>
    intro j n tn vn ek ev he eV eL eT eN hj hn H hl
    unfold wX_graft_55
    rw [pm_pl_and f s hf h8, nI_add]
    refine br_f (nI_ge (by omega) (by omega)) (pm_look H (by omega) hw ?_)
    refine pm_xwrite H (by omega) (by omega) hx (pm_th01 _) hl (fun n2 ek ev he eV eL eT eN hn2 H2 hl2 => nm_r (nI_1 j) (ih (j + 1) n2 _ _ ek ev he eV eL eT eN (by omega) (by omega) ?_ hl2))
    rw [pm_opt] at H2
    exact H2
end
end
section
/-- both states hold one count, one tree of versions and one map for every version; at most 16 entries a version -/
def i_Rel (_ : Nat) (u : SX) (v : SY) : Prop := match u, v with
  | (fc, fe, _, _, pa, la, fo, he, eV, eL, eT, eN), (gc, qa, th, wo) => ∃ (c n : Nat) (pn lab ek ev : Nat → Nat) (A : Nat → Nat → Option Int32), fc = nI c ∧ fe = nI n ∧ gc = nI c ∧ n ≤ 16 * (c - 1) ∧ pm_XI c n pn lab ek ev A pa la fo he eV eL eT eN ∧ pm_YI c pn A qa th wo
theorem i_up {k : Nat} {u : SX} {v : SY} (h : i_Rel k u v) : i_Rel (k + 5) u v := h
section
variable {c n : Nat} {pn lab ek ev : Nat → Nat} {A : Nat → Nat → Option Int32} {tn vn : Int32} {pa : Nat → Int32} {la : Nat → Int64} {fo he eV eL eT eN qa th wo : Nat → Int32}
theorem pm_mk {k : Nat} (hn : n ≤ 16 * (c - 1)) (H : pm_XI c n pn lab ek ev A pa la fo he eV eL eT eN) (J : pm_YI c pn A qa th wo) : i_Rel k (nI c, nI n, tn, vn, pa, la, fo, he, eV, eL, eT, eN) (nI c, qa, th, wo) := ⟨c, n, pn, lab, ek, ev, A, rfl, rfl, rfl, hn, H, J⟩
theorem pm_n40 (hc : c < 40) : ¬ nI c = 40 := by
  intro q
  have := (nI_eq (b := 40) (by omega) (by decide)).mp q
  omega
theorem pm_y40 (hc : c = 40) : nI c = 40 := congrArg nI hc
theorem pm_xnext {v q : Nat} {p : Int32} (H : pm_XI c n pn lab ek ev A pa la fo he eV eL eT eN) (hv : v < c) (hq1 : q < 2 ^ 31) (hq3 : 0 ≤ p → p = nI q) (hq4 : ¬ 0 ≤ p → q = 0) {post : Int32 → SX → Prop} (hp : ∀ tn vn, post (pm_nx (fun k => pm_th (A v k)) (32 - q) q) (nI c, nI n, tn, vn, pa, la, fo, he, eV, eL, eT, eN)) : wpX_next post (nI c, nI n, tn, vn, pa, la, fo, he, eV, eL, eT, eN) (nI v) p := by
  unfold wpX_next
  refine pm_xV_t H.1.2.1 hv (br_f pm_n10 (br_c (fun h => ⟨32 - q + 1, ?_⟩) (fun h => ⟨32 - q + 1, ?_⟩)))
  · rw [hq3 h]
    exact pm_xnextL H hv (32 - q) q tn vn rfl hq1 hp
  · have e := hq4 h
    subst e
    exact pm_xnextL H hv (32 - 0) 0 tn vn rfl hq1 hp
theorem pm_xprev {v h : Nat} {p : Int32} (H : pm_XI c n pn lab ek ev A pa la fo he eV eL eT eN) (hv : v < c) (h3 : p < 32 → (p < 0 ∧ h = 0) ∨ (∃ q, q < 32 ∧ p = nI q ∧ h = q + 1)) (h4 : ¬ p < 32 → h = 32) {post : Int32 → SX → Prop} (hp : ∀ tn vn, post (pm_pv (fun k => pm_th (A v k)) h) (nI c, nI n, tn, vn, pa, la, fo, he, eV, eL, eT, eN)) : wpX_previous post (nI c, nI n, tn, vn, pa, la, fo, he, eV, eL, eT, eN) (nI v) p := by
  unfold wpX_previous
  refine pm_xV_t H.1.2.1 hv (br_f pm_n10 (br_c (fun hh => ?_) (fun hh => ⟨33, ?_⟩)))
  · rcases h3 hh with ⟨h5, h6⟩ | ⟨q, hq, h5, h6⟩
    · subst h6
      exact ⟨1, br_t h5 (hp _ _)⟩
    · subst h6
      refine ⟨q + 1 + 1, ?_⟩
      rw [h5, ← pk_m1 q]
      exact pm_xprevL H hv (q + 1) tn vn (by omega) hp
  · have e := h4 hh
    subst e
    exact pm_xprevL H hv 32 tn vn (by omega) hp
theorem pm_xsum25 {v lo h : Nat} {p x5 : Int32} (H : pm_XI c n pn lab ek ev A pa la fo he eV eL eT eN) (hv : v < c) (hq1 : lo < 2 ^ 31) (hq3 : 0 ≤ p → p = nI lo) (hq4 : ¬ 0 ≤ p → lo = 0) (hh : h ≤ 32) (h5 : ∀ j : Nat, j < 2 ^ 31 → (x5 < nI j ↔ h ≤ j)) {post : Int32 → SX → Prop} (hp : ∀ tn vn, post (bx_sum (pm_sf lo h (fun k => pm_va (A v k))) 32) (nI c, nI n, tn, vn, pa, la, fo, he, eV, eL, eT, eN)) : wX_sum_25 post (nI v) p 0 x5 (nI c) (nI n) tn vn pa la fo he eV eL eT eN := by
  have hg := pm_xsumL (lo := lo) H hv hh h5 hp (h - lo) lo tn vn rfl (Nat.le_refl lo) hq1
  rw [pm_bx_lo lo (Nat.le_refl lo)] at hg
  unfold wX_sum_25
  refine br_c (fun hz => ⟨h - lo + 1, ?_⟩) (fun hz => ⟨h - lo + 1, ?_⟩)
  · rw [hq3 hz]
    exact hg
  · have e := hq4 hz
    subst e
    exact hg
theorem pm_xsum {v lo h : Nat} {p q : Int32} (H : pm_XI c n pn lab ek ev A pa la fo he eV eL eT eN) (hv : v < c) (hq1 : lo < 2 ^ 31) (hq3 : 0 ≤ p → p = nI lo) (hq4 : ¬ 0 ≤ p → lo = 0) (hh : h ≤ 32) (h3 : q < 32 → (q < 0 ∧ h = 0) ∨ (∃ j, j < 32 ∧ q = nI j ∧ h = j + 1)) (h4 : ¬ q < 32 → h = 32) {post : Int32 → SX → Prop} (hp : ∀ tn vn, post (bx_sum (pm_sf lo h (fun k => pm_va (A v k))) 32) (nI c, nI n, tn, vn, pa, la, fo, he, eV, eL, eT, eN)) : wpX_sum post (nI c, nI n, tn, vn, pa, la, fo, he, eV, eL, eT, eN) (nI v) p q := by
  unfold wpX_sum
  refine pm_xV_t H.1.2.1 hv (br_f pm_n10 (br_c (fun hz => ?_) (fun hz => ?_)))
  · refine pm_xsum25 H hv hq1 hq3 hq4 hh (fun j hj => ?_) hp
    rcases h3 hz with ⟨h5, h6⟩ | ⟨i, hi, h5, h6⟩
    · rw [h6]
      exact ⟨fun _ => Nat.zero_le j, fun _ => Int32.lt_of_lt_of_le h5 (nI_pos' hj)⟩
    · rw [h5, h6]
      exact nI_ltI (by omega) hj
  · refine pm_xsum25 H hv hq1 hq3 hq4 hh (fun j hj => ?_) hp
    rw [h4 hz]
    exact nI_ltI (a := 31) (by decide) hj
theorem pm_exch {x a b : Nat} (hx : x ≠ c) : pm_up (pm_up A c b (A x a)) c a (pm_up A c b (A x a) x b) = pm_up (pm_up A c a (A x b)) c b (A x a) := by
  rw [pm_upN (A := A) (fun z => hx z.1)]
  funext y l
  by_cases h1 : y = c ∧ l = a
  · by_cases h2 : y = c ∧ l = b
    · have e : a = b := h1.2.symm.trans h2.2
      subst e
      rfl
    · rw [pm_upN (A := pm_up A c a (A x b)) h2, h1.1, h1.2, pm_upY, pm_upY]
  · by_cases h2 : y = c ∧ l = b
    · rw [pm_upN (A := pm_up A c b (A x a)) h1, h2.1, h2.2, pm_upY, pm_upY]
    · rw [pm_upN (A := pm_up A c b (A x a)) h1, pm_upN (A := pm_up A c a (A x b)) h2, pm_upN h2, pm_upN h1]
theorem pm_xinitL {pa : Nat → Int32} {la : Nat → Int64} {fo eV eL eT eN : Nat → Int32} {post : SX → Prop} (hp : ∀ he, (∀ k, k < 32 → he k = (-1)) → post (1, 0, 0, 0, pa, la, fo, he, eV, eL, eT, eN)) :
    ∀ (d j : Nat) (he : Nat → Int32), j + d = 32 → (∀ k, k < j → he k = (-1)) → wX_init_102 post 1 0 0 0 (d + 1) (nI j) pa la fo he eV eL eT eN := by
  intro d
  induction d with
  | zero =>
    intro j he hj hh
    have e : j = 32 := by omega
    subst e
    exact br_t (nI_le (Nat.le_refl 32) (by decide)) (hp he hh)
  | succ d ih =>
    intro j he hj hh
    refine br_f (nI_ge (b := 32) (by omega) (by decide)) ?_
    rw [nI_clamp (n := j) (by omega)]
    refine ⟨vp_in_nI (by omega) (by decide), nm_e (nm_r (nI_1 j) (ih (j + 1) _ (by omega) (fun k hk => ?_)))⟩
    by_cases e : k = j
    · rw [e, pk_us]
    · rw [pk_un e]
      exact hh k (by omega)
end
end
section
theorem i_vc0 : wpX_init (fun u => wpY_init (fun v => i_Rel 0 u v)) := by
  unfold wpX_init
  refine nm_e (nm_e (nm_e ⟨33, pm_xinitL (fun he hh => ?_) 32 0 _ rfl (fun k hk => absurd hk (by omega))⟩))
  unfold wpY_init
  refine nm_e ?_
  refine pm_mk (c := 1) (n := 0) (pn := fun _ => 0) (lab := fun _ => 1152921504606846976) (ek := fun _ => 0) (ev := fun _ => 0) (A := fun _ _ => none) (by omega) ⟨⟨by omega, by omega, by omega⟩, fun x h0 hx => absurd hx (by omega), fun x hx => ?_, ⟨fun x y hx hy _ => by omega, fun x hx => ?_, fun x hx => Nat.le_refl _, fun a x y ha hx hy _ h1 h2 => absurd h1 (Nat.lt_irrefl _), fun a x ha hx _ => Nat.le_refl _⟩, ⟨fun e he => absurd he (by omega), fun e d he => absurd he (by omega), fun k hk => ?_, fun e he => absurd he (by omega)⟩, fun v k hv hk => ⟨fun _ => rfl, fun e hm => absurd hm.1.1 (by omega)⟩⟩ ⟨⟨by omega, by omega⟩, fun x h0 hx => absurd hx (by omega), fun v k hv hk => Or.inl ⟨rfl, rfl⟩⟩
  · have e : x = 0 := by omega
    rw [e, pk_uLs]
    exact ⟨rfl, by decide⟩
  · have e : x = 0 := by omega
    rw [e, pk_us]
    exact Or.inl ⟨rfl, fun y _ => Nat.lt_succ_self _⟩
  · rw [hh k hk]
    exact Or.inl ⟨rfl, fun y hy => absurd hy.1 (by omega)⟩
theorem i_vc_versions {k : Nat} {u : SX} {v : SY} (I : i_Rel k u v) (hk : k + 5 ≤ 2560) : wpX_versions (fun r => wpY_versions (fun r' => r' = r ∧ i_Rel (k + 5) u v) v) u := by
  obtain ⟨fc, fe, tn, vn, pa, la, fo, he, eV, eL, eT, eN⟩ := u
  obtain ⟨gc, qa, th, wo⟩ := v
  obtain ⟨c, n, pn, lab, ek, ev, A, rfl, rfl, rfl, hn, H, J⟩ := I
  have hc : c ≤ 40 := H.1.2.1
  unfold wpX_versions wpY_versions
  exact ⟨rfl, pm_mk hn H J⟩
theorem i_vc_parent {k : Nat} {u : SX} {v : SY} (I : i_Rel k u v) (hk : k + 5 ≤ 2560) (v1 : Int32) : wpX_parent (fun r => wpY_parent (fun r' => r' = r ∧ i_Rel (k + 5) u v) v v1) u v1 := by
  obtain ⟨fc, fe, tn, vn, pa, la, fo, he, eV, eL, eT, eN⟩ := u
  obtain ⟨gc, qa, th, wo⟩ := v
  obtain ⟨c, n, pn, lab, ek, ev, A, rfl, rfl, rfl, hn, H, J⟩ := I
  have hc : c ≤ 40 := H.1.2.1
  have R : i_Rel (k + 5) (nI c, nI n, tn, vn, pa, la, fo, he, eV, eL, eT, eN) (nI c, qa, th, wo) := pm_mk hn H J
  unfold wpX_parent wpY_parent
  by_cases h1 : pm_ver c v1
  · obtain ⟨x, hx, rfl⟩ := h1
    refine pm_xV_t hc hx (br_f pm_n10 (br_c (fun h => ?_) (fun h => ⟨vp_in_nI (by omega) (by decide), ?_⟩)))
    · exact pm_yV_t hc hx (br_t rfl (br_t h ⟨rfl, R⟩))
    · refine pm_yV_t hc hx (br_t rfl (br_f h ⟨vp_in_nI (by omega) (by decide), ?_, R⟩))
      have h0 : 0 < x := by
        rcases Nat.eq_zero_or_pos x with e | e
        · exact absurd (congrArg nI e) h
        · exact e
      rw [nI_clamp (n := x) (by omega), (H.2.1 x h0 hx).2, (J.2.1 x h0 hx).2]
  · exact pm_xV_f hc h1 (br_t rfl (pm_yV_f hc h1 (br_f pm_n10 ⟨rfl, R⟩)))
theorem i_vc_ancestor {k : Nat} {u : SX} {v : SY} (I : i_Rel k u v) (hk : k + 5 ≤ 2560) (v1 : Int32) (v2 : Int32) : wpX_ancestor (fun r => wpY_ancestor (fun r' => r' = r ∧ i_Rel (k + 5) u v) v v1 v2) u v1 v2 := by
  obtain ⟨fc, fe, tn, vn, pa, la, fo, he, eV, eL, eT, eN⟩ := u
  obtain ⟨gc, qa, th, wo⟩ := v
  obtain ⟨c, n, pn, lab, ek, ev, A, rfl, rfl, rfl, hn, H, J⟩ := I
  have hc : c ≤ 40 := H.1.2.1
  have R : i_Rel (k + 5) (nI c, nI n, tn, vn, pa, la, fo, he, eV, eL, eT, eN) (nI c, qa, th, wo) := pm_mk hn H J
  unfold wpX_ancestor wpY_ancestor
  by_cases h1 : pm_ver c v1
  · obtain ⟨x, hx, rfl⟩ := h1
    by_cases h2 : pm_ver c v2
    · obtain ⟨y, hy, rfl⟩ := h2
      refine pm_xV_t hc hx (br_f pm_n10 (pm_xV_t hc hy (br_f pm_n10 (pm_xan hc H.2.1 (by omega) hy ?_))))
      cases hb : pm_anc pn x y with
      | true => exact br_f pm_n10 (pm_yV_t hc hx (br_t rfl (pm_yV_t hc hy (br_t rfl (pm_yan hc J.2.1 (by omega) hy (by rw [hb]; exact br_f pm_n10 ⟨rfl, R⟩))))))
      | false => exact br_t rfl (pm_yV_t hc hx (br_t rfl (pm_yV_t hc hy (br_t rfl (pm_yan hc J.2.1 (by omega) hy (by rw [hb]; exact br_t rfl ⟨rfl, R⟩))))))
    · exact pm_xV_t hc hx (br_f pm_n10 (pm_xV_f hc h2 (br_t rfl (pm_yV_t hc hx (br_t rfl (pm_yV_f hc h2 (br_f pm_n10 ⟨rfl, R⟩)))))))
  · exact pm_xV_f hc h1 (br_t rfl (pm_yV_f hc h1 (br_f pm_n10 ⟨rfl, R⟩)))
theorem i_vc_meet {k : Nat} {u : SX} {v : SY} (I : i_Rel k u v) (hk : k + 5 ≤ 2560) (v1 : Int32) (v2 : Int32) : wpX_meet (fun r => wpY_meet (fun r' => r' = r ∧ i_Rel (k + 5) u v) v v1 v2) u v1 v2 := by
  obtain ⟨fc, fe, tn, vn, pa, la, fo, he, eV, eL, eT, eN⟩ := u
  obtain ⟨gc, qa, th, wo⟩ := v
  obtain ⟨c, n, pn, lab, ek, ev, A, rfl, rfl, rfl, hn, H, J⟩ := I
  have hc : c ≤ 40 := H.1.2.1
  have R : i_Rel (k + 5) (nI c, nI n, tn, vn, pa, la, fo, he, eV, eL, eT, eN) (nI c, qa, th, wo) := pm_mk hn H J
  unfold wpX_meet wpY_meet
  by_cases h1 : pm_ver c v1
  · obtain ⟨x, hx, rfl⟩ := h1
    by_cases h2 : pm_ver c v2
    · obtain ⟨y, hy, rfl⟩ := h2
      refine pm_xV_t hc hx (br_f pm_n10 (pm_xV_t hc hy (br_f pm_n10 ⟨x + 1, pm_xmeetL hc H.2.1 hx hy (fun r hr a1 a2 a3 => ?_) x x 0 (Nat.le_refl x) hx (by omega) pm_anc_rf (fun z _ h _ => h)⟩)))
      exact pm_yV_t hc hx (br_t rfl (pm_yV_t hc hy (br_t rfl ⟨c + 1, pm_ymeetL J hx hy hr a1 a2 a3 ⟨rfl, R⟩ c 0 0 (by omega) (fun h => absurd h (by omega))⟩)))
    · exact pm_xV_t hc hx (br_f pm_n10 (pm_xV_f hc h2 (br_t rfl (pm_yV_t hc hx (br_t rfl (pm_yV_f hc h2 (br_f pm_n10 ⟨rfl, R⟩)))))))
  · exact pm_xV_f hc h1 (br_t rfl (pm_yV_f hc h1 (br_f pm_n10 ⟨rfl, R⟩)))
theorem i_vc_family {k : Nat} {u : SX} {v : SY} (I : i_Rel k u v) (hk : k + 5 ≤ 2560) (v1 : Int32) : wpX_family (fun r => wpY_family (fun r' => r' = r ∧ i_Rel (k + 5) u v) v v1) u v1 := by
  obtain ⟨fc, fe, tn, vn, pa, la, fo, he, eV, eL, eT, eN⟩ := u
  obtain ⟨gc, qa, th, wo⟩ := v
  obtain ⟨c, n, pn, lab, ek, ev, A, rfl, rfl, rfl, hn, H, J⟩ := I
  have hc : c ≤ 40 := H.1.2.1
  have R : i_Rel (k + 5) (nI c, nI n, tn, vn, pa, la, fo, he, eV, eL, eT, eN) (nI c, qa, th, wo) := pm_mk hn H J
  unfold wpX_family wpY_family
  by_cases h1 : pm_ver c v1
  · obtain ⟨x, hx, rfl⟩ := h1
    have hO := H.2.2.2.1
    have hq : pm_cq lab (pm_anc pn x) c (lab x) = 0 := pm_cq_none (fun z hz ha => hO.2.2.2.2 x z hx hz ha)
    refine pm_xV_t hc hx (br_f pm_n10 ⟨pm_M + 1, ?_⟩)
    have hg := fun post hp => pm_xfamL (n := n) (tn := tn) (vn := vn) (la := la) (he := he) (eV := eV) (eL := eL) (eT := eT) (eN := eN) hc H.2.1 hO hx (post := post) (fun z hz => (H.2.2.1 z hz).2) hp pm_M (lab x) (nI x) (by omega) (Nat.le_refl _) (Or.inr ⟨x, rfl, hx, Nat.le_refl _, fun z _ h => h⟩)
    rw [hq] at hg
    refine hg _ ?_
    exact pm_yV_t hc hx (br_t rfl ⟨c + 1, pm_yfamL J hx ⟨rfl, R⟩ c 0 (by omega)⟩)
  · exact pm_xV_f hc h1 (br_t rfl (pm_yV_f hc h1 (br_f pm_n10 ⟨rfl, R⟩)))
theorem i_vc_has {k : Nat} {u : SX} {v : SY} (I : i_Rel k u v) (hk : k + 5 ≤ 2560) (v1 : Int32) (v2 : Int32) : wpX_has (fun r u' => wpY_has (fun r' => r' = r ∧ i_Rel (k + 5) u' v) v v1 v2) u v1 v2 := by
  obtain ⟨fc, fe, tn, vn, pa, la, fo, he, eV, eL, eT, eN⟩ := u
  obtain ⟨gc, qa, th, wo⟩ := v
  obtain ⟨c, n, pn, lab, ek, ev, A, rfl, rfl, rfl, hn, H, J⟩ := I
  have hc : c ≤ 40 := H.1.2.1
  have R : ∀ tn vn, i_Rel (k + 5) (nI c, nI n, tn, vn, pa, la, fo, he, eV, eL, eT, eN) (nI c, qa, th, wo) := fun _ _ => pm_mk hn H J
  unfold wpX_has wpY_has
  by_cases h1 : pm_ver c v1
  · obtain ⟨x, hx, rfl⟩ := h1
    by_cases h2 : pm_ver 32 v2
    · obtain ⟨y, hy, rfl⟩ := h2
      refine pm_xV_t hc hx (br_f pm_n10 (pm_xK_t hy (br_f pm_n10 (pm_look H hy hx ?_))))
      have e := pm_ycl (v := x) (k := y) (by omega) hy
      have i1 := pm_yin (v := x) (k := y) (by omega) hy
      rcases J.2.2 x y hx hy with ⟨a1, a2⟩ | ⟨a1, a2⟩
      · exact br_t (by rw [a2]; rfl) (pm_yV_t hc hx (br_t rfl (pm_yK_t hy (br_t rfl ⟨i1, br_t (by rw [e]; exact a1) ⟨rfl, R _ _⟩⟩))))
      · exact br_f (by rw [a2]; exact pm_th1) (pm_yV_t hc hx (br_t rfl (pm_yK_t hy (br_t rfl ⟨i1, br_f (by rw [e, a1]; exact pm_n10) ⟨rfl, R _ _⟩⟩))))
    · exact pm_xV_t hc hx (br_f pm_n10 (pm_xK_f h2 (br_t rfl (pm_yV_t hc hx (br_t rfl (pm_yK_f h2 (br_f pm_n10 ⟨rfl, R _ _⟩)))))))
  · exact pm_xV_f hc h1 (br_t rfl (pm_yV_f hc h1 (br_f pm_n10 ⟨rfl, R _ _⟩)))
theorem i_vc_get {k : Nat} {u : SX} {v : SY} (I : i_Rel k u v) (hk : k + 5 ≤ 2560) (v1 : Int32) (v2 : Int32) : wpX_get (fun r u' => wpY_get (fun r' => r' = r ∧ i_Rel (k + 5) u' v) v v1 v2) u v1 v2 := by
  obtain ⟨fc, fe, tn, vn, pa, la, fo, he, eV, eL, eT, eN⟩ := u
  obtain ⟨gc, qa, th, wo⟩ := v
  obtain ⟨c, n, pn, lab, ek, ev, A, rfl, rfl, rfl, hn, H, J⟩ := I
  have hc : c ≤ 40 := H.1.2.1
  have R : ∀ tn vn, i_Rel (k + 5) (nI c, nI n, tn, vn, pa, la, fo, he, eV, eL, eT, eN) (nI c, qa, th, wo) := fun _ _ => pm_mk hn H J
  unfold wpX_get wpY_get
  by_cases h1 : pm_ver c v1
  · obtain ⟨x, hx, rfl⟩ := h1
    by_cases h2 : pm_ver 32 v2
    · obtain ⟨y, hy, rfl⟩ := h2
      refine pm_xV_t hc hx (br_f pm_n10 (pm_xK_t hy (br_f pm_n10 (pm_look H hy hx ?_))))
      have e := pm_ycl (v := x) (k := y) (by omega) hy
      have i1 := pm_yin (v := x) (k := y) (by omega) hy
      rcases J.2.2 x y hx hy with ⟨a1, a2⟩ | ⟨a1, a2⟩
      · exact br_t (by rw [a2]; rfl) (pm_yV_t hc hx (br_t rfl (pm_yK_t hy (br_t rfl ⟨i1, br_t (by rw [e]; exact a1) ⟨rfl, R _ _⟩⟩))))
      · exact br_f (by rw [a2]; exact pm_th1) (pm_yV_t hc hx (br_t rfl (pm_yK_t hy (br_t rfl ⟨i1, br_f (by rw [e, a1]; exact pm_n10) ⟨i1, by rw [e, a2]; rfl, R _ _⟩⟩))))
    · exact pm_xV_t hc hx (br_f pm_n10 (pm_xK_f h2 (br_t rfl (pm_yV_t hc hx (br_t rfl (pm_yK_f h2 (br_f pm_n10 ⟨rfl, R _ _⟩)))))))
  · exact pm_xV_f hc h1 (br_t rfl (pm_yV_f hc h1 (br_f pm_n10 ⟨rfl, R _ _⟩)))
theorem i_vc_size {k : Nat} {u : SX} {v : SY} (I : i_Rel k u v) (hk : k + 5 ≤ 2560) (v1 : Int32) : wpX_size (fun r u' => wpY_size (fun r' => r' = r ∧ i_Rel (k + 5) u' v) v v1) u v1 := by
  obtain ⟨fc, fe, tn, vn, pa, la, fo, he, eV, eL, eT, eN⟩ := u
  obtain ⟨gc, qa, th, wo⟩ := v
  obtain ⟨c, n, pn, lab, ek, ev, A, rfl, rfl, rfl, hn, H, J⟩ := I
  have hc : c ≤ 40 := H.1.2.1
  have R : ∀ tn vn, i_Rel (k + 5) (nI c, nI n, tn, vn, pa, la, fo, he, eV, eL, eT, eN) (nI c, qa, th, wo) := fun _ _ => pm_mk hn H J
  unfold wpX_size wpY_size
  by_cases h1 : pm_ver c v1
  · obtain ⟨x, hx, rfl⟩ := h1
    refine pm_xV_t hc hx (br_f pm_n10 ⟨33, pm_xsizeL H hx (fun tn vn => ?_) 32 0 tn vn rfl⟩)
    exact pm_yV_t hc hx (br_t rfl ⟨33, pm_ysizeL J hx ⟨rfl, R _ _⟩ 32 0 rfl⟩)
  · exact pm_xV_f hc h1 (br_t rfl (pm_yV_f hc h1 (br_f pm_n10 ⟨rfl, R _ _⟩)))
theorem i_vc_next {k : Nat} {u : SX} {v : SY} (I : i_Rel k u v) (hk : k + 5 ≤ 2560) (v1 : Int32) (v2 : Int32) : wpX_next (fun r u' => wpY_next (fun r' => r' = r ∧ i_Rel (k + 5) u' v) v v1 v2) u v1 v2 := by
  obtain ⟨fc, fe, tn, vn, pa, la, fo, he, eV, eL, eT, eN⟩ := u
  obtain ⟨gc, qa, th, wo⟩ := v
  obtain ⟨c, n, pn, lab, ek, ev, A, rfl, rfl, rfl, hn, H, J⟩ := I
  have hc : c ≤ 40 := H.1.2.1
  have R : ∀ tn vn, i_Rel (k + 5) (nI c, nI n, tn, vn, pa, la, fo, he, eV, eL, eT, eN) (nI c, qa, th, wo) := fun _ _ => pm_mk hn H J
  by_cases h1 : pm_ver c v1
  · obtain ⟨x, hx, rfl⟩ := h1
    obtain ⟨q, q1, q2, q3, q4⟩ := pm_low v2
    refine pm_xnext H hx q1 q3 q4 (fun tn vn => ?_)
    unfold wpY_next
    exact pm_yV_t hc hx (br_t rfl ⟨33, pm_ynext2 J hx q2 ⟨rfl, R _ _⟩ 32 0 rfl (Nat.zero_le q)⟩)
  · unfold wpX_next wpY_next
    exact pm_xV_f hc h1 (br_t rfl (pm_yV_f hc h1 (br_f pm_n10 ⟨rfl, R _ _⟩)))
theorem i_vc_previous {k : Nat} {u : SX} {v : SY} (I : i_Rel k u v) (hk : k + 5 ≤ 2560) (v1 : Int32) (v2 : Int32) : wpX_previous (fun r u' => wpY_previous (fun r' => r' = r ∧ i_Rel (k + 5) u' v) v v1 v2) u v1 v2 := by
  obtain ⟨fc, fe, tn, vn, pa, la, fo, he, eV, eL, eT, eN⟩ := u
  obtain ⟨gc, qa, th, wo⟩ := v
  obtain ⟨c, n, pn, lab, ek, ev, A, rfl, rfl, rfl, hn, H, J⟩ := I
  have hc : c ≤ 40 := H.1.2.1
  have R : ∀ tn vn, i_Rel (k + 5) (nI c, nI n, tn, vn, pa, la, fo, he, eV, eL, eT, eN) (nI c, qa, th, wo) := fun _ _ => pm_mk hn H J
  by_cases h1 : pm_ver c v1
  · obtain ⟨x, hx, rfl⟩ := h1
    obtain ⟨h, q1, q2, q3, q4⟩ := pm_high v2
    refine pm_xprev H hx q3 q4 (fun tn vn => ?_)
    unfold wpY_previous
    exact pm_yV_t hc hx (br_t rfl ⟨33, pm_yprev2 J hx q2 ⟨rfl, R _ _⟩ 32 (Nat.le_refl 32) q1⟩)
  · unfold wpX_previous wpY_previous
    exact pm_xV_f hc h1 (br_t rfl (pm_yV_f hc h1 (br_f pm_n10 ⟨rfl, R _ _⟩)))
theorem i_vc_select {k : Nat} {u : SX} {v : SY} (I : i_Rel k u v) (hk : k + 5 ≤ 2560) (v1 : Int32) (v2 : Int32) : wpX_select (fun r u' => wpY_select (fun r' => r' = r ∧ i_Rel (k + 5) u' v) v v1 v2) u v1 v2 := by
  obtain ⟨fc, fe, tn, vn, pa, la, fo, he, eV, eL, eT, eN⟩ := u
  obtain ⟨gc, qa, th, wo⟩ := v
  obtain ⟨c, n, pn, lab, ek, ev, A, rfl, rfl, rfl, hn, H, J⟩ := I
  have hc : c ≤ 40 := H.1.2.1
  have R : ∀ tn vn, i_Rel (k + 5) (nI c, nI n, tn, vn, pa, la, fo, he, eV, eL, eT, eN) (nI c, qa, th, wo) := fun _ _ => pm_mk hn H J
  unfold wpX_select wpY_select
  by_cases h1 : pm_ver c v1
  · obtain ⟨x, hx, rfl⟩ := h1
    refine pm_xV_t hc hx (br_f pm_n10 ⟨33, pm_xselL (p := v2) H hx 32 0 0 v2 tn vn rfl (by grind) (fun tn vn => ?_)⟩)
    exact pm_yV_t hc hx (br_t rfl ⟨33, pm_yselL J hx 32 0 0 rfl ⟨rfl, R _ _⟩⟩)
  · exact pm_xV_f hc h1 (br_t rfl (pm_yV_f hc h1 (br_f pm_n10 ⟨rfl, R _ _⟩)))
theorem i_vc_sum {k : Nat} {u : SX} {v : SY} (I : i_Rel k u v) (hk : k + 5 ≤ 2560) (v1 : Int32) (v2 : Int32) (v3 : Int32) : wpX_sum (fun r u' => wpY_sum (fun r' => r' = r ∧ i_Rel (k + 5) u' v) v v1 v2 v3) u v1 v2 v3 := by
  obtain ⟨fc, fe, tn, vn, pa, la, fo, he, eV, eL, eT, eN⟩ := u
  obtain ⟨gc, qa, th, wo⟩ := v
  obtain ⟨c, n, pn, lab, ek, ev, A, rfl, rfl, rfl, hn, H, J⟩ := I
  have hc : c ≤ 40 := H.1.2.1
  have R : ∀ tn vn, i_Rel (k + 5) (nI c, nI n, tn, vn, pa, la, fo, he, eV, eL, eT, eN) (nI c, qa, th, wo) := fun _ _ => pm_mk hn H J
  by_cases h1 : pm_ver c v1
  · obtain ⟨x, hx, rfl⟩ := h1
    obtain ⟨q, q1, q2, q3, q4⟩ := pm_low v2
    obtain ⟨h, p1, p2, p3, p4⟩ := pm_high v3
    refine pm_xsum H hx q1 q3 q4 p1 p3 p4 (fun tn vn => ?_)
    unfold wpY_sum
    exact pm_yV_t hc hx (br_t rfl ⟨33, pm_ysumL J hx q2 p2 ⟨rfl, R _ _⟩ 32 0 rfl⟩)
  · unfold wpX_sum wpY_sum
    exact pm_xV_f hc h1 (br_t rfl (pm_yV_f hc h1 (br_f pm_n10 ⟨rfl, R _ _⟩)))
theorem i_vc_differing {k : Nat} {u : SX} {v : SY} (I : i_Rel k u v) (hk : k + 5 ≤ 2560) (v1 : Int32) (v2 : Int32) : wpX_differing (fun r u' => wpY_differing (fun r' => r' = r ∧ i_Rel (k + 5) u' v) v v1 v2) u v1 v2 := by
  obtain ⟨fc, fe, tn, vn, pa, la, fo, he, eV, eL, eT, eN⟩ := u
  obtain ⟨gc, qa, th, wo⟩ := v
  obtain ⟨c, n, pn, lab, ek, ev, A, rfl, rfl, rfl, hn, H, J⟩ := I
  have hc : c ≤ 40 := H.1.2.1
  have R : ∀ tn vn, i_Rel (k + 5) (nI c, nI n, tn, vn, pa, la, fo, he, eV, eL, eT, eN) (nI c, qa, th, wo) := fun _ _ => pm_mk hn H J
  unfold wpX_differing wpY_differing
  by_cases h1 : pm_ver c v1
  · obtain ⟨x, hx, rfl⟩ := h1
    by_cases h2 : pm_ver c v2
    · obtain ⟨y, hy, rfl⟩ := h2
      refine pm_xV_t hc hx (br_f pm_n10 (pm_xV_t hc hy (br_f pm_n10 ⟨33, pm_xdifferingL H hx hy (fun tn vn => ?_) 32 0 tn vn rfl⟩)))
      exact pm_yV_t hc hx (br_t rfl (pm_yV_t hc hy (br_t rfl ⟨33, pm_ydifferingL J hx hy ⟨rfl, R _ _⟩ 32 0 rfl⟩)))
    · exact pm_xV_t hc hx (br_f pm_n10 (pm_xV_f hc h2 (br_t rfl (pm_yV_t hc hx (br_t rfl (pm_yV_f hc h2 (br_f pm_n10 ⟨rfl, R _ _⟩)))))))
  · exact pm_xV_f hc h1 (br_t rfl (pm_yV_f hc h1 (br_f pm_n10 ⟨rfl, R _ _⟩)))
theorem i_vc_spread {k : Nat} {u : SX} {v : SY} (I : i_Rel k u v) (hk : k + 5 ≤ 2560) (v1 : Int32) : wpX_spread (fun r => wpY_spread (fun r' => r' = r ∧ i_Rel (k + 5) u v) v v1) u v1 := by
  obtain ⟨fc, fe, tn, vn, pa, la, fo, he, eV, eL, eT, eN⟩ := u
  obtain ⟨gc, qa, th, wo⟩ := v
  obtain ⟨c, n, pn, lab, ek, ev, A, rfl, rfl, rfl, hn, H, J⟩ := I
  have hc : c ≤ 40 := H.1.2.1
  have R : i_Rel (k + 5) (nI c, nI n, tn, vn, pa, la, fo, he, eV, eL, eT, eN) (nI c, qa, th, wo) := pm_mk hn H J
  unfold wpX_spread wpY_spread
  by_cases h1 : pm_ver 32 v1
  · obtain ⟨x, hx, rfl⟩ := h1
    have hO := H.2.2.2.1
    have hq : pm_cq lab (fun z => (A z x).isSome) c 0 = 0 := pm_cq_none (fun z hz ha => Nat.zero_le _)
    refine pm_xK_t hx (br_f pm_n10 ⟨pm_M + 1, ?_⟩)
    have hg := fun post hp => pm_xspreadL (tn := tn) (vn := vn) H hx (post := post) (fun z hz => (H.2.2.1 z hz).2) hp pm_M 0 (-1) (nI 0) (by omega) (Or.inl rfl) (Or.inr ⟨0, rfl, H.1.1, Nat.zero_le _, fun z hz _ => hO.2.2.1 z hz⟩)
    rw [hq] at hg
    refine hg _ ?_
    exact pm_yK_t hx (br_t rfl ⟨c + 1, pm_yspreadL J hx ⟨rfl, R⟩ c 0 (by omega)⟩)
  · exact pm_xK_f h1 (br_t rfl (pm_yK_f h1 (br_f pm_n10 ⟨rfl, R⟩)))
theorem i_vc_changes {k : Nat} {u : SX} {v : SY} (I : i_Rel k u v) (hk : k + 5 ≤ 2560) (v1 : Int32) : wpX_changes (fun r u' => wpY_changes (fun r' => r' = r ∧ i_Rel (k + 5) u' v) v v1) u v1 := by
  obtain ⟨fc, fe, tn, vn, pa, la, fo, he, eV, eL, eT, eN⟩ := u
  obtain ⟨gc, qa, th, wo⟩ := v
  obtain ⟨c, n, pn, lab, ek, ev, A, rfl, rfl, rfl, hn, H, J⟩ := I
  have hc : c ≤ 40 := H.1.2.1
  have R : ∀ tn vn, i_Rel (k + 5) (nI c, nI n, tn, vn, pa, la, fo, he, eV, eL, eT, eN) (nI c, qa, th, wo) := fun _ _ => pm_mk hn H J
  have hc1 : 1 ≤ c := H.1.1
  unfold wpX_changes wpY_changes
  by_cases h1 : pm_ver 32 v1
  · obtain ⟨x, hx, rfl⟩ := h1
    refine pm_xK_t hx (br_f pm_n10 ⟨c - 1 + 1, pm_xchangesL H hx (fun tn vn => ?_) (c - 1) 0 tn vn (by omega)⟩)
    exact pm_yK_t hx (br_t rfl ⟨c - 1 + 1, pm_ychangesL J hx ⟨rfl, R _ _⟩ (c - 1) 0 (by omega)⟩)
  · exact pm_xK_f h1 (br_t rfl (pm_yK_f h1 (br_f pm_n10 ⟨rfl, R _ _⟩)))
theorem i_vc_put {k : Nat} {u : SX} {v : SY} (I : i_Rel k u v) (hk : k + 5 ≤ 2560) (v1 : Int32) (v2 : Int32) (v3 : Int32) : wpX_put (fun r u' => wpY_put (fun r' v' => r' = r ∧ i_Rel (k + 5) u' v') v v1 v2 v3) u v1 v2 v3 := by
  obtain ⟨fc, fe, tn, vn, pa, la, fo, he, eV, eL, eT, eN⟩ := u
  obtain ⟨gc, qa, th, wo⟩ := v
  obtain ⟨c, n, pn, lab, ek, ev, A, rfl, rfl, rfl, hn, H, J⟩ := I
  have hc : c ≤ 40 := H.1.2.1
  have R : i_Rel (k + 5) (nI c, nI n, tn, vn, pa, la, fo, he, eV, eL, eT, eN) (nI c, qa, th, wo) := pm_mk hn H J
  unfold wpX_put wpY_put
  by_cases h1 : pm_ver c v1
  · obtain ⟨x, hx, rfl⟩ := h1
    by_cases h2 : pm_ver 32 v2
    · obtain ⟨y, hy, rfl⟩ := h2
      by_cases h40 : c = 40
      · exact pm_xV_t hc hx (br_f pm_n10 (pm_xK_t hy (br_f pm_n10 (br_t (pm_y40 h40) (pm_yV_t hc hx (br_t rfl (pm_yK_t hy (br_t rfl (pm_ymake_f h40 (br_t (by decide) ⟨rfl, R⟩))))))))))
      · have hc4 : c < 40 := by omega
        refine pm_xV_t hc hx (br_f pm_n10 (pm_xK_t hy (br_f pm_n10 (br_f (pm_n40 hc4) (pm_xopn H hc4 hx (fun lbb pb la fp H2 hl => pm_xwrite H2 (by omega) hy (Nat.lt_succ_self c) (Or.inr rfl) hl (fun n2 ek ev he eV eL eT eN hn2 H3 _ => ?_)))))))
        rw [if_neg pm_n10] at H3
        exact pm_yV_t hc hx (br_t rfl (pm_yK_t hy (br_t rfl (pm_ymake J hc4 hx (fun qa th wo J2 => br_f (nI_pos (by omega)) (pm_ygive J2 (Nat.lt_succ_self c) hy (fun th wo J3 => ⟨rfl, pm_mk (by omega) H3 J3⟩)))))))
    · exact pm_xV_t hc hx (br_f pm_n10 (pm_xK_f h2 (br_t rfl (pm_yV_t hc hx (br_t rfl (pm_yK_f h2 (br_f pm_n10 ⟨rfl, R⟩)))))))
  · exact pm_xV_f hc h1 (br_t rfl (pm_yV_f hc h1 (br_f pm_n10 ⟨rfl, R⟩)))
theorem i_vc_remove {k : Nat} {u : SX} {v : SY} (I : i_Rel k u v) (hk : k + 5 ≤ 2560) (v1 : Int32) (v2 : Int32) : wpX_remove (fun r u' => wpY_remove (fun r' v' => r' = r ∧ i_Rel (k + 5) u' v') v v1 v2) u v1 v2 := by
  obtain ⟨fc, fe, tn, vn, pa, la, fo, he, eV, eL, eT, eN⟩ := u
  obtain ⟨gc, qa, th, wo⟩ := v
  obtain ⟨c, n, pn, lab, ek, ev, A, rfl, rfl, rfl, hn, H, J⟩ := I
  have hc : c ≤ 40 := H.1.2.1
  have R : i_Rel (k + 5) (nI c, nI n, tn, vn, pa, la, fo, he, eV, eL, eT, eN) (nI c, qa, th, wo) := pm_mk hn H J
  unfold wpX_remove wpY_remove
  by_cases h1 : pm_ver c v1
  · obtain ⟨x, hx, rfl⟩ := h1
    by_cases h2 : pm_ver 32 v2
    · obtain ⟨y, hy, rfl⟩ := h2
      by_cases h40 : c = 40
      · exact pm_xV_t hc hx (br_f pm_n10 (pm_xK_t hy (br_f pm_n10 (br_t (pm_y40 h40) (pm_yV_t hc hx (br_t rfl (pm_yK_t hy (br_t rfl (pm_ymake_f h40 (br_t (by decide) ⟨rfl, R⟩))))))))))
      · have hc4 : c < 40 := by omega
        refine pm_xV_t hc hx (br_f pm_n10 (pm_xK_t hy (br_f pm_n10 (br_f (pm_n40 hc4) (pm_xopn H hc4 hx (fun lbb pb la fp H2 hl => pm_xwrite H2 (by omega) hy (Nat.lt_succ_self c) (Or.inl rfl) hl (fun n2 ek ev he eV eL eT eN hn2 H3 _ => ?_)))))))
        rw [if_pos rfl] at H3
        refine pm_yV_t hc hx (br_t rfl (pm_yK_t hy (br_t rfl (pm_ymake J hc4 hx (fun qa th wo J2 => br_f (nI_pos (by omega)) ⟨pm_yin hc4 hy, nm_e ⟨rfl, ?_⟩⟩)))))
        rw [pm_ycl hc4 hy, pm_nar (Or.inl rfl)]
        exact pm_mk (by omega) H3 (pm_yup0 J2 hy)
    · exact pm_xV_t hc hx (br_f pm_n10 (pm_xK_f h2 (br_t rfl (pm_yV_t hc hx (br_t rfl (pm_yK_f h2 (br_f pm_n10 ⟨rfl, R⟩)))))))
  · exact pm_xV_f hc h1 (br_t rfl (pm_yV_f hc h1 (br_f pm_n10 ⟨rfl, R⟩)))
theorem i_vc_fill {k : Nat} {u : SX} {v : SY} (I : i_Rel k u v) (hk : k + 5 ≤ 2560) (v1 : Int32) (v2 : Int32) (v3 : Int32) (v4 : Int32) : wpX_fill (fun r u' => wpY_fill (fun r' v' => r' = r ∧ i_Rel (k + 5) u' v') v v1 v2 v3 v4) u v1 v2 v3 v4 := by
  obtain ⟨fc, fe, tn, vn, pa, la, fo, he, eV, eL, eT, eN⟩ := u
  obtain ⟨gc, qa, th, wo⟩ := v
  obtain ⟨c, n, pn, lab, ek, ev, A, rfl, rfl, rfl, hn, H, J⟩ := I
  have hc : c ≤ 40 := H.1.2.1
  have R : i_Rel (k + 5) (nI c, nI n, tn, vn, pa, la, fo, he, eV, eL, eT, eN) (nI c, qa, th, wo) := pm_mk hn H J
  unfold wpX_fill wpY_fill
  by_cases h1 : pm_ver c v1
  · obtain ⟨x, hx, rfl⟩ := h1
    by_cases h2 : pm_pl v2
    · obtain ⟨f, s, hf, hs1, hs8, h32, rfl⟩ := h2
      by_cases h40 : c = 40
      · refine pm_xV_t hc hx (br_f pm_n10 (pm_xP_t hf hs1 hs8 h32 (br_f pm_n10 (br_t (pm_y40 h40) (pm_yV_t hc hx (br_t rfl (pm_yP_t hf hs1 hs8 h32 (br_t rfl (pm_ymake_f h40 ⟨1, pm_n16, ?_⟩)))))))))
        rw [pm_pl_rem f s hf hs8]
        exact br_f (nI_ge (a := 0) (by omega) (by omega)) (br_t (by decide) ⟨rfl, R⟩)
      · have hc4 : c < 40 := by omega
        refine pm_xV_t hc hx (br_f pm_n10 (pm_xP_t hf hs1 hs8 h32 (br_f pm_n10 (br_f (pm_n40 hc4) (pm_xopn H hc4 hx (fun lbb pb la fp H2 hl => nm_r (pm_pl_shr f s hf hs8) ⟨s + 1, pm_xfillL (N := n) (Nat.lt_succ_self c) hf hs8 h32 (by omega) (fun n tn vn ek ev he eV eL eT eN hn2 H3 => ?_) s 0 n tn vn ek ev he eV eL eT eN (by omega) (by omega) H2 hl⟩))))))
        exact pm_yV_t hc hx (br_t rfl (pm_yP_t hf hs1 hs8 h32 (br_t rfl (pm_ymake J hc4 hx (fun qa th wo J2 => ⟨s + 1, pm_yfillL (Nat.lt_succ_self c) hf hs8 h32 (fun th wo J3 => ⟨rfl, pm_mk (by omega) H3 J3⟩) s 0 th wo (by omega) J2⟩)))))
    · exact pm_xV_t hc hx (br_f pm_n10 (pm_xP_f h2 (br_t rfl (pm_yV_t hc hx (br_t rfl (pm_yP_f h2 (br_f pm_n10 ⟨rfl, R⟩)))))))
  · exact pm_xV_f hc h1 (br_t rfl (pm_yV_f hc h1 (br_f pm_n10 ⟨rfl, R⟩)))
theorem i_vc_graft {k : Nat} {u : SX} {v : SY} (I : i_Rel k u v) (hk : k + 5 ≤ 2560) (v1 : Int32) (v2 : Int32) (v3 : Int32) : wpX_graft (fun r u' => wpY_graft (fun r' v' => r' = r ∧ i_Rel (k + 5) u' v') v v1 v2 v3) u v1 v2 v3 := by
  obtain ⟨fc, fe, tn, vn, pa, la, fo, he, eV, eL, eT, eN⟩ := u
  obtain ⟨gc, qa, th, wo⟩ := v
  obtain ⟨c, n, pn, lab, ek, ev, A, rfl, rfl, rfl, hn, H, J⟩ := I
  have hc : c ≤ 40 := H.1.2.1
  have R : i_Rel (k + 5) (nI c, nI n, tn, vn, pa, la, fo, he, eV, eL, eT, eN) (nI c, qa, th, wo) := pm_mk hn H J
  unfold wpX_graft wpY_graft
  by_cases h1 : pm_ver c v1
  · obtain ⟨x, hx, rfl⟩ := h1
    by_cases h2 : pm_ver c v2
    · obtain ⟨w, hw, rfl⟩ := h2
      by_cases h3 : pm_pl v3
      · obtain ⟨f, s, hf, hs1, hs8, h32, rfl⟩ := h3
        by_cases h40 : c = 40
        · refine pm_xV_t hc hx (br_f pm_n10 (pm_xV_t hc hw (br_f pm_n10 (pm_xP_t hf hs1 hs8 h32 (br_f pm_n10 (br_t (pm_y40 h40) (pm_yV_t hc hx (br_t rfl (pm_yV_t hc hw (br_t rfl (pm_yP_t hf hs1 hs8 h32 (br_t rfl (pm_ymake_f h40 ⟨1, pm_n16, ?_⟩)))))))))))))
          rw [pm_pl_rem f s hf hs8]
          exact br_f (nI_ge (a := 0) (by omega) (by omega)) (br_t (by decide) ⟨rfl, R⟩)
        · have hc4 : c < 40 := by omega
          refine pm_xV_t hc hx (br_f pm_n10 (pm_xV_t hc hw (br_f pm_n10 (pm_xP_t hf hs1 hs8 h32 (br_f pm_n10 (br_f (pm_n40 hc4) (pm_xopn H hc4 hx (fun lbb pb la fp H2 hl => nm_r (pm_pl_shr f s hf hs8) ⟨s + 1, pm_xgraftL (N := n) (by omega) (Nat.lt_succ_self c) hf hs8 h32 (by omega) (fun n tn vn ek ev he eV eL eT eN hn2 H3 => ?_) s 0 n tn vn ek ev he eV eL eT eN (by omega) (by omega) H2 hl⟩))))))))
          exact pm_yV_t hc hx (br_t rfl (pm_yV_t hc hw (br_t rfl (pm_yP_t hf hs1 hs8 h32 (br_t rfl (pm_ymake J hc4 hx (fun qa th wo J2 => ⟨s + 1, pm_ygraftL (by omega) (Nat.lt_succ_self c) hf hs8 h32 (fun th wo J3 => ⟨rfl, pm_mk (by omega) H3 J3⟩) s 0 th wo (by omega) J2⟩)))))))
      · exact pm_xV_t hc hx (br_f pm_n10 (pm_xV_t hc hw (br_f pm_n10 (pm_xP_f h3 (br_t rfl (pm_yV_t hc hx (br_t rfl (pm_yV_t hc hw (br_t rfl (pm_yP_f h3 (br_f pm_n10 ⟨rfl, R⟩)))))))))))
    · exact pm_xV_t hc hx (br_f pm_n10 (pm_xV_f hc h2 (br_t rfl (pm_yV_t hc hx (br_t rfl (pm_yV_f hc h2 (br_f pm_n10 ⟨rfl, R⟩)))))))
  · exact pm_xV_f hc h1 (br_t rfl (pm_yV_f hc h1 (br_f pm_n10 ⟨rfl, R⟩)))
theorem i_vc_exchange {k : Nat} {u : SX} {v : SY} (I : i_Rel k u v) (hk : k + 5 ≤ 2560) (v1 : Int32) (v2 : Int32) (v3 : Int32) : wpX_exchange (fun r u' => wpY_exchange (fun r' v' => r' = r ∧ i_Rel (k + 5) u' v') v v1 v2 v3) u v1 v2 v3 := by
  obtain ⟨fc, fe, tn, vn, pa, la, fo, he, eV, eL, eT, eN⟩ := u
  obtain ⟨gc, qa, th, wo⟩ := v
  obtain ⟨c, n, pn, lab, ek, ev, A, rfl, rfl, rfl, hn, H, J⟩ := I
  have hc : c ≤ 40 := H.1.2.1
  have R : i_Rel (k + 5) (nI c, nI n, tn, vn, pa, la, fo, he, eV, eL, eT, eN) (nI c, qa, th, wo) := pm_mk hn H J
  unfold wpX_exchange wpY_exchange
  by_cases h1 : pm_ver c v1
  · obtain ⟨x, hx, rfl⟩ := h1
    by_cases h2 : pm_ver 32 v2
    · obtain ⟨y, hy, rfl⟩ := h2
      by_cases h3 : pm_ver 32 v3
      · obtain ⟨z, hz, rfl⟩ := h3
        by_cases h40 : c = 40
        · exact pm_xV_t hc hx (br_f pm_n10 (pm_xK_t hy (br_f pm_n10 (pm_xK_t hz (br_f pm_n10 (br_t (pm_y40 h40) (pm_yV_t hc hx (br_t rfl (pm_yK_t hy (br_t rfl (pm_yK_t hz (br_t rfl (pm_ymake_f h40 (br_t (by decide) ⟨rfl, R⟩))))))))))))))
        · have hc4 : c < 40 := by omega
          have hcc : c < c + 1 := Nat.lt_succ_self c
          refine pm_xV_t hc hx (br_f pm_n10 (pm_xK_t hy (br_f pm_n10 (pm_xK_t hz (br_f pm_n10 (br_f (pm_n40 hc4) (pm_xopn H hc4 hx (fun lbb pb la fp H2 hl => ?_))))))))
          refine pm_look H2 hy (by omega) (pm_look H2 hz (by omega) (pm_xwrite H2 (by omega) hy hcc (pm_th01 _) hl (fun n2 ek ev he eV eL eT eN hn2 H3 hl3 => pm_xwrite H3 (by omega) hz hcc (pm_th01 _) hl3 (fun n4 ek ev he eV eL eT eN hn4 H4 _ => ?_))))
          rw [pm_opt, pm_opt] at H4
          refine pm_yV_t hc hx (br_t rfl (pm_yK_t hy (br_t rfl (pm_yK_t hz (br_t rfl (pm_ymake J hc4 hx (fun qa th wo J2 => br_f (nI_pos (by omega)) (pm_ycopy J2 (by omega) hy hcc hz (fun th wo J3 => pm_ycopy J3 (by omega) hz hcc hy (fun th wo J4 => ⟨rfl, pm_mk (by omega) H4 ?_⟩))))))))))
          rw [pm_exch (by omega)] at J4
          exact J4
      · exact pm_xV_t hc hx (br_f pm_n10 (pm_xK_t hy (br_f pm_n10 (pm_xK_f h3 (br_t rfl (pm_yV_t hc hx (br_t rfl (pm_yK_t hy (br_t rfl (pm_yK_f h3 (br_f pm_n10 ⟨rfl, R⟩)))))))))))
    · exact pm_xV_t hc hx (br_f pm_n10 (pm_xK_f h2 (br_t rfl (pm_yV_t hc hx (br_t rfl (pm_yK_f h2 (br_f pm_n10 ⟨rfl, R⟩)))))))
  · exact pm_xV_f hc h1 (br_t rfl (pm_yV_f hc h1 (br_f pm_n10 ⟨rfl, R⟩)))
end
