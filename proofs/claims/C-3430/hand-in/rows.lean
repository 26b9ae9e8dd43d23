section
/-! rows of kit/rows (pk_, bt, b_, s_): starting text -/
theorem pk_us {f : Nat → Int32} {k : Nat} {x : Int32} : upd f k x k = x := if_pos rfl
theorem pk_un {f : Nat → Int32} {k j : Nat} {x : Int32} (h : j ≠ k) : upd f k x j = f j := if_neg h
theorem pk_m1 (n : Nat) : nI (n + 1) + (-1) = nI n := by
  rw [← nI_1, Int32.add_assoc, show (1 : Int32) + (-1) = 0 from rfl, Int32.add_zero]
def bt (x : Int32) (i : Nat) : Bool := x.toBitVec.getLsbD i
theorem b_ext {x y : Int32} (h : ∀ i, i < 32 → bt x i = bt y i) : x = y := Int32.toBitVec_inj.mp (BitVec.eq_of_getLsbD_eq (fun i hi => h i hi))
theorem b_or (x y : Int32) (i : Nat) : bt (x ||| y) i = (bt x i || bt y i) := by unfold bt; rw [Int32.toBitVec_or, BitVec.getLsbD_or]
theorem b_and (x y : Int32) (i : Nat) : bt (x &&& y) i = (bt x i && bt y i) := by unfold bt; rw [Int32.toBitVec_and, BitVec.getLsbD_and]
theorem b_0 (i : Nat) : bt 0 i = false := BitVec.getLsbD_zero
theorem s_l : ∀ n, n < 32 → ((nI n &&& 31).toBitVec.smod 32).toNat = n := by decide +kernel
theorem s_u : ∀ n, n < 32 → (((nI n).toUInt32 &&& Int32.toUInt32 31).toBitVec % 32).toNat = n := by decide +kernel
theorem b_shl (n : Nat) (hn : n < 32) (x : Int32) {i : Nat} (hi : i < 32) : bt (x <<< (nI n &&& 31)) i = (decide (n ≤ i) && bt x (i - n)) := by
  unfold bt
  rw [Int32.toBitVec_shiftLeft]
  show (x.toBitVec <<< ((nI n &&& 31).toBitVec.smod 32).toNat).getLsbD i = _
  rw [s_l n hn, BitVec.getLsbD_shiftLeft]
  rcases Nat.lt_or_ge i n with h | h
  · simp [h, Nat.not_le.mpr h]
  · simp [hi, h, Nat.not_lt.mpr h]
theorem b_ushr (n : Nat) (hn : n < 32) (x : Int32) (i : Nat) : bt ((x.toUInt32 >>> ((nI n).toUInt32 &&& Int32.toUInt32 31)).toInt32) i = bt x (n + i) := by
  show (x.toUInt32 >>> ((nI n).toUInt32 &&& Int32.toUInt32 31)).toBitVec.getLsbD i = x.toUInt32.toBitVec.getLsbD (n + i)
  rw [UInt32.toBitVec_shiftRight]
  show (x.toUInt32.toBitVec >>> (((nI n).toUInt32 &&& Int32.toUInt32 31).toBitVec % 32).toNat).getLsbD i = _
  rw [s_u n hn, BitVec.getLsbD_ushiftRight]
theorem b_sshr (n : Nat) (hn : n < 32) (x : Int32) {i : Nat} (hi : i < 32) : bt (x >>> (nI n &&& 31)) i = if n + i < 32 then bt x (n + i) else bt x 31 := by
  unfold bt
  rw [Int32.toBitVec_shiftRight]
  show (x.toBitVec.sshiftRight ((nI n &&& 31).toBitVec.smod 32).toNat).getLsbD i = _
  rw [s_l n hn, BitVec.getLsbD_sshiftRight, BitVec.msb_eq_getLsbD_last]
  simp [hi]
/-! own rows: one bit, counts and sums -/
theorem ac_b1 : ∀ i, i < 32 → bt 1 i = decide (i = 0) := by decide +kernel
theorem ac_bit0 {x : Int32} : x &&& 1 = 0 ↔ bt x 0 = false := by
  constructor
  · intro h
    have e : bt (x &&& 1) 0 = false := by rw [h]; exact b_0 0
    rw [b_and, ac_b1 0 (by decide)] at e
    simpa using e
  · intro h
    apply b_ext
    intro i hi
    rw [b_and, ac_b1 i hi, b_0]
    by_cases z : i = 0
    · subst z; simp [h]
    · simp [z]
theorem ac_bitU {x : Int32} {n : Nat} (hn : n < 32) : ((x.toUInt32 >>> ((nI n).toUInt32 &&& Int32.toUInt32 31)).toInt32) &&& 1 = 0 ↔ bt x n = false := by
  rw [ac_bit0, b_ushr n hn]; rfl
theorem ac_bitS {x : Int32} {n : Nat} (hn : n < 31) : (x >>> (nI n &&& 31)) &&& 1 = 0 ↔ bt x n = false := by
  rw [ac_bit0, b_sshr n (by omega) x (by decide), if_pos (by omega)]; rfl
theorem ac_bor {x : Int32} {n i : Nat} (hn : n < 32) (hi : i < 32) : bt (x ||| ((1 : Int32) <<< (nI n &&& 31))) i = (bt x i || decide (i = n)) := by
  rw [b_or, b_shl n hn _ hi]
  congr 1
  rcases Nat.lt_or_ge i n with h | h
  · have h1 : ¬ n ≤ i := by omega
    have h2 : ¬ i = n := by omega
    simp [h1, h2]
  · rw [ac_b1 _ (by omega)]
    by_cases z : i = n
    · subst z; simp
    · have h2 : ¬ i - n = 0 := by omega
      simp [h, h2, z]
noncomputable def ac_b (P : Prop) : Nat := @ite Nat P (Classical.propDecidable P) 1 0
theorem ac_bt {P : Prop} (h : P) : ac_b P = 1 := by unfold ac_b; rw [if_pos h]
theorem ac_bf {P : Prop} (h : ¬ P) : ac_b P = 0 := by unfold ac_b; rw [if_neg h]
theorem ac_ble (P : Prop) : ac_b P ≤ 1 := by
  rcases Classical.em P with h | h
  · rw [ac_bt h]; omega
  · rw [ac_bf h]; omega
theorem ac_bm {P Q : Prop} (h : P → Q) : ac_b P ≤ ac_b Q := by
  rcases Classical.em P with hp | hp
  · rw [ac_bt hp, ac_bt (h hp)]; omega
  · rw [ac_bf hp]; omega
theorem ac_be {P Q : Prop} (h : P ↔ Q) : ac_b P = ac_b Q := Nat.le_antisymm (ac_bm h.mp) (ac_bm h.mpr)
def ac_sm (f : Nat → Nat) : Nat → Nat
  | 0 => 0
  | k + 1 => ac_sm f k + f k
theorem ac_sm_le {f g : Nat → Nat} : ∀ {n : Nat}, (∀ k, k < n → f k ≤ g k) → ac_sm f n ≤ ac_sm g n
  | 0, _ => Nat.le_refl _
  | n + 1, h => by
    have a := ac_sm_le (f := f) (g := g) (n := n) (fun k hk => h k (by omega))
    have b := h n (by omega)
    simp only [ac_sm]; omega
theorem ac_sm_eq {f g : Nat → Nat} {n : Nat} (h : ∀ k, k < n → f k = g k) : ac_sm f n = ac_sm g n :=
  Nat.le_antisymm (ac_sm_le fun k hk => Nat.le_of_eq (h k hk)) (ac_sm_le fun k hk => Nat.le_of_eq (h k hk).symm)
theorem ac_sm_ex {f g : Nat → Nat} {a : Nat} : ∀ {n : Nat}, (∀ k, k < n → k ≠ a → f k = g k) → a < n → ac_sm f n + g a = ac_sm g n + f a
  | 0, _, h => by omega
  | n + 1, h, ha => by
    simp only [ac_sm]
    rcases Nat.lt_or_ge a n with z | z
    · have x := ac_sm_ex (f := f) (g := g) (n := n) (fun k hk => h k (by omega)) z
      have b := h n (by omega) (by omega)
      omega
    · have e : a = n := by omega
      subst e
      have x := ac_sm_eq (f := f) (g := g) (n := a) (fun k hk => h k (by omega) (by omega))
      omega
theorem ac_sm_lt {f g : Nat → Nat} {a : Nat} : ∀ {n : Nat}, (∀ k, k < n → f k ≤ g k) → a < n → f a < g a → ac_sm f n < ac_sm g n
  | 0, _, h, _ => by omega
  | n + 1, h, ha, hl => by
    simp only [ac_sm]
    rcases Nat.lt_or_ge a n with z | z
    · have x := ac_sm_lt (f := f) (g := g) (n := n) (fun k hk => h k (by omega)) z hl
      have b := h n (by omega)
      omega
    · have e : a = n := by omega
      subst e
      have x := ac_sm_le (f := f) (g := g) (n := a) (fun k hk => h k (by omega))
      omega
theorem ac_sm_bd {f : Nat → Nat} {B : Nat} : ∀ {n : Nat}, (∀ k, k < n → f k ≤ B) → ac_sm f n ≤ B * n
  | 0, _ => Nat.zero_le _
  | n + 1, h => by
    have a := ac_sm_bd (f := f) (B := B) (n := n) (fun k hk => h k (by omega))
    have b := h n (by omega)
    simp only [ac_sm, Nat.mul_succ]; omega
noncomputable def ac_cn (P : Nat → Prop) (n : Nat) : Nat := ac_sm (fun k => ac_b (P k)) n
theorem ac_cn_s (P : Nat → Prop) (n : Nat) : ac_cn P (n + 1) = ac_cn P n + ac_b (P n) := rfl
theorem ac_cn_eq {P Q : Nat → Prop} {n : Nat} (h : ∀ k, k < n → (P k ↔ Q k)) : ac_cn P n = ac_cn Q n := ac_sm_eq fun k hk => ac_be (h k hk)
theorem ac_cn_le {P Q : Nat → Prop} {n : Nat} (h : ∀ k, k < n → P k → Q k) : ac_cn P n ≤ ac_cn Q n := ac_sm_le fun k hk => ac_bm (h k hk)
theorem ac_cn_lt {P Q : Nat → Prop} {n a : Nat} (h : ∀ k, k < n → P k → Q k) (ha : a < n) (hp : ¬ P a) (hq : Q a) : ac_cn P n < ac_cn Q n :=
  ac_sm_lt (a := a) (fun k hk => ac_bm (h k hk)) ha (by rw [ac_bf hp, ac_bt hq]; omega)
theorem ac_cn_all {P : Nat → Prop} : ∀ {n : Nat}, (∀ k, k < n → P k) → ac_cn P n = n
  | 0, _ => rfl
  | n + 1, h => by rw [ac_cn_s, ac_cn_all (n := n) (fun k hk => h k (by omega)), ac_bt (h n (by omega))]
theorem ac_cn_up (P : Nat → Prop) (n : Nat) : ac_cn P n ≤ n := by
  have h := ac_cn_le (P := P) (Q := fun _ => True) (n := n) (fun _ _ _ => trivial)
  rw [ac_cn_all (P := fun _ => True) (fun _ _ => trivial)] at h
  exact h
theorem ac_cn_room {P : Nat → Prop} {n a : Nat} (ha : a < n) (hp : ¬ P a) : ac_cn P n < n := by
  have h := ac_cn_lt (P := P) (Q := fun _ => True) (n := n) (fun _ _ _ => trivial) ha hp trivial
  rw [ac_cn_all (P := fun _ => True) (fun _ _ => trivial)] at h
  exact h
theorem ac_cn_pos {P : Nat → Prop} {n a : Nat} (ha : a < n) (hp : P a) : 1 ≤ ac_cn P n := by
  have h := ac_cn_lt (P := fun _ => False) (Q := P) (n := n) (fun _ _ z => z.elim) ha (fun z => z) hp
  omega
theorem ac_cn_add {P Q : Nat → Prop} {n a : Nat} (h : ∀ k, k < n → k ≠ a → (P k ↔ Q k)) (ha : a < n) (hp : ¬ P a) (hq : Q a) : ac_cn Q n = ac_cn P n + 1 := by
  have x := ac_sm_ex (f := fun k => ac_b (P k)) (g := fun k => ac_b (Q k)) (n := n) (a := a) (fun k hk hn => ac_be (h k hk hn)) ha
  rw [ac_bf hp, ac_bt hq] at x
  exact x.symm
/-! ints: small numbers, -1 -/
theorem ac_inj {a b : Nat} (ha : a < 2 ^ 31) (hb : b < 2 ^ 31) (h : nI a = nI b) : a = b := (nI_eq ha hb).mp h
theorem ac_m1ne {a : Nat} (ha : a < 2 ^ 31) : ¬ (-1 : Int32) = nI a := fun h => nI_pos ha (h ▸ (by decide))
theorem ac_in {a N : Nat} (h : a < N) (hN : N < 2 ^ 31) : vp_in (nI a) N := vp_in_nI h hN
theorem ac_upd {f : Nat → Int32} {i : Nat} {x : Int32} (h : f i = x) : upd f i x = f := by
  funext j
  by_cases z : j = i
  · subst z; rw [pk_us, h]
  · rw [pk_un z]
theorem ac_nb1 : vp_nar .boolean 1 = 1 := rfl
theorem ac_nb0 : vp_nar .boolean 0 = 0 := rfl
end
section
/-! completions of a state (c, T): c gives the name of the set that a variable lies in, T what a root points at -/
def ac_Fr (E P : Nat → Nat → Prop) : Prop :=
  (∀ a, E a a) ∧ (∀ a b, E a b → E b a) ∧ (∀ a b d, E a b → E b d → E a d) ∧ (∀ a b d, E a b → P a d → P b d) ∧ (∀ a b d, E b d → P a b → P a d) ∧ (∀ a b d, P a b → P a d → E b d)
def ac_Co (c : Nat → Nat) (T : Nat → Option Nat) (E P : Nat → Nat → Prop) : Prop :=
  ac_Fr E P ∧ (∀ a, E a (c a)) ∧ (∀ r y, c r = r → T r = some y → P r y)
def ac_E (c : Nat → Nat) (a b : Nat) : Prop := c a = c b
def ac_P (c : Nat → Nat) (T : Nat → Option Nat) (a b : Nat) : Prop := ∃ y, T (c a) = some y ∧ c y = c b
def ac_Cl (c : Nat → Nat) : Prop := (∀ v, c (c v) = c v) ∧ (∀ v, v < 12 → c v < 12)
def ac_TB (T : Nat → Option Nat) : Prop := ∀ r y, T r = some y → y < 12
theorem ac_self {c : Nat → Nat} {T : Nat → Option Nat} (hc : ac_Cl c) : ac_Co c T (ac_E c) (ac_P c T) := by
  refine ⟨⟨fun _ => rfl, fun _ _ h => h.symm, fun _ _ _ h k => h.trans k, ?_, ?_, ?_⟩, ?_, ?_⟩
  · rintro a b d h ⟨y, h1, h2⟩
    exact ⟨y, by rw [← (show c a = c b from h)]; exact h1, h2⟩
  · rintro a b d h ⟨y, h1, h2⟩
    exact ⟨y, h1, h2.trans h⟩
  · rintro a b d ⟨y, h1, h2⟩ ⟨z, h3, h4⟩
    rw [h1] at h3
    cases h3
    exact h2.symm.trans h4
  · intro a
    exact (hc.1 a).symm
  · intro r y h1 h2
    exact ⟨y, by rw [h1]; exact h2, rfl⟩
theorem ac_coE {c : Nat → Nat} {T : Nat → Option Nat} {E P : Nat → Nat → Prop} {a b : Nat} (h : ac_Co c T E P) (e : c a = c b) : E a b := by
  obtain ⟨⟨_, hs, ht, _⟩, h1, _⟩ := h
  have x := hs _ _ (h1 b)
  rw [← e] at x
  exact ht _ _ _ (h1 a) x
theorem ac_coP {c : Nat → Nat} {T : Nat → Option Nat} {E P : Nat → Nat → Prop} {a y : Nat} (hc : ac_Cl c) (h : ac_Co c T E P) (e : T (c a) = some y) : P a y := by
  obtain ⟨⟨_, hs, ht, hp, _⟩, h1, h2⟩ := h
  exact hp _ _ _ (hs _ _ (h1 a)) (h2 _ _ (hc.1 a) e)
/-- E, P of a completion respect these names -/
theorem ac_coEc {c : Nat → Nat} {T : Nat → Option Nat} {E P : Nat → Nat → Prop} {a b : Nat} (h : ac_Co c T E P) : E a b ↔ E (c a) (c b) := by
  obtain ⟨⟨_, hs, ht, _⟩, h1, _⟩ := h
  exact ⟨fun x => ht _ _ _ (hs _ _ (h1 a)) (ht _ _ _ x (h1 b)), fun x => ht _ _ _ (h1 a) (ht _ _ _ x (hs _ _ (h1 b)))⟩
theorem ac_coPc {c : Nat → Nat} {T : Nat → Option Nat} {E P : Nat → Nat → Prop} {a b : Nat} (h : ac_Co c T E P) : P a b ↔ P (c a) (c b) := by
  obtain ⟨⟨_, hs, ht, hp, hq, _⟩, h1, _⟩ := h
  exact ⟨fun x => hp _ _ _ (h1 a) (hq _ _ _ (h1 b) x), fun x => hp _ _ _ (hs _ _ (h1 a)) (hq _ _ _ (hs _ _ (h1 b)) x)⟩
/-! a join of the roots x, y -/
def ac_jc (c : Nat → Nat) (x y : Nat) : Nat → Nat := fun v => if c v = y then x else c v
def ac_jT (T : Nat → Option Nat) (x y : Nat) : Nat → Option Nat := fun v => if v = x then (T x).or (T y) else T v
theorem ac_jc_y {c : Nat → Nat} {x y v : Nat} (h : c v = y) : ac_jc c x y v = x := if_pos h
theorem ac_jc_n {c : Nat → Nat} {x y v : Nat} (h : ¬ c v = y) : ac_jc c x y v = c v := if_neg h
theorem ac_jT_x {T : Nat → Option Nat} {x y : Nat} : ac_jT T x y x = (T x).or (T y) := if_pos rfl
theorem ac_jT_n {T : Nat → Option Nat} {x y v : Nat} (h : ¬ v = x) : ac_jT T x y v = T v := if_neg h
theorem ac_jT_xs {T : Nat → Option Nat} {x y p : Nat} (h : T x = some p) : ac_jT T x y x = some p := by rw [ac_jT_x, h]; rfl
theorem ac_jT_xn {T : Nat → Option Nat} {x y : Nat} (h : T x = none) : ac_jT T x y x = T y := by rw [ac_jT_x, h]; rfl
theorem ac_jT_s {T : Nat → Option Nat} {x y p : Nat} (h : T x = some p) : ac_jT T x y = T := by
  funext v
  by_cases z : v = x
  · subst z; rw [ac_jT_xs h, h]
  · rw [ac_jT_n z]
theorem ac_jc_root {c : Nat → Nat} {x y r : Nat} (hx : c x = x) (hne : x ≠ y) (h : ac_jc c x y r = r) : c r = r ∧ r ≠ y := by
  by_cases z : c r = y
  · rw [ac_jc_y z] at h
    subst h
    exact absurd (hx.symm.trans z) hne
  · rw [ac_jc_n z] at h
    exact ⟨h, fun e => z (h.trans e)⟩
theorem ac_jc_keep {c : Nat → Nat} {x y r : Nat} (h : c r = r) (hr : r ≠ y) : ac_jc c x y r = r := by
  rw [ac_jc_n (by rw [h]; exact hr), h]
theorem ac_join {c : Nat → Nat} {T : Nat → Option Nat} {E P : Nat → Nat → Prop} {x y : Nat} (hx : c x = x) (hy : c y = y) (hne : x ≠ y) :
    (ac_Co c T E P ∧ E x y) ↔ (ac_Co (ac_jc c x y) (ac_jT T x y) E P ∧ ∀ p q, T x = some p → T y = some q → E p q) := by
  constructor
  · rintro ⟨⟨F, h1, h2⟩, hxy⟩
    obtain ⟨hr, hs, ht, hp, hq, hf⟩ := id F
    refine ⟨⟨F, ?_, ?_⟩, ?_⟩
    · intro a
      by_cases z : c a = y
      · rw [ac_jc_y z]
        have := h1 a
        rw [z] at this
        exact ht _ _ _ this (hs _ _ hxy)
      · rw [ac_jc_n z]; exact h1 a
    · intro r z e1 e2
      obtain ⟨e3, e4⟩ := ac_jc_root hx hne e1
      by_cases e : r = x
      · subst e
        cases hT : T r with
        | some p => rw [ac_jT_xs hT] at e2; cases e2; exact h2 _ _ e3 hT
        | none => rw [ac_jT_xn hT] at e2; exact hp _ _ _ (hs _ _ hxy) (h2 _ _ hy e2)
      · rw [ac_jT_n e] at e2; exact h2 _ _ e3 e2
    · intro p q e1 e2
      exact hf _ _ _ (h2 _ _ hx e1) (hp _ _ _ (hs _ _ hxy) (h2 _ _ hy e2))
  · rintro ⟨⟨F, h1, h2⟩, h3⟩
    obtain ⟨hr, hs, ht, hp, hq, hf⟩ := id F
    have hyx : E y x := by have := h1 y; rw [ac_jc_y hy] at this; exact this
    have hxr : ac_jc c x y x = x := ac_jc_keep hx hne
    refine ⟨⟨F, ?_, ?_⟩, hs _ _ hyx⟩
    · intro a
      by_cases z : c a = y
      · have := h1 a
        rw [ac_jc_y z] at this
        rw [z]
        exact ht _ _ _ this (hs _ _ hyx)
      · have := h1 a
        rw [ac_jc_n z] at this
        exact this
    · intro r z e1 e2
      by_cases e : r = y
      · subst e
        cases hT : T x with
        | some p => exact hp _ _ _ (hs _ _ hyx) (hq _ _ _ (h3 _ _ hT e2) (h2 _ _ hxr (ac_jT_xs hT)))
        | none => exact hp _ _ _ (hs _ _ hyx) (h2 _ _ hxr ((ac_jT_xn hT).trans e2))
      · refine h2 _ _ (ac_jc_keep e1 e) ?_
        by_cases e' : r = x
        · subst e'; exact ac_jT_xs e2
        · rw [ac_jT_n e']; exact e2
theorem ac_jc_Cl {c : Nat → Nat} {x y : Nat} (hc : ac_Cl c) (hx : c x = x) (hne : x ≠ y) (hl : x < 12) : ac_Cl (ac_jc c x y) := by
  have hxr : ac_jc c x y x = x := ac_jc_keep hx hne
  constructor
  · intro v
    by_cases z : c v = y
    · rw [ac_jc_y z, hxr]
    · rw [ac_jc_n z, ac_jc_keep (hc.1 v) z]
  · intro v hv
    by_cases z : c v = y
    · rw [ac_jc_y z]; exact hl
    · rw [ac_jc_n z]; exact hc.2 v hv
theorem ac_jT_TB {T : Nat → Option Nat} {x y : Nat} (h : ac_TB T) : ac_TB (ac_jT T x y) := by
  intro r z e
  by_cases e' : r = x
  · subst e'
    cases hT : T r with
    | some p => rw [ac_jT_xs hT] at e; exact h r z (hT.trans e)
    | none => rw [ac_jT_xn hT] at e; exact h _ _ e
  · rw [ac_jT_n e'] at e; exact h _ _ e
noncomputable def ac_rt (c : Nat → Nat) : Nat := ac_cn (fun r => c r = r) 12
theorem ac_rt_le (c : Nat → Nat) : ac_rt c ≤ 12 := ac_cn_up _ _
theorem ac_rt_pos {c : Nat → Nat} (hc : ac_Cl c) : 1 ≤ ac_rt c := ac_cn_pos (a := c 0) (hc.2 0 (by decide)) (hc.1 0)
theorem ac_rt_join {c : Nat → Nat} {x y : Nat} (hx : c x = x) (hy : c y = y) (hne : x ≠ y) (hl : y < 12) : ac_rt (ac_jc c x y) < ac_rt c :=
  ac_cn_lt (a := y) (fun _ _ h => (ac_jc_root hx hne h).1) hl (by rw [ac_jc_y hy]; exact hne) hy
noncomputable def ac_mu (c : Nat → Nat) (T : Nat → Option Nat) : Nat := ac_rt c + ac_cn (fun r => c r = r ∧ T r = none) 12
theorem ac_mu_join {c : Nat → Nat} {T : Nat → Option Nat} {x y : Nat} (hx : c x = x) (hy : c y = y) (hne : x ≠ y) (hl : y < 12) : ac_mu (ac_jc c x y) (ac_jT T x y) < ac_mu c T := by
  have a := ac_rt_join hx hy hne hl
  have b : ac_cn (fun r => ac_jc c x y r = r ∧ ac_jT T x y r = none) 12 ≤ ac_cn (fun r => c r = r ∧ T r = none) 12 := by
    refine ac_cn_le ?_
    rintro r _ ⟨e1, e2⟩
    refine ⟨(ac_jc_root hx hne e1).1, ?_⟩
    by_cases e : r = x
    · subst e
      cases hT : T r with
      | some p => rw [ac_jT_xs hT] at e2; exact e2
      | none => rfl
    · rw [ac_jT_n e] at e2; exact e2
  unfold ac_mu
  omega
/-! a root begins to point -/
def ac_uT (T : Nat → Option Nat) (r y : Nat) : Nat → Option Nat := fun v => if v = r then some y else T v
theorem ac_uT_r {T : Nat → Option Nat} {r y : Nat} : ac_uT T r y r = some y := if_pos rfl
theorem ac_uT_n {T : Nat → Option Nat} {r y v : Nat} (h : ¬ v = r) : ac_uT T r y v = T v := if_neg h
theorem ac_point {c : Nat → Nat} {T : Nat → Option Nat} {E P : Nat → Nat → Prop} {a b : Nat} (hc : ac_Cl c) (hn : T (c a) = none) :
    ac_Co c (ac_uT T (c a) b) E P ↔ (ac_Co c T E P ∧ P a b) := by
  constructor
  · rintro ⟨F, h1, h2⟩
    obtain ⟨hr, hs, ht, hp, hq, hf⟩ := id F
    refine ⟨⟨F, h1, ?_⟩, hp _ _ _ (hs _ _ (h1 a)) (h2 _ _ (hc.1 a) ac_uT_r)⟩
    intro r z e1 e2
    refine h2 _ _ e1 ?_
    rw [ac_uT_n]
    · exact e2
    · intro e
      rw [e, hn] at e2
      cases e2
  · rintro ⟨⟨F, h1, h2⟩, h3⟩
    obtain ⟨hr, hs, ht, hp, hq, hf⟩ := id F
    refine ⟨F, h1, ?_⟩
    intro r z e1 e2
    by_cases e : r = c a
    · subst e
      rw [ac_uT_r] at e2
      cases e2
      exact hp _ _ _ (h1 a) h3
    · rw [ac_uT_n e] at e2; exact h2 _ _ e1 e2
theorem ac_point2 {c : Nat → Nat} {T : Nat → Option Nat} {E P : Nat → Nat → Prop} {a b y : Nat} (hc : ac_Cl c) (hy : T (c a) = some y) (h : ac_Co c T E P) : P a b ↔ E y b := by
  have x := ac_coP hc h hy
  obtain ⟨⟨hr, hs, ht, hp, hq, hf⟩, h1, h2⟩ := h
  exact ⟨fun z => hf _ _ _ x z, fun z => hq _ _ _ z x⟩
theorem ac_uT_TB {T : Nat → Option Nat} {r y : Nat} (h : ac_TB T) (hy : y < 12) : ac_TB (ac_uT T r y) := by
  intro v z e
  by_cases e' : v = r
  · subst e'; rw [ac_uT_r] at e; cases e; exact hy
  · rw [ac_uT_n e'] at e; exact h _ _ e
theorem ac_mu_pt {c : Nat → Nat} {T : Nat → Option Nat} {r y : Nat} (hr : c r = r) (hl : r < 12) (hn : T r = none) : ac_mu c (ac_uT T r y) < ac_mu c T := by
  have b : ac_cn (fun v => c v = v ∧ ac_uT T r y v = none) 12 < ac_cn (fun v => c v = v ∧ T v = none) 12 := by
    refine ac_cn_lt (a := r) ?_ hl ?_ ⟨hr, hn⟩
    · rintro v _ ⟨e1, e2⟩
      refine ⟨e1, ?_⟩
      by_cases e : v = r
      · subst e; exact hn
      · rw [ac_uT_n e] at e2; exact e2
    · rintro ⟨_, e2⟩
      rw [ac_uT_r] at e2
      cases e2
  unfold ac_mu
  omega
/-! the rules -/
def ac_Ru (kd : Int32) (l r : Nat) (P : Nat → Nat → Prop) : Prop :=
  (kd = 0 → P l r) ∧ (kd = 1 → ∀ z, P r z → P l z) ∧ (kd = 2 → ∀ z w, P r z → P z w → P l w) ∧ (kd = 3 → ∀ z w, P l z → P r w → P z w)
def ac_Dn (kd : Int32) (l r : Nat) (P : Nat → Nat → Prop) : Prop :=
  (kd = 0 ∧ P l r) ∨ (kd = 1 ∧ ∃ z, P r z ∧ P l z) ∨ (kd = 2 ∧ ∃ z w, P r z ∧ P z w ∧ P l w) ∨ (kd = 3 ∧ ∃ z w, P l z ∧ P r w ∧ P z w)
def ac_Bk (kd : Int32) (l r : Nat) (c : Nat → Nat) (T : Nat → Option Nat) (w : Nat) : Prop :=
  (kd = 1 ∧ w = r) ∨ (kd = 2 ∧ (w = r ∨ ∀ E P, ac_Co c T E P → P r w)) ∨ (kd = 3 ∧ (w = l ∨ w = r))
def ac_Cd (m : Nat) (ko : Nat → Int32) (L R : Nat → Nat) (E P : Nat → Nat → Prop) : Prop := ac_Fr E P ∧ ∀ k, k < m → ac_Ru (ko k) (L k) (R k) P
def ac_Sol (m : Nat) (ko : Nat → Int32) (L R : Nat → Nat) (E P : Nat → Nat → Prop) : Prop :=
  ac_Cd m ko L R E P ∧ ∀ E' P', ac_Cd m ko L R E' P' → (∀ a b, E a b → E' a b) ∧ (∀ a b, P a b → P' a b)
theorem ac_Sol_E {m : Nat} {ko : Nat → Int32} {L R : Nat → Nat} {E P E' P' : Nat → Nat → Prop} (h : ac_Sol m ko L R E P) (h' : ac_Sol m ko L R E' P') (a b : Nat) : E a b ↔ E' a b :=
  ⟨(h.2 _ _ h'.1).1 a b, (h'.2 _ _ h.1).1 a b⟩
theorem ac_Sol_P {m : Nat} {ko : Nat → Int32} {L R : Nat → Nat} {E P E' P' : Nat → Nat → Prop} (h : ac_Sol m ko L R E P) (h' : ac_Sol m ko L R E' P') (a b : Nat) : P a b ↔ P' a b :=
  ⟨(h.2 _ _ h'.1).2 a b, (h'.2 _ _ h.1).2 a b⟩
theorem ac_Sol_mk {m : Nat} {ko : Nat → Int32} {L R : Nat → Nat} {c : Nat → Nat} {T : Nat → Option Nat} (hc : ac_Cl c) (hs : ∀ E P, ac_Cd m ko L R E P → ac_Co c T E P) (hr : ∀ k, k < m → ac_Ru (ko k) (L k) (R k) (ac_P c T)) :
    ac_Sol m ko L R (ac_E c) (ac_P c T) := by
  refine ⟨⟨(ac_self hc).1, hr⟩, fun E' P' h => ⟨fun a b e => ac_coE (hs _ _ h) e, ?_⟩⟩
  rintro a b ⟨y, h1, h2⟩
  have x := hs _ _ h
  exact x.1.2.2.2.2.1 _ _ _ (ac_coE x h2) (ac_coP hc x h1)
theorem ac_Dn_Ru {kd : Int32} {l r : Nat} {E P : Nat → Nat → Prop} (F : ac_Fr E P) (h : ac_Dn kd l r P) : ac_Ru kd l r P := by
  obtain ⟨hr, hs, ht, hp, hq, hf⟩ := F
  rcases h with ⟨rfl, h⟩ | ⟨rfl, z, h1, h2⟩ | ⟨rfl, z, w, h1, h2, h3⟩ | ⟨rfl, z, w, h1, h2, h3⟩
  · exact ⟨fun _ => h, fun e => absurd e (by decide), fun e => absurd e (by decide), fun e => absurd e (by decide)⟩
  · exact ⟨fun e => absurd e (by decide), fun _ z' e => hq _ _ _ (hf _ _ _ h1 e) h2, fun e => absurd e (by decide), fun e => absurd e (by decide)⟩
  · exact ⟨fun e => absurd e (by decide), fun e => absurd e (by decide), fun _ z' w' e1 e2 => hq _ _ _ (hf _ _ _ h2 (hp _ _ _ (hs _ _ (hf _ _ _ h1 e1)) e2)) h3, fun e => absurd e (by decide)⟩
  · exact ⟨fun e => absurd e (by decide), fun e => absurd e (by decide), fun e => absurd e (by decide), fun _ z' w' e1 e2 => hp _ _ _ (hf _ _ _ h1 e1) (hq _ _ _ (hf _ _ _ h2 e2) h3)⟩
theorem ac_noP {c : Nat → Nat} {T : Nat → Option Nat} {w z : Nat} (hn : T (c w) = none) : ¬ ac_P c T w z := by
  rintro ⟨y, h, _⟩
  rw [hn] at h
  cases h
theorem ac_Bk_Ru {kd : Int32} {l r w : Nat} {c : Nat → Nat} {T : Nat → Option Nat} (hc : ac_Cl c) (hn : T (c w) = none) (h : ac_Bk kd l r c T w) : ac_Ru kd l r (ac_P c T) := by
  obtain ⟨hr, hs, ht, hp, hq, hf⟩ := (ac_self (T := T) hc).1
  rcases h with ⟨rfl, rfl⟩ | ⟨rfl, h⟩ | ⟨rfl, h⟩
  · exact ⟨fun e => absurd e (by decide), fun _ z e => absurd e (ac_noP hn), fun e => absurd e (by decide), fun e => absurd e (by decide)⟩
  · refine ⟨fun e => absurd e (by decide), fun e => absurd e (by decide), fun _ z u e1 e2 => ?_, fun e => absurd e (by decide)⟩
    rcases h with rfl | h
    · exact absurd e1 (ac_noP hn)
    · exact absurd (hp _ _ _ (hf _ _ _ e1 (h _ _ (ac_self hc))) e2) (ac_noP hn)
  · refine ⟨fun e => absurd e (by decide), fun e => absurd e (by decide), fun e => absurd e (by decide), fun _ z u e1 e2 => ?_⟩
    rcases h with rfl | rfl
    · exact absurd e1 (ac_noP hn)
    · exact absurd e2 (ac_noP hn)
theorem ac_Bk_mono {kd : Int32} {l r w : Nat} {c c' : Nat → Nat} {T T' : Nat → Option Nat} (hm : ∀ E P, ac_Co c' T' E P → ac_Co c T E P) (h : ac_Bk kd l r c T w) : ac_Bk kd l r c' T' w := by
  rcases h with h | ⟨h1, h | h⟩ | h
  · exact Or.inl h
  · exact Or.inr (Or.inl ⟨h1, Or.inl h⟩)
  · exact Or.inr (Or.inl ⟨h1, Or.inr fun E P x => h _ _ (hm _ _ x)⟩)
  · exact Or.inr (Or.inr h)
/-! premises that are still wanting -/
def ac_s1 (kd : Int32) (l r : Nat) (P : Nat → Nat → Prop) : Prop := (kd = 3 → ∃ z, P l z) ∧ (¬ kd = 3 → ∃ z, P r z)
def ac_s2 (kd : Int32) (l r : Nat) (P : Nat → Nat → Prop) : Prop := (kd = 2 → ∃ z w, P r z ∧ P z w) ∧ (¬ kd = 2 → ∃ z, P r z)
noncomputable def ac_lf (kd : Int32) (l r : Nat) (P : Nat → Nat → Prop) : Nat := ac_b (¬ ac_s1 kd l r P) + ac_b (¬ ac_s2 kd l r P)
theorem ac_lf_le (kd : Int32) (l r : Nat) (P : Nat → Nat → Prop) : ac_lf kd l r P ≤ 2 := by
  have a := ac_ble (¬ ac_s1 kd l r P)
  have b := ac_ble (¬ ac_s2 kd l r P)
  unfold ac_lf
  omega
theorem ac_s1_mono {kd : Int32} {l r : Nat} {P P' : Nat → Nat → Prop} (h : ∀ a b, P a b → P' a b) (x : ac_s1 kd l r P) : ac_s1 kd l r P' :=
  ⟨fun e => (x.1 e).elim fun z y => ⟨z, h _ _ y⟩, fun e => (x.2 e).elim fun z y => ⟨z, h _ _ y⟩⟩
theorem ac_s2_mono {kd : Int32} {l r : Nat} {P P' : Nat → Nat → Prop} (h : ∀ a b, P a b → P' a b) (x : ac_s2 kd l r P) : ac_s2 kd l r P' :=
  ⟨fun e => (x.1 e).elim fun z y => y.elim fun w u => ⟨z, w, h _ _ u.1, h _ _ u.2⟩, fun e => (x.2 e).elim fun z y => ⟨z, h _ _ y⟩⟩
theorem ac_lf_mono {kd : Int32} {l r : Nat} {P P' : Nat → Nat → Prop} (h : ∀ a b, P a b → P' a b) : ac_lf kd l r P' ≤ ac_lf kd l r P := by
  have a := ac_bm (P := ¬ ac_s1 kd l r P') (Q := ¬ ac_s1 kd l r P) (fun n x => n (ac_s1_mono h x))
  have b := ac_bm (P := ¬ ac_s2 kd l r P') (Q := ¬ ac_s2 kd l r P) (fun n x => n (ac_s2_mono h x))
  unfold ac_lf
  omega
theorem ac_lf_1 {kd : Int32} {l r : Nat} {P P' : Nat → Nat → Prop} (h : ∀ a b, P a b → P' a b) (h1 : ¬ ac_s1 kd l r P) (h2 : ac_s1 kd l r P') : ac_lf kd l r P' + 1 ≤ ac_lf kd l r P := by
  have b := ac_bm (P := ¬ ac_s2 kd l r P') (Q := ¬ ac_s2 kd l r P) (fun n x => n (ac_s2_mono h x))
  unfold ac_lf
  rw [ac_bt h1, ac_bf (fun n => n h2)]
  omega
theorem ac_lf_2 {kd : Int32} {l r : Nat} {P P' : Nat → Nat → Prop} (h : ∀ a b, P a b → P' a b) (h1 : ¬ ac_s2 kd l r P) (h2 : ac_s2 kd l r P') : ac_lf kd l r P' + 1 ≤ ac_lf kd l r P := by
  have b := ac_bm (P := ¬ ac_s1 kd l r P') (Q := ¬ ac_s1 kd l r P) (fun n x => n (ac_s1_mono h x))
  unfold ac_lf
  rw [ac_bt h1, ac_bf (P := ¬ ac_s2 kd l r P') (fun n => n h2)]
  omega
theorem ac_lf_bk {kd : Int32} {l r w y : Nat} {c : Nat → Nat} {T : Nat → Option Nat} {P' : Nat → Nat → Prop} (hc : ac_Cl c) (hn : T (c w) = none) (h : ac_Bk kd l r c T w)
    (hm : ∀ a b, ac_P c T a b → P' a b) (hw : P' w y) : ac_lf kd l r P' + 1 ≤ ac_lf kd l r (ac_P c T) := by
  obtain ⟨hr, hs, ht, hp, hq, hf⟩ := (ac_self (T := T) hc).1
  have no : ∀ z, ¬ ac_P c T w z := fun z => ac_noP hn
  rcases h with ⟨rfl, rfl⟩ | ⟨rfl, rfl | h⟩ | ⟨rfl, rfl | rfl⟩
  · exact ac_lf_1 hm (fun x => (x.2 (by decide)).elim fun z e => no z e) ⟨fun e => absurd e (by decide), fun _ => ⟨y, hw⟩⟩
  · exact ac_lf_1 hm (fun x => (x.2 (by decide)).elim fun z e => no z e) ⟨fun e => absurd e (by decide), fun _ => ⟨y, hw⟩⟩
  · have e0 := h _ _ (ac_self (T := T) hc)
    exact ac_lf_2 hm (fun x => (x.1 rfl).elim fun z e => e.elim fun u e => no u (hp _ _ _ (hf _ _ _ e.1 e0) e.2)) ⟨fun _ => ⟨w, y, hm _ _ e0, hw⟩, fun e => absurd rfl e⟩
  · exact ac_lf_1 hm (fun x => (x.1 rfl).elim fun z e => no z e) ⟨fun _ => ⟨y, hw⟩, fun e => absurd rfl e⟩
  · exact ac_lf_2 hm (fun x => (x.2 (by decide)).elim fun z e => no z e) ⟨fun e => absurd e (by decide), fun _ => ⟨y, hw⟩⟩
/-! an assignment's case: queued, waiting, done; what a wake does to it -/
def ac_Kk (kd : Int32) (l r : Nat) (c : Nat → Nat) (T : Nat → Option Nat) (w q : Int32) : Prop :=
  (¬ q = 0 ∧ w = -1) ∨ (q = 0 ∧ ∃ v, v < 12 ∧ w = nI v ∧ T (c v) = none ∧ ac_Bk kd l r c T v) ∨ (q = 0 ∧ w = -1 ∧ ∀ E P, ac_Co c T E P → ac_Dn kd l r P)
def ac_Wk (c : Nat → Nat) (T : Nat → Option Nat) (w w' q q' : Int32) : Prop :=
  (w' = w ∧ q' = q ∧ ∀ v, v < 12 → w = nI v → T (c v) = none) ∨ (w' = -1 ∧ ¬ q' = 0 ∧ ∃ v, v < 12 ∧ w = nI v ∧ ¬ T (c v) = none)
theorem ac_mono {c c' : Nat → Nat} {T T' : Nat → Option Nat} (hc' : ac_Cl c') (hc : ac_Cl c) (hm : ∀ E P, ac_Co c' T' E P → ac_Co c T E P) : ∀ a b, ac_P c T a b → ac_P c' T' a b := by
  rintro a b ⟨y, h1, h2⟩
  have x := hm _ _ (ac_self (T := T') hc')
  exact x.1.2.2.2.2.1 _ _ _ (ac_coE x h2) (ac_coP hc x h1)
theorem ac_Kk_step {kd : Int32} {l r : Nat} {c c' : Nat → Nat} {T T' : Nat → Option Nat} {w w' q q' : Int32} (hc : ac_Cl c) (hc' : ac_Cl c') (hm : ∀ E P, ac_Co c' T' E P → ac_Co c T E P)
    (K : ac_Kk kd l r c T w q) (W : ac_Wk c' T' w w' q q') :
    ac_Kk kd l r c' T' w' q' ∧ ac_b (¬ q' = 0) + ac_lf kd l r (ac_P c' T') ≤ ac_b (¬ q = 0) + ac_lf kd l r (ac_P c T) := by
  have hP := ac_mono hc' hc hm
  have hl := ac_lf_mono (kd := kd) (l := l) (r := r) hP
  rcases K with ⟨k1, k2⟩ | ⟨k1, v, k2, k3, k4, k5⟩ | ⟨k1, k2, k3⟩
  · rcases W with ⟨rfl, rfl, _⟩ | ⟨_, _, v, w1, w2, _⟩
    · exact ⟨Or.inl ⟨k1, k2⟩, by omega⟩
    · exact absurd (k2.symm.trans w2) (ac_m1ne (by omega))
  · rcases W with ⟨rfl, rfl, w1⟩ | ⟨w0, w1, v', w2, w3, w4⟩
    · exact ⟨Or.inr (Or.inl ⟨k1, v, k2, k3, w1 v k2 k3, ac_Bk_mono hm k5⟩), by omega⟩
    · have e : v' = v := ac_inj (by omega) (by omega) (w3.symm.trans k3)
      subst e
      refine ⟨Or.inl ⟨w1, w0⟩, ?_⟩
      cases hT : T' (c' v') with
      | none => exact absurd hT w4
      | some y =>
        have x := ac_lf_bk hc k4 k5 hP (⟨y, hT, rfl⟩ : ac_P c' T' v' y)
        rw [ac_bt w1, ac_bf (P := ¬ q = 0) (fun n => n k1)]
        omega
  · rcases W with ⟨rfl, rfl, _⟩ | ⟨_, _, v, w1, w2, _⟩
    · exact ⟨Or.inr (Or.inr ⟨k1, k2, fun E P x => k3 _ _ (hm _ _ x)⟩), by omega⟩
    · exact absurd (k2.symm.trans w2) (ac_m1ne (by omega))
end
section
/-! find, enqueue, wake of the component -/
def ac_UFr (rk : Nat → Nat) (up : Nat → Int32) (c : Nat → Nat) : Prop :=
  ∀ v, v < 12 → rk v + ac_rt c ≤ 12 ∧ ∃ w, w < 12 ∧ up v = nI w ∧ c w = c v ∧ (w = v ↔ c v = v) ∧ (w ≠ v → rk v < rk w)
def ac_UF (up : Nat → Int32) (c : Nat → Nat) : Prop := ∃ rk, ac_UFr rk up c
def ac_Qu (m : Nat) (fr : Int32) (qu qd : Nat → Int32) : Prop :=
  ∃ (n : Nat) (q : Nat → Nat), fr = nI n ∧ n = ac_cn (fun k => ¬ qd k = 0) m ∧ (∀ i, i < n → qu i = nI (q i) ∧ q i < m ∧ ¬ qd (q i) = 0) ∧ (∀ i j, i < j → j < n → q i ≠ q j)
section
variable {fa fk fr fp : Int32} {ko lo ro up pt wf qu qd pA pB : Nat → Int32} {c : Nat → Nat} {T : Nat → Option Nat}
theorem ac_find4 {rk : Nat → Nat} {d : Nat} (hc : ac_Cl c) {post : Int32 → SX → Prop} :
    ∀ (n s v : Nat) (up : Nat → Int32), ac_UFr rk up c → v < 12 → c v = d → s ≤ rk v → 12 < n + s →
    (∀ up', ac_UFr rk up' c → post (nI d) (fa, fk, fr, fp, ko, lo, ro, up', pt, wf, qu, qd, pA, pB)) →
    wX_find_4 post fa fk fr fp n (nI v) (nI s) ko lo ro up pt wf qu qd pA pB := by
  intro n
  induction n with
  | zero =>
    intro s v up hU hv hd hs hn h
    have := (hU v hv).1
    have := ac_rt_pos hc
    omega
  | succ n ih =>
    intro s v up hU hv hd hs hn h
    obtain ⟨hb, w, hw, ew, hcw, hwv, hrk⟩ := hU v hv
    have hp := ac_rt_pos hc
    have h12 : ¬ (12 : Int32) ≤ nI s := nI_ge (b := 12) (by omega) (by decide)
    have ev : (nI v).toNatClampNeg = v := nI_clamp (by omega)
    have hin : vp_in (nI v) 12 := ac_in hv (by decide)
    by_cases z : w = v
    · have e1 : up (nI v).toNatClampNeg = nI v := by rw [ev, ew, z]
      have e2 : v = d := (hwv.mp z).symm.trans hd
      refine br_f h12 ⟨hin, br_t e1 ?_⟩
      subst e2
      exact h up hU
    · obtain ⟨hb', w', hw', ew', hcw', hwv', hrk'⟩ := hU w hw
      have ne1 : ¬ up (nI v).toNatClampNeg = nI v := by
        rw [ev, ew]
        exact fun e => z (ac_inj (by omega) (by omega) e)
      have ein : vp_in (up (nI v).toNatClampNeg) 12 := by
        rw [ev, ew]
        exact ac_in hw (by decide)
      have hlt := hrk z
      have hrkw : rk v < rk w' := by
        by_cases z' : w' = w
        · rw [z']; exact hlt
        · have := hrk' z'; omega
      have hw'v : w' ≠ v := by
        intro e
        rw [e] at hrkw
        omega
      refine br_f h12 ⟨hin, br_f ne1 ⟨hin, ein, hin, fun up7 e7 => ⟨hin, fun x9 e9 x10 e10 => ?_⟩⟩⟩
      have e7' : up7 = upd up v (nI w') := by rw [e7, ev, ew, nI_clamp (by omega), ew']
      have e9' : x9 = nI w' := by rw [e9, e7', ev, pk_us]
      have e10' : x10 = nI (s + 1) := by rw [e10, nI_1]
      rw [e7', e9', e10']
      refine ih (s + 1) w' _ ?_ hw' (hcw'.trans (hcw.trans hd)) (by omega) (by omega) h
      intro v2 hv2
      by_cases z2 : v2 = v
      · rw [z2]
        exact ⟨hb, w', hw', pk_us, hcw'.trans hcw, ⟨fun e => absurd e hw'v, fun e => absurd (hwv.mpr e) z⟩, fun _ => hrkw⟩
      · obtain ⟨hb2, w2, h1, h2, h3⟩ := hU v2 hv2
        exact ⟨hb2, w2, h1, (pk_un z2).trans h2, h3⟩
theorem ac_find {post : Int32 → SX → Prop} {p : Int32} {v : Nat} (hc : ac_Cl c) (hU : ac_UF up c) (hv : v < 12) (hp : p = nI v)
    (h : ∀ up', ac_UF up' c → post (nI (c v)) (fa, fk, fr, fp, ko, lo, ro, up', pt, wf, qu, qd, pA, pB)) :
    wpX_find post (fa, fk, fr, fp, ko, lo, ro, up, pt, wf, qu, qd, pA, pB) p := by
  subst hp
  obtain ⟨rk, hU⟩ := hU
  exact Exists.intro 13 (ac_find4 hc 13 0 v up hU hv rfl (Nat.zero_le _) (by decide) (fun up' h' => h up' ⟨rk, h'⟩))
theorem ac_enq {post : SX → Prop} {m k : Nat} {p : Int32} (hk : k < m) (hm : m ≤ 24) (hp : p = nI k) (hQ : ac_Qu m fr qu qd)
    (h : ∀ fr' qu' qd', ac_Qu m fr' qu' qd' → (∀ j, j ≠ k → qd' j = qd j) → ¬ qd' k = 0 → post (fa, fk, fr', fp, ko, lo, ro, up, pt, wf, qu', qd', pA, pB)) :
    wpX_enqueue post (fa, fk, fr, fp, ko, lo, ro, up, pt, wf, qu, qd, pA, pB) p := by
  subst hp
  obtain ⟨n, q, rfl, hn, h1, h2⟩ := id hQ
  have ek : (nI k).toNatClampNeg = k := nI_clamp (by omega)
  have hin : vp_in (nI k) 24 := ac_in (by omega) (by decide)
  refine And.intro hin (br_c (fun z => ?_) (fun z => ?_))
  · rw [ek] at z
    have room : n < m := by rw [hn]; exact ac_cn_room hk (fun y => y z)
    refine ⟨hin, fun qd4 e4 => ⟨ac_in (by omega) (by decide), fun qu6 e6 fr7 e7 => ?_⟩⟩
    rw [ek, ac_nb1] at e4
    rw [nI_clamp (by omega)] at e6
    rw [nI_1] at e7
    subst e4 e6 e7
    refine h _ _ _ ⟨n + 1, fun i => if i = n then k else q i, rfl, ?_, ?_, ?_⟩ (fun j hj => pk_un hj) (by rw [pk_us]; decide)
    · rw [ac_cn_add (P := fun j => ¬ qd j = 0) (Q := fun j => ¬ upd qd k 1 j = 0) (a := k) (fun j _ hj => by rw [pk_un hj]) hk (fun y => y z) (by rw [pk_us]; decide), ← hn]
    · intro i hi
      dsimp only
      by_cases zi : i = n
      · rw [if_pos zi, zi]
        exact ⟨pk_us, hk, by rw [pk_us]; decide⟩
      · rw [if_neg zi]
        obtain ⟨a1, a2, a3⟩ := h1 i (by omega)
        have ne : q i ≠ k := by intro e; rw [e] at a3; exact a3 z
        exact ⟨(pk_un zi).trans a1, a2, by rw [pk_un ne]; exact a3⟩
    · intro i j hij hj
      dsimp only
      rw [if_neg (show ¬ i = n by omega)]
      by_cases zj : j = n
      · rw [if_pos zj]
        intro e
        have a3 := (h1 i (by omega)).2.2
        rw [e] at a3
        exact a3 z
      · rw [if_neg zj]
        exact h2 i j hij (by omega)
  · rw [ek] at z
    exact h _ _ _ hQ (fun _ _ => rfl) z
theorem ac_wake2 {post : SX → Prop} {m r : Nat} {wf0 qd0 : Nat → Int32} (hc : ac_Cl c) (hT : ¬ T r = none) (hm : m ≤ 24)
    (hw : ∀ j, j < m → wf0 j = -1 ∨ ∃ w, w < 12 ∧ wf0 j = nI w ∧ (c w = r ∨ T (c w) = none)) (hr : r < 12) :
    ∀ (n i : Nat) (fr : Int32) (up wf qu qd : Nat → Int32), m < n + i → i ≤ m → ac_UF up c → ac_Qu m fr qu qd →
    (∀ j, j < m → i ≤ j → wf j = wf0 j ∧ qd j = qd0 j) → (∀ j, j < i → ac_Wk c T (wf0 j) (wf j) (qd0 j) (qd j)) →
    (∀ fr' up' wf' qu' qd', ac_UF up' c → ac_Qu m fr' qu' qd' → (∀ j, j < m → ac_Wk c T (wf0 j) (wf' j) (qd0 j) (qd' j)) → post (nI m, fk, fr', fp, ko, lo, ro, up', pt, wf', qu', qd', pA, pB)) →
    wX_wake_2 post (nI r) n (nI i) (nI m) fk fr fp ko lo ro up pt wf qu qd pA pB := by
  intro n
  induction n with
  | zero => intro i fr up wf qu qd h1 h2; omega
  | succ n ih =>
    intro i fr up wf qu qd hn hi hU hQ hs hd h
    by_cases z : i = m
    · refine br_t (by rw [z]; exact nI_le (Nat.le_refl _) (by omega)) (h _ _ _ _ _ hU hQ ?_)
      rw [z] at hd
      exact hd
    · have him : i < m := by omega
      have ei : (nI i).toNatClampNeg = i := nI_clamp (by omega)
      have hin : vp_in (nI i) 24 := ac_in (by omega) (by decide)
      have hlt : ¬ nI m ≤ nI i := nI_ge him (by omega)
      obtain ⟨e1, e2⟩ := hs i him (Nat.le_refl _)
      rcases hw i him with w1 | ⟨w, w1, w2, w3⟩
      · have en : wf (nI i).toNatClampNeg < 0 := by rw [ei, e1, w1]; decide
        refine br_f hlt ⟨hin, br_t en fun x ex => ?_⟩
        rw [ex, nI_1 i]
        refine ih (i + 1) fr up wf qu qd (by omega) (by omega) hU hQ (fun j hj h' => hs j hj (by omega)) (fun j hj => ?_) h
        by_cases zj : j = i
        · rw [zj]
          exact Or.inl ⟨e1, e2, fun v hv e => absurd (w1.symm.trans e) (ac_m1ne (by omega))⟩
        · exact hd j (by omega)
      · have en : ¬ wf (nI i).toNatClampNeg < 0 := by rw [ei, e1, w2]; exact nI_pos (by omega)
        refine br_f hlt ⟨hin, br_f en ⟨hin, ac_find hc hU w1 (by rw [ei, e1, w2]) fun up' hU' => ?_⟩⟩
        by_cases zc : c w = r
        · refine br_t (congrArg nI zc) ⟨hin, fun wf24 e24 => ac_enq him hm rfl hQ fun fr' qu' qd' hQ' q1 q2 => fun x ex => ?_⟩
          rw [ei] at e24
          rw [ex, nI_1 i, e24]
          refine ih (i + 1) fr' up' _ qu' qd' (by omega) (by omega) hU' hQ' (fun j hj h' => ?_) (fun j hj => ?_) h
          · have nj : j ≠ i := by omega
            rw [pk_un nj, q1 j nj]
            exact hs j hj (by omega)
          · by_cases zj : j = i
            · rw [zj]
              exact Or.inr ⟨pk_us, q2, w, w1, w2, by rw [zc]; exact hT⟩
            · rw [pk_un zj, q1 j zj]
              exact hd j (by omega)
        · have nc : ¬ nI (c w) = nI r := fun e => zc (ac_inj (by have := hc.2 w w1; omega) (by omega) e)
          refine br_f nc fun x ex => ?_
          rw [ex, nI_1 i]
          refine ih (i + 1) fr up' wf qu qd (by omega) (by omega) hU' hQ (fun j hj h' => hs j hj (by omega)) (fun j hj => ?_) h
          by_cases zj : j = i
          · rw [zj]
            refine Or.inl ⟨e1, e2, fun v hv e => ?_⟩
            have ev : w = v := ac_inj (by omega) (by omega) (w2.symm.trans e)
            rw [← ev]
            exact w3.resolve_left zc
          · exact hd j (by omega)
theorem ac_wake {post : SX → Prop} {m r : Nat} {p : Int32} (hc : ac_Cl c) (hT : ¬ T r = none) (hm : m ≤ 24) (hr : r < 12) (hp : p = nI r) (hU : ac_UF up c) (hQ : ac_Qu m fr qu qd)
    (hw : ∀ j, j < m → wf j = -1 ∨ ∃ w, w < 12 ∧ wf j = nI w ∧ (c w = r ∨ T (c w) = none))
    (h : ∀ fr' up' wf' qu' qd', ac_UF up' c → ac_Qu m fr' qu' qd' → (∀ j, j < m → ac_Wk c T (wf j) (wf' j) (qd j) (qd' j)) → post (nI m, fk, fr', fp, ko, lo, ro, up', pt, wf', qu', qd', pA, pB)) :
    wpX_wake post (nI m, fk, fr, fp, ko, lo, ro, up, pt, wf, qu, qd, pA, pB) p := by
  subst hp
  exact Exists.intro (m + 1) (ac_wake2 hc hT hm hw hr (m + 1) 0 fr up wf qu qd (by omega) (by omega) hU hQ (fun _ _ _ => ⟨rfl, rfl⟩) (fun j hj => absurd hj (by omega)) h)
end
end
section
/-! addPair, joinClasses, joinAll, pointAt of the component -/
def ac_en : Option Nat → Int32
  | none => -1
  | some y => nI y
def ac_PT (pt : Nat → Int32) (T : Nat → Option Nat) : Prop := ∀ v, v < 12 → pt v = ac_en (T v)
def ac_St (c : Nat → Nat) (T : Nat → Option Nat) (up pt : Nat → Int32) : Prop := ac_Cl c ∧ ac_TB T ∧ ac_UF up c ∧ ac_PT pt T
theorem ac_jT_nn {T : Nat → Option Nat} {x y : Nat} (h : T x = none) (h' : T y = none) : ac_jT T x y = T := by
  funext v
  by_cases z : v = x
  · rw [z, ac_jT_xn h, h, h']
  · rw [ac_jT_n z]
theorem ac_uf_join {up : Nat → Int32} {c : Nat → Nat} {x y : Nat} (hU : ac_UF up c) (hx : c x = x) (hy : c y = y) (hne : x ≠ y) (hlx : x < 12) (hly : y < 12) : ac_UF (upd up y (nI x)) (ac_jc c x y) := by
  obtain ⟨rk, hU⟩ := hU
  have hrt := ac_rt_join hx hy hne hly
  have hxr : ac_jc c x y x = x := ac_jc_keep hx hne
  have bx := (hU x hlx).1
  have by' := (hU y hly).1
  obtain ⟨M, hM1, hM2, hM3⟩ : ∃ M, rk x ≤ M ∧ rk y < M ∧ M + ac_rt (ac_jc c x y) ≤ 12 := by
    by_cases h : rk y < rk x
    · exact ⟨rk x, by omega, h, by omega⟩
    · exact ⟨rk y + 1, by omega, by omega, by omega⟩
  refine ⟨fun v => if v = x then M else rk v, ?_⟩
  intro v hv
  dsimp only
  refine ⟨?_, ?_⟩
  · by_cases z : v = x
    · rw [if_pos z]; exact hM3
    · rw [if_neg z]
      have := (hU v hv).1
      omega
  · by_cases z : v = y
    · refine ⟨x, hlx, by rw [z, pk_us], by rw [hxr, z, ac_jc_y hy], ?_, ?_⟩
      · rw [z, ac_jc_y hy]
      · intro _
        rw [if_pos rfl, if_neg (by rw [z]; exact fun e => hne e.symm), z]
        exact hM2
    · obtain ⟨_, w, hw, ew, hcw, hwv, hrk⟩ := hU v hv
      refine ⟨w, hw, by rw [pk_un z, ew], ?_, ?_, ?_⟩
      · unfold ac_jc
        rw [hcw]
      · constructor
        · intro e
          exact ac_jc_keep (hwv.mp e) z
        · intro e
          exact hwv.mpr (ac_jc_root hx hne e).1
      · intro e
        have hvx : ¬ v = x := by
          intro e'
          apply e
          apply hwv.mpr
          rw [e']; exact hx
        have l := hrk e
        rw [if_neg hvx]
        by_cases z' : w = x
        · rw [if_pos z']
          rw [z'] at l
          omega
        · rw [if_neg z']; exact l
section
variable {fa fk fr fp : Int32} {ko lo ro up pt wf qu qd pA pB : Nat → Int32} {c : Nat → Nat} {T : Nat → Option Nat}
theorem ac_in0 {N : Nat} (h : 0 < N) (hN : N < 2 ^ 31) : vp_in 0 N := vp_in_nI (n := 0) h hN
theorem ac_cl0 : (0 : Int32).toNatClampNeg = 0 := rfl
theorem ac_addp {post : SX → Prop} {p q : Int32} (h : post (fa, fk, fr, 1, ko, lo, ro, up, pt, wf, qu, qd, upd pA 0 p, upd pB 0 q)) :
    wpX_addPair post (fa, fk, fr, 0, ko, lo, ro, up, pt, wf, qu, qd, pA, pB) p q := by
  refine And.intro (ac_in0 (by decide) (by decide)) (fun a ea => And.intro (ac_in0 (by decide) (by decide)) (fun b eb f ef => ?_))
  rw [ac_cl0] at ea eb
  rw [ea, eb, ef]
  exact h
theorem ac_en_n {y : Nat} (hy : y < 12) : ¬ ac_en (some y) < 0 := nI_pos (by omega)
theorem ac_en_p {y : Nat} (hy : y < 12) : 0 ≤ ac_en (some y) := nI_pos' (by omega)
theorem ac_wk_id {w q : Int32} (h : w = -1 ∨ ∃ v, v < 12 ∧ w = nI v ∧ T (c v) = none) : ac_Wk c T w w q q := by
  refine Or.inl ⟨rfl, rfl, fun v hv e => ?_⟩
  rcases h with h | ⟨v', h1, h2, h3⟩
  · exact absurd (h.symm.trans e) (ac_m1ne (by omega))
  · have ev : v' = v := ac_inj (by omega) (by omega) (h2.symm.trans e)
    rw [← ev]; exact h3
theorem ac_jwk {w : Int32} {x y : Nat} (h : w = -1 ∨ ∃ v, v < 12 ∧ w = nI v ∧ T (c v) = none) :
    w = -1 ∨ ∃ v, v < 12 ∧ w = nI v ∧ (ac_jc c x y v = x ∨ ac_jT T x y (ac_jc c x y v) = none) := by
  rcases h with h | ⟨v, h1, h2, h3⟩
  · exact Or.inl h
  · refine Or.inr ⟨v, h1, h2, ?_⟩
    by_cases z : c v = y
    · exact Or.inl (ac_jc_y z)
    · rw [ac_jc_n z]
      by_cases z' : c v = x
      · exact Or.inl z'
      · rw [ac_jT_n z']
        exact Or.inr h3
theorem ac_jcl {post : SX → Prop} {m x y : Nat} {p q : Int32} (hm : m ≤ 24) (hS : ac_St c T up pt) (hx : c x = x) (hy : c y = y) (hne : x ≠ y) (hlx : x < 12) (hly : y < 12)
    (hp : p = nI x) (hq : q = nI y) (hQ : ac_Qu m fr qu qd)
    (hw : ∀ j, j < m → wf j = -1 ∨ ∃ v, v < 12 ∧ wf j = nI v ∧ T (c v) = none)
    (h1 : ∀ a b up', T x = some a → T y = some b → ac_St (ac_jc c x y) (ac_jT T x y) up' pt → post (nI m, fk, fr, 1, ko, lo, ro, up', pt, wf, qu, qd, upd pA 0 (nI a), upd pB 0 (nI b)))
    (h2 : (∀ a b, T x = some a → T y = some b → False) → ∀ fr' up' pt' wf' qu' qd', ac_St (ac_jc c x y) (ac_jT T x y) up' pt' → ac_Qu m fr' qu' qd' →
      (∀ j, j < m → ac_Wk (ac_jc c x y) (ac_jT T x y) (wf j) (wf' j) (qd j) (qd' j)) → post (nI m, fk, fr', 0, ko, lo, ro, up', pt', wf', qu', qd', pA, pB)) :
    wpX_joinClasses post (nI m, fk, fr, 0, ko, lo, ro, up, pt, wf, qu, qd, pA, pB) p q := by
  subst hp hq
  obtain ⟨hc, hB, hU, hP⟩ := hS
  have ex : (nI x).toNatClampNeg = x := nI_clamp (by omega)
  have ey : (nI y).toNatClampNeg = y := nI_clamp (by omega)
  have inx : vp_in (nI x) 12 := ac_in hlx (by decide)
  have iny : vp_in (nI y) 12 := ac_in hly (by decide)
  have hU' := ac_uf_join hU hx hy hne hlx hly
  have hc' := ac_jc_Cl hc hx hne hlx
  have hB' := ac_jT_TB (x := x) (y := y) hB
  have hxr : ac_jc c x y x = x := ac_jc_keep hx hne
  have px : pt x = ac_en (T x) := hP x hlx
  have py : pt y = ac_en (T y) := hP y hly
  refine And.intro inx (fun x3 e3 => And.intro iny (fun x4 e4 => And.intro iny (fun up6 e6 => ?_)))
  rw [ex, px] at e3
  rw [ey, py] at e4
  rw [ey] at e6
  rw [e6]
  -- one side alone points: the new root points at z
  have one : ∀ z, ac_jT T x y x = some z → (∀ a b, T x = some a → T y = some b → False) →
      wX_joinClasses_65 post (nI x) (nI z) (nI x) (nI m) fk fr 0 ko lo ro (upd up y (nI x)) pt wf qu qd pA pB := by
    intro z ez hno
    refine And.intro inx (fun pt11 e11 => ?_)
    rw [ex] at e11
    rw [e11]
    refine ac_wake hc' (T := ac_jT T x y) (by rw [ez]; exact fun e => by cases e) hm hlx rfl hU' hQ (fun j hj => ac_jwk (hw j hj)) (fun fr' up' wf' qu' qd' a1 a2 a3 => ?_)
    refine h2 hno _ _ _ _ _ _ ⟨hc', hB', a1, fun v hv => ?_⟩ a2 a3
    by_cases zv : v = x
    · rw [zv, pk_us, ez]; rfl
    · rw [pk_un zv, ac_jT_n zv]; exact hP v hv
  cases hTx : T x with
  | none =>
    rw [hTx] at e3
    have l3 : x3 < 0 := by rw [e3]; decide
    have n3 : ¬ 0 ≤ x3 := by rw [e3]; decide
    cases hTy : T y with
    | none =>
      rw [hTy] at e4
      have l4 : x4 < 0 := by rw [e4]; decide
      refine br_t l3 (show wX_joinClasses_41 post _ _ _ _ _ _ _ _ _ _ _ _ _ _ _ _ _ from ?_)
      unfold wX_joinClasses_41
      refine br_f n3 (br_t l4 ?_)
      have eT := ac_jT_nn hTx hTy
      refine h2 (fun a b e _ => by rw [hTx] at e; cases e) _ _ _ _ _ _ ⟨hc', hB', hU', by rw [eT]; exact hP⟩ hQ (fun j hj => ac_wk_id ?_)
      rcases hw j hj with h | ⟨v, a1, a2, a3⟩
      · exact Or.inl h
      · refine Or.inr ⟨v, a1, a2, ?_⟩
        rw [eT]
        by_cases z : c v = y
        · rw [ac_jc_y z]; exact hTx
        · rw [ac_jc_n z]; exact a3
    | some b =>
      rw [hTy] at e4
      have hb : b < 12 := hB _ _ hTy
      have n4 : ¬ x4 < 0 := by rw [e4]; exact ac_en_n hb
      refine br_t l3 (show wX_joinClasses_41 post _ _ _ _ _ _ _ _ _ _ _ _ _ _ _ _ _ from ?_)
      unfold wX_joinClasses_41
      refine br_f n3 (br_f n4 (show wX_joinClasses_50 post _ _ _ _ _ _ _ _ _ _ _ _ _ _ _ _ _ from ?_))
      unfold wX_joinClasses_50
      refine br_t l3 ?_
      rw [e4]
      exact one b ((ac_jT_xn hTx).trans hTy) (fun a b e _ => by rw [hTx] at e; cases e)
  | some a =>
    rw [hTx] at e3
    have ha : a < 12 := hB _ _ hTx
    have n3 : ¬ x3 < 0 := by rw [e3]; exact ac_en_n ha
    have p3 : 0 ≤ x3 := by rw [e3]; exact ac_en_p ha
    cases hTy : T y with
    | none =>
      rw [hTy] at e4
      have l4 : x4 < 0 := by rw [e4]; decide
      refine br_f n3 (br_t l4 (show wX_joinClasses_41 post _ _ _ _ _ _ _ _ _ _ _ _ _ _ _ _ _ from ?_))
      unfold wX_joinClasses_41
      refine br_t p3 (show wX_joinClasses_50 post _ _ _ _ _ _ _ _ _ _ _ _ _ _ _ _ _ from ?_)
      unfold wX_joinClasses_50
      refine br_f n3 ?_
      rw [e3]
      exact one a (ac_jT_xs hTx) (fun a b _ e => by rw [hTy] at e; cases e)
    | some b =>
      rw [hTy] at e4
      have hb : b < 12 := hB _ _ hTy
      have n4 : ¬ x4 < 0 := by rw [e4]; exact ac_en_n hb
      refine br_f n3 (br_f n4 (ac_addp ?_))
      rw [e3, e4]
      refine h1 a b _ hTx hTy ⟨hc', hB', hU', ?_⟩
      rw [ac_jT_s hTx]
      exact hP
theorem ac_ja0 {post : SX → Prop} {n : Nat} {x : Int32} (h : post (fa, fk, fr, 0, ko, lo, ro, up, pt, wf, qu, qd, pA, pB)) :
    wX_joinAll_2 post (n + 1) x fa fk fr 0 ko lo ro up pt wf qu qd pA pB := br_c (fun _ => h) (fun _ => br_t (by decide) h)
theorem ac_ja {post : SX → Prop} {m : Nat} (hm : m ≤ 24) (hQ : ac_Qu m fr qu qd) :
    ∀ (n s a b : Nat) (c : Nat → Nat) (T : Nat → Option Nat) (up pt pA pB : Nat → Int32), ac_St c T up pt → a < 12 → b < 12 → pA 0 = nI a → pB 0 = nI b → s + ac_rt c ≤ 12 → 13 < n + s →
    (∀ j, j < m → wf j = -1 ∨ ∃ v, v < 12 ∧ wf j = nI v ∧ T (c v) = none) →
    (∀ c' T' fr' up' pt' wf' qu' qd' pA' pB', ac_St c' T' up' pt' → (∀ E P, ac_Co c' T' E P ↔ (ac_Co c T E P ∧ E a b)) → ac_Qu m fr' qu' qd' →
      (∀ j, j < m → ac_Wk c' T' (wf j) (wf' j) (qd j) (qd' j)) → post (nI m, fk, fr', 0, ko, lo, ro, up', pt', wf', qu', qd', pA', pB')) →
    wX_joinAll_2 post n (nI s) (nI m) fk fr 1 ko lo ro up pt wf qu qd pA pB := by
  intro n
  induction n with
  | zero =>
    intro s a b c T up pt pA pB hS ha hb eA eB hs hn
    have := ac_rt_pos hS.1
    omega
  | succ n ih =>
    intro s a b c T up pt pA pB hS ha hb eA eB hs hn hw h
    obtain ⟨hc, hB, hU, hP⟩ := hS
    have hpos := ac_rt_pos hc
    have h24 : ¬ (24 : Int32) ≤ nI s := nI_ge (b := 24) (by omega) (by decide)
    have in0 : vp_in 0 16 := ac_in0 (by decide) (by decide)
    obtain ⟨n', rfl⟩ : ∃ n', n = n' + 1 := ⟨n - 1, by omega⟩
    refine br_f h24 (br_f (by decide) (nm_r (e' := 0) rfl ⟨in0, ac_find hc hU ha eA fun up1 hU1 => ⟨in0, ac_find hc hU1 hb eB fun up2 hU2 => ?_⟩⟩))
    by_cases z : c a = c b
    · refine br_t (congrArg nI z) fun x ex => ac_ja0 ?_
      refine h c T _ _ _ _ _ _ _ _ ⟨hc, hB, hU2, hP⟩ (fun E P => ⟨fun x => ⟨x, ac_coE x z⟩, fun x => x.1⟩) hQ (fun j hj => ac_wk_id (hw j hj))
    · have hla := hc.2 a ha
      have hlb := hc.2 b hb
      have nc : ¬ nI (c a) = nI (c b) := fun e => z (ac_inj (by omega) (by omega) e)
      have key : ∀ E P, (ac_Co (ac_jc c (c a) (c b)) (ac_jT T (c a) (c b)) E P ∧ ∀ p q, T (c a) = some p → T (c b) = some q → E p q) ↔ (ac_Co c T E P ∧ E a b) := by
        intro E P
        rw [← ac_join (hc.1 a) (hc.1 b) z]
        exact ⟨fun x => ⟨x.1, (ac_coEc x.1).mpr x.2⟩, fun x => ⟨x.1, (ac_coEc x.1).mp x.2⟩⟩
      refine br_f nc (ac_jcl hm ⟨hc, hB, hU2, hP⟩ (hc.1 a) (hc.1 b) z hla hlb rfl rfl hQ hw ?_ ?_)
      · intro p q up' e1 e2 hS' x ex
        rw [ex, nI_1 s]
        have hrt := ac_rt_join (hc.1 a) (hc.1 b) z hlb
        refine ih (s + 1) p q _ _ _ _ _ _ hS' (hB _ _ e1) (hB _ _ e2) pk_us pk_us (by omega) (by omega) ?_ ?_
        · intro j hj
          rcases hw j hj with w1 | ⟨v, w1, w2, w3⟩
          · exact Or.inl w1
          · refine Or.inr ⟨v, w1, w2, ?_⟩
            have n1 : ¬ c v = c b := by intro e; rw [e, e2] at w3; cases w3
            have n2 : ¬ c v = c a := by intro e; rw [e, e1] at w3; cases w3
            rw [ac_jc_n n1, ac_jT_n n2]; exact w3
        · intro c' T' fr' up'' pt' wf' qu' qd' pA' pB' k1 k2 k3 k4
          refine h c' T' _ _ _ _ _ _ _ _ k1 (fun E P => ?_) k3 k4
          rw [k2, ← key]
          exact ⟨fun x => ⟨x.1, fun p' q' f1 f2 => by rw [e1] at f1; rw [e2] at f2; cases f1; cases f2; exact x.2⟩, fun x => ⟨x.1, x.2 _ _ e1 e2⟩⟩
      · intro hno fr' up' pt' wf' qu' qd' k1 k2 k3 x ex
        refine ac_ja0 ?_
        refine h _ _ _ _ _ _ _ _ _ _ k1 (fun E P => ?_) k2 k3
        rw [← key]
        exact ⟨fun x => ⟨x, fun p' q' f1 f2 => (hno _ _ f1 f2).elim⟩, fun x => x.1⟩
theorem ac_pAt {post : SX → Prop} {m a b : Nat} {p q : Int32} (hm : m ≤ 24) (hS : ac_St c T up pt) (ha : a < 12) (hb : b < 12) (hp : p = nI a) (hq : q = nI b) (hQ : ac_Qu m fr qu qd)
    (hw : ∀ j, j < m → wf j = -1 ∨ ∃ v, v < 12 ∧ wf j = nI v ∧ T (c v) = none)
    (h1 : ∀ y up', T (c a) = some y → ac_St c T up' pt → post (nI m, fk, fr, 1, ko, lo, ro, up', pt, wf, qu, qd, upd pA 0 (nI y), upd pB 0 (nI b)))
    (h2 : T (c a) = none → ∀ fr' up' pt' wf' qu' qd', ac_St c (ac_uT T (c a) b) up' pt' → ac_Qu m fr' qu' qd' →
      (∀ j, j < m → ac_Wk c (ac_uT T (c a) b) (wf j) (wf' j) (qd j) (qd' j)) → post (nI m, fk, fr', 0, ko, lo, ro, up', pt', wf', qu', qd', pA, pB)) :
    wpX_pointAt post (nI m, fk, fr, 0, ko, lo, ro, up, pt, wf, qu, qd, pA, pB) p q := by
  subst hq
  obtain ⟨hc, hB, hU, hP⟩ := hS
  have hla := hc.2 a ha
  have ea : (nI (c a)).toNatClampNeg = c a := nI_clamp (by omega)
  have ina : vp_in (nI (c a)) 12 := ac_in hla (by decide)
  refine ac_find hc hU ha hp fun up1 hU1 => And.intro ina ?_
  cases hT : T (c a) with
  | some y =>
    have ey : pt (nI (c a)).toNatClampNeg = nI y := by rw [ea, hP _ hla, hT]; rfl
    have hy := hB _ _ hT
    refine br_t (by rw [ey]; exact nI_pos' (by omega)) ⟨ina, ac_addp ?_⟩
    rw [ey]
    exact h1 y up1 hT ⟨hc, hB, hU1, hP⟩
  | none =>
    have ey : pt (nI (c a)).toNatClampNeg = -1 := by rw [ea, hP _ hla, hT]; rfl
    refine br_f (by rw [ey]; decide) ⟨ina, fun pt35 e35 => ?_⟩
    rw [ea] at e35
    rw [e35]
    refine ac_wake hc (T := ac_uT T (c a) b) (r := c a) (by rw [ac_uT_r]; exact fun e => by cases e) hm hla rfl hU1 hQ (fun j hj => ?_) (fun fr' up' wf' qu' qd' a1 a2 a3 => ?_)
    · rcases hw j hj with w1 | ⟨v, w1, w2, w3⟩
      · exact Or.inl w1
      · refine Or.inr ⟨v, w1, w2, ?_⟩
        by_cases z : c v = c a
        · exact Or.inl z
        · rw [ac_uT_n z]; exact Or.inr w3
    · refine h2 hT _ _ _ _ _ _ ⟨hc, ac_uT_TB hB hb, a1, fun v hv => ?_⟩ a2 a3
      by_cases z : v = c a
      · rw [z, pk_us, ac_uT_r]; rfl
      · rw [pk_un z, ac_uT_n z]; exact hP v hv
/-- pointAt(a, b), then joinAll: the completions of the new state are those of the old one in which a points at b -/
theorem ac_paj {post Q : SX → Prop} {m a b : Nat} {p q : Int32} (hm : m ≤ 24) (hS : ac_St c T up pt) (ha : a < 12) (hb : b < 12) (hp : p = nI a) (hq : q = nI b) (hQ : ac_Qu m fr qu qd)
    (hw : ∀ j, j < m → wf j = -1 ∨ ∃ v, v < 12 ∧ wf j = nI v ∧ T (c v) = none)
    (hJ : ∀ u, wpX_joinAll post u → Q u)
    (h : ∀ c' T' fr' up' pt' wf' qu' qd' pA' pB', ac_St c' T' up' pt' → (∀ E P, ac_Co c' T' E P ↔ (ac_Co c T E P ∧ P a b)) → ac_Qu m fr' qu' qd' →
      (∀ j, j < m → ac_Wk c' T' (wf j) (wf' j) (qd j) (qd' j)) → post (nI m, fk, fr', 0, ko, lo, ro, up', pt', wf', qu', qd', pA', pB')) :
    wpX_pointAt Q (nI m, fk, fr, 0, ko, lo, ro, up, pt, wf, qu, qd, pA, pB) p q := by
  have hc := hS.1
  have hB := hS.2.1
  refine ac_pAt hm hS ha hb hp hq hQ hw ?_ ?_
  · intro y up' hT hS'
    refine hJ _ (Exists.intro 14 ?_)
    refine ac_ja hm hQ 14 0 y b c T _ _ _ _ hS' (hB _ _ hT) hb pk_us pk_us (by have := ac_rt_le c; omega) (by decide) hw ?_
    intro c' T' fr' up'' pt' wf' qu' qd' pA' pB' k1 k2 k3 k4
    refine h c' T' _ _ _ _ _ _ _ _ k1 (fun E P => ?_) k3 k4
    rw [k2]
    exact ⟨fun x => ⟨x.1, (ac_point2 hc hT x.1).mpr x.2⟩, fun x => ⟨x.1, (ac_point2 hc hT x.1).mp x.2⟩⟩
  · intro hT fr' up' pt' wf' qu' qd' k1 k2 k3
    refine hJ _ (Exists.intro 1 (ac_ja0 ?_))
    exact h _ _ _ _ _ _ _ _ _ _ k1 (fun E P => ac_point hc hT) k2 k3
end
end
section
/-! points, carryOut, workOut of the component -/
def ac_Pg (m : Nat) (ko lo ro : Nat → Int32) (L R : Nat → Nat) : Prop :=
  ∀ k, k < m → (ko k = 0 ∨ ko k = 1 ∨ ko k = 2 ∨ ko k = 3) ∧ lo k = nI (L k) ∧ L k < 12 ∧ ro k = nI (R k) ∧ R k < 12
section
variable {fa fk fr fp : Int32} {ko lo ro up pt wf qu qd pA pB : Nat → Int32} {c : Nat → Nat} {T : Nat → Option Nat} {L R : Nat → Nat}
theorem ac_pts {post : Int32 → SX → Prop} {k v : Nat} {p q : Int32} (hS : ac_St c T up pt) (hk : k < 24) (hv : v < 12) (hp : p = nI k) (hq : q = nI v) (hwf : wf k = -1)
    (h0 : ∀ up', ac_UF up' c → T (c v) = none → post 0 (fa, fk, fr, fp, ko, lo, ro, up', pt, upd wf k (nI v), qu, qd, pA, pB))
    (h1 : ∀ up' y, ac_UF up' c → T (c v) = some y → post 1 (fa, fk, fr, fp, ko, lo, ro, up', pt, wf, qu, qd, pA, pB)) :
    wpX_points post (fa, fk, fr, fp, ko, lo, ro, up, pt, wf, qu, qd, pA, pB) p q := by
  subst hp hq
  obtain ⟨hc, hB, hU, hP⟩ := hS
  have hlv := hc.2 v hv
  have ev : (nI (c v)).toNatClampNeg = c v := nI_clamp (by omega)
  have ek : (nI k).toNatClampNeg = k := nI_clamp (by omega)
  have ink : vp_in (nI k) 24 := ac_in hk (by decide)
  refine ac_find hc hU hv rfl fun up1 hU1 => And.intro (ac_in hlv (by decide)) ?_
  cases hT : T (c v) with
  | none =>
    have ey : pt (nI (c v)).toNatClampNeg = -1 := by rw [ev, hP _ hlv, hT]; rfl
    refine br_t (by rw [ey]; decide) (show wX_points_18 post _ _ _ _ _ _ _ _ _ _ _ _ _ _ _ _ _ from ?_)
    unfold wX_points_18
    refine br_t rfl ⟨ink, fun wf1 e1 => ⟨rfl, ?_⟩⟩
    rw [e1, ek]
    exact h0 up1 hU1 hT
  | some y =>
    have ey : pt (nI (c v)).toNatClampNeg = nI y := by rw [ev, hP _ hlv, hT]; rfl
    have hy := hB _ _ hT
    refine br_f (by rw [ey]; exact nI_pos (by omega)) (show wX_points_18 post _ _ _ _ _ _ _ _ _ _ _ _ _ _ _ _ _ from ?_)
    unfold wX_points_18
    refine br_f (by decide) ⟨ink, fun wf1 e1 => ⟨rfl, ?_⟩⟩
    rw [e1, ek, ac_upd hwf]
    exact h1 up1 y hU1 hT
theorem ac_fol {post : SX → Prop} {k l r : Nat} {p pl q : Int32} (hS : ac_St c T up pt) (hk : k < 24) (hr : r < 12) (hp : p = nI k) (hq : q = nI r) (hwf : wf k = -1)
    (h0 : ∀ up', ac_UF up' c → T (c r) = none → post (fa, fk, fr, fp, ko, lo, ro, up', pt, upd wf k (nI r), qu, qd, pA, pB))
    (h1 : ∀ up' y, ac_UF up' c → T (c r) = some y → T (c y) = none → post (fa, fk, fr, fp, ko, lo, ro, up', pt, upd wf k (nI y), qu, qd, pA, pB))
    (h2 : ∀ up' y z p' q', ac_UF up' c → T (c r) = some y → T (c y) = some z → p' = pl → q' = nI z → ∀ Q : SX → Prop, (∀ u, post u → Q u) → wpX_pointAt Q (fa, fk, fr, fp, ko, lo, ro, up', pt, wf, qu, qd, pA, pB) p' q') :
    wpX_followRight post (fa, fk, fr, fp, ko, lo, ro, up, pt, wf, qu, qd, pA, pB) p pl q := by
  subst hp hq
  obtain ⟨hc, hB, hU, hP⟩ := id hS
  have hlr := hc.2 r hr
  have er : (nI (c r)).toNatClampNeg = c r := nI_clamp (by omega)
  refine ac_pts hS hk hr rfl rfl hwf (fun up1 hU1 hT => br_t rfl (h0 _ hU1 hT)) (fun up1 y hU1 hT => br_f (by decide) ?_)
  refine ac_find hc hU1 hr rfl fun up2 hU2 => And.intro (ac_in hlr (by decide)) ?_
  have ey : pt (nI (c r)).toNatClampNeg = nI y := by rw [er, hP _ hlr, hT]; rfl
  have hy := hB _ _ hT
  have hly := hc.2 y hy
  have ely : (nI (c y)).toNatClampNeg = c y := nI_clamp (by omega)
  refine ac_pts ⟨hc, hB, hU2, hP⟩ hk hy rfl ey hwf (fun up3 hU3 hT' => br_t rfl (h1 _ y hU3 hT hT')) (fun up3 z hU3 hT' => br_f (by decide) ⟨ac_in hlr (by decide), ?_⟩)
  refine ac_find hc hU3 hy ey fun up4 hU4 => And.intro (ac_in hly (by decide)) ?_
  have ez : pt (nI (c y)).toNatClampNeg = nI z := by rw [ely, hP _ hly, hT']; rfl
  refine h2 up4 y z _ _ hU4 hT hT' rfl ez _ (fun u hu => ?_)
  obtain ⟨_, _, _, _, _, _, _, _, _, _, _, _, _, _⟩ := u
  exact hu
theorem ac_cout {post : SX → Prop} {m k : Nat} {p : Int32} (hm : m ≤ 24) (hG : ac_Pg m ko lo ro L R) (hS : ac_St c T up pt) (hk : k < m) (hp : p = nI k) (hwf : wf k = -1)
    (hwt : ∀ up' w, ac_UF up' c → w < 12 → T (c w) = none → ac_Bk (ko k) (L k) (R k) c T w → post (fa, fk, fr, fp, ko, lo, ro, up', pt, upd wf k (nI w), qu, qd, pA, pB))
    (hgo : ∀ up' a b p' q', ac_UF up' c → a < 12 → b < 12 → p' = nI a → q' = nI b → (∀ E P, ac_Co c T E P → P a b → ac_Dn (ko k) (L k) (R k) P) →
      (∀ E P, ac_Co c T E P → ac_Ru (ko k) (L k) (R k) P → P a b) → ∀ Q : SX → Prop, (∀ u, post u → Q u) → wpX_pointAt Q (fa, fk, fr, fp, ko, lo, ro, up', pt, wf, qu, qd, pA, pB) p' q') :
    wpX_carryOut post (fa, fk, fr, fp, ko, lo, ro, up, pt, wf, qu, qd, pA, pB) p := by
  subst hp
  obtain ⟨hc, hB, hU, hP⟩ := id hS
  obtain ⟨hkd, el, hl, er, hr⟩ := hG k hk
  have ek : (nI k).toNatClampNeg = k := nI_clamp (by omega)
  have ink : vp_in (nI k) 24 := ac_in (by omega) (by decide)
  have hll := hc.2 _ hl
  have hlr := hc.2 _ hr
  have ecl : (nI (c (L k))).toNatClampNeg = c (L k) := nI_clamp (by omega)
  have ecr : (nI (c (R k))).toNatClampNeg = c (R k) := nI_clamp (by omega)
  refine And.intro ink (fun x2 e2 => And.intro ink (fun x3 e3 => And.intro ink ?_))
  rw [ek, el] at e2
  rw [ek, er] at e3
  rcases hkd with d | d | d | d
  · refine br_t (by rw [ek]; exact d) (hgo _ _ _ _ _ hU hl hr e2 e3 (fun E P _ x => Or.inl ⟨d, x⟩) (fun E P _ x => x.1 d) _ (fun u hu => ?_))
    obtain ⟨_, _, _, _, _, _, _, _, _, _, _, _, _, _⟩ := u
    exact hu
  · refine br_f (by rw [ek, d]; decide) ⟨ink, br_t (by rw [ek]; exact d) ?_⟩
    refine ac_pts hS (by omega) hr rfl e3 hwf (fun up1 hU1 hT => br_t rfl (hwt _ _ hU1 hr hT (Or.inl ⟨d, rfl⟩))) (fun up1 y hU1 hT => br_f (by decide) ?_)
    refine ac_find hc hU1 hr e3 fun up2 hU2 => And.intro (ac_in hlr (by decide)) ?_
    have ey : pt (nI (c (R k))).toNatClampNeg = nI y := by rw [ecr, hP _ hlr, hT]; rfl
    refine hgo _ _ _ _ _ hU2 hl (hB _ _ hT) e2 ey (fun E P x z => Or.inr (Or.inl ⟨d, y, ac_coP hc x hT, z⟩)) (fun E P x z => z.2.1 d _ (ac_coP hc x hT)) _ (fun u hu => ?_)
    obtain ⟨_, _, _, _, _, _, _, _, _, _, _, _, _, _⟩ := u
    exact hu
  · refine br_f (by rw [ek, d]; decide) ⟨ink, br_f (by rw [ek, d]; decide) ⟨ink, br_t (by rw [ek]; exact d) ?_⟩⟩
    refine ac_fol (l := L k) hS (by omega) hr rfl e3 hwf ?_ ?_ ?_
    · exact fun up1 hU1 hT => hwt _ _ hU1 hr hT (Or.inr (Or.inl ⟨d, Or.inl rfl⟩))
    · exact fun up1 y hU1 hT hT' => hwt _ _ hU1 (hB _ _ hT) hT' (Or.inr (Or.inl ⟨d, Or.inr fun E P x => ac_coP hc x hT⟩))
    · intro up1 y z p' q' hU1 hT hT' ep eq Q hQ
      refine hgo _ _ _ _ _ hU1 hl (hB _ _ hT') (ep.trans e2) eq (fun E P x w => Or.inr (Or.inr (Or.inl ⟨d, y, z, ac_coP hc x hT, ac_coP hc x hT', w⟩))) (fun E P x w => w.2.2.1 d _ _ (ac_coP hc x hT) (ac_coP hc x hT')) _ (fun u hu => hQ _ ?_)
      obtain ⟨_, _, _, _, _, _, _, _, _, _, _, _, _, _⟩ := u
      exact hu
  · refine br_f (by rw [ek, d]; decide) ⟨ink, br_f (by rw [ek, d]; decide) ⟨ink, br_f (by rw [ek, d]; decide) ?_⟩⟩
    refine ac_pts hS (by omega) hl rfl e2 hwf (fun up1 hU1 hT => br_t rfl (hwt _ _ hU1 hl hT (Or.inr (Or.inr ⟨d, Or.inl rfl⟩)))) (fun up1 y hU1 hT => br_f (by decide) ?_)
    refine ac_pts ⟨hc, hB, hU1, hP⟩ (by omega) hr rfl e3 hwf (fun up2 hU2 hT' => br_t rfl (hwt _ _ hU2 hr hT' (Or.inr (Or.inr ⟨d, Or.inr rfl⟩)))) (fun up2 z hU2 hT' => br_f (by decide) ?_)
    refine ac_find hc hU2 hl e2 fun up3 hU3 => ac_find hc hU3 hr e3 fun up4 hU4 => And.intro (ac_in hll (by decide)) (And.intro (ac_in hlr (by decide)) ?_)
    have ey : pt (nI (c (L k))).toNatClampNeg = nI y := by rw [ecl, hP _ hll, hT]; rfl
    have ez : pt (nI (c (R k))).toNatClampNeg = nI z := by rw [ecr, hP _ hlr, hT']; rfl
    refine hgo _ _ _ _ _ hU4 (hB _ _ hT) (hB _ _ hT') ey ez (fun E P x w => Or.inr (Or.inr (Or.inr ⟨d, y, z, ac_coP hc x hT, ac_coP hc x hT', w⟩))) (fun E P x w => w.2.2.2 d _ _ (ac_coP hc x hT) (ac_coP hc x hT')) _ (fun u hu => ?_)
    obtain ⟨_, _, _, _, _, _, _, _, _, _, _, _, _, _⟩ := u
    exact hu
noncomputable def ac_M (m : Nat) (ko : Nat → Int32) (L R : Nat → Nat) (c : Nat → Nat) (T : Nat → Option Nat) (qd : Nat → Int32) : Nat :=
  ac_sm (fun k => ac_b (¬ qd k = 0) + ac_lf (ko k) (L k) (R k) (ac_P c T)) m
theorem ac_pop {m n : Nat} {q : Nat → Nat} (hn : n + 1 = ac_cn (fun k => ¬ qd k = 0) m) (h1 : ∀ i, i < n + 1 → qu i = nI (q i) ∧ q i < m ∧ ¬ qd (q i) = 0) (h2 : ∀ i j, i < j → j < n + 1 → q i ≠ q j) :
    ac_Qu m (nI n) qu (upd qd (q n) 0) := by
  obtain ⟨a1, a2, a3⟩ := h1 n (by omega)
  refine ⟨n, q, rfl, ?_, ?_, fun i j hi hj => h2 i j hi (by omega)⟩
  · have x := ac_cn_add (P := fun k => ¬ upd qd (q n) 0 k = 0) (Q := fun k => ¬ qd k = 0) (n := m) (a := q n) (fun k _ hk => by rw [pk_un hk]) a2 (by rw [pk_us]; exact fun e => e rfl) a3
    omega
  · intro i hi
    obtain ⟨b1, b2, b3⟩ := h1 i (by omega)
    exact ⟨b1, b2, by rw [pk_un (h2 i n hi (by omega))]; exact b3⟩
theorem ac_wo89 {post : SX → Prop} {m : Nat} (hm : m ≤ 24) (hG : ac_Pg m ko lo ro L R)
    (h : ∀ c T fr' up' pt' wf' qu' qd' pA' pB', ac_St c T up' pt' → ac_Sol m ko L R (ac_E c) (ac_P c T) → post (nI m, fk, fr', 0, ko, lo, ro, up', pt', wf', qu', qd', pA', pB')) :
    ∀ (n s : Nat) (c : Nat → Nat) (T : Nat → Option Nat) (fr : Int32) (up pt wf qu qd pA pB : Nat → Int32), ac_St c T up pt → ac_Qu m fr qu qd →
    (∀ k, k < m → ac_Kk (ko k) (L k) (R k) c T (wf k) (qd k)) → (∀ E P, ac_Cd m ko L R E P → ac_Co c T E P) → s + ac_M m ko L R c T qd ≤ 72 → 72 < n + s →
    wX_workOut_89 post n (nI s) (nI m) fk fr 0 ko lo ro up pt wf qu qd pA pB := by
  intro n
  induction n with
  | zero => intro s c T fr up pt wf qu qd pA pB hS hQ hK hO hM hn; omega
  | succ n ih =>
    intro s c T fr up pt wf qu qd pA pB hS hQ hK hO hM hn
    obtain ⟨hc, hB, hU, hP⟩ := id hS
    obtain ⟨nq, q, rfl, q1, q2, q3⟩ := id hQ
    have h200 : ¬ (200 : Int32) ≤ nI s := nI_ge (b := 200) (by omega) (by decide)
    have hq24 : nq ≤ m := by rw [q1]; exact ac_cn_up _ _
    cases nq with
    | zero =>
      refine br_f h200 (br_t (show nI 0 ≤ 0 by decide) (h c T _ _ _ _ _ _ _ _ hS (ac_Sol_mk hc hO fun k hk => ?_)))
      have z : qd k = 0 := by
        apply Classical.byContradiction
        intro e
        have := ac_cn_pos (P := fun k => ¬ qd k = 0) hk e
        omega
      rcases hK k hk with ⟨k1, _⟩ | ⟨_, v, k2, k3, k4, k5⟩ | ⟨_, _, k3⟩
      · exact absurd z k1
      · exact ac_Bk_Ru hc k4 k5
      · exact ac_Dn_Ru (ac_self (T := T) hc).1 (k3 _ _ (ac_self hc))
    | succ nq =>
      obtain ⟨a1, a2, a3⟩ := q2 nq (by omega)
      have enq : (nI nq).toNatClampNeg = nq := nI_clamp (by omega)
      have ekq : (nI (q nq)).toNatClampNeg = q nq := nI_clamp (by omega)
      have wk : wf (q nq) = -1 := by
        rcases hK _ a2 with ⟨_, k2⟩ | ⟨k1, _⟩ | ⟨k1, _⟩
        · exact k2
        · exact absurd k1 a3
        · exact absurd k1 a3
      have hQ' := ac_pop q1 q2 q3
      have hw : ∀ j, j < m → wf j = -1 ∨ ∃ v, v < 12 ∧ wf j = nI v ∧ T (c v) = none := by
        intro j hj
        rcases hK j hj with ⟨_, k2⟩ | ⟨_, v, k2, k3, k4, _⟩ | ⟨_, k2, _⟩
        · exact Or.inl k2
        · exact Or.inr ⟨v, k2, k3, k4⟩
        · exact Or.inl k2
      refine br_f h200 (br_f (nI_nle (by omega) (by omega)) (nm_r (e' := nI nq) (nI_pred nq) ⟨ac_in (by omega) (by decide), nm_r (e' := nI (q nq)) (by rw [enq, a1]) ⟨ac_in (by omega) (by decide), fun qd1 e1 => ?_⟩⟩))
      rw [ekq, ac_nb0] at e1
      rw [e1]
      refine ac_cout hm hG hS a2 rfl wk ?_ ?_
      · intro up' w hU' hw12 hT hBk
        refine Exists.intro 1 (ac_ja0 fun x ex => ?_)
        rw [ex, nI_1 s]
        refine ih (s + 1) c T _ _ _ _ _ _ _ _ ⟨hc, hB, hU', hP⟩ hQ' ?_ hO ?_ (by omega)
        · intro j hj
          by_cases zj : j = q nq
          · rw [zj, pk_us, pk_us]
            exact Or.inr (Or.inl ⟨rfl, w, hw12, rfl, hT, hBk⟩)
          · rw [pk_un zj, pk_un zj]
            exact hK j hj
        · have lt : ac_M m ko L R c T (upd qd (q nq) 0) < ac_M m ko L R c T qd := by
            refine ac_sm_lt (a := q nq) (fun j hj => ?_) a2 ?_
            · by_cases zj : j = q nq
              · rw [zj, pk_us, ac_bf (P := ¬ (0 : Int32) = 0) (fun e => e rfl)]; omega
              · rw [pk_un zj]; exact Nat.le_refl _
            · rw [pk_us, ac_bf (P := ¬ (0 : Int32) = 0) (fun e => e rfl), ac_bt a3]; omega
          omega
      · intro up' a b p' q' hU' ha hb ep eq hDn hRu Q hQQ
        refine ac_paj (post := fun u => match u with | (a0, a1, a2, a3, a4, a5, a6, a7, a8, a9, a10, a11, a12, a13) => ∀ x : Int32, x = nI s + 1 → wX_workOut_89 post n x a0 a1 a2 a3 a4 a5 a6 a7 a8 a9 a10 a11 a12 a13)
          hm ⟨hc, hB, hU', hP⟩ ha hb ep eq hQ' hw (fun u hu => hQQ _ ?_) ?_
        · obtain ⟨_, _, _, _, _, _, _, _, _, _, _, _, _, _⟩ := u
          exact hu
        · intro c' T' fr' up'' pt' wf' qu' qd' pA' pB' k1 k2 k3 k4 x ex
          rw [ex, nI_1 s]
          have hmo : ∀ E P, ac_Co c' T' E P → ac_Co c T E P := fun E P x => ((k2 E P).mp x).1
          have hc' := k1.1
          have hlk := ac_lf_mono (kd := ko (q nq)) (l := L (q nq)) (r := R (q nq)) (ac_mono hc' hc hmo)
          have own : wf' (q nq) = -1 ∧ qd' (q nq) = 0 := by
            rcases k4 _ a2 with ⟨e1, e2, _⟩ | ⟨_, _, v, v1, v2, _⟩
            · rw [pk_us] at e2
              exact ⟨e1.trans wk, e2⟩
            · exact absurd (wk.symm.trans v2) (ac_m1ne (by omega))
          have oth : ∀ j, j < m → j ≠ q nq → ac_Kk (ko j) (L j) (R j) c' T' (wf' j) (qd' j) ∧ ac_b (¬ qd' j = 0) + ac_lf (ko j) (L j) (R j) (ac_P c' T') ≤ ac_b (¬ qd j = 0) + ac_lf (ko j) (L j) (R j) (ac_P c T) := by
            intro j hj zj
            have w := k4 j hj
            rw [pk_un zj] at w
            exact ac_Kk_step hc hc' hmo (hK j hj) w
          refine ih (s + 1) c' T' _ _ _ _ _ _ _ _ k1 k3 ?_ ?_ ?_ (by omega)
          · intro j hj
            by_cases zj : j = q nq
            · rw [zj]
              exact Or.inr (Or.inr ⟨own.2, own.1, fun E P x => hDn E P (hmo E P x) ((k2 E P).mp x).2⟩)
            · exact (oth j hj zj).1
          · intro E P x
            exact (k2 E P).mpr ⟨hO E P x, hRu E P (hO E P x) (x.2 _ a2)⟩
          · have lt : ac_M m ko L R c' T' qd' < ac_M m ko L R c T qd := by
              refine ac_sm_lt (a := q nq) (fun j hj => ?_) a2 ?_
              · by_cases zj : j = q nq
                · rw [zj, own.2, ac_bf (P := ¬ (0 : Int32) = 0) (fun e => e rfl)]; omega
                · exact (oth j hj zj).2
              · rw [own.2, ac_bf (P := ¬ (0 : Int32) = 0) (fun e => e rfl), ac_bt a3]; omega
            omega
end
end
section
/-! workOut of the component: the two loops ahead of the queue, and the whole -/
section
variable {fa fk fr fp : Int32} {ko lo ro up pt wf qu qd pA pB : Nat → Int32} {L R : Nat → Nat}
theorem ac_sub1 (x : Int32) : x - 1 = x + (-1) := Int32.sub_eq_add_neg x 1
theorem ac_wo58 {post : SX → Prop} {m : Nat} (hm : m ≤ 24) (hG : ac_Pg m ko lo ro L R) (hU : ac_UF up (fun v => v)) (hP : ac_PT pt (fun _ => none))
    (h : ∀ c T fr' up' pt' wf' qu' qd' pA' pB', ac_St c T up' pt' → ac_Sol m ko L R (ac_E c) (ac_P c T) → post (nI m, fk, fr', 0, ko, lo, ro, up', pt', wf', qu', qd', pA', pB')) :
    ∀ (i n : Nat) (fr : Int32) (wf qu qd : Nat → Int32), i ≤ m → i < n → fr = nI (m - i) → (∀ t, t < m - i → qu t = nI (m - 1 - t)) → (∀ j, i ≤ j → j < m → qd j = 1 ∧ wf j = -1) →
    wX_workOut_58 post n (nI i + (-1)) (nI m) fk fr 0 ko lo ro up pt wf qu qd pA pB := by
  intro i
  induction i with
  | zero =>
    intro n fr wf qu qd hi hn er hq hd
    obtain ⟨n', rfl⟩ : ∃ n', n = n' + 1 := ⟨n - 1, by omega⟩
    have hc : ac_Cl (fun v => v) := ⟨fun _ => rfl, fun v hv => hv⟩
    refine br_t (by decide) (Exists.intro 73 ?_)
    refine ac_wo89 hm hG h 73 0 (fun v => v) (fun _ => none) fr up pt wf qu qd pA pB ⟨hc, fun _ _ e => (by cases e), hU, hP⟩ ?_ ?_ ?_ ?_ (by decide)
    · have one : ∀ k, k < m → ¬ qd k = 0 := fun k hk => by rw [(hd k (Nat.zero_le _) hk).1]; decide
      refine ⟨m, fun t => m - 1 - t, er, (ac_cn_all (P := fun k => ¬ qd k = 0) one).symm, ?_, ?_⟩
      · intro t ht
        exact ⟨hq t (by omega), by dsimp only; omega, one _ (by dsimp only; omega)⟩
      · intro t u htu hu
        dsimp only
        omega
    · intro k hk
      obtain ⟨d1, d2⟩ := hd k (Nat.zero_le _) hk
      exact Or.inl ⟨by rw [d1]; decide, d2⟩
    · intro E P x
      exact ⟨x.1, x.1.1, fun _ _ _ e => by cases e⟩
    · have b : ac_M m ko L R (fun v => v) (fun _ => none) qd ≤ 3 * m := by
        refine ac_sm_bd (fun k _ => ?_)
        have b1 := ac_ble (¬ qd k = 0)
        have b2 := ac_lf_le (ko k) (L k) (R k) (ac_P (fun v => v) (fun _ => none))
        omega
      omega
  | succ i ih =>
    intro n fr wf qu qd hi hn er hq hd
    obtain ⟨n', rfl⟩ : ∃ n', n = n' + 1 := ⟨n - 1, by omega⟩
    rw [pk_m1]
    have ini : vp_in (nI i) 24 := ac_in (by omega) (by decide)
    have ei : (nI i).toNatClampNeg = i := nI_clamp (by omega)
    refine br_f (nI_pos (by omega)) ⟨ini, fun qd1 e1 => ⟨ini, fun wf1 e2 => ?_⟩⟩
    rw [ei] at e1 e2
    rw [ac_nb0] at e1
    have z : qd1 (nI i).toNatClampNeg = 0 := by rw [ei, e1, pk_us]
    refine And.intro ini (br_t z ⟨ini, fun qd4 e4 => ⟨by rw [er]; exact ac_in (by omega) (by decide), fun qu6 e6 fr7 e7 => fun x ex => ?_⟩⟩)
    rw [ei, ac_nb1] at e4
    rw [er, nI_clamp (by omega)] at e6
    rw [er, nI_1] at e7
    rw [ex]
    refine ih n' fr7 wf1 qu6 qd4 (by omega) (by omega) ?_ ?_ ?_
    · rw [e7]
      exact congrArg nI (by omega)
    · intro t ht
      rw [e6]
      by_cases zt : t = m - (i + 1)
      · rw [zt, pk_us]
        exact congrArg nI (by omega)
      · rw [pk_un zt]
        exact hq t (by omega)
    · intro j hj hjm
      rw [e4, e2, e1]
      by_cases zj : j = i
      · rw [zj, pk_us, pk_us]
        exact ⟨rfl, rfl⟩
      · rw [pk_un zj, pk_un zj, pk_un zj]
        exact hd j (by omega) hjm
theorem ac_wo15 {post : SX → Prop} {m : Nat} (hm : m ≤ 24) (hG : ac_Pg m ko lo ro L R)
    (h : ∀ c T fr' up' pt' wf' qu' qd' pA' pB', ac_St c T up' pt' → ac_Sol m ko L R (ac_E c) (ac_P c T) → post (nI m, fk, fr', 0, ko, lo, ro, up', pt', wf', qu', qd', pA', pB')) :
    ∀ (n i : Nat) (up pt : Nat → Int32), 12 < n + i → i ≤ 12 → (∀ v, v < i → up v = nI v ∧ pt v = -1) →
    wX_workOut_15 post (nI m) fk fr fp n (nI i) ko lo ro up pt wf qu qd pA pB := by
  intro n
  induction n with
  | zero => intro i up pt hn hi hv; omega
  | succ n ih =>
    intro i up pt hn hi hv
    by_cases z : i = 12
    · refine br_t (by rw [z]; decide) (nm_r (e' := nI m + (-1)) (ac_sub1 _) (Exists.intro (m + 1) ?_))
      rw [z] at hv
      refine ac_wo58 hm hG ⟨fun _ => 0, fun v hv' => ⟨?_, v, hv', (hv v hv').1, rfl, Iff.rfl, fun e => absurd rfl e⟩⟩ (fun v hv' => (hv v hv').2) h m (m + 1) _ _ _ _ (Nat.le_refl _) (by omega) ?_ (fun t ht => absurd ht (by omega)) (fun j h1 h2 => absurd h2 (by omega))
      · rw [Nat.zero_add]; exact ac_rt_le _
      · rw [Nat.sub_self]; rfl
    · have hl : i < 12 := by omega
      have ei : (nI i).toNatClampNeg = i := nI_clamp (by omega)
      refine br_f (nI_ge (b := 12) hl (by decide)) ⟨ac_in hl (by decide), fun up1 e1 => ⟨ac_in hl (by decide), fun pt1 e2 x ex => ?_⟩⟩
      rw [ei] at e1 e2
      rw [ex, nI_1 i]
      refine ih (i + 1) up1 pt1 (by omega) (by omega) (fun v hvi => ?_)
      rw [e1, e2]
      by_cases zv : v = i
      · rw [zv, pk_us, pk_us]; exact ⟨rfl, rfl⟩
      · rw [pk_un zv, pk_un zv]; exact hv v (by omega)
theorem ac_wo {post : SX → Prop} {m : Nat} (hm : m ≤ 24) (hG : ac_Pg m ko lo ro L R) (hk : ¬ fk = 0 → ∃ c T, ac_St c T up pt ∧ ac_Sol m ko L R (ac_E c) (ac_P c T))
    (h : ∀ c T fk' fr' fp' up' pt' wf' qu' qd' pA' pB', ac_St c T up' pt' → ac_Sol m ko L R (ac_E c) (ac_P c T) → post (nI m, fk', fr', fp', ko, lo, ro, up', pt', wf', qu', qd', pA', pB')) :
    wpX_workOut post (nI m, fk, fr, fp, ko, lo, ro, up, pt, wf, qu, qd, pA, pB) := by
  refine br_c (fun _ => Exists.intro 13 ?_) (fun z => ?_)
  · exact ac_wo15 hm hG (fun c T fr' up' pt' wf' qu' qd' pA' pB' a1 a2 => h c T _ _ _ _ _ _ _ _ _ _ a1 a2) 13 0 up pt (by decide) (by decide) (fun v hv => absurd hv (by omega))
  · obtain ⟨c, T, a1, a2⟩ := hk z
    exact h c T _ _ _ _ _ _ _ _ _ _ a1 a2
end
end
section
/-! join, point of the reference -/
def ac_ny (c : Nat → Nat) (T : Nat → Option Nat) (v : Nat) : Option Nat := if c v = v then (T v).map c else none
def ac_YS (c : Nat → Nat) (T : Nat → Option Nat) (co to : Nat → Int32) : Prop :=
  ac_Cl c ∧ ac_TB T ∧ (∀ v, v < 12 → co v = nI (c v)) ∧ (∀ v, v < 12 → to v = ac_en (ac_ny c T v))
def ac_ren (p q z : Int32) : Int32 := if z = q then p else z
theorem ac_ny_r {c : Nat → Nat} {T : Nat → Option Nat} {v : Nat} (h : c v = v) : ac_ny c T v = (T v).map c := if_pos h
theorem ac_ny_n {c : Nat → Nat} {T : Nat → Option Nat} {v : Nat} (h : ¬ c v = v) : ac_ny c T v = none := if_neg h
theorem ac_ren_e {p q z : Int32} (h : z = q) : ac_ren p q z = p := if_pos h
theorem ac_ren_n {p q z : Int32} (h : ¬ z = q) : ac_ren p q z = z := if_neg h
theorem ac_ren_c {c : Nat → Nat} {x y v : Nat} (hc : ac_Cl c) (hv : v < 12) (hy : y < 12) : ac_ren (nI x) (nI y) (nI (c v)) = nI (ac_jc c x y v) := by
  by_cases z : c v = y
  · rw [ac_jc_y z, ac_ren_e (congrArg nI z)]
  · rw [ac_jc_n z, ac_ren_n (fun e => z (ac_inj (by have := hc.2 v hv; omega) (by omega) e))]
theorem ac_ren_m {x y : Nat} (hy : y < 12) : ac_ren (nI x) (nI y) (-1) = -1 := ac_ren_n (ac_m1ne (by omega))
theorem ac_ren_o {c : Nat → Nat} {x y : Nat} {o : Option Nat} (hc : ac_Cl c) (ho : ∀ t, o = some t → t < 12) (hy : y < 12) : ac_ren (nI x) (nI y) (ac_en (o.map c)) = ac_en (o.map (ac_jc c x y)) := by
  cases o with
  | none => exact ac_ren_m hy
  | some t => exact ac_ren_c hc (ho t rfl) hy
section
variable {fh fc : Int32} {ki le ri co to : Nat → Int32} {c : Nat → Nat} {T : Nat → Option Nat}
theorem ac_j76 {post : SY → Prop} {J : Int32 → Int32 → Int32 → (Nat → Int32) → (Nat → Int32) → (Nat → Int32) → (Nat → Int32) → (Nat → Int32) → Prop} {x3 x4 x5 x6 z : Int32} {co0 to0 : Nat → Int32}
    (hz : (x5 < 0 ∧ z = x6) ∨ (¬ x5 < 0 ∧ z = x5))
    (h : ∀ co' to', (∀ v, v < 12 → co' v = ac_ren x3 x4 (co0 v) ∧ to' v = ac_ren x3 x4 (to0 v)) → wY_join_146 post J x4 x5 x6 z x3 fh fc ki le ri co' to') :
    ∀ (n i : Nat) (co to : Nat → Int32), 12 < n + i → i ≤ 12 → (∀ v, v < i → co v = ac_ren x3 x4 (co0 v) ∧ to v = ac_ren x3 x4 (to0 v)) → (∀ v, i ≤ v → co v = co0 v ∧ to v = to0 v) →
    wY_join_76 post J x3 x4 x5 x6 fh fc n (nI i) ki le ri co to := by
  intro n
  induction n with
  | zero => intro i co to hn hi; omega
  | succ n ih =>
    intro i co to hn hi h1 h2
    by_cases zi : i = 12
    · rw [zi] at h1
      refine br_t (by rw [zi]; decide) ?_
      rcases hz with ⟨a, b⟩ | ⟨a, b⟩
      · refine br_t a ?_
        have x := h co to h1
        rw [b] at x
        exact x
      · refine br_f a ?_
        have x := h co to h1
        rw [b] at x
        exact x
    · have hl : i < 12 := by omega
      have ei : (nI i).toNatClampNeg = i := nI_clamp (by omega)
      have ini : vp_in (nI i) 12 := ac_in hl (by decide)
      obtain ⟨c1, t1⟩ := h2 i (Nat.le_refl _)
      -- the second half of the body, classOf being done
      have two : ∀ co1, co1 i = ac_ren x3 x4 (co0 i) → (∀ v, v ≠ i → co1 v = co v) → wY_join_103 post J (wY_join_76 post J x3 x4 x5 x6 fh fc n) x3 x4 x5 x6 (nI i) fh fc ki le ri co1 to := by
        intro co1 a1 a2
        refine And.intro ini (br_c (fun e => ⟨ini, fun to1 e1 x ex => ?_⟩) (fun e x ex => ?_))
        · rw [ei] at e e1
          rw [ex, nI_1 i, e1]
          refine ih (i + 1) _ _ (by omega) (by omega) (fun v hv => ?_) (fun v hv => ?_)
          · by_cases zv : v = i
            · rw [zv, pk_us, ← t1, ac_ren_e e]; exact ⟨a1, rfl⟩
            · rw [pk_un zv, a2 v zv]; exact h1 v (by omega)
          · rw [pk_un (by omega), a2 v (by omega)]; exact h2 v (by omega)
        · rw [ei] at e
          rw [ex, nI_1 i]
          refine ih (i + 1) _ _ (by omega) (by omega) (fun v hv => ?_) (fun v hv => ?_)
          · by_cases zv : v = i
            · rw [zv, ← t1, ac_ren_n e]; exact ⟨a1, rfl⟩
            · rw [a2 v zv]; exact h1 v (by omega)
          · rw [a2 v (by omega)]; exact h2 v (by omega)
      refine br_f (nI_ge (b := 12) hl (by decide)) ⟨ini, br_c (fun e => ⟨ini, fun co1 e1 => ?_⟩) (fun e => ?_)⟩
      · rw [ei] at e e1
        rw [e1]
        exact two _ (by rw [pk_us, ← c1, ac_ren_e e]) (fun v hv => pk_un hv)
      · rw [ei] at e
        exact two co (by rw [← c1, ac_ren_n e]) (fun v _ => rfl)
theorem ac_y146 {post : SY → Prop} {J : Int32 → Int32 → Int32 → (Nat → Int32) → (Nat → Int32) → (Nat → Int32) → (Nat → Int32) → (Nat → Int32) → Prop} {x y : Nat} {x5 x6 : Int32} {co0 to0 : Nat → Int32}
    (hY : ac_YS c T co0 to0) (hx : c x = x) (hy : c y = y) (hne : x ≠ y) (hlx : x < 12) (hly : y < 12)
    (h1 : ∀ v, v < 12 → co v = ac_ren (nI x) (nI y) (co0 v) ∧ to v = ac_ren (nI x) (nI y) (to0 v))
    (h : ∀ to', ac_YS (ac_jc c x y) (ac_jT T x y) co to' → J x5 x6 fc ki le ri co to') :
    wY_join_146 post J (nI y) x5 x6 (ac_en (((T x).map (ac_jc c x y)).or ((T y).map (ac_jc c x y)))) (nI x) fh fc ki le ri co to := by
  obtain ⟨hc, hB, hC, hTo⟩ := hY
  have ex : (nI x).toNatClampNeg = x := nI_clamp (by omega)
  have ey : (nI y).toNatClampNeg = y := nI_clamp (by omega)
  have hc' := ac_jc_Cl hc hx hne hlx
  have hxr : ac_jc c x y x = x := ac_jc_keep hx hne
  refine And.intro (ac_in hlx (by decide)) (fun to1 e1 => And.intro (ac_in hly (by decide)) (fun to2 e2 => ?_))
  rw [ex] at e1
  rw [ey] at e2
  refine h to2 ⟨hc', ac_jT_TB hB, fun v hv => ?_, fun v hv => ?_⟩
  · rw [(h1 v hv).1, hC v hv, ac_ren_c hc hv hly]
  · rw [e2, e1]
    by_cases zy : v = y
    · rw [zy, pk_us, ac_ny_n (by rw [ac_jc_y hy]; exact hne)]; rfl
    · rw [pk_un zy]
      by_cases zx : v = x
      · rw [zx, pk_us, ac_ny_r hxr, ac_jT_x]
        cases T x <;> rfl
      · rw [pk_un zx, (h1 v hv).2, hTo v hv]
        by_cases zr : c v = v
        · rw [ac_ny_r zr, ac_ny_r (ac_jc_keep zr zy), ac_jT_n zx, ac_ren_o hc (fun t e => hB _ _ e) hly]
        · rw [ac_ny_n zr, ac_ny_n (fun e => zr (ac_jc_root hx hne e).1)]
          exact ac_ren_m hly
theorem ac_or_z {o o' : Option Nat} (h : ∀ t, o = some t → t < 12) : (ac_en o < 0 ∧ ac_en (o.or o') = ac_en o') ∨ (¬ ac_en o < 0 ∧ ac_en (o.or o') = ac_en o) := by
  cases o with
  | none => exact Or.inl ⟨by decide, rfl⟩
  | some t => exact Or.inr ⟨ac_en_n (h t rfl), rfl⟩
theorem ac_mapB {o : Option Nat} (hc : ac_Cl c) (h : ∀ t, o = some t → t < 12) : ∀ t, o.map c = some t → c t = t ∧ t < 12 := by
  intro t e
  cases o with
  | none => cases e
  | some s =>
    cases e
    exact ⟨hc.1 s, hc.2 s (h s rfl)⟩
theorem ac_yj {post : SY → Prop} : ∀ (n : Nat) (c : Nat → Nat) (T : Nat → Option Nat) (ox oy : Option Nat) (fc : Int32) (co to : Nat → Int32), ac_YS c T co to →
    (∀ p, ox = some p → c p = p ∧ p < 12) → (∀ q, oy = some q → c q = q ∧ q < 12) → ac_rt c < n →
    (∀ c' T' fc' co' to', ac_YS c' T' co' to' → (∀ E P, ac_Co c' T' E P ↔ (ac_Co c T E P ∧ ∀ p q, ox = some p → oy = some q → E p q)) →
      ((c' = c ∧ T' = T ∧ fc' = fc) ∨ (fc' = 1 ∧ ac_mu c' T' < ac_mu c T)) → post (fh, fc', ki, le, ri, co', to')) →
    wY_join_5 post fh n (ac_en ox) (ac_en oy) fc ki le ri co to := by
  intro n
  induction n with
  | zero => intro c T ox oy fc co to _ _ _ hn; omega
  | succ n ih =>
    intro c T ox oy fc co to hY hox hoy hn h
    obtain ⟨hc, hB, hC, hTo⟩ := id hY
    have same : (∀ E P, ac_Co c T E P → ∀ p q, ox = some p → oy = some q → E p q) → post (fh, fc, ki, le, ri, co, to) := fun g =>
      h c T fc co to hY (fun E P => ⟨fun x => ⟨x, g E P x⟩, fun x => x.1⟩) (Or.inl ⟨rfl, rfl, rfl⟩)
    cases ox with
    | none =>
      have d := same (fun E P _ p q e _ => by cases e)
      exact br_c (fun _ => d) (fun _ => br_t (show (-1 : Int32) < 0 by decide) d)
    | some x =>
      obtain ⟨hx, hlx⟩ := hox x rfl
      cases oy with
      | none =>
        have d := same (fun E P _ p q _ e => by cases e)
        exact br_c (fun _ => d) (fun _ => br_f (ac_en_n hlx) (br_t (show (-1 : Int32) < 0 by decide) d))
      | some y =>
        obtain ⟨hy, hly⟩ := hoy y rfl
        by_cases z : x = y
        · have d := same (fun E P k p q e1 e2 => by cases e1; cases e2; rw [← z]; exact k.1.1 x)
          exact br_t (congrArg nI z) d
        · have nxy : ¬ nI x = nI y := fun e => z (ac_inj (by omega) (by omega) e)
          have ex : (nI x).toNatClampNeg = x := nI_clamp (by omega)
          have ey : (nI y).toNatClampNeg = y := nI_clamp (by omega)
          have inx : vp_in (nI x) 12 := ac_in hlx (by decide)
          have iny : vp_in (nI y) 12 := ac_in hly (by decide)
          have hc' := ac_jc_Cl hc hx z hlx
          have hrt := ac_rt_join hx hy z hly
          have hmu := ac_mu_join (T := T) hx hy z hly
          have tx : to x = ac_en ((T x).map c) := by rw [hTo x hlx, ac_ny_r hx]
          have ty : to y = ac_en ((T y).map c) := by rw [hTo y hly, ac_ny_r hy]
          have rx : ac_ren (nI x) (nI y) (to x) = ac_en ((T x).map (ac_jc c x y)) := by rw [tx, ac_ren_o hc (fun t e => hB _ _ e) hly]
          have ry : ac_ren (nI x) (nI y) (to y) = ac_en ((T y).map (ac_jc c x y)) := by rw [ty, ac_ren_o hc (fun t e => hB _ _ e) hly]
          have mx := ac_mapB hc' (o := T x) (fun t e => hB _ _ e)
          have my := ac_mapB hc' (o := T y) (fun t e => hB _ _ e)
          have key : ∀ E P, (ac_Co (ac_jc c x y) (ac_jT T x y) E P ∧ ∀ p q, (T x).map (ac_jc c x y) = some p → (T y).map (ac_jc c x y) = some q → E p q) ↔
              (ac_Co c T E P ∧ ∀ p q, some x = some p → some y = some q → E p q) := by
            intro E P
            have j := ac_join (T := T) (E := E) (P := P) hx hy z
            constructor
            · intro k
              have k' := j.mpr ⟨k.1, fun p q e1 e2 => (ac_coEc k.1).mpr (k.2 _ _ (by rw [e1]; rfl) (by rw [e2]; rfl))⟩
              exact ⟨k'.1, fun p q e1 e2 => by cases e1; cases e2; exact k'.2⟩
            · intro k
              have k' := j.mp ⟨k.1, k.2 x y rfl rfl⟩
              refine ⟨k'.1, fun p q e1 e2 => ?_⟩
              cases hTx : T x with
              | none => rw [hTx] at e1; cases e1
              | some s =>
                cases hTy : T y with
                | none => rw [hTy] at e2; cases e2
                | some t =>
                  rw [hTx] at e1
                  rw [hTy] at e2
                  cases e1
                  cases e2
                  exact (ac_coEc k'.1).mp (k'.2 _ _ hTx hTy)
          have rest : ∀ x6, x6 = ac_en ((T y).map (ac_jc c x y)) → ∃ n76, wY_join_76 post (wY_join_5 post fh n) (nI x) (nI y) (ac_en ((T x).map (ac_jc c x y))) x6 fh 1 n76 0 ki le ri co to := by
            intro x6 e6
            rw [e6]
            refine ⟨13, ac_j76 (ac_or_z (o' := (T y).map (ac_jc c x y)) (fun t e => (mx t e).2)) (fun co' to' a => ?_) 13 0 co to (by decide) (by decide) (fun v hv => absurd hv (by omega)) (fun v _ => ⟨rfl, rfl⟩)⟩
            refine ac_y146 hY hx hy z hlx hly a (fun to'' hY' => ?_)
            refine ih _ _ _ _ _ _ _ hY' mx my (by omega) ?_
            intro c2 T2 fc2 co2 to2 k1 k2 k3
            refine h c2 T2 fc2 co2 to2 k1 (fun E P => by rw [k2, key]) (Or.inr ?_)
            rcases k3 with ⟨rfl, rfl, rfl⟩ | ⟨k3, k4⟩
            · exact ⟨rfl, hmu⟩
            · exact ⟨k3, by omega⟩
          have mid : ∀ z0, z0 = ac_en ((T x).map (ac_jc c x y)) → wY_join_46 post (wY_join_5 post fh n) (nI x) (nI y) z0 fh 1 ki le ri co to := by
            intro z0 e0
            rw [e0]
            refine And.intro iny (br_c (fun e => rest _ ?_) (fun e => ⟨iny, fun x6 e6 => rest _ ?_⟩))
            · rw [ey] at e
              rw [← ry, ac_ren_e e]
            · rw [ey] at e e6
              rw [e6, ← ry, ac_ren_n e]
          refine br_f nxy (br_f (ac_en_n hlx) (br_f (ac_en_n hly) ⟨inx, br_c (fun e => mid _ ?_) (fun e => ⟨inx, mid _ ?_⟩)⟩))
          · have e' : to x = nI y := by rw [← ex]; exact e
            rw [← rx, ac_ren_e e']; rfl
          · have e' : ¬ to x = nI y := by rw [← ex]; exact e
            show to (nI x).toNatClampNeg = _
            rw [ex, ← rx, ac_ren_n e']
theorem ac_ypt {post : SY → Prop} {x y : Nat} {p q : Int32} (hY : ac_YS c T co to) (hx : c x = x) (hy : c y = y) (hlx : x < 12) (hly : y < 12) (hp : p = nI x) (hq : q = nI y)
    (h : ∀ c' T' fc' co' to', ac_YS c' T' co' to' → (∀ E P, ac_Co c' T' E P ↔ (ac_Co c T E P ∧ P x y)) →
      ((c' = c ∧ T' = T ∧ fc' = fc) ∨ (fc' = 1 ∧ ac_mu c' T' < ac_mu c T)) → post (fh, fc', ki, le, ri, co', to')) :
    wpY_point post (fh, fc, ki, le, ri, co, to) p q := by
  subst hp hq
  obtain ⟨hc, hB, hC, hTo⟩ := id hY
  have ex : (nI x).toNatClampNeg = x := nI_clamp (by omega)
  have inx : vp_in (nI x) 12 := ac_in hlx (by decide)
  refine And.intro inx ?_
  cases hT : T x with
  | none =>
    have tx : to (nI x).toNatClampNeg = -1 := by rw [ex, hTo x hlx, ac_ny_r hx, hT]; rfl
    refine br_f (by rw [tx]; decide) ⟨inx, fun to1 e1 => ?_⟩
    rw [ex] at e1
    have hT' : T (c x) = none := by rw [hx]; exact hT
    refine h c (ac_uT T (c x) y) 1 co to1 ⟨hc, ac_uT_TB hB hly, hC, fun v hv => ?_⟩ (fun E P => ac_point hc hT') (Or.inr ⟨rfl, ?_⟩)
    · rw [e1]
      by_cases zv : v = x
      · rw [zv, pk_us, ac_ny_r hx, hx, ac_uT_r]
        show nI y = nI (c y)
        rw [hy]
      · rw [pk_un zv, hTo v hv]
        unfold ac_ny
        rw [ac_uT_n (by rw [hx]; exact zv)]
    · rw [hx]
      exact ac_mu_pt hx hlx hT
  | some t =>
    have ht := hB _ _ hT
    have hlt := hc.2 t ht
    have tx : to (nI x).toNatClampNeg = nI (c t) := by rw [ex, hTo x hlx, ac_ny_r hx, hT]; rfl
    have hT' : T (c x) = some t := by rw [hx]; exact hT
    refine br_t (by rw [tx]; exact nI_pos' (by omega)) ⟨inx, ?_⟩
    rw [tx]
    refine Exists.intro 13 (ac_yj 13 c T (some (c t)) (some y) fc co to hY (fun p e => by cases e; exact ⟨hc.1 t, hlt⟩) (fun q e => by cases e; exact ⟨hy, hly⟩) (by have := ac_rt_le c; omega) ?_)
    intro c' T' fc' co' to' k1 k2 k3
    refine h c' T' fc' co' to' k1 (fun E P => ?_) k3
    rw [k2]
    constructor
    · rintro ⟨a1, a2⟩
      refine ⟨a1, (ac_point2 hc hT' a1).mpr ?_⟩
      have e := a2 _ _ rfl rfl
      rw [← hy] at e
      exact (ac_coEc a1).mpr e
    · rintro ⟨a1, a2⟩
      refine ⟨a1, fun p q e1 e2 => ?_⟩
      cases e1
      cases e2
      have e := (ac_coEc a1).mp ((ac_point2 hc hT' a1).mp a2)
      rw [hy] at e
      exact e
end
end
section
/-! apply, work of the reference -/
section
variable {fh fc x2 x4 : Int32} {ki le ri co to ko lo ro : Nat → Int32} {c : Nat → Nat} {T : Nat → Option Nat} {L R : Nat → Nat} {k m : Nat}
theorem ac_a106 {post : SY → Prop} (hk : k < 24) (d : ¬ ki k = 3) (h : post (fh, fc, ki, le, ri, co, to)) : wY_apply_106 post (nI k) x2 x4 fh fc ki le ri co to := by
  have ek : (nI k).toNatClampNeg = k := nI_clamp (by omega)
  exact And.intro (ac_in hk (by decide)) (br_f (by rw [ek]; exact d) h)
theorem ac_a69 {post : SY → Prop} (hk : k < 24) (d : ¬ ki k = 2) (h : wY_apply_106 post (nI k) x2 x4 fh fc ki le ri co to) : wY_apply_69 post (nI k) x2 x4 fh fc ki le ri co to := by
  have ek : (nI k).toNatClampNeg = k := nI_clamp (by omega)
  exact And.intro (ac_in hk (by decide)) (br_f (by rw [ek]; exact d) h)
theorem ac_a47 {post : SY → Prop} (hk : k < 24) (d : ¬ ki k = 1) (h : wY_apply_69 post (nI k) x2 x4 fh fc ki le ri co to) : wY_apply_47 post (nI k) x2 x4 fh fc ki le ri co to := by
  have ek : (nI k).toNatClampNeg = k := nI_clamp (by omega)
  exact And.intro (ac_in hk (by decide)) (br_f (by rw [ek]; exact d) h)
theorem ac_yap {post : SY → Prop} {p : Int32} (hm : m ≤ 24) (hG : ac_Pg m ki le ri L R) (hY : ac_YS c T co to) (hk : k < m) (hp : p = nI k)
    (h : ∀ c' T' fc' co' to', ac_YS c' T' co' to' → (∀ E P, ac_Co c T E P → ac_Ru (ki k) (L k) (R k) P → ac_Co c' T' E P) →
      ((c' = c ∧ T' = T ∧ fc' = fc ∧ ac_Ru (ki k) (L k) (R k) (ac_P c T)) ∨ (fc' = 1 ∧ ac_mu c' T' < ac_mu c T)) → post (fh, fc', ki, le, ri, co', to')) :
    wpY_apply post (fh, fc, ki, le, ri, co, to) p := by
  subst hp
  obtain ⟨hc, hB, hC, hTo⟩ := id hY
  obtain ⟨hkd, el, hl, er, hr⟩ := hG k hk
  have hk24 : k < 24 := by omega
  have ek : (nI k).toNatClampNeg = k := nI_clamp (by omega)
  have ink : vp_in (nI k) 24 := ac_in hk24 (by decide)
  have hll := hc.2 _ hl
  have hlr := hc.2 _ hr
  have enl : (nI (L k)).toNatClampNeg = L k := nI_clamp (by omega)
  have enr : (nI (R k)).toNatClampNeg = R k := nI_clamp (by omega)
  have ecl : (nI (c (L k))).toNatClampNeg = c (L k) := nI_clamp (by omega)
  have ecr : (nI (c (R k))).toNatClampNeg = c (R k) := nI_clamp (by omega)
  have tl : to (nI (c (L k))).toNatClampNeg = ac_en ((T (c (L k))).map c) := by rw [ecl, hTo _ hll, ac_ny_r (hc.1 _)]
  have tr : to (nI (c (R k))).toNatClampNeg = ac_en ((T (c (R k))).map c) := by rw [ecr, hTo _ hlr, ac_ny_r (hc.1 _)]
  -- nothing is done
  have stay : ac_Ru (ki k) (L k) (R k) (ac_P c T) → post (fh, fc, ki, le, ri, co, to) := fun x => h c T fc co to hY (fun _ _ y _ => y) (Or.inl ⟨rfl, rfl, rfl, x⟩)
  -- a points at b
  have go : ∀ (Q : SY → Prop) (a b : Nat) (p q : Int32), c a = a → c b = b → a < 12 → b < 12 → p = nI a → q = nI b →
      (∀ E P, ac_Co c T E P → P a b → ac_Dn (ki k) (L k) (R k) P) → (∀ E P, ac_Co c T E P → ac_Ru (ki k) (L k) (R k) P → P a b) →
      (∀ fc' co' to', post (fh, fc', ki, le, ri, co', to') → Q (fh, fc', ki, le, ri, co', to')) → wpY_point Q (fh, fc, ki, le, ri, co, to) p q := by
    intro Q a b p q ha hb hla hlb ep eq hD hR hQ
    refine ac_ypt hY ha hb hla hlb ep eq (fun c' T' fc' co' to' k1 k2 k3 => hQ _ _ _ (h c' T' fc' co' to' k1 (fun E P x y => (k2 E P).mpr ⟨x, hR E P x y⟩) ?_))
    rcases k3 with ⟨rfl, rfl, rfl⟩ | k3
    · have s := ac_self (T := T') hc
      exact Or.inl ⟨rfl, rfl, rfl, ac_Dn_Ru s.1 (hD _ _ s ((k2 _ _).mp s).2)⟩
    · exact Or.inr k3
  refine And.intro ink (And.intro (by rw [ek, el]; exact ac_in hl (by decide)) (nm_r (e' := nI (c (L k))) (by rw [ek, el, enl, hC _ hl]) (And.intro ink (And.intro (by rw [ek, er]; exact ac_in hr (by decide))
    (nm_r (e' := nI (c (R k))) (by rw [ek, er, enr, hC _ hr]) (And.intro (ac_in hlr (by decide)) (nm_r (e' := ac_en ((T (c (R k))).map c)) tr (And.intro ink ?_))))))))
  rcases hkd with d | d | d | d
  · have n1 : ¬ ki k = 1 := by rw [d]; decide
    have n2 : ¬ ki k = 2 := by rw [d]; decide
    have n3 : ¬ ki k = 3 := by rw [d]; decide
    refine br_t (by rw [ek]; exact d) (go _ _ _ _ _ (hc.1 _) (hc.1 _) hll hlr rfl rfl (fun E P x y => Or.inl ⟨d, (ac_coPc x).mpr y⟩) (fun E P x y => (ac_coPc x).mp (y.1 d)) ?_)
    exact fun fc' co' to' x => ac_a47 hk24 n1 (ac_a69 hk24 n2 (ac_a106 hk24 n3 x))
  · have n0 : ¬ ki k = 0 := by rw [d]; decide
    have n2 : ¬ ki k = 2 := by rw [d]; decide
    have n3 : ¬ ki k = 3 := by rw [d]; decide
    refine br_f (by rw [ek]; exact n0) (show wY_apply_47 post _ _ _ _ _ _ _ _ _ _ from ?_)
    refine And.intro ink (br_t (by rw [ek]; exact d) ?_)
    cases hT : T (c (R k)) with
    | none => exact br_t (show (-1 : Int32) < 0 by decide) (ac_a69 hk24 n2 (ac_a106 hk24 n3 (stay (ac_Bk_Ru hc hT (Or.inl ⟨d, rfl⟩)))))
    | some y =>
      have hy := hB _ _ hT
      have hly := hc.2 y hy
      refine br_f (ac_en_n hly) (go _ (c (L k)) (c y) _ _ (hc.1 _) (hc.1 _) hll hly rfl rfl (fun E P x z => Or.inr (Or.inl ⟨d, y, ac_coP hc x hT, (ac_coPc x).mpr z⟩)) (fun E P x z => (ac_coPc x).mp (z.2.1 d _ (ac_coP hc x hT))) ?_)
      exact fun fc' co' to' x => ac_a69 hk24 n2 (ac_a106 hk24 n3 x)
  · have n0 : ¬ ki k = 0 := by rw [d]; decide
    have n1 : ¬ ki k = 1 := by rw [d]; decide
    have n3 : ¬ ki k = 3 := by rw [d]; decide
    refine br_f (by rw [ek]; exact n0) (ac_a47 hk24 n1 (show wY_apply_69 post _ _ _ _ _ _ _ _ _ _ from ?_))
    refine And.intro ink (br_t (by rw [ek]; exact d) ?_)
    cases hT : T (c (R k)) with
    | none => exact br_t (show (-1 : Int32) < 0 by decide) (ac_a106 hk24 n3 (stay (ac_Bk_Ru hc hT (Or.inr (Or.inl ⟨d, Or.inl rfl⟩)))))
    | some y =>
      have hy := hB _ _ hT
      have hly := hc.2 y hy
      have ecy : (nI (c y)).toNatClampNeg = c y := nI_clamp (by omega)
      have ty : to (nI (c y)).toNatClampNeg = ac_en ((T (c y)).map c) := by rw [ecy, hTo _ hly, ac_ny_r (hc.1 _)]
      refine br_f (ac_en_n hly) (And.intro (ac_in hly (by decide)) ?_)
      cases hT' : T (c y) with
      | none =>
        rw [hT'] at ty
        refine br_t ?_ (ac_a106 hk24 n3 (stay (ac_Bk_Ru hc hT' (Or.inr (Or.inl ⟨d, Or.inr fun E P x => ac_coP hc x hT⟩)))))
        show to (nI (c y)).toNatClampNeg < 0
        rw [ty]; exact (show (-1 : Int32) < 0 by decide)
      | some z =>
        rw [hT'] at ty
        have hz := hB _ _ hT'
        have hlz := hc.2 z hz
        refine br_f ?_ (And.intro (ac_in hly (by decide)) (go _ (c (L k)) (c z) _ _ (hc.1 _) (hc.1 _) hll hlz rfl ty (fun E P x w => Or.inr (Or.inr (Or.inl ⟨d, y, z, ac_coP hc x hT, ac_coP hc x hT', (ac_coPc x).mpr w⟩)))
          (fun E P x w => (ac_coPc x).mp (w.2.2.1 d _ _ (ac_coP hc x hT) (ac_coP hc x hT'))) ?_))
        · show ¬ to (nI (c y)).toNatClampNeg < 0
          rw [ty]; exact ac_en_n hlz
        · exact fun fc' co' to' x => ac_a106 hk24 n3 x
  · have n0 : ¬ ki k = 0 := by rw [d]; decide
    have n1 : ¬ ki k = 1 := by rw [d]; decide
    have n2 : ¬ ki k = 2 := by rw [d]; decide
    refine br_f (by rw [ek]; exact n0) (ac_a47 hk24 n1 (ac_a69 hk24 n2 (show wY_apply_106 post _ _ _ _ _ _ _ _ _ _ from ?_)))
    refine And.intro ink (br_t (by rw [ek]; exact d) (And.intro (ac_in hll (by decide)) ?_))
    cases hT : T (c (L k)) with
    | none =>
      rw [hT] at tl
      exact br_t (by rw [tl]; exact (show (-1 : Int32) < 0 by decide)) (stay (ac_Bk_Ru hc hT (Or.inr (Or.inr ⟨d, Or.inl rfl⟩))))
    | some y =>
      rw [hT] at tl
      have hy := hB _ _ hT
      have hly := hc.2 y hy
      refine br_f (by rw [tl]; exact ac_en_n hly) ?_
      cases hT' : T (c (R k)) with
      | none => exact br_t (show (-1 : Int32) < 0 by decide) (stay (ac_Bk_Ru hc hT' (Or.inr (Or.inr ⟨d, Or.inr rfl⟩))))
      | some z =>
        have hz := hB _ _ hT'
        have hlz := hc.2 z hz
        refine br_f (ac_en_n hlz) (And.intro (ac_in hll (by decide)) (go _ (c y) (c z) _ _ (hc.1 _) (hc.1 _) hly hlz tl rfl (fun E P x w => Or.inr (Or.inr (Or.inr ⟨d, y, z, ac_coP hc x hT, ac_coP hc x hT', (ac_coPc x).mpr w⟩)))
          (fun E P x w => (ac_coPc x).mp (w.2.2.2 d _ _ (ac_coP hc x hT) (ac_coP hc x hT'))) ?_))
        exact fun fc' co' to' x => x
theorem ac_y55 {post : SY → Prop} {J : Int32 → Int32 → Int32 → (Nat → Int32) → (Nat → Int32) → (Nat → Int32) → (Nat → Int32) → (Nat → Int32) → Prop} {x1 : Int32} {c0 : Nat → Nat} {T0 : Nat → Option Nat}
    (hm : m ≤ 24) (hG : ac_Pg m ki le ri L R)
    (h : ∀ c T fc co to, ac_YS c T co to → (∀ E P, ac_Cd m ki L R E P → ac_Co c T E P) → ((fc = 0 ∧ ∀ k, k < m → ac_Ru (ki k) (L k) (R k) (ac_P c T)) ∨ (fc = 1 ∧ ac_mu c T < ac_mu c0 T0)) → J (x1 + 1) (nI m) fc ki le ri co to) :
    ∀ (n i : Nat) (c : Nat → Nat) (T : Nat → Option Nat) (fc : Int32) (co to : Nat → Int32), m < n + i → i ≤ m → ac_YS c T co to → (∀ E P, ac_Cd m ki L R E P → ac_Co c T E P) →
    ((fc = 0 ∧ c = c0 ∧ T = T0 ∧ ∀ k, k < i → ac_Ru (ki k) (L k) (R k) (ac_P c T)) ∨ (fc = 1 ∧ ac_mu c T < ac_mu c0 T0)) →
    wY_work_55 post J x1 n (nI i) (nI m) fc ki le ri co to := by
  intro n
  induction n with
  | zero => intro i c T fc co to hn hi; omega
  | succ n ih =>
    intro i c T fc co to hn hi hY hO hI
    by_cases z : i = m
    · refine br_t (by rw [z]; exact nI_le (Nat.le_refl _) (by omega)) (fun x ex => ?_)
      rw [ex]
      refine h c T fc co to hY hO ?_
      rw [z] at hI
      rcases hI with ⟨a1, _, _, a4⟩ | a
      · exact Or.inl ⟨a1, a4⟩
      · exact Or.inr a
    · have hl : i < m := by omega
      refine br_f (nI_ge hl (by omega)) (ac_yap hm hG hY hl rfl (fun c' T' fc' co' to' k1 k2 k3 x ex => ?_))
      rw [ex, nI_1 i]
      refine ih (i + 1) c' T' fc' co' to' (by omega) (by omega) k1 (fun E P y => k2 E P (hO E P y) (y.2 i hl)) ?_
      rcases k3 with ⟨rfl, rfl, rfl, k4⟩ | ⟨k3, k4⟩
      · rcases hI with ⟨a1, a2, a3, a4⟩ | a
        · refine Or.inl ⟨a1, a2, a3, fun j hj => ?_⟩
          by_cases zj : j = i
          · rw [zj]; exact k4
          · exact a4 j (by omega)
        · exact Or.inr a
      · rcases hI with ⟨a1, rfl, rfl, a4⟩ | ⟨_, a2⟩
        · exact Or.inr ⟨k3, k4⟩
        · exact Or.inr ⟨k3, by omega⟩
theorem ac_y35 {post : SY → Prop} (hm : m ≤ 24) (hG : ac_Pg m ki le ri L R)
    (h : ∀ c T fc co to, ac_YS c T co to → ac_Sol m ki L R (ac_E c) (ac_P c T) → post (nI m, fc, ki, le, ri, co, to)) :
    ∀ (n s : Nat) (c : Nat → Nat) (T : Nat → Option Nat) (fc : Int32) (co to : Nat → Int32), 25 < n + s → s ≤ 24 → ac_YS c T co to → (∀ E P, ac_Cd m ki L R E P → ac_Co c T E P) →
    ((fc = 0 ∧ ∀ k, k < m → ac_Ru (ki k) (L k) (R k) (ac_P c T)) ∨ (fc = 1 ∧ s + ac_mu c T ≤ 24)) →
    wY_work_35 post n (nI s) (nI m) fc ki le ri co to := by
  intro n
  induction n with
  | zero => intro s c T fc co to hn hs; omega
  | succ n ih =>
    intro s c T fc co to hn hs hY hO hI
    refine br_f (nI_ge (b := 30) (by omega) (by decide)) ?_
    rcases hI with ⟨a1, a2⟩ | ⟨a1, a2⟩
    · exact br_t a1 (h c T fc co to hY (ac_Sol_mk hY.1 hO a2))
    · have hpos := ac_rt_pos hY.1
      have hmu : 1 ≤ ac_mu c T := by unfold ac_mu; omega
      refine br_f (by rw [a1]; decide) (Exists.intro (m + 1) ?_)
      refine ac_y55 (c0 := c) (T0 := T) hm hG (fun c' T' fc' co' to' k1 k2 k3 => ?_) (m + 1) 0 c T 0 co to (by omega) (by omega) hY hO (Or.inl ⟨rfl, rfl, rfl, fun k hk => absurd hk (by omega)⟩)
      rw [nI_1 s]
      refine ih (s + 1) c' T' fc' co' to' (by omega) (by omega) k1 k2 ?_
      rcases k3 with k3 | ⟨k3, k4⟩
      · exact Or.inl k3
      · exact Or.inr ⟨k3, by omega⟩
theorem ac_y2 {post : SY → Prop} (hm : m ≤ 24) (hG : ac_Pg m ki le ri L R)
    (h : ∀ c T fc co to, ac_YS c T co to → ac_Sol m ki L R (ac_E c) (ac_P c T) → post (nI m, fc, ki, le, ri, co, to)) :
    ∀ (n i : Nat) (co to : Nat → Int32), 12 < n + i → i ≤ 12 → (∀ v, v < i → co v = nI v ∧ to v = -1) → wY_work_2 post (nI m) fc n (nI i) ki le ri co to := by
  intro n
  induction n with
  | zero => intro i co to hn hi; omega
  | succ n ih =>
    intro i co to hn hi hv
    by_cases z : i = 12
    · rw [z] at hv
      have hc : ac_Cl (fun v => v) := ⟨fun _ => rfl, fun v hv => hv⟩
      refine br_t (by rw [z]; decide) (Exists.intro 26 ?_)
      refine ac_y35 hm hG h 26 0 (fun v => v) (fun _ => none) 1 co to (by decide) (by decide) ⟨hc, fun _ _ e => (by cases e), fun v hl => (hv v hl).1, fun v hl => ?_⟩ (fun E P x => ⟨x.1, x.1.1, fun _ _ _ e => by cases e⟩) (Or.inr ⟨rfl, ?_⟩)
      · rw [(hv v hl).2, ac_ny_r rfl]; rfl
      · have b1 := ac_rt_le (fun v => v)
        have b2 := ac_cn_up (fun r => (fun v : Nat => v) r = r ∧ (fun _ : Nat => (none : Option Nat)) r = none) 12
        unfold ac_mu
        omega
    · have hl : i < 12 := by omega
      have ei : (nI i).toNatClampNeg = i := nI_clamp (by omega)
      refine br_f (nI_ge (b := 12) hl (by decide)) ⟨ac_in hl (by decide), fun co1 e1 => ⟨ac_in hl (by decide), fun to1 e2 x ex => ?_⟩⟩
      rw [ei] at e1 e2
      rw [ex, nI_1 i]
      refine ih (i + 1) co1 to1 (by omega) (by omega) (fun v hvi => ?_)
      rw [e1, e2]
      by_cases zv : v = i
      · rw [zv, pk_us, pk_us]; exact ⟨rfl, rfl⟩
      · rw [pk_un zv, pk_un zv]; exact hv v (by omega)
theorem ac_yw {post : SY → Prop} (hm : m ≤ 24) (hG : ac_Pg m ki le ri L R)
    (h : ∀ c T fc co to, ac_YS c T co to → ac_Sol m ki L R (ac_E c) (ac_P c T) → post (nI m, fc, ki, le, ri, co, to)) :
    wpY_work post (nI m, fc, ki, le, ri, co, to) :=
  Exists.intro 13 (ac_y2 hm hG h 13 0 co to (by decide) (by decide) (fun v hv => absurd hv (by omega)))
end
end
section
/-! what the questions ask of (c, T): masks, the least member, counts, steps -/
noncomputable def ac_mk (Q : Nat → Prop) : Nat → Int32
  | 0 => 0
  | n + 1 => @ite Int32 (Q n) (Classical.propDecidable _) (ac_mk Q n ||| ((1 : Int32) <<< (nI n &&& 31))) (ac_mk Q n)
theorem ac_mk_t {Q : Nat → Prop} {n : Nat} (h : Q n) : ac_mk Q (n + 1) = ac_mk Q n ||| ((1 : Int32) <<< (nI n &&& 31)) := by
  unfold ac_mk
  rw [if_pos h]
  cases n <;> rfl
theorem ac_mk_f {Q : Nat → Prop} {n : Nat} (h : ¬ Q n) : ac_mk Q (n + 1) = ac_mk Q n := by
  show @ite Int32 (Q n) (Classical.propDecidable _) _ _ = _
  rw [if_neg h]
theorem ac_mk_eq {Q Q' : Nat → Prop} : ∀ {n : Nat}, (∀ v, v < n → (Q v ↔ Q' v)) → ac_mk Q n = ac_mk Q' n
  | 0, _ => rfl
  | n + 1, h => by
    have ih := ac_mk_eq (Q := Q) (Q' := Q') (n := n) (fun v hv => h v (by omega))
    have e := h n (by omega)
    by_cases z : Q n
    · rw [ac_mk_t z, ac_mk_t (e.mp z), ih]
    · rw [ac_mk_f z, ac_mk_f (fun q => z (e.mpr q)), ih]
theorem ac_mk_b {Q : Nat → Prop} {i : Nat} (hi : i < 32) : ∀ {n : Nat}, n ≤ 32 → (bt (ac_mk Q n) i = true ↔ (i < n ∧ Q i))
  | 0, _ => by
    show bt 0 i = true ↔ _
    rw [b_0]
    constructor
    · intro h; cases h
    · intro h; omega
  | n + 1, hn => by
    have ih := ac_mk_b (Q := Q) hi (n := n) (by omega)
    by_cases z : Q n
    · rw [ac_mk_t z, ac_bor (by omega) hi, Bool.or_eq_true, ih, decide_eq_true_eq]
      constructor
      · rintro (⟨h1, h2⟩ | h)
        · exact ⟨by omega, h2⟩
        · rw [h]; exact ⟨by omega, z⟩
      · rintro ⟨h1, h2⟩
        by_cases e : i = n
        · exact Or.inr e
        · exact Or.inl ⟨by omega, h2⟩
    · rw [ac_mk_f z, ih]
      constructor
      · rintro ⟨h1, h2⟩
        exact ⟨by omega, h2⟩
      · rintro ⟨h1, h2⟩
        refine ⟨?_, h2⟩
        by_cases e : i = n
        · rw [e] at h2; exact absurd h2 z
        · omega
theorem ac_or0 (x : Int32) : x ||| 0 = x := by
  apply b_ext
  intro i _
  rw [b_or, b_0, Bool.or_false]
theorem ac_cn_none {P : Nat → Prop} {n : Nat} (h : ∀ k, k < n → ¬ P k) : ac_cn P n = 0 := by
  have x := ac_sm_bd (f := fun k => ac_b (P k)) (B := 0) (n := n) (fun k hk => Nat.le_of_eq (ac_bf (h k hk)))
  unfold ac_cn
  omega
theorem ac_first {c : Nat → Nat} {Q : Nat → Prop} (hc : ac_Cl c) : ac_cn (fun r => c r = r ∧ Q r) 12 = ac_cn (fun v => (∀ u, u < v → ¬ c u = c v) ∧ Q (c v)) 12 := by
  have key : ∀ n, n ≤ 12 → ac_cn (fun v => (∀ u, u < v → ¬ c u = c v) ∧ Q (c v)) n = ac_cn (fun r => (∃ v, v < n ∧ c v = r) ∧ Q r) 12 := by
    intro n
    induction n with
    | zero =>
      intro _
      rw [ac_cn_none (P := fun r => (∃ v, v < 0 ∧ c v = r) ∧ Q r)]
      · rfl
      · rintro k _ ⟨⟨v, h, _⟩, _⟩
        omega
    | succ n ih =>
      intro hn
      rw [ac_cn_s, ih (by omega)]
      by_cases z : (∀ u, u < n → ¬ c u = c n) ∧ Q (c n)
      · rw [ac_bt z]
        refine (ac_cn_add (P := fun r => (∃ v, v < n ∧ c v = r) ∧ Q r) (Q := fun r => (∃ v, v < n + 1 ∧ c v = r) ∧ Q r) (a := c n) ?_ (hc.2 n (by omega)) ?_ ?_).symm
        · intro r _ hr
          constructor
          · rintro ⟨⟨v, h1, h2⟩, h3⟩
            exact ⟨⟨v, by omega, h2⟩, h3⟩
          · rintro ⟨⟨v, h1, h2⟩, h3⟩
            refine ⟨⟨v, ?_, h2⟩, h3⟩
            by_cases e : v = n
            · rw [e] at h2; exact absurd h2.symm hr
            · omega
        · rintro ⟨⟨v, h1, h2⟩, _⟩
          exact z.1 v h1 h2
        · exact ⟨⟨n, by omega, rfl⟩, z.2⟩
      · rw [ac_bf z, Nat.add_zero]
        refine ac_cn_eq (fun r _ => ?_)
        constructor
        · rintro ⟨⟨v, h1, h2⟩, h3⟩
          exact ⟨⟨v, by omega, h2⟩, h3⟩
        · rintro ⟨⟨v, h1, h2⟩, h3⟩
          refine ⟨?_, h3⟩
          by_cases e : v = n
          · rw [e] at h2
            apply Classical.byContradiction
            intro no
            apply z
            refine ⟨fun u hu eu => no ⟨u, hu, eu.trans h2⟩, by rw [h2]; exact h3⟩
          · exact ⟨v, by omega, h2⟩
  rw [key 12 (by omega)]
  refine ac_cn_eq (fun r hr => ?_)
  constructor
  · rintro ⟨h1, h2⟩
    exact ⟨⟨r, hr, h1⟩, h2⟩
  · rintro ⟨⟨v, h1, h2⟩, h3⟩
    refine ⟨?_, h3⟩
    rw [← h2]; exact hc.1 v
theorem ac_ptiff {c : Nat → Nat} {T : Nat → Option Nat} {v : Nat} : ¬ T (c v) = none ↔ ∃ z, ac_P c T v z := by
  constructor
  · intro h
    cases hT : T (c v) with
    | none => exact absurd hT h
    | some y => exact ⟨y, y, hT, rfl⟩
  · rintro ⟨z, y, h, _⟩ e
    rw [e] at h
    cases h
def ac_sp (c : Nat → Nat) (T : Nat → Option Nat) : Nat → Nat → Nat
  | 0, _ => 0
  | f + 1, a => match T (c a) with
    | none => 0
    | some y => ac_sp c T f y + 1
theorem ac_sp_n {c : Nat → Nat} {T : Nat → Option Nat} {f a : Nat} (h : T (c a) = none) : ac_sp c T (f + 1) a = 0 := by
  unfold ac_sp; rw [h]
theorem ac_sp_s {c : Nat → Nat} {T : Nat → Option Nat} {f a y : Nat} (h : T (c a) = some y) : ac_sp c T (f + 1) a = ac_sp c T f y + 1 := by
  rw [ac_sp, h]
theorem ac_sp_eq {c c' : Nat → Nat} {T T' : Nat → Option Nat} (hE : ∀ a b, ac_E c a b ↔ ac_E c' a b) (hP : ∀ a b, ac_P c T a b ↔ ac_P c' T' a b) : ∀ f a a', c a = c a' → ac_sp c T f a = ac_sp c' T' f a' := by
  intro f
  induction f with
  | zero => intro a a' _; rfl
  | succ f ih =>
    intro a a' e
    cases hT : T (c a) with
    | none =>
      have n : T' (c' a') = none := by
        apply Classical.byContradiction
        intro h
        obtain ⟨z, hz⟩ := ac_ptiff.mp h
        obtain ⟨y, h1, _⟩ := (hP _ _).mpr hz
        rw [← e, hT] at h1
        cases h1
      rw [ac_sp_n hT, ac_sp_n n]
    | some y =>
      have x : ac_P c T a' y := ⟨y, by rw [← e]; exact hT, rfl⟩
      obtain ⟨y', h1, h2⟩ := (hP _ _).mp x
      rw [ac_sp_s hT, ac_sp_s h1, ih y y' ((hE y' y).mpr h2).symm]
theorem ac_sp_le {c : Nat → Nat} {T : Nat → Option Nat} : ∀ f a, ac_sp c T f a ≤ f := by
  intro f
  induction f with
  | zero => intro a; exact Nat.le_refl _
  | succ f ih =>
    intro a
    cases hT : T (c a) with
    | none => rw [ac_sp_n hT]; omega
    | some y => rw [ac_sp_s hT]; have := ih y; omega
end
section
/-! the questions' loops, component and reference -/
section
variable {fa fk fr fp : Int32} {ko lo ro up pt wf qu qd pA pB : Nat → Int32} {c : Nat → Nat} {T : Nat → Option Nat}
theorem ac_mo11 {post : Int32 → SX → Prop} {d : Nat} (hc : ac_Cl c) (hd : d < 12)
    (h : ∀ up', ac_UF up' c → post (ac_mk (fun v => c v = d) 12) (fa, fk, fr, fp, ko, lo, ro, up', pt, wf, qu, qd, pA, pB)) :
    ∀ (n i : Nat) (up : Nat → Int32), 12 < n + i → i ≤ 12 → ac_UF up c → wX_membersOf_11 post (nI d) n (ac_mk (fun v => c v = d) i) (nI i) fa fk fr fp ko lo ro up pt wf qu qd pA pB := by
  intro n
  induction n with
  | zero => intro i up hn hi; omega
  | succ n ih =>
    intro i up hn hi hU
    by_cases z : i = 12
    · refine br_t (by rw [z]; decide) ?_
      rw [z]
      exact h up hU
    · have hl : i < 12 := by omega
      refine br_f (nI_ge (b := 12) hl (by decide)) (ac_find hc hU hl rfl fun up1 hU1 => ?_)
      by_cases e : c i = d
      · refine br_t (congrArg nI e) (fun x ex y ey => ?_)
        rw [ex, ey, nI_1 i, ← ac_mk_t (Q := fun v => c v = d) e]
        exact ih (i + 1) up1 (by omega) (by omega) hU1
      · refine br_f (fun e' => e (ac_inj (by have := hc.2 i hl; omega) (by omega) e')) (fun x ex y ey => ?_)
        rw [ex, ey, nI_1 i, ac_or0, ← ac_mk_f (Q := fun v => c v = d) e]
        exact ih (i + 1) up1 (by omega) (by omega) hU1
theorem ac_mo {post : Int32 → SX → Prop} {a : Nat} {p : Int32} (hc : ac_Cl c) (hU : ac_UF up c) (ha : a < 12) (hp : p = nI a)
    (h : ∀ up', ac_UF up' c → post (ac_mk (fun v => c v = c a) 12) (fa, fk, fr, fp, ko, lo, ro, up', pt, wf, qu, qd, pA, pB)) :
    wpX_membersOf post (fa, fk, fr, fp, ko, lo, ro, up, pt, wf, qu, qd, pA, pB) p :=
  ac_find hc hU ha hp fun up1 hU1 => Exists.intro 13 (ac_mo11 hc (hc.2 a ha) h 13 0 up1 (by decide) (by decide) hU1)
theorem ac_tg46 {post : Int32 → SX → Prop} {Q : Nat → Prop} (hex : ∃ v, v < 12 ∧ Q v)
    (h : ∀ l, l < 12 → Q l → (∀ v, v < l → ¬ Q v) → post (nI l) (fa, fk, fr, fp, ko, lo, ro, up, pt, wf, qu, qd, pA, pB)) :
    ∀ (i n l : Nat), i ≤ 12 → i < n → ((∀ v, i ≤ v → v < 12 → ¬ Q v) ∨ (l < 12 ∧ Q l ∧ ∀ v, i ≤ v → v < l → ¬ Q v)) →
    wX_target_46 post (ac_mk Q 12) fa fk fr fp ko lo ro up pt wf qu qd pA pB n (nI l) (nI i + (-1)) := by
  intro i
  induction i with
  | zero =>
    intro n l hi hn hI
    obtain ⟨n', rfl⟩ : ∃ n', n = n' + 1 := ⟨n - 1, by omega⟩
    refine br_t (by decide) ?_
    rcases hI with a | ⟨a1, a2, a3⟩
    · obtain ⟨v, v1, v2⟩ := hex
      exact absurd v2 (a v (Nat.zero_le _) v1)
    · exact h l a1 a2 (fun v hv => a3 v (Nat.zero_le _) hv)
  | succ i ih =>
    intro n l hi hn hI
    obtain ⟨n', rfl⟩ : ∃ n', n = n' + 1 := ⟨n - 1, by omega⟩
    rw [pk_m1]
    have b := ac_mk_b (Q := Q) (i := i) (by omega) (n := 12) (by decide)
    refine br_f (nI_pos (by omega)) (br_c (fun e x ex => ?_) (fun e x ex => ?_))
    · rw [ex]
      have nq : ¬ Q i := by
        intro q
        have f := (ac_bitU (n := i) (by omega)).mp e
        rw [b.mpr ⟨by omega, q⟩] at f
        cases f
      refine ih n' l (by omega) (by omega) ?_
      have ext : ∀ v, i ≤ v → ¬ Q v ∨ i + 1 ≤ v := by
        intro v hv
        by_cases zv : v = i
        · rw [zv]; exact Or.inl nq
        · exact Or.inr (by omega)
      rcases hI with a | ⟨a1, a2, a3⟩
      · exact Or.inl fun v h1 h2 => (ext v h1).elim id (fun h3 => a v h3 h2)
      · exact Or.inr ⟨a1, a2, fun v h1 h2 => (ext v h1).elim id (fun h3 => a3 v h3 h2)⟩
    · rw [ex]
      have q : Q i := by
        apply Classical.byContradiction
        intro nq
        apply e
        refine (ac_bitU (n := i) (by omega)).mpr ?_
        cases hb : bt (ac_mk Q 12) i with
        | false => rfl
        | true => exact absurd (b.mp hb).2 nq
      exact ih n' i (by omega) (by omega) (Or.inr ⟨by omega, q, fun v h1 h2 => absurd h2 (by omega)⟩)
theorem ac_ufr (hU : ac_UF up c) {v : Nat} (hv : v < 12) : up v = nI v ↔ c v = v := by
  obtain ⟨rk, hU⟩ := hU
  obtain ⟨_, w, hw, ew, _, hwv, _⟩ := hU v hv
  rw [ew, nI_eq (by omega) (by omega)]
  exact hwv
theorem ac_cl8 {post : Int32 → SX → Prop} {Q : Nat → Prop} (hQ : ∀ r, Q r) (hU : ac_UF up c)
    (h : post (nI (ac_cn (fun r => c r = r ∧ Q r) 12)) (fa, fk, fr, fp, ko, lo, ro, up, pt, wf, qu, qd, pA, pB)) :
    ∀ (n i : Nat), 12 < n + i → i ≤ 12 → wX_classes_8 post fa fk fr fp ko lo ro up pt wf qu qd pA pB n (nI (ac_cn (fun r => c r = r ∧ Q r) i)) (nI i) := by
  intro n
  induction n with
  | zero => intro i hn hi; omega
  | succ n ih =>
    intro i hn hi
    by_cases z : i = 12
    · refine br_t (by rw [z]; decide) ?_
      rw [z]; exact h
    · have hl : i < 12 := by omega
      have ei : (nI i).toNatClampNeg = i := nI_clamp (by omega)
      have s := ac_cn_s (fun r => c r = r ∧ Q r) i
      refine br_f (nI_ge (b := 12) hl (by decide)) ⟨ac_in hl (by decide), br_c (fun e x ex y ey => ?_) (fun e x ex y ey => ?_)⟩
      · rw [ei, ac_ufr hU hl] at e
        rw [ac_bt ⟨e, hQ i⟩] at s
        rw [ex, ey, nI_1 i, nI_1, ← s]
        exact ih (i + 1) (by omega) (by omega)
      · rw [ei, ac_ufr hU hl] at e
        rw [ac_bf (fun k => e k.1)] at s
        replace s := s.trans (Nat.add_zero _)
        rw [ex, ey, nI_1 i, Int32.add_zero, ← s]
        exact ih (i + 1) (by omega) (by omega)
theorem ac_po8 {post : Int32 → SX → Prop} (hS : ac_St c T up pt)
    (h : post (nI (ac_cn (fun r => c r = r ∧ ¬ T r = none) 12)) (fa, fk, fr, fp, ko, lo, ro, up, pt, wf, qu, qd, pA, pB)) :
    ∀ (n i : Nat), 12 < n + i → i ≤ 12 → wX_pointing_8 post fa fk fr fp ko lo ro up pt wf qu qd pA pB n (nI (ac_cn (fun r => c r = r ∧ ¬ T r = none) i)) (nI i) := by
  obtain ⟨hc, hB, hU, hP⟩ := hS
  intro n
  induction n with
  | zero => intro i hn hi; omega
  | succ n ih =>
    intro i hn hi
    by_cases z : i = 12
    · refine br_t (by rw [z]; decide) ?_
      rw [z]; exact h
    · have hl : i < 12 := by omega
      have ei : (nI i).toNatClampNeg = i := nI_clamp (by omega)
      have s := ac_cn_s (fun r => c r = r ∧ ¬ T r = none) i
      have no : ¬ (c i = i ∧ ¬ T i = none) → ∀ x, x = nI (ac_cn (fun r => c r = r ∧ ¬ T r = none) i) + 0 → ∀ y, y = nI i + 1 → wX_pointing_8 post fa fk fr fp ko lo ro up pt wf qu qd pA pB n x y := by
        intro e x ex y ey
        rw [ac_bf e] at s
        replace s := s.trans (Nat.add_zero _)
        rw [ex, ey, nI_1 i, Int32.add_zero, ← s]
        exact ih (i + 1) (by omega) (by omega)
      refine br_f (nI_ge (b := 12) hl (by decide)) ⟨ac_in hl (by decide), br_c (fun e => ⟨ac_in hl (by decide), ?_⟩) (fun e => ?_)⟩
      · rw [ei, ac_ufr hU hl] at e
        cases hT : T i with
        | none =>
          exact br_t (by rw [ei, hP i hl, hT]; decide) (no (fun k => k.2 hT))
        | some t =>
          refine br_f (by rw [ei, hP i hl, hT]; exact ac_en_n (hB _ _ hT)) (fun x ex y ey => ?_)
          rw [ac_bt ⟨e, by rw [hT]; exact fun k => by cases k⟩] at s
          rw [ex, ey, nI_1 i, nI_1, ← s]
          exact ih (i + 1) (by omega) (by omega)
      · rw [ei, ac_ufr hU hl] at e
        exact no (fun k => e k.1)
theorem ac_st24 {post : Int32 → SX → Prop} (hc : ac_Cl c) (hB : ac_TB T) (hP : ac_PT pt T) :
    ∀ (f n s a : Nat) (up : Nat → Int32), f + s = 12 → f < n → a < 12 → ac_UF up c →
    (∀ up', ac_UF up' c → post (nI (s + ac_sp c T f a)) (fa, fk, fr, fp, ko, lo, ro, up', pt, wf, qu, qd, pA, pB)) →
    wX_steps_24 post n (nI s) (nI (c a)) (nI s) fa fk fr fp ko lo ro up pt wf qu qd pA pB := by
  intro f
  induction f with
  | zero =>
    intro n s a up hf hn ha hU h
    obtain ⟨n', rfl⟩ : ∃ n', n = n' + 1 := ⟨n - 1, by omega⟩
    have e : s = 12 := by omega
    refine br_t (by rw [e]; decide) ?_
    exact h up hU
  | succ f ih =>
    intro n s a up hf hn ha hU h
    obtain ⟨n', rfl⟩ : ∃ n', n = n' + 1 := ⟨n - 1, by omega⟩
    have hla := hc.2 a ha
    have ea : (nI (c a)).toNatClampNeg = c a := nI_clamp (by omega)
    refine br_f (nI_ge (b := 12) (by omega) (by decide)) ⟨ac_in hla (by decide), ?_⟩
    cases hT : T (c a) with
    | none =>
      refine br_t (by rw [ea, hP _ hla, hT]; decide) ?_
      have x := h up hU
      rw [ac_sp_n hT, Nat.add_zero] at x
      exact x
    | some y =>
      have hy := hB _ _ hT
      refine br_f (by rw [ea, hP _ hla, hT]; exact ac_en_n hy) ⟨ac_in hla (by decide), ac_find hc hU hy (by rw [ea, hP _ hla, hT]; rfl) fun up1 hU1 x ex w ew => ?_⟩
      rw [ex, ew, nI_1 s]
      refine ih n' (s + 1) y up1 (by omega) (by omega) hy hU1 (fun up' hU' => ?_)
      have k := h up' hU'
      rw [ac_sp_s hT, show s + (ac_sp c T f y + 1) = s + 1 + ac_sp c T f y by omega] at k
      exact k
end
section
variable {fh fc : Int32} {ki le ri co to : Nat → Int32} {c : Nat → Nat} {T : Nat → Option Nat}
theorem ac_ymo {post : Int32 → Prop} {d : Nat} (hY : ac_YS c T co to) (hd : d < 12) (h : post (ac_mk (fun v => c v = d) 12)) :
    ∀ (n i : Nat), 12 < n + i → i ≤ 12 → wY_membersOf_4 post (nI d) fh fc ki le ri co to n (ac_mk (fun v => c v = d) i) (nI i) := by
  obtain ⟨hc, hB, hC, hTo⟩ := hY
  intro n
  induction n with
  | zero => intro i hn hi; omega
  | succ n ih =>
    intro i hn hi
    by_cases z : i = 12
    · refine br_t (by rw [z]; decide) ?_
      rw [z]; exact h
    · have hl : i < 12 := by omega
      have ei : (nI i).toNatClampNeg = i := nI_clamp (by omega)
      have ee : co (nI i).toNatClampNeg = nI d ↔ c i = d := by
        rw [ei, hC i hl, nI_eq (by have := hc.2 i hl; omega) (by omega)]
      refine br_f (nI_ge (b := 12) hl (by decide)) ⟨ac_in hl (by decide), br_c (fun e x ex y ey => ?_) (fun e y ey => ?_)⟩
      · rw [ex, ey, nI_1 i, ← ac_mk_t (Q := fun v => c v = d) (ee.mp e)]
        exact ih (i + 1) (by omega) (by omega)
      · rw [ey, nI_1 i, ← ac_mk_f (Q := fun v => c v = d) (fun k => e (ee.mpr k))]
        exact ih (i + 1) (by omega) (by omega)
theorem ac_ytn {post : Int32 → SY → Prop} (h : post (-1) (fh, fc, ki, le, ri, co, to)) :
    ∀ (n i : Nat), 12 < n + i → i ≤ 12 → wY_target_27 post (-1) fh fc ki le ri co to n (nI i) := by
  intro n
  induction n with
  | zero => intro i hn hi; omega
  | succ n ih =>
    intro i hn hi
    by_cases z : i = 12
    · exact br_t (by rw [z]; decide) h
    · refine br_f (nI_ge (b := 12) (by omega) (by decide)) (br_t (by decide) (fun x ex => ?_))
      rw [ex, nI_1 i]
      exact ih (i + 1) (by omega) (by omega)
theorem ac_yts {post : Int32 → SY → Prop} {d : Nat} (hY : ac_YS c T co to) (hd : d < 12) (hex : ∃ v, v < 12 ∧ c v = d)
    (h : ∀ l, l < 12 → c l = d → (∀ v, v < l → ¬ c v = d) → post (nI l) (fh, fc, ki, le, ri, co, to)) :
    ∀ (n i : Nat), 12 < n + i → i ≤ 12 → (∀ v, v < i → ¬ c v = d) → wY_target_27 post (nI d) fh fc ki le ri co to n (nI i) := by
  obtain ⟨hc, hB, hC, hTo⟩ := hY
  intro n
  induction n with
  | zero => intro i hn hi; omega
  | succ n ih =>
    intro i hn hi hv
    by_cases z : i = 12
    · obtain ⟨v, v1, v2⟩ := hex
      exact absurd v2 (hv v (by omega))
    · have hl : i < 12 := by omega
      have ei : (nI i).toNatClampNeg = i := nI_clamp (by omega)
      have ee : co (nI i).toNatClampNeg = nI d ↔ c i = d := by
        rw [ei, hC i hl, nI_eq (by have := hc.2 i hl; omega) (by omega)]
      refine br_f (nI_ge (b := 12) hl (by decide)) (br_f (nI_pos (by omega)) ⟨ac_in hl (by decide), br_c (fun e => ?_) (fun e x ex => ?_)⟩)
      · exact h i hl (ee.mp e) hv
      · rw [ex, nI_1 i]
        refine ih (i + 1) (by omega) (by omega) (fun v hvi => ?_)
        by_cases zv : v = i
        · rw [zv]; exact fun k => e (ee.mpr k)
        · exact hv v (by omega)
theorem ac_yct {post : Int32 → SY → Prop} {Q : Nat → Prop} {x1 : Int32} (hY : ac_YS c T co to) (hx : (x1 = 0 ∧ ∀ r, Q r) ∨ (¬ x1 = 0 ∧ ∀ r, Q r ↔ ¬ T r = none))
    (h : post (nI (ac_cn (fun v => (∀ u, u < v → ¬ c u = c v) ∧ Q (c v)) 12)) (fh, fc, ki, le, ri, co, to)) :
    ∀ (n i : Nat) (se : Int32), 12 < n + i → i ≤ 12 → (∀ r, r < 12 → (bt se r = true ↔ ∃ u, u < i ∧ c u = r)) →
    wY_count_11 post x1 fh fc ki le ri co to n se (nI (ac_cn (fun v => (∀ u, u < v → ¬ c u = c v) ∧ Q (c v)) i)) (nI i) := by
  obtain ⟨hc, hB, hC, hTo⟩ := hY
  intro n
  induction n with
  | zero => intro i se hn hi; omega
  | succ n ih =>
    intro i se hn hi hs
    by_cases z : i = 12
    · refine br_t (by rw [z]; decide) ?_
      rw [z]; exact h
    · have hl : i < 12 := by omega
      have hlc := hc.2 i hl
      have ei : (nI i).toNatClampNeg = i := nI_clamp (by omega)
      have ec : (nI (c i)).toNatClampNeg = c i := nI_clamp (by omega)
      have s := ac_cn_s (fun v => (∀ u, u < v → ¬ c u = c v) ∧ Q (c v)) i
      have nx : ∀ r, r < 12 → (bt (se ||| ((1 : Int32) <<< (nI (c i) &&& 31))) r = true ↔ ∃ u, u < i + 1 ∧ c u = r) := by
        intro r hr
        rw [ac_bor (by omega) (by omega), Bool.or_eq_true, hs r hr, decide_eq_true_eq]
        constructor
        · rintro (⟨u, u1, u2⟩ | e)
          · exact ⟨u, by omega, u2⟩
          · exact ⟨i, by omega, e.symm⟩
        · rintro ⟨u, u1, u2⟩
          by_cases zu : u = i
          · rw [zu] at u2; exact Or.inr u2.symm
          · exact Or.inl ⟨u, by omega, u2⟩
      -- not counted
      have no : ¬ ((∀ u, u < i → ¬ c u = c i) ∧ Q (c i)) → wY_count_53 post (wY_count_11 post x1 fh fc ki le ri co to n) x1 se (nI (ac_cn (fun v => (∀ u, u < v → ¬ c u = c v) ∧ Q (c v)) i)) (nI i) (nI (c i)) fh fc ki le ri co to := by
        intro e x ex y ey
        rw [ac_bf e] at s
        replace s := s.trans (Nat.add_zero _)
        rw [ex, ey, nI_1 i, ← s]
        exact ih (i + 1) _ (by omega) (by omega) nx
      -- counted
      have yes : ((∀ u, u < i → ¬ c u = c i) ∧ Q (c i)) → wY_count_50 post (wY_count_11 post x1 fh fc ki le ri co to n) x1 se (nI (ac_cn (fun v => (∀ u, u < v → ¬ c u = c v) ∧ Q (c v)) i)) (nI i) (nI (c i)) fh fc ki le ri co to := by
        intro e w ew x ex y ey
        rw [ac_bt e] at s
        rw [ew, ex, ey, nI_1 i, nI_1, ← s]
        exact ih (i + 1) _ (by omega) (by omega) nx
      refine br_f (nI_ge (b := 12) hl (by decide)) ⟨ac_in hl (by decide), nm_r (e' := nI (c i)) (by rw [ei, hC i hl]) (br_c (fun e => ?_) (fun e => ?_))⟩
      · have fi : ∀ u, u < i → ¬ c u = c i := by
          intro u hu eu
          have f := (ac_bitS (n := c i) (by omega)).mp e
          rw [(hs _ hlc).mpr ⟨u, hu, eu⟩] at f
          cases f
        rcases hx with ⟨x0, xq⟩ | ⟨x0, xq⟩
        · exact br_t x0 (yes ⟨fi, xq _⟩)
        · refine br_f x0 ⟨ac_in hlc (by decide), ?_⟩
          have tc : to (nI (c i)).toNatClampNeg = ac_en ((T (c i)).map c) := by rw [ec, hTo _ hlc, ac_ny_r (hc.1 _)]
          cases hT : T (c i) with
          | none =>
            rw [hT] at tc
            exact br_t (by rw [tc]; exact (show (-1 : Int32) < 0 by decide)) (no (fun k => (xq _).mp k.2 hT))
          | some t =>
            rw [hT] at tc
            exact br_f (by rw [tc]; exact ac_en_n (hc.2 _ (hB _ _ hT))) (yes ⟨fi, (xq _).mpr (by rw [hT]; exact fun k => by cases k)⟩)
      · refine no (fun k => e ((ac_bitS (n := c i) (by omega)).mpr ?_))
        cases hb : bt se (c i) with
        | false => rfl
        | true =>
          obtain ⟨u, u1, u2⟩ := (hs _ hlc).mp hb
          exact absurd u2 (k.1 u u1)
theorem ac_yst {post : Int32 → SY → Prop} (hY : ac_YS c T co to) :
    ∀ (f n s a : Nat), f + s = 12 → f < n → a < 12 → post (nI (s + ac_sp c T f a)) (fh, fc, ki, le, ri, co, to) →
    wY_steps_22 post fh fc ki le ri co to n (nI (c a)) (nI s) := by
  obtain ⟨hc, hB, hC, hTo⟩ := hY
  intro f
  induction f with
  | zero =>
    intro n s a hf hn ha h
    obtain ⟨n', rfl⟩ : ∃ n', n = n' + 1 := ⟨n - 1, by omega⟩
    have e : s = 12 := by omega
    exact br_t (by rw [e]; decide) h
  | succ f ih =>
    intro n s a hf hn ha h
    obtain ⟨n', rfl⟩ : ∃ n', n = n' + 1 := ⟨n - 1, by omega⟩
    have hla := hc.2 a ha
    have ea : (nI (c a)).toNatClampNeg = c a := nI_clamp (by omega)
    have tc : to (nI (c a)).toNatClampNeg = ac_en ((T (c a)).map c) := by rw [ea, hTo _ hla, ac_ny_r (hc.1 _)]
    refine br_f (nI_ge (b := 12) (by omega) (by decide)) ⟨ac_in hla (by decide), ?_⟩
    cases hT : T (c a) with
    | none =>
      rw [hT] at tc
      refine br_t (by rw [tc]; exact (show (-1 : Int32) < 0 by decide)) ?_
      rw [ac_sp_n hT, Nat.add_zero] at h
      exact h
    | some y =>
      rw [hT] at tc
      have hy := hB _ _ hT
      refine br_f (by rw [tc]; exact ac_en_n (hc.2 _ hy)) ⟨ac_in hla (by decide), nm_r (e' := nI (c y)) tc (fun x ex => ?_)⟩
      rw [ex, nI_1 s]
      refine ih n' (s + 1) y (by omega) (by omega) hy ?_
      rw [ac_sp_s hT, show s + (ac_sp c T f y + 1) = s + 1 + ac_sp c T f y by omega] at h
      exact h
end
end
section
/-! the questions as wholes, each side against (c, T) -/
theorem ac_var (p : Int32) : (∃ a, a < 12 ∧ p = nI a) ∨ (p < 0 ∨ 11 < p) := by
  by_cases h : p < 0
  · exact Or.inr (Or.inl h)
  · obtain ⟨j, hj, rfl⟩ := nI_of h
    by_cases h2 : j < 12
    · exact Or.inl ⟨j, h2, rfl⟩
    · exact Or.inr (Or.inr (nI_lt (a := 11) (by omega) hj))
theorem ac_isV1 {post : Int32 → Prop} {a : Nat} (ha : a < 12) (h : post 1) : wpX_isVariable post (nI a) :=
  br_f (nI_pos (by omega)) (br_f (nI_nlt (a := 11) (b := a) (by omega) (by decide) |> fun z => z) h)
theorem ac_isV0 {post : Int32 → Prop} {p : Int32} (hp : p < 0 ∨ 11 < p) (h : post 0) : wpX_isVariable post p :=
  br_c (fun _ => h) (fun z => br_t (hp.resolve_left z) h)
theorem ac_bad0 {post : Int32 → Prop} {a : Nat} (ha : a < 12) (h : post 0) : wpY_bad post (nI a) :=
  br_f (nI_pos (by omega)) (br_t (nI_le (b := 11) (by omega) (by decide)) h)
theorem ac_bad1 {post : Int32 → Prop} {p : Int32} (hp : p < 0 ∨ 11 < p) (h : post 1) : wpY_bad post p :=
  br_c (fun _ => h) (fun z => br_f (Int32.not_le.mpr (hp.resolve_left z)) h)
def ac_Asame (c : Nat → Nat) (a b : Nat) (r : Int32) : Prop := (c a = c b ∧ r = 1) ∨ (¬ c a = c b ∧ r = 0)
def ac_Atgt (c : Nat → Nat) (T : Nat → Option Nat) (a : Nat) (r : Int32) : Prop :=
  (T (c a) = none ∧ r = -1) ∨ ∃ y l, T (c a) = some y ∧ l < 12 ∧ c l = c y ∧ (∀ v, v < l → ¬ c v = c y) ∧ r = nI l
def ac_Amt (c : Nat → Nat) (T : Nat → Option Nat) (a b : Nat) (r : Int32) : Prop := ((∃ z, ac_P c T a z ∧ ac_P c T b z) ∧ r = 1) ∨ (¬ (∃ z, ac_P c T a z ∧ ac_P c T b z) ∧ r = 0)
section
variable {fk fr fp : Int32} {ko lo ro up pt wf qu qd pA pB : Nat → Int32} {L R : Nat → Nat} {m a b : Nat}
theorem ac_xsame {post : Int32 → SX → Prop} (hm : m ≤ 24) (hG : ac_Pg m ko lo ro L R) (hk : ¬ fk = 0 → ∃ c T, ac_St c T up pt ∧ ac_Sol m ko L R (ac_E c) (ac_P c T)) (ha : a < 12) (hb : b < 12)
    (h : ∀ r c T fk' fr' fp' up' pt' wf' qu' qd' pA' pB', ac_St c T up' pt' → ac_Sol m ko L R (ac_E c) (ac_P c T) → ac_Asame c a b r → post r (nI m, fk', fr', fp', ko, lo, ro, up', pt', wf', qu', qd', pA', pB')) :
    wpX_same post (nI m, fk, fr, fp, ko, lo, ro, up, pt, wf, qu, qd, pA, pB) (nI a) (nI b) := by
  unfold wpX_same
  refine ac_isV1 ha ?_
  refine br_f (by decide) ?_
  refine ac_isV1 hb ?_
  refine br_f (by decide) ?_
  refine ac_wo hm hG hk ?_
  intro c T fk' fr' fp' up' pt' wf' qu' qd' pA' pB' hS hSol
  obtain ⟨hc, hB, hU, hP⟩ := hS
  refine ac_find hc hU ha rfl fun up1 hU1 => ac_find hc hU1 hb rfl fun up2 hU2 => ?_
  have la := hc.2 a ha
  have lb := hc.2 b hb
  refine br_c (fun e => h _ c T _ _ _ _ _ _ _ _ _ _ ⟨hc, hB, hU2, hP⟩ hSol (Or.inl ⟨ac_inj (by omega) (by omega) e, rfl⟩)) (fun e => h _ c T _ _ _ _ _ _ _ _ _ _ ⟨hc, hB, hU2, hP⟩ hSol (Or.inr ⟨fun e' => e (congrArg nI e'), rfl⟩))
theorem ac_xmem {post : Int32 → SX → Prop} (hm : m ≤ 24) (hG : ac_Pg m ko lo ro L R) (hk : ¬ fk = 0 → ∃ c T, ac_St c T up pt ∧ ac_Sol m ko L R (ac_E c) (ac_P c T)) (ha : a < 12)
    (h : ∀ c T fk' fr' fp' up' pt' wf' qu' qd' pA' pB', ac_St c T up' pt' → ac_Sol m ko L R (ac_E c) (ac_P c T) → post (ac_mk (fun v => c v = c a) 12) (nI m, fk', fr', fp', ko, lo, ro, up', pt', wf', qu', qd', pA', pB')) :
    wpX_members post (nI m, fk, fr, fp, ko, lo, ro, up, pt, wf, qu, qd, pA, pB) (nI a) := by
  unfold wpX_members
  refine ac_isV1 ha ?_
  refine br_f (by decide) ?_
  refine ac_wo hm hG hk ?_
  intro c T fk' fr' fp' up' pt' wf' qu' qd' pA' pB' hS hSol
  obtain ⟨hc, hB, hU, hP⟩ := hS
  exact ac_mo hc hU ha rfl fun up1 hU1 => h c T _ _ _ _ _ _ _ _ _ _ ⟨hc, hB, hU1, hP⟩ hSol
theorem ac_xtgt {post : Int32 → SX → Prop} (hm : m ≤ 24) (hG : ac_Pg m ko lo ro L R) (hk : ¬ fk = 0 → ∃ c T, ac_St c T up pt ∧ ac_Sol m ko L R (ac_E c) (ac_P c T)) (ha : a < 12)
    (h : ∀ r c T fk' fr' fp' up' pt' wf' qu' qd' pA' pB', ac_St c T up' pt' → ac_Sol m ko L R (ac_E c) (ac_P c T) → ac_Atgt c T a r → post r (nI m, fk', fr', fp', ko, lo, ro, up', pt', wf', qu', qd', pA', pB')) :
    wpX_target post (nI m, fk, fr, fp, ko, lo, ro, up, pt, wf, qu, qd, pA, pB) (nI a) := by
  unfold wpX_target
  refine ac_isV1 ha ?_
  refine br_f (by decide) ?_
  refine ac_wo hm hG hk ?_
  intro c T fk' fr' fp' up' pt' wf' qu' qd' pA' pB' hS hSol
  obtain ⟨hc, hB, hU, hP⟩ := hS
  have la := hc.2 a ha
  have ea : (nI (c a)).toNatClampNeg = c a := nI_clamp (by omega)
  refine ac_find hc hU ha rfl fun up1 hU1 => And.intro (ac_in la (by decide)) ?_
  cases hT : T (c a) with
  | none =>
    refine nm_r (e' := -1) (by rw [ea, hP _ la, hT]; rfl) (br_f (by decide) ?_)
    exact h _ c T _ _ _ _ _ _ _ _ _ _ ⟨hc, hB, hU1, hP⟩ hSol (Or.inl ⟨hT, rfl⟩)
  | some y =>
    have hy := hB _ _ hT
    refine nm_r (e' := nI y) (by rw [ea, hP _ la, hT]; rfl) (br_t (nI_pos' (by omega)) (ac_mo hc hU1 hy rfl fun up2 hU2 => Exists.intro 13 ?_))
    have t := ac_tg46 (post := post) (Q := fun v => c v = c y) (fa := nI m) (fk := fk') (fr := fr') (fp := fp') (ko := ko) (lo := lo) (ro := ro) (up := up2) (pt := pt') (wf := wf') (qu := qu') (qd := qd') (pA := pA') (pB := pB') ⟨y, hy, rfl⟩
      (fun l l1 l2 l3 => h _ c T _ _ _ _ _ _ _ _ _ _ ⟨hc, hB, hU2, hP⟩ hSol (Or.inr ⟨y, l, hT, l1, l2, l3, rfl⟩)) 12 13 0 (by decide) (by decide) (Or.inl fun v h1 h2 => absurd h1 (by omega))
    rw [show nI 12 + (-1) = 11 by decide] at t
    exact t
theorem ac_xmt {post : Int32 → SX → Prop} (hm : m ≤ 24) (hG : ac_Pg m ko lo ro L R) (hk : ¬ fk = 0 → ∃ c T, ac_St c T up pt ∧ ac_Sol m ko L R (ac_E c) (ac_P c T)) (ha : a < 12) (hb : b < 12)
    (h : ∀ r c T fk' fr' fp' up' pt' wf' qu' qd' pA' pB', ac_St c T up' pt' → ac_Sol m ko L R (ac_E c) (ac_P c T) → ac_Amt c T a b r → post r (nI m, fk', fr', fp', ko, lo, ro, up', pt', wf', qu', qd', pA', pB')) :
    wpX_meet post (nI m, fk, fr, fp, ko, lo, ro, up, pt, wf, qu, qd, pA, pB) (nI a) (nI b) := by
  unfold wpX_meet
  refine ac_isV1 ha ?_
  refine br_f (by decide) ?_
  refine ac_isV1 hb ?_
  refine br_f (by decide) ?_
  refine ac_wo hm hG hk ?_
  intro c T fk' fr' fp' up' pt' wf' qu' qd' pA' pB' hS hSol
  obtain ⟨hc, hB, hU, hP⟩ := hS
  have la := hc.2 a ha
  have lb := hc.2 b hb
  have ea : (nI (c a)).toNatClampNeg = c a := nI_clamp (by omega)
  have eb : (nI (c b)).toNatClampNeg = c b := nI_clamp (by omega)
  refine ac_find hc hU ha rfl fun up1 hU1 => And.intro (ac_in la (by decide)) (nm_r (e' := ac_en (T (c a))) (by rw [ea, hP _ la]) (ac_find hc hU1 hb rfl fun up2 hU2 => And.intro (ac_in lb (by decide)) (nm_r (e' := ac_en (T (c b))) (by rw [eb, hP _ lb]) ?_)))
  cases hTa : T (c a) with
  | none =>
    refine br_t (show (-1 : Int32) < 0 by decide) (h _ c T _ _ _ _ _ _ _ _ _ _ ⟨hc, hB, hU2, hP⟩ hSol (Or.inr ⟨?_, rfl⟩))
    rintro ⟨z, z1, _⟩
    exact ac_noP hTa z1
  | some y =>
    have hy := hB _ _ hTa
    refine br_f (ac_en_n hy) ?_
    cases hTb : T (c b) with
    | none =>
      refine br_f (show ¬ 0 ≤ (-1 : Int32) by decide) (h _ c T _ _ _ _ _ _ _ _ _ _ ⟨hc, hB, hU2, hP⟩ hSol (Or.inr ⟨?_, rfl⟩))
      rintro ⟨z, _, z1⟩
      exact ac_noP hTb z1
    | some w =>
      have hw := hB _ _ hTb
      have ly := hc.2 y hy
      have lw := hc.2 w hw
      have iff : (∃ z, ac_P c T a z ∧ ac_P c T b z) ↔ c y = c w := by
        constructor
        · rintro ⟨z, ⟨y', e1, e2⟩, ⟨w', e3, e4⟩⟩
          rw [hTa] at e1
          rw [hTb] at e3
          cases e1
          cases e3
          exact e2.trans e4.symm
        · intro e
          exact ⟨y, ⟨y, hTa, rfl⟩, ⟨w, hTb, e.symm⟩⟩
      refine br_t (ac_en_p hw) (ac_find hc hU2 hy rfl fun up3 hU3 => ac_find hc hU3 hw rfl fun up4 hU4 => ?_)
      refine br_c (fun e => h _ c T _ _ _ _ _ _ _ _ _ _ ⟨hc, hB, hU4, hP⟩ hSol (Or.inl ⟨iff.mpr (ac_inj (by omega) (by omega) e), rfl⟩)) (fun e => h _ c T _ _ _ _ _ _ _ _ _ _ ⟨hc, hB, hU4, hP⟩ hSol (Or.inr ⟨fun e' => e (congrArg nI (iff.mp e')), rfl⟩))
theorem ac_xcls {post : Int32 → SX → Prop} (hm : m ≤ 24) (hG : ac_Pg m ko lo ro L R) (hk : ¬ fk = 0 → ∃ c T, ac_St c T up pt ∧ ac_Sol m ko L R (ac_E c) (ac_P c T))
    (h : ∀ c T fk' fr' fp' up' pt' wf' qu' qd' pA' pB', ac_St c T up' pt' → ac_Sol m ko L R (ac_E c) (ac_P c T) → post (nI (ac_cn (fun r => c r = r ∧ True) 12)) (nI m, fk', fr', fp', ko, lo, ro, up', pt', wf', qu', qd', pA', pB')) :
    wpX_classes post (nI m, fk, fr, fp, ko, lo, ro, up, pt, wf, qu, qd, pA, pB) := by
  unfold wpX_classes
  refine ac_wo hm hG hk ?_
  intro c T fk' fr' fp' up' pt' wf' qu' qd' pA' pB' hS hSol
  exact Exists.intro 13 (ac_cl8 (Q := fun _ => True) (fun _ => trivial) hS.2.2.1 (h c T _ _ _ _ _ _ _ _ _ _ hS hSol) 13 0 (by decide) (by decide))
theorem ac_xpoi {post : Int32 → SX → Prop} (hm : m ≤ 24) (hG : ac_Pg m ko lo ro L R) (hk : ¬ fk = 0 → ∃ c T, ac_St c T up pt ∧ ac_Sol m ko L R (ac_E c) (ac_P c T))
    (h : ∀ c T fk' fr' fp' up' pt' wf' qu' qd' pA' pB', ac_St c T up' pt' → ac_Sol m ko L R (ac_E c) (ac_P c T) → post (nI (ac_cn (fun r => c r = r ∧ ¬ T r = none) 12)) (nI m, fk', fr', fp', ko, lo, ro, up', pt', wf', qu', qd', pA', pB')) :
    wpX_pointing post (nI m, fk, fr, fp, ko, lo, ro, up, pt, wf, qu, qd, pA, pB) := by
  unfold wpX_pointing
  refine ac_wo hm hG hk ?_
  intro c T fk' fr' fp' up' pt' wf' qu' qd' pA' pB' hS hSol
  exact Exists.intro 13 (ac_po8 hS (h c T _ _ _ _ _ _ _ _ _ _ hS hSol) 13 0 (by decide) (by decide))
theorem ac_xstp {post : Int32 → SX → Prop} (hm : m ≤ 24) (hG : ac_Pg m ko lo ro L R) (hk : ¬ fk = 0 → ∃ c T, ac_St c T up pt ∧ ac_Sol m ko L R (ac_E c) (ac_P c T)) (ha : a < 12)
    (h : ∀ c T fk' fr' fp' up' pt' wf' qu' qd' pA' pB', ac_St c T up' pt' → ac_Sol m ko L R (ac_E c) (ac_P c T) → post (nI (0 + ac_sp c T 12 a)) (nI m, fk', fr', fp', ko, lo, ro, up', pt', wf', qu', qd', pA', pB')) :
    wpX_steps post (nI m, fk, fr, fp, ko, lo, ro, up, pt, wf, qu, qd, pA, pB) (nI a) := by
  unfold wpX_steps
  refine ac_isV1 ha ?_
  refine br_f (by decide) ?_
  refine ac_wo hm hG hk ?_
  intro c T fk' fr' fp' up' pt' wf' qu' qd' pA' pB' hS hSol
  obtain ⟨hc, hB, hU, hP⟩ := hS
  refine ac_find hc hU ha rfl fun up1 hU1 => Exists.intro 13 ?_
  exact ac_st24 hc hB hP 12 13 0 a up1 (by decide) (by decide) ha hU1 (fun up2 hU2 => h c T _ _ _ _ _ _ _ _ _ _ ⟨hc, hB, hU2, hP⟩ hSol)
end
section
variable {fc : Int32} {ki le ri co to : Nat → Int32} {L R : Nat → Nat} {m a b : Nat}
theorem ac_ysame {post : Int32 → SY → Prop} (hm : m ≤ 24) (hG : ac_Pg m ki le ri L R) (ha : a < 12) (hb : b < 12)
    (h : ∀ r c T fc co to, ac_YS c T co to → ac_Sol m ki L R (ac_E c) (ac_P c T) → ac_Asame c a b r → post r (nI m, fc, ki, le, ri, co, to)) :
    wpY_same post (nI m, fc, ki, le, ri, co, to) (nI a) (nI b) := by
  unfold wpY_same
  refine ac_bad0 ha ?_
  refine br_t rfl ?_
  refine ac_bad0 hb ?_
  refine br_t rfl ?_
  refine ac_yw hm hG ?_
  intro c T fc' co' to' hY hSol
  obtain ⟨hc, hB, hC, hTo⟩ := id hY
  have ea : (nI a).toNatClampNeg = a := nI_clamp (by omega)
  have eb : (nI b).toNatClampNeg = b := nI_clamp (by omega)
  have ee : co' (nI a).toNatClampNeg = co' (nI b).toNatClampNeg ↔ c a = c b := by
    rw [ea, eb, hC a ha, hC b hb, nI_eq (by have := hc.2 a ha; omega) (by have := hc.2 b hb; omega)]
  refine And.intro (ac_in ha (by decide)) (And.intro (ac_in hb (by decide)) (br_c (fun e => h _ c T _ _ _ hY hSol (Or.inl ⟨ee.mp e, rfl⟩)) (fun e => h _ c T _ _ _ hY hSol (Or.inr ⟨fun e' => e (ee.mpr e'), rfl⟩))))
theorem ac_ymem {post : Int32 → SY → Prop} (hm : m ≤ 24) (hG : ac_Pg m ki le ri L R) (ha : a < 12)
    (h : ∀ c T fc co to, ac_YS c T co to → ac_Sol m ki L R (ac_E c) (ac_P c T) → post (ac_mk (fun v => c v = c a) 12) (nI m, fc, ki, le, ri, co, to)) :
    wpY_members post (nI m, fc, ki, le, ri, co, to) (nI a) := by
  unfold wpY_members
  refine ac_bad0 ha ?_
  refine br_t rfl ?_
  refine ac_yw hm hG ?_
  intro c T fc' co' to' hY hSol
  have ea : (nI a).toNatClampNeg = a := nI_clamp (by omega)
  refine And.intro (ac_in ha (by decide)) ?_
  rw [ea, hY.2.2.1 a ha]
  refine Exists.intro 13 (ac_ymo hY (hY.1.2 a ha) ?_ 13 0 (by decide) (by decide))
  exact h c T _ _ _ hY hSol
theorem ac_ytgt {post : Int32 → SY → Prop} (hm : m ≤ 24) (hG : ac_Pg m ki le ri L R) (ha : a < 12)
    (h : ∀ r c T fc co to, ac_YS c T co to → ac_Sol m ki L R (ac_E c) (ac_P c T) → ac_Atgt c T a r → post r (nI m, fc, ki, le, ri, co, to)) :
    wpY_target post (nI m, fc, ki, le, ri, co, to) (nI a) := by
  unfold wpY_target
  refine ac_bad0 ha ?_
  refine br_t rfl ?_
  refine ac_yw hm hG ?_
  intro c T fc' co' to' hY hSol
  obtain ⟨hc, hB, hC, hTo⟩ := id hY
  have la := hc.2 a ha
  have ea : (nI a).toNatClampNeg = a := nI_clamp (by omega)
  have eca : (nI (c a)).toNatClampNeg = c a := nI_clamp (by omega)
  have ec : co' (nI a).toNatClampNeg = nI (c a) := by rw [ea, hC a ha]
  refine And.intro (ac_in ha (by decide)) (And.intro (by rw [ec]; exact ac_in la (by decide)) ?_)
  cases hT : T (c a) with
  | none =>
    refine nm_r (e' := -1) (by rw [ec, eca, hTo _ la, ac_ny_r (hc.1 a), hT]; rfl) (Exists.intro 13 ?_)
    exact ac_ytn (h _ c T _ _ _ hY hSol (Or.inl ⟨hT, rfl⟩)) 13 0 (by decide) (by decide)
  | some y =>
    have hy := hB _ _ hT
    refine nm_r (e' := nI (c y)) (by rw [ec, eca, hTo _ la, ac_ny_r (hc.1 a), hT]; rfl) (Exists.intro 13 ?_)
    exact ac_yts hY (hc.2 y hy) ⟨y, hy, rfl⟩ (fun l l1 l2 l3 => h _ c T _ _ _ hY hSol (Or.inr ⟨y, l, hT, l1, l2, l3, rfl⟩)) 13 0 (by decide) (by decide) (fun v hv => absurd hv (by omega))
theorem ac_ymt {post : Int32 → SY → Prop} (hm : m ≤ 24) (hG : ac_Pg m ki le ri L R) (ha : a < 12) (hb : b < 12)
    (h : ∀ r c T fc co to, ac_YS c T co to → ac_Sol m ki L R (ac_E c) (ac_P c T) → ac_Amt c T a b r → post r (nI m, fc, ki, le, ri, co, to)) :
    wpY_meet post (nI m, fc, ki, le, ri, co, to) (nI a) (nI b) := by
  unfold wpY_meet
  refine ac_bad0 ha ?_
  refine br_t rfl ?_
  refine ac_bad0 hb ?_
  refine br_t rfl ?_
  refine ac_yw hm hG ?_
  intro c T fc' co' to' hY hSol
  obtain ⟨hc, hB, hC, hTo⟩ := id hY
  have la := hc.2 a ha
  have lb := hc.2 b hb
  have ea : (nI a).toNatClampNeg = a := nI_clamp (by omega)
  have eb : (nI b).toNatClampNeg = b := nI_clamp (by omega)
  have eca : (nI (c a)).toNatClampNeg = c a := nI_clamp (by omega)
  have ecb : (nI (c b)).toNatClampNeg = c b := nI_clamp (by omega)
  have eC : co' (nI a).toNatClampNeg = nI (c a) := by rw [ea, hC a ha]
  have eD : co' (nI b).toNatClampNeg = nI (c b) := by rw [eb, hC b hb]
  have tb : to' (co' (nI b).toNatClampNeg).toNatClampNeg = ac_en ((T (c b)).map c) := by rw [eD, ecb, hTo _ lb, ac_ny_r (hc.1 b)]
  refine And.intro (ac_in ha (by decide)) (And.intro (by rw [eC]; exact ac_in la (by decide)) (nm_r (e' := ac_en ((T (c a)).map c)) (by rw [eC, eca, hTo _ la, ac_ny_r (hc.1 a)]) ?_))
  cases hTa : T (c a) with
  | none =>
    refine br_t (show (-1 : Int32) < 0 by decide) (h _ c T _ _ _ hY hSol (Or.inr ⟨?_, rfl⟩))
    rintro ⟨z, z1, _⟩
    exact ac_noP hTa z1
  | some y =>
    have hy := hB _ _ hTa
    have ly := hc.2 y hy
    have iff : (∃ z, ac_P c T a z ∧ ac_P c T b z) ↔ nI (c y) = to' (co' (nI b).toNatClampNeg).toNatClampNeg := by
      rw [tb]
      cases hTb : T (c b) with
      | none =>
        constructor
        · rintro ⟨z, _, z1⟩
          exact absurd z1 (ac_noP hTb)
        · intro e
          exact absurd e.symm (ac_m1ne (by omega))
      | some w =>
        have hw := hB _ _ hTb
        have lw := hc.2 w hw
        show _ ↔ nI (c y) = nI (c w)
        rw [nI_eq (by omega) (by omega)]
        constructor
        · rintro ⟨z, ⟨y', e1, e2⟩, ⟨w', e3, e4⟩⟩
          rw [hTa] at e1
          rw [hTb] at e3
          cases e1
          cases e3
          exact e2.trans e4.symm
        · intro e
          exact ⟨y, ⟨y, hTa, rfl⟩, ⟨w, hTb, e.symm⟩⟩
    refine br_f (ac_en_n ly) (And.intro (ac_in hb (by decide)) (And.intro (by rw [eD]; exact ac_in lb (by decide)) ?_))
    exact br_c (fun e => h _ c T _ _ _ hY hSol (Or.inl ⟨iff.mpr e, rfl⟩)) (fun e => h _ c T _ _ _ hY hSol (Or.inr ⟨fun e' => e (iff.mp e'), rfl⟩))
theorem ac_ycnt {post : Int32 → SY → Prop} {x1 : Int32} (Q : (Nat → Option Nat) → Nat → Prop) (hm : m ≤ 24) (hG : ac_Pg m ki le ri L R)
    (hx : (x1 = 0 ∧ ∀ T r, Q T r) ∨ (¬ x1 = 0 ∧ ∀ T r, Q T r ↔ ¬ T r = none))
    (h : ∀ c T fc co to, ac_YS c T co to → ac_Sol m ki L R (ac_E c) (ac_P c T) → post (nI (ac_cn (fun v => (∀ u, u < v → ¬ c u = c v) ∧ Q T (c v)) 12)) (nI m, fc, ki, le, ri, co, to)) :
    wpY_count post (nI m, fc, ki, le, ri, co, to) x1 := by
  unfold wpY_count
  refine ac_yw hm hG ?_
  intro c T fc' co' to' hY hSol
  refine Exists.intro 13 (ac_yct (Q := Q T) hY ?_ (h c T _ _ _ hY hSol) 13 0 0 (by decide) (by decide) (fun r hr => ?_))
  · rcases hx with ⟨x0, xq⟩ | ⟨x0, xq⟩
    · exact Or.inl ⟨x0, xq T⟩
    · exact Or.inr ⟨x0, xq T⟩
  · rw [b_0]
    constructor
    · intro e; cases e
    · rintro ⟨u, u1, _⟩; omega
theorem ac_ystp {post : Int32 → SY → Prop} (hm : m ≤ 24) (hG : ac_Pg m ki le ri L R) (ha : a < 12)
    (h : ∀ c T fc co to, ac_YS c T co to → ac_Sol m ki L R (ac_E c) (ac_P c T) → post (nI (0 + ac_sp c T 12 a)) (nI m, fc, ki, le, ri, co, to)) :
    wpY_steps post (nI m, fc, ki, le, ri, co, to) (nI a) := by
  unfold wpY_steps
  refine ac_bad0 ha ?_
  refine br_t rfl ?_
  refine ac_yw hm hG ?_
  intro c T fc' co' to' hY hSol
  have ea : (nI a).toNatClampNeg = a := nI_clamp (by omega)
  refine And.intro (ac_in ha (by decide)) (nm_r (e' := nI (c a)) (by rw [ea, hY.2.2.1 a ha]) (Exists.intro 13 ?_))
  exact ac_yst hY 12 13 0 a (by decide) (by decide) ha (h c T _ _ _ hY hSol)
end
/-! the two sides' answers are one -/
theorem ac_Asame_u {c c' : Nat → Nat} {a b : Nat} {r r' : Int32} (hE : ∀ a b, ac_E c a b ↔ ac_E c' a b) (h : ac_Asame c a b r) (h' : ac_Asame c' a b r') : r' = r := by
  rcases h with ⟨h1, h2⟩ | ⟨h1, h2⟩
  · rcases h' with ⟨h3, h4⟩ | ⟨h3, h4⟩
    · rw [h2, h4]
    · exact absurd ((hE a b).mp h1) h3
  · rcases h' with ⟨h3, h4⟩ | ⟨h3, h4⟩
    · exact absurd ((hE a b).mpr h3) h1
    · rw [h2, h4]
theorem ac_Amt_u {c c' : Nat → Nat} {T T' : Nat → Option Nat} {a b : Nat} {r r' : Int32} (hP : ∀ a b, ac_P c T a b ↔ ac_P c' T' a b) (h : ac_Amt c T a b r) (h' : ac_Amt c' T' a b r') : r' = r := by
  have e : (∃ z, ac_P c T a z ∧ ac_P c T b z) ↔ (∃ z, ac_P c' T' a z ∧ ac_P c' T' b z) :=
    ⟨fun ⟨z, z1, z2⟩ => ⟨z, (hP _ _).mp z1, (hP _ _).mp z2⟩, fun ⟨z, z1, z2⟩ => ⟨z, (hP _ _).mpr z1, (hP _ _).mpr z2⟩⟩
  rcases h with ⟨h1, h2⟩ | ⟨h1, h2⟩
  · rcases h' with ⟨h3, h4⟩ | ⟨h3, h4⟩
    · rw [h2, h4]
    · exact absurd (e.mp h1) h3
  · rcases h' with ⟨h3, h4⟩ | ⟨h3, h4⟩
    · exact absurd (e.mpr h3) h1
    · rw [h2, h4]
theorem ac_Atgt_u {c c' : Nat → Nat} {T T' : Nat → Option Nat} {a : Nat} {r r' : Int32} (hE : ∀ a b, ac_E c a b ↔ ac_E c' a b) (hP : ∀ a b, ac_P c T a b ↔ ac_P c' T' a b) (h : ac_Atgt c T a r) (h' : ac_Atgt c' T' a r') : r' = r := by
  have e : ¬ T (c a) = none ↔ ¬ T' (c' a) = none := by
    rw [ac_ptiff, ac_ptiff]
    exact ⟨fun ⟨z, z1⟩ => ⟨z, (hP _ _).mp z1⟩, fun ⟨z, z1⟩ => ⟨z, (hP _ _).mpr z1⟩⟩
  rcases h with ⟨h1, h2⟩ | ⟨y, l, h1, h2, h3, h4, h5⟩
  · rcases h' with ⟨g1, g2⟩ | ⟨y', l', g1, g2, g3, g4, g5⟩
    · rw [h2, g2]
    · exact absurd h1 (e.mpr (by rw [g1]; exact fun k => by cases k))
  · rcases h' with ⟨g1, g2⟩ | ⟨y', l', g1, g2, g3, g4, g5⟩
    · exact absurd g1 (e.mp (by rw [h1]; exact fun k => by cases k))
    · obtain ⟨y2, k1, k2⟩ := (hP a y).mp ⟨y, h1, rfl⟩
      rw [g1] at k1
      cases k1
      have q : ∀ v, c v = c y ↔ c' v = c' y' := fun v => by
        rw [k2]
        exact hE v y
      have el : l' = l := by
        rcases Nat.lt_trichotomy l l' with z | z | z
        · exact absurd ((q l).mp h3) (g4 l z)
        · exact z.symm
        · exact absurd ((q l').mpr g3) (h4 l' z)
      rw [h5, g5, el]
end
section
/-! the relation; assign and drop -/
def ac_Pq (m : Nat) (ko lo ro : Nat → Int32) : Prop :=
  ∀ k, k < m → (ko k = 0 ∨ ko k = 1 ∨ ko k = 2 ∨ ko k = 3) ∧ (∃ a, a < 12 ∧ lo k = nI a) ∧ (∃ b, b < 12 ∧ ro k = nI b)
def ac_ix (f : Nat → Int32) : Nat → Nat := fun k => (f k).toNatClampNeg
theorem ac_Pg_of {m : Nat} {ko lo ro : Nat → Int32} (h : ac_Pq m ko lo ro) : ac_Pg m ko lo ro (ac_ix lo) (ac_ix ro) := by
  intro k hk
  obtain ⟨h1, ⟨a, a1, a2⟩, ⟨b, b1, b2⟩⟩ := h k hk
  have ea : ac_ix lo k = a := by unfold ac_ix; rw [a2]; exact nI_clamp (by omega)
  have eb : ac_ix ro k = b := by unfold ac_ix; rw [b2]; exact nI_clamp (by omega)
  rw [ea, eb]
  exact ⟨h1, a2, a1, b2, b1⟩
def ac_Rk (m : Nat) (fk : Int32) (ko lo ro up pt : Nat → Int32) : Prop :=
  ¬ fk = 0 → ∃ c T, ac_St c T up pt ∧ ac_Sol m ko (ac_ix lo) (ac_ix ro) (ac_E c) (ac_P c T)
/-- the relation at the head of a turn: the same assignments; if known, up and pointee stand for the least solution -/
def i_Rel (k : Nat) (u : SX) (v : SY) : Prop := match u with
  | (fa, fk, _, _, ko, lo, ro, up, pt, _, _, _, _, _) => match v with
    | (fh, _, ki, le, ri, _, _) => ∃ m : Nat, m ≤ 24 ∧ fa = nI m ∧ fh = nI m ∧ ki = ko ∧ le = lo ∧ ri = ro ∧ ac_Pq m ko lo ro ∧ ac_Rk m fk ko lo ro up pt
theorem ac_el {k : Nat} {C : SX → SY → Prop}
    (h : ∀ (m : Nat) (fk fr fp : Int32) (ko lo ro up pt wf qu qd pA pB : Nat → Int32) (fc : Int32) (co to : Nat → Int32), m ≤ 24 → ac_Pq m ko lo ro → ac_Rk m fk ko lo ro up pt →
      C (nI m, fk, fr, fp, ko, lo, ro, up, pt, wf, qu, qd, pA, pB) (nI m, fc, ko, lo, ro, co, to)) {u : SX} {v : SY} (I : i_Rel k u v) : C u v := by
  obtain ⟨fa, fk, fr, fp, ko, lo, ro, up, pt, wf, qu, qd, pA, pB⟩ := u
  obtain ⟨fh, fc, ki, le, ri, co, to⟩ := v
  obtain ⟨m, hm, rfl, rfl, rfl, rfl, rfl, hG, hK⟩ := I
  exact h m fk fr fp _ _ _ up pt wf qu qd pA pB fc co to hm hG hK
section
variable {k m : Nat} {fk fr fp fc : Int32} {ko lo ro up pt wf qu qd pA pB co to : Nat → Int32}
theorem ac_mkR (hm : m ≤ 24) (hG : ac_Pq m ko lo ro) (hK : ac_Rk m fk ko lo ro up pt) :
    i_Rel k (nI m, fk, fr, fp, ko, lo, ro, up, pt, wf, qu, qd, pA, pB) (nI m, fc, ko, lo, ro, co, to) := ⟨m, hm, rfl, rfl, rfl, rfl, rfl, hG, hK⟩
theorem ac_kd {p : Int32} (h0 : ¬ p < 0) (h3 : ¬ 3 < p) : p = 0 ∨ p = 1 ∨ p = 2 ∨ p = 3 := by
  obtain ⟨j, hj, rfl⟩ := nI_of h0
  have l : j ≤ 3 := by
    apply Classical.byContradiction
    intro e
    exact h3 (nI_lt (a := 3) (by omega) hj)
  rcases (show j = 0 ∨ j = 1 ∨ j = 2 ∨ j = 3 by omega) with e | e | e | e
  · exact Or.inl (by rw [e]; rfl)
  · exact Or.inr (Or.inl (by rw [e]; rfl))
  · exact Or.inr (Or.inr (Or.inl (by rw [e]; rfl)))
  · exact Or.inr (Or.inr (Or.inr (by rw [e]; rfl)))
def ac_Ref (m : Nat) (p q r : Int32) : Prop := p < 0 ∨ 3 < p ∨ (q < 0 ∨ 11 < q) ∨ (r < 0 ∨ 11 < r) ∨ m = 24
theorem ac_xas0 {post : Int32 → SX → Prop} {p q r : Int32} (hm : m ≤ 24) (hb : ac_Ref m p q r) (h : post (-1) (nI m, fk, fr, fp, ko, lo, ro, up, pt, wf, qu, qd, pA, pB)) :
    wpX_assign post (nI m, fk, fr, fp, ko, lo, ro, up, pt, wf, qu, qd, pA, pB) p q r := by
  unfold wpX_assign
  by_cases h0 : p < 0
  · exact br_t h0 h
  refine br_f h0 ?_
  by_cases h3 : 3 < p
  · exact br_t h3 h
  refine br_f h3 ?_
  rcases ac_var q with ⟨a, ha, rfl⟩ | hq
  · refine ac_isV1 ha ?_
    refine br_f (by decide) ?_
    rcases ac_var r with ⟨b, hb', rfl⟩ | hr
    · refine ac_isV1 hb' ?_
      refine br_f (by decide) ?_
      have nb : ∀ a, a < 12 → ¬ (nI a < 0 ∨ 11 < nI a) := fun a ha z => z.elim (nI_pos (by omega)) (nI_nlt (a := 11) (b := a) (by omega) (by decide))
      have e : m = 24 := by
        rcases hb with z | z | z | z | z
        · exact absurd z h0
        · exact absurd z h3
        · exact absurd z (nb a ha)
        · exact absurd z (nb b hb')
        · exact z
      exact br_f (by rw [e]; decide) h
    · refine ac_isV0 hr ?_
      exact br_t rfl h
  · refine ac_isV0 hq ?_
    exact br_t rfl h
theorem ac_yas0 {post : Int32 → SY → Prop} {p q r : Int32} (hm : m ≤ 24) (hb : ac_Ref m p q r) (h : post (-1) (nI m, fc, ko, lo, ro, co, to)) :
    wpY_assign post (nI m, fc, ko, lo, ro, co, to) p q r := by
  unfold wpY_assign
  rcases ac_var q with ⟨a, ha, rfl⟩ | hq
  · refine ac_bad0 ha ?_
    refine br_t rfl ?_
    rcases ac_var r with ⟨b, hb', rfl⟩ | hr
    · refine ac_bad0 hb' ?_
      refine br_t rfl ?_
      by_cases h0 : p < 0
      · exact br_t h0 h
      refine br_f h0 ?_
      by_cases h3 : 3 < p
      · exact br_t h3 h
      refine br_f h3 ?_
      have nb : ∀ a, a < 12 → ¬ (nI a < 0 ∨ 11 < nI a) := fun a ha z => z.elim (nI_pos (by omega)) (nI_nlt (a := 11) (b := a) (by omega) (by decide))
      have e : m = 24 := by
        rcases hb with z | z | z | z | z
        · exact absurd z h0
        · exact absurd z h3
        · exact absurd z (nb a ha)
        · exact absurd z (nb b hb')
        · exact z
      exact br_t (by rw [e]; rfl) h
    · refine ac_bad1 hr ?_
      exact br_f (by decide) h
  · refine ac_bad1 hq ?_
    exact br_f (by decide) h
theorem ac_Pq_put {p : Int32} {a b : Nat} (hG : ac_Pq m ko lo ro) (hp : p = 0 ∨ p = 1 ∨ p = 2 ∨ p = 3) (ha : a < 12) (hb : b < 12) : ac_Pq (m + 1) (upd ko m p) (upd lo m (nI a)) (upd ro m (nI b)) := by
  intro j hj
  by_cases z : j = m
  · rw [z, pk_us, pk_us, pk_us]
    exact ⟨hp, ⟨a, ha, rfl⟩, ⟨b, hb, rfl⟩⟩
  · rw [pk_un z, pk_un z, pk_un z]
    exact hG j (by omega)
theorem ac_dr {m1 : Nat} (hm : m1 < 24) : ∀ (n i : Nat) (ko lo ro : Nat → Int32), m1 < n + i → i ≤ m1 → ac_Pq (m1 + 1) ko lo ro → ∃ ko' lo' ro', ac_Pq (m1 + 1) ko' lo' ro' ∧
    (∀ (post : Int32 → SX → Prop) (fk fr fp : Int32) (up pt wf qu qd pA pB : Nat → Int32), post (nI m1) (nI m1, 0, fr, fp, ko', lo', ro', up, pt, wf, qu, qd, pA, pB) → wX_drop_26 post (nI m1) fk fr fp n (nI i) ko lo ro up pt wf qu qd pA pB) ∧
    (∀ (post : Int32 → SY → Prop) (fc : Int32) (co to : Nat → Int32), post (nI m1) (nI m1, fc, ko', lo', ro', co, to) → wY_drop_26 post (nI m1) fc n (nI i) ko lo ro co to) := by
  intro n
  induction n with
  | zero => intro i ko lo ro hn hi; omega
  | succ n ih =>
    intro i ko lo ro hn hi hG
    by_cases z : i = m1
    · have l : nI m1 ≤ nI i := by rw [z]; exact nI_le (Nat.le_refl _) (by omega)
      exact ⟨ko, lo, ro, hG, fun post fk fr fp up pt wf qu qd pA pB h => br_t l h, fun post fc co to h => br_t l h⟩
    · have l : ¬ nI m1 ≤ nI i := nI_ge (by omega) (by omega)
      have ei : (nI i).toNatClampNeg = i := nI_clamp (by omega)
      have ei1 : (nI i + 1).toNatClampNeg = i + 1 := by rw [nI_1]; exact nI_clamp (by omega)
      have in0 : vp_in (nI i) 24 := ac_in (by omega) (by decide)
      have in1 : vp_in (nI i + 1) 24 := by rw [nI_1]; exact ac_in (by omega) (by decide)
      obtain ⟨ko', lo', ro', h1, h2, h3⟩ := ih (i + 1) (upd ko i (ko (i + 1))) (upd lo i (lo (i + 1))) (upd ro i (ro (i + 1))) (by omega) (by omega) (by
        intro j hj
        by_cases zj : j = i
        · rw [zj, pk_us, pk_us, pk_us]
          exact hG (i + 1) (by omega)
        · rw [pk_un zj, pk_un zj, pk_un zj]
          exact hG j hj)
      refine ⟨ko', lo', ro', h1, fun post fk fr fp up pt wf qu qd pA pB h => ?_, fun post fc co to h => ?_⟩
      · refine br_f l ⟨in1, in0, fun a ea => ⟨in1, in0, fun b eb => ⟨in1, in0, fun d ed x ex => ?_⟩⟩⟩
        rw [ei, ei1] at ea eb ed
        rw [ea, eb, ed, ex, nI_1 i]
        exact h2 post fk fr fp up pt wf qu qd pA pB h
      · refine br_f l ⟨in1, in0, fun a ea => ⟨in1, in0, fun b eb => ⟨in1, in0, fun d ed x ex => ?_⟩⟩⟩
        rw [ei, ei1] at ea eb ed
        rw [ea, eb, ed, ex, nI_1 i]
        exact h3 post fc co to h
end
end
section
/-! the owed theorems -/
theorem i_up {k : Nat} {u : SX} {v : SY} (h : i_Rel k u v) : i_Rel (k + 4) u v := h
theorem i_vc0 : wpX_init (fun u => wpY_init (fun v => i_Rel 0 u v)) := by
  unfold wpX_init wpY_init
  exact ac_mkR (m := 0) (by decide) (fun k hk => absurd hk (by omega)) (fun z => absurd rfl z)
theorem i_vc_assign {k : Nat} {u : SX} {v : SY} (I : i_Rel k u v) (hk : k + 4 ≤ 2048) (v1 : Int32) (v2 : Int32) (v3 : Int32) : wpX_assign (fun r u' => wpY_assign (fun r' v' => r' = r ∧ i_Rel (k + 4) u' v') v v1 v2 v3) u v1 v2 v3 := by
  refine ac_el (C := fun u v => wpX_assign (fun r u' => wpY_assign (fun r' v' => r' = r ∧ i_Rel (k + 4) u' v') v v1 v2 v3) u v1 v2 v3) ?_ I
  intro m fk fr fp ko lo ro up pt wf qu qd pA pB fc co to hm hG hK
  by_cases hR : ac_Ref m v1 v2 v3
  · exact ac_xas0 hm hR (ac_yas0 hm hR ⟨rfl, ac_mkR hm hG hK⟩)
  · have h0 : ¬ v1 < 0 := fun z => hR (Or.inl z)
    have h3 : ¬ 3 < v1 := fun z => hR (Or.inr (Or.inl z))
    have h24 : ¬ m = 24 := fun z => hR (Or.inr (Or.inr (Or.inr (Or.inr z))))
    rcases ac_var v2 with ⟨a, ha, rfl⟩ | hq
    · rcases ac_var v3 with ⟨b, hb, rfl⟩ | hr
      · have hl : m < 24 := by omega
        have em : (nI m).toNatClampNeg = m := nI_clamp (by omega)
        have inm : vp_in (nI m) 24 := ac_in hl (by decide)
        have hG' := ac_Pq_put hG (ac_kd h0 h3) ha hb
        unfold wpX_assign
        refine br_f h0 ?_
        refine br_f h3 ?_
        refine ac_isV1 ha ?_
        refine br_f (by decide) ?_
        refine ac_isV1 hb ?_
        refine br_f (by decide) ?_
        refine br_t (nI_lt (b := 24) hl (by decide)) ?_
        refine And.intro inm (fun k1 e1 => And.intro inm (fun l1 e2 => And.intro inm (fun r1 e3 f1 e4 => ?_)))
        rw [em] at e1 e2 e3
        rw [nI_1] at e4
        rw [e1, e2, e3, e4]
        unfold wpY_assign
        refine ac_bad0 ha ?_
        refine br_t rfl ?_
        refine ac_bad0 hb ?_
        refine br_t rfl ?_
        refine br_f h0 ?_
        refine br_f h3 ?_
        refine br_f (fun z => h24 (ac_inj (by omega) (by decide) z)) ?_
        refine And.intro inm (fun k2 d1 => And.intro inm (fun l2 d2 => And.intro inm (fun r2 d3 f2 d4 => ?_)))
        rw [em] at d1 d2 d3
        rw [nI_1] at d4
        rw [d1, d2, d3, d4]
        exact ⟨rfl, ac_mkR hl hG' (fun z => absurd rfl z)⟩
      · exact absurd (Or.inr (Or.inr (Or.inr (Or.inl hr)))) hR
    · exact absurd (Or.inr (Or.inr (Or.inl hq))) hR
theorem i_vc_drop {k : Nat} {u : SX} {v : SY} (I : i_Rel k u v) (hk : k + 4 ≤ 2048) (v1 : Int32) : wpX_drop (fun r u' => wpY_drop (fun r' v' => r' = r ∧ i_Rel (k + 4) u' v') v v1) u v1 := by
  refine ac_el (C := fun u v => wpX_drop (fun r u' => wpY_drop (fun r' v' => r' = r ∧ i_Rel (k + 4) u' v') v v1) u v1) ?_ I
  intro m fk fr fp ko lo ro up pt wf qu qd pA pB fc co to hm hG hK
  unfold wpX_drop
  by_cases h0 : v1 < 0
  · refine br_t h0 ?_
    unfold wpY_drop
    exact br_t h0 ⟨rfl, ac_mkR hm hG hK⟩
  refine br_f h0 ?_
  by_cases h1 : v1 < nI m
  · obtain ⟨d, hd, rfl⟩ := nI_of h0
    have hdm : d < m := (nI_ltI hd (by omega)).mp h1
    obtain ⟨m1, rfl⟩ : ∃ m1, m = m1 + 1 := ⟨m - 1, by omega⟩
    obtain ⟨ko', lo', ro', g1, g2, g3⟩ := ac_dr (m1 := m1) (by omega) (m1 + 1) d ko lo ro (by omega) (by omega) hG
    refine br_t h1 ?_
    refine nm_r (e' := nI m1) (nI_pred m1) (Exists.intro (m1 + 1) (g2 _ _ _ _ _ _ _ _ _ _ _ ?_))
    unfold wpY_drop
    refine br_f h0 ?_
    refine br_t h1 ?_
    refine nm_r (e' := nI m1) (nI_pred m1) (Exists.intro (m1 + 1) (g3 _ _ _ _ ?_))
    exact ⟨rfl, ac_mkR (by omega) (fun j hj => g1 j (by omega)) (fun z => absurd rfl z)⟩
  · refine br_f h1 ?_
    unfold wpY_drop
    exact br_f h0 (br_f h1 ⟨rfl, ac_mkR hm hG hK⟩)
theorem i_vc_same {k : Nat} {u : SX} {v : SY} (I : i_Rel k u v) (hk : k + 4 ≤ 2048) (v1 : Int32) (v2 : Int32) : wpX_same (fun r u' => wpY_same (fun r' v' => r' = r ∧ i_Rel (k + 4) u' v') v v1 v2) u v1 v2 := by
  refine ac_el (C := fun u v => wpX_same (fun r u' => wpY_same (fun r' v' => r' = r ∧ i_Rel (k + 4) u' v') v v1 v2) u v1 v2) ?_ I
  intro m fk fr fp ko lo ro up pt wf qu qd pA pB fc co to hm hG hK
  have hG' := ac_Pg_of hG
  rcases ac_var v1 with ⟨a, ha, rfl⟩ | h1
  · rcases ac_var v2 with ⟨b, hb, rfl⟩ | h2
    · refine ac_xsame hm hG' hK ha hb ?_
      intro r c T fk' fr' fp' up' pt' wf' qu' qd' pA' pB' hS hSol hA
      refine ac_ysame hm hG' ha hb ?_
      intro r' c' T' fc' co' to' hY hSol' hA'
      exact ⟨ac_Asame_u (ac_Sol_E hSol hSol') hA hA', ac_mkR hm hG (fun _ => ⟨c, T, hS, hSol⟩)⟩
    · unfold wpX_same
      refine ac_isV1 ha ?_
      refine br_f (by decide) ?_
      refine ac_isV0 h2 ?_
      refine br_t rfl ?_
      unfold wpY_same
      refine ac_bad0 ha ?_
      refine br_t rfl ?_
      refine ac_bad1 h2 ?_
      exact br_f (by decide) ⟨rfl, ac_mkR hm hG hK⟩
  · unfold wpX_same
    refine ac_isV0 h1 ?_
    refine br_t rfl ?_
    unfold wpY_same
    refine ac_bad1 h1 ?_
    exact br_f (by decide) ⟨rfl, ac_mkR hm hG hK⟩
theorem i_vc_members {k : Nat} {u : SX} {v : SY} (I : i_Rel k u v) (hk : k + 4 ≤ 2048) (v1 : Int32) : wpX_members (fun r u' => wpY_members (fun r' v' => r' = r ∧ i_Rel (k + 4) u' v') v v1) u v1 := by
  refine ac_el (C := fun u v => wpX_members (fun r u' => wpY_members (fun r' v' => r' = r ∧ i_Rel (k + 4) u' v') v v1) u v1) ?_ I
  intro m fk fr fp ko lo ro up pt wf qu qd pA pB fc co to hm hG hK
  have hG' := ac_Pg_of hG
  rcases ac_var v1 with ⟨a, ha, rfl⟩ | h1
  · refine ac_xmem hm hG' hK ha ?_
    intro c T fk' fr' fp' up' pt' wf' qu' qd' pA' pB' hS hSol
    refine ac_ymem hm hG' ha ?_
    intro c' T' fc' co' to' hY hSol'
    exact ⟨ac_mk_eq (fun v _ => (ac_Sol_E hSol' hSol v a)), ac_mkR hm hG (fun _ => ⟨c, T, hS, hSol⟩)⟩
  · unfold wpX_members
    refine ac_isV0 h1 ?_
    refine br_t rfl ?_
    unfold wpY_members
    refine ac_bad1 h1 ?_
    exact br_f (by decide) ⟨rfl, ac_mkR hm hG hK⟩
theorem i_vc_target {k : Nat} {u : SX} {v : SY} (I : i_Rel k u v) (hk : k + 4 ≤ 2048) (v1 : Int32) : wpX_target (fun r u' => wpY_target (fun r' v' => r' = r ∧ i_Rel (k + 4) u' v') v v1) u v1 := by
  refine ac_el (C := fun u v => wpX_target (fun r u' => wpY_target (fun r' v' => r' = r ∧ i_Rel (k + 4) u' v') v v1) u v1) ?_ I
  intro m fk fr fp ko lo ro up pt wf qu qd pA pB fc co to hm hG hK
  have hG' := ac_Pg_of hG
  rcases ac_var v1 with ⟨a, ha, rfl⟩ | h1
  · refine ac_xtgt hm hG' hK ha ?_
    intro r c T fk' fr' fp' up' pt' wf' qu' qd' pA' pB' hS hSol hA
    refine ac_ytgt hm hG' ha ?_
    intro r' c' T' fc' co' to' hY hSol' hA'
    exact ⟨ac_Atgt_u (ac_Sol_E hSol hSol') (ac_Sol_P hSol hSol') hA hA', ac_mkR hm hG (fun _ => ⟨c, T, hS, hSol⟩)⟩
  · unfold wpX_target
    refine ac_isV0 h1 ?_
    refine br_t rfl ?_
    unfold wpY_target
    refine ac_bad1 h1 ?_
    exact br_f (by decide) ⟨rfl, ac_mkR hm hG hK⟩
theorem i_vc_meet {k : Nat} {u : SX} {v : SY} (I : i_Rel k u v) (hk : k + 4 ≤ 2048) (v1 : Int32) (v2 : Int32) : wpX_meet (fun r u' => wpY_meet (fun r' v' => r' = r ∧ i_Rel (k + 4) u' v') v v1 v2) u v1 v2 := by
  refine ac_el (C := fun u v => wpX_meet (fun r u' => wpY_meet (fun r' v' => r' = r ∧ i_Rel (k + 4) u' v') v v1 v2) u v1 v2) ?_ I
  intro m fk fr fp ko lo ro up pt wf qu qd pA pB fc co to hm hG hK
  have hG' := ac_Pg_of hG
  rcases ac_var v1 with ⟨a, ha, rfl⟩ | h1
  · rcases ac_var v2 with ⟨b, hb, rfl⟩ | h2
    · refine ac_xmt hm hG' hK ha hb ?_
      intro r c T fk' fr' fp' up' pt' wf' qu' qd' pA' pB' hS hSol hA
      refine ac_ymt hm hG' ha hb ?_
      intro r' c' T' fc' co' to' hY hSol' hA'
      exact ⟨ac_Amt_u (ac_Sol_P hSol hSol') hA hA', ac_mkR hm hG (fun _ => ⟨c, T, hS, hSol⟩)⟩
    · unfold wpX_meet
      refine ac_isV1 ha ?_
      refine br_f (by decide) ?_
      refine ac_isV0 h2 ?_
      refine br_t rfl ?_
      unfold wpY_meet
      refine ac_bad0 ha ?_
      refine br_t rfl ?_
      refine ac_bad1 h2 ?_
      exact br_f (by decide) ⟨rfl, ac_mkR hm hG hK⟩
  · unfold wpX_meet
    refine ac_isV0 h1 ?_
    refine br_t rfl ?_
    unfold wpY_meet
    refine ac_bad1 h1 ?_
    exact br_f (by decide) ⟨rfl, ac_mkR hm hG hK⟩
theorem i_vc_classes {k : Nat} {u : SX} {v : SY} (I : i_Rel k u v) (hk : k + 4 ≤ 2048) : wpX_classes (fun r u' => wpY_classes (fun r' v' => r' = r ∧ i_Rel (k + 4) u' v') v) u := by
  refine ac_el (C := fun u v => wpX_classes (fun r u' => wpY_classes (fun r' v' => r' = r ∧ i_Rel (k + 4) u' v') v) u) ?_ I
  intro m fk fr fp ko lo ro up pt wf qu qd pA pB fc co to hm hG hK
  have hG' := ac_Pg_of hG
  refine ac_xcls hm hG' hK ?_
  intro c T fk' fr' fp' up' pt' wf' qu' qd' pA' pB' hS hSol
  unfold wpY_classes
  refine ac_ycnt (fun _ _ => True) hm hG' (Or.inl ⟨rfl, fun _ _ => trivial⟩) ?_
  intro c' T' fc' co' to' hY hSol'
  refine ⟨congrArg nI ?_, ac_mkR hm hG (fun _ => ⟨c, T, hS, hSol⟩)⟩
  rw [ac_first (Q := fun _ => True) hS.1]
  refine ac_cn_eq (fun v _ => ⟨fun x => ⟨fun u hu e => x.1 u hu ((ac_Sol_E hSol hSol' u v).mp e), trivial⟩, fun x => ⟨fun u hu e => x.1 u hu ((ac_Sol_E hSol hSol' u v).mpr e), trivial⟩⟩)
theorem i_vc_pointing {k : Nat} {u : SX} {v : SY} (I : i_Rel k u v) (hk : k + 4 ≤ 2048) : wpX_pointing (fun r u' => wpY_pointing (fun r' v' => r' = r ∧ i_Rel (k + 4) u' v') v) u := by
  refine ac_el (C := fun u v => wpX_pointing (fun r u' => wpY_pointing (fun r' v' => r' = r ∧ i_Rel (k + 4) u' v') v) u) ?_ I
  intro m fk fr fp ko lo ro up pt wf qu qd pA pB fc co to hm hG hK
  have hG' := ac_Pg_of hG
  refine ac_xpoi hm hG' hK ?_
  intro c T fk' fr' fp' up' pt' wf' qu' qd' pA' pB' hS hSol
  unfold wpY_pointing
  refine ac_ycnt (fun T r => ¬ T r = none) hm hG' (Or.inr ⟨by decide, fun _ _ => Iff.rfl⟩) ?_
  intro c' T' fc' co' to' hY hSol'
  refine ⟨congrArg nI ?_, ac_mkR hm hG (fun _ => ⟨c, T, hS, hSol⟩)⟩
  rw [ac_first (Q := fun r => ¬ T r = none) hS.1]
  refine ac_cn_eq (fun v _ => ?_)
  have e : ¬ T (c v) = none ↔ ¬ T' (c' v) = none := by
    rw [ac_ptiff, ac_ptiff]
    exact ⟨fun ⟨z, z1⟩ => ⟨z, (ac_Sol_P hSol hSol' _ _).mp z1⟩, fun ⟨z, z1⟩ => ⟨z, (ac_Sol_P hSol hSol' _ _).mpr z1⟩⟩
  exact ⟨fun x => ⟨fun u hu e => x.1 u hu ((ac_Sol_E hSol hSol' u v).mp e), e.mpr x.2⟩, fun x => ⟨fun u hu e => x.1 u hu ((ac_Sol_E hSol hSol' u v).mpr e), e.mp x.2⟩⟩
theorem i_vc_steps {k : Nat} {u : SX} {v : SY} (I : i_Rel k u v) (hk : k + 4 ≤ 2048) (v1 : Int32) : wpX_steps (fun r u' => wpY_steps (fun r' v' => r' = r ∧ i_Rel (k + 4) u' v') v v1) u v1 := by
  refine ac_el (C := fun u v => wpX_steps (fun r u' => wpY_steps (fun r' v' => r' = r ∧ i_Rel (k + 4) u' v') v v1) u v1) ?_ I
  intro m fk fr fp ko lo ro up pt wf qu qd pA pB fc co to hm hG hK
  have hG' := ac_Pg_of hG
  rcases ac_var v1 with ⟨a, ha, rfl⟩ | h1
  · refine ac_xstp hm hG' hK ha ?_
    intro c T fk' fr' fp' up' pt' wf' qu' qd' pA' pB' hS hSol
    refine ac_ystp hm hG' ha ?_
    intro c' T' fc' co' to' hY hSol'
    refine ⟨congrArg (fun z => nI (0 + z)) ?_, ac_mkR hm hG (fun _ => ⟨c, T, hS, hSol⟩)⟩
    exact ac_sp_eq (ac_Sol_E hSol' hSol) (ac_Sol_P hSol' hSol) 12 a a rfl
  · unfold wpX_steps
    refine ac_isV0 h1 ?_
    refine br_t rfl ?_
    unfold wpY_steps
    refine ac_bad1 h1 ?_
    exact br_f (by decide) ⟨rfl, ac_mkR hm hG hK⟩
end
