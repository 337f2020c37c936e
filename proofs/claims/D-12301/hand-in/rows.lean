section
section
variable {ti ac ru wc sz dp lo ex he al ov : Int32} {a1 a2 a3 a4 a5 a6 a7 a8 a9 a10 a11 a12 a13 a14 a15 a16 a17 a18 a19 a20 a21 a22 a23 a24 a25 a26 a27 : Nat → Int32}
/-- tokens as naturals: statements, leaves, expressions, the number of parts, the kind of a part -/
def zk_s (k : Nat) : Prop := k = 1 ∨ k = 2 ∨ (10 ≤ k ∧ k < 26) ∨ (30 ≤ k ∧ k < 38) ∨ k = 39 ∨ (40 ≤ k ∧ k < 57) ∨ (60 ≤ k ∧ k < 69)
def zk_l (k : Nat) : Prop := (100 ≤ k ∧ k < 116) ∨ (120 ≤ k ∧ k < 128) ∨ (143 ≤ k ∧ k < 158) ∨ (210 ≤ k ∧ k < 291)
def zk_e (k : Nat) : Prop := zk_l k ∨ k = 128 ∨ (130 ≤ k ∧ k < 143)
def zk_1 (k : Nat) : Prop := k = 128 ∨ k = 139 ∨ (10 ≤ k ∧ k < 26) ∨ (30 ≤ k ∧ k < 34) ∨ (66 ≤ k ∧ k < 69)
def zk_3 (k : Nat) : Prop := k = 35 ∨ k = 142 ∨ (40 ≤ k ∧ k < 56) ∨ (63 ≤ k ∧ k < 66)
noncomputable def zk_n (k : Nat) : Nat :=
  @ite _ (zk_l k ∨ k = 2 ∨ k = 39) (Classical.propDecidable _) 0 (@ite _ (zk_1 k) (Classical.propDecidable _) 1 (if k = 56 then 4 else @ite _ (zk_3 k) (Classical.propDecidable _) 3 2))
def zk_k (t k : Nat) : Prop := t = 1 ∨ ((t = 35 ∨ t = 36 ∨ t = 56) ∧ 0 < k) ∨ (t = 37 ∧ k = 0) ∨ (40 ≤ t ∧ t < 56 ∧ k = 2)
theorem zk_n0 {k : Nat} (h : zk_l k ∨ k = 2 ∨ k = 39) : zk_n k = 0 := by
  unfold zk_n; rw [if_pos h]
theorem zk_n1 {k : Nat} (h0 : ¬ (zk_l k ∨ k = 2 ∨ k = 39)) (h : zk_1 k) : zk_n k = 1 := by
  unfold zk_n; rw [if_neg h0, if_pos h]
theorem zk_n4 {k : Nat} (h : k = 56) : zk_n k = 4 := by
  unfold zk_n zk_l zk_1; rw [if_neg (by omega), if_neg (by omega), if_pos h]
theorem zk_n3 {k : Nat} (h0 : ¬ (zk_l k ∨ k = 2 ∨ k = 39)) (h1 : ¬ zk_1 k) (h4 : ¬ k = 56) (h : zk_3 k) : zk_n k = 3 := by
  unfold zk_n; rw [if_neg h0, if_neg h1, if_neg h4, if_pos h]
theorem zk_n2 {k : Nat} (h0 : ¬ (zk_l k ∨ k = 2 ∨ k = 39)) (h1 : ¬ zk_1 k) (h4 : ¬ k = 56) (h : ¬ zk_3 k) : zk_n k = 2 := by
  unfold zk_n; rw [if_neg h0, if_neg h1, if_neg h4, if_neg h]
theorem zk_nle (k : Nat) : zk_n k ≤ 4 := by
  unfold zk_n
  split
  · omega
  · split
    · omega
    · split
      · omega
      · split <;> omega
theorem zk_sb {k : Nat} (h : zk_s k) : k < 300 := by unfold zk_s at h; omega
theorem zk_eb {k : Nat} (h : zk_e k) : k < 300 := by unfold zk_e zk_l at h; omega
theorem zk_se {k : Nat} (h : zk_s k) : ¬ zk_e k := by unfold zk_s at h; unfold zk_e zk_l; omega
/-- isIn over naturals -/
theorem zk_in {post : Int32 → Prop} {u : St2} {x p q : Int32} (k a m : Nat) (h1 : a ≤ k ∧ k < a + m → post 1) (h0 : ¬ (a ≤ k ∧ k < a + m) → post 0) (hx : x = nI k := by rfl) (hp : p = nI a := by rfl) (hq : q = nI m := by rfl) (hk : k < 2 ^ 31 := by omega) (hm : a + m < 2 ^ 31 := by omega) : wpX_isIn post u x p q := by
  subst hx hp hq
  unfold wpX_isIn
  refine pk_lt k a (fun z => h0 (by omega)) (fun z => ?_)
  rw [nI_add]
  exact pk_le (a + m) k (fun z2 => h0 (by omega)) (fun z2 => h1 (by omega))
/-- isIn over any int -/
theorem zk_inI {post : Int32 → Prop} {u : St2} {x p q : Int32} (a m : Nat) (h1 : ∀ k, k < m → x = nI (a + k) → post 1) (h0 : (∀ k, k < m → ¬ x = nI (a + k)) → post 0) (hp : p = nI a := by rfl) (hq : q = nI m := by rfl) (hm : a + m < 2 ^ 31 := by omega) : wpX_isIn post u x p q := by
  by_cases hx : x < 0
  · subst hp hq
    have hh : ∀ k, k < m → ¬ x = nI (a + k) := fun k hk e => nI_pos (n := a + k) (by omega) (e ▸ hx)
    unfold wpX_isIn
    refine br_t ?_ (h0 hh)
    exact Int32.lt_of_lt_of_le hx (nI_pos' (by omega))
  · obtain ⟨j, hj, rfl⟩ := nI_of hx
    refine zk_in j a m (fun z => h1 (j - a) (by omega) (by rw [show a + (j - a) = j by omega])) (fun z => h0 (fun k hk e => ?_)) rfl hp hq hj hm
    have := (nI_eq hj (show a + k < 2 ^ 31 by omega)).mp e
    omega
theorem zk_leaf {post : Int32 → Prop} {u : St2} (k : Nat) (h1 : zk_l k → post 1) (h0 : ¬ zk_l k → post 0) (hk : k < 2 ^ 31 := by omega) : wpX_isLeaf post u (nI k) := by
  unfold wpX_isLeaf
  refine zk_in k 100 16 (fun z => br_f (by decide) (h1 (by unfold zk_l; omega))) (fun z1 => br_t rfl ?_) rfl rfl rfl hk
  refine zk_in k 120 4 (fun z => br_f (by decide) (h1 (by unfold zk_l; omega))) (fun z2 => br_t rfl ?_) rfl rfl rfl hk
  refine zk_in k 124 4 (fun z => br_f (by decide) (h1 (by unfold zk_l; omega))) (fun z3 => br_t rfl ?_) rfl rfl rfl hk
  refine zk_in k 143 15 (fun z => br_f (by decide) (h1 (by unfold zk_l; omega))) (fun z4 => br_t rfl ?_) rfl rfl rfl hk
  exact zk_in k 210 81 (fun z => br_f (by decide) (h1 (by unfold zk_l; omega))) (fun z5 => br_t rfl (h0 (by unfold zk_l; omega))) rfl rfl rfl hk
theorem zk_parts {post : Int32 → Prop} {u : St2} (k : Nat) (h : post (nI (zk_n k))) (hk : k < 2 ^ 31 := by omega) : wpX_partsOf post u (nI k) := by
  unfold wpX_partsOf
  refine zk_leaf k (fun z => br_f (by decide) (by rw [zk_n0 (Or.inl z)] at h; exact h)) (fun z1 => br_t rfl ?_) hk
  refine pk_eq k 2 (fun z => by rw [zk_n0 (Or.inr (Or.inl z))] at h; exact h) (fun z2 => ?_) rfl rfl hk
  refine pk_eq k 39 (fun z => by rw [zk_n0 (Or.inr (Or.inr z))] at h; exact h) (fun z3 => ?_) rfl rfl hk
  have n0 : ¬ (zk_l k ∨ k = 2 ∨ k = 39) := by
    rintro (z | z | z)
    · exact z1 z
    · exact z2 z
    · exact z3 z
  refine pk_eq k 128 (fun z => by rw [zk_n1 n0 (by unfold zk_1; omega)] at h; exact h) (fun z4 => ?_) rfl rfl hk
  refine pk_eq k 139 (fun z => by rw [zk_n1 n0 (by unfold zk_1; omega)] at h; exact h) (fun z5 => ?_) rfl rfl hk
  refine zk_in k 10 16 (fun z => br_f (by decide) (by rw [zk_n1 n0 (by unfold zk_1; omega)] at h; exact h)) (fun z6 => br_t rfl ?_) rfl rfl rfl hk
  refine zk_in k 30 4 (fun z => br_f (by decide) (by rw [zk_n1 n0 (by unfold zk_1; omega)] at h; exact h)) (fun z7 => br_t rfl ?_) rfl rfl rfl hk
  refine zk_in k 66 3 (fun z => br_f (by decide) (by rw [zk_n1 n0 (by unfold zk_1; omega)] at h; exact h)) (fun z8 => br_t rfl ?_) rfl rfl rfl hk
  have n1 : ¬ zk_1 k := by unfold zk_1; omega
  refine pk_eq k 56 (fun z => by rw [zk_n4 z] at h; exact h) (fun z9 => ?_) rfl rfl hk
  refine pk_eq k 35 (fun z => by rw [zk_n3 n0 n1 z9 (by unfold zk_3; omega)] at h; exact h) (fun za => ?_) rfl rfl hk
  refine pk_eq k 142 (fun z => by rw [zk_n3 n0 n1 z9 (by unfold zk_3; omega)] at h; exact h) (fun zb => ?_) rfl rfl hk
  refine zk_in k 40 16 (fun z => br_f (by decide) (by rw [zk_n3 n0 n1 z9 (by unfold zk_3; omega)] at h; exact h)) (fun zc => br_t rfl ?_) rfl rfl rfl hk
  exact zk_in k 63 3 (fun z => br_f (by decide) (by rw [zk_n3 n0 n1 z9 (by unfold zk_3; omega)] at h; exact h)) (fun zd => br_t rfl (by rw [zk_n2 n0 n1 z9 (by unfold zk_3; omega)] at h; exact h)) rfl rfl rfl hk
theorem zk_part {post : Int32 → Prop} {u : St2} (t k : Nat) (h1 : zk_k t k → post 1) (h0 : ¬ zk_k t k → post 0) (ht : t < 2 ^ 31 := by omega) (hk : k < 2 ^ 31 := by omega) : wpX_isStatementPart post u (nI t) (nI k) := by
  have g : (t = 35 ∨ t = 36 ∨ t = 56) → wX_isStatementPart_25 post (nI k) := fun e => by
    unfold wX_isStatementPart_25
    exact pk_le k 0 (fun z => h0 (by unfold zk_k; omega)) (fun z => h1 (by unfold zk_k; omega))
  unfold wpX_isStatementPart
  refine pk_eq t 1 (fun z => h1 (by unfold zk_k; omega)) (fun z1 => ?_)
  refine pk_eq t 35 (fun z => g (by omega)) (fun z2 => ?_)
  refine pk_eq t 36 (fun z => g (by omega)) (fun z3 => ?_)
  refine pk_eq t 56 (fun z => g (by omega)) (fun z4 => ?_)
  refine pk_eq t 37 (fun z => pk_eq k 0 (fun y => h1 (by unfold zk_k; omega)) (fun y => h0 (by unfold zk_k; omega))) (fun z5 => ?_)
  exact zk_in t 40 16 (fun z => br_f (by decide) (pk_eq k 2 (fun y => h1 (by unfold zk_k; omega)) (fun y => h0 (by unfold zk_k; omega)))) (fun z => br_t rfl (h0 (by unfold zk_k; omega)))
/-- isStatement of a token that is known -/
theorem zk_stN {post : Int32 → Prop} {u : St2} (k : Nat) (h1 : zk_s k → post 1) (h0 : ¬ zk_s k → post 0) (hk : k < 2 ^ 31 := by omega) : wpX_isStatement post u (nI k) := by
  unfold wpX_isStatement
  refine pk_eq k 1 (fun z => h1 (by unfold zk_s; omega)) (fun z1 => ?_)
  refine pk_eq k 2 (fun z => h1 (by unfold zk_s; omega)) (fun z2 => ?_)
  refine zk_in k 10 16 (fun z => br_f (by decide) (h1 (by unfold zk_s; omega))) (fun z3 => br_t rfl ?_)
  refine zk_in k 30 8 (fun z => br_f (by decide) (h1 (by unfold zk_s; omega))) (fun z4 => br_t rfl ?_)
  refine pk_eq k 39 (fun z => h1 (by unfold zk_s; omega)) (fun z5 => ?_)
  refine zk_in k 40 17 (fun z => br_f (by decide) (h1 (by unfold zk_s; omega))) (fun z6 => br_t rfl ?_)
  exact zk_in k 60 9 (fun z => br_f (by decide) (h1 (by unfold zk_s; omega))) (fun z7 => br_t rfl (h0 (by unfold zk_s; omega)))
theorem zk_exN {post : Int32 → Prop} {u : St2} (k : Nat) (h1 : zk_e k → post 1) (h0 : ¬ zk_e k → post 0) (hk : k < 2 ^ 31 := by omega) : wpX_isExpression post u (nI k) := by
  unfold wpX_isExpression
  refine zk_leaf k (fun z => br_f (by decide) (h1 (by unfold zk_e; exact Or.inl z))) (fun z1 => br_t rfl ?_)
  refine pk_eq k 128 (fun z => h1 (by unfold zk_e; omega)) (fun z2 => ?_)
  refine zk_in k 130 13 (fun z => br_f (by decide) (h1 (by unfold zk_e; omega))) (fun z3 => br_t rfl (h0 ?_))
  rintro (z | z | z)
  · exact z1 z
  · exact z2 z
  · omega
theorem zk_inneg {post : Int32 → Prop} {u : St2} {x : Int32} (hx : x < 0) {p q : Int32} (a : Nat) (h0 : post 0) (hp : p = nI a := by rfl) (ha : a < 2 ^ 31 := by omega) : wpX_isIn post u x p q := by
  subst hp
  unfold wpX_isIn
  exact br_t (Int32.lt_of_lt_of_le hx (nI_pos' ha)) h0
theorem zk_ne {x : Int32} (hx : x < 0) (a : Nat) (ha : a < 2 ^ 31 := by omega) : ¬ x = nI a := fun e => nI_pos ha (e ▸ hx)
/-- isStatement of any int: 0, or 1 and then the int is a statement's token -/
theorem zk_st {post : Int32 → Prop} {u : St2} (x : Int32) (h1 : ∀ k, zk_s k → x = nI k → post 1) (h0 : post 0) : wpX_isStatement post u x := by
  by_cases hx : x < 0
  · unfold wpX_isStatement
    refine br_f (zk_ne hx 1) (br_f (zk_ne hx 2) ?_)
    refine zk_inneg hx 10 (br_t rfl ?_)
    refine zk_inneg hx 30 (br_t rfl ?_)
    refine br_f (zk_ne hx 39) ?_
    refine zk_inneg hx 40 (br_t rfl ?_)
    exact zk_inneg hx 60 (br_t rfl h0)
  · obtain ⟨k, hk, rfl⟩ := nI_of hx
    exact zk_stN k (fun z => h1 k z rfl) (fun _ => h0)
theorem zk_ex {post : Int32 → Prop} {u : St2} (x : Int32) (h1 : ∀ k, zk_e k → x = nI k → post 1) (h0 : post 0) : wpX_isExpression post u x := by
  by_cases hx : x < 0
  · unfold wpX_isExpression wpX_isLeaf
    refine zk_inneg hx 100 (br_t rfl ?_)
    refine zk_inneg hx 120 (br_t rfl ?_)
    refine zk_inneg hx 124 (br_t rfl ?_)
    refine zk_inneg hx 143 (br_t rfl ?_)
    refine zk_inneg hx 210 (br_t rfl ?_)
    refine br_t rfl (br_f (zk_ne hx 128) ?_)
    exact zk_inneg hx 130 (br_t rfl h0)
  · obtain ⟨k, hk, rfl⟩ := nI_of hx
    exact zk_exN k (fun z => h1 k z rfl) (fun _ => h0)
theorem zk_prog {post : Int32 → Prop} {u : St2} (x : Int32) (h0 : x = nI 0 → post 1) (h1 : x = nI 1 → post 1) (h2 : ¬ x = nI 0 → ¬ x = nI 1 → post 0) : wpX_isProgram post u x := by
  unfold wpX_isProgram
  exact br_c (fun z => h0 z) (fun z => br_c (fun y => h1 y) (fun y => h2 z y))
end
end
section
section
variable {ti ac ru wc sz dp lo ex he al ov : Int32} {a1 a2 a3 a4 a5 a6 a7 a8 a9 a10 a11 a12 a13 a14 a15 a16 a17 a18 a19 a20 a21 a22 a23 a24 a25 a26 a27 : Nat → Int32}
/-- the kinds (a statement?) of the parts j .. j + m - 1 of a token; what is wanted after i tokens; the array that holds it -/
def zs_kd (t : Nat) : Nat → Nat → List Prop
  | _, 0 => []
  | j, m + 1 => zk_k t j :: zs_kd t (j + 1) m
noncomputable def zs_w (tk : Nat → Nat) : Nat → List Prop
  | 0 => [True]
  | i + 1 => zs_kd (tk i) 0 (zk_n (tk i)) ++ (zs_w tk i).tail
def zs_A (a : Nat → Int32) : List Prop → Prop
  | [] => True
  | b :: l => ((b → a l.length = 1) ∧ (¬ b → a l.length = 0)) ∧ zs_A a l
/-- tokens of program p that were fed one by one -/
def zs_V (a : Nat → Int32) (p N : Nat) (tk : Nat → Nat) : Prop := (∀ i, i < N → a (60 * p + i) = nI (tk i)) ∧ ∀ i, i < N → ∃ b l, zs_w tk i = b :: l ∧ (b → zk_s (tk i)) ∧ (¬ b → zk_e (tk i))
theorem zs_kdlen (t : Nat) : ∀ m j, (zs_kd t j m).length = m
  | 0, _ => rfl
  | m + 1, j => by
    show (zs_kd t (j + 1) m).length + 1 = m + 1
    rw [zs_kdlen t m (j + 1)]
theorem zs_Au {a : Nat → Int32} {k : Nat} {x : Int32} : ∀ {l : List Prop}, l.length ≤ k → zs_A a l → zs_A (upd a k x) l
  | [], _, _ => trivial
  | b :: l, hk, h => by
    have hk' : l.length + 1 ≤ k := hk
    refine ⟨?_, zs_Au (by omega) h.2⟩
    rw [pk_un (show l.length ≠ k by omega)]
    exact h.1
theorem zs_Ap {a : Nat → Int32} {b : Prop} {x : Int32} {l : List Prop} (h : zs_A a l) (h1 : b → x = 1) (h0 : ¬ b → x = 0) : zs_A (upd a l.length x) (b :: l) := by
  refine ⟨?_, zs_Au (Nat.le_refl _) h⟩
  rw [pk_us]
  exact ⟨h1, h0⟩
theorem zs_ix (p i : Nat) : (60 : Int32) * nI p + nI i = nI (60 * p + i) := by
  show nI 60 * nI p + nI i = _
  rw [pk_mul, nI_add]
theorem zs_m1 (x : Int32) : x + (-1) = x - 1 := by grind
theorem zs_len (tk : Nat → Nat) : ∀ i, (zs_w tk i).length ≤ 1 + 3 * i
  | 0 => Nat.le_refl _
  | i + 1 => by
    have h := zs_len tk i
    have h4 := zk_nle (tk i)
    show (zs_kd (tk i) 0 (zk_n (tk i)) ++ (zs_w tk i).tail).length ≤ _
    rw [List.length_append, zs_kdlen, List.length_tail]
    omega
theorem zs_54 {post : St1 → Prop} {J : Int32 → Int32 → (Nat → Int32) → (Nat → Int32) → (Nat → Int32) → (Nat → Int32) → (Nat → Int32) → (Nat → Int32) → (Nat → Int32) → (Nat → Int32) → (Nat → Int32) → (Nat → Int32) → (Nat → Int32) → (Nat → Int32) → (Nat → Int32) → (Nat → Int32) → (Nat → Int32) → (Nat → Int32) → (Nat → Int32) → (Nat → Int32) → (Nat → Int32) → (Nat → Int32) → (Nat → Int32) → (Nat → Int32) → (Nat → Int32) → (Nat → Int32) → (Nat → Int32) → (Nat → Int32) → (Nat → Int32) → Prop} {x1 x2 : Int32} {t : Nat} (ht : t < 2 ^ 31) {R : List Prop} :
    ∀ (c m : Nat) (a13 : Nat → Int32), zs_A a13 (zs_kd t c m ++ R) → (zs_kd t c m ++ R).length + c ≤ 130 →
    (∀ a13' : Nat → Int32, zs_A a13' (zs_kd t 0 (c + m) ++ R) → J (x2 + 1) (nI (zs_kd t 0 (c + m) ++ R).length) a1 a2 a3 a4 a5 a6 a7 a8 a9 a10 a11 a12 a13' a14 a15 a16 a17 a18 a19 a20 a21 a22 a23 a24 a25 a26 a27) →
    wX_scan_54 post J x1 x2 (nI t) ti ac ru sz dp lo ex he al ov (c + 1) (nI c - 1) (nI (zs_kd t c m ++ R).length) a1 a2 a3 a4 a5 a6 a7 a8 a9 a10 a11 a12 a13 a14 a15 a16 a17 a18 a19 a20 a21 a22 a23 a24 a25 a26 a27 := by
  intro c
  induction c with
  | zero =>
    intro m a13 hA hl H
    rw [Nat.zero_add] at H
    refine br_t (by decide) (nm_e (H a13 hA))
  | succ c ih =>
    intro m a13 hA hl H
    rw [nI_pred]
    have hl' : (zs_kd t (c + 1) m ++ R).length < 130 := by omega
    have key : ∀ x : Int32, (zk_k t c → x = 1) → (¬ zk_k t c → x = 0) → wX_scan_81 post J (wX_scan_54 post J x1 x2 (nI t) ti ac ru sz dp lo ex he al ov (c + 1)) x1 x2 (nI t) (nI c) x (nI (zs_kd t (c + 1) m ++ R).length) ti ac ru (nI (zs_kd t (c + 1) m ++ R).length) sz dp lo ex he al ov a1 a2 a3 a4 a5 a6 a7 a8 a9 a10 a11 a12 a13 a14 a15 a16 a17 a18 a19 a20 a21 a22 a23 a24 a25 a26 a27 := by
      intro x h1 h0
      refine ⟨pk_in _ 130 hl', nm_r (by rw [nI_clamp (show (zs_kd t (c + 1) m ++ R).length < 2 ^ 31 by omega)]) (nm_r (nI_1 _) (nm_r (zs_m1 _) ?_))⟩
      refine ih (m + 1) _ (zs_Ap hA h1 h0) ?_ ?_
      · show (zs_kd t (c + 1) m ++ R).length + 1 + c ≤ 130
        omega
      · rw [show c + (m + 1) = c + 1 + m by omega]
        exact H
    refine br_f (nI_pos (by omega)) ?_
    exact zk_part t c (fun z => br_f (by decide) (key 1 (fun _ => rfl) (fun y => absurd z y))) (fun z => br_t rfl (key 0 (fun y => absurd y z) (fun _ => rfl)))
theorem zs_scan {post : St1 → Prop} {p N : Nat} {tk : Nat → Nat} (hp : p < 2) (hN : N ≤ 42) (hc : a12 p = nI N) (hv : zs_V a11 p N tk)
    (H : ∀ a13' : Nat → Int32, zs_A a13' (zs_w tk N) → post (ti, ac, ru, nI (zs_w tk N).length, sz, dp, lo, ex, he, al, ov, a1, a2, a3, a4, a5, a6, a7, a8, a9, a10, a11, a12, a13', a14, a15, a16, a17, a18, a19, a20, a21, a22, a23, a24, a25, a26, a27)) : wpX_scan post (ti, ac, ru, wc, sz, dp, lo, ex, he, al, ov, a1, a2, a3, a4, a5, a6, a7, a8, a9, a10, a11, a12, a13, a14, a15, a16, a17, a18, a19, a20, a21, a22, a23, a24, a25, a26, a27) (nI p) := by
  refine nm_e ?_
  refine pk_loop (fun n i s => wX_scan_14 post (nI p) ti ac ru sz dp lo ex he al ov n (nI i) (nI (zs_w tk i).length) a1 a2 a3 a4 a5 a6 a7 a8 a9 a10 a11 a12 s a14 a15 a16 a17 a18 a19 a20 a21 a22 a23 a24 a25 a26 a27) (fun i s => zs_A s (zs_w tk i)) N 0 _ (by omega) ?_ ?_ ?_
  · refine ⟨?_, trivial⟩
    exact ⟨fun _ => pk_us, fun z => absurd trivial z⟩
  · intro n s h
    refine ⟨pk_in p 2 hp, pk_le N N (fun _ => H s h) (fun z => absurd z (by omega)) ?_⟩
    rw [nI_clamp (show p < 2 ^ 31 by omega)]
    exact hc
  · intro n i s hi h hw
    obtain ⟨b, l, hbl, -, -⟩ := hv.2 i hi
    have hlen := zs_len tk i
    have hti : tk i < 2 ^ 31 := by
      obtain ⟨b, l, -, h1, h2⟩ := hv.2 i hi
      by_cases hb : b
      · have := zk_sb (h1 hb); omega
      · have := zk_eb (h2 hb); omega
    have h4 := zk_nle (tk i)
    refine ⟨pk_in p 2 hp, pk_le N i (fun z => absurd z (by omega)) (fun _ => ⟨?_, ?_⟩) (by rw [nI_clamp (show p < 2 ^ 31 by omega)]; exact hc)⟩
    · rw [zs_ix]
      exact pk_in (60 * p + i) 120 (by omega)
    · refine nm_r (e' := nI (tk i)) (by rw [zs_ix, nI_clamp (show 60 * p + i < 2 ^ 31 by omega)]; exact hv.1 i hi) ?_
      refine nm_r (e' := nI l.length) (by rw [hbl]; exact nI_pred _) ?_
      refine zk_parts (tk i) (nm_e ⟨zk_n (tk i) + 1, ?_⟩) hti
      rw [hbl] at h hlen
      have hlen' : l.length + 1 ≤ 1 + 3 * i := hlen
      refine zs_54 (R := l) hti (zk_n (tk i)) 0 s h.2 ?_ ?_
      · show l.length + zk_n (tk i) ≤ 130
        omega
      · intro a13' ha
        have hw' := hw a13' (by
          show zs_A a13' (zs_kd (tk i) 0 (zk_n (tk i)) ++ (zs_w tk i).tail)
          rw [hbl]
          exact ha)
        have e : zs_w tk (i + 1) = zs_kd (tk i) 0 (zk_n (tk i) + 0) ++ l := by
          show zs_kd (tk i) 0 (zk_n (tk i)) ++ (zs_w tk i).tail = _
          rw [hbl]
          rfl
        rw [e] at hw'
        rw [nI_1]
        exact hw'
theorem zs_isC {post : Int32 → St1 → Prop} {p N : Nat} {tk : Nat → Nat} (hp : p < 2) (hN : N ≤ 42) (hc : a12 p = nI N) (hv : zs_V a11 p N tk)
    (h1 : zs_w tk N = [] → ∀ wc' a13', post 1 (ti, ac, ru, wc', sz, dp, lo, ex, he, al, ov, a1, a2, a3, a4, a5, a6, a7, a8, a9, a10, a11, a12, a13', a14, a15, a16, a17, a18, a19, a20, a21, a22, a23, a24, a25, a26, a27)) (h0 : ¬ zs_w tk N = [] → ∀ wc' a13', post 0 (ti, ac, ru, wc', sz, dp, lo, ex, he, al, ov, a1, a2, a3, a4, a5, a6, a7, a8, a9, a10, a11, a12, a13', a14, a15, a16, a17, a18, a19, a20, a21, a22, a23, a24, a25, a26, a27)) : wpX_isComplete post (ti, ac, ru, wc, sz, dp, lo, ex, he, al, ov, a1, a2, a3, a4, a5, a6, a7, a8, a9, a10, a11, a12, a13, a14, a15, a16, a17, a18, a19, a20, a21, a22, a23, a24, a25, a26, a27) (nI p) := by
  unfold wpX_isComplete
  refine zs_scan (wc := wc) hp hN hc hv (fun a13' ha => ?_)
  have hl := zs_len tk N
  by_cases e : zs_w tk N = []
  · refine br_t ?_ (h1 e _ _)
    rw [e]
    rfl
  · refine br_f ?_ (h0 e _ _)
    refine nI_ne0 ?_ (by omega)
    cases hq : zs_w tk N with
    | nil => exact absurd hq e
    | cons b l => exact Nat.succ_pos _
theorem zs_com {post : Int32 → St1 → Prop} {p N : Nat} {tk : Nat → Nat} (hp : p < 2) (hN : N ≤ 42) (hc : a12 p = nI N) (hv : zs_V a11 p N tk)
    (h1 : zs_w tk N = [] → ∀ wc' a13', post 1 (ti, ac, ru, wc', sz, dp, lo, ex, he, al, ov, a1, a2, a3, a4, a5, a6, a7, a8, a9, a10, a11, a12, a13', a14, a15, a16, a17, a18, a19, a20, a21, a22, a23, a24, a25, a26, a27)) (h0 : ¬ zs_w tk N = [] → ∀ wc' a13', post 0 (ti, ac, ru, wc', sz, dp, lo, ex, he, al, ov, a1, a2, a3, a4, a5, a6, a7, a8, a9, a10, a11, a12, a13', a14, a15, a16, a17, a18, a19, a20, a21, a22, a23, a24, a25, a26, a27)) : wpX_complete post (ti, ac, ru, wc, sz, dp, lo, ex, he, al, ov, a1, a2, a3, a4, a5, a6, a7, a8, a9, a10, a11, a12, a13, a14, a15, a16, a17, a18, a19, a20, a21, a22, a23, a24, a25, a26, a27) (nI p) := by
  have g : ∀ P : Prop, P → (((1 : Int32) = 0 → (post (-1) (ti, ac, ru, wc, sz, dp, lo, ex, he, al, ov, a1, a2, a3, a4, a5, a6, a7, a8, a9, a10, a11, a12, a13, a14, a15, a16, a17, a18, a19, a20, a21, a22, a23, a24, a25, a26, a27))) ∧ (¬ (1 : Int32) = 0 → P)) := fun P h => br_f (by decide) h
  have k : wpX_isComplete (fun r_3 u => match u with | (ti, ac, ru, wc, sz, dp, lo, ex, he, al, ov, a1, a2, a3, a4, a5, a6, a7, a8, a9, a10, a11, a12, a13, a14, a15, a16, a17, a18, a19, a20, a21, a22, a23, a24, a25, a26, a27) => (((r_3 = 0 → (post 0 (ti, ac, ru, wc, sz, dp, lo, ex, he, al, ov, a1, a2, a3, a4, a5, a6, a7, a8, a9, a10, a11, a12, a13, a14, a15, a16, a17, a18, a19, a20, a21, a22, a23, a24, a25, a26, a27))) ∧ (¬ r_3 = 0 → (post 1 (ti, ac, ru, wc, sz, dp, lo, ex, he, al, ov, a1, a2, a3, a4, a5, a6, a7, a8, a9, a10, a11, a12, a13, a14, a15, a16, a17, a18, a19, a20, a21, a22, a23, a24, a25, a26, a27)))))) (ti, ac, ru, wc, sz, dp, lo, ex, he, al, ov, a1, a2, a3, a4, a5, a6, a7, a8, a9, a10, a11, a12, a13, a14, a15, a16, a17, a18, a19, a20, a21, a22, a23, a24, a25, a26, a27) (nI p) :=
    zs_isC hp hN hc hv (fun e wc' a13' => br_f (by decide) (h1 e wc' a13')) (fun e wc' a13' => br_t rfl (h0 e wc' a13'))
  unfold wpX_complete
  refine zk_prog (nI p) (fun _ => g _ k) (fun _ => g _ k) (fun z z2 => absurd ?_ z2)
  by_cases hp0 : p = 0
  · exact absurd (by rw [hp0]) z
  · rw [show p = 1 by omega]
theorem zs_comB {post : Int32 → St1 → Prop} {x : Int32} (h0 : ¬ x = nI 0) (h1 : ¬ x = nI 1) (h : post (-1) (ti, ac, ru, wc, sz, dp, lo, ex, he, al, ov, a1, a2, a3, a4, a5, a6, a7, a8, a9, a10, a11, a12, a13, a14, a15, a16, a17, a18, a19, a20, a21, a22, a23, a24, a25, a26, a27)) : wpX_complete post (ti, ac, ru, wc, sz, dp, lo, ex, he, al, ov, a1, a2, a3, a4, a5, a6, a7, a8, a9, a10, a11, a12, a13, a14, a15, a16, a17, a18, a19, a20, a21, a22, a23, a24, a25, a26, a27) x := by
  unfold wpX_complete
  exact zk_prog x (fun z => absurd z h0) (fun z => absurd z h1) (fun _ _ => br_t rfl h)
/-! validity is kept -/
theorem zs_wc {tk tk' : Nat → Nat} : ∀ {i : Nat}, (∀ j, j < i → tk' j = tk j) → zs_w tk' i = zs_w tk i
  | 0, _ => rfl
  | i + 1, h => by
    show zs_kd (tk' i) 0 (zk_n (tk' i)) ++ (zs_w tk' i).tail = zs_kd (tk i) 0 (zk_n (tk i)) ++ (zs_w tk i).tail
    rw [h i (Nat.lt_succ_self i), zs_wc (fun j hj => h j (Nat.lt_succ_of_lt hj))]
theorem zs_Vm {a : Nat → Int32} {p N M : Nat} {tk : Nat → Nat} (h : zs_V a p N tk) (hM : M ≤ N) : zs_V a p M tk :=
  ⟨fun i hi => h.1 i (by omega), fun i hi => h.2 i (by omega)⟩
theorem zs_V0 {a : Nat → Int32} {p : Nat} {tk : Nat → Nat} : zs_V a p 0 tk := ⟨fun i hi => absurd hi (by omega), fun i hi => absurd hi (by omega)⟩
theorem zs_Vo {a : Nat → Int32} {p q N M : Nat} {tk : Nat → Nat} {x : Int32} (h : zs_V a p N tk) (hN : N ≤ 60) (hM : M < 60) (hq : p ≠ q) : zs_V (upd a (60 * q + M) x) p N tk := by
  refine ⟨fun i hi => ?_, h.2⟩
  rw [pk_un (show 60 * p + i ≠ 60 * q + M by omega)]
  exact h.1 i hi
theorem zs_Va {a : Nat → Int32} {p N k : Nat} {tk : Nat → Nat} {b : Prop} {l : List Prop} (h : zs_V a p N tk) (hw : zs_w tk N = b :: l) (h1 : b → zk_s k) (h0 : ¬ b → zk_e k) :
    ∃ tk', zs_V (upd a (60 * p + N) (nI k)) p (N + 1) tk' := by
  refine ⟨fun i => if i = N then k else tk i, fun i hi => ?_, fun i hi => ?_⟩
  · dsimp only
    by_cases e : i = N
    · rw [e, if_pos rfl, pk_us]
    · rw [if_neg e, pk_un (show 60 * p + i ≠ 60 * p + N by omega)]
      exact h.1 i (by omega)
  · dsimp only
    have ec : zs_w (fun i => if i = N then k else tk i) i = zs_w tk i := zs_wc (fun j hj => if_neg (show j ≠ N by omega))
    rw [ec]
    by_cases e : i = N
    · rw [e, if_pos rfl]
      exact ⟨b, l, hw, h1, h0⟩
    · rw [if_neg e]
      exact h.2 i (by omega)
end
end
section
section
variable {ti ac ru wc sz dp lo ex he al ov : Int32} {a1 a2 a3 a4 a5 a6 a7 a8 a9 a10 a11 a12 a13 a14 a15 a16 a17 a18 a19 a20 a21 a22 a23 a24 a25 a26 a27 : Nat → Int32}
/-- where part k of token i begins; what is known of token i of a complete program -/
def zt_p (sp : Nat → Nat) (i : Nat) : Nat → Nat
  | 0 => i + 1
  | k + 1 => zt_p sp i k + sp (zt_p sp i k)
def zt_T (tk sp : Nat → Nat) (N i : Nat) : Prop := zt_p sp i (zk_n (tk i)) = i + sp i ∧ i + sp i ≤ N ∧ zs_w tk (i + sp i) = (zs_w tk i).tail ∧ ∀ k, k < zk_n (tk i) → zt_p sp i k < N ∧ (zk_k (tk i) k → zk_s (tk (zt_p sp i k))) ∧ (¬ zk_k (tk i) k → zk_e (tk (zt_p sp i k)))
theorem zt_pgt (sp : Nat → Nat) (i : Nat) : ∀ k, i < zt_p sp i k
  | 0 => Nat.lt_succ_self i
  | k + 1 => Nat.lt_of_lt_of_le (zt_pgt sp i k) (Nat.le_add_right _ _)
theorem zt_pc {sp sp' : Nat → Nat} {i : Nat} (h : ∀ j, i < j → sp' j = sp j) : ∀ k, zt_p sp' i k = zt_p sp i k
  | 0 => rfl
  | k + 1 => by
    show zt_p sp' i k + sp' (zt_p sp' i k) = zt_p sp i k + sp (zt_p sp i k)
    rw [zt_pc h k, h _ (zt_pgt sp i k)]
theorem zt_Tc {tk sp sp' : Nat → Nat} {N i : Nat} (h : ∀ j, i ≤ j → sp' j = sp j) (hT : zt_T tk sp N i) : zt_T tk sp' N i := by
  have e : ∀ k, zt_p sp' i k = zt_p sp i k := zt_pc (fun j hj => h j (by omega))
  unfold zt_T
  rw [h i (Nat.le_refl i), e]
  refine ⟨hT.1, hT.2.1, hT.2.2.1, fun k hk => ?_⟩
  rw [e]
  exact hT.2.2.2 k hk
theorem zt_ex {a : Nat → Int32} {p N : Nat} {tk : Nat → Nat} (hv : zs_V a p N tk) (hc : zs_w tk N = []) : ∃ sp : Nat → Nat, ∀ i, i < N → zt_T tk sp N i := by
  have main : ∀ m, m ≤ N → ∃ sp : Nat → Nat, ∀ i, N - m ≤ i → i < N → zt_T tk sp N i := by
    intro m
    induction m with
    | zero => exact fun _ => ⟨fun _ => 0, fun i h1 h2 => absurd h2 (by omega)⟩
    | succ m ih =>
      intro hm
      obtain ⟨sp, hsp⟩ := ih (by omega)
      obtain ⟨i, hi⟩ : ∃ i, i = N - (m + 1) := ⟨_, rfl⟩
      have hiN : i < N := by omega
      have par : ∀ k r, k + r = zk_n (tk i) → zt_p sp i k ≤ N ∧ zs_w tk (zt_p sp i k) = zs_kd (tk i) k r ++ (zs_w tk i).tail := by
        intro k
        induction k with
        | zero =>
          intro r hr
          refine ⟨hiN, ?_⟩
          rw [Nat.zero_add] at hr
          rw [hr]
          rfl
        | succ k ihk =>
          intro r hr
          obtain ⟨h1, h2⟩ := ihk (r + 1) (by omega)
          have h2' : zs_w tk (zt_p sp i k) = zk_k (tk i) k :: (zs_kd (tk i) (k + 1) r ++ (zs_w tk i).tail) := h2
          have h3 : zt_p sp i k < N := by
            rcases Nat.lt_or_ge (zt_p sp i k) N with z | z
            · exact z
            · rw [show zt_p sp i k = N by omega, hc] at h2'
              exact absurd h2' (by simp)
          have hT := hsp (zt_p sp i k) (by have := zt_pgt sp i k; omega) h3
          refine ⟨hT.2.1, ?_⟩
          show zs_w tk (zt_p sp i k + sp (zt_p sp i k)) = _
          rw [hT.2.2.1, h2']
          rfl
      refine ⟨fun j => if j = i then zt_p sp i (zk_n (tk i)) - i else sp j, fun j h1 h2 => ?_⟩
      have hoff : ∀ q, i < q → (fun j => if j = i then zt_p sp i (zk_n (tk i)) - i else sp j) q = sp q := fun q hq => if_neg (show q ≠ i by omega)
      by_cases e : j = i
      · rw [e]
        have ep := zt_pc hoff
        have ei : i + (fun j => if j = i then zt_p sp i (zk_n (tk i)) - i else sp j) i = zt_p sp i (zk_n (tk i)) := by
          show i + (if i = i then zt_p sp i (zk_n (tk i)) - i else sp i) = _
          rw [if_pos rfl]
          have := zt_pgt sp i (zk_n (tk i))
          omega
        unfold zt_T
        rw [ei, ep]
        obtain ⟨p1, p2⟩ := par (zk_n (tk i)) 0 rfl
        refine ⟨rfl, p1, p2, fun k hk => ?_⟩
        rw [ep]
        obtain ⟨q1, q2⟩ := par k (zk_n (tk i) - k - 1 + 1) (by omega)
        have q2' : zs_w tk (zt_p sp i k) = zk_k (tk i) k :: (zs_kd (tk i) (k + 1) (zk_n (tk i) - k - 1) ++ (zs_w tk i).tail) := q2
        have q3 : zt_p sp i k < N := by
          rcases Nat.lt_or_ge (zt_p sp i k) N with z | z
          · exact z
          · rw [show zt_p sp i k = N by omega, hc] at q2'
            exact absurd q2' (by simp)
        obtain ⟨b, l, hbl, f1, f2⟩ := hv.2 _ q3
        rw [q2'] at hbl
        have hb : zk_k (tk i) k = b := (List.cons.inj hbl).1
        rw [hb]
        exact ⟨q3, f1, f2⟩
      · exact zt_Tc (fun q hq => hoff q (by omega)) (hsp j (by omega) h2)
  obtain ⟨sp, h⟩ := main N (Nat.le_refl N)
  exact ⟨sp, fun i hi => h i (by omega) hi⟩
/-! measure and partAt -/
theorem zt_tok {post : Int32 → Prop} {p i t : Nat} (hac : ac = nI p) (hi : 60 * p + i < 120) (ht : a11 (60 * p + i) = nI t) (h : post (nI t)) : wpX_tokenAt post (ti, ac, ru, wc, sz, dp, lo, ex, he, al, ov, a1, a2, a3, a4, a5, a6, a7, a8, a9, a10, a11, a12, a13, a14, a15, a16, a17, a18, a19, a20, a21, a22, a23, a24, a25, a26, a27) (nI i) := by
  subst hac
  refine ⟨?_, ?_⟩
  · rw [zs_ix]
    exact pk_in (60 * p + i) 120 hi
  · rw [zs_ix, nI_clamp (by omega), ht]
    exact h
theorem zt_pmono (sp : Nat → Nat) (i : Nat) {k m : Nat} (h : k ≤ m) : zt_p sp i k ≤ zt_p sp i m := by
  induction m with
  | zero => rw [show k = 0 by omega]; exact Nat.le_refl _
  | succ m ih =>
    by_cases e : k = m + 1
    · rw [e]; exact Nat.le_refl _
    · exact Nat.le_trans (ih (by omega)) (Nat.le_add_right _ _)
theorem zt_mea {post : St1 → Prop} {p N : Nat} {tk sp : Nat → Nat} (hp : p < 2) (hN : N ≤ 60) (hac : ac = nI p) (hc : a12 p = nI N) (hv : zs_V a11 p N tk) (hT : ∀ i, i < N → zt_T tk sp N i)
    (H : ∀ a14' : Nat → Int32, (∀ i, i < N → a14' i = nI (sp i)) → post (ti, ac, ru, wc, sz, dp, lo, ex, he, al, ov, a1, a2, a3, a4, a5, a6, a7, a8, a9, a10, a11, a12, a13, a14', a15, a16, a17, a18, a19, a20, a21, a22, a23, a24, a25, a26, a27)) : wpX_measure post (ti, ac, ru, wc, sz, dp, lo, ex, he, al, ov, a1, a2, a3, a4, a5, a6, a7, a8, a9, a10, a11, a12, a13, a14, a15, a16, a17, a18, a19, a20, a21, a22, a23, a24, a25, a26, a27) := by
  have main : ∀ c (s : Nat → Int32), c ≤ N → (∀ i, c ≤ i → i < N → s i = nI (sp i)) → wX_measure_12 post ti ac ru wc sz dp lo ex he al ov (c + 1) (nI c - 1) a1 a2 a3 a4 a5 a6 a7 a8 a9 a10 a11 a12 a13 s a15 a16 a17 a18 a19 a20 a21 a22 a23 a24 a25 a26 a27 := by
    intro c
    induction c with
    | zero =>
      intro s _ hs
      exact br_t (by decide) (H s (fun i hi => hs i (by omega) hi))
    | succ c ih =>
      intro s hcN hs
      have hcc : c < N := by omega
      rw [nI_pred]
      refine br_f (nI_pos (by omega)) ?_
      have hti : tk c < 2 ^ 31 := by
        obtain ⟨b, l, -, h1, h2⟩ := hv.2 c hcc
        by_cases hb : b
        · have := zk_sb (h1 hb); omega
        · have := zk_eb (h2 hb); omega
      have h4 := zk_nle (tk c)
      have hTc := hT c hcc
      refine zt_tok hac (by omega) (hv.1 c hcc) (zk_parts (tk c) ?_ hti)
      refine pk_loop (σ := Unit) (fun n k _ => wX_measure_30 post (wX_measure_12 post ti ac ru wc sz dp lo ex he al ov (c + 1)) (nI c) (nI (zk_n (tk c))) ti ac ru wc sz dp lo ex he al ov a1 a2 a3 a4 a5 a6 a7 a8 a9 a10 a11 a12 a13 s a15 a16 a17 a18 a19 a20 a21 a22 a23 a24 a25 a26 a27 n (nI (zt_p sp c k - c)) (nI k)) (fun _ _ => True) (zk_n (tk c)) 0 () (by omega) trivial ?_ ?_ |> fun z => ?_
      · obtain ⟨n, hn⟩ := z
        refine ⟨n, ?_⟩
        have e : zt_p sp c 0 - c = 1 := by show c + 1 - c = 1; omega
        rw [e] at hn
        exact hn
      · intro n _ _
        refine pk_le (zk_n (tk c)) (zk_n (tk c)) (fun _ => ⟨pk_in c 60 (by omega), nm_e (nm_r (zs_m1 _) (ih _ (by omega) (fun i h1 h2 => ?_)))⟩) (fun z => absurd z (by omega))
        rw [nI_clamp (show c < 2 ^ 31 by omega)]
        by_cases e : i = c
        · rw [e, pk_us, hTc.1, show c + sp c - c = sp c by omega]
        · rw [pk_un e]
          exact hs i (by omega) h2
      · intro n k _ hk _ hw
        have hg := zt_pgt sp c k
        have hpk := (hTc.2.2.2 k hk).1
        have ec : nI c + nI (zt_p sp c k - c) = nI (zt_p sp c k) := by rw [nI_add, show c + (zt_p sp c k - c) = zt_p sp c k by omega]
        refine pk_le (zk_n (tk c)) k (fun z => absurd z (by omega)) (fun _ => ⟨?_, ?_⟩)
        · rw [ec]
          exact pk_in (zt_p sp c k) 60 (by omega)
        · refine nm_r (e' := nI (zt_p sp c (k + 1) - c)) ?_ (nm_r (nI_1 k) (hw () trivial))
          rw [ec, nI_clamp (show zt_p sp c k < 2 ^ 31 by omega), hs _ (by omega) hpk, nI_add]
          have ek : zt_p sp c (k + 1) = zt_p sp c k + sp (zt_p sp c k) := rfl
          rw [ek, show zt_p sp c k - c + sp (zt_p sp c k) = zt_p sp c k + sp (zt_p sp c k) - c by omega]
  refine ⟨by rw [hac]; exact pk_in p 2 hp, nm_r (e' := nI N - 1) (by rw [hac, nI_clamp (show p < 2 ^ 31 by omega), hc]) ⟨N + 1, main N a14 (Nat.le_refl N) (fun i h1 h2 => absurd h2 (by omega))⟩⟩
theorem zt_part {post : Int32 → Prop} {sp : Nat → Nat} {i k : Nat} (hk : k ≤ 4) (ha : ∀ j, j < k → zt_p sp i j < 60 ∧ a14 (zt_p sp i j) = nI (sp (zt_p sp i j))) (h : post (nI (zt_p sp i k))) : wpX_partAt post (ti, ac, ru, wc, sz, dp, lo, ex, he, al, ov, a1, a2, a3, a4, a5, a6, a7, a8, a9, a10, a11, a12, a13, a14, a15, a16, a17, a18, a19, a20, a21, a22, a23, a24, a25, a26, a27) (nI i) (nI k) := by
  refine nm_r (nI_1 i) ?_
  refine pk_loop (σ := Unit) (fun n j _ => wX_partAt_7 post (nI k) ti ac ru wc sz dp lo ex he al ov a1 a2 a3 a4 a5 a6 a7 a8 a9 a10 a11 a12 a13 a14 a15 a16 a17 a18 a19 a20 a21 a22 a23 a24 a25 a26 a27 n (nI (zt_p sp i j)) (nI j)) (fun _ _ => True) k 0 () (by omega) trivial ?_ ?_
  · intro n _ _
    exact pk_le k k (fun _ => h) (fun z => absurd z (by omega))
  · intro n j _ hj _ hw
    obtain ⟨h1, h2⟩ := ha j hj
    refine pk_le k j (fun z => absurd z (by omega)) (fun _ => ⟨pk_in (zt_p sp i j) 60 h1, nm_r (e' := nI (zt_p sp i (j + 1))) ?_ (nm_r (nI_1 j) (hw () trivial))⟩)
    rw [nI_clamp (show zt_p sp i j < 2 ^ 31 by omega), h2, nI_add]
    rfl
end
end
section
section
variable {ti ac ru wc sz dp lo ex he al ov : Int32} {a1 a2 a3 a4 a5 a6 a7 a8 a9 a10 a11 a12 a13 a14 a15 a16 a17 a18 a19 a20 a21 a22 a23 a24 a25 a26 a27 : Nat → Int32}
/-- operations: valid, pops, pushes, jumps, pushes of a jump that is taken, arguments -/
def zc_v (o : Nat) : Prop := (10 ≤ o ∧ o < 26) ∨ (30 ≤ o ∧ o < 35) ∨ (60 ≤ o ∧ o < 69) ∨ (100 ≤ o ∧ o < 116) ∨ (120 ≤ o ∧ o < 129) ∨ (130 ≤ o ∧ o < 158) ∨ (300 ≤ o ∧ o < 312)
def zc_p (o : Nat) : Nat := if o < 34 then 1 else if o < 63 then 2 else if o < 66 then 3 else if o < 69 then 1 else if o < 128 then 0 else if o = 128 then 1 else if o = 139 then 1 else if o < 142 then 2 else if o = 142 then 3 else if o < 302 then 0 else if o < 305 then 1 else if o = 307 ∨ o = 308 then 1 else 0
def zc_q (o : Nat) : Nat := if 100 ≤ o ∧ o ≤ 300 then 1 else 0
def zc_j (o : Nat) : Prop := o = 301 ∨ o = 302 ∨ o = 303 ∨ o = 306 ∨ o = 307 ∨ o = 309
def zc_r (o : Nat) : Nat := if o = 303 then 1 else 0
def zc_a (o : Nat) (x : Int32) : Prop := ((o = 305 ∨ o = 306 ∨ o = 308) → ∃ l, l < 32 ∧ x = nI l) ∧ (o = 309 → ∃ v l, v < 16 ∧ l < 32 ∧ x = nI (32 * v + l)) ∧ (o = 310 → ∃ v, v < 16 ∧ x = nI v)
/-- instruction j is well typed: H is the height of the stack ahead of each, P the jumps that wait for their target -/
def zc_I (s : Nat) (op ar tg : Nat → Int32) (H : Nat → Nat) (P : Nat → Prop) (j : Nat) : Prop := ∃ o, op j = nI o ∧ zc_v o ∧ zc_a o (ar j) ∧ zc_p o ≤ H j ∧ (o ≠ 301 → o ≠ 311 → H (j + 1) = H j - zc_p o + zc_q o) ∧ (zc_j o → ¬ P j → ∃ t, tg j = nI t ∧ t ≤ s ∧ H t = H j - zc_p o + zc_r o)
def zc_C (s : Nat) (op ar tg : Nat → Int32) (H : Nat → Nat) (P : Nat → Prop) : Prop := (∀ j, j < s → zc_I s op ar tg H P j) ∧ ∀ j, j ≤ s → H j ≤ 70
/-- exits that wait: jumps at height 0 -/
def zc_X (e : Nat) (xa : Nat → Int32) (s : Nat) (op : Nat → Int32) (H : Nat → Nat) : Prop := ∀ k, k < e → ∃ j, xa k = nI j ∧ j < s ∧ op j = nI 301 ∧ H j = 0
def zc_h (H : Nat → Nat) (k v : Nat) : Nat → Nat := fun j => if j = k then v else H j
theorem zc_hs {H : Nat → Nat} {k v : Nat} : zc_h H k v k = v := if_pos rfl
theorem zc_hn {H : Nat → Nat} {k v j : Nat} (h : j ≠ k) : zc_h H k v j = H j := if_neg h
theorem zc_vb {o : Nat} (h : zc_v o) : o < 2 ^ 31 := by unfold zc_v at h; omega
theorem zc_jb {o : Nat} (h : zc_j o) : o < 2 ^ 31 := by unfold zc_j at h; omega
theorem zc_a0 {o : Nat} {x : Int32} (h5 : o < 305 ∨ o = 307 ∨ o = 311) : zc_a o x := ⟨fun z => absurd z (by omega), fun z => absurd z (by omega), fun z => absurd z (by omega)⟩
theorem zc_cg {s : Nat} {op ar tg op' ar' tg' : Nat → Int32} {H H' : Nat → Nat} {P : Nat → Prop} (h : zc_C s op ar tg H P) (ho : ∀ j, j < s → op' j = op j ∧ ar' j = ar j ∧ tg' j = tg j) (hH : ∀ j, j ≤ s → H' j = H j) : zc_C s op' ar' tg' H' P := by
  refine ⟨fun j hj => ?_, fun j hj => by rw [hH j hj]; exact h.2 j hj⟩
  obtain ⟨o, h1, h2, h3, h4, h5, h6⟩ := h.1 j hj
  obtain ⟨e1, e2, e3⟩ := ho j hj
  refine ⟨o, by rw [e1]; exact h1, h2, by rw [e2]; exact h3, by rw [hH j (by omega)]; exact h4, fun n1 n2 => ?_, fun z1 z2 => ?_⟩
  · rw [hH j (by omega), hH (j + 1) (by omega)]
    exact h5 n1 n2
  · obtain ⟨t, t1, t2, t3⟩ := h6 z1 z2
    exact ⟨t, by rw [e3]; exact t1, t2, by rw [hH t t2, hH j (by omega)]; exact t3⟩
theorem zc_emit {s o h' : Nat} {op ar tg : Nat → Int32} {x : Int32} {H : Nat → Nat} {P P' : Nat → Prop} (h : zc_C s op ar tg H P) (hv : zc_v o) (ha : zc_a o x) (hp : zc_p o ≤ H s) (hh : h' ≤ 70) (hf : o ≠ 301 → o ≠ 311 → h' = H s - zc_p o + zc_q o) (hP : ∀ j, P j → P' j) (hj : zc_j o → ¬ P' s → H s = H s - zc_p o + zc_r o) :
    zc_C (s + 1) (upd op s (nI o)) (upd ar s x) (upd tg s (nI s)) (zc_h H (s + 1) h') P' := by
  refine ⟨fun j hj' => ?_, fun j hj' => ?_⟩
  · by_cases e : j = s
    · rw [e]
      refine ⟨o, pk_us, hv, by rw [pk_us]; exact ha, by rw [zc_hn (by omega)]; exact hp, fun n1 n2 => ?_, fun z1 z2 => ⟨s, pk_us, by omega, ?_⟩⟩
      · rw [zc_hs, zc_hn (by omega)]
        exact hf n1 n2
      · rw [zc_hn (show s ≠ s + 1 by omega)]
        exact hj z1 z2
    · obtain ⟨o', h1, h2, h3, h4, h5, h6⟩ := h.1 j (by omega)
      refine ⟨o', by rw [pk_un e]; exact h1, h2, by rw [pk_un e]; exact h3, by rw [zc_hn (by omega)]; exact h4, fun n1 n2 => ?_, fun z1 z2 => ?_⟩
      · rw [zc_hn (show j + 1 ≠ s + 1 by omega), zc_hn (show j ≠ s + 1 by omega)]
        exact h5 n1 n2
      · obtain ⟨t, t1, t2, t3⟩ := h6 z1 (fun z => z2 (hP j z))
        refine ⟨t, by rw [pk_un e]; exact t1, by omega, ?_⟩
        rw [zc_hn (show t ≠ s + 1 by omega), zc_hn (show j ≠ s + 1 by omega)]
        exact t3
  · by_cases e : j = s + 1
    · rw [e, zc_hs]
      exact hh
    · rw [zc_hn e]
      exact h.2 j (by omega)
theorem zc_tgt {s o p t : Nat} {op ar tg : Nat → Int32} {H : Nat → Nat} {P P' : Nat → Prop} (h : zc_C s op ar tg H P') (hp : p < s) (ho : op p = nI o) (hj : zc_j o) (ht : t ≤ s) (hH : H t = H p - zc_p o + zc_r o) (hP : ∀ j, P' j → P j ∨ j = p) : zc_C s op ar (upd tg p (nI t)) H P := by
  refine ⟨fun j hj' => ?_, h.2⟩
  obtain ⟨o', h1, h2, h3, h4, h5, h6⟩ := h.1 j hj'
  refine ⟨o', h1, h2, h3, h4, h5, fun z1 z2 => ?_⟩
  by_cases e : j = p
  · rw [e, pk_us]
    rw [e, ho] at h1
    have := (nI_eq (zc_jb hj) (zc_vb h2)).mp h1
    rw [← this]
    exact ⟨t, rfl, ht, hH⟩
  · rw [pk_un e]
    refine h6 z1 (fun z => ?_)
    rcases hP j z with y | y
    · exact z2 y
    · exact e y
theorem zc_Xm {e s s' : Nat} {xa op op' : Nat → Int32} {H H' : Nat → Nat} (h : zc_X e xa s op H) (hs : s ≤ s') (ho : ∀ j, j < s → op' j = op j) (hH : ∀ j, j ≤ s → H' j = H j) : zc_X e xa s' op' H' := by
  intro k hk
  obtain ⟨j, h1, h2, h3, h4⟩ := h k hk
  exact ⟨j, h1, by omega, by rw [ho j h2]; exact h3, by rw [hH j (by omega)]; exact h4⟩
theorem zc_Xa {e s j : Nat} {xa op : Nat → Int32} {H : Nat → Nat} (h : zc_X e xa s op H) (hj : j < s) (ho : op j = nI 301) (hH : H j = 0) : zc_X (e + 1) (upd xa e (nI j)) s op H := by
  intro k hk
  by_cases e' : k = e
  · rw [e', pk_us]
    exact ⟨j, rfl, hj, ho, hH⟩
  · rw [pk_un e']
    exact h k (by omega)
theorem zp_a {o : Nat} (h : o < 34) : zc_p o = 1 := by unfold zc_p; rw [if_pos h]
theorem zp_b {o : Nat} (h : 34 ≤ o) (h2 : o < 63) : zc_p o = 2 := by unfold zc_p; rw [if_neg (by omega), if_pos h2]
theorem zp_c {o : Nat} (h : 63 ≤ o) (h2 : o < 66) : zc_p o = 3 := by unfold zc_p; rw [if_neg (by omega), if_neg (by omega), if_pos h2]
theorem zp_d {o : Nat} (h : 66 ≤ o) (h2 : o < 69) : zc_p o = 1 := by unfold zc_p; rw [if_neg (by omega), if_neg (by omega), if_neg (by omega), if_pos h2]
theorem zp_e {o : Nat} (h : 69 ≤ o) (h2 : o < 128) : zc_p o = 0 := by unfold zc_p; rw [if_neg (by omega), if_neg (by omega), if_neg (by omega), if_neg (by omega), if_pos h2]
theorem zp_h {o : Nat} (h : 128 < o) (h2 : o < 142) (h3 : o ≠ 139) : zc_p o = 2 := by unfold zc_p; rw [if_neg (by omega), if_neg (by omega), if_neg (by omega), if_neg (by omega), if_neg (by omega), if_neg (by omega), if_neg h3, if_pos h2]
theorem zp_j {o : Nat} (h : 142 < o) (h2 : o < 302) : zc_p o = 0 := by unfold zc_p; rw [if_neg (by omega), if_neg (by omega), if_neg (by omega), if_neg (by omega), if_neg (by omega), if_neg (by omega), if_neg (by omega), if_neg (by omega), if_neg (by omega), if_pos h2]
/-- what tokens mean as operations -/
theorem zc_te {t : Nat} (h : zk_e t) (h2 : t < 210) : zc_v t ∧ zc_p t = zk_n t ∧ zc_q t = 1 ∧ ¬ zc_j t ∧ t < 305 := by
  have hq : zc_q t = 1 := by unfold zc_q; rw [if_pos (by unfold zk_e zk_l at h; omega)]
  have hv : zc_v t := by unfold zk_e zk_l at h; unfold zc_v; omega
  have hj : ¬ zc_j t := by unfold zc_j; omega
  refine ⟨hv, ?_, hq, hj, by omega⟩
  by_cases c0 : zk_l t
  · rw [zk_n0 (Or.inl c0)]
    unfold zk_l at c0
    by_cases c9 : t < 128
    · exact zp_e (by omega) c9
    · exact zp_j (by omega) (by omega)
  · have n0 : ¬ (zk_l t ∨ t = 2 ∨ t = 39) := by
      rintro (z | z | z)
      · exact c0 z
      · unfold zk_e zk_l at h; omega
      · unfold zk_e zk_l at h; omega
    have c1 : t = 128 ∨ (130 ≤ t ∧ t < 143) := by
      rcases h with z | z
      · exact absurd z c0
      · exact z
    by_cases c2 : t = 128 ∨ t = 139
    · rw [zk_n1 n0 (by unfold zk_1; omega)]
      rcases c2 with e | e <;> rw [e] <;> rfl
    · have n1 : ¬ zk_1 t := by unfold zk_1; omega
      by_cases c3 : t = 142
      · rw [zk_n3 n0 n1 (by omega) (by unfold zk_3; omega), c3]
        rfl
      · rw [zk_n2 n0 n1 (by omega) (by unfold zk_3; omega)]
        exact zp_h (by omega) (by omega) (by omega)
def zc_pl (t : Nat) : Prop := (10 ≤ t ∧ t < 26) ∨ (30 ≤ t ∧ t < 35) ∨ (60 ≤ t ∧ t < 69)
theorem zc_ts {t : Nat} (h : zc_pl t) : zc_v t ∧ zc_p t = zk_n t ∧ zc_q t = 0 ∧ ¬ zc_j t ∧ t < 300 := by
  unfold zc_pl at h
  have hq : zc_q t = 0 := by unfold zc_q; rw [if_neg (by omega)]
  have hv : zc_v t := by unfold zc_v; omega
  have hj : ¬ zc_j t := by unfold zc_j; omega
  refine ⟨hv, ?_, hq, hj, by omega⟩
  have n0 : ¬ (zk_l t ∨ t = 2 ∨ t = 39) := by unfold zk_l; omega
  by_cases c2 : zk_1 t
  · rw [zk_n1 n0 c2]
    unfold zk_1 at c2
    by_cases c9 : t < 34
    · exact zp_a c9
    · exact zp_d (by omega) (by omega)
  · by_cases c3 : zk_3 t
    · rw [zk_n3 n0 c2 (by omega) c3]
      unfold zk_3 at c3
      exact zp_c (by omega) (by omega)
    · rw [zk_n2 n0 c2 (by omega) c3]
      unfold zk_1 at c2
      unfold zk_3 at c3
      exact zp_b (by omega) (by omega)
end
end
section
section
variable {ti ac ru wc sz dp lo ex he al ov : Int32} {a1 a2 a3 a4 a5 a6 a7 a8 a9 a10 a11 a12 a13 a14 a15 a16 a17 a18 a19 a20 a21 a22 a23 a24 a25 a26 a27 : Nat → Int32}
variable {op ar tg oa oh pa pb lt xa xl : Nat → Int32} {s d l e : Nat}
/-! emit, patch, closeLoop -/
theorem zw_emit {Q : Int32 → St1 → Prop} {o x : Int32} (hs : s < 400) (h : Q (nI s) (ti, ac, ru, wc, nI (s + 1), dp, lo, ex, he, al, ov, a1, a2, a3, a4, a5, a6, a7, a8, a9, a10, a11, a12, a13, a14, upd op s o, upd ar s x, upd tg s (nI s), oa, oh, pa, pb, lt, xa, xl, a25, a26, a27)) : wpX_emit Q (ti, ac, ru, wc, nI s, dp, lo, ex, he, al, ov, a1, a2, a3, a4, a5, a6, a7, a8, a9, a10, a11, a12, a13, a14, op, ar, tg, oa, oh, pa, pb, lt, xa, xl, a25, a26, a27) o x := by
  have c : (nI s).toNatClampNeg = s := nI_clamp (by omega)
  refine br_f (nI_ge (b := 400) hs (by decide)) ⟨pk_in s 400 hs, nm_r (e' := upd op s o) (by rw [c]) ⟨pk_in s 400 hs, nm_r (e' := upd ar s x) (by rw [c]) ⟨pk_in s 400 hs, nm_r (e' := upd tg s (nI s)) (by rw [c]) (nm_r (nI_1 s) ?_)⟩⟩⟩
  rw [nI_pred]
  exact h
theorem zw_emit2 {Q : Int32 → St1 → Prop} {o x : Int32} (hs : s < 400) (h : Q (nI s) (ti, ac, ru, wc, nI (s + 1), dp, lo, ex, he, al, ov, a1, a2, a3, a4, a5, a6, a7, a8, a9, a10, a11, a12, a13, a14, upd op s o, upd ar s x, upd tg s (nI s), oa, oh, pa, pb, lt, xa, xl, a25, a26, a27)) : wpX_emit_2 Q (ti, ac, ru, wc, nI s, dp, lo, ex, he, al, ov, a1, a2, a3, a4, a5, a6, a7, a8, a9, a10, a11, a12, a13, a14, op, ar, tg, oa, oh, pa, pb, lt, xa, xl, a25, a26, a27) o x := by
  have c : (nI s).toNatClampNeg = s := nI_clamp (by omega)
  refine br_f (nI_ge (b := 400) hs (by decide)) ⟨pk_in s 400 hs, nm_r (e' := upd op s o) (by rw [c]) ⟨pk_in s 400 hs, nm_r (e' := upd ar s x) (by rw [c]) ⟨pk_in s 400 hs, nm_r (e' := upd tg s (nI s)) (by rw [c]) (nm_r (nI_1 s) ?_)⟩⟩⟩
  rw [nI_pred]
  exact h
theorem zw_emit3 {Q : Int32 → St1 → Prop} {o x : Int32} (hs : s < 400) (h : Q (nI s) (ti, ac, ru, wc, nI (s + 1), dp, lo, ex, he, al, ov, a1, a2, a3, a4, a5, a6, a7, a8, a9, a10, a11, a12, a13, a14, upd op s o, upd ar s x, upd tg s (nI s), oa, oh, pa, pb, lt, xa, xl, a25, a26, a27)) : wpX_emit_3 Q (ti, ac, ru, wc, nI s, dp, lo, ex, he, al, ov, a1, a2, a3, a4, a5, a6, a7, a8, a9, a10, a11, a12, a13, a14, op, ar, tg, oa, oh, pa, pb, lt, xa, xl, a25, a26, a27) o x := by
  have c : (nI s).toNatClampNeg = s := nI_clamp (by omega)
  refine br_f (nI_ge (b := 400) hs (by decide)) ⟨pk_in s 400 hs, nm_r (e' := upd op s o) (by rw [c]) ⟨pk_in s 400 hs, nm_r (e' := upd ar s x) (by rw [c]) ⟨pk_in s 400 hs, nm_r (e' := upd tg s (nI s)) (by rw [c]) (nm_r (nI_1 s) ?_)⟩⟩⟩
  rw [nI_pred]
  exact h
theorem zw_patch {Q : St1 → Prop} {x : Int32} {p : Nat} (hx : x = nI p) (hp : p < 400) (h : Q (ti, ac, ru, wc, sz, dp, lo, ex, he, al, ov, a1, a2, a3, a4, a5, a6, a7, a8, a9, a10, a11, a12, a13, a14, op, ar, upd tg p sz, oa, oh, pa, pb, lt, xa, xl, a25, a26, a27)) : wpX_patch Q (ti, ac, ru, wc, sz, dp, lo, ex, he, al, ov, a1, a2, a3, a4, a5, a6, a7, a8, a9, a10, a11, a12, a13, a14, op, ar, tg, oa, oh, pa, pb, lt, xa, xl, a25, a26, a27) x := by
  subst hx
  exact ⟨pk_in p 400 hp, nm_r (e' := upd tg p sz) (by rw [nI_clamp (show p < 2 ^ 31 by omega)]) h⟩
theorem zw_enter {Q : St1 → Prop} {x : Int32} (hd : d < 64) (h : Q (ti, ac, ru, wc, sz, nI (d + 1), lo, ex, he, al, ov, a1, a2, a3, a4, a5, a6, a7, a8, a9, a10, a11, a12, a13, a14, op, ar, tg, upd oa d x, upd oh d 0, pa, pb, lt, xa, xl, a25, a26, a27)) : wpX_enter Q (ti, ac, ru, wc, sz, nI d, lo, ex, he, al, ov, a1, a2, a3, a4, a5, a6, a7, a8, a9, a10, a11, a12, a13, a14, op, ar, tg, oa, oh, pa, pb, lt, xa, xl, a25, a26, a27) x := by
  have c : (nI d).toNatClampNeg = d := nI_clamp (by omega)
  exact ⟨pk_in d 64 hd, nm_r (e' := upd oa d x) (by rw [c]) ⟨pk_in d 64 hd, nm_r (e' := upd oh d 0) (by rw [c]) (nm_r (nI_1 d) h)⟩⟩
/-- the targets behind closeLoop -/
def zw_cf (xa xl : Nat → Int32) (x : Int32) (s : Nat) : Nat → Nat → (Nat → Int32) → (Nat → Int32)
  | 0, _, tg => tg
  | c + 1, k, tg => zw_cf xa xl x s c (k + 1) (if xl k = x then upd tg (xa k).toNatClampNeg (nI s) else tg)
theorem zw_cfC {H : Nat → Nat} {P : Nat → Prop} {x : Int32} (hX : zc_X e xa s op H) (h0 : H s = 0) (hs : s ≤ 400) : ∀ c k (tg : Nat → Int32), k + c = e → zc_C s op ar tg H P → zc_C s op ar (zw_cf xa xl x s c k tg) H P := by
  intro c
  induction c with
  | zero => exact fun k tg _ hC => hC
  | succ c ih =>
    intro k tg hk hC
    refine ih (k + 1) _ (by omega) ?_
    by_cases hx : xl k = x
    · rw [if_pos hx]
      obtain ⟨j, j1, j2, j3, j4⟩ := hX k (by omega)
      rw [j1, nI_clamp (show j < 2 ^ 31 by omega)]
      exact zc_tgt hC j2 j3 (Or.inl rfl) (Nat.le_refl s) (by rw [h0, j4]; rfl) (fun q hq => Or.inl hq)
    · rw [if_neg hx]
      exact hC
theorem zw_close {Q : St1 → Prop} {x : Int32} (hX : ∀ k, k < e → ∃ j, xa k = nI j ∧ j < 400) (hee : e ≤ 64) (hq : Q (ti, ac, ru, wc, nI s, dp, lo, nI e, he, al, ov, a1, a2, a3, a4, a5, a6, a7, a8, a9, a10, a11, a12, a13, a14, op, ar, zw_cf xa xl x s e 0 tg, oa, oh, pa, pb, lt, xa, xl, a25, a26, a27)) : wpX_closeLoop Q (ti, ac, ru, wc, nI s, dp, lo, nI e, he, al, ov, a1, a2, a3, a4, a5, a6, a7, a8, a9, a10, a11, a12, a13, a14, op, ar, tg, oa, oh, pa, pb, lt, xa, xl, a25, a26, a27) x := by
  have main : ∀ c k (tg : Nat → Int32), k + c = e → Q (ti, ac, ru, wc, nI s, dp, lo, nI e, he, al, ov, a1, a2, a3, a4, a5, a6, a7, a8, a9, a10, a11, a12, a13, a14, op, ar, zw_cf xa xl x s c k tg, oa, oh, pa, pb, lt, xa, xl, a25, a26, a27) → wX_closeLoop_2 Q x (c + 1) (nI k) ti ac ru wc (nI s) dp lo (nI e) he al ov a1 a2 a3 a4 a5 a6 a7 a8 a9 a10 a11 a12 a13 a14 op ar tg oa oh pa pb lt xa xl a25 a26 a27 := by
    intro c
    induction c with
    | zero =>
      intro k tg hk hq
      exact pk_le e k (fun _ => hq) (fun z => absurd z (by omega))
    | succ c ih =>
      intro k tg hk hq
      have ck : (nI k).toNatClampNeg = k := nI_clamp (by omega)
      have eq : zw_cf xa xl x s (c + 1) k tg = zw_cf xa xl x s c (k + 1) (if xl k = x then upd tg (xa k).toNatClampNeg (nI s) else tg) := rfl
      rw [eq] at hq
      by_cases hx : xl k = x
      · rw [if_pos hx] at hq
        obtain ⟨j, j1, j2⟩ := hX k (by omega)
        rw [j1, nI_clamp (show j < 2 ^ 31 by omega)] at hq
        refine pk_le e k (fun z => absurd z (by omega)) (fun _ => ⟨pk_in k 64 (by omega), br_t (by rw [ck]; exact hx) ⟨pk_in k 64 (by omega), zw_patch (p := j) (by rw [ck]; exact j1) j2 ?_⟩⟩)
        exact nm_r (nI_1 k) (ih (k + 1) _ (by omega) hq)
      · rw [if_neg hx] at hq
        refine pk_le e k (fun z => absurd z (by omega)) (fun _ => ⟨pk_in k 64 (by omega), br_f (by rw [ck]; exact hx) ?_⟩)
        exact nm_r (nI_1 k) (ih (k + 1) _ (by omega) hq)
  exact ⟨e + 1, main e 0 tg (by omega) hq⟩
/-! one turn of compile's loop -/
/-- what doesn't change: tokens, spans -/
def zw_G (p N : Nat) (tk sp : Nat → Nat) (ac : Int32) (a11 a14 : Nat → Int32) : Prop := p < 2 ∧ N ≤ 42 ∧ ac = nI p ∧ zs_V a11 p N tk ∧ (∀ i, i < N → a14 i = nI (sp i)) ∧ ∀ i, i < N → zt_T tk sp N i
theorem zw_tkb {p N : Nat} {tk sp : Nat → Nat} (hg : zw_G p N tk sp ac a11 a14) {i : Nat} (hi : i < N) : tk i < 300 := by
  obtain ⟨b, l, -, h1, h2⟩ := hg.2.2.2.1.2 i hi
  by_cases hb : b
  · exact zk_sb (h1 hb)
  · exact zk_eb (h2 hb)
theorem zw_par {post : Int32 → Prop} {p N i k : Nat} {tk sp : Nat → Nat} (hg : zw_G p N tk sp ac a11 a14) (hi : i < N) (hk : k ≤ zk_n (tk i)) (h : post (nI (zt_p sp i k))) : wpX_partAt post (ti, ac, ru, wc, sz, dp, lo, ex, he, al, ov, a1, a2, a3, a4, a5, a6, a7, a8, a9, a10, a11, a12, a13, a14, a15, a16, a17, a18, a19, a20, a21, a22, a23, a24, a25, a26, a27) (nI i) (nI k) := by
  have h4 := zk_nle (tk i)
  obtain ⟨-, hN, -, -, h14, hT⟩ := hg
  refine zt_part (by omega) (fun j hj => ?_) h
  have := ((hT i hi).2.2.2 j (by omega)).1
  exact ⟨by omega, h14 _ this⟩
theorem zw_110e {post : St1 → Prop} {J : Int32 → Int32 → Int32 → Int32 → Int32 → Int32 → Int32 → Int32 → Int32 → Int32 → Int32 → (Nat → Int32) → (Nat → Int32) → (Nat → Int32) → (Nat → Int32) → (Nat → Int32) → (Nat → Int32) → (Nat → Int32) → (Nat → Int32) → (Nat → Int32) → (Nat → Int32) → (Nat → Int32) → (Nat → Int32) → (Nat → Int32) → (Nat → Int32) → (Nat → Int32) → (Nat → Int32) → (Nat → Int32) → (Nat → Int32) → (Nat → Int32) → (Nat → Int32) → (Nat → Int32) → (Nat → Int32) → (Nat → Int32) → (Nat → Int32) → (Nat → Int32) → (Nat → Int32) → (Nat → Int32) → Prop} {p N i k : Nat} {tk sp : Nat → Nat} (hg : zw_G p N tk sp ac a11 a14) (hi : i < N) (hk : k < zk_n (tk i)) (hd : d + 1 < 64) (h : J ti ac ru wc sz (nI (d + 2)) lo ex he al ov a1 a2 a3 a4 a5 a6 a7 a8 a9 a10 a11 a12 a13 a14 op ar tg (upd oa (d + 1) (nI (zt_p sp i k))) (upd oh (d + 1) 0) pa pb lt xa xl a25 a26 a27) : wX_compile_110 post J (nI d) (nI i) (nI k) (nI (zk_n (tk i))) ti ac ru wc sz (nI (d + 1)) lo ex he al ov a1 a2 a3 a4 a5 a6 a7 a8 a9 a10 a11 a12 a13 a14 op ar tg oa oh pa pb lt xa xl a25 a26 a27 := by
  have h4 := zk_nle (tk i)
  refine pk_le (zk_n (tk i)) k (fun z => absurd z (by omega)) (fun _ => pk_eq (d + 1) (d + 1) (fun _ => ?_) (fun z => absurd rfl z) rfl (nI_1 d))
  exact zw_par hg hi (by omega) (zw_enter hd h)
theorem zw_110p {post : St1 → Prop} {J : Int32 → Int32 → Int32 → Int32 → Int32 → Int32 → Int32 → Int32 → Int32 → Int32 → Int32 → (Nat → Int32) → (Nat → Int32) → (Nat → Int32) → (Nat → Int32) → (Nat → Int32) → (Nat → Int32) → (Nat → Int32) → (Nat → Int32) → (Nat → Int32) → (Nat → Int32) → (Nat → Int32) → (Nat → Int32) → (Nat → Int32) → (Nat → Int32) → (Nat → Int32) → (Nat → Int32) → (Nat → Int32) → (Nat → Int32) → (Nat → Int32) → (Nat → Int32) → (Nat → Int32) → (Nat → Int32) → (Nat → Int32) → (Nat → Int32) → (Nat → Int32) → (Nat → Int32) → (Nat → Int32) → Prop} {i k n : Nat} (hn : n ≤ k) (hk : k < 100) (hd : d + 1 < 64) (h : J ti ac ru wc sz (nI d) lo ex he al ov a1 a2 a3 a4 a5 a6 a7 a8 a9 a10 a11 a12 a13 a14 op ar tg oa oh pa pb lt xa xl a25 a26 a27) : wX_compile_110 post J (nI d) (nI i) (nI k) (nI n) ti ac ru wc sz (nI (d + 1)) lo ex he al ov a1 a2 a3 a4 a5 a6 a7 a8 a9 a10 a11 a12 a13 a14 op ar tg oa oh pa pb lt xa xl a25 a26 a27 := by
  refine pk_le n k (fun z => pk_eq (d + 1) (d + 1) (fun _ => nm_r (nI_pred d) h) (fun z => absurd rfl z) rfl (nI_1 d)) (fun z => absurd z (by omega))
theorem zw_110s {post : St1 → Prop} {J : Int32 → Int32 → Int32 → Int32 → Int32 → Int32 → Int32 → Int32 → Int32 → Int32 → Int32 → (Nat → Int32) → (Nat → Int32) → (Nat → Int32) → (Nat → Int32) → (Nat → Int32) → (Nat → Int32) → (Nat → Int32) → (Nat → Int32) → (Nat → Int32) → (Nat → Int32) → (Nat → Int32) → (Nat → Int32) → (Nat → Int32) → (Nat → Int32) → (Nat → Int32) → (Nat → Int32) → (Nat → Int32) → (Nat → Int32) → (Nat → Int32) → (Nat → Int32) → (Nat → Int32) → (Nat → Int32) → (Nat → Int32) → (Nat → Int32) → (Nat → Int32) → (Nat → Int32) → (Nat → Int32) → Prop} {i k n : Nat} (hn : k < n) (hk : n < 100) (hd : d + 1 < 64) (h : J ti ac ru wc sz (nI (d + 2)) lo ex he al ov a1 a2 a3 a4 a5 a6 a7 a8 a9 a10 a11 a12 a13 a14 op ar tg oa oh pa pb lt xa xl a25 a26 a27) : wX_compile_110 post J (nI d) (nI i) (nI k) (nI n) ti ac ru wc sz (nI (d + 2)) lo ex he al ov a1 a2 a3 a4 a5 a6 a7 a8 a9 a10 a11 a12 a13 a14 op ar tg oa oh pa pb lt xa xl a25 a26 a27 := by
  refine pk_le n k (fun z => absurd z (by omega)) (fun _ => pk_eq (d + 2) (d + 1) (fun z => absurd z (by omega)) (fun z => ?_) rfl (nI_1 d))
  exact pk_eq (d + 2) (d + 1) (fun z => absurd z (by omega)) (fun z => h) rfl (nI_1 d)
theorem zw_its {post : St1 → Prop} {n p N i k : Nat} {tk sp : Nat → Nat} {sz' dp' lo' ex' : Int32} {op' ar' tg' oa' oh' pa' pb' lt' xa' xl' : Nat → Int32} (hg : zw_G p N tk sp ac a11 a14) (hi : i < N) (hd : d + 1 < 64) (hoa : oa d = nI i) (hoh : oh d = nI k) (hs : zk_s (tk i))
    (E : ∀ Q : St1 → Prop, Q (ti, ac, ru, wc, sz', dp', lo', ex', he, al, ov, a1, a2, a3, a4, a5, a6, a7, a8, a9, a10, a11, a12, a13, a14, op', ar', tg', oa', oh', pa', pb', lt', xa', xl', a25, a26, a27) → wpX_statement Q (ti, ac, ru, wc, sz, nI (d + 1), lo, ex, he, al, ov, a1, a2, a3, a4, a5, a6, a7, a8, a9, a10, a11, a12, a13, a14, op, ar, tg, oa, upd oh d (nI (k + 1)), pa, pb, lt, xa, xl, a25, a26, a27) (nI i) (nI (tk i)) (nI k) (nI d))
    (h : wX_compile_110 post (wX_compile_29 post n) (nI d) (nI i) (nI k) (nI (zk_n (tk i))) ti ac ru wc sz' dp' lo' ex' he al ov a1 a2 a3 a4 a5 a6 a7 a8 a9 a10 a11 a12 a13 a14 op' ar' tg' oa' oh' pa' pb' lt' xa' xl' a25 a26 a27) : wX_compile_29 post (n + 1) ti ac ru wc sz (nI (d + 1)) lo ex he al ov a1 a2 a3 a4 a5 a6 a7 a8 a9 a10 a11 a12 a13 a14 op ar tg oa oh pa pb lt xa xl a25 a26 a27 := by
  have c : (nI d).toNatClampNeg = d := nI_clamp (by omega)
  have hb := zw_tkb hg hi
  obtain ⟨hp, hN, hac, hv, -, -⟩ := hg
  have hdd : d < 64 := by omega
  refine br_f (nI_nle (by omega) (by omega)) (nm_r (nI_pred d) ⟨pk_in d 64 hdd, nm_r (e' := nI i) (by rw [c]; exact hoa) ⟨pk_in d 64 hdd, nm_r (e' := nI k) (by rw [c]; exact hoh) ⟨pk_in d 64 hdd, pk_in d 64 hdd, nm_r (e' := upd oh d (nI (k + 1))) (by rw [c, hoh, nI_1]) ?_⟩⟩⟩)
  refine zt_tok hac (by omega) (hv.1 i hi) (zk_parts (tk i) (zk_stN (tk i) (fun _ => br_f (by decide) ?_) (fun z => absurd hs z)))
  exact E _ h
theorem zw_ite {post : St1 → Prop} {n p N i k : Nat} {tk sp : Nat → Nat} {sz' dp' lo' ex' : Int32} {op' ar' tg' oa' oh' pa' pb' lt' xa' xl' : Nat → Int32} (hg : zw_G p N tk sp ac a11 a14) (hi : i < N) (hd : d + 1 < 64) (hoa : oa d = nI i) (hoh : oh d = nI k) (hs : zk_e (tk i))
    (E : ∀ Q : St1 → Prop, Q (ti, ac, ru, wc, sz', dp', lo', ex', he, al, ov, a1, a2, a3, a4, a5, a6, a7, a8, a9, a10, a11, a12, a13, a14, op', ar', tg', oa', oh', pa', pb', lt', xa', xl', a25, a26, a27) → wpX_expression Q (ti, ac, ru, wc, sz, nI (d + 1), lo, ex, he, al, ov, a1, a2, a3, a4, a5, a6, a7, a8, a9, a10, a11, a12, a13, a14, op, ar, tg, oa, upd oh d (nI (k + 1)), pa, pb, lt, xa, xl, a25, a26, a27) (nI (tk i)) (nI k) (nI (zk_n (tk i))))
    (h : wX_compile_110 post (wX_compile_29 post n) (nI d) (nI i) (nI k) (nI (zk_n (tk i))) ti ac ru wc sz' dp' lo' ex' he al ov a1 a2 a3 a4 a5 a6 a7 a8 a9 a10 a11 a12 a13 a14 op' ar' tg' oa' oh' pa' pb' lt' xa' xl' a25 a26 a27) : wX_compile_29 post (n + 1) ti ac ru wc sz (nI (d + 1)) lo ex he al ov a1 a2 a3 a4 a5 a6 a7 a8 a9 a10 a11 a12 a13 a14 op ar tg oa oh pa pb lt xa xl a25 a26 a27 := by
  have c : (nI d).toNatClampNeg = d := nI_clamp (by omega)
  have hb := zw_tkb hg hi
  obtain ⟨hp, hN, hac, hv, -, -⟩ := hg
  have hdd : d < 64 := by omega
  refine br_f (nI_nle (by omega) (by omega)) (nm_r (nI_pred d) ⟨pk_in d 64 hdd, nm_r (e' := nI i) (by rw [c]; exact hoa) ⟨pk_in d 64 hdd, nm_r (e' := nI k) (by rw [c]; exact hoh) ⟨pk_in d 64 hdd, pk_in d 64 hdd, nm_r (e' := upd oh d (nI (k + 1))) (by rw [c, hoh, nI_1]) ?_⟩⟩⟩)
  refine zt_tok hac (by omega) (hv.1 i hi) (zk_parts (tk i) (zk_stN (tk i) (fun z => absurd hs (zk_se z)) (fun _ => br_t rfl ?_)))
  exact E _ h
/-- a turn that enters a part; one that ends a token; one whose code has entered a part itself -/
theorem zw_sen {post : St1 → Prop} {p N i k : Nat} {tk sp : Nat → Nat} {sz' dp' lo' ex' : Int32} {op' ar' tg' oa' oh' pa' pb' lt' xa' xl' : Nat → Int32} (hg : zw_G p N tk sp ac a11 a14) (hi : i < N) (hd : d + 1 < 64) (hoa : oa d = nI i) (hoh : oh d = nI k) (hs : zk_s (tk i)) (hk : k < zk_n (tk i)) (hdp : dp' = nI (d + 1))
    (E : ∀ Q : St1 → Prop, Q (ti, ac, ru, wc, sz', dp', lo', ex', he, al, ov, a1, a2, a3, a4, a5, a6, a7, a8, a9, a10, a11, a12, a13, a14, op', ar', tg', oa', oh', pa', pb', lt', xa', xl', a25, a26, a27) → wpX_statement Q (ti, ac, ru, wc, sz, nI (d + 1), lo, ex, he, al, ov, a1, a2, a3, a4, a5, a6, a7, a8, a9, a10, a11, a12, a13, a14, op, ar, tg, oa, upd oh d (nI (k + 1)), pa, pb, lt, xa, xl, a25, a26, a27) (nI i) (nI (tk i)) (nI k) (nI d))
    (h : ∃ n, wX_compile_29 post n ti ac ru wc sz' (nI (d + 2)) lo' ex' he al ov a1 a2 a3 a4 a5 a6 a7 a8 a9 a10 a11 a12 a13 a14 op' ar' tg' (upd oa' (d + 1) (nI (zt_p sp i k))) (upd oh' (d + 1) 0) pa' pb' lt' xa' xl' a25 a26 a27) : ∃ n, wX_compile_29 post n ti ac ru wc sz (nI (d + 1)) lo ex he al ov a1 a2 a3 a4 a5 a6 a7 a8 a9 a10 a11 a12 a13 a14 op ar tg oa oh pa pb lt xa xl a25 a26 a27 := by
  subst hdp
  obtain ⟨n, hn⟩ := h
  exact ⟨n + 1, zw_its hg hi hd hoa hoh hs E (zw_110e hg hi hk hd hn)⟩
theorem zw_spo {post : St1 → Prop} {p N i k : Nat} {tk sp : Nat → Nat} {sz' dp' lo' ex' : Int32} {op' ar' tg' oa' oh' pa' pb' lt' xa' xl' : Nat → Int32} (hg : zw_G p N tk sp ac a11 a14) (hi : i < N) (hd : d + 1 < 64) (hoa : oa d = nI i) (hoh : oh d = nI k) (hs : zk_s (tk i)) (hk : zk_n (tk i) ≤ k) (hk2 : k < 100) (hdp : dp' = nI (d + 1))
    (E : ∀ Q : St1 → Prop, Q (ti, ac, ru, wc, sz', dp', lo', ex', he, al, ov, a1, a2, a3, a4, a5, a6, a7, a8, a9, a10, a11, a12, a13, a14, op', ar', tg', oa', oh', pa', pb', lt', xa', xl', a25, a26, a27) → wpX_statement Q (ti, ac, ru, wc, sz, nI (d + 1), lo, ex, he, al, ov, a1, a2, a3, a4, a5, a6, a7, a8, a9, a10, a11, a12, a13, a14, op, ar, tg, oa, upd oh d (nI (k + 1)), pa, pb, lt, xa, xl, a25, a26, a27) (nI i) (nI (tk i)) (nI k) (nI d))
    (h : ∃ n, wX_compile_29 post n ti ac ru wc sz' (nI d) lo' ex' he al ov a1 a2 a3 a4 a5 a6 a7 a8 a9 a10 a11 a12 a13 a14 op' ar' tg' oa' oh' pa' pb' lt' xa' xl' a25 a26 a27) : ∃ n, wX_compile_29 post n ti ac ru wc sz (nI (d + 1)) lo ex he al ov a1 a2 a3 a4 a5 a6 a7 a8 a9 a10 a11 a12 a13 a14 op ar tg oa oh pa pb lt xa xl a25 a26 a27 := by
  subst hdp
  obtain ⟨n, hn⟩ := h
  exact ⟨n + 1, zw_its hg hi hd hoa hoh hs E (zw_110p hk hk2 hd hn)⟩
theorem zw_ssk {post : St1 → Prop} {p N i k : Nat} {tk sp : Nat → Nat} {sz' dp' lo' ex' : Int32} {op' ar' tg' oa' oh' pa' pb' lt' xa' xl' : Nat → Int32} (hg : zw_G p N tk sp ac a11 a14) (hi : i < N) (hd : d + 1 < 64) (hoa : oa d = nI i) (hoh : oh d = nI k) (hs : zk_s (tk i)) (hk : k < zk_n (tk i)) (hdp : dp' = nI (d + 2))
    (E : ∀ Q : St1 → Prop, Q (ti, ac, ru, wc, sz', dp', lo', ex', he, al, ov, a1, a2, a3, a4, a5, a6, a7, a8, a9, a10, a11, a12, a13, a14, op', ar', tg', oa', oh', pa', pb', lt', xa', xl', a25, a26, a27) → wpX_statement Q (ti, ac, ru, wc, sz, nI (d + 1), lo, ex, he, al, ov, a1, a2, a3, a4, a5, a6, a7, a8, a9, a10, a11, a12, a13, a14, op, ar, tg, oa, upd oh d (nI (k + 1)), pa, pb, lt, xa, xl, a25, a26, a27) (nI i) (nI (tk i)) (nI k) (nI d))
    (h : ∃ n, wX_compile_29 post n ti ac ru wc sz' (nI (d + 2)) lo' ex' he al ov a1 a2 a3 a4 a5 a6 a7 a8 a9 a10 a11 a12 a13 a14 op' ar' tg' oa' oh' pa' pb' lt' xa' xl' a25 a26 a27) : ∃ n, wX_compile_29 post n ti ac ru wc sz (nI (d + 1)) lo ex he al ov a1 a2 a3 a4 a5 a6 a7 a8 a9 a10 a11 a12 a13 a14 op ar tg oa oh pa pb lt xa xl a25 a26 a27 := by
  subst hdp
  obtain ⟨n, hn⟩ := h
  have h4 := zk_nle (tk i)
  exact ⟨n + 1, zw_its hg hi hd hoa hoh hs E (zw_110s hk (by omega) hd hn)⟩
theorem zw_een {post : St1 → Prop} {p N i k : Nat} {tk sp : Nat → Nat} (hg : zw_G p N tk sp ac a11 a14) (hi : i < N) (hd : d + 1 < 64) (hoa : oa d = nI i) (hoh : oh d = nI k) (hs : zk_e (tk i)) (hk : k < zk_n (tk i))
    (h : ∃ n, wX_compile_29 post n ti ac ru wc sz (nI (d + 2)) lo ex he al ov a1 a2 a3 a4 a5 a6 a7 a8 a9 a10 a11 a12 a13 a14 op ar tg (upd oa (d + 1) (nI (zt_p sp i k))) (upd (upd oh d (nI (k + 1))) (d + 1) 0) pa pb lt xa xl a25 a26 a27) : ∃ n, wX_compile_29 post n ti ac ru wc sz (nI (d + 1)) lo ex he al ov a1 a2 a3 a4 a5 a6 a7 a8 a9 a10 a11 a12 a13 a14 op ar tg oa oh pa pb lt xa xl a25 a26 a27 := by
  obtain ⟨n, hn⟩ := h
  have h4 := zk_nle (tk i)
  exact ⟨n + 1, zw_ite hg hi hd hoa hoh hs (fun Q hq => pk_le (zk_n (tk i)) k (fun z => absurd z (by omega)) (fun _ => hq)) (zw_110e hg hi hk hd hn)⟩
theorem zw_epo {post : St1 → Prop} {p N i : Nat} {tk sp : Nat → Nat} {sz' dp' lo' ex' : Int32} {op' ar' tg' oa' oh' pa' pb' lt' xa' xl' : Nat → Int32} (hg : zw_G p N tk sp ac a11 a14) (hi : i < N) (hd : d + 1 < 64) (hoa : oa d = nI i) (hoh : oh d = nI (zk_n (tk i))) (hs : zk_e (tk i)) (hdp : dp' = nI (d + 1))
    (E : ∀ Q : St1 → Prop, Q (ti, ac, ru, wc, sz', dp', lo', ex', he, al, ov, a1, a2, a3, a4, a5, a6, a7, a8, a9, a10, a11, a12, a13, a14, op', ar', tg', oa', oh', pa', pb', lt', xa', xl', a25, a26, a27) → wpX_expression Q (ti, ac, ru, wc, sz, nI (d + 1), lo, ex, he, al, ov, a1, a2, a3, a4, a5, a6, a7, a8, a9, a10, a11, a12, a13, a14, op, ar, tg, oa, upd oh d (nI (zk_n (tk i) + 1)), pa, pb, lt, xa, xl, a25, a26, a27) (nI (tk i)) (nI (zk_n (tk i))) (nI (zk_n (tk i))))
    (h : ∃ n, wX_compile_29 post n ti ac ru wc sz' (nI d) lo' ex' he al ov a1 a2 a3 a4 a5 a6 a7 a8 a9 a10 a11 a12 a13 a14 op' ar' tg' oa' oh' pa' pb' lt' xa' xl' a25 a26 a27) : ∃ n, wX_compile_29 post n ti ac ru wc sz (nI (d + 1)) lo ex he al ov a1 a2 a3 a4 a5 a6 a7 a8 a9 a10 a11 a12 a13 a14 op ar tg oa oh pa pb lt xa xl a25 a26 a27 := by
  subst hdp
  obtain ⟨n, hn⟩ := h
  have h4 := zk_nle (tk i)
  exact ⟨n + 1, zw_ite hg hi hd hoa hoh hs E (zw_110p (Nat.le_refl _) (by omega) hd hn)⟩
end
end
section
section
variable {ti ac ru wc sz dp lo ex he al ov : Int32} {a1 a2 a3 a4 a5 a6 a7 a8 a9 a10 a11 a12 a13 a14 a15 a16 a17 a18 a19 a20 a21 a22 a23 a24 a25 a26 a27 : Nat → Int32}
variable {op ar tg oa oh pa pb lt xa xl : Nat → Int32} {s d l e : Nat}
/-! arithmetic: there is an answer -/
theorem zx_cmp (t x y : Int32) : ∃ v, ∀ Q : Int32 → Prop, Q v → wpX_compared Q () t x y := by
  by_cases h1 : t = 135
  · by_cases h : y ≤ x
    · exact ⟨0, fun Q q => br_t h1 (br_t h (br_t rfl q))⟩
    · exact ⟨1, fun Q q => br_t h1 (br_f h (br_f (by decide) q))⟩
  · by_cases h2 : t = 136
    · by_cases h : x = y
      · exact ⟨1, fun Q q => br_f h1 (br_t h2 (br_t h (br_f (by decide) q)))⟩
      · exact ⟨0, fun Q q => br_f h1 (br_t h2 (br_f h (br_t rfl q)))⟩
    · by_cases h3 : t = 137
      · by_cases a : x = 0
        · exact ⟨0, fun Q q => br_f h1 (br_f h2 (br_t h3 (br_t a (br_t rfl q))))⟩
        · by_cases b : y = 0
          · exact ⟨0, fun Q q => br_f h1 (br_f h2 (br_t h3 (br_f a (br_t b (br_t rfl q)))))⟩
          · exact ⟨1, fun Q q => br_f h1 (br_f h2 (br_t h3 (br_f a (br_f b (br_f (by decide) q)))))⟩
      · by_cases h4 : t = 138
        · by_cases a : x = 0
          · by_cases b : y = 0
            · exact ⟨0, fun Q q => br_f h1 (br_f h2 (br_f h3 (br_t h4 (br_t a (br_t b (br_t rfl q))))))⟩
            · exact ⟨1, fun Q q => br_f h1 (br_f h2 (br_f h3 (br_t h4 (br_t a (br_f b (br_f (by decide) q))))))⟩
          · exact ⟨1, fun Q q => br_f h1 (br_f h2 (br_f h3 (br_t h4 (br_f a (br_f (by decide) q)))))⟩
        · by_cases h5 : t = 140
          · by_cases a : x ≤ y
            · exact ⟨y, fun Q q => br_f h1 (br_f h2 (br_f h3 (br_f h4 (br_t h5 (br_t a (br_f (by decide) q))))))⟩
            · exact ⟨x, fun Q q => br_f h1 (br_f h2 (br_f h3 (br_f h4 (br_t h5 (br_f a (br_t rfl q))))))⟩
          · by_cases a : x ≤ y
            · exact ⟨x, fun Q q => br_f h1 (br_f h2 (br_f h3 (br_f h4 (br_f h5 (br_t a (br_t rfl q))))))⟩
            · exact ⟨y, fun Q q => br_f h1 (br_f h2 (br_f h3 (br_f h4 (br_f h5 (br_f a (br_f (by decide) q))))))⟩
theorem zx_two (t x y : Int32) : ∃ v, ∀ Q : Int32 → Prop, Q v → wpX_two Q () t x y := by
  by_cases h1 : t = 130
  · exact ⟨x + y, fun Q q => br_t h1 q⟩
  · by_cases h2 : t = 131
    · exact ⟨x - y, fun Q q => br_f h1 (br_t h2 q)⟩
    · by_cases h3 : t = 132
      · exact ⟨x * y, fun Q q => br_f h1 (br_f h2 (br_t h3 q))⟩
      · by_cases h4 : t = 133
        · by_cases h : y = 0
          · exact ⟨0, fun Q q => br_f h1 (br_f h2 (br_f h3 (br_t h4 (br_t h q))))⟩
          · exact ⟨x / y, fun Q q => br_f h1 (br_f h2 (br_f h3 (br_t h4 (br_f h ⟨h, q⟩))))⟩
        · by_cases h5 : t = 134
          · by_cases h : y = 0
            · exact ⟨0, fun Q q => br_f h1 (br_f h2 (br_f h3 (br_f h4 (br_t h5 (br_t h q)))))⟩
            · exact ⟨x - x / y * y, fun Q q => br_f h1 (br_f h2 (br_f h3 (br_f h4 (br_t h5 (br_f h ⟨h, q⟩)))))⟩
          · obtain ⟨v, hv⟩ := zx_cmp t x y
            exact ⟨v, fun Q q => br_f h1 (br_f h2 (br_f h3 (br_f h4 (br_f h5 (hv _ q)))))⟩
theorem zx_one (x : Int32) : ∃ v, ∀ Q : Int32 → Prop, Q v → wpX_one Q () x := by
  by_cases h : x = 0
  · exact ⟨1, fun Q q => br_t h q⟩
  · exact ⟨0, fun Q q => br_f h q⟩
theorem zx_sub {a b : Nat} {x : Int32} (h : b ≤ a) (hx : x = nI b := by rfl) : nI a - x = nI (a - b) := by
  subst hx
  exact pk_sub h
theorem zx_fold {t : Int32} {n : Nat} (hn : 0 < n) (hn3 : n ≤ 3) (hs : n ≤ s) (h4 : s ≤ 400) : ∃ v, ∀ Q : Int32 → Prop, Q v → wpX_fold Q (ti, ac, ru, wc, nI s, dp, lo, ex, he, al, ov, a1, a2, a3, a4, a5, a6, a7, a8, a9, a10, a11, a12, a13, a14, op, ar, tg, oa, oh, pa, pb, lt, xa, xl, a25, a26, a27) t (nI n) := by
  have i1 : vp_in (nI s - 1) 400 := pk_in (s - 1) 400 (by omega) (zx_sub (by omega))
  by_cases n1 : n = 1
  · obtain ⟨v, hv⟩ := zx_one (ar (nI s - 1).toNatClampNeg)
    exact ⟨v, fun Q q => pk_eq n 1 (fun _ => ⟨i1, hv _ q⟩) (fun z => absurd n1 z)⟩
  · have i2 : vp_in (nI s - 2) 400 := pk_in (s - 2) 400 (by omega) (zx_sub (by omega))
    by_cases n3 : n = 3
    · have i3 : vp_in (nI s - 3) 400 := pk_in (s - 3) 400 (by omega) (zx_sub (by omega))
      by_cases h : ar (nI s - 3).toNatClampNeg = 0
      · exact ⟨ar (nI s - 1).toNatClampNeg, fun Q q => pk_eq n 1 (fun z => absurd z n1) (fun _ => pk_eq n 3 (fun _ => ⟨i3, br_t h ⟨i1, q⟩⟩) (fun z => absurd n3 z))⟩
      · exact ⟨ar (nI s - 2).toNatClampNeg, fun Q q => pk_eq n 1 (fun z => absurd z n1) (fun _ => pk_eq n 3 (fun _ => ⟨i3, br_f h ⟨i2, q⟩⟩) (fun z => absurd n3 z))⟩
    · obtain ⟨v, hv⟩ := zx_two t (ar (nI s - 2).toNatClampNeg) (ar (nI s - 1).toNatClampNeg)
      exact ⟨v, fun Q q => pk_eq n 1 (fun z => absurd z n1) (fun _ => pk_eq n 3 (fun z => absurd z n3) (fun _ => ⟨i2, i1, hv _ q⟩))⟩
theorem zx_known {Q : Int32 → Prop} {n : Nat} (hn : n ≤ s) (hs : s ≤ 400) (h1 : 0 < n → (∀ q, 1 ≤ q → q ≤ n → op (s - q) = nI 300) → Q 1) (h0 : ¬ (0 < n ∧ ∀ q, 1 ≤ q → q ≤ n → op (s - q) = nI 300) → Q 0) : wpX_isKnown Q (ti, ac, ru, wc, nI s, dp, lo, ex, he, al, ov, a1, a2, a3, a4, a5, a6, a7, a8, a9, a10, a11, a12, a13, a14, op, ar, tg, oa, oh, pa, pb, lt, xa, xl, a25, a26, a27) (nI n) := by
  have main : ∀ c q, 1 ≤ q → q + c = n + 1 → (∀ r, 1 ≤ r → r < q → op (s - r) = nI 300) → wX_isKnown_2 Q (nI n) ti ac ru wc (nI s) dp lo ex he al ov a1 a2 a3 a4 a5 a6 a7 a8 a9 a10 a11 a12 a13 a14 op ar tg oa oh pa pb lt xa xl a25 a26 a27 (c + 1) (nI q) := by
    intro c
    induction c with
    | zero =>
      intro q hq1 hq h
      refine pk_lt n q (fun _ => pk_le n 0 (fun z => h0 (fun w => absurd w.1 (by omega))) (fun z => h1 z (fun r r1 r2 => h r r1 (by omega)))) (fun z => absurd z (by omega))
    | succ c ih =>
      intro q hq1 hq h
      have e1 : nI s - nI q = nI (s - q) := pk_sub (by omega)
      have c1 : (nI (s - q)).toNatClampNeg = s - q := nI_clamp (by omega)
      refine pk_lt n q (fun z => absurd z (by omega)) (fun _ => ?_)
      rw [e1, c1]
      refine br_f (nI_pos (by omega)) ⟨pk_in (s - q) 400 (by omega), br_c (fun z => nm_r (nI_1 q) (ih (q + 1) (by omega) (by omega) (fun r r1 r2 => ?_))) (fun z => h0 (fun w => z (w.2 q hq1 (by omega))))⟩
      by_cases e : r = q
      · rw [e]
        exact z
      · exact h r r1 (by omega)
  exact ⟨n + 1, main n 1 (Nat.le_refl 1) (by omega) (fun r r1 r2 => absurd r2 (by omega))⟩
theorem zx_ke {t k : Nat} (h : zk_e t) : ¬ zk_k t k := by unfold zk_e zk_l at h; unfold zk_k; omega
theorem zx_nI {a b : Nat} (ha : a < 2 ^ 31) (hb : b < 2 ^ 31) (h : a ≠ b) : ¬ nI a = nI b := fun z => h ((nI_eq ha hb).mp z)
/-- behind all parts of an expression -/
theorem zx_end {t s0 h : Nat} {H : Nat → Nat} {P : Nat → Prop} (hte : zk_e t) (hC : zc_C s op ar tg H P) (hC0 : zc_C s0 op ar tg H P) (hs0 : s0 + zk_n t ≤ s) (hs : s < 400) (hh : H s = h + zk_n t) (hh0 : H s0 = h) (hb : h + 1 ≤ 70) (hK : (∀ q, 1 ≤ q → q ≤ zk_n t → op (s - q) = nI 300) → s = s0 + zk_n t) :
    ∃ s1 op1 ar1 tg1 H1, s0 < s1 ∧ s1 ≤ s + 1 ∧ (∀ j, j < s0 → op1 j = op j ∧ ar1 j = ar j ∧ tg1 j = tg j) ∧ (∀ j, j ≤ s0 → H1 j = H j) ∧ H1 s1 = h + 1 ∧ zc_C s1 op1 ar1 tg1 H1 P ∧ (op1 (s1 - 1) = nI 300 → s1 = s0 + 1) ∧ ∀ Q : St1 → Prop, Q (ti, ac, ru, wc, nI s1, dp, lo, ex, he, al, ov, a1, a2, a3, a4, a5, a6, a7, a8, a9, a10, a11, a12, a13, a14, op1, ar1, tg1, oa, oh, pa, pb, lt, xa, xl, a25, a26, a27) → wpX_expression Q (ti, ac, ru, wc, nI s, dp, lo, ex, he, al, ov, a1, a2, a3, a4, a5, a6, a7, a8, a9, a10, a11, a12, a13, a14, op, ar, tg, oa, oh, pa, pb, lt, xa, xl, a25, a26, a27) (nI t) (nI (zk_n t)) (nI (zk_n t)) := by
  have h4 := zk_nle t
  have htb := zk_eb hte
  by_cases c1 : 210 ≤ t
  · have hl : zk_l t := by unfold zk_e zk_l at hte; unfold zk_l; omega
    have hn : zk_n t = 0 := zk_n0 (Or.inl hl)
    have hss : s = s0 := by
      have := hK (fun q q1 q2 => absurd q2 (by omega))
      omega
    rw [hn] at hh ⊢
    refine ⟨s + 1, _, _, _, _, by omega, by omega, fun j hj => ⟨pk_un (by omega), pk_un (by omega), pk_un (by omega)⟩, fun j hj => zc_hn (by omega), zc_hs, zc_emit (o := 300) (x := nI t - 250) hC (by unfold zc_v; omega) (zc_a0 (by omega)) (Nat.zero_le _) hb (fun _ _ => by rw [hh]; rfl) (fun _ z => z) (fun z => absurd z (by unfold zc_j; omega)), fun _ => by omega, fun Q q => ?_⟩
    refine pk_le 0 0 (fun _ => ?_) (fun z => absurd z (by omega))
    refine zk_in t 210 81 (fun _ => br_f (by decide) (zw_emit hs q)) (fun z => absurd z ?_)
    unfold zk_e zk_l at hte
    omega
  · obtain ⟨v1, v2, v3, v4, v5⟩ := zc_te hte (by omega)
    by_cases c2 : (0 < zk_n t ∧ ∀ q, 1 ≤ q → q ≤ zk_n t → op (s - q) = nI 300) ∧ 130 ≤ t ∧ t ≤ 142
    · obtain ⟨⟨k0, k1⟩, k2, k3⟩ := c2
      have hss := hK k1
      have n3 : zk_n t ≤ 3 := by
        rcases Nat.lt_or_ge 3 (zk_n t) with z | z
        · rw [← v2] at z
          exfalso
          by_cases y1 : t = 139
          · rw [y1] at z
            exact absurd z (by decide)
          · by_cases y2 : t = 142
            · rw [y2] at z
              exact absurd z (by decide)
            · rw [zp_h (by omega) (by omega) y1] at z
              omega
        · exact z
      obtain ⟨v, hv⟩ := zx_fold (ti := ti) (ac := ac) (ru := ru) (wc := wc) (he := he) (al := al) (ov := ov) (a1 := a1) (a2 := a2) (a3 := a3) (a4 := a4) (a5 := a5) (a6 := a6) (a7 := a7) (a8 := a8) (a9 := a9) (a10 := a10) (a11 := a11) (a12 := a12) (a13 := a13) (a14 := a14) (a25 := a25) (a26 := a26) (a27 := a27) (dp := dp) (lo := lo) (ex := ex) (op := op) (ar := ar) (tg := tg) (oa := oa) (oh := oh) (pa := pa) (pb := pb) (lt := lt) (xa := xa) (xl := xl) (t := nI t) (s := s) (n := zk_n t) k0 n3 (by omega) (by omega)
      refine ⟨s0 + 1, _, _, _, _, by omega, by omega, fun j hj => ⟨pk_un (by omega), pk_un (by omega), pk_un (by omega)⟩, fun j hj => zc_hn (by omega), zc_hs, zc_emit (o := 300) (x := v) hC0 (by unfold zc_v; omega) (zc_a0 (by omega)) (Nat.zero_le _) hb (fun _ _ => by rw [hh0]; rfl) (fun _ z => z) (fun z => absurd z (by unfold zc_j; omega)), fun _ => by omega, fun Q q => ?_⟩
      refine pk_le (zk_n t) (zk_n t) (fun _ => ?_) (fun z => absurd z (by omega))
      refine zk_in t 210 81 (fun z => absurd z (by omega)) (fun _ => br_t rfl ?_)
      refine zx_known (by omega) (by omega) (fun _ _ => br_f (by decide) ?_) (fun z => absurd ⟨k0, k1⟩ z)
      refine pk_lt t 130 (fun z => absurd z (by omega)) (fun _ => pk_lt 142 t (fun z => absurd z (by omega)) (fun _ => ?_))
      refine hv _ (nm_r (e' := nI s0) ?_ (zw_emit (by omega) q))
      rw [pk_sub (by omega), show s - zk_n t = s0 by omega]
    · refine ⟨s + 1, _, _, _, _, by omega, by omega, fun j hj => ⟨pk_un (by omega), pk_un (by omega), pk_un (by omega)⟩, fun j hj => zc_hn (by omega), zc_hs, zc_emit (o := t) (x := 0) hC v1 (zc_a0 (by omega)) (by rw [v2]; omega) hb (fun _ _ => by rw [v2, v3, hh]; omega) (fun _ z => z) (fun z => absurd z v4), fun z => ?_, fun Q q => ?_⟩
      · rw [show s + 1 - 1 = s by omega, pk_us] at z
        exact absurd z (zx_nI (by omega) (by omega) (by omega))
      · have em : wX_expression_87 Q (nI t) ti ac ru wc (nI s) dp lo ex he al ov a1 a2 a3 a4 a5 a6 a7 a8 a9 a10 a11 a12 a13 a14 op ar tg oa oh pa pb lt xa xl a25 a26 a27 := by
          unfold wX_expression_87
          exact zw_emit hs q
        refine pk_le (zk_n t) (zk_n t) (fun _ => ?_) (fun z => absurd z (by omega))
        refine zk_in t 210 81 (fun z => absurd z (by omega)) (fun _ => br_t rfl ?_)
        refine zx_known (by omega) (by omega) (fun k0 k1 => br_f (by decide) ?_) (fun z => br_t rfl em)
        refine pk_lt t 130 (fun z => em) (fun z1 => pk_lt 142 t (fun z => em) (fun z2 => absurd ⟨⟨k0, k1⟩, z1, z2⟩ c2))
/-- what running an expression's code-making leaves -/
def zw_oe (s d g : Nat) (op ar tg oa oh : Nat → Int32) (H : Nat → Nat) (P : Nat → Prop) (s' : Nat) (op' ar' tg' oa' oh' : Nat → Int32) (H' : Nat → Nat) : Prop := s < s' ∧ s' ≤ s + g ∧ (∀ j, j < s → op' j = op j ∧ ar' j = ar j ∧ tg' j = tg j) ∧ (∀ j, j ≤ s → H' j = H j) ∧ H' s' = H s + 1 ∧ zc_C s' op' ar' tg' H' P ∧ (op' (s' - 1) = nI 300 → s' = s + 1) ∧ ∀ j, j < d → oa' j = oa j ∧ oh' j = oh j
def zw_Re (post : St1 → Prop) (ti ac ru wc he al ov : Int32) (a1 a2 a3 a4 a5 a6 a7 a8 a9 a10 a11 a12 a13 a14 a25 a26 a27 : Nat → Int32) (i g : Nat) : Prop := ∀ (s d l e : Nat) (op ar tg oa oh pa pb lt xa xl : Nat → Int32) (H : Nat → Nat) (P : Nat → Prop), oa d = nI i → oh d = nI 0 → d + g ≤ 62 → s + 5 * g ≤ 390 → H s + g ≤ 70 → zc_C s op ar tg H P →
  (∀ (s' : Nat) (op' ar' tg' oa' oh' : Nat → Int32) (H' : Nat → Nat), zw_oe s d g op ar tg oa oh H P s' op' ar' tg' oa' oh' H' → ∃ n, wX_compile_29 post n ti ac ru wc (nI s') (nI d) (nI l) (nI e) he al ov a1 a2 a3 a4 a5 a6 a7 a8 a9 a10 a11 a12 a13 a14 op' ar' tg' oa' oh' pa pb lt xa xl a25 a26 a27) → ∃ n, wX_compile_29 post n ti ac ru wc (nI s) (nI (d + 1)) (nI l) (nI e) he al ov a1 a2 a3 a4 a5 a6 a7 a8 a9 a10 a11 a12 a13 a14 op ar tg oa oh pa pb lt xa xl a25 a26 a27
theorem zx_sp1 {N i : Nat} {tk sp : Nat → Nat} (h : zt_T tk sp N i) : 0 < sp i := by
  have := zt_pgt sp i (zk_n (tk i))
  have := h.1
  omega
theorem zx_run {post : St1 → Prop} {p N : Nat} {tk sp : Nat → Nat} (hg : zw_G p N tk sp ac a11 a14) : ∀ m i, sp i ≤ m → i < N → zk_e (tk i) → zw_Re post ti ac ru wc he al ov a1 a2 a3 a4 a5 a6 a7 a8 a9 a10 a11 a12 a13 a14 a25 a26 a27 i (sp i) := by
  intro m
  induction m with
  | zero =>
    intro i him hi _
    have := zx_sp1 (hg.2.2.2.2.2 i hi)
    omega
  | succ m ih =>
    intro i him hi het
    have hT := hg.2.2.2.2.2 i hi
    intro s d l e op ar tg oa oh pa pb lt xa xl H P hoa hoh hd hs hH hC hpost
    have step : ∀ r k s1 (op1 ar1 tg1 oa1 oh1 : Nat → Int32) (H1 : Nat → Nat), k + r = zk_n (tk i) → s + k ≤ s1 → s1 + (i + 1) ≤ s + zt_p sp i k → (∀ j, j < s → op1 j = op j ∧ ar1 j = ar j ∧ tg1 j = tg j) → (∀ j, j ≤ s → H1 j = H j) → H1 s1 = H s + k → zc_C s1 op1 ar1 tg1 H1 P → ((∀ q, 1 ≤ q → q ≤ k → op1 (s1 - q) = nI 300) → s1 = s + k) → oa1 d = nI i → oh1 d = nI k → (∀ j, j < d → oa1 j = oa j ∧ oh1 j = oh j) → ∃ n, wX_compile_29 post n ti ac ru wc (nI s1) (nI (d + 1)) (nI l) (nI e) he al ov a1 a2 a3 a4 a5 a6 a7 a8 a9 a10 a11 a12 a13 a14 op1 ar1 tg1 oa1 oh1 pa pb lt xa xl a25 a26 a27 := by
      intro r
      induction r with
      | zero =>
        intro k s1 op1 ar1 tg1 oa1 oh1 H1 hk hs1 hs2 hag hHag hH1 hC1 hK hoa1 hoh1 hfr
        rw [Nat.add_zero] at hk
        subst hk
        have hT1 := hT.1
        obtain ⟨s2, op2, ar2, tg2, H2, e1, e2, e3, e4, e5, e6, e7, e8⟩ := zx_end (ti := ti) (ac := ac) (ru := ru) (wc := wc) (he := he) (al := al) (ov := ov) (a1 := a1) (a2 := a2) (a3 := a3) (a4 := a4) (a5 := a5) (a6 := a6) (a7 := a7) (a8 := a8) (a9 := a9) (a10 := a10) (a11 := a11) (a12 := a12) (a13 := a13) (a14 := a14) (a25 := a25) (a26 := a26) (a27 := a27) (dp := nI (d + 1)) (lo := nI l) (ex := nI e) (op := op1) (ar := ar1) (tg := tg1) (oa := oa1) (oh := upd oh1 d (nI (zk_n (tk i) + 1))) (pa := pa) (pb := pb) (lt := lt) (xa := xa) (xl := xl) (t := tk i) (s0 := s) (h := H s) (H := H1) (P := P) het hC1 (zc_cg hC hag hHag) hs1 (by omega) hH1 (hHag s (Nat.le_refl s)) (by have := zx_sp1 hT; omega) hK
        refine zw_epo hg hi (by omega) hoa1 hoh1 het rfl e8 (hpost s2 op2 ar2 tg2 oa1 (upd oh1 d (nI (zk_n (tk i) + 1))) H2 ⟨e1, by omega, fun j hj => ?_, fun j hj => ?_, e5, e6, e7, fun j hj => ?_⟩)
        · obtain ⟨q1, q2, q3⟩ := e3 j hj
          obtain ⟨r1, r2, r3⟩ := hag j hj
          exact ⟨q1.trans r1, q2.trans r2, q3.trans r3⟩
        · rw [e4 j hj]
          exact hHag j hj
        · rw [pk_un (show j ≠ d by omega)]
          exact hfr j hj
      | succ r ihr =>
        intro k s1 op1 ar1 tg1 oa1 oh1 H1 hk hs1 hs2 hag hHag hH1 hC1 hK hoa1 hoh1 hfr
        have hkn : k < zk_n (tk i) := by omega
        obtain ⟨hj, -, hje⟩ := hT.2.2.2 k hkn
        have hje' := hje (zx_ke het)
        have hjg := zt_pgt sp i k
        have hmon := zt_pmono sp i (show k + 1 ≤ zk_n (tk i) by omega)
        have hsucc : zt_p sp i (k + 1) = zt_p sp i k + sp (zt_p sp i k) := rfl
        rw [hT.1, hsucc] at hmon
        refine zw_een hg hi (by omega) hoa1 hoh1 het hkn ?_
        refine ih (zt_p sp i k) (by omega) hj hje' s1 (d + 1) l e op1 ar1 tg1 _ _ pa pb lt xa xl H1 P pk_us pk_us (by omega) (by omega) (by omega) hC1 ?_
        intro s2 op2 ar2 tg2 oa2 oh2 H2 hq
        obtain ⟨q1, q2, q3, q4, q5, q6, q7, q8⟩ := hq
        obtain ⟨w1, w2⟩ := q8 d (Nat.lt_succ_self d)
        rw [pk_un (show d ≠ d + 1 by omega)] at w1 w2
        rw [pk_us] at w2
        refine ihr (k + 1) s2 op2 ar2 tg2 oa2 oh2 H2 (by omega) (by omega) (by omega) (fun j hj => ?_) (fun j hj => ?_) (by omega) q6 (fun z => ?_) (w1.trans hoa1) w2 (fun j hj => ?_)
        · obtain ⟨a1_, a2_, a3_⟩ := q3 j (by omega)
          obtain ⟨r1, r2, r3⟩ := hag j hj
          exact ⟨a1_.trans r1, a2_.trans r2, a3_.trans r3⟩
        · rw [q4 j (by omega)]
          exact hHag j hj
        · have y := q7 (z 1 (Nat.le_refl 1) (by omega))
          have := hK (fun q z1 z2 => by
            have y2 := z (q + 1) (by omega) (by omega)
            rw [show s2 - (q + 1) = s1 - q by omega, (q3 (s1 - q) (by omega)).1] at y2
            exact y2)
          omega
        · obtain ⟨v1, v2⟩ := q8 j (by omega)
          rw [pk_un (show j ≠ d + 1 by omega)] at v1 v2
          rw [pk_un (show j ≠ d by omega)] at v2
          obtain ⟨f1, f2⟩ := hfr j hj
          exact ⟨v1.trans f1, v2.trans f2⟩
    exact step (zk_n (tk i)) 0 s op ar tg oa oh H (by omega) (by omega) (by show s + (i + 1) ≤ s + (i + 1); omega) (fun _ _ => ⟨rfl, rfl, rfl⟩) (fun _ _ => rfl) rfl hC (fun _ => rfl) hoa hoh (fun _ _ => ⟨rfl, rfl⟩)
end
end
section
section
variable {ti ac ru wc sz dp lo ex he al ov : Int32} {a1 a2 a3 a4 a5 a6 a7 a8 a9 a10 a11 a12 a13 a14 a15 a16 a17 a18 a19 a20 a21 a22 a23 a24 a25 a26 a27 : Nat → Int32}
variable {op ar tg oa oh pa pb lt xa xl : Nat → Int32} {s d l e : Nat}
/-! what each phase of a statement does to the state -/
theorem zy_cl {n : Nat} (h : n < 400) : (nI n).toNatClampNeg = n := nI_clamp (by omega)
/-- choice -/
theorem zy_ch0 {Q : St1 → Prop} {x : Int32} (hd : d < 64) (hq : Q (ti, ac, ru, wc, nI s, dp, nI l, nI e, he, al, ov, a1, a2, a3, a4, a5, a6, a7, a8, a9, a10, a11, a12, a13, a14, op, ar, tg, oa, oh, upd pa d (-1), pb, lt, xa, xl, a25, a26, a27)) : wpX_choice Q (ti, ac, ru, wc, nI s, dp, nI l, nI e, he, al, ov, a1, a2, a3, a4, a5, a6, a7, a8, a9, a10, a11, a12, a13, a14, op, ar, tg, oa, oh, pa, pb, lt, xa, xl, a25, a26, a27) x (nI 0) (nI d) :=
  pk_eq 0 1 (fun z => absurd z (by omega)) (fun _ => pk_eq 0 0 (fun _ => ⟨pk_in d 64 hd, nm_r (e' := upd pa d (-1)) (by rw [zy_cl (by omega)]) hq⟩) (fun z => absurd rfl z))
theorem zy_ch1u {Q : St1 → Prop} {x : Int32} (hd : d < 64) (h1 : 1 ≤ s) (hs : s < 400) (ho : ¬ op (s - 1) = nI 300) (hq : Q (ti, ac, ru, wc, nI (s + 1), dp, nI l, nI e, he, al, ov, a1, a2, a3, a4, a5, a6, a7, a8, a9, a10, a11, a12, a13, a14, upd op s (nI 302), upd ar s 0, upd tg s (nI s), oa, oh, upd pa d (nI s), pb, lt, xa, xl, a25, a26, a27)) : wpX_choice Q (ti, ac, ru, wc, nI s, dp, nI l, nI e, he, al, ov, a1, a2, a3, a4, a5, a6, a7, a8, a9, a10, a11, a12, a13, a14, op, ar, tg, oa, oh, pa, pb, lt, xa, xl, a25, a26, a27) x (nI 1) (nI d) := by
  have e1 : nI s - 1 = nI (s - 1) := zx_sub h1
  have k : wX_choice_105 Q (nI 1) (nI d) ti ac ru wc (nI s) dp (nI l) (nI e) he al ov a1 a2 a3 a4 a5 a6 a7 a8 a9 a10 a11 a12 a13 a14 op ar tg oa oh pa pb lt xa xl a25 a26 a27 :=
    pk_eq 1 0 (fun z => absurd z (by omega)) (fun _ => pk_eq 1 1 (fun _ => zw_emit2 hs ⟨pk_in d 64 hd, nm_r (e' := upd pa d (nI s)) (by rw [zy_cl (by omega)]) hq⟩) (fun z => absurd rfl z))
  refine pk_eq 1 1 (fun _ => ⟨pk_in (s - 1) 400 (by omega) e1, br_f ?_ k⟩) (fun z => absurd rfl z)
  rw [e1, zy_cl (by omega)]
  exact ho
theorem zy_ch1k {p N i : Nat} {tk sp : Nat → Nat} (hg : zw_G p N tk sp ac a11 a14) (hi : i < N) (hn : zk_n (tk i) = 3) (hd : d + 1 < 64) (h1 : 1 ≤ s) (hs : s < 400) (ho : op (s - 1) = nI 300) (hpa : ¬ pa d = -2) :
    ∃ k, (k = 1 ∨ k = 2) ∧ ∀ Q : St1 → Prop, Q (ti, ac, ru, wc, nI (s - 1), nI (d + 2), nI l, nI e, he, al, ov, a1, a2, a3, a4, a5, a6, a7, a8, a9, a10, a11, a12, a13, a14, op, ar, tg, upd oa (d + 1) (nI (zt_p sp i k)), upd (upd oh d (nI 4)) (d + 1) 0, upd pa d (-2), pb, lt, xa, xl, a25, a26, a27) → wpX_choice Q (ti, ac, ru, wc, nI s, nI (d + 1), nI l, nI e, he, al, ov, a1, a2, a3, a4, a5, a6, a7, a8, a9, a10, a11, a12, a13, a14, op, ar, tg, oa, oh, pa, pb, lt, xa, xl, a25, a26, a27) (nI i) (nI 1) (nI d) := by
  have e1 : nI s - 1 = nI (s - 1) := zx_sub h1
  have i1 : vp_in (nI s - 1) 400 := pk_in (s - 1) 400 (by omega) e1
  have id : vp_in (nI d) 64 := pk_in d 64 (by omega)
  have o1 : op (nI s - 1).toNatClampNeg = 300 := by rw [e1, zy_cl (by omega)]; exact ho
  have p1 : ¬ pa (nI d).toNatClampNeg = -2 := by rw [zy_cl (by omega)]; exact hpa
  have go : ∀ k, k ≤ 3 → ∀ Q : St1 → Prop, Q (ti, ac, ru, wc, nI (s - 1), nI (d + 2), nI l, nI e, he, al, ov, a1, a2, a3, a4, a5, a6, a7, a8, a9, a10, a11, a12, a13, a14, op, ar, tg, upd oa (d + 1) (nI (zt_p sp i k)), upd (upd oh d (nI 4)) (d + 1) 0, upd pa d (-2), pb, lt, xa, xl, a25, a26, a27) → wX_choice_91 Q (nI k) (nI i) ti ac ru wc (nI (s - 1)) (nI (d + 1)) (nI l) (nI e) he al ov a1 a2 a3 a4 a5 a6 a7 a8 a9 a10 a11 a12 a13 a14 op ar tg oa (upd oh d (nI 4)) (upd pa d (-2)) pb lt xa xl a25 a26 a27 :=
    fun k hk Q hq => by
      unfold wX_choice_91
      exact zw_par hg hi (by omega) (zw_enter hd hq)
  by_cases ha : ar (nI s - 1).toNatClampNeg = 0
  · refine ⟨2, Or.inr rfl, fun Q hq => pk_eq 1 1 (fun _ => ⟨i1, br_t o1 ⟨id, br_f p1 ⟨i1, br_t ha ?_⟩⟩⟩) (fun z => absurd rfl z)⟩
    exact nm_r e1 ⟨id, nm_r (e' := upd oh d (nI 4)) (by rw [zy_cl (by omega)]; rfl) ⟨id, nm_r (e' := upd pa d (-2)) (by rw [zy_cl (by omega)]) (br_t rfl (go 2 (by omega) Q hq))⟩⟩
  · refine ⟨1, Or.inl rfl, fun Q hq => pk_eq 1 1 (fun _ => ⟨i1, br_t o1 ⟨id, br_f p1 ⟨i1, br_f ha ?_⟩⟩⟩) (fun z => absurd rfl z)⟩
    exact nm_r e1 ⟨id, nm_r (e' := upd oh d (nI 4)) (by rw [zy_cl (by omega)]; rfl) ⟨id, nm_r (e' := upd pa d (-2)) (by rw [zy_cl (by omega)]) (br_f (by decide) (go 1 (by omega) Q hq))⟩⟩
theorem zy_ch2 {Q : St1 → Prop} {x : Int32} {p : Nat} (hd : d < 64) (hs : s < 400) (hpa : pa d = nI p) (hp : p < 400) (hq : Q (ti, ac, ru, wc, nI (s + 1), dp, nI l, nI e, he, al, ov, a1, a2, a3, a4, a5, a6, a7, a8, a9, a10, a11, a12, a13, a14, upd op s (nI 301), upd ar s 0, upd (upd tg s (nI s)) p (nI (s + 1)), oa, oh, upd pa d (nI s), pb, lt, xa, xl, a25, a26, a27)) : wpX_choice Q (ti, ac, ru, wc, nI s, dp, nI l, nI e, he, al, ov, a1, a2, a3, a4, a5, a6, a7, a8, a9, a10, a11, a12, a13, a14, op, ar, tg, oa, oh, pa, pb, lt, xa, xl, a25, a26, a27) x (nI 2) (nI d) :=
  pk_eq 2 1 (fun z => absurd z (by omega)) (fun _ => pk_eq 2 0 (fun z => absurd z (by omega)) (fun _ => pk_eq 2 1 (fun z => absurd z (by omega)) (fun _ => pk_eq 2 2 (fun _ => zw_emit hs ⟨pk_in d 64 hd, zw_patch (p := p) (by rw [zy_cl (by omega)]; exact hpa) hp ⟨pk_in d 64 hd, nm_r (e' := upd pa d (nI s)) (by rw [zy_cl (by omega)]) hq⟩⟩) (fun z => absurd rfl z))))
theorem zy_ch3 {Q : St1 → Prop} {x : Int32} {p : Nat} (hd : d < 64) (hpa : pa d = nI p) (hp : p < 400) (hq : Q (ti, ac, ru, wc, nI s, dp, nI l, nI e, he, al, ov, a1, a2, a3, a4, a5, a6, a7, a8, a9, a10, a11, a12, a13, a14, op, ar, upd tg p (nI s), oa, oh, pa, pb, lt, xa, xl, a25, a26, a27)) : wpX_choice Q (ti, ac, ru, wc, nI s, dp, nI l, nI e, he, al, ov, a1, a2, a3, a4, a5, a6, a7, a8, a9, a10, a11, a12, a13, a14, op, ar, tg, oa, oh, pa, pb, lt, xa, xl, a25, a26, a27) x (nI 3) (nI d) :=
  pk_eq 3 1 (fun z => absurd z (by omega)) (fun _ => pk_eq 3 0 (fun z => absurd z (by omega)) (fun _ => pk_eq 3 1 (fun z => absurd z (by omega)) (fun _ => pk_eq 3 2 (fun z => absurd z (by omega)) (fun _ => pk_eq 3 3 (fun _ => ⟨pk_in d 64 hd, zw_patch (p := p) (by rw [zy_cl (by omega)]; exact hpa) hp hq⟩) (fun z => absurd rfl z)))))
theorem zy_ch4 {Q : St1 → Prop} {x y : Int32} (hq : Q (ti, ac, ru, wc, nI s, dp, nI l, nI e, he, al, ov, a1, a2, a3, a4, a5, a6, a7, a8, a9, a10, a11, a12, a13, a14, op, ar, tg, oa, oh, pa, pb, lt, xa, xl, a25, a26, a27)) : wpX_choice Q (ti, ac, ru, wc, nI s, dp, nI l, nI e, he, al, ov, a1, a2, a3, a4, a5, a6, a7, a8, a9, a10, a11, a12, a13, a14, op, ar, tg, oa, oh, pa, pb, lt, xa, xl, a25, a26, a27) x (nI 4) y :=
  pk_eq 4 1 (fun z => absurd z (by omega)) (fun _ => pk_eq 4 0 (fun z => absurd z (by omega)) (fun _ => pk_eq 4 1 (fun z => absurd z (by omega)) (fun _ => pk_eq 4 2 (fun z => absurd z (by omega)) (fun _ => pk_eq 4 3 (fun z => absurd z (by omega)) (fun _ => hq)))))
/-- cases -/
theorem zy_ca0 {Q : St1 → Prop} {y : Int32} (hq : Q (ti, ac, ru, wc, nI s, dp, nI l, nI e, he, al, ov, a1, a2, a3, a4, a5, a6, a7, a8, a9, a10, a11, a12, a13, a14, op, ar, tg, oa, oh, pa, pb, lt, xa, xl, a25, a26, a27)) : wpX_cases Q (ti, ac, ru, wc, nI s, dp, nI l, nI e, he, al, ov, a1, a2, a3, a4, a5, a6, a7, a8, a9, a10, a11, a12, a13, a14, op, ar, tg, oa, oh, pa, pb, lt, xa, xl, a25, a26, a27) (nI 0) y :=
  pk_eq 0 1 (fun z => absurd z (by omega)) (fun _ => pk_eq 0 2 (fun z => absurd z (by omega)) (fun _ => pk_eq 0 3 (fun z => absurd z (by omega)) (fun _ => pk_eq 0 4 (fun z => absurd z (by omega)) (fun _ => hq))))
theorem zy_ca1 {Q : St1 → Prop} (hd : d < 64) (hs : s < 400) (hq : Q (ti, ac, ru, wc, nI (s + 1), dp, nI l, nI e, he, al, ov, a1, a2, a3, a4, a5, a6, a7, a8, a9, a10, a11, a12, a13, a14, upd op s (nI 303), upd ar s 0, upd tg s (nI s), oa, oh, upd pa d (nI s), upd pb d (-1), lt, xa, xl, a25, a26, a27)) : wpX_cases Q (ti, ac, ru, wc, nI s, dp, nI l, nI e, he, al, ov, a1, a2, a3, a4, a5, a6, a7, a8, a9, a10, a11, a12, a13, a14, op, ar, tg, oa, oh, pa, pb, lt, xa, xl, a25, a26, a27) (nI 1) (nI d) :=
  pk_eq 1 1 (fun _ => zw_emit2 hs ⟨pk_in d 64 hd, nm_r (e' := upd pa d (nI s)) (by rw [zy_cl (by omega)]) ⟨pk_in d 64 hd, nm_r (e' := upd pb d (-1)) (by rw [zy_cl (by omega)]) hq⟩⟩) (fun z => absurd rfl z)
theorem zy_ca2 {Q : St1 → Prop} {p : Nat} (hd : d < 64) (hs : s + 1 < 400) (hpa : pa d = nI p) (hp : p < 400) (hq : Q (ti, ac, ru, wc, nI (s + 2), dp, nI l, nI e, he, al, ov, a1, a2, a3, a4, a5, a6, a7, a8, a9, a10, a11, a12, a13, a14, upd (upd op s (nI 301)) (s + 1) (nI 303), upd (upd ar s 0) (s + 1) 1, upd (upd (upd tg s (nI s)) p (nI (s + 1))) (s + 1) (nI (s + 1)), oa, oh, upd pa d (nI (s + 1)), upd pb d (nI s), lt, xa, xl, a25, a26, a27)) : wpX_cases Q (ti, ac, ru, wc, nI s, dp, nI l, nI e, he, al, ov, a1, a2, a3, a4, a5, a6, a7, a8, a9, a10, a11, a12, a13, a14, op, ar, tg, oa, oh, pa, pb, lt, xa, xl, a25, a26, a27) (nI 2) (nI d) :=
  pk_eq 2 1 (fun z => absurd z (by omega)) (fun _ => pk_eq 2 2 (fun _ => zw_emit3 (by omega) ⟨pk_in d 64 hd, nm_r (e' := upd pb d (nI s)) (by rw [zy_cl (by omega)]) ⟨pk_in d 64 hd, zw_patch (p := p) (by rw [zy_cl (by omega)]; exact hpa) hp (zw_emit2 hs ⟨pk_in d 64 hd, nm_r (e' := upd pa d (nI (s + 1))) (by rw [zy_cl (by omega)]) hq⟩)⟩⟩) (fun z => absurd rfl z))
theorem zy_ca3 {Q : St1 → Prop} {p : Nat} (hd : d < 64) (hs : s + 1 < 400) (hpa : pa d = nI p) (hp : p < 400) (hq : Q (ti, ac, ru, wc, nI (s + 2), dp, nI l, nI e, he, al, ov, a1, a2, a3, a4, a5, a6, a7, a8, a9, a10, a11, a12, a13, a14, upd (upd op s (nI 301)) (s + 1) (nI 304), upd (upd ar s 0) (s + 1) 0, upd (upd (upd tg s (nI s)) p (nI (s + 1))) (s + 1) (nI (s + 1)), oa, oh, upd pa d (nI s), pb, lt, xa, xl, a25, a26, a27)) : wpX_cases Q (ti, ac, ru, wc, nI s, dp, nI l, nI e, he, al, ov, a1, a2, a3, a4, a5, a6, a7, a8, a9, a10, a11, a12, a13, a14, op, ar, tg, oa, oh, pa, pb, lt, xa, xl, a25, a26, a27) (nI 3) (nI d) :=
  pk_eq 3 1 (fun z => absurd z (by omega)) (fun _ => pk_eq 3 2 (fun z => absurd z (by omega)) (fun _ => pk_eq 3 3 (fun _ => zw_emit (by omega) ⟨pk_in d 64 hd, zw_patch (p := p) (by rw [zy_cl (by omega)]; exact hpa) hp (zw_emit hs ⟨pk_in d 64 hd, nm_r (e' := upd pa d (nI s)) (by rw [zy_cl (by omega)]) hq⟩)⟩) (fun z => absurd rfl z)))
theorem zy_ca4 {Q : St1 → Prop} {p q : Nat} (hd : d < 64) (hpa : pa d = nI p) (hp : p < 400) (hpb : pb d = nI q) (hqq : q < 400) (hq : Q (ti, ac, ru, wc, nI s, dp, nI l, nI e, he, al, ov, a1, a2, a3, a4, a5, a6, a7, a8, a9, a10, a11, a12, a13, a14, op, ar, upd (upd tg p (nI s)) q (nI s), oa, oh, pa, pb, lt, xa, xl, a25, a26, a27)) : wpX_cases Q (ti, ac, ru, wc, nI s, dp, nI l, nI e, he, al, ov, a1, a2, a3, a4, a5, a6, a7, a8, a9, a10, a11, a12, a13, a14, op, ar, tg, oa, oh, pa, pb, lt, xa, xl, a25, a26, a27) (nI 4) (nI d) :=
  pk_eq 4 1 (fun z => absurd z (by omega)) (fun _ => pk_eq 4 2 (fun z => absurd z (by omega)) (fun _ => pk_eq 4 3 (fun z => absurd z (by omega)) (fun _ => pk_eq 4 4 (fun _ => ⟨pk_in d 64 hd, zw_patch (p := p) (by rw [zy_cl (by omega)]; exact hpa) hp ⟨pk_in d 64 hd, zw_patch (p := q) (by rw [zy_cl (by omega)]; exact hpb) hqq hq⟩⟩) (fun z => absurd rfl z))))
/-- while -/
theorem zy_wh0 {Q : St1 → Prop} {x : Int32} (hd : d < 64) (hs : s + 1 < 400) (hl : l < 32) (hq : Q (ti, ac, ru, wc, nI (s + 2), dp, nI (l + 1), nI e, he, al, ov, a1, a2, a3, a4, a5, a6, a7, a8, a9, a10, a11, a12, a13, a14, upd (upd op s (nI 305)) (s + 1) (nI 306), upd (upd ar s (nI l)) (s + 1) (nI l), upd (upd tg s (nI s)) (s + 1) (nI (s + 1)), oa, oh, upd pa d (nI (s + 1)), pb, upd lt l x, xa, xl, a25, a26, a27)) : wpX_whileLoop Q (ti, ac, ru, wc, nI s, dp, nI l, nI e, he, al, ov, a1, a2, a3, a4, a5, a6, a7, a8, a9, a10, a11, a12, a13, a14, op, ar, tg, oa, oh, pa, pb, lt, xa, xl, a25, a26, a27) x (nI 0) (nI d) :=
  pk_eq 0 0 (fun _ => zw_emit (by omega) ⟨pk_in l 32 hl, nm_r (e' := upd lt l x) (by rw [zy_cl (by omega)]) (zw_emit2 hs ⟨pk_in d 64 hd, nm_r (e' := upd pa d (nI (s + 1))) (by rw [zy_cl (by omega)]) (nm_r (nI_1 l) hq)⟩)⟩) (fun z => absurd rfl z)
theorem zy_wh1 {Q : St1 → Prop} {x : Int32} (hd : d < 64) (hs : s < 400) (hq : Q (ti, ac, ru, wc, nI (s + 1), dp, nI l, nI e, he, al, ov, a1, a2, a3, a4, a5, a6, a7, a8, a9, a10, a11, a12, a13, a14, upd op s (nI 302), upd ar s 0, upd tg s (nI s), oa, oh, pa, upd pb d (nI s), lt, xa, xl, a25, a26, a27)) : wpX_whileLoop Q (ti, ac, ru, wc, nI s, dp, nI l, nI e, he, al, ov, a1, a2, a3, a4, a5, a6, a7, a8, a9, a10, a11, a12, a13, a14, op, ar, tg, oa, oh, pa, pb, lt, xa, xl, a25, a26, a27) x (nI 1) (nI d) :=
  pk_eq 1 0 (fun z => absurd z (by omega)) (fun _ => pk_eq 1 1 (fun _ => zw_emit3 hs ⟨pk_in d 64 hd, nm_r (e' := upd pb d (nI s)) (by rw [zy_cl (by omega)]) hq⟩) (fun z => absurd rfl z))
theorem zy_wh2 {Q : St1 → Prop} {x : Int32} {p q : Nat} (hd : d < 64) (hs : s < 400) (hpa : pa d = nI p) (hp : p < 400) (hpb : pb d = nI q) (hqq : q < 400)
    (hq : wpX_closeLoop Q (ti, ac, ru, wc, nI (s + 1), dp, nI l, nI e, he, al, ov, a1, a2, a3, a4, a5, a6, a7, a8, a9, a10, a11, a12, a13, a14, upd op s (nI 301), upd ar s 0, upd (upd (upd (upd tg s (nI s)) s (nI p)) q (nI (s + 1))) p (nI (s + 1)), oa, oh, pa, pb, lt, xa, xl, a25, a26, a27) x) : wpX_whileLoop Q (ti, ac, ru, wc, nI s, dp, nI (l + 1), nI e, he, al, ov, a1, a2, a3, a4, a5, a6, a7, a8, a9, a10, a11, a12, a13, a14, op, ar, tg, oa, oh, pa, pb, lt, xa, xl, a25, a26, a27) x (nI 2) (nI d) := by
  have c : (nI d).toNatClampNeg = d := zy_cl (by omega)
  refine pk_eq 2 0 (fun z => absurd z (by omega)) (fun _ => pk_eq 2 1 (fun z => absurd z (by omega)) (fun _ => pk_eq 2 2 (fun _ => nm_r (nI_pred l) (zw_emit hs ⟨pk_in d 64 hd, pk_in s 400 hs, nm_r (e' := upd (upd tg s (nI s)) s (nI p)) (by rw [zy_cl hs, c, hpa]) ⟨pk_in d 64 hd, zw_patch (p := q) (by rw [c]; exact hpb) hqq ⟨pk_in d 64 hd, zw_patch (p := p) (by rw [c]; exact hpa) hp ?_⟩⟩⟩)) (fun z => absurd rfl z)))
  exact hq
/-- repeat -/
theorem zy_re0 {Q : St1 → Prop} {x : Int32} (hd : d < 64) (hs : s + 1 < 400) (hl : l < 32) (hq : Q (ti, ac, ru, wc, nI (s + 2), dp, nI (l + 1), nI e, he, al, ov, a1, a2, a3, a4, a5, a6, a7, a8, a9, a10, a11, a12, a13, a14, upd (upd op s (nI 305)) (s + 1) (nI 306), upd (upd ar s (nI l)) (s + 1) (nI l), upd (upd tg s (nI s)) (s + 1) (nI (s + 1)), oa, oh, upd pa d (nI (s + 1)), pb, upd lt l x, xa, xl, a25, a26, a27)) : wpX_repeatLoop Q (ti, ac, ru, wc, nI s, dp, nI l, nI e, he, al, ov, a1, a2, a3, a4, a5, a6, a7, a8, a9, a10, a11, a12, a13, a14, op, ar, tg, oa, oh, pa, pb, lt, xa, xl, a25, a26, a27) x (nI 0) (nI d) :=
  pk_eq 0 0 (fun _ => zw_emit (by omega) ⟨pk_in l 32 hl, nm_r (e' := upd lt l x) (by rw [zy_cl (by omega)]) (zw_emit2 hs ⟨pk_in d 64 hd, nm_r (e' := upd pa d (nI (s + 1))) (by rw [zy_cl (by omega)]) (nm_r (nI_1 l) hq)⟩)⟩) (fun z => absurd rfl z)
theorem zy_re1 {Q : St1 → Prop} {x y : Int32} (hq : Q (ti, ac, ru, wc, nI s, dp, nI l, nI e, he, al, ov, a1, a2, a3, a4, a5, a6, a7, a8, a9, a10, a11, a12, a13, a14, op, ar, tg, oa, oh, pa, pb, lt, xa, xl, a25, a26, a27)) : wpX_repeatLoop Q (ti, ac, ru, wc, nI s, dp, nI (l + 1), nI e, he, al, ov, a1, a2, a3, a4, a5, a6, a7, a8, a9, a10, a11, a12, a13, a14, op, ar, tg, oa, oh, pa, pb, lt, xa, xl, a25, a26, a27) x (nI 1) y :=
  pk_eq 1 0 (fun z => absurd z (by omega)) (fun _ => pk_eq 1 1 (fun _ => nm_r (nI_pred l) hq) (fun z => absurd rfl z))
theorem zy_re2 {Q : St1 → Prop} {x : Int32} {p : Nat} (hd : d < 64) (hs : s < 400) (hpa : pa d = nI p) (hp : p < 400)
    (hq : wpX_closeLoop Q (ti, ac, ru, wc, nI (s + 1), dp, nI l, nI e, he, al, ov, a1, a2, a3, a4, a5, a6, a7, a8, a9, a10, a11, a12, a13, a14, upd op s (nI 307), upd ar s 0, upd (upd (upd tg s (nI s)) s (nI p)) p (nI (s + 1)), oa, oh, pa, pb, lt, xa, xl, a25, a26, a27) x) : wpX_repeatLoop Q (ti, ac, ru, wc, nI s, dp, nI l, nI e, he, al, ov, a1, a2, a3, a4, a5, a6, a7, a8, a9, a10, a11, a12, a13, a14, op, ar, tg, oa, oh, pa, pb, lt, xa, xl, a25, a26, a27) x (nI 2) (nI d) := by
  have c : (nI d).toNatClampNeg = d := zy_cl (by omega)
  refine pk_eq 2 0 (fun z => absurd z (by omega)) (fun _ => pk_eq 2 1 (fun z => absurd z (by omega)) (fun _ => pk_eq 2 2 (fun _ => zw_emit hs ⟨pk_in d 64 hd, pk_in s 400 hs, nm_r (e' := upd (upd tg s (nI s)) s (nI p)) (by rw [zy_cl hs, c, hpa]) ⟨pk_in d 64 hd, zw_patch (p := p) (by rw [c]; exact hpa) hp ?_⟩⟩) (fun z => absurd rfl z)))
  exact hq
/-- for -/
theorem zy_fo0 {Q : St1 → Prop} {x y z : Int32} {k : Nat} (hk : k < 2) (hq : Q (ti, ac, ru, wc, nI s, dp, nI l, nI e, he, al, ov, a1, a2, a3, a4, a5, a6, a7, a8, a9, a10, a11, a12, a13, a14, op, ar, tg, oa, oh, pa, pb, lt, xa, xl, a25, a26, a27)) : wpX_forLoop Q (ti, ac, ru, wc, nI s, dp, nI l, nI e, he, al, ov, a1, a2, a3, a4, a5, a6, a7, a8, a9, a10, a11, a12, a13, a14, op, ar, tg, oa, oh, pa, pb, lt, xa, xl, a25, a26, a27) x y (nI k) z :=
  nm_e (pk_eq k 2 (fun z => absurd z (by omega)) (fun _ => pk_eq k 3 (fun z => absurd z (by omega)) (fun _ => hq)))
theorem zy_fo2 {Q : St1 → Prop} {x : Int32} {v : Nat} (hv : v < 16) (hd : d < 64) (hs : s + 2 < 400) (hl : l < 32) (hq : Q (ti, ac, ru, wc, nI (s + 3), dp, nI (l + 1), nI e, he, al, ov, a1, a2, a3, a4, a5, a6, a7, a8, a9, a10, a11, a12, a13, a14, upd (upd (upd op s (nI 308)) (s + 1) (nI (10 + v))) (s + 2) (nI 309), upd (upd (upd ar s (nI l)) (s + 1) 0) (s + 2) (nI (32 * v + l)), upd (upd (upd tg s (nI s)) (s + 1) (nI (s + 1))) (s + 2) (nI (s + 2)), oa, oh, upd pa d (nI (s + 2)), pb, upd lt l x, xa, xl, a25, a26, a27)) : wpX_forLoop Q (ti, ac, ru, wc, nI s, dp, nI l, nI e, he, al, ov, a1, a2, a3, a4, a5, a6, a7, a8, a9, a10, a11, a12, a13, a14, op, ar, tg, oa, oh, pa, pb, lt, xa, xl, a25, a26, a27) x (nI (40 + v)) (nI 2) (nI d) := by
  refine nm_r (e' := nI v) (by rw [zx_sub (b := 40) (by omega), show 40 + v - 40 = v by omega]) (pk_eq 2 2 (fun _ => ?_) (fun z => absurd rfl z))
  have ev : (10 : Int32) + nI v = nI (10 + v) := by show nI 10 + nI v = _; rw [nI_add]
  have el : (32 : Int32) * nI v + nI l = nI (32 * v + l) := by show nI 32 * nI v + nI l = _; rw [pk_mul, nI_add]
  rw [ev]
  refine zw_emit (by omega) (zw_emit (by omega) ⟨pk_in l 32 hl, nm_r (e' := upd lt l x) (by rw [zy_cl (by omega)]) ?_⟩)
  rw [el]
  exact zw_emit2 hs ⟨pk_in d 64 hd, nm_r (e' := upd pa d (nI (s + 2))) (by rw [zy_cl (by omega)]) (nm_r (nI_1 l) hq)⟩
theorem zy_fo3 {Q : St1 → Prop} {x : Int32} {v p : Nat} (hv : v < 16) (hd : d < 64) (hs : s + 1 < 400) (hpa : pa d = nI p) (hp : p < 400)
    (hq : wpX_closeLoop Q (ti, ac, ru, wc, nI (s + 2), dp, nI l, nI e, he, al, ov, a1, a2, a3, a4, a5, a6, a7, a8, a9, a10, a11, a12, a13, a14, upd (upd op s (nI 310)) (s + 1) (nI 301), upd (upd ar s (nI v)) (s + 1) 0, upd (upd (upd (upd tg s (nI s)) (s + 1) (nI (s + 1))) (s + 1) (nI p)) p (nI (s + 2)), oa, oh, pa, pb, lt, xa, xl, a25, a26, a27) x) : wpX_forLoop Q (ti, ac, ru, wc, nI s, dp, nI (l + 1), nI e, he, al, ov, a1, a2, a3, a4, a5, a6, a7, a8, a9, a10, a11, a12, a13, a14, op, ar, tg, oa, oh, pa, pb, lt, xa, xl, a25, a26, a27) x (nI (40 + v)) (nI 3) (nI d) := by
  have c : (nI d).toNatClampNeg = d := zy_cl (by omega)
  refine nm_r (e' := nI v) (by rw [zx_sub (b := 40) (by omega), show 40 + v - 40 = v by omega]) (pk_eq 3 2 (fun z => absurd z (by omega)) (fun _ => pk_eq 3 3 (fun _ => nm_r (nI_pred l) ?_) (fun z => absurd rfl z)))
  refine zw_emit (by omega) (zw_emit hs ⟨pk_in d 64 hd, pk_in (s + 1) 400 hs, nm_r (e' := upd (upd (upd tg s (nI s)) (s + 1) (nI (s + 1))) (s + 1) (nI p)) (by rw [zy_cl hs, c, hpa]) ⟨pk_in d 64 hd, zw_patch (p := p) (by rw [c]; exact hpa) hp ?_⟩⟩)
  exact hq
/-- leave -/
theorem zy_lv0 {Q : St1 → Prop} (hs : s < 400) (hl : l = 0) (hq : Q (ti, ac, ru, wc, nI (s + 1), dp, nI l, nI e, he, al, ov, a1, a2, a3, a4, a5, a6, a7, a8, a9, a10, a11, a12, a13, a14, upd op s (nI 311), upd ar s 0, upd tg s (nI s), oa, oh, pa, pb, lt, xa, xl, a25, a26, a27)) : wpX_leave Q (ti, ac, ru, wc, nI s, dp, nI l, nI e, he, al, ov, a1, a2, a3, a4, a5, a6, a7, a8, a9, a10, a11, a12, a13, a14, op, ar, tg, oa, oh, pa, pb, lt, xa, xl, a25, a26, a27) := by
  refine pk_le l 0 (fun _ => ?_) (fun z => absurd z (by omega))
  unfold wX_leave_17
  exact zw_emit hs (pk_le l 0 (fun _ => hq) (fun z => absurd z (by omega)))
theorem zy_lv1 {Q : St1 → Prop} (hs : s < 400) (hl : 0 < l) (hl2 : l ≤ 32) (he_ : e < 64) (hq : Q (ti, ac, ru, wc, nI (s + 1), dp, nI l, nI (e + 1), he, al, ov, a1, a2, a3, a4, a5, a6, a7, a8, a9, a10, a11, a12, a13, a14, upd op s (nI 301), upd ar s 0, upd tg s (nI s), oa, oh, pa, pb, lt, upd xa e (nI s), upd xl e (lt (l - 1)), a25, a26, a27)) : wpX_leave Q (ti, ac, ru, wc, nI s, dp, nI l, nI e, he, al, ov, a1, a2, a3, a4, a5, a6, a7, a8, a9, a10, a11, a12, a13, a14, op, ar, tg, oa, oh, pa, pb, lt, xa, xl, a25, a26, a27) := by
  have e1 : nI l - 1 = nI (l - 1) := zx_sub hl
  refine pk_le l 0 (fun z => absurd z (by omega)) (fun _ => ?_)
  unfold wX_leave_17
  exact zw_emit hs (pk_le l 0 (fun z => absurd z (by omega)) (fun _ => ⟨pk_in e 64 he_, nm_r (e' := upd xa e (nI s)) (by rw [zy_cl (by omega)]) ⟨pk_in (l - 1) 32 (by omega) e1, pk_in e 64 he_, nm_r (e' := upd xl e (lt (l - 1))) (by rw [zy_cl (show e < 400 by omega), e1, zy_cl (show l - 1 < 400 by omega)]) (nm_r (nI_1 e) hq)⟩⟩))
/-- which one it is -/
theorem zy_d35 {Q : St1 → Prop} {x y z : Int32} {t : Nat} {sz' dp' lo' ex' : Int32} {op' ar' tg' oa' oh' pa' pb' lt' xa' xl' : Nat → Int32} (ht : t = 35) (h : ∀ Q' : St1 → Prop, Q' (ti, ac, ru, wc, sz', dp', lo', ex', he, al, ov, a1, a2, a3, a4, a5, a6, a7, a8, a9, a10, a11, a12, a13, a14, op', ar', tg', oa', oh', pa', pb', lt', xa', xl', a25, a26, a27) → wpX_choice Q' (ti, ac, ru, wc, nI s, dp, nI l, nI e, he, al, ov, a1, a2, a3, a4, a5, a6, a7, a8, a9, a10, a11, a12, a13, a14, op, ar, tg, oa, oh, pa, pb, lt, xa, xl, a25, a26, a27) x y z) (hq : Q (ti, ac, ru, wc, sz', dp', lo', ex', he, al, ov, a1, a2, a3, a4, a5, a6, a7, a8, a9, a10, a11, a12, a13, a14, op', ar', tg', oa', oh', pa', pb', lt', xa', xl', a25, a26, a27)) : wpX_statement Q (ti, ac, ru, wc, nI s, dp, nI l, nI e, he, al, ov, a1, a2, a3, a4, a5, a6, a7, a8, a9, a10, a11, a12, a13, a14, op, ar, tg, oa, oh, pa, pb, lt, xa, xl, a25, a26, a27) x (nI t) y z := by
  subst ht
  unfold wpX_statement
  exact zk_parts 35 (br_t rfl (h _ hq))
theorem zy_d56 {Q : St1 → Prop} {x y z : Int32} {t : Nat} {sz' dp' lo' ex' : Int32} {op' ar' tg' oa' oh' pa' pb' lt' xa' xl' : Nat → Int32} (ht : t = 56) (h : ∀ Q' : St1 → Prop, Q' (ti, ac, ru, wc, sz', dp', lo', ex', he, al, ov, a1, a2, a3, a4, a5, a6, a7, a8, a9, a10, a11, a12, a13, a14, op', ar', tg', oa', oh', pa', pb', lt', xa', xl', a25, a26, a27) → wpX_cases Q' (ti, ac, ru, wc, nI s, dp, nI l, nI e, he, al, ov, a1, a2, a3, a4, a5, a6, a7, a8, a9, a10, a11, a12, a13, a14, op, ar, tg, oa, oh, pa, pb, lt, xa, xl, a25, a26, a27) y z) (hq : Q (ti, ac, ru, wc, sz', dp', lo', ex', he, al, ov, a1, a2, a3, a4, a5, a6, a7, a8, a9, a10, a11, a12, a13, a14, op', ar', tg', oa', oh', pa', pb', lt', xa', xl', a25, a26, a27)) : wpX_statement Q (ti, ac, ru, wc, nI s, dp, nI l, nI e, he, al, ov, a1, a2, a3, a4, a5, a6, a7, a8, a9, a10, a11, a12, a13, a14, op, ar, tg, oa, oh, pa, pb, lt, xa, xl, a25, a26, a27) x (nI t) y z := by
  subst ht
  unfold wpX_statement
  exact zk_parts 56 (br_f (by decide) (br_t rfl (h _ hq)))
theorem zy_d36 {Q : St1 → Prop} {x y z : Int32} {t : Nat} {sz' dp' lo' ex' : Int32} {op' ar' tg' oa' oh' pa' pb' lt' xa' xl' : Nat → Int32} (ht : t = 36) (h : ∀ Q' : St1 → Prop, Q' (ti, ac, ru, wc, sz', dp', lo', ex', he, al, ov, a1, a2, a3, a4, a5, a6, a7, a8, a9, a10, a11, a12, a13, a14, op', ar', tg', oa', oh', pa', pb', lt', xa', xl', a25, a26, a27) → wpX_whileLoop Q' (ti, ac, ru, wc, nI s, dp, nI l, nI e, he, al, ov, a1, a2, a3, a4, a5, a6, a7, a8, a9, a10, a11, a12, a13, a14, op, ar, tg, oa, oh, pa, pb, lt, xa, xl, a25, a26, a27) x y z) (hq : Q (ti, ac, ru, wc, sz', dp', lo', ex', he, al, ov, a1, a2, a3, a4, a5, a6, a7, a8, a9, a10, a11, a12, a13, a14, op', ar', tg', oa', oh', pa', pb', lt', xa', xl', a25, a26, a27)) : wpX_statement Q (ti, ac, ru, wc, nI s, dp, nI l, nI e, he, al, ov, a1, a2, a3, a4, a5, a6, a7, a8, a9, a10, a11, a12, a13, a14, op, ar, tg, oa, oh, pa, pb, lt, xa, xl, a25, a26, a27) x (nI t) y z := by
  subst ht
  unfold wpX_statement
  exact zk_parts 36 (br_f (by decide) (br_f (by decide) (br_t rfl (h _ hq))))
theorem zy_d37 {Q : St1 → Prop} {x y z : Int32} {t : Nat} {sz' dp' lo' ex' : Int32} {op' ar' tg' oa' oh' pa' pb' lt' xa' xl' : Nat → Int32} (ht : t = 37) (h : ∀ Q' : St1 → Prop, Q' (ti, ac, ru, wc, sz', dp', lo', ex', he, al, ov, a1, a2, a3, a4, a5, a6, a7, a8, a9, a10, a11, a12, a13, a14, op', ar', tg', oa', oh', pa', pb', lt', xa', xl', a25, a26, a27) → wpX_repeatLoop Q' (ti, ac, ru, wc, nI s, dp, nI l, nI e, he, al, ov, a1, a2, a3, a4, a5, a6, a7, a8, a9, a10, a11, a12, a13, a14, op, ar, tg, oa, oh, pa, pb, lt, xa, xl, a25, a26, a27) x y z) (hq : Q (ti, ac, ru, wc, sz', dp', lo', ex', he, al, ov, a1, a2, a3, a4, a5, a6, a7, a8, a9, a10, a11, a12, a13, a14, op', ar', tg', oa', oh', pa', pb', lt', xa', xl', a25, a26, a27)) : wpX_statement Q (ti, ac, ru, wc, nI s, dp, nI l, nI e, he, al, ov, a1, a2, a3, a4, a5, a6, a7, a8, a9, a10, a11, a12, a13, a14, op, ar, tg, oa, oh, pa, pb, lt, xa, xl, a25, a26, a27) x (nI t) y z := by
  subst ht
  unfold wpX_statement
  exact zk_parts 37 (br_f (by decide) (br_f (by decide) (br_f (by decide) (br_t rfl (h _ hq)))))
theorem zy_d40 {Q : St1 → Prop} {x y z : Int32} {t v : Nat} {sz' dp' lo' ex' : Int32} {op' ar' tg' oa' oh' pa' pb' lt' xa' xl' : Nat → Int32} (ht : t = 40 + v) (hv : v < 16) (h : ∀ Q' : St1 → Prop, Q' (ti, ac, ru, wc, sz', dp', lo', ex', he, al, ov, a1, a2, a3, a4, a5, a6, a7, a8, a9, a10, a11, a12, a13, a14, op', ar', tg', oa', oh', pa', pb', lt', xa', xl', a25, a26, a27) → wpX_forLoop Q' (ti, ac, ru, wc, nI s, dp, nI l, nI e, he, al, ov, a1, a2, a3, a4, a5, a6, a7, a8, a9, a10, a11, a12, a13, a14, op, ar, tg, oa, oh, pa, pb, lt, xa, xl, a25, a26, a27) x (nI (40 + v)) y z) (hq : Q (ti, ac, ru, wc, sz', dp', lo', ex', he, al, ov, a1, a2, a3, a4, a5, a6, a7, a8, a9, a10, a11, a12, a13, a14, op', ar', tg', oa', oh', pa', pb', lt', xa', xl', a25, a26, a27)) : wpX_statement Q (ti, ac, ru, wc, nI s, dp, nI l, nI e, he, al, ov, a1, a2, a3, a4, a5, a6, a7, a8, a9, a10, a11, a12, a13, a14, op, ar, tg, oa, oh, pa, pb, lt, xa, xl, a25, a26, a27) x (nI t) y z := by
  subst ht
  unfold wpX_statement
  exact zk_parts (40 + v) (pk_eq (40 + v) 35 (fun z => absurd z (by omega)) (fun _ => pk_eq (40 + v) 56 (fun z => absurd z (by omega)) (fun _ => pk_eq (40 + v) 36 (fun z => absurd z (by omega)) (fun _ => pk_eq (40 + v) 37 (fun z => absurd z (by omega)) (fun _ => zk_in (40 + v) 40 16 (fun _ => br_f (by decide) (h _ hq)) (fun z => absurd z (by omega)))))))
theorem zy_d39 {Q : St1 → Prop} {x y z : Int32} {t : Nat} {sz' dp' lo' ex' : Int32} {op' ar' tg' oa' oh' pa' pb' lt' xa' xl' : Nat → Int32} (ht : t = 39) (h : ∀ Q' : St1 → Prop, Q' (ti, ac, ru, wc, sz', dp', lo', ex', he, al, ov, a1, a2, a3, a4, a5, a6, a7, a8, a9, a10, a11, a12, a13, a14, op', ar', tg', oa', oh', pa', pb', lt', xa', xl', a25, a26, a27) → wpX_leave Q' (ti, ac, ru, wc, nI s, dp, nI l, nI e, he, al, ov, a1, a2, a3, a4, a5, a6, a7, a8, a9, a10, a11, a12, a13, a14, op, ar, tg, oa, oh, pa, pb, lt, xa, xl, a25, a26, a27)) (hq : Q (ti, ac, ru, wc, sz', dp', lo', ex', he, al, ov, a1, a2, a3, a4, a5, a6, a7, a8, a9, a10, a11, a12, a13, a14, op', ar', tg', oa', oh', pa', pb', lt', xa', xl', a25, a26, a27)) : wpX_statement Q (ti, ac, ru, wc, nI s, dp, nI l, nI e, he, al, ov, a1, a2, a3, a4, a5, a6, a7, a8, a9, a10, a11, a12, a13, a14, op, ar, tg, oa, oh, pa, pb, lt, xa, xl, a25, a26, a27) x (nI t) y z := by
  subst ht
  unfold wpX_statement
  exact zk_parts 39 (br_f (by decide) (br_f (by decide) (br_f (by decide) (br_f (by decide) (zk_in 39 40 16 (fun z => absurd z (by omega)) (fun _ => br_t rfl (br_t rfl (h _ hq))))))))
theorem zy_d1 {Q : St1 → Prop} {x y z : Int32} {t : Nat} (ht : t = 1 ∨ t = 2) (hq : Q (ti, ac, ru, wc, nI s, dp, nI l, nI e, he, al, ov, a1, a2, a3, a4, a5, a6, a7, a8, a9, a10, a11, a12, a13, a14, op, ar, tg, oa, oh, pa, pb, lt, xa, xl, a25, a26, a27)) : wpX_statement Q (ti, ac, ru, wc, nI s, dp, nI l, nI e, he, al, ov, a1, a2, a3, a4, a5, a6, a7, a8, a9, a10, a11, a12, a13, a14, op, ar, tg, oa, oh, pa, pb, lt, xa, xl, a25, a26, a27) x (nI t) y z := by
  unfold wpX_statement
  exact zk_parts t (pk_eq t 35 (fun z => absurd z (by omega)) (fun _ => pk_eq t 56 (fun z => absurd z (by omega)) (fun _ => pk_eq t 36 (fun z => absurd z (by omega)) (fun _ => pk_eq t 37 (fun z => absurd z (by omega)) (fun _ => zk_in t 40 16 (fun z => absurd z (by omega)) (fun _ => br_t rfl (pk_eq t 39 (fun z => absurd z (by omega)) (fun _ => pk_eq t 1 (fun _ => hq) (fun _ => pk_eq t 2 (fun _ => hq) (fun z => absurd z (by omega)))))))))))
theorem zy_dp {Q : St1 → Prop} {x z : Int32} {t k : Nat} (ht : zc_pl t) (hk : k < 100) (h1 : k = zk_n t → s < 400 ∧ Q (ti, ac, ru, wc, nI (s + 1), dp, nI l, nI e, he, al, ov, a1, a2, a3, a4, a5, a6, a7, a8, a9, a10, a11, a12, a13, a14, upd op s (nI t), upd ar s 0, upd tg s (nI s), oa, oh, pa, pb, lt, xa, xl, a25, a26, a27)) (h0 : k ≠ zk_n t → Q (ti, ac, ru, wc, nI s, dp, nI l, nI e, he, al, ov, a1, a2, a3, a4, a5, a6, a7, a8, a9, a10, a11, a12, a13, a14, op, ar, tg, oa, oh, pa, pb, lt, xa, xl, a25, a26, a27)) : wpX_statement Q (ti, ac, ru, wc, nI s, dp, nI l, nI e, he, al, ov, a1, a2, a3, a4, a5, a6, a7, a8, a9, a10, a11, a12, a13, a14, op, ar, tg, oa, oh, pa, pb, lt, xa, xl, a25, a26, a27) x (nI t) (nI k) z := by
  have h4 := zk_nle t
  unfold zc_pl at ht
  unfold wpX_statement
  exact zk_parts t (pk_eq t 35 (fun z => absurd z (by omega)) (fun _ => pk_eq t 56 (fun z => absurd z (by omega)) (fun _ => pk_eq t 36 (fun z => absurd z (by omega)) (fun _ => pk_eq t 37 (fun z => absurd z (by omega)) (fun _ => zk_in t 40 16 (fun z => absurd z (by omega)) (fun _ => br_t rfl (pk_eq t 39 (fun z => absurd z (by omega)) (fun _ => pk_eq t 1 (fun z => absurd z (by omega)) (fun _ => pk_eq t 2 (fun z => absurd z (by omega)) (fun _ => pk_eq k (zk_n t) (fun y => zw_emit (h1 y).1 (h1 y).2) (fun y => h0 y)))))))))))
end
end
section
section
variable {ti ac ru wc sz dp lo ex he al ov : Int32} {a1 a2 a3 a4 a5 a6 a7 a8 a9 a10 a11 a12 a13 a14 a15 a16 a17 a18 a19 a20 a21 a22 a23 a24 a25 a26 a27 : Nat → Int32}
variable {op ar tg oa oh pa pb lt xa xl : Nat → Int32} {s d l e : Nat}
def zy_ag {α : Type} (n : Nat) (f g : Nat → α) : Prop := ∀ j, j < n → f j = g j
theorem zy_r {α : Type} {n : Nat} {f : Nat → α} : zy_ag n f f := fun _ _ => rfl
theorem zy_u {n k : Nat} {f g : Nat → Int32} {x : Int32} (h : zy_ag n f g) (hk : n ≤ k) : zy_ag n (upd f k x) g := fun j hj => (pk_un (show j ≠ k by omega)).trans (h j hj)
theorem zy_h {n k v : Nat} {f g : Nat → Nat} (h : zy_ag n f g) (hk : n ≤ k) : zy_ag n (zc_h f k v) g := fun j hj => (zc_hn (show j ≠ k by omega)).trans (h j hj)
theorem zy_t {α : Type} {n m : Nat} {f g f' : Nat → α} (h2 : zy_ag m f' f) (h : zy_ag n f g) (hm : n ≤ m) : zy_ag n f' g := fun j hj => (h2 j (by omega)).trans (h j hj)
/-- what running a statement's code-making leaves -/
def zw_os (s d e g : Nat) (op oa oh pa pb : Nat → Int32) (H : Nat → Nat) (P : Nat → Prop) (s' e' : Nat) (op' ar' tg' oa' oh' pa' pb' xa' : Nat → Int32) (H' : Nat → Nat) : Prop := s ≤ s' ∧ s' ≤ s + 5 * g ∧ e' ≤ e + g ∧ zy_ag s op' op ∧ zy_ag (s + 1) H' H ∧ H' s' = 0 ∧ zc_C s' op' ar' tg' H' P ∧ zc_X e' xa' s' op' H' ∧ zy_ag d oa' oa ∧ zy_ag d oh' oh ∧ zy_ag d pa' pa ∧ zy_ag d pb' pb
def zw_Rs (post : St1 → Prop) (ti ac ru wc he al ov : Int32) (a1 a2 a3 a4 a5 a6 a7 a8 a9 a10 a11 a12 a13 a14 a25 a26 a27 : Nat → Int32) (i g : Nat) : Prop := ∀ (s d l e : Nat) (op ar tg oa oh pa pb lt xa xl : Nat → Int32) (H : Nat → Nat) (P : Nat → Prop), oa d = nI i → oh d = nI 0 → d + g ≤ 62 → s + 5 * g ≤ 390 → 2 * l + g ≤ 62 → e + g ≤ 64 → H s = 0 → zc_C s op ar tg H P → zc_X e xa s op H →
  (∀ (s' e' : Nat) (op' ar' tg' oa' oh' pa' pb' lt' xa' xl' : Nat → Int32) (H' : Nat → Nat), zw_os s d e g op oa oh pa pb H P s' e' op' ar' tg' oa' oh' pa' pb' xa' H' → ∃ n, wX_compile_29 post n ti ac ru wc (nI s') (nI d) (nI l) (nI e') he al ov a1 a2 a3 a4 a5 a6 a7 a8 a9 a10 a11 a12 a13 a14 op' ar' tg' oa' oh' pa' pb' lt' xa' xl' a25 a26 a27) → ∃ n, wX_compile_29 post n ti ac ru wc (nI s) (nI (d + 1)) (nI l) (nI e) he al ov a1 a2 a3 a4 a5 a6 a7 a8 a9 a10 a11 a12 a13 a14 op ar tg oa oh pa pb lt xa xl a25 a26 a27
/-- a phase, then an expression as the part -/
theorem zy_pe {post : St1 → Prop} {p N i k s1 l1 e1 : Nat} {tk sp : Nat → Nat} {op1 ar1 tg1 oa1 oh1 pa1 pb1 lt1 xa1 xl1 : Nat → Int32} {H : Nat → Nat} {P : Nat → Prop} (hg : zw_G p N tk sp ac a11 a14) (hi : i < N) (hs : zk_s (tk i)) (hk : k < zk_n (tk i)) (hke : ¬ zk_k (tk i) k) (hoa : oa d = nI i) (hoh : oh d = nI k)
    (hd : d + 1 + sp (zt_p sp i k) ≤ 62) (hs1 : s1 + 5 * sp (zt_p sp i k) ≤ 390) (hH : H s1 + sp (zt_p sp i k) ≤ 70) (hC : zc_C s1 op1 ar1 tg1 H P)
    (E : ∀ Q : St1 → Prop, Q (ti, ac, ru, wc, nI s1, nI (d + 1), nI l1, nI e1, he, al, ov, a1, a2, a3, a4, a5, a6, a7, a8, a9, a10, a11, a12, a13, a14, op1, ar1, tg1, oa1, oh1, pa1, pb1, lt1, xa1, xl1, a25, a26, a27) → wpX_statement Q (ti, ac, ru, wc, nI s, nI (d + 1), nI l, nI e, he, al, ov, a1, a2, a3, a4, a5, a6, a7, a8, a9, a10, a11, a12, a13, a14, op, ar, tg, oa, upd oh d (nI (k + 1)), pa, pb, lt, xa, xl, a25, a26, a27) (nI i) (nI (tk i)) (nI k) (nI d))
    (K : ∀ (s2 : Nat) (op2 ar2 tg2 oa2 oh2 : Nat → Int32) (H2 : Nat → Nat), s1 < s2 → s2 ≤ s1 + sp (zt_p sp i k) → zy_ag s1 op2 op1 → zy_ag s1 ar2 ar1 → zy_ag s1 tg2 tg1 → zy_ag (s1 + 1) H2 H → H2 s2 = H s1 + 1 → zc_C s2 op2 ar2 tg2 H2 P → (op2 (s2 - 1) = nI 300 → s2 = s1 + 1) → zy_ag (d + 1) oa2 oa1 → zy_ag (d + 1) oh2 oh1 → ∃ n, wX_compile_29 post n ti ac ru wc (nI s2) (nI (d + 1)) (nI l1) (nI e1) he al ov a1 a2 a3 a4 a5 a6 a7 a8 a9 a10 a11 a12 a13 a14 op2 ar2 tg2 oa2 oh2 pa1 pb1 lt1 xa1 xl1 a25 a26 a27) : ∃ n, wX_compile_29 post n ti ac ru wc (nI s) (nI (d + 1)) (nI l) (nI e) he al ov a1 a2 a3 a4 a5 a6 a7 a8 a9 a10 a11 a12 a13 a14 op ar tg oa oh pa pb lt xa xl a25 a26 a27 := by
  obtain ⟨hj, -, hje⟩ := (hg.2.2.2.2.2 i hi).2.2.2 k hk
  refine zw_sen hg hi (by omega) hoa hoh hs hk rfl E ?_
  refine zx_run hg _ (zt_p sp i k) (Nat.le_refl _) hj (hje hke) s1 (d + 1) l1 e1 op1 ar1 tg1 _ _ pa1 pb1 lt1 xa1 xl1 H P pk_us pk_us (by omega) (by omega) (by omega) hC ?_
  intro s2 op2 ar2 tg2 oa2 oh2 H2 hq
  obtain ⟨q1, q2, q3, q4, q5, q6, q7, q8⟩ := hq
  exact K s2 op2 ar2 tg2 oa2 oh2 H2 q1 q2 (fun j hj => (q3 j hj).1) (fun j hj => (q3 j hj).2.1) (fun j hj => (q3 j hj).2.2) (fun j hj => q4 j (by omega)) q5 q6 q7 (fun j hj => ((q8 j hj).1).trans (pk_un (show j ≠ d + 1 by omega))) (fun j hj => ((q8 j hj).2).trans (pk_un (show j ≠ d + 1 by omega)))
/-- a phase, then a statement as the part -/
theorem zy_ps {post : St1 → Prop} {p N i k s1 l1 e1 : Nat} {tk sp : Nat → Nat} {op1 ar1 tg1 oa1 oh1 pa1 pb1 lt1 xa1 xl1 : Nat → Int32} {H : Nat → Nat} {P : Nat → Prop} (hg : zw_G p N tk sp ac a11 a14) (hi : i < N) (hs : zk_s (tk i)) (hk : k < zk_n (tk i)) (hR : zw_Rs post ti ac ru wc he al ov a1 a2 a3 a4 a5 a6 a7 a8 a9 a10 a11 a12 a13 a14 a25 a26 a27 (zt_p sp i k) (sp (zt_p sp i k))) (hoa : oa d = nI i) (hoh : oh d = nI k)
    (hd : d + 1 + sp (zt_p sp i k) ≤ 62) (hs1 : s1 + 5 * sp (zt_p sp i k) ≤ 390) (hl1 : 2 * l1 + sp (zt_p sp i k) ≤ 62) (he1 : e1 + sp (zt_p sp i k) ≤ 64) (hH : H s1 = 0) (hC : zc_C s1 op1 ar1 tg1 H P) (hX : zc_X e1 xa1 s1 op1 H)
    (E : ∀ Q : St1 → Prop, Q (ti, ac, ru, wc, nI s1, nI (d + 1), nI l1, nI e1, he, al, ov, a1, a2, a3, a4, a5, a6, a7, a8, a9, a10, a11, a12, a13, a14, op1, ar1, tg1, oa1, oh1, pa1, pb1, lt1, xa1, xl1, a25, a26, a27) → wpX_statement Q (ti, ac, ru, wc, nI s, nI (d + 1), nI l, nI e, he, al, ov, a1, a2, a3, a4, a5, a6, a7, a8, a9, a10, a11, a12, a13, a14, op, ar, tg, oa, upd oh d (nI (k + 1)), pa, pb, lt, xa, xl, a25, a26, a27) (nI i) (nI (tk i)) (nI k) (nI d))
    (K : ∀ (s2 e2 : Nat) (op2 ar2 tg2 oa2 oh2 pa2 pb2 lt2 xa2 xl2 : Nat → Int32) (H2 : Nat → Nat), zw_os s1 (d + 1) e1 (sp (zt_p sp i k)) op1 oa1 oh1 pa1 pb1 H P s2 e2 op2 ar2 tg2 oa2 oh2 pa2 pb2 xa2 H2 → ∃ n, wX_compile_29 post n ti ac ru wc (nI s2) (nI (d + 1)) (nI l1) (nI e2) he al ov a1 a2 a3 a4 a5 a6 a7 a8 a9 a10 a11 a12 a13 a14 op2 ar2 tg2 oa2 oh2 pa2 pb2 lt2 xa2 xl2 a25 a26 a27) : ∃ n, wX_compile_29 post n ti ac ru wc (nI s) (nI (d + 1)) (nI l) (nI e) he al ov a1 a2 a3 a4 a5 a6 a7 a8 a9 a10 a11 a12 a13 a14 op ar tg oa oh pa pb lt xa xl a25 a26 a27 := by
  refine zw_sen hg hi (by omega) hoa hoh hs hk rfl E ?_
  refine hR s1 (d + 1) l1 e1 op1 ar1 tg1 _ _ pa1 pb1 lt1 xa1 xl1 H P pk_us pk_us (by omega) (by omega) (by omega) (by omega) hH hC hX ?_
  intro s2 e2 op2 ar2 tg2 oa2 oh2 pa2 pb2 lt2 xa2 xl2 H2 hq
  obtain ⟨q1, q2, q3, q4, q5, q6, q7, q8, q9, qa, qb, qc⟩ := hq
  exact K s2 e2 op2 ar2 tg2 oa2 oh2 pa2 pb2 lt2 xa2 xl2 H2 ⟨q1, q2, q3, q4, q5, q6, q7, q8, fun j hj => (q9 j hj).trans (pk_un (show j ≠ d + 1 by omega)), fun j hj => (qa j hj).trans (pk_un (show j ≠ d + 1 by omega)), qb, qc⟩
/-- spans of the parts -/
theorem zy_sp {N i : Nat} {tk sp : Nat → Nat} (hT : ∀ i, i < N → zt_T tk sp N i) (hi : i < N) {k : Nat} (hk : k < zk_n (tk i)) : 0 < sp (zt_p sp i k) := zx_sp1 (hT _ ((hT i hi).2.2.2 k hk).1)
theorem zy_s2 {N i : Nat} {tk sp : Nat → Nat} (hT : ∀ i, i < N → zt_T tk sp N i) (hi : i < N) (hn : zk_n (tk i) = 2) : sp i = 1 + sp (zt_p sp i 0) + sp (zt_p sp i 1) ∧ 0 < sp (zt_p sp i 0) ∧ 0 < sp (zt_p sp i 1) := by
  have h1 := (hT i hi).1
  rw [hn] at h1
  have e2 : zt_p sp i 2 = zt_p sp i 1 + sp (zt_p sp i 1) := rfl
  have e1 : zt_p sp i 1 = zt_p sp i 0 + sp (zt_p sp i 0) := rfl
  have e0 : zt_p sp i 0 = i + 1 := rfl
  exact ⟨by omega, zy_sp hT hi (by omega), zy_sp hT hi (by omega)⟩
theorem zy_s3 {N i : Nat} {tk sp : Nat → Nat} (hT : ∀ i, i < N → zt_T tk sp N i) (hi : i < N) (hn : zk_n (tk i) = 3) : sp i = 1 + sp (zt_p sp i 0) + sp (zt_p sp i 1) + sp (zt_p sp i 2) ∧ 0 < sp (zt_p sp i 0) ∧ 0 < sp (zt_p sp i 1) ∧ 0 < sp (zt_p sp i 2) := by
  have h1 := (hT i hi).1
  rw [hn] at h1
  have e3 : zt_p sp i 3 = zt_p sp i 2 + sp (zt_p sp i 2) := rfl
  have e2 : zt_p sp i 2 = zt_p sp i 1 + sp (zt_p sp i 1) := rfl
  have e1 : zt_p sp i 1 = zt_p sp i 0 + sp (zt_p sp i 0) := rfl
  have e0 : zt_p sp i 0 = i + 1 := rfl
  exact ⟨by omega, zy_sp hT hi (by omega), zy_sp hT hi (by omega), zy_sp hT hi (by omega)⟩
theorem zy_s4 {N i : Nat} {tk sp : Nat → Nat} (hT : ∀ i, i < N → zt_T tk sp N i) (hi : i < N) (hn : zk_n (tk i) = 4) : sp i = 1 + sp (zt_p sp i 0) + sp (zt_p sp i 1) + sp (zt_p sp i 2) + sp (zt_p sp i 3) ∧ 0 < sp (zt_p sp i 0) ∧ 0 < sp (zt_p sp i 1) ∧ 0 < sp (zt_p sp i 2) ∧ 0 < sp (zt_p sp i 3) := by
  have h1 := (hT i hi).1
  rw [hn] at h1
  have e4 : zt_p sp i 4 = zt_p sp i 3 + sp (zt_p sp i 3) := rfl
  have e3 : zt_p sp i 3 = zt_p sp i 2 + sp (zt_p sp i 2) := rfl
  have e2 : zt_p sp i 2 = zt_p sp i 1 + sp (zt_p sp i 1) := rfl
  have e1 : zt_p sp i 1 = zt_p sp i 0 + sp (zt_p sp i 0) := rfl
  have e0 : zt_p sp i 0 = i + 1 := rfl
  exact ⟨by omega, zy_sp hT hi (by omega), zy_sp hT hi (by omega), zy_sp hT hi (by omega), zy_sp hT hi (by omega)⟩
/-- nothing, a sequence -/
theorem zy_nothing {post : St1 → Prop} {p N i : Nat} {tk sp : Nat → Nat} (hg : zw_G p N tk sp ac a11 a14) (hi : i < N) (ht : tk i = 2) : zw_Rs post ti ac ru wc he al ov a1 a2 a3 a4 a5 a6 a7 a8 a9 a10 a11 a12 a13 a14 a25 a26 a27 i (sp i) := by
  intro s d l e op ar tg oa oh pa pb lt xa xl H P hoa hoh hd hs hl hee hH hC hX K
  have hn : zk_n (tk i) = 0 := zk_n0 (by omega)
  have h1 := zx_sp1 (hg.2.2.2.2.2 i hi)
  refine zw_spo hg hi (by omega) hoa hoh (by unfold zk_s; omega) (by omega) (by omega) rfl (fun Q hq => zy_d1 (by omega) hq) (K s e op ar tg oa _ pa pb lt xa xl H ⟨by omega, by omega, by omega, zy_r, zy_r, hH, hC, hX, zy_r, zy_u zy_r (by omega), zy_r, zy_r⟩)
theorem zy_seq {post : St1 → Prop} {p N i : Nat} {tk sp : Nat → Nat} (hg : zw_G p N tk sp ac a11 a14) (hi : i < N) (ht : tk i = 1) (ih : ∀ k, k < zk_n (tk i) → zk_k (tk i) k → zw_Rs post ti ac ru wc he al ov a1 a2 a3 a4 a5 a6 a7 a8 a9 a10 a11 a12 a13 a14 a25 a26 a27 (zt_p sp i k) (sp (zt_p sp i k))) : zw_Rs post ti ac ru wc he al ov a1 a2 a3 a4 a5 a6 a7 a8 a9 a10 a11 a12 a13 a14 a25 a26 a27 i (sp i) := by
  intro s d l e op ar tg oa oh pa pb lt xa xl H P hoa hoh hd hs hl hee hH hC hX K
  have hn : zk_n (tk i) = 2 := zk_n2 (by unfold zk_l; omega) (by unfold zk_1; omega) (by omega) (by unfold zk_3; omega)
  have hst : zk_s (tk i) := by unfold zk_s; omega
  obtain ⟨g0, g1, g2⟩ := zy_s2 hg.2.2.2.2.2 hi hn
  refine zy_ps hg hi hst (by omega) (ih 0 (by omega) (by unfold zk_k; omega)) hoa hoh (by omega) (by omega) (by omega) (by omega) hH hC hX (fun Q hq => zy_d1 (by omega) hq) ?_
  intro s1 e1 op1 ar1 tg1 oa1 oh1 pa1 pb1 lt1 xa1 xl1 H1 q
  obtain ⟨q1, q2, q3, q4, q5, q6, q7, q8, q9, qa, qb, qc⟩ := q
  refine zy_ps hg hi hst (by omega) (ih 1 (by omega) (by unfold zk_k; omega)) ((q9 d (by omega)).trans hoa) ((qa d (by omega)).trans pk_us) (by omega) (by omega) (by omega) (by omega) q6 q7 q8 (fun Q hq => zy_d1 (by omega) hq) ?_
  intro s2 e2 op2 ar2 tg2 oa2 oh2 pa2 pb2 lt2 xa2 xl2 H2 r
  obtain ⟨r1, r2, r3, r4, r5, r6, r7, r8, r9, ra, rb, rc⟩ := r
  refine zw_spo (k := 2) hg hi (by omega) ((r9 d (by omega)).trans ((q9 d (by omega)).trans hoa)) ((ra d (by omega)).trans pk_us) hst (by omega) (by omega) rfl (fun Q hq => zy_d1 (by omega) hq) (K s2 e2 op2 ar2 tg2 oa2 _ pa2 pb2 lt2 xa2 xl2 H2 ⟨by omega, by omega, by omega, zy_t r4 q4 (by omega), zy_t r5 q5 (by omega), r6, r7, r8, zy_t r9 (zy_t q9 zy_r (Nat.le_succ d)) (Nat.le_succ d), zy_u (zy_t ra (zy_u (zy_t qa (zy_u zy_r (Nat.le_refl d)) (Nat.le_succ d)) (Nat.le_refl d)) (Nat.le_succ d)) (Nat.le_refl d), zy_t rb (zy_t qb zy_r (Nat.le_succ d)) (Nat.le_succ d), zy_t rc (zy_t qc zy_r (Nat.le_succ d)) (Nat.le_succ d)⟩)
end
end
section
section
variable {ti ac ru wc sz dp lo ex he al ov : Int32} {a1 a2 a3 a4 a5 a6 a7 a8 a9 a10 a11 a12 a13 a14 a15 a16 a17 a18 a19 a20 a21 a22 a23 a24 a25 a26 a27 : Nat → Int32}
variable {op ar tg oa oh pa pb lt xa xl : Nat → Int32} {s d l e : Nat}
theorem zc_em {s o h' a b c : Nat} {op ar tg : Nat → Int32} {x : Int32} {H : Nat → Nat} {P P' : Nat → Prop} (hpo : zc_p o = a) (hqo : zc_q o = b) (hro : zc_r o = c) (h : zc_C s op ar tg H P) (hv : zc_v o) (ha : zc_a o x) (hp : a ≤ H s) (hh : h' ≤ 70) (hf : o ≠ 301 → o ≠ 311 → h' = H s - a + b) (hP : ∀ j, P j → P' j) (hj : zc_j o → ¬ P' s → H s = H s - a + c) :
    zc_C (s + 1) (upd op s (nI o)) (upd ar s x) (upd tg s (nI s)) (zc_h H (s + 1) h') P' := by
  subst hpo hqo hro
  exact zc_emit h hv ha hp hh hf hP hj
theorem zc_tg {s o p t a c : Nat} {op ar tg : Nat → Int32} {H : Nat → Nat} {P P' : Nat → Prop} (hpo : zc_p o = a) (hro : zc_r o = c) (h : zc_C s op ar tg H P') (hp : p < s) (ho : op p = nI o) (hj : zc_j o) (ht : t ≤ s) (hH : H t = H p - a + c) (hP : ∀ j, P' j → P j ∨ j = p) : zc_C s op ar (upd tg p (nI t)) H P := by
  subst hpo hro
  exact zc_tgt h hp ho hj ht hH hP
theorem zc_Xg {e s s' : Nat} {xa op op' : Nat → Int32} {H H' : Nat → Nat} (h : zc_X e xa s op H) (hs : s ≤ s') (ho : zy_ag s op' op) (hH : zy_ag (s + 1) H' H) : zc_X e xa s' op' H' := zc_Xm h hs ho (fun j hj => hH j (by omega))
theorem zc_X4 {e s : Nat} {xa op : Nat → Int32} {H : Nat → Nat} (h : zc_X e xa s op H) (hs : s ≤ 400) : ∀ k, k < e → ∃ j, xa k = nI j ∧ j < 400 := fun k hk => by
  obtain ⟨j, h1, h2, -, -⟩ := h k hk
  exact ⟨j, h1, by omega⟩
/-- assignments, outputs, blocks: expressions, then the token itself -/
theorem zy_plain {post : St1 → Prop} {p N i : Nat} {tk sp : Nat → Nat} (hg : zw_G p N tk sp ac a11 a14) (hi : i < N) (ht : zc_pl (tk i)) : zw_Rs post ti ac ru wc he al ov a1 a2 a3 a4 a5 a6 a7 a8 a9 a10 a11 a12 a13 a14 a25 a26 a27 i (sp i) := by
  intro s d l e op ar tg oa oh pa pb lt xa xl H P hoa hoh hd hs hl hee hH hC hX K
  have hT := hg.2.2.2.2.2 i hi
  have hN := hg.2.1
  have hst : zk_s (tk i) := by unfold zc_pl at ht; unfold zk_s; omega
  have hke : ∀ k, ¬ zk_k (tk i) k := fun k => by unfold zc_pl at ht; unfold zk_k; omega
  obtain ⟨v1, v2, v3, v4, v5⟩ := zc_ts ht
  have hsp := zx_sp1 hT
  have h4 := zk_nle (tk i)
  have step : ∀ r k s1 (op1 ar1 tg1 oa1 oh1 : Nat → Int32) (H1 : Nat → Nat), k + r = zk_n (tk i) → s + k ≤ s1 → s1 + (i + 1) ≤ s + zt_p sp i k → zy_ag s op1 op → zy_ag (s + 1) H1 H → H1 s1 = k → zc_C s1 op1 ar1 tg1 H1 P → oa1 d = nI i → oh1 d = nI k → zy_ag d oa1 oa → zy_ag d oh1 oh → ∃ n, wX_compile_29 post n ti ac ru wc (nI s1) (nI (d + 1)) (nI l) (nI e) he al ov a1 a2 a3 a4 a5 a6 a7 a8 a9 a10 a11 a12 a13 a14 op1 ar1 tg1 oa1 oh1 pa pb lt xa xl a25 a26 a27 := by
    intro r
    induction r with
    | zero =>
      intro k s1 op1 ar1 tg1 oa1 oh1 H1 hk hs1 hs2 hag hHag hH1 hC1 hoa1 hoh1 hf1 hf2
      rw [Nat.add_zero] at hk
      have hT1 := hT.1
      rw [← hk] at hT1
      have C2 : zc_C (s1 + 1) (upd op1 s1 (nI (tk i))) (upd ar1 s1 0) (upd tg1 s1 (nI s1)) (zc_h H1 (s1 + 1) 0) P := zc_em (h' := 0) v2 v3 rfl hC1 v1 (zc_a0 (by omega)) (by omega) (by omega) (fun _ _ => by omega) (fun _ z => z) (fun z => absurd z v4)
      refine zw_spo hg hi (by omega) hoa1 hoh1 hst (by omega) (by omega) rfl (fun Q hq => zy_dp ht (by omega) (fun _ => ⟨by omega, hq⟩) (fun z => absurd hk z)) (K (s1 + 1) e _ _ _ oa1 _ pa pb lt xa xl _ ⟨by omega, by omega, by omega, zy_u hag (by omega), zy_h hHag (by omega), zc_hs, C2, zc_Xg hX (by omega) (zy_u hag (by omega)) (zy_h hHag (by omega)), hf1, zy_u hf2 (Nat.le_refl d), zy_r, zy_r⟩)
    | succ r ihr =>
      intro k s1 op1 ar1 tg1 oa1 oh1 H1 hk hs1 hs2 hag hHag hH1 hC1 hoa1 hoh1 hf1 hf2
      have hkn : k < zk_n (tk i) := by omega
      have hjg := zt_pgt sp i k
      have hmon := zt_pmono sp i (show k + 1 ≤ zk_n (tk i) by omega)
      have hsucc : zt_p sp i (k + 1) = zt_p sp i k + sp (zt_p sp i k) := rfl
      rw [hT.1, hsucc] at hmon
      have hT2 := hT.2.1
      refine zy_pe hg hi hst hkn (hke k) hoa1 hoh1 (by omega) (by omega) (by omega) hC1 (fun Q hq => zy_dp ht (by omega) (fun z => absurd z (by omega)) (fun _ => hq)) ?_
      intro s2 op2 ar2 tg2 oa2 oh2 H2 q1 q2 q3 q4 q5 q6 q7 q8 q9 qa qb
      refine ihr (k + 1) s2 op2 ar2 tg2 oa2 oh2 H2 (by omega) (by omega) (by omega) (zy_t q3 hag (by omega)) (zy_t q6 hHag (by omega)) (by omega) q8 ((qa d (by omega)).trans hoa1) ((qb d (by omega)).trans pk_us) (zy_t qa hf1 (by omega)) (zy_t qb (zy_u hf2 (Nat.le_refl d)) (by omega))
  exact step (zk_n (tk i)) 0 s op ar tg oa oh H (by omega) (by omega) (by show s + (i + 1) ≤ s + (i + 1); omega) zy_r zy_r hH hC hoa hoh zy_r zy_r
/-- exit -/
theorem zy_exit {post : St1 → Prop} {p N i : Nat} {tk sp : Nat → Nat} (hg : zw_G p N tk sp ac a11 a14) (hi : i < N) (ht : tk i = 39) : zw_Rs post ti ac ru wc he al ov a1 a2 a3 a4 a5 a6 a7 a8 a9 a10 a11 a12 a13 a14 a25 a26 a27 i (sp i) := by
  intro s d l e op ar tg oa oh pa pb lt xa xl H P hoa hoh hd hs hl hee hH hC hX K
  have hn : zk_n (tk i) = 0 := zk_n0 (by omega)
  have hst : zk_s (tk i) := by unfold zk_s; omega
  have h1 := zx_sp1 (hg.2.2.2.2.2 i hi)
  by_cases hl0 : l = 0
  · have C2 : zc_C (s + 1) (upd op s (nI 311)) (upd ar s 0) (upd tg s (nI s)) (zc_h H (s + 1) 0) P := zc_em (h' := 0) (a := 0) (b := 0) (c := 0) rfl rfl rfl hC (by unfold zc_v; omega) (zc_a0 (by omega)) (by omega) (by omega) (fun _ z => absurd rfl z) (fun _ z => z) (fun z => absurd z (by unfold zc_j; omega))
    refine zw_spo hg hi (by omega) hoa hoh hst (by omega) (by omega) rfl (fun Q hq => zy_d39 ht (fun Q' hq' => zy_lv0 (by omega) hl0 hq') hq) (K (s + 1) e _ _ _ oa _ pa pb lt xa xl _ ⟨by omega, by omega, by omega, zy_u zy_r (by omega), zy_h zy_r (by omega), zc_hs, C2, zc_Xg hX (by omega) (zy_u zy_r (by omega)) (zy_h zy_r (by omega)), zy_r, zy_u zy_r (Nat.le_refl d), zy_r, zy_r⟩)
  · have C2 : zc_C (s + 1) (upd op s (nI 301)) (upd ar s 0) (upd tg s (nI s)) (zc_h H (s + 1) 0) P := zc_em (h' := 0) (a := 0) (b := 0) (c := 0) rfl rfl rfl hC (by unfold zc_v; omega) (zc_a0 (by omega)) (by omega) (by omega) (fun z _ => absurd rfl z) (fun _ z => z) (fun _ _ => by omega)
    refine zw_spo hg hi (by omega) hoa hoh hst (by omega) (by omega) rfl (fun Q hq => zy_d39 ht (fun Q' hq' => zy_lv1 (by omega) (by omega) (by omega) (by omega) hq') hq) (K (s + 1) (e + 1) _ _ _ oa _ pa pb lt _ _ _ ⟨by omega, by omega, by omega, zy_u zy_r (by omega), zy_h zy_r (by omega), zc_hs, C2, zc_Xa (zc_Xg hX (by omega) (zy_u zy_r (by omega)) (zy_h zy_r (by omega))) (by omega) pk_us (by rw [zc_hn (by omega)]; exact hH), zy_r, zy_u zy_r (Nat.le_refl d), zy_r, zy_r⟩)
/-- if -/
theorem zy_if {post : St1 → Prop} {p N i : Nat} {tk sp : Nat → Nat} (hg : zw_G p N tk sp ac a11 a14) (hi : i < N) (ht : tk i = 35) (ih : ∀ k, k < zk_n (tk i) → zk_k (tk i) k → zw_Rs post ti ac ru wc he al ov a1 a2 a3 a4 a5 a6 a7 a8 a9 a10 a11 a12 a13 a14 a25 a26 a27 (zt_p sp i k) (sp (zt_p sp i k))) : zw_Rs post ti ac ru wc he al ov a1 a2 a3 a4 a5 a6 a7 a8 a9 a10 a11 a12 a13 a14 a25 a26 a27 i (sp i) := by
  intro s d l e op ar tg oa oh pa pb lt xa xl H P hoa hoh hd hs hl hee hH hC hX K
  have hn : zk_n (tk i) = 3 := zk_n3 (by unfold zk_l; omega) (by unfold zk_1; omega) (by omega) (by unfold zk_3; omega)
  have hst : zk_s (tk i) := by unfold zk_s; omega
  have hN := hg.2.1
  have hT2 := (hg.2.2.2.2.2 i hi).2.1
  obtain ⟨g0, g1, g2, g3⟩ := zy_s3 hg.2.2.2.2.2 hi hn
  refine zy_pe (k := 0) hg hi hst (by omega) (by unfold zk_k; omega) hoa hoh (by omega) (by omega) (by omega) hC (fun Q hq => zy_d35 ht (fun Q' hq' => zy_ch0 (by omega) hq') hq) ?_
  intro s1 op1 ar1 tg1 oa1 oh1 H1 q1 q2 q3 q3a q3t q4 q5 q6 q7 q8 q9
  rw [hH] at q5
  have oa1d : oa1 d = nI i := (q8 d (by omega)).trans hoa
  have oh1d : oh1 d = nI 1 := (q9 d (by omega)).trans pk_us
  by_cases hkn : op1 (s1 - 1) = nI 300
  · have hss := q7 hkn
    obtain ⟨k, hk, hE⟩ := zy_ch1k (ti := ti) (ac := ac) (ru := ru) (wc := wc) (he := he) (al := al) (ov := ov) (a1 := a1) (a2 := a2) (a3 := a3) (a4 := a4) (a5 := a5) (a6 := a6) (a7 := a7) (a8 := a8) (a9 := a9) (a10 := a10) (a11 := a11) (a12 := a12) (a13 := a13) (a14 := a14) (a25 := a25) (a26 := a26) (a27 := a27) (d := d) (l := l) (e := e) (s := s1) (op := op1) (ar := ar1) (tg := tg1) (oa := oa1) (oh := upd oh1 d (nI (1 + 1))) (pa := upd pa d (-1)) (pb := pb) (lt := lt) (xa := xa) (xl := xl) hg hi hn (by omega) (by omega) (by omega) hkn (by rw [pk_us]; decide)
    refine zw_ssk (k := 1) hg hi (by omega) oa1d oh1d hst (by omega) rfl (fun Q hq => zy_d35 ht hE hq) ?_
    have es : s1 - 1 = s := by omega
    rw [es]
    have hR := ih k (by omega) (by unfold zk_k; omega)
    have hgk : sp (zt_p sp i k) + 3 ≤ sp i := by rcases hk with hk | hk <;> rw [hk] <;> omega
    refine hR s (d + 1) l e op1 ar1 tg1 _ _ _ pb lt xa xl H1 P pk_us pk_us (by omega) (by omega) (by omega) (by omega) ((q4 s (by omega)).trans hH) (zc_cg hC (fun j hj => ⟨q3 j hj, q3a j hj, q3t j hj⟩) (fun j hj => q4 j (by omega))) (zc_Xg hX (Nat.le_refl s) q3 q4) ?_
    intro s2 e2 op2 ar2 tg2 oa2 oh2 pa2 pb2 lt2 xa2 xl2 H2 r
    obtain ⟨r1, r2, r3, r4, r5, r6, r7, r8, r9, ra, rb, rc⟩ := r
    have oa2d : oa2 d = nI i := (r9 d (by omega)).trans ((pk_un (by omega)).trans oa1d)
    have oh2d : oh2 d = nI 4 := (ra d (by omega)).trans ((pk_un (by omega)).trans pk_us)
    refine zw_spo (k := 4) hg hi (by omega) oa2d oh2d hst (by omega) (by omega) rfl (fun Q hq => zy_d35 ht (fun Q' hq' => zy_ch4 hq') hq) (K s2 e2 op2 ar2 tg2 oa2 _ pa2 pb2 lt2 xa2 xl2 H2 ⟨r1, by omega, by omega, zy_t r4 q3 (Nat.le_refl s), zy_t r5 q4 (Nat.le_refl _), r6, r7, r8, ?_, ?_, ?_, ?_⟩)
    · exact zy_t r9 (zy_u (zy_t q8 zy_r (Nat.le_succ d)) (Nat.le_succ d)) (Nat.le_succ d)
    · exact zy_u (zy_t ra (zy_u (zy_u (zy_u (zy_t q9 (zy_u zy_r (Nat.le_refl d)) (Nat.le_succ d)) (Nat.le_refl d)) (Nat.le_refl d)) (Nat.le_succ d)) (Nat.le_succ d)) (Nat.le_refl d)
    · exact zy_t rb (zy_u (zy_u zy_r (Nat.le_refl d)) (Nat.le_refl d)) (Nat.le_succ d)
    · exact zy_t rc zy_r (Nat.le_succ d)
  · have C1 : zc_C (s1 + 1) (upd op1 s1 (nI 302)) (upd ar1 s1 0) (upd tg1 s1 (nI s1)) (zc_h H1 (s1 + 1) 0) (fun j => P j ∨ j = s1) := zc_em (h' := 0) (a := 1) (b := 0) (c := 0) rfl rfl rfl q6 (by unfold zc_v; omega) (zc_a0 (by omega)) (by omega) (by omega) (fun _ _ => by omega) (fun _ z => Or.inl z) (fun _ z => absurd (Or.inr rfl) z)
    refine zy_ps (k := 1) hg hi hst (by omega) (ih 1 (by omega) (by unfold zk_k; omega)) oa1d oh1d (by omega) (by omega) (by omega) (by omega) zc_hs C1 (zc_Xg hX (by omega) (zy_u q3 (by omega)) (zy_h q4 (by omega))) (fun Q hq => zy_d35 ht (fun Q' hq' => zy_ch1u (by omega) (by omega) (by omega) hkn hq') hq) ?_
    intro s2 e2 op2 ar2 tg2 oa2 oh2 pa2 pb2 lt2 xa2 xl2 H2 r
    obtain ⟨r1, r2, r3, r4, r5, r6, r7, r8, r9, ra, rb, rc⟩ := r
    have oa2d : oa2 d = nI i := (r9 d (by omega)).trans oa1d
    have oh2d : oh2 d = nI 2 := (ra d (by omega)).trans pk_us
    have pa2d : pa2 d = nI s1 := (rb d (by omega)).trans pk_us
    have o2 : op2 s1 = nI 302 := (r4 s1 (by omega)).trans pk_us
    have h2 : H2 s1 = 1 := by rw [r5 s1 (by omega), zc_hn (by omega)]; exact q5
    have C2 : zc_C (s2 + 1) (upd op2 s2 (nI 301)) (upd ar2 s2 0) (upd tg2 s2 (nI s2)) (zc_h H2 (s2 + 1) 0) (fun j => P j ∨ j = s1) := zc_em (h' := 0) (a := 0) (b := 0) (c := 0) rfl rfl rfl r7 (by unfold zc_v; omega) (zc_a0 (by omega)) (by omega) (by omega) (fun z _ => absurd rfl z) (fun _ z => z) (fun _ _ => by omega)
    have C3 : zc_C (s2 + 1) (upd op2 s2 (nI 301)) (upd ar2 s2 0) (upd (upd tg2 s2 (nI s2)) s1 (nI (s2 + 1))) (zc_h H2 (s2 + 1) 0) P := zc_tg (o := 302) (a := 1) (c := 0) rfl rfl C2 (by omega) (by rw [pk_un (by omega)]; exact o2) (by unfold zc_j; omega) (Nat.le_refl _) (by rw [zc_hs, zc_hn (by omega), h2]) (fun j hj => hj)
    refine zy_ps (k := 2) hg hi hst (by omega) (ih 2 (by omega) (by unfold zk_k; omega)) oa2d oh2d (by omega) (by omega) (by omega) (by omega) zc_hs C3 (zc_Xg r8 (by omega) (zy_u zy_r (by omega)) (zy_h zy_r (by omega))) (fun Q hq => zy_d35 ht (fun Q' hq' => zy_ch2 (by omega) (by omega) pa2d (by omega) hq') hq) ?_
    intro s3 e3 op3 ar3 tg3 oa3 oh3 pa3 pb3 lt3 xa3 xl3 H3 w
    obtain ⟨w1, w2, w3, w4, w5, w6, w7, w8, w9, wa, wb, wcc⟩ := w
    have oa3d : oa3 d = nI i := (w9 d (by omega)).trans oa2d
    have oh3d : oh3 d = nI 3 := (wa d (by omega)).trans pk_us
    have pa3d : pa3 d = nI s2 := (wb d (by omega)).trans pk_us
    have o3 : op3 s2 = nI 301 := (w4 s2 (by omega)).trans pk_us
    have h3 : H3 s2 = 0 := by rw [w5 s2 (by omega), zc_hn (by omega)]; exact r6
    have C4 : zc_C s3 op3 ar3 (upd tg3 s2 (nI s3)) H3 P := zc_tg (o := 301) (a := 0) (c := 0) rfl rfl w7 (by omega) o3 (by unfold zc_j; omega) (Nat.le_refl _) (by omega) (fun j hj => Or.inl hj)
    refine zw_spo (k := 3) hg hi (by omega) oa3d oh3d hst (by omega) (by omega) rfl (fun Q hq => zy_d35 ht (fun Q' hq' => zy_ch3 (by omega) pa3d (by omega) hq') hq) (K s3 e3 op3 ar3 _ oa3 _ pa3 pb3 lt3 xa3 xl3 H3 ⟨by omega, by omega, by omega, ?_, ?_, w6, C4, w8, ?_, ?_, ?_, ?_⟩)
    · exact zy_t w4 (zy_u (zy_t r4 (zy_u q3 (by omega)) (by omega)) (by omega)) (by omega)
    · exact zy_t w5 (zy_h (zy_t r5 (zy_h q4 (by omega)) (by omega)) (by omega)) (by omega)
    · exact zy_t w9 (zy_t r9 (zy_t q8 zy_r (Nat.le_succ d)) (Nat.le_succ d)) (Nat.le_succ d)
    · exact zy_u (zy_t wa (zy_u (zy_t ra (zy_u (zy_t q9 (zy_u zy_r (Nat.le_refl d)) (Nat.le_succ d)) (Nat.le_refl d)) (Nat.le_succ d)) (Nat.le_refl d)) (Nat.le_succ d)) (Nat.le_refl d)
    · exact zy_t wb (zy_u (zy_t rb (zy_u (zy_u zy_r (Nat.le_refl d)) (Nat.le_refl d)) (Nat.le_succ d)) (Nat.le_refl d)) (Nat.le_succ d)
    · exact zy_t wcc (zy_t rc zy_r (Nat.le_succ d)) (Nat.le_succ d)
end
end
section
section
variable {ti ac ru wc sz dp lo ex he al ov : Int32} {a1 a2 a3 a4 a5 a6 a7 a8 a9 a10 a11 a12 a13 a14 a15 a16 a17 a18 a19 a20 a21 a22 a23 a24 a25 a26 a27 : Nat → Int32}
variable {op ar tg oa oh pa pb lt xa xl : Nat → Int32} {s d l e : Nat}
/-- while -/
theorem zy_while {post : St1 → Prop} {p N i : Nat} {tk sp : Nat → Nat} (hg : zw_G p N tk sp ac a11 a14) (hi : i < N) (ht : tk i = 36) (ih : ∀ k, k < zk_n (tk i) → zk_k (tk i) k → zw_Rs post ti ac ru wc he al ov a1 a2 a3 a4 a5 a6 a7 a8 a9 a10 a11 a12 a13 a14 a25 a26 a27 (zt_p sp i k) (sp (zt_p sp i k))) : zw_Rs post ti ac ru wc he al ov a1 a2 a3 a4 a5 a6 a7 a8 a9 a10 a11 a12 a13 a14 a25 a26 a27 i (sp i) := by
  intro s d l e op ar tg oa oh pa pb lt xa xl H P hoa hoh hd hs hl hee hH hC hX K
  have hn : zk_n (tk i) = 2 := zk_n2 (by unfold zk_l; omega) (by unfold zk_1; omega) (by omega) (by unfold zk_3; omega)
  have hst : zk_s (tk i) := by unfold zk_s; omega
  have hN := hg.2.1
  have hT2 := (hg.2.2.2.2.2 i hi).2.1
  obtain ⟨g0, g1, g2⟩ := zy_s2 hg.2.2.2.2.2 hi hn
  have C1 : zc_C (s + 1) (upd op s (nI 305)) (upd ar s (nI l)) (upd tg s (nI s)) (zc_h H (s + 1) 0) P := zc_em (h' := 0) (a := 0) (b := 0) (c := 0) rfl rfl rfl hC (by unfold zc_v; omega) ⟨fun _ => ⟨l, by omega, rfl⟩, fun z => absurd z (by omega), fun z => absurd z (by omega)⟩ (by omega) (by omega) (fun _ _ => by omega) (fun _ z => z) (fun z => absurd z (by unfold zc_j; omega))
  have C2 : zc_C (s + 2) (upd (upd op s (nI 305)) (s + 1) (nI 306)) (upd (upd ar s (nI l)) (s + 1) (nI l)) (upd (upd tg s (nI s)) (s + 1) (nI (s + 1))) (zc_h (zc_h H (s + 1) 0) (s + 2) 0) P := zc_em (h' := 0) (a := 0) (b := 0) (c := 0) rfl rfl rfl C1 (by unfold zc_v; omega) ⟨fun _ => ⟨l, by omega, rfl⟩, fun z => absurd z (by omega), fun z => absurd z (by omega)⟩ (by omega) (by omega) (fun _ _ => by rw [zc_hs]) (fun _ z => z) (fun _ _ => by omega)
  refine zy_pe (k := 0) hg hi hst (by omega) (by unfold zk_k; omega) hoa hoh (by omega) (by omega) (by rw [zc_hs]; omega) C2 (fun Q hq => zy_d36 ht (fun Q' hq' => zy_wh0 (by omega) (by omega) (by omega) hq') hq) ?_
  intro s1 op1 ar1 tg1 oa1 oh1 H1 q1 q2 q3 q3a q3t q4 q5 q6 q7 q8 q9
  rw [zc_hs] at q5
  have oa1d : oa1 d = nI i := (q8 d (by omega)).trans hoa
  have oh1d : oh1 d = nI 1 := (q9 d (by omega)).trans pk_us
  have ag1 : zy_ag s op1 op := zy_t q3 (zy_u (zy_u zy_r (by omega)) (by omega)) (by omega)
  have hg1 : zy_ag (s + 1) H1 H := zy_t q4 (zy_h (zy_h zy_r (by omega)) (by omega)) (by omega)
  have C3 : zc_C (s1 + 1) (upd op1 s1 (nI 302)) (upd ar1 s1 0) (upd tg1 s1 (nI s1)) (zc_h H1 (s1 + 1) 0) (fun j => P j ∨ j = s1) := zc_em (h' := 0) (a := 1) (b := 0) (c := 0) rfl rfl rfl q6 (by unfold zc_v; omega) (zc_a0 (by omega)) (by omega) (by omega) (fun _ _ => by omega) (fun _ z => Or.inl z) (fun _ z => absurd (Or.inr rfl) z)
  refine zy_ps (k := 1) hg hi hst (by omega) (ih 1 (by omega) (by unfold zk_k; omega)) oa1d oh1d (by omega) (by omega) (by omega) (by omega) zc_hs C3 (zc_Xg hX (by omega) (zy_u ag1 (by omega)) (zy_h hg1 (by omega))) (fun Q hq => zy_d36 ht (fun Q' hq' => zy_wh1 (by omega) (by omega) hq') hq) ?_
  intro s2 e2 op2 ar2 tg2 oa2 oh2 pa2 pb2 lt2 xa2 xl2 H2 r
  obtain ⟨r1, r2, r3, r4, r5, r6, r7, r8, r9, ra, rb, rc⟩ := r
  have oa2d : oa2 d = nI i := (r9 d (by omega)).trans oa1d
  have oh2d : oh2 d = nI 2 := (ra d (by omega)).trans pk_us
  have pa2d : pa2 d = nI (s + 1) := (rb d (by omega)).trans pk_us
  have pb2d : pb2 d = nI s1 := (rc d (by omega)).trans pk_us
  have o2 : op2 s1 = nI 302 := (r4 s1 (by omega)).trans pk_us
  have o3 : op2 (s + 1) = nI 306 := (r4 (s + 1) (by omega)).trans ((pk_un (by omega)).trans ((q3 (s + 1) (by omega)).trans pk_us))
  have h2 : H2 s1 = 1 := by rw [r5 s1 (by omega), zc_hn (by omega)]; exact q5
  have h3 : H2 (s + 1) = 0 := by rw [r5 (s + 1) (by omega), zc_hn (by omega), q4 (s + 1) (by omega), zc_hn (by omega), zc_hs]
  have C4 : zc_C (s2 + 1) (upd op2 s2 (nI 301)) (upd ar2 s2 0) (upd tg2 s2 (nI s2)) (zc_h H2 (s2 + 1) 0) (fun j => P j ∨ j = s1) := zc_em (h' := 0) (a := 0) (b := 0) (c := 0) rfl rfl rfl r7 (by unfold zc_v; omega) (zc_a0 (by omega)) (by omega) (by omega) (fun z _ => absurd rfl z) (fun _ z => z) (fun _ _ => by omega)
  have C5 : zc_C (s2 + 1) (upd op2 s2 (nI 301)) (upd ar2 s2 0) (upd (upd tg2 s2 (nI s2)) s2 (nI (s + 1))) (zc_h H2 (s2 + 1) 0) (fun j => P j ∨ j = s1) := zc_tg (o := 301) (a := 0) (c := 0) rfl rfl C4 (by omega) pk_us (by unfold zc_j; omega) (by omega) (by rw [zc_hn (by omega), zc_hn (by omega), h3, r6]) (fun j hj => Or.inl hj)
  have C6 : zc_C (s2 + 1) (upd op2 s2 (nI 301)) (upd ar2 s2 0) (upd (upd (upd tg2 s2 (nI s2)) s2 (nI (s + 1))) s1 (nI (s2 + 1))) (zc_h H2 (s2 + 1) 0) P := zc_tg (o := 302) (a := 1) (c := 0) rfl rfl C5 (by omega) ((pk_un (by omega)).trans o2) (by unfold zc_j; omega) (Nat.le_refl _) (by rw [zc_hs, zc_hn (by omega), h2]) (fun j hj => hj)
  have C7 : zc_C (s2 + 1) (upd op2 s2 (nI 301)) (upd ar2 s2 0) (upd (upd (upd (upd tg2 s2 (nI s2)) s2 (nI (s + 1))) s1 (nI (s2 + 1))) (s + 1) (nI (s2 + 1))) (zc_h H2 (s2 + 1) 0) P := zc_tg (o := 306) (a := 0) (c := 0) rfl rfl C6 (by omega) ((pk_un (by omega)).trans o3) (by unfold zc_j; omega) (Nat.le_refl _) (by rw [zc_hs, zc_hn (by omega), h3]) (fun j hj => Or.inl hj)
  have X7 : zc_X e2 xa2 (s2 + 1) (upd op2 s2 (nI 301)) (zc_h H2 (s2 + 1) 0) := zc_Xg r8 (by omega) (zy_u zy_r (by omega)) (zy_h zy_r (by omega))
  refine zw_spo (k := 2) hg hi (by omega) oa2d oh2d hst (by omega) (by omega) rfl (fun Q hq => zy_d36 ht (fun Q' hq' => zy_wh2 (by omega) (by omega) pa2d (by omega) pb2d (by omega) (zw_close (zc_X4 X7 (by omega)) (by omega) hq')) hq) (K (s2 + 1) e2 _ _ _ oa2 _ pa2 pb2 lt2 xa2 xl2 _ ⟨by omega, by omega, by omega, ?_, ?_, zc_hs, zw_cfC X7 zc_hs (by omega) e2 0 _ (by omega) C7, X7, ?_, ?_, ?_, ?_⟩)
  · exact zy_u (zy_t r4 (zy_u ag1 (by omega)) (by omega)) (by omega)
  · exact zy_h (zy_t r5 (zy_h hg1 (by omega)) (by omega)) (by omega)
  · exact zy_t r9 (zy_t q8 zy_r (Nat.le_succ d)) (Nat.le_succ d)
  · exact zy_u (zy_t ra (zy_u (zy_t q9 (zy_u zy_r (Nat.le_refl d)) (Nat.le_succ d)) (Nat.le_refl d)) (Nat.le_succ d)) (Nat.le_refl d)
  · exact zy_t rb (zy_u zy_r (Nat.le_refl d)) (Nat.le_succ d)
  · exact zy_t rc (zy_u zy_r (Nat.le_refl d)) (Nat.le_succ d)
/-- repeat -/
theorem zy_repeat {post : St1 → Prop} {p N i : Nat} {tk sp : Nat → Nat} (hg : zw_G p N tk sp ac a11 a14) (hi : i < N) (ht : tk i = 37) (ih : ∀ k, k < zk_n (tk i) → zk_k (tk i) k → zw_Rs post ti ac ru wc he al ov a1 a2 a3 a4 a5 a6 a7 a8 a9 a10 a11 a12 a13 a14 a25 a26 a27 (zt_p sp i k) (sp (zt_p sp i k))) : zw_Rs post ti ac ru wc he al ov a1 a2 a3 a4 a5 a6 a7 a8 a9 a10 a11 a12 a13 a14 a25 a26 a27 i (sp i) := by
  intro s d l e op ar tg oa oh pa pb lt xa xl H P hoa hoh hd hs hl hee hH hC hX K
  have hn : zk_n (tk i) = 2 := zk_n2 (by unfold zk_l; omega) (by unfold zk_1; omega) (by omega) (by unfold zk_3; omega)
  have hst : zk_s (tk i) := by unfold zk_s; omega
  have hN := hg.2.1
  have hT2 := (hg.2.2.2.2.2 i hi).2.1
  obtain ⟨g0, g1, g2⟩ := zy_s2 hg.2.2.2.2.2 hi hn
  have C1 : zc_C (s + 1) (upd op s (nI 305)) (upd ar s (nI l)) (upd tg s (nI s)) (zc_h H (s + 1) 0) P := zc_em (h' := 0) (a := 0) (b := 0) (c := 0) rfl rfl rfl hC (by unfold zc_v; omega) ⟨fun _ => ⟨l, by omega, rfl⟩, fun z => absurd z (by omega), fun z => absurd z (by omega)⟩ (by omega) (by omega) (fun _ _ => by omega) (fun _ z => z) (fun z => absurd z (by unfold zc_j; omega))
  have C2 : zc_C (s + 2) (upd (upd op s (nI 305)) (s + 1) (nI 306)) (upd (upd ar s (nI l)) (s + 1) (nI l)) (upd (upd tg s (nI s)) (s + 1) (nI (s + 1))) (zc_h (zc_h H (s + 1) 0) (s + 2) 0) P := zc_em (h' := 0) (a := 0) (b := 0) (c := 0) rfl rfl rfl C1 (by unfold zc_v; omega) ⟨fun _ => ⟨l, by omega, rfl⟩, fun z => absurd z (by omega), fun z => absurd z (by omega)⟩ (by omega) (by omega) (fun _ _ => by rw [zc_hs]) (fun _ z => z) (fun _ _ => by omega)
  have ag0 : zy_ag s (upd (upd op s (nI 305)) (s + 1) (nI 306)) op := zy_u (zy_u zy_r (by omega)) (by omega)
  have hg0 : zy_ag (s + 1) (zc_h (zc_h H (s + 1) 0) (s + 2) 0) H := zy_h (zy_h zy_r (by omega)) (by omega)
  refine zy_ps (k := 0) hg hi hst (by omega) (ih 0 (by omega) (by unfold zk_k; omega)) hoa hoh (by omega) (by omega) (by omega) (by omega) zc_hs C2 (zc_Xg hX (by omega) ag0 hg0) (fun Q hq => zy_d37 ht (fun Q' hq' => zy_re0 (by omega) (by omega) (by omega) hq') hq) ?_
  intro s1 e1 op1 ar1 tg1 oa1 oh1 pa1 pb1 lt1 xa1 xl1 H1 q
  obtain ⟨q1, q2, q3, q4, q5, q6, q7, q8, q9, qa, qb, qc⟩ := q
  have oa1d : oa1 d = nI i := (q9 d (by omega)).trans hoa
  have oh1d : oh1 d = nI 1 := (qa d (by omega)).trans pk_us
  have pa1d : pa1 d = nI (s + 1) := (qb d (by omega)).trans pk_us
  have ag1 : zy_ag s op1 op := zy_t q4 ag0 (by omega)
  have hg1 : zy_ag (s + 1) H1 H := zy_t q5 hg0 (by omega)
  refine zy_pe (k := 1) hg hi hst (by omega) (by unfold zk_k; omega) oa1d oh1d (by omega) (by omega) (by omega) q7 (fun Q hq => zy_d37 ht (fun Q' hq' => zy_re1 hq') hq) ?_
  intro s2 op2 ar2 tg2 oa2 oh2 H2 r1 r2 r3 r3a r3t r4 r5 r6 r7 r8 r9
  rw [q6] at r5
  have oa2d : oa2 d = nI i := (r8 d (by omega)).trans oa1d
  have oh2d : oh2 d = nI 2 := (r9 d (by omega)).trans pk_us
  have o3 : op2 (s + 1) = nI 306 := (r3 (s + 1) (by omega)).trans ((q4 (s + 1) (by omega)).trans pk_us)
  have h3 : H2 (s + 1) = 0 := by rw [r4 (s + 1) (by omega), q5 (s + 1) (by omega), zc_hn (by omega), zc_hs]
  have C4 : zc_C (s2 + 1) (upd op2 s2 (nI 307)) (upd ar2 s2 0) (upd tg2 s2 (nI s2)) (zc_h H2 (s2 + 1) 0) (fun j => P j ∨ j = s2) := zc_em (h' := 0) (a := 1) (b := 0) (c := 0) rfl rfl rfl r6 (by unfold zc_v; omega) (zc_a0 (by omega)) (by omega) (by omega) (fun _ _ => by omega) (fun _ z => Or.inl z) (fun _ z => absurd (Or.inr rfl) z)
  have C5 : zc_C (s2 + 1) (upd op2 s2 (nI 307)) (upd ar2 s2 0) (upd (upd tg2 s2 (nI s2)) s2 (nI (s + 1))) (zc_h H2 (s2 + 1) 0) P := zc_tg (o := 307) (a := 1) (c := 0) rfl rfl C4 (by omega) pk_us (by unfold zc_j; omega) (by omega) (by rw [zc_hn (by omega), zc_hn (by omega), h3, r5]) (fun j hj => hj)
  have C7 : zc_C (s2 + 1) (upd op2 s2 (nI 307)) (upd ar2 s2 0) (upd (upd (upd tg2 s2 (nI s2)) s2 (nI (s + 1))) (s + 1) (nI (s2 + 1))) (zc_h H2 (s2 + 1) 0) P := zc_tg (o := 306) (a := 0) (c := 0) rfl rfl C5 (by omega) ((pk_un (by omega)).trans o3) (by unfold zc_j; omega) (Nat.le_refl _) (by rw [zc_hs, zc_hn (by omega), h3]) (fun j hj => Or.inl hj)
  have X7 : zc_X e1 xa1 (s2 + 1) (upd op2 s2 (nI 307)) (zc_h H2 (s2 + 1) 0) := zc_Xg q8 (by omega) (zy_u r3 (by omega)) (zy_h r4 (by omega))
  refine zw_spo (k := 2) hg hi (by omega) oa2d oh2d hst (by omega) (by omega) rfl (fun Q hq => zy_d37 ht (fun Q' hq' => zy_re2 (by omega) (by omega) pa1d (by omega) (zw_close (zc_X4 X7 (by omega)) (by omega) hq')) hq) (K (s2 + 1) e1 _ _ _ oa2 _ pa1 pb1 lt1 xa1 xl1 _ ⟨by omega, by omega, by omega, ?_, ?_, zc_hs, zw_cfC X7 zc_hs (by omega) e1 0 _ (by omega) C7, X7, ?_, ?_, ?_, ?_⟩)
  · exact zy_u (zy_t r3 ag1 (by omega)) (by omega)
  · exact zy_h (zy_t r4 hg1 (by omega)) (by omega)
  · exact zy_t r8 (zy_t q9 zy_r (Nat.le_succ d)) (Nat.le_succ d)
  · exact zy_u (zy_t r9 (zy_u (zy_t qa (zy_u zy_r (Nat.le_refl d)) (Nat.le_succ d)) (Nat.le_refl d)) (Nat.le_succ d)) (Nat.le_refl d)
  · exact zy_t qb (zy_u zy_r (Nat.le_refl d)) (Nat.le_succ d)
  · exact zy_t qc zy_r (Nat.le_succ d)
/-- for -/
theorem zy_for {post : St1 → Prop} {p N i v : Nat} {tk sp : Nat → Nat} (hg : zw_G p N tk sp ac a11 a14) (hi : i < N) (ht : tk i = 40 + v) (hv : v < 16) (ih : ∀ k, k < zk_n (tk i) → zk_k (tk i) k → zw_Rs post ti ac ru wc he al ov a1 a2 a3 a4 a5 a6 a7 a8 a9 a10 a11 a12 a13 a14 a25 a26 a27 (zt_p sp i k) (sp (zt_p sp i k))) : zw_Rs post ti ac ru wc he al ov a1 a2 a3 a4 a5 a6 a7 a8 a9 a10 a11 a12 a13 a14 a25 a26 a27 i (sp i) := by
  intro s d l e op ar tg oa oh pa pb lt xa xl H P hoa hoh hd hs hl hee hH hC hX K
  have hn : zk_n (tk i) = 3 := zk_n3 (by unfold zk_l; omega) (by unfold zk_1; omega) (by omega) (by unfold zk_3; omega)
  have hst : zk_s (tk i) := by unfold zk_s; omega
  have hN := hg.2.1
  have hT2 := (hg.2.2.2.2.2 i hi).2.1
  obtain ⟨g0, g1, g2, g3⟩ := zy_s3 hg.2.2.2.2.2 hi hn
  refine zy_pe (k := 0) hg hi hst (by omega) (by unfold zk_k; omega) hoa hoh (by omega) (by omega) (by omega) hC (fun Q hq => zy_d40 ht hv (fun Q' hq' => zy_fo0 (by omega) hq') hq) ?_
  intro s1 op1 ar1 tg1 oa1 oh1 H1 q1 q2 q3 q3a q3t q4 q5 q6 q7 q8 q9
  rw [hH] at q5
  have oa1d : oa1 d = nI i := (q8 d (by omega)).trans hoa
  have oh1d : oh1 d = nI 1 := (q9 d (by omega)).trans pk_us
  refine zy_pe (k := 1) hg hi hst (by omega) (by unfold zk_k; omega) oa1d oh1d (by omega) (by omega) (by omega) q6 (fun Q hq => zy_d40 ht hv (fun Q' hq' => zy_fo0 (by omega) hq') hq) ?_
  intro s2 op2 ar2 tg2 oa2 oh2 H2 r1 r2 r3 r3a r3t r4 r5 r6 r7 r8 r9
  rw [q5] at r5
  have oa2d : oa2 d = nI i := (r8 d (by omega)).trans oa1d
  have oh2d : oh2 d = nI 2 := (r9 d (by omega)).trans pk_us
  have ag2 : zy_ag s op2 op := zy_t r3 q3 (by omega)
  have hg2 : zy_ag (s + 1) H2 H := zy_t r4 q4 (by omega)
  have pv : zc_p (10 + v) = 1 := by unfold zc_p; rw [if_pos (by omega)]
  have qv : zc_q (10 + v) = 0 := by unfold zc_q; rw [if_neg (by omega)]
  have C1 : zc_C (s2 + 1) (upd op2 s2 (nI 308)) (upd ar2 s2 (nI l)) (upd tg2 s2 (nI s2)) (zc_h H2 (s2 + 1) 1) P := zc_em (h' := 1) (a := 1) (b := 0) (c := 0) rfl rfl rfl r6 (by unfold zc_v; omega) ⟨fun _ => ⟨l, by omega, rfl⟩, fun z => absurd z (by omega), fun z => absurd z (by omega)⟩ (by omega) (by omega) (fun _ _ => by omega) (fun _ z => z) (fun z => absurd z (by unfold zc_j; omega))
  have C2 : zc_C (s2 + 2) (upd (upd op2 s2 (nI 308)) (s2 + 1) (nI (10 + v))) (upd (upd ar2 s2 (nI l)) (s2 + 1) 0) (upd (upd tg2 s2 (nI s2)) (s2 + 1) (nI (s2 + 1))) (zc_h (zc_h H2 (s2 + 1) 1) (s2 + 2) 0) P := zc_em (h' := 0) pv qv rfl C1 (by unfold zc_v; omega) (zc_a0 (by omega)) (by rw [zc_hs]; omega) (by omega) (fun _ _ => by rw [zc_hs]) (fun _ z => z) (fun z => absurd z (by unfold zc_j; omega))
  have C3 : zc_C (s2 + 3) (upd (upd (upd op2 s2 (nI 308)) (s2 + 1) (nI (10 + v))) (s2 + 2) (nI 309)) (upd (upd (upd ar2 s2 (nI l)) (s2 + 1) 0) (s2 + 2) (nI (32 * v + l))) (upd (upd (upd tg2 s2 (nI s2)) (s2 + 1) (nI (s2 + 1))) (s2 + 2) (nI (s2 + 2))) (zc_h (zc_h (zc_h H2 (s2 + 1) 1) (s2 + 2) 0) (s2 + 3) 0) P := zc_em (h' := 0) (a := 0) (b := 0) (c := 0) rfl rfl rfl C2 (by unfold zc_v; omega) ⟨fun z => absurd z (by omega), fun _ => ⟨v, l, hv, by omega, rfl⟩, fun z => absurd z (by omega)⟩ (by omega) (by omega) (fun _ _ => by rw [zc_hs]) (fun _ z => z) (fun _ _ => by omega)
  have ag3 : zy_ag s (upd (upd (upd op2 s2 (nI 308)) (s2 + 1) (nI (10 + v))) (s2 + 2) (nI 309)) op := zy_u (zy_u (zy_u ag2 (by omega)) (by omega)) (by omega)
  have hg3 : zy_ag (s + 1) (zc_h (zc_h (zc_h H2 (s2 + 1) 1) (s2 + 2) 0) (s2 + 3) 0) H := zy_h (zy_h (zy_h hg2 (by omega)) (by omega)) (by omega)
  refine zy_ps (k := 2) hg hi hst (by omega) (ih 2 (by omega) (by unfold zk_k; omega)) oa2d oh2d (by omega) (by omega) (by omega) (by omega) zc_hs C3 (zc_Xg hX (by omega) ag3 hg3) (fun Q hq => zy_d40 ht hv (fun Q' hq' => zy_fo2 hv (by omega) (by omega) (by omega) hq') hq) ?_
  intro s3 e3 op3 ar3 tg3 oa3 oh3 pa3 pb3 lt3 xa3 xl3 H3 w
  obtain ⟨w1, w2, w3, w4, w5, w6, w7, w8, w9, wa, wb, wcc⟩ := w
  have oa3d : oa3 d = nI i := (w9 d (by omega)).trans oa2d
  have oh3d : oh3 d = nI 3 := (wa d (by omega)).trans pk_us
  have pa3d : pa3 d = nI (s2 + 2) := (wb d (by omega)).trans pk_us
  have o3 : op3 (s2 + 2) = nI 309 := (w4 (s2 + 2) (by omega)).trans pk_us
  have h3 : H3 (s2 + 2) = 0 := by rw [w5 (s2 + 2) (by omega), zc_hn (by omega), zc_hs]
  have D1 : zc_C (s3 + 1) (upd op3 s3 (nI 310)) (upd ar3 s3 (nI v)) (upd tg3 s3 (nI s3)) (zc_h H3 (s3 + 1) 0) P := zc_em (h' := 0) (a := 0) (b := 0) (c := 0) rfl rfl rfl w7 (by unfold zc_v; omega) ⟨fun z => absurd z (by omega), fun z => absurd z (by omega), fun _ => ⟨v, hv, rfl⟩⟩ (by omega) (by omega) (fun _ _ => by omega) (fun _ z => z) (fun z => absurd z (by unfold zc_j; omega))
  have D2 : zc_C (s3 + 2) (upd (upd op3 s3 (nI 310)) (s3 + 1) (nI 301)) (upd (upd ar3 s3 (nI v)) (s3 + 1) 0) (upd (upd tg3 s3 (nI s3)) (s3 + 1) (nI (s3 + 1))) (zc_h (zc_h H3 (s3 + 1) 0) (s3 + 2) 0) P := zc_em (h' := 0) (a := 0) (b := 0) (c := 0) rfl rfl rfl D1 (by unfold zc_v; omega) (zc_a0 (by omega)) (by omega) (by omega) (fun z _ => absurd rfl z) (fun _ z => z) (fun _ _ => by omega)
  have D3 : zc_C (s3 + 2) (upd (upd op3 s3 (nI 310)) (s3 + 1) (nI 301)) (upd (upd ar3 s3 (nI v)) (s3 + 1) 0) (upd (upd (upd tg3 s3 (nI s3)) (s3 + 1) (nI (s3 + 1))) (s3 + 1) (nI (s2 + 2))) (zc_h (zc_h H3 (s3 + 1) 0) (s3 + 2) 0) P := zc_tg (o := 301) (a := 0) (c := 0) rfl rfl D2 (by omega) pk_us (by unfold zc_j; omega) (by omega) (by rw [zc_hn (by omega), zc_hn (by omega), h3, zc_hn (by omega), zc_hs]) (fun j hj => Or.inl hj)
  have D4 : zc_C (s3 + 2) (upd (upd op3 s3 (nI 310)) (s3 + 1) (nI 301)) (upd (upd ar3 s3 (nI v)) (s3 + 1) 0) (upd (upd (upd (upd tg3 s3 (nI s3)) (s3 + 1) (nI (s3 + 1))) (s3 + 1) (nI (s2 + 2))) (s2 + 2) (nI (s3 + 2))) (zc_h (zc_h H3 (s3 + 1) 0) (s3 + 2) 0) P := zc_tg (o := 309) (a := 0) (c := 0) rfl rfl D3 (by omega) ((pk_un (by omega)).trans ((pk_un (by omega)).trans o3)) (by unfold zc_j; omega) (Nat.le_refl _) (by rw [zc_hs, zc_hn (by omega), zc_hn (by omega), h3]) (fun j hj => Or.inl hj)
  have X4 : zc_X e3 xa3 (s3 + 2) (upd (upd op3 s3 (nI 310)) (s3 + 1) (nI 301)) (zc_h (zc_h H3 (s3 + 1) 0) (s3 + 2) 0) := zc_Xg w8 (by omega) (zy_u (zy_u zy_r (by omega)) (by omega)) (zy_h (zy_h zy_r (by omega)) (by omega))
  refine zw_spo (k := 3) hg hi (by omega) oa3d oh3d hst (by omega) (by omega) rfl (fun Q hq => zy_d40 ht hv (fun Q' hq' => zy_fo3 hv (by omega) (by omega) pa3d (by omega) (zw_close (zc_X4 X4 (by omega)) (by omega) hq')) hq) (K (s3 + 2) e3 _ _ _ oa3 _ pa3 pb3 lt3 xa3 xl3 _ ⟨by omega, by omega, by omega, ?_, ?_, zc_hs, zw_cfC X4 zc_hs (by omega) e3 0 _ (by omega) D4, X4, ?_, ?_, ?_, ?_⟩)
  · exact zy_u (zy_u (zy_t w4 ag3 (by omega)) (by omega)) (by omega)
  · exact zy_h (zy_h (zy_t w5 hg3 (by omega)) (by omega)) (by omega)
  · exact zy_t w9 (zy_t r8 (zy_t q8 zy_r (Nat.le_succ d)) (Nat.le_succ d)) (Nat.le_succ d)
  · exact zy_u (zy_t wa (zy_u (zy_t r9 (zy_u (zy_t q9 (zy_u zy_r (Nat.le_refl d)) (Nat.le_succ d)) (Nat.le_refl d)) (Nat.le_succ d)) (Nat.le_refl d)) (Nat.le_succ d)) (Nat.le_refl d)
  · exact zy_t wb (zy_u zy_r (Nat.le_refl d)) (Nat.le_succ d)
  · exact zy_t wcc zy_r (Nat.le_succ d)
end
end
section
section
variable {ti ac ru wc sz dp lo ex he al ov : Int32} {a1 a2 a3 a4 a5 a6 a7 a8 a9 a10 a11 a12 a13 a14 a15 a16 a17 a18 a19 a20 a21 a22 a23 a24 a25 a26 a27 : Nat → Int32}
variable {op ar tg oa oh pa pb lt xa xl : Nat → Int32} {s d l e : Nat}
/-- case -/
theorem zy_case {post : St1 → Prop} {p N i : Nat} {tk sp : Nat → Nat} (hg : zw_G p N tk sp ac a11 a14) (hi : i < N) (ht : tk i = 56) (ih : ∀ k, k < zk_n (tk i) → zk_k (tk i) k → zw_Rs post ti ac ru wc he al ov a1 a2 a3 a4 a5 a6 a7 a8 a9 a10 a11 a12 a13 a14 a25 a26 a27 (zt_p sp i k) (sp (zt_p sp i k))) : zw_Rs post ti ac ru wc he al ov a1 a2 a3 a4 a5 a6 a7 a8 a9 a10 a11 a12 a13 a14 a25 a26 a27 i (sp i) := by
  intro s d l e op ar tg oa oh pa pb lt xa xl H P hoa hoh hd hs hl hee hH hC hX K
  have hn : zk_n (tk i) = 4 := zk_n4 ht
  have hst : zk_s (tk i) := by unfold zk_s; omega
  have hN := hg.2.1
  have hT2 := (hg.2.2.2.2.2 i hi).2.1
  obtain ⟨g0, g1, g2, g3, g4⟩ := zy_s4 hg.2.2.2.2.2 hi hn
  refine zy_pe (k := 0) hg hi hst (by omega) (by unfold zk_k; omega) hoa hoh (by omega) (by omega) (by omega) hC (fun Q hq => zy_d56 ht (fun Q' hq' => zy_ca0 hq') hq) ?_
  intro s1 op1 ar1 tg1 oa1 oh1 H1 q1 q2 q3 q3a q3t q4 q5 q6 q7 q8 q9
  rw [hH] at q5
  have oa1d : oa1 d = nI i := (q8 d (by omega)).trans hoa
  have oh1d : oh1 d = nI 1 := (q9 d (by omega)).trans pk_us
  have C1 : zc_C (s1 + 1) (upd op1 s1 (nI 303)) (upd ar1 s1 0) (upd tg1 s1 (nI s1)) (zc_h H1 (s1 + 1) 0) P := zc_em (h' := 0) (a := 1) (b := 0) (c := 1) rfl rfl rfl q6 (by unfold zc_v; omega) (zc_a0 (by omega)) (by omega) (by omega) (fun _ _ => by omega) (fun _ z => z) (fun _ _ => by omega)
  refine zy_ps (k := 1) hg hi hst (by omega) (ih 1 (by omega) (by unfold zk_k; omega)) oa1d oh1d (by omega) (by omega) (by omega) (by omega) zc_hs C1 (zc_Xg hX (by omega) (zy_u q3 (by omega)) (zy_h q4 (by omega))) (fun Q hq => zy_d56 ht (fun Q' hq' => zy_ca1 (by omega) (by omega) hq') hq) ?_
  intro s2 e2 op2 ar2 tg2 oa2 oh2 pa2 pb2 lt2 xa2 xl2 H2 r
  obtain ⟨r1, r2, r3, r4, r5, r6, r7, r8, r9, ra, rb, rc⟩ := r
  have oa2d : oa2 d = nI i := (r9 d (by omega)).trans oa1d
  have oh2d : oh2 d = nI 2 := (ra d (by omega)).trans pk_us
  have pa2d : pa2 d = nI s1 := (rb d (by omega)).trans pk_us
  have o2 : op2 s1 = nI 303 := (r4 s1 (by omega)).trans pk_us
  have h2 : H2 s1 = 1 := by rw [r5 s1 (by omega), zc_hn (by omega)]; exact q5
  have C2 : zc_C (s2 + 1) (upd op2 s2 (nI 301)) (upd ar2 s2 0) (upd tg2 s2 (nI s2)) (zc_h H2 (s2 + 1) 1) P := zc_em (h' := 1) (a := 0) (b := 0) (c := 0) rfl rfl rfl r7 (by unfold zc_v; omega) (zc_a0 (by omega)) (by omega) (by omega) (fun z _ => absurd rfl z) (fun _ z => z) (fun _ _ => by omega)
  have C3 : zc_C (s2 + 1) (upd op2 s2 (nI 301)) (upd ar2 s2 0) (upd (upd tg2 s2 (nI s2)) s1 (nI (s2 + 1))) (zc_h H2 (s2 + 1) 1) P := zc_tg (o := 303) (a := 1) (c := 1) rfl rfl C2 (by omega) ((pk_un (by omega)).trans o2) (by unfold zc_j; omega) (Nat.le_refl _) (by rw [zc_hs, zc_hn (by omega), h2]) (fun j hj => Or.inl hj)
  have C4 : zc_C (s2 + 2) (upd (upd op2 s2 (nI 301)) (s2 + 1) (nI 303)) (upd (upd ar2 s2 0) (s2 + 1) 1) (upd (upd (upd tg2 s2 (nI s2)) s1 (nI (s2 + 1))) (s2 + 1) (nI (s2 + 1))) (zc_h (zc_h H2 (s2 + 1) 1) (s2 + 2) 0) P := zc_em (h' := 0) (a := 1) (b := 0) (c := 1) rfl rfl rfl C3 (by unfold zc_v; omega) (zc_a0 (by omega)) (by rw [zc_hs]; omega) (by omega) (fun _ _ => by rw [zc_hs]) (fun _ z => z) (fun _ _ => by rw [zc_hs])
  refine zy_ps (k := 2) hg hi hst (by omega) (ih 2 (by omega) (by unfold zk_k; omega)) oa2d oh2d (by omega) (by omega) (by omega) (by omega) zc_hs C4 (zc_Xg r8 (by omega) (zy_u (zy_u zy_r (by omega)) (by omega)) (zy_h (zy_h zy_r (by omega)) (by omega))) (fun Q hq => zy_d56 ht (fun Q' hq' => zy_ca2 (by omega) (by omega) pa2d (by omega) hq') hq) ?_
  intro s3 e3 op3 ar3 tg3 oa3 oh3 pa3 pb3 lt3 xa3 xl3 H3 w
  obtain ⟨w1, w2, w3, w4, w5, w6, w7, w8, w9, wa, wb, wcc⟩ := w
  have oa3d : oa3 d = nI i := (w9 d (by omega)).trans oa2d
  have oh3d : oh3 d = nI 3 := (wa d (by omega)).trans pk_us
  have pa3d : pa3 d = nI (s2 + 1) := (wb d (by omega)).trans pk_us
  have pb3d : pb3 d = nI s2 := (wcc d (by omega)).trans pk_us
  have o3 : op3 (s2 + 1) = nI 303 := (w4 (s2 + 1) (by omega)).trans pk_us
  have o3' : op3 s2 = nI 301 := (w4 s2 (by omega)).trans ((pk_un (by omega)).trans pk_us)
  have h3 : H3 (s2 + 1) = 1 := by rw [w5 (s2 + 1) (by omega), zc_hn (by omega), zc_hs]
  have h3' : H3 s2 = 0 := by rw [w5 s2 (by omega), zc_hn (by omega), zc_hn (by omega)]; exact r6
  have D2 : zc_C (s3 + 1) (upd op3 s3 (nI 301)) (upd ar3 s3 0) (upd tg3 s3 (nI s3)) (zc_h H3 (s3 + 1) 1) P := zc_em (h' := 1) (a := 0) (b := 0) (c := 0) rfl rfl rfl w7 (by unfold zc_v; omega) (zc_a0 (by omega)) (by omega) (by omega) (fun z _ => absurd rfl z) (fun _ z => z) (fun _ _ => by omega)
  have D3 : zc_C (s3 + 1) (upd op3 s3 (nI 301)) (upd ar3 s3 0) (upd (upd tg3 s3 (nI s3)) (s2 + 1) (nI (s3 + 1))) (zc_h H3 (s3 + 1) 1) P := zc_tg (o := 303) (a := 1) (c := 1) rfl rfl D2 (by omega) ((pk_un (by omega)).trans o3) (by unfold zc_j; omega) (Nat.le_refl _) (by rw [zc_hs, zc_hn (by omega), h3]) (fun j hj => Or.inl hj)
  have D4 : zc_C (s3 + 2) (upd (upd op3 s3 (nI 301)) (s3 + 1) (nI 304)) (upd (upd ar3 s3 0) (s3 + 1) 0) (upd (upd (upd tg3 s3 (nI s3)) (s2 + 1) (nI (s3 + 1))) (s3 + 1) (nI (s3 + 1))) (zc_h (zc_h H3 (s3 + 1) 1) (s3 + 2) 0) P := zc_em (h' := 0) (a := 1) (b := 0) (c := 0) rfl rfl rfl D3 (by unfold zc_v; omega) (zc_a0 (by omega)) (by rw [zc_hs]; omega) (by omega) (fun _ _ => by rw [zc_hs]) (fun _ z => z) (fun z => absurd z (by unfold zc_j; omega))
  refine zy_ps (k := 3) hg hi hst (by omega) (ih 3 (by omega) (by unfold zk_k; omega)) oa3d oh3d (by omega) (by omega) (by omega) (by omega) zc_hs D4 (zc_Xg w8 (by omega) (zy_u (zy_u zy_r (by omega)) (by omega)) (zy_h (zy_h zy_r (by omega)) (by omega))) (fun Q hq => zy_d56 ht (fun Q' hq' => zy_ca3 (by omega) (by omega) pa3d (by omega) hq') hq) ?_
  intro s4 e4 op4 ar4 tg4 oa4 oh4 pa4 pb4 lt4 xa4 xl4 H4 y
  obtain ⟨y1, y2, y3, y4, y5, y6, y7, y8, y9, ya, yb, yc⟩ := y
  have oa4d : oa4 d = nI i := (y9 d (by omega)).trans oa3d
  have oh4d : oh4 d = nI 4 := (ya d (by omega)).trans pk_us
  have pa4d : pa4 d = nI s3 := (yb d (by omega)).trans pk_us
  have pb4d : pb4 d = nI s2 := (yc d (by omega)).trans pb3d
  have o4 : op4 s3 = nI 301 := (y4 s3 (by omega)).trans ((pk_un (by omega)).trans pk_us)
  have o4' : op4 s2 = nI 301 := (y4 s2 (by omega)).trans ((pk_un (by omega)).trans ((pk_un (by omega)).trans o3'))
  have h4 : H4 s3 = 0 := by rw [y5 s3 (by omega), zc_hn (by omega), zc_hn (by omega)]; exact w6
  have h4' : H4 s2 = 0 := by rw [y5 s2 (by omega), zc_hn (by omega), zc_hn (by omega)]; exact h3'
  have E1 : zc_C s4 op4 ar4 (upd tg4 s3 (nI s4)) H4 P := zc_tg (o := 301) (a := 0) (c := 0) rfl rfl y7 (by omega) o4 (by unfold zc_j; omega) (Nat.le_refl _) (by omega) (fun j hj => Or.inl hj)
  have E2 : zc_C s4 op4 ar4 (upd (upd tg4 s3 (nI s4)) s2 (nI s4)) H4 P := zc_tg (o := 301) (a := 0) (c := 0) rfl rfl E1 (by omega) o4' (by unfold zc_j; omega) (Nat.le_refl _) (by omega) (fun j hj => Or.inl hj)
  refine zw_spo (k := 4) hg hi (by omega) oa4d oh4d hst (by omega) (by omega) rfl (fun Q hq => zy_d56 ht (fun Q' hq' => zy_ca4 (by omega) pa4d (by omega) pb4d (by omega) hq') hq) (K s4 e4 op4 ar4 _ oa4 _ pa4 pb4 lt4 xa4 xl4 H4 ⟨by omega, by omega, by omega, ?_, ?_, y6, E2, y8, ?_, ?_, ?_, ?_⟩)
  · exact zy_t y4 (zy_u (zy_u (zy_t w4 (zy_u (zy_u (zy_t r4 (zy_u q3 (by omega)) (by omega)) (by omega)) (by omega)) (by omega)) (by omega)) (by omega)) (by omega)
  · exact zy_t y5 (zy_h (zy_h (zy_t w5 (zy_h (zy_h (zy_t r5 (zy_h q4 (by omega)) (by omega)) (by omega)) (by omega)) (by omega)) (by omega)) (by omega)) (by omega)
  · exact zy_t y9 (zy_t w9 (zy_t r9 (zy_t q8 zy_r (Nat.le_succ d)) (Nat.le_succ d)) (Nat.le_succ d)) (Nat.le_succ d)
  · exact zy_u (zy_t ya (zy_u (zy_t wa (zy_u (zy_t ra (zy_u (zy_t q9 (zy_u zy_r (Nat.le_refl d)) (Nat.le_succ d)) (Nat.le_refl d)) (Nat.le_succ d)) (Nat.le_refl d)) (Nat.le_succ d)) (Nat.le_refl d)) (Nat.le_succ d)) (Nat.le_refl d)
  · exact zy_t yb (zy_u (zy_t wb (zy_u (zy_t rb (zy_u zy_r (Nat.le_refl d)) (Nat.le_succ d)) (Nat.le_refl d)) (Nat.le_succ d)) (Nat.le_refl d)) (Nat.le_succ d)
  · exact zy_t yc (zy_t wcc (zy_u (zy_t rc (zy_u zy_r (Nat.le_refl d)) (Nat.le_succ d)) (Nat.le_refl d)) (Nat.le_succ d)) (Nat.le_succ d)
theorem zy_run {post : St1 → Prop} {p N : Nat} {tk sp : Nat → Nat} (hg : zw_G p N tk sp ac a11 a14) : ∀ m i, sp i ≤ m → i < N → zk_s (tk i) → zw_Rs post ti ac ru wc he al ov a1 a2 a3 a4 a5 a6 a7 a8 a9 a10 a11 a12 a13 a14 a25 a26 a27 i (sp i) := by
  intro m
  induction m with
  | zero =>
    intro i him hi _
    have := zx_sp1 (hg.2.2.2.2.2 i hi)
    omega
  | succ m ih =>
    intro i him hi hst
    have hT := hg.2.2.2.2.2 i hi
    have ih' : ∀ k, k < zk_n (tk i) → zk_k (tk i) k → zw_Rs post ti ac ru wc he al ov a1 a2 a3 a4 a5 a6 a7 a8 a9 a10 a11 a12 a13 a14 a25 a26 a27 (zt_p sp i k) (sp (zt_p sp i k)) := by
      intro k hk hkk
      obtain ⟨hj, hs, -⟩ := hT.2.2.2 k hk
      refine ih _ ?_ hj (hs hkk)
      have hjg := zt_pgt sp i k
      have hmon := zt_pmono sp i (show k + 1 ≤ zk_n (tk i) by omega)
      have hsucc : zt_p sp i (k + 1) = zt_p sp i k + sp (zt_p sp i k) := rfl
      rw [hT.1, hsucc] at hmon
      omega
    unfold zk_s at hst
    by_cases c1 : tk i = 1
    · exact zy_seq hg hi c1 ih'
    · by_cases c2 : tk i = 2
      · exact zy_nothing hg hi c2
      · by_cases c3 : tk i = 35
        · exact zy_if hg hi c3 ih'
        · by_cases c4 : tk i = 36
          · exact zy_while hg hi c4 ih'
          · by_cases c5 : tk i = 37
            · exact zy_repeat hg hi c5 ih'
            · by_cases c6 : tk i = 39
              · exact zy_exit hg hi c6
              · by_cases c7 : tk i = 56
                · exact zy_case hg hi c7 ih'
                · by_cases c8 : 40 ≤ tk i ∧ tk i < 56
                  · exact zy_for (v := tk i - 40) hg hi (by omega) (by omega) ih'
                  · exact zy_plain hg hi (by unfold zc_pl; omega)
/-! leadOn -/
theorem zj_j {Q : Int32 → Prop} {u : St2} {x : Int32} {o : Nat} (hx : x = nI o) (ho : o < 2 ^ 31) (h1 : zc_j o → Q 1) (h0 : ¬ zc_j o → Q 0) : wpX_jumps Q u x := by
  subst hx
  refine pk_eq o 301 (fun z => h1 (by unfold zc_j; omega)) (fun z1 => ?_)
  refine pk_eq o 302 (fun z => h1 (by unfold zc_j; omega)) (fun z2 => ?_)
  refine pk_eq o 303 (fun z => h1 (by unfold zc_j; omega)) (fun z3 => ?_)
  refine pk_eq o 306 (fun z => h1 (by unfold zc_j; omega)) (fun z4 => ?_)
  refine pk_eq o 309 (fun z => h1 (by unfold zc_j; omega)) (fun z5 => ?_)
  exact pk_eq o 307 (fun z => h1 (by unfold zc_j; omega)) (fun z6 => h0 (by unfold zc_j; omega))
theorem zj_lead {Q : St1 → Prop} {H : Nat → Nat} (hC : zc_C s op ar tg H (fun _ => False)) (hs : s ≤ 400) (hq : ∀ tg', zc_C s op ar tg' H (fun _ => False) → Q (ti, ac, ru, wc, nI s, dp, lo, ex, he, al, ov, a1, a2, a3, a4, a5, a6, a7, a8, a9, a10, a11, a12, a13, a14, op, ar, tg', oa, oh, pa, pb, lt, xa, xl, a25, a26, a27)) : wpX_leadOn Q (ti, ac, ru, wc, nI s, dp, lo, ex, he, al, ov, a1, a2, a3, a4, a5, a6, a7, a8, a9, a10, a11, a12, a13, a14, op, ar, tg, oa, oh, pa, pb, lt, xa, xl, a25, a26, a27) := by
  refine pk_loop (fun n k t => wX_leadOn_2 Q ti ac ru wc (nI s) dp lo ex he al ov n (nI k) a1 a2 a3 a4 a5 a6 a7 a8 a9 a10 a11 a12 a13 a14 op ar t oa oh pa pb lt xa xl a25 a26 a27) (fun k t => zc_C s op ar t H (fun _ => False)) s 0 tg (by omega) hC ?_ ?_
  · intro n t h
    exact pk_le s s (fun _ => hq t h) (fun z => absurd z (by omega))
  · intro n k t hk h hw
    have ck : (nI k).toNatClampNeg = k := nI_clamp (by omega)
    obtain ⟨o, h1, h2, h3, h4, h5, h6⟩ := h.1 k hk
    have ik : vp_in (nI k) 400 := pk_in k 400 (by omega)
    have ho : op (nI k).toNatClampNeg = nI o := by rw [ck]; exact h1
    -- the end of a turn
    have fin : ∀ x : Int32, (zc_j o → ∃ t', x = nI t' ∧ t' ≤ s ∧ H t' = H k - zc_p o + zc_r o) → wX_leadOn_70 Q (wX_leadOn_2 Q ti ac ru wc (nI s) dp lo ex he al ov n) (nI k) x ti ac ru wc (nI s) dp lo ex he al ov a1 a2 a3 a4 a5 a6 a7 a8 a9 a10 a11 a12 a13 a14 op ar t oa oh pa pb lt xa xl a25 a26 a27 := by
      intro x hx
      refine ⟨ik, zj_j ho (zc_vb h2) (fun z => br_f (by decide) ⟨ik, nm_r (e' := upd t k x) (by rw [ck]) (nm_r (nI_1 k) (hw _ ?_))⟩) (fun z => br_t rfl ⟨ik, ik, nm_r (e' := t) ?_ (nm_r (nI_1 k) (hw _ h))⟩)⟩
      · obtain ⟨t', x1, x2, x3⟩ := hx z
        rw [x1]
        exact zc_tgt h hk h1 z x2 x3 (fun j hj => Or.inl hj)
      · rw [ck]
        funext j
        by_cases ej : j = k
        · rw [ej, pk_us]
        · exact pk_un ej
    refine pk_le s k (fun z => absurd z (by omega)) (fun _ => ⟨ik, nm_r (e' := t k) (by rw [ck]) ?_⟩)
    have main : ∀ c q x, q + c = 8 → (zc_j o → ∃ t', x = nI t' ∧ t' ≤ s ∧ H t' = H k - zc_p o + zc_r o) → wX_leadOn_19 Q (wX_leadOn_2 Q ti ac ru wc (nI s) dp lo ex he al ov n) (nI k) ti ac ru wc (nI s) dp lo ex he al ov a1 a2 a3 a4 a5 a6 a7 a8 a9 a10 a11 a12 a13 a14 op ar t oa oh pa pb lt xa xl a25 a26 a27 (c + 1) x (nI q) := by
      intro c
      induction c with
      | zero =>
        intro q x hqc hx
        exact pk_le 8 q (fun _ => fin x hx) (fun z => absurd z (by omega))
      | succ c ih =>
        intro q x hqc hx
        refine pk_le 8 q (fun z => absurd z (by omega)) (fun _ => ⟨ik, zj_j ho (zc_vb h2) (fun z => br_f (by decide) ?_) (fun z => br_t rfl (fin x hx))⟩)
        obtain ⟨t', x1, x2, x3⟩ := hx z
        have fx := fin x hx
        subst x1
        have ct : (nI t').toNatClampNeg = t' := nI_clamp (by omega)
        refine pk_le s t' (fun _ => fx) (fun z2 => ⟨pk_in t' 400 (by omega), br_c (fun z3 => ⟨pk_in t' 400 (by omega), nm_r (e' := t t') (by rw [ct]) (nm_r (nI_1 q) (ih (q + 1) (t t') (by omega) (fun _ => ?_)))⟩) (fun _ => fx)⟩)
        rw [ct] at z3
        obtain ⟨o', k1, k2, k3, k4, k5, k6⟩ := h.1 t' z2
        have eo : o' = 301 := (nI_eq (zc_vb k2) (by omega)).mp (k1.symm.trans z3)
        subst eo
        obtain ⟨t2, j1, j2, j3⟩ := k6 (Or.inl rfl) (fun y => y)
        exact ⟨t2, j1, j2, by rw [j3, ← x3]; rfl⟩
    exact ⟨9, main 8 0 (t k) (by omega) (fun z => h6 z (fun y => y))⟩
/-- the whole of compile -/
theorem zj_compile {Q : St1 → Prop} {p N : Nat} {tk : Nat → Nat} (hp : p < 2) (hN : N ≤ 42) (hac : ac = nI p) (hc : a12 p = nI N) (hv : zs_V a11 p N tk) (hw : zs_w tk N = [])
    (hq : ∀ (sz' dp' lo' ex' : Int32) (a14' a15' a16' a17' a18' a19' a20' a21' a22' a23' a24' : Nat → Int32), (∃ s H, sz' = nI s ∧ s ≤ 400 ∧ H 0 = 0 ∧ zc_C s a15' a16' a17' H (fun _ => False)) → Q (ti, ac, ru, wc, sz', dp', lo', ex', he, al, ov, a1, a2, a3, a4, a5, a6, a7, a8, a9, a10, a11, a12, a13, a14', a15', a16', a17', a18', a19', a20', a21', a22', a23', a24', a25, a26, a27)) : wpX_compile Q (ti, ac, ru, wc, sz, dp, lo, ex, he, al, ov, a1, a2, a3, a4, a5, a6, a7, a8, a9, a10, a11, a12, a13, a14, a15, a16, a17, a18, a19, a20, a21, a22, a23, a24, a25, a26, a27) := by
  obtain ⟨sp, hT⟩ := zt_ex hv hw
  have hN0 : 0 < N := by
    rcases Nat.eq_zero_or_pos N with z | z
    · rw [z] at hw
      exact absurd hw (by show ¬ [True] = []; simp)
    · exact z
  unfold wpX_compile
  refine zt_mea hp (by omega) hac hc hv hT (fun a14' ha => ?_)
  have hg : zw_G p N tk sp ac a11 a14' := ⟨hp, hN, hac, hv, ha, hT⟩
  obtain ⟨b, l, hb1, hb2, -⟩ := hv.2 0 hN0
  have hb : b = True := (List.cons.inj hb1).1.symm
  have hst : zk_s (tk 0) := hb2 (by rw [hb]; trivial)
  have hT0 := (hT 0 hN0).2.1
  refine zw_enter (d := 0) (by omega) ?_
  refine zy_run hg _ 0 (Nat.le_refl _) hN0 hst 0 0 0 0 a15 a16 a17 _ _ a20 a21 a22 a23 a24 (fun _ => 0) (fun _ => False) pk_us pk_us (by omega) (by omega) (by omega) (by omega) rfl ⟨fun j hj => absurd hj (by omega), fun j _ => Nat.zero_le _⟩ (fun k hk => absurd hk (by omega)) ?_
  intro s' e' op' ar' tg' oa' oh' pa' pb' lt' xa' xl' H' q
  obtain ⟨q1, q2, q3, q4, q5, q6, q7, q8, q9, qa, qb, qc⟩ := q
  refine ⟨1, pk_le 0 0 (fun _ => ?_) (fun z => absurd z (by omega))⟩
  have C1 : zc_C (s' + 1) (upd op' s' (nI 311)) (upd ar' s' 0) (upd tg' s' (nI s')) (zc_h H' (s' + 1) 0) (fun _ => False) := zc_em (h' := 0) (a := 0) (b := 0) (c := 0) rfl rfl rfl q7 (by unfold zc_v; omega) (zc_a0 (by omega)) (by omega) (by omega) (fun _ z => absurd rfl z) (fun _ z => z) (fun z => absurd z (by unfold zc_j; omega))
  refine zw_emit (by omega) (zj_lead C1 (by omega) (fun tg2 hC2 => ?_))
  exact hq _ _ _ _ _ _ _ _ _ _ _ _ _ _ _ ⟨s' + 1, _, rfl, by omega, (zc_hn (by omega)).trans (q5 0 (by omega)), hC2⟩
end
end
section
section
variable {ti ac ru wc sz dp lo ex he al ov : Int32} {a1 a2 a3 a4 a5 a6 a7 a8 a9 a10 a11 a12 a13 a14 a15 a16 a17 a18 a19 a20 a21 a22 a23 a24 a25 a26 a27 : Nat → Int32}
/-! the machine: heights alone matter -/
theorem zm_push {Q : St1 → Prop} {x : Int32} {h : Nat} (hh : h < 80) (hq : ∀ (al' ov' : Int32) (a1' a2' a5' a6' a7' a8' a9' a10' a25' a26' a27' : Nat → Int32), Q (ti, ac, ru, wc, sz, dp, lo, ex, nI (h + 1), al', ov', a1', a2', a3, a4, a5', a6', a7', a8', a9', a10', a11, a12, a13, a14, a15, a16, a17, a18, a19, a20, a21, a22, a23, a24, a25', a26', a27')) : wpX_push Q (ti, ac, ru, wc, sz, dp, lo, ex, nI h, al, ov, a1, a2, a3, a4, a5, a6, a7, a8, a9, a10, a11, a12, a13, a14, a15, a16, a17, a18, a19, a20, a21, a22, a23, a24, a25, a26, a27) x :=
  ⟨pk_in h 80 hh, nm_e (nm_r (nI_1 h) (hq _ _ _ _ _ _ _ _ _ _ _ _ _))⟩
theorem zm_pop {Q : Int32 → St1 → Prop} {h : Nat} (hh : h < 80) (hq : ∀ (x : Int32) (al' ov' : Int32) (a1' a2' a5' a6' a7' a8' a9' a10' a25' a26' a27' : Nat → Int32), Q x (ti, ac, ru, wc, sz, dp, lo, ex, nI h, al', ov', a1', a2', a3, a4, a5', a6', a7', a8', a9', a10', a11, a12, a13, a14, a15, a16, a17, a18, a19, a20, a21, a22, a23, a24, a25', a26', a27')) : wpX_pop Q (ti, ac, ru, wc, sz, dp, lo, ex, nI (h + 1), al, ov, a1, a2, a3, a4, a5, a6, a7, a8, a9, a10, a11, a12, a13, a14, a15, a16, a17, a18, a19, a20, a21, a22, a23, a24, a25, a26, a27) :=
  nm_r (nI_pred h) ⟨pk_in h 80 hh, hq _ _ _ _ _ _ _ _ _ _ _ _ _ _⟩
theorem zm_pop2 {Q : Int32 → St1 → Prop} {h : Nat} (hh : h < 80) (hq : ∀ (x : Int32) (al' ov' : Int32) (a1' a2' a5' a6' a7' a8' a9' a10' a25' a26' a27' : Nat → Int32), Q x (ti, ac, ru, wc, sz, dp, lo, ex, nI h, al', ov', a1', a2', a3, a4, a5', a6', a7', a8', a9', a10', a11, a12, a13, a14, a15, a16, a17, a18, a19, a20, a21, a22, a23, a24, a25', a26', a27')) : wpX_pop_2 Q (ti, ac, ru, wc, sz, dp, lo, ex, nI (h + 1), al, ov, a1, a2, a3, a4, a5, a6, a7, a8, a9, a10, a11, a12, a13, a14, a15, a16, a17, a18, a19, a20, a21, a22, a23, a24, a25, a26, a27) :=
  nm_r (nI_pred h) ⟨pk_in h 80 hh, hq _ _ _ _ _ _ _ _ _ _ _ _ _ _⟩
theorem zm_c1 {Q : St1 → Prop} {h o : Nat} (ho : o = 139) (hh : h < 76) (hq : ∀ (al' ov' : Int32) (a1' a2' a5' a6' a7' a8' a9' a10' a25' a26' a27' : Nat → Int32), Q (ti, ac, ru, wc, sz, dp, lo, ex, nI (h + 1), al', ov', a1', a2', a3, a4, a5', a6', a7', a8', a9', a10', a11, a12, a13, a14, a15, a16, a17, a18, a19, a20, a21, a22, a23, a24, a25', a26', a27')) : wpX_compute Q (ti, ac, ru, wc, sz, dp, lo, ex, nI (h + 1), al, ov, a1, a2, a3, a4, a5, a6, a7, a8, a9, a10, a11, a12, a13, a14, a15, a16, a17, a18, a19, a20, a21, a22, a23, a24, a25, a26, a27) (nI o) := by
  unfold wpX_compute
  refine zm_pop (by omega) (fun x al ov a1 a2 a5 a6 a7 a8 a9 a10 a25 a26 a27 => pk_eq o 139 (fun _ => ?_) (fun z => absurd ho z))
  obtain ⟨v, hv⟩ := zx_one x
  exact hv _ (zm_push (by omega) hq)
theorem zm_c2 {Q : St1 → Prop} {h o : Nat} (ho : o ≠ 139) (ho2 : o ≠ 142) (hob : o < 300) (hh : h < 76) (hq : ∀ (al' ov' : Int32) (a1' a2' a5' a6' a7' a8' a9' a10' a25' a26' a27' : Nat → Int32), Q (ti, ac, ru, wc, sz, dp, lo, ex, nI (h + 1), al', ov', a1', a2', a3, a4, a5', a6', a7', a8', a9', a10', a11, a12, a13, a14, a15, a16, a17, a18, a19, a20, a21, a22, a23, a24, a25', a26', a27')) : wpX_compute Q (ti, ac, ru, wc, sz, dp, lo, ex, nI (h + 2), al, ov, a1, a2, a3, a4, a5, a6, a7, a8, a9, a10, a11, a12, a13, a14, a15, a16, a17, a18, a19, a20, a21, a22, a23, a24, a25, a26, a27) (nI o) := by
  unfold wpX_compute
  refine zm_pop (by omega) (fun x al ov a1 a2 a5 a6 a7 a8 a9 a10 a25 a26 a27 => pk_eq o 139 (fun z => absurd z ho) (fun _ => ?_))
  refine zm_pop (by omega) (fun y al ov a1 a2 a5 a6 a7 a8 a9 a10 a25 a26 a27 => pk_eq o 142 (fun z => absurd z ho2) (fun _ => ?_))
  obtain ⟨v, hv⟩ := zx_two (nI o) y x
  exact hv _ (zm_push (by omega) hq)
theorem zm_c3 {Q : St1 → Prop} {h o : Nat} (ho : o = 142) (hh : h < 76) (hq : ∀ (al' ov' : Int32) (a1' a2' a5' a6' a7' a8' a9' a10' a25' a26' a27' : Nat → Int32), Q (ti, ac, ru, wc, sz, dp, lo, ex, nI (h + 1), al', ov', a1', a2', a3, a4, a5', a6', a7', a8', a9', a10', a11, a12, a13, a14, a15, a16, a17, a18, a19, a20, a21, a22, a23, a24, a25', a26', a27')) : wpX_compute Q (ti, ac, ru, wc, sz, dp, lo, ex, nI (h + 3), al, ov, a1, a2, a3, a4, a5, a6, a7, a8, a9, a10, a11, a12, a13, a14, a15, a16, a17, a18, a19, a20, a21, a22, a23, a24, a25, a26, a27) (nI o) := by
  unfold wpX_compute
  refine zm_pop (by omega) (fun x al ov a1 a2 a5 a6 a7 a8 a9 a10 a25 a26 a27 => pk_eq o 139 (fun z => absurd z (by omega)) (fun _ => ?_))
  refine zm_pop (by omega) (fun y al ov a1 a2 a5 a6 a7 a8 a9 a10 a25 a26 a27 => pk_eq o 142 (fun _ => ?_) (fun z => absurd ho z))
  refine zm_pop (by omega) (fun w al ov a1 a2 a5 a6 a7 a8 a9 a10 a25 a26 a27 => ?_)
  unfold wX_compute_52
  exact br_c (fun _ => zm_push (by omega) hq) (fun _ => zm_push (by omega) hq)
theorem zm_and7 (x : Int32) : vp_in (x &&& 7) 8 := pk_andIn x (m := 7) 3 (by decide) (by omega)
theorem zm_l0 {Q : St1 → Prop} {h o : Nat} (ho : (100 ≤ o ∧ o < 116) ∨ (120 ≤ o ∧ o < 128)) (hh : h < 76) (hq : ∀ (al' ov' : Int32) (a1' a2' a5' a6' a7' a8' a9' a10' a25' a26' a27' : Nat → Int32), Q (ti, ac, ru, wc, sz, dp, lo, ex, nI (h + 1), al', ov', a1', a2', a3, a4, a5', a6', a7', a8', a9', a10', a11, a12, a13, a14, a15, a16, a17, a18, a19, a20, a21, a22, a23, a24, a25', a26', a27')) : wpX_load Q (ti, ac, ru, wc, sz, dp, lo, ex, nI h, al, ov, a1, a2, a3, a4, a5, a6, a7, a8, a9, a10, a11, a12, a13, a14, a15, a16, a17, a18, a19, a20, a21, a22, a23, a24, a25, a26, a27) (nI o) := by
  refine pk_le 120 o (fun z1 => pk_le 124 o (fun z2 => pk_le 128 o (fun z3 => absurd z3 (by omega)) (fun z3 => ?_)) (fun z2 => ?_)) (fun z1 => ?_)
  · exact ⟨pk_in (o - 124) 4 (by omega) (zx_sub (b := 124) z2), zm_push (by omega) hq⟩
  · exact ⟨pk_in (o - 120) 4 (by omega) (zx_sub (b := 120) z1), zm_push (by omega) hq⟩
  · exact ⟨pk_in (o - 100) 16 (by omega) (zx_sub (b := 100) (by omega)), zm_push (by omega) hq⟩
theorem zm_l1 {Q : St1 → Prop} {h o : Nat} (ho : o = 128) (hh : h < 76) (hq : ∀ (al' ov' : Int32) (a1' a2' a5' a6' a7' a8' a9' a10' a25' a26' a27' : Nat → Int32), Q (ti, ac, ru, wc, sz, dp, lo, ex, nI (h + 1), al', ov', a1', a2', a3, a4, a5', a6', a7', a8', a9', a10', a11, a12, a13, a14, a15, a16, a17, a18, a19, a20, a21, a22, a23, a24, a25', a26', a27')) : wpX_load Q (ti, ac, ru, wc, sz, dp, lo, ex, nI (h + 1), al, ov, a1, a2, a3, a4, a5, a6, a7, a8, a9, a10, a11, a12, a13, a14, a15, a16, a17, a18, a19, a20, a21, a22, a23, a24, a25, a26, a27) (nI o) := by
  refine pk_le 120 o (fun z1 => pk_le 124 o (fun z2 => pk_le 128 o (fun z3 => ?_) (fun z3 => absurd z3 (by omega))) (fun z2 => absurd z2 (by omega))) (fun z1 => absurd z1 (by omega))
  refine zm_pop (by omega) (fun x al ov a1 a2 a5 a6 a7 a8 a9 a10 a25 a26 a27 => nm_e ⟨zm_and7 x, zm_push (by omega) hq⟩)
theorem zm_ch1 {Q : St1 → Prop} {h o : Nat} (ho : (10 ≤ o ∧ o < 26) ∨ (30 ≤ o ∧ o < 34)) (hh : h < 76) (hq : ∀ (al' ov' : Int32) (a1' a2' a5' a6' a7' a8' a9' a10' a25' a26' a27' : Nat → Int32), Q (ti, ac, ru, wc, sz, dp, lo, ex, nI h, al', ov', a1', a2', a3, a4, a5', a6', a7', a8', a9', a10', a11, a12, a13, a14, a15, a16, a17, a18, a19, a20, a21, a22, a23, a24, a25', a26', a27')) : wpX_change Q (ti, ac, ru, wc, sz, dp, lo, ex, nI (h + 1), al, ov, a1, a2, a3, a4, a5, a6, a7, a8, a9, a10, a11, a12, a13, a14, a15, a16, a17, a18, a19, a20, a21, a22, a23, a24, a25, a26, a27) (nI o) := by
  unfold wpX_change
  refine zm_pop (by omega) (fun x al ov a1 a2 a5 a6 a7 a8 a9 a10 a25 a26 a27 => pk_le 30 o (fun z1 => pk_le 34 o (fun z2 => absurd z2 (by omega)) (fun z2 => ?_)) (fun z1 => ?_))
  · exact ⟨pk_in (o - 30) 4 (by omega) (zx_sub (b := 30) z1), nm_e (hq _ _ _ _ _ _ _ _ _ _ _ _ _)⟩
  · exact ⟨pk_in (o - 10) 16 (by omega) (zx_sub (b := 10) (by omega)), nm_e (hq _ _ _ _ _ _ _ _ _ _ _ _ _)⟩
theorem zm_ch2 {Q : St1 → Prop} {h o : Nat} (ho : o = 34) (hh : h < 76) (hq : ∀ (al' ov' : Int32) (a1' a2' a5' a6' a7' a8' a9' a10' a25' a26' a27' : Nat → Int32), Q (ti, ac, ru, wc, sz, dp, lo, ex, nI h, al', ov', a1', a2', a3, a4, a5', a6', a7', a8', a9', a10', a11, a12, a13, a14, a15, a16, a17, a18, a19, a20, a21, a22, a23, a24, a25', a26', a27')) : wpX_change Q (ti, ac, ru, wc, sz, dp, lo, ex, nI (h + 2), al, ov, a1, a2, a3, a4, a5, a6, a7, a8, a9, a10, a11, a12, a13, a14, a15, a16, a17, a18, a19, a20, a21, a22, a23, a24, a25, a26, a27) (nI o) := by
  unfold wpX_change
  refine zm_pop (by omega) (fun x al ov a1 a2 a5 a6 a7 a8 a9 a10 a25 a26 a27 => pk_le 30 o (fun z1 => pk_le 34 o (fun z2 => ?_) (fun z2 => absurd z2 (by omega))) (fun z1 => absurd z1 (by omega)))
  refine zm_pop (by omega) (fun y al ov a1 a2 a5 a6 a7 a8 a9 a10 a25 a26 a27 => nm_e ⟨zm_and7 y, nm_e (hq _ _ _ _ _ _ _ _ _ _ _ _ _)⟩)
/-! blocks -/
theorem zm_i3 {k : Nat} (hk : k < 3) : vp_in (nI k) 3 := pk_in k 3 hk
theorem zm_ia {k c : Nat} {x : Int32} (hk : k < 3) (hc : c ≤ 12) (hx : x = nI c := by rfl) : vp_in (x + nI k) 15 := by
  subst hx
  exact pk_in (c + k) 15 (by omega) (nI_add c k)
theorem zm_edge {Q : St1 → Prop} {h k : Nat} (hk : k < 3) (hh : h < 76) (hq : ∀ (al' ov' : Int32) (a1' a2' a5' a6' a7' a8' a9' a10' a25' a26' a27' : Nat → Int32), Q (ti, ac, ru, wc, sz, dp, lo, ex, nI h, al', ov', a1', a2', a3, a4, a5', a6', a7', a8', a9', a10', a11, a12, a13, a14, a15, a16, a17, a18, a19, a20, a21, a22, a23, a24, a25', a26', a27')) : wpX_runEdge Q (ti, ac, ru, wc, sz, dp, lo, ex, nI (h + 1), al, ov, a1, a2, a3, a4, a5, a6, a7, a8, a9, a10, a11, a12, a13, a14, a15, a16, a17, a18, a19, a20, a21, a22, a23, a24, a25, a26, a27) (nI k) := by
  have i3 := zm_i3 hk
  have i12 : vp_in (12 + nI k) 15 := zm_ia (c := 12) hk (by omega)
  have e38 : ∀ (y : Int32) (al' ov' : Int32) (a1' a2' a5' a6' a7' a8' a9' a10' a25' a26' a27' : Nat → Int32), wX_runEdge_38 Q (nI k) y (12 + nI k) ti ac ru wc sz dp lo ex (nI h) al' ov' a1' a2' a3 a4 a5' a6' a7' a8' a9' a10' a11 a12 a13 a14 a15 a16 a17 a18 a19 a20 a21 a22 a23 a24 a25' a26' a27' := fun y al ov a1 a2 a5 a6 a7 a8 a9 a10 a25 a26 a27 => ⟨i12, nm_e ⟨i3, nm_e (hq _ _ _ _ _ _ _ _ _ _ _ _ _)⟩⟩
  have e12 : ∀ (y : Int32) (al' ov' : Int32) (a1' a2' a5' a6' a7' a8' a9' a10' a25' a26' a27' : Nat → Int32), wX_runEdge_12 Q (nI k) y ti ac ru wc sz dp lo ex (nI h) al' ov' a1' a2' a3 a4 a5' a6' a7' a8' a9' a10' a11 a12 a13 a14 a15 a16 a17 a18 a19 a20 a21 a22 a23 a24 a25' a26' a27' := fun y al ov a1 a2 a5 a6 a7 a8 a9 a10 a25 a26 a27 => br_c (fun _ => e38 y _ _ _ _ _ _ _ _ _ _ _ _ _) (fun _ => ⟨i3, br_c (fun _ => ⟨i12, nm_e ⟨i3, nm_e (hq _ _ _ _ _ _ _ _ _ _ _ _ _)⟩⟩) (fun _ => e38 y _ _ _ _ _ _ _ _ _ _ _ _ _)⟩)
  unfold wpX_runEdge
  exact zm_pop (by omega) (fun x al ov a1 a2 a5 a6 a7 a8 a9 a10 a25 a26 a27 => br_c (fun _ => e12 _ _ _ _ _ _ _ _ _ _ _ _ _ _) (fun _ => e12 _ _ _ _ _ _ _ _ _ _ _ _ _ _))
theorem zm_counter {Q : St1 → Prop} {h k : Nat} (hk : k < 3) (hh : h < 76) (hq : ∀ (al' ov' : Int32) (a1' a2' a5' a6' a7' a8' a9' a10' a25' a26' a27' : Nat → Int32), Q (ti, ac, ru, wc, sz, dp, lo, ex, nI h, al', ov', a1', a2', a3, a4, a5', a6', a7', a8', a9', a10', a11, a12, a13, a14, a15, a16, a17, a18, a19, a20, a21, a22, a23, a24, a25', a26', a27')) : wpX_runCounter Q (ti, ac, ru, wc, sz, dp, lo, ex, nI (h + 3), al, ov, a1, a2, a3, a4, a5, a6, a7, a8, a9, a10, a11, a12, a13, a14, a15, a16, a17, a18, a19, a20, a21, a22, a23, a24, a25, a26, a27) (nI k) := by
  have i3 := zm_i3 hk
  have i6 : vp_in (6 + nI k) 15 := zm_ia (c := 6) hk (by omega)
  have i9 : vp_in (9 + nI k) 15 := zm_ia (c := 9) hk (by omega)
  have e76 : ∀ (y z : Int32) (al' ov' : Int32) (a1' a2' a5' a6' a7' a8' a9' a10' a25' a26' a27' : Nat → Int32), wX_runCounter_76 Q (nI k) y z ti ac ru wc sz dp lo ex (nI h) al' ov' a1' a2' a3 a4 a5' a6' a7' a8' a9' a10' a11 a12 a13 a14 a15 a16 a17 a18 a19 a20 a21 a22 a23 a24 a25' a26' a27' := fun y z al ov a1 a2 a5 a6 a7 a8 a9 a10 a25 a26 a27 => ⟨i3, nm_e ⟨i6, br_c (fun _ => ⟨i9, nm_e (hq _ _ _ _ _ _ _ _ _ _ _ _ _)⟩) (fun _ => ⟨i9, nm_e (hq _ _ _ _ _ _ _ _ _ _ _ _ _)⟩)⟩⟩
  have e30 : ∀ (y z w : Int32) (al' ov' : Int32) (a1' a2' a5' a6' a7' a8' a9' a10' a25' a26' a27' : Nat → Int32), wX_runCounter_30 Q (nI k) y z w ti ac ru wc sz dp lo ex (nI h) al' ov' a1' a2' a3 a4 a5' a6' a7' a8' a9' a10' a11 a12 a13 a14 a15 a16 a17 a18 a19 a20 a21 a22 a23 a24 a25' a26' a27' := fun y z w al ov a1 a2 a5 a6 a7 a8 a9 a10 a25 a26 a27 => br_c (fun _ => br_c (fun _ => e76 y w _ _ _ _ _ _ _ _ _ _ _ _ _) (fun _ => ⟨i3, br_c (fun _ => ⟨i6, i6, nm_e (e76 y w _ _ _ _ _ _ _ _ _ _ _ _ _)⟩) (fun _ => e76 y w _ _ _ _ _ _ _ _ _ _ _ _ _)⟩)) (fun _ => ⟨i6, nm_e (e76 y w _ _ _ _ _ _ _ _ _ _ _ _ _)⟩)
  have e17 : ∀ (y z : Int32) (al' ov' : Int32) (a1' a2' a5' a6' a7' a8' a9' a10' a25' a26' a27' : Nat → Int32), wX_runCounter_17 Q (nI k) y z ti ac ru wc sz dp lo ex (nI (h + 1)) al' ov' a1' a2' a3 a4 a5' a6' a7' a8' a9' a10' a11 a12 a13 a14 a15 a16 a17 a18 a19 a20 a21 a22 a23 a24 a25' a26' a27' := fun y z al ov a1 a2 a5 a6 a7 a8 a9 a10 a25 a26 a27 => by
    unfold wX_runCounter_17
    exact zm_pop (by omega) (fun x al ov a1 a2 a5 a6 a7 a8 a9 a10 a25 a26 a27 => br_c (fun _ => e30 y z _ _ _ _ _ _ _ _ _ _ _ _ _ _) (fun _ => e30 y z _ _ _ _ _ _ _ _ _ _ _ _ _ _))
  unfold wpX_runCounter
  exact zm_pop (by omega) (fun x al ov a1 a2 a5 a6 a7 a8 a9 a10 a25 a26 a27 => zm_pop (by omega) (fun y al ov a1 a2 a5 a6 a7 a8 a9 a10 a25 a26 a27 => br_c (fun _ => e17 _ _ _ _ _ _ _ _ _ _ _ _ _ _ _) (fun _ => e17 _ _ _ _ _ _ _ _ _ _ _ _ _ _ _)))
theorem zm_timer {Q : St1 → Prop} {h k : Nat} (hk : k < 3) (hh : h < 76) (hq : ∀ (al' ov' : Int32) (a1' a2' a5' a6' a7' a8' a9' a10' a25' a26' a27' : Nat → Int32), Q (ti, ac, ru, wc, sz, dp, lo, ex, nI h, al', ov', a1', a2', a3, a4, a5', a6', a7', a8', a9', a10', a11, a12, a13, a14, a15, a16, a17, a18, a19, a20, a21, a22, a23, a24, a25', a26', a27')) : wpX_runTimer Q (ti, ac, ru, wc, sz, dp, lo, ex, nI (h + 2), al, ov, a1, a2, a3, a4, a5, a6, a7, a8, a9, a10, a11, a12, a13, a14, a15, a16, a17, a18, a19, a20, a21, a22, a23, a24, a25, a26, a27) (nI k) := by
  have i3 := zm_i3 hk
  have ik : vp_in (nI k) 15 := pk_in k 15 (by omega)
  have i13 : vp_in (3 + nI k) 15 := zm_ia (c := 3) hk (by omega)
  have e100 : ∀ (x y z w : Int32) (al' ov' : Int32) (a1' a2' a5' a6' a7' a8' a9' a10' a25' a26' a27' : Nat → Int32), wX_runTimer_100 Q (nI k) x y z w (3 + nI k) ti ac ru wc sz dp lo ex (nI h) al' ov' a1' a2' a3 a4 a5' a6' a7' a8' a9' a10' a11 a12 a13 a14 a15 a16 a17 a18 a19 a20 a21 a22 a23 a24 a25' a26' a27' := fun x y z w al ov a1 a2 a5 a6 a7 a8 a9 a10 a25 a26 a27 => ⟨i13, nm_e (br_c (fun _ => ⟨ik, nm_e (hq _ _ _ _ _ _ _ _ _ _ _ _ _)⟩) (fun _ => br_c (fun _ => ⟨ik, nm_e (hq _ _ _ _ _ _ _ _ _ _ _ _ _)⟩) (fun _ => ⟨ik, nm_e (hq _ _ _ _ _ _ _ _ _ _ _ _ _)⟩)))⟩
  have e81 : ∀ (x y z w : Int32) (al' ov' : Int32) (a1' a2' a5' a6' a7' a8' a9' a10' a25' a26' a27' : Nat → Int32), wX_runTimer_81 Q (nI k) x y z w ti ac ru wc sz dp lo ex (nI h) al' ov' a1' a2' a3 a4 a5' a6' a7' a8' a9' a10' a11 a12 a13 a14 a15 a16 a17 a18 a19 a20 a21 a22 a23 a24 a25' a26' a27' := fun x y z w al ov a1 a2 a5 a6 a7 a8 a9 a10 a25 a26 a27 => br_c (fun _ => e100 x y z _ _ _ _ _ _ _ _ _ _ _ _ _ _) (fun _ => e100 x y z _ _ _ _ _ _ _ _ _ _ _ _ _ _)
  have e41 : ∀ (x y : Int32) (al' ov' : Int32) (a1' a2' a5' a6' a7' a8' a9' a10' a25' a26' a27' : Nat → Int32), wX_runTimer_41 Q (nI k) x y ti ac ru wc sz dp lo ex (nI h) al' ov' a1' a2' a3 a4 a5' a6' a7' a8' a9' a10' a11 a12 a13 a14 a15 a16 a17 a18 a19 a20 a21 a22 a23 a24 a25' a26' a27' := fun x y al ov a1 a2 a5 a6 a7 a8 a9 a10 a25 a26 a27 => ⟨i3, nm_e ⟨i3, nm_e (br_c (fun _ => br_c (fun _ => e81 x y _ _ _ _ _ _ _ _ _ _ _ _ _ _ _) (fun _ => e81 x y _ _ _ _ _ _ _ _ _ _ _ _ _ _ _)) (fun _ => e81 x y _ _ _ _ _ _ _ _ _ _ _ _ _ _ _))⟩⟩
  have e17 : ∀ (x y : Int32) (al' ov' : Int32) (a1' a2' a5' a6' a7' a8' a9' a10' a25' a26' a27' : Nat → Int32), wX_runTimer_17 Q (nI k) x y ti ac ru wc sz dp lo ex (nI h) al' ov' a1' a2' a3 a4 a5' a6' a7' a8' a9' a10' a11 a12 a13 a14 a15 a16 a17 a18 a19 a20 a21 a22 a23 a24 a25' a26' a27' := fun x y al ov a1 a2 a5 a6 a7 a8 a9 a10 a25 a26 a27 => br_c (fun _ => e41 x y _ _ _ _ _ _ _ _ _ _ _ _ _) (fun _ => ⟨i3, br_c (fun _ => ⟨i3, nm_e (e41 x y _ _ _ _ _ _ _ _ _ _ _ _ _)⟩) (fun _ => e41 x y _ _ _ _ _ _ _ _ _ _ _ _ _)⟩)
  unfold wpX_runTimer
  exact zm_pop (by omega) (fun x al ov a1 a2 a5 a6 a7 a8 a9 a10 a25 a26 a27 => zm_pop (by omega) (fun y al ov a1 a2 a5 a6 a7 a8 a9 a10 a25 a26 a27 => br_c (fun _ => e17 _ _ _ _ _ _ _ _ _ _ _ _ _ _ _) (fun _ => e17 _ _ _ _ _ _ _ _ _ _ _ _ _ _ _)))
/-! steering -/
theorem zm_may {Q : Int32 → St1 → Prop} {k : Nat} {x : Int32} (hx : x = nI k) (hk : k < 32) (hq : ∀ (r : Int32) (al' ov' : Int32) (a1' a2' a5' a6' a7' a8' a9' a10' a25' a26' a27' : Nat → Int32), Q r (ti, ac, ru, wc, sz, dp, lo, ex, he, al', ov', a1', a2', a3, a4, a5', a6', a7', a8', a9', a10', a11, a12, a13, a14, a15, a16, a17, a18, a19, a20, a21, a22, a23, a24, a25', a26', a27')) : wpX_mayBegin Q (ti, ac, ru, wc, sz, dp, lo, ex, he, al, ov, a1, a2, a3, a4, a5, a6, a7, a8, a9, a10, a11, a12, a13, a14, a15, a16, a17, a18, a19, a20, a21, a22, a23, a24, a25, a26, a27) x := by
  subst hx
  have i : vp_in (nI k) 32 := pk_in k 32 hk
  exact ⟨i, br_c (fun _ => hq 0 _ _ _ _ _ _ _ _ _ _ _ _ _) (fun _ => br_c (fun _ => hq 0 _ _ _ _ _ _ _ _ _ _ _ _ _) (fun _ => nm_e ⟨i, i, nm_e (hq 1 _ _ _ _ _ _ _ _ _ _ _ _ _)⟩))⟩
/-- the next instruction: over, or one of the right height -/
theorem zm_and31 {v l : Nat} (hv : v < 16) (hl : l < 32) : nI (32 * v + l) &&& 31 = nI l := by
  rw [pk_andN (n := 32 * v + l) (by omega) (m := 31) 5 (by decide), show (32 * v + l) % 2 ^ 5 = l by omega]
theorem zm_shr5 {v l : Nat} (hv : v < 16) (hl : l < 32) : nI (32 * v + l) >>> ((5 : Int32) &&& 31) = nI v := by
  rw [pk_shrN (n := 32 * v + l) (by omega) ((5 : Int32) &&& 31) 5 (by decide), show (32 * v + l) / 2 ^ 5 = v by omega]
theorem zm_steer {Q : Int32 → St1 → Prop} {s k o : Nat} {H : Nat → Nat} (hs : s ≤ 400) (hk : k < s) (hH : ∀ j, j ≤ s → H j ≤ 70) (ho : 301 ≤ o) (h1 : a15 k = nI o) (h2 : zc_v o) (h3 : zc_a o (a16 k)) (h4 : zc_p o ≤ H k) (h5 : o ≠ 301 → o ≠ 311 → H (k + 1) = H k - zc_p o + zc_q o) (h6 : zc_j o → ∃ t, a17 k = nI t ∧ t ≤ s ∧ H t = H k - zc_p o + zc_r o)
    (hq : ∀ (t h' : Nat) (al' ov' : Int32) (a1' a2' a5' a6' a7' a8' a9' a10' a25' a26' a27' : Nat → Int32), (ov' = 1 ∨ (t ≤ s ∧ h' = H t)) → Q (nI t) (ti, ac, ru, wc, sz, dp, lo, ex, nI h', al', ov', a1', a2', a3, a4, a5', a6', a7', a8', a9', a10', a11, a12, a13, a14, a15, a16, a17, a18, a19, a20, a21, a22, a23, a24, a25', a26', a27')) : wpX_steer Q (ti, ac, ru, wc, sz, dp, lo, ex, nI (H k), al, ov, a1, a2, a3, a4, a5, a6, a7, a8, a9, a10, a11, a12, a13, a14, a15, a16, a17, a18, a19, a20, a21, a22, a23, a24, a25, a26, a27) (nI k) := by
  have ia : vp_in (nI k) 400 := pk_in k 400 (by omega)
  have ca : (nI k).toNatClampNeg = k := nI_clamp (by omega)
  have hob := zc_vb h2
  have hHk := hH k (by omega)
  have fall : ∀ (h' : Nat) (al' ov' : Int32) (a1' a2' a5' a6' a7' a8' a9' a10' a25' a26' a27' : Nat → Int32), h' = H (k + 1) → Q (nI k + 1) (ti, ac, ru, wc, sz, dp, lo, ex, nI h', al', ov', a1', a2', a3, a4, a5', a6', a7', a8', a9', a10', a11, a12, a13, a14, a15, a16, a17, a18, a19, a20, a21, a22, a23, a24, a25', a26', a27') := fun h' al ov a1 a2 a5 a6 a7 a8 a9 a10 a25 a26 a27 e => by
    rw [nI_1]
    exact hq (k + 1) h' _ _ _ _ _ _ _ _ _ _ _ _ _ (Or.inr ⟨by omega, e⟩)
  have jump : zc_j o → ∀ (h' : Nat) (al' ov' : Int32) (a1' a2' a5' a6' a7' a8' a9' a10' a25' a26' a27' : Nat → Int32), h' = H k - zc_p o + zc_r o → Q (a17 (nI k).toNatClampNeg) (ti, ac, ru, wc, sz, dp, lo, ex, nI h', al', ov', a1', a2', a3, a4, a5', a6', a7', a8', a9', a10', a11, a12, a13, a14, a15, a16, a17, a18, a19, a20, a21, a22, a23, a24, a25', a26', a27') := fun z h' al ov a1 a2 a5 a6 a7 a8 a9 a10 a25 a26 a27 e => by
    obtain ⟨t, t1, t2, t3⟩ := h6 z
    rw [ca, t1]
    exact hq t h' _ _ _ _ _ _ _ _ _ _ _ _ _ (Or.inr ⟨t2, by omega⟩)
  refine ⟨ia, nm_r (e' := nI o) (by rw [ca]; exact h1) ⟨ia, nm_r (e' := a16 k) (by rw [ca]) ?_⟩⟩
  refine pk_eq o 301 (fun z => ⟨ia, jump (Or.inl z) _ _ _ _ _ _ _ _ _ _ _ _ _ _ (by subst z; rfl)⟩) (fun n1 => ?_)
  refine pk_eq o 302 (fun z => ?_) (fun n2 => ?_)
  · subst z
    have e4 : 1 ≤ H k := h4
    have e5 : H (k + 1) = H k - 1 + 0 := h5 (by omega) (by omega)
    obtain ⟨h, hh⟩ : ∃ h, H k = h + 1 := ⟨H k - 1, by omega⟩
    have j6 : h = H k - zc_p 302 + zc_r 302 := by rw [hh]; rfl
    rw [hh]
    exact zm_pop (by omega) (fun x al ov a1 a2 a5 a6 a7 a8 a9 a10 a25 a26 a27 => br_c (fun _ => ⟨ia, jump (by unfold zc_j; omega) _ _ _ _ _ _ _ _ _ _ _ _ _ _ j6⟩) (fun _ => fall _ _ _ _ _ _ _ _ _ _ _ _ _ _ (by omega)))
  refine pk_eq o 303 (fun z => ?_) (fun n3 => ?_)
  · subst z
    have e4 : 1 ≤ H k := h4
    have e5 : H (k + 1) = H k - 1 + 0 := h5 (by omega) (by omega)
    obtain ⟨h, hh⟩ : ∃ h, H k = h + 1 := ⟨H k - 1, by omega⟩
    have j6 : h + 1 = H k - zc_p 303 + zc_r 303 := by rw [hh]; rfl
    rw [hh]
    refine ⟨pk_in h 80 (by omega) (nI_pred h), br_c (fun _ => br_f (by decide) (nm_r (nI_pred h) (br_f (by decide) (fall _ _ _ _ _ _ _ _ _ _ _ _ _ _ (by omega))))) (fun _ => br_t rfl (nm_r (e' := nI (h + 1)) (zx_sub (b := 0) (by omega)) (br_t rfl ⟨ia, jump (by unfold zc_j; omega) _ _ _ _ _ _ _ _ _ _ _ _ _ _ j6⟩)))⟩
  refine pk_eq o 306 (fun z => ?_) (fun n4 => ?_)
  · subst z
    have e5 : H (k + 1) = H k - 0 + 0 := h5 (by omega) (by omega)
    obtain ⟨l, hl, el⟩ := h3.1 (by omega)
    exact zm_may el hl (fun r al ov a1 a2 a5 a6 a7 a8 a9 a10 a25 a26 a27 => br_c (fun _ => ⟨ia, jump (by unfold zc_j; omega) _ _ _ _ _ _ _ _ _ _ _ _ _ _ rfl⟩) (fun _ => fall _ _ _ _ _ _ _ _ _ _ _ _ _ _ (by omega)))
  refine pk_eq o 307 (fun z => ?_) (fun n5 => ?_)
  · subst z
    have e4 : 1 ≤ H k := h4
    have e5 : H (k + 1) = H k - 1 + 0 := h5 (by omega) (by omega)
    obtain ⟨h, hh⟩ : ∃ h, H k = h + 1 := ⟨H k - 1, by omega⟩
    have j6 : h = H k - zc_p 307 + zc_r 307 := by rw [hh]; rfl
    rw [hh]
    exact zm_pop (by omega) (fun x al ov a1 a2 a5 a6 a7 a8 a9 a10 a25 a26 a27 => br_c (fun _ => ⟨ia, jump (by unfold zc_j; omega) _ _ _ _ _ _ _ _ _ _ _ _ _ _ j6⟩) (fun _ => fall _ _ _ _ _ _ _ _ _ _ _ _ _ _ (by omega)))
  refine pk_eq o 309 (fun z => ?_) (fun n6 => ?_)
  · subst z
    have e5 : H (k + 1) = H k - 0 + 0 := h5 (by omega) (by omega)
    obtain ⟨v, l, hv, hl, el⟩ := h3.2.1 rfl
    rw [el, zm_and31 hv hl, zm_shr5 hv hl]
    have j0 : ∀ (al' ov' : Int32) (a1' a2' a5' a6' a7' a8' a9' a10' a25' a26' a27' : Nat → Int32), wX_steer_219 Q (nI k) 0 ti ac ru wc sz dp lo ex (nI (H k)) al' ov' a1' a2' a3 a4 a5' a6' a7' a8' a9' a10' a11 a12 a13 a14 a15 a16 a17 a18 a19 a20 a21 a22 a23 a24 a25' a26' a27' := fun al ov a1 a2 a5 a6 a7 a8 a9 a10 a25 a26 a27 => br_t rfl ⟨ia, jump (by unfold zc_j; omega) _ _ _ _ _ _ _ _ _ _ _ _ _ _ rfl⟩
    exact zm_may rfl hl (fun r al ov a1 a2 a5 a6 a7 a8 a9 a10 a25 a26 a27 => br_c (fun _ => j0 _ _ _ _ _ _ _ _ _ _ _ _ _) (fun _ => ⟨pk_in v 16 hv, pk_in l 32 hl, br_c (fun _ => j0 _ _ _ _ _ _ _ _ _ _ _ _ _) (fun _ => br_f (by decide) (fall _ _ _ _ _ _ _ _ _ _ _ _ _ _ (by omega)))⟩))
  refine pk_eq o 305 (fun z => ?_) (fun n7 => ?_)
  · subst z
    have e5 : H (k + 1) = H k - 0 + 0 := h5 (by omega) (by omega)
    obtain ⟨l, hl, el⟩ := h3.1 (by omega)
    rw [el]
    exact ⟨pk_in l 32 hl, nm_e (fall _ _ _ _ _ _ _ _ _ _ _ _ _ _ (by omega))⟩
  refine pk_eq o 308 (fun z => ?_) (fun n8 => ?_)
  · subst z
    have e4 : 1 ≤ H k := h4
    have e5 : H (k + 1) = H k - 1 + 0 := h5 (by omega) (by omega)
    obtain ⟨h, hh⟩ : ∃ h, H k = h + 1 := ⟨H k - 1, by omega⟩
    obtain ⟨l, hl, el⟩ := h3.1 (by omega)
    rw [hh, el]
    exact zm_pop2 (by omega) (fun x al ov a1 a2 a5 a6 a7 a8 a9 a10 a25 a26 a27 => ⟨pk_in l 32 hl, nm_e ⟨pk_in l 32 hl, nm_e (fall _ _ _ _ _ _ _ _ _ _ _ _ _ _ (by omega))⟩⟩)
  refine pk_eq o 310 (fun z => ?_) (fun n9 => ?_)
  · subst z
    have e5 : H (k + 1) = H k - 0 + 0 := h5 (by omega) (by omega)
    obtain ⟨v, hv, el⟩ := h3.2.2 rfl
    rw [el]
    exact ⟨pk_in v 16 hv, pk_in v 16 hv, nm_e (fall _ _ _ _ _ _ _ _ _ _ _ _ _ _ (by omega))⟩
  refine pk_eq o 304 (fun z => ?_) (fun n10 => ?_)
  · subst z
    have e4 : 1 ≤ H k := h4
    have e5 : H (k + 1) = H k - 1 + 0 := h5 (by omega) (by omega)
    obtain ⟨h, hh⟩ : ∃ h, H k = h + 1 := ⟨H k - 1, by omega⟩
    rw [hh]
    exact nm_r (nI_pred h) (fall _ _ _ _ _ _ _ _ _ _ _ _ _ _ (by omega))
  · rw [nI_1]
    exact hq (k + 1) (H k) _ _ _ _ _ _ _ _ _ _ _ _ _ (Or.inl rfl)
theorem zm_carry {Q : Int32 → St1 → Prop} {s k : Nat} {H : Nat → Nat} (hC : zc_C s a15 a16 a17 H (fun _ => False)) (hs : s ≤ 400) (hk : k < s)
    (hq : ∀ (t h' : Nat) (al' ov' : Int32) (a1' a2' a5' a6' a7' a8' a9' a10' a25' a26' a27' : Nat → Int32), (ov' = 1 ∨ (t ≤ s ∧ h' = H t)) → Q (nI t) (ti, ac, ru, wc, sz, dp, lo, ex, nI h', al', ov', a1', a2', a3, a4, a5', a6', a7', a8', a9', a10', a11, a12, a13, a14, a15, a16, a17, a18, a19, a20, a21, a22, a23, a24, a25', a26', a27')) : wpX_carryOut Q (ti, ac, ru, wc, sz, dp, lo, ex, nI (H k), al, ov, a1, a2, a3, a4, a5, a6, a7, a8, a9, a10, a11, a12, a13, a14, a15, a16, a17, a18, a19, a20, a21, a22, a23, a24, a25, a26, a27) (nI k) := by
  have ia : vp_in (nI k) 400 := pk_in k 400 (by omega)
  have ca : (nI k).toNatClampNeg = k := nI_clamp (by omega)
  obtain ⟨o, h1, h2, h3, h4, h5, h6⟩ := hC.1 k hk
  have hob := zc_vb h2
  have hHk := hC.2 k (by omega)
  have fall : ∀ (h' : Nat) (al' ov' : Int32) (a1' a2' a5' a6' a7' a8' a9' a10' a25' a26' a27' : Nat → Int32), h' = H (k + 1) → Q (nI k + 1) (ti, ac, ru, wc, sz, dp, lo, ex, nI h', al', ov', a1', a2', a3, a4, a5', a6', a7', a8', a9', a10', a11, a12, a13, a14, a15, a16, a17, a18, a19, a20, a21, a22, a23, a24, a25', a26', a27') := fun h' al ov a1 a2 a5 a6 a7 a8 a9 a10 a25 a26 a27 e => by
    rw [nI_1]
    exact hq (k + 1) h' _ _ _ _ _ _ _ _ _ _ _ _ _ (Or.inr ⟨by omega, e⟩)
  refine ⟨ia, nm_r (e' := nI o) (by rw [ca]; exact h1) ?_⟩
  refine pk_le o 300 (fun z0 => ?_) (fun z0 => zm_steer hs hk hC.2 z0 h1 h2 h3 h4 h5 (fun z => h6 z (fun y => y)) hq)
  have h5' := h5 (by omega) (by omega)
  obtain ⟨h, hh⟩ : ∃ h, H k = h + zc_p o := ⟨H k - zc_p o, by omega⟩
  rw [hh, show h + zc_p o - zc_p o = h by omega] at h5'
  have hv := h2
  unfold zc_v at hv
  have fl : ∀ (h' : Nat), h' = h + zc_q o → ∀ (al' ov' : Int32) (a1' a2' a5' a6' a7' a8' a9' a10' a25' a26' a27' : Nat → Int32), Q (nI k + 1) (ti, ac, ru, wc, sz, dp, lo, ex, nI h', al', ov', a1', a2', a3, a4, a5', a6', a7', a8', a9', a10', a11, a12, a13, a14, a15, a16, a17, a18, a19, a20, a21, a22, a23, a24, a25', a26', a27') := fun h' e al ov a1 a2 a5 a6 a7 a8 a9 a10 a25 a26 a27 => fall h' _ _ _ _ _ _ _ _ _ _ _ _ _ (by omega)
  refine pk_eq o 300 (fun z => ?_) (fun n1 => ?_)
  · have ep : zc_p o = 0 := by rw [z]; rfl
    have eq : zc_q o = 1 := by rw [z]; rfl
    rw [hh, ep]
    exact ⟨ia, zm_push (by omega) (fl (h + 1) (by omega))⟩
  refine pk_lt 34 o (fun z1 => pk_le 100 o (fun z2 => pk_lt 128 o (fun z3 => pk_lt 142 o (fun z4 => ?_) (fun z4 => ?_)) (fun z3 => ?_)) (fun z2 => ?_)) (fun z1 => ?_)
  · have ep : zc_p o = 0 := zp_j (by omega) (by omega)
    have eq : zc_q o = 1 := by unfold zc_q; rw [if_pos (by omega)]
    rw [hh, ep]
    exact ⟨pk_in (o - 143) 15 (by omega) (zx_sub (b := 143) (by omega)), zm_push (by omega) (fl (h + 1) (by omega))⟩
  · have eq : zc_q o = 1 := by unfold zc_q; rw [if_pos (by omega)]
    by_cases c1 : o = 139
    · have ep : zc_p o = 1 := by rw [c1]; rfl
      rw [hh, ep]
      exact zm_c1 c1 (by omega) (fl (h + 1) (by omega))
    · by_cases c3 : o = 142
      · have ep : zc_p o = 3 := by rw [c3]; rfl
        rw [hh, ep]
        exact zm_c3 c3 (by omega) (fl (h + 1) (by omega))
      · have ep : zc_p o = 2 := zp_h (by omega) (by omega) c1
        rw [hh, ep]
        exact zm_c2 c1 c3 (by omega) (by omega) (fl (h + 1) (by omega))
  · have eq : zc_q o = 1 := by unfold zc_q; rw [if_pos (by omega)]
    by_cases c1 : o = 128
    · have ep : zc_p o = 1 := by rw [c1]; rfl
      rw [hh, ep]
      exact zm_l1 c1 (by omega) (fl (h + 1) (by omega))
    · have ep : zc_p o = 0 := zp_e (by omega) (by omega)
      rw [hh, ep]
      exact zm_l0 (by omega) (by omega) (fl (h + 1) (by omega))
  · have eq : zc_q o = 0 := by unfold zc_q; rw [if_neg (by omega)]
    refine pk_le 63 o (fun z3 => pk_le 66 o (fun z4 => ?_) (fun z4 => ?_)) (fun z3 => ?_)
    · have ep : zc_p o = 1 := zp_d (by omega) (by omega)
      rw [hh, ep, zx_sub (b := 66) z4]
      exact zm_edge (by omega) (by omega) (fl h (by omega))
    · have ep : zc_p o = 3 := zp_c (by omega) (by omega)
      rw [hh, ep, zx_sub (b := 63) z3]
      exact zm_counter (by omega) (by omega) (fl h (by omega))
    · have ep : zc_p o = 2 := zp_b (by omega) (by omega)
      rw [hh, ep, zx_sub (b := 60) (by omega)]
      exact zm_timer (by omega) (by omega) (fl h (by omega))
  · have eq : zc_q o = 0 := by unfold zc_q; rw [if_neg (by omega)]
    by_cases c1 : o = 34
    · have ep : zc_p o = 2 := by rw [c1]; rfl
      rw [hh, ep]
      exact zm_ch2 c1 (by omega) (fl h (by omega))
    · have ep : zc_p o = 1 := zp_a (by omega)
      rw [hh, ep]
      exact zm_ch1 (by omega) (by omega) (fl h (by omega))
theorem zm_loop {Q : Int32 → St1 → Prop} {s : Nat} {H : Nat → Nat} (hC : zc_C s a15 a16 a17 H (fun _ => False)) (hs : s ≤ 400) (hq : ∀ (h' : Nat) (al' ov' : Int32) (a1' a2' a5' a6' a7' a8' a9' a10' a25' a26' a27' : Nat → Int32), Q 0 (ti, ac, ru, wc, nI s, dp, lo, ex, nI h', al', ov', a1', a2', a3, a4, a5', a6', a7', a8', a9', a10', a11, a12, a13, a14, a15, a16, a17, a18, a19, a20, a21, a22, a23, a24, a25', a26', a27')) :
    ∀ (c q t h : Nat) (al' ov' : Int32) (a1' a2' a5' a6' a7' a8' a9' a10' a25' a26' a27' : Nat → Int32), q + c = 200000 → (ov' = 1 ∨ (t ≤ s ∧ h = H t)) → wX_cycle_76 Q (c + 1) (nI t) (nI q) ti ac ru wc (nI s) dp lo ex (nI h) al' ov' a1' a2' a3 a4 a5' a6' a7' a8' a9' a10' a11 a12 a13 a14 a15 a16 a17 a18 a19 a20 a21 a22 a23 a24 a25' a26' a27' := by
  intro c
  induction c with
  | zero =>
    intro q t h al ov a1 a2 a5 a6 a7 a8 a9 a10 a25 a26 a27 hqc hi
    exact pk_le 200000 q (fun _ => hq h _ _ _ _ _ _ _ _ _ _ _ _ _) (fun z => absurd z (by omega))
  | succ c ih =>
    intro q t h al ov a1 a2 a5 a6 a7 a8 a9 a10 a25 a26 a27 hqc hi
    refine pk_le 200000 q (fun z => absurd z (by omega)) (fun _ => ?_)
    refine br_c (fun z => ?_) (fun _ => hq h _ _ _ _ _ _ _ _ _ _ _ _ _)
    rcases hi with hi | ⟨hi1, hi2⟩
    · rw [hi] at z
      exact absurd z (by decide)
    · refine pk_le s t (fun _ => hq h _ _ _ _ _ _ _ _ _ _ _ _ _) (fun z2 => ?_)
      rw [hi2]
      exact zm_carry hC hs z2 (fun t' h' al ov a1 a2 a5 a6 a7 a8 a9 a10 a25 a26 a27 hi => nm_r (nI_1 q) (ih (q + 1) t' h' _ _ _ _ _ _ _ _ _ _ _ _ _ (by omega) hi))
theorem zm_cycle {Q : Int32 → St1 → Prop} {s : Nat} {H : Nat → Nat} {x : Int32} (hC : zc_C s a15 a16 a17 H (fun _ => False)) (hs : s ≤ 400) (h0 : H 0 = 0) (hb : x < 0 ∨ ¬ x ≤ 100 → Q (-1) (ti, ac, ru, wc, nI s, dp, lo, ex, he, al, ov, a1, a2, a3, a4, a5, a6, a7, a8, a9, a10, a11, a12, a13, a14, a15, a16, a17, a18, a19, a20, a21, a22, a23, a24, a25, a26, a27)) (hn : ¬ x < 0 → x ≤ 100 → ru = 0 → Q (-2) (ti, ac, ru, wc, nI s, dp, lo, ex, he, al, ov, a1, a2, a3, a4, a5, a6, a7, a8, a9, a10, a11, a12, a13, a14, a15, a16, a17, a18, a19, a20, a21, a22, a23, a24, a25, a26, a27))
    (hr : ¬ x < 0 → x ≤ 100 → ¬ ru = 0 → ∀ (ti' he' : Int32) (a4' : Nat → Int32) (al' ov' : Int32) (a1' a2' a5' a6' a7' a8' a9' a10' a25' a26' a27' : Nat → Int32), Q 0 (ti', ac, ru, wc, nI s, dp, lo, ex, he', al', ov', a1', a2', a3, a4', a5', a6', a7', a8', a9', a10', a11, a12, a13, a14, a15, a16, a17, a18, a19, a20, a21, a22, a23, a24, a25', a26', a27')) : wpX_cycle Q (ti, ac, ru, wc, nI s, dp, lo, ex, he, al, ov, a1, a2, a3, a4, a5, a6, a7, a8, a9, a10, a11, a12, a13, a14, a15, a16, a17, a18, a19, a20, a21, a22, a23, a24, a25, a26, a27) x := by
  refine br_c (fun z => hb (Or.inl z)) (fun z1 => br_c (fun z2 => br_c (fun z3 => hn z1 z2 z3) (fun z3 => nm_e ?_)) (fun z2 => hb (Or.inr z2)))
  refine pk_loop (fun n i t => wX_cycle_34 Q (ti + x) ac ru wc (nI s) dp lo ex he al ov n (nI i) a1 a2 a3 t a5 a6 a7 a8 a9 a10 a11 a12 a13 a14 a15 a16 a17 a18 a19 a20 a21 a22 a23 a24 a25 a26 a27) (fun _ _ => True) 4 0 a4 (by omega) trivial ?_ ?_
  · intro n t _
    refine pk_le 4 4 (fun _ => ⟨200000 + 1, ?_⟩) (fun z => absurd z (by omega))
    exact zm_loop hC hs (fun h' al ov a1 a2 a5 a6 a7 a8 a9 a10 a25 a26 a27 => hr z1 z2 z3 _ _ _ _ _ _ _ _ _ _ _ _ _ _ _ _) 200000 0 0 0 _ _ _ _ _ _ _ _ _ _ _ _ _ (by omega) (Or.inr ⟨by omega, h0.symm⟩)
  · intro n i t hi _ hw
    exact pk_le 4 i (fun z => absurd z (by omega)) (fun _ => ⟨pk_in i 4 hi, pk_in i 4 hi, nm_e (nm_r (nI_1 i) (hw _ trivial))⟩)
end
end
section
section
variable {ti ac ru wc sz dp lo ex he al ov : Int32} {a1 a2 a3 a4 a5 a6 a7 a8 a9 a10 a11 a12 a13 a14 a15 a16 a17 a18 a19 a20 a21 a22 a23 a24 a25 a26 a27 : Nat → Int32}
/-! digest, look: what they answer is a function of what they read -/
def zl_b (f : Nat → Int32) (k w : Nat) : Int32 := if w = 0 then f (3 + k) else if w = 1 then f k else if w = 2 then f (6 + k) else if w = 3 then f (9 + k) else f (12 + k)
theorem zl_blockOf {Q : Int32 → Prop} {k w : Nat} (hk : k < 3) (hw : w < 5) (hq : Q (zl_b a10 k w)) : wpX_blockOf Q (ti, ac, ru, wc, sz, dp, lo, ex, he, al, ov, a1, a2, a3, a4, a5, a6, a7, a8, a9, a10, a11, a12, a13, a14, a15, a16, a17, a18, a19, a20, a21, a22, a23, a24, a25, a26, a27) (nI k) (nI w) := by
  have g : ∀ (c : Nat) (x : Int32), x = nI c → c ≤ 12 → vp_in (x + nI k) 15 ∧ a10 (x + nI k).toNatClampNeg = a10 (c + k) := by
    intro c x hx hc
    subst hx
    rw [nI_add, nI_clamp (show c + k < 2 ^ 31 by omega)]
    exact ⟨pk_in (c + k) 15 (by omega), rfl⟩
  unfold zl_b at hq
  refine pk_le 2 w (fun z1 => pk_eq w 2 (fun z2 => ?_) (fun z2 => pk_eq w 3 (fun z3 => ?_) (fun z3 => ?_))) (fun z1 => pk_eq w 0 (fun z2 => ?_) (fun z2 => ?_))
  · rw [if_neg (by omega), if_neg (by omega), if_pos z2] at hq
    obtain ⟨g1, g2⟩ := g 6 6 rfl (by omega)
    exact ⟨g1, by rw [g2]; exact hq⟩
  · rw [if_neg (by omega), if_neg (by omega), if_neg (by omega), if_pos z3] at hq
    obtain ⟨g1, g2⟩ := g 9 9 rfl (by omega)
    exact ⟨g1, by rw [g2]; exact hq⟩
  · rw [if_neg (by omega), if_neg (by omega), if_neg (by omega), if_neg (by omega)] at hq
    obtain ⟨g1, g2⟩ := g 12 12 rfl (by omega)
    exact ⟨g1, by rw [g2]; exact hq⟩
  · rw [if_pos z2] at hq
    obtain ⟨g1, g2⟩ := g 3 3 rfl (by omega)
    exact ⟨g1, by rw [g2]; exact hq⟩
  · rw [if_neg (by omega), if_pos (by omega)] at hq
    refine ⟨pk_in k 15 (by omega), ?_⟩
    rw [nI_clamp (show k < 2 ^ 31 by omega)]
    exact hq
def zl_sum (c : Int32) (f : Nat → Int32) (x : Int32) : Nat → Int32
  | 0 => x
  | n + 1 => zl_sum c f x n + (nI n + c) * f n
def zl_dig (f1 f2 f5 f10 : Nat → Int32) : Int32 := zl_sum 29 (fun n => zl_b f10 (n / 5) (n % 5)) (zl_sum 25 f5 (zl_sum 17 f2 (zl_sum 1 f1 0 16) 8) 4) 15
theorem zl_rem {n : Nat} (h : n < 2 ^ 31) : nI n - nI n / 5 * 5 = nI (n % 5) := pk_rem (d := 5) h (by omega) (by omega)
theorem zl_div {n : Nat} (h : n < 2 ^ 31) : nI n / 5 = nI (n / 5) := pk_div (d := 5) h (by omega) (by omega)
theorem zl_digest {Q : Int32 → Prop} (hq : Q (zl_dig a1 a2 a5 a10)) : wpX_digest Q (ti, ac, ru, wc, sz, dp, lo, ex, he, al, ov, a1, a2, a3, a4, a5, a6, a7, a8, a9, a10, a11, a12, a13, a14, a15, a16, a17, a18, a19, a20, a21, a22, a23, a24, a25, a26, a27) := by
  refine pk_loop (σ := Unit) (fun n i _ => wX_digest_4 Q ti ac ru wc sz dp lo ex he al ov a1 a2 a3 a4 a5 a6 a7 a8 a9 a10 a11 a12 a13 a14 a15 a16 a17 a18 a19 a20 a21 a22 a23 a24 a25 a26 a27 n (zl_sum 1 a1 0 i) (nI i)) (fun _ _ => True) 16 0 () (by omega) trivial (fun n _ _ => pk_le 16 16 (fun _ => ?_) (fun z => absurd z (by omega))) (fun n i _ hi _ hw => pk_le 16 i (fun z => absurd z (by omega)) (fun _ => ⟨pk_in i 16 hi, nm_r (e' := zl_sum 1 a1 0 (i + 1)) (by rw [nI_clamp (show i < 2 ^ 31 by omega)]; rfl) (nm_r (nI_1 i) (hw () trivial))⟩))
  refine pk_loop (σ := Unit) (fun n i _ => wX_digest_31 Q ti ac ru wc sz dp lo ex he al ov a1 a2 a3 a4 a5 a6 a7 a8 a9 a10 a11 a12 a13 a14 a15 a16 a17 a18 a19 a20 a21 a22 a23 a24 a25 a26 a27 n (zl_sum 17 a2 (zl_sum 1 a1 0 16) i) (nI i)) (fun _ _ => True) 8 0 () (by omega) trivial (fun n _ _ => pk_le 8 8 (fun _ => ?_) (fun z => absurd z (by omega))) (fun n i _ hi _ hw => pk_le 8 i (fun z => absurd z (by omega)) (fun _ => ⟨pk_in i 8 hi, nm_r (e' := zl_sum 17 a2 (zl_sum 1 a1 0 16) (i + 1)) (by rw [nI_clamp (show i < 2 ^ 31 by omega)]; rfl) (nm_r (nI_1 i) (hw () trivial))⟩))
  refine pk_loop (σ := Unit) (fun n i _ => wX_digest_59 Q ti ac ru wc sz dp lo ex he al ov a1 a2 a3 a4 a5 a6 a7 a8 a9 a10 a11 a12 a13 a14 a15 a16 a17 a18 a19 a20 a21 a22 a23 a24 a25 a26 a27 n (zl_sum 25 a5 (zl_sum 17 a2 (zl_sum 1 a1 0 16) 8) i) (nI i)) (fun _ _ => True) 4 0 () (by omega) trivial (fun n _ _ => pk_le 4 4 (fun _ => ?_) (fun z => absurd z (by omega))) (fun n i _ hi _ hw => pk_le 4 i (fun z => absurd z (by omega)) (fun _ => ⟨pk_in i 4 hi, nm_r (e' := zl_sum 25 a5 (zl_sum 17 a2 (zl_sum 1 a1 0 16) 8) (i + 1)) (by rw [nI_clamp (show i < 2 ^ 31 by omega)]; rfl) (nm_r (nI_1 i) (hw () trivial))⟩))
  refine pk_loop (σ := Unit) (fun n i _ => wX_digest_86 Q ti ac ru wc sz dp lo ex he al ov a1 a2 a3 a4 a5 a6 a7 a8 a9 a10 a11 a12 a13 a14 a15 a16 a17 a18 a19 a20 a21 a22 a23 a24 a25 a26 a27 n (zl_sum 29 (fun n => zl_b a10 (n / 5) (n % 5)) (zl_sum 25 a5 (zl_sum 17 a2 (zl_sum 1 a1 0 16) 8) 4) i) (nI i)) (fun _ _ => True) 15 0 () (by omega) trivial (fun n _ _ => pk_le 15 15 (fun _ => hq) (fun z => absurd z (by omega))) (fun n i _ hi _ hw => pk_le 15 i (fun z => absurd z (by omega)) (fun _ => ⟨by decide, by decide, ?_⟩))
  rw [zl_rem (show i < 2 ^ 31 by omega), zl_div (show i < 2 ^ 31 by omega)]
  exact zl_blockOf (by omega) (by omega) (nm_r (e' := zl_sum 29 (fun n => zl_b a10 (n / 5) (n % 5)) (zl_sum 25 a5 (zl_sum 17 a2 (zl_sum 1 a1 0 16) 8) 4) (i + 1)) rfl (nm_r (nI_1 i) (hw () trivial)))
/-! one place -/
theorem zl_var {Q : Int32 → Prop} {i : Nat} (hi : i < 16) (hq : Q (a1 i)) : wpX_variable Q (ti, ac, ru, wc, sz, dp, lo, ex, he, al, ov, a1, a2, a3, a4, a5, a6, a7, a8, a9, a10, a11, a12, a13, a14, a15, a16, a17, a18, a19, a20, a21, a22, a23, a24, a25, a26, a27) (nI i) := by
  unfold wpX_variable
  exact zk_in i 0 16 (fun _ => br_f (by decide) ⟨pk_in i 16 hi, by rw [nI_clamp (show i < 2 ^ 31 by omega)]; exact hq⟩) (fun z => absurd z (by omega))
theorem zl_cell {Q : Int32 → Prop} {i : Nat} (hi : i < 16) (hq : Q (if i < 8 then a2 i else 0)) : wpX_cell Q (ti, ac, ru, wc, sz, dp, lo, ex, he, al, ov, a1, a2, a3, a4, a5, a6, a7, a8, a9, a10, a11, a12, a13, a14, a15, a16, a17, a18, a19, a20, a21, a22, a23, a24, a25, a26, a27) (nI i) := by
  unfold wpX_cell
  exact zk_in i 0 8 (fun z => br_f (by decide) ⟨pk_in i 8 (by omega), by rw [nI_clamp (show i < 2 ^ 31 by omega)]; rw [if_pos (by omega)] at hq; exact hq⟩) (fun z => br_t rfl (by rw [if_neg (by omega)] at hq; exact hq))
theorem zl_output {Q : Int32 → Prop} {i : Nat} (hi : i < 16) (hq : Q (if i < 4 then a5 i else 0)) : wpX_output Q (ti, ac, ru, wc, sz, dp, lo, ex, he, al, ov, a1, a2, a3, a4, a5, a6, a7, a8, a9, a10, a11, a12, a13, a14, a15, a16, a17, a18, a19, a20, a21, a22, a23, a24, a25, a26, a27) (nI i) := by
  unfold wpX_output
  exact zk_in i 0 4 (fun z => br_f (by decide) ⟨pk_in i 4 (by omega), by rw [nI_clamp (show i < 2 ^ 31 by omega)]; rw [if_pos (by omega)] at hq; exact hq⟩) (fun z => br_t rfl (by rw [if_neg (by omega)] at hq; exact hq))
theorem zl_block {Q : Int32 → Prop} {k w : Nat} (hk : k < 16) (hw : w < 5) (hq : Q (if k < 3 then zl_b a10 k w else 0)) : wpX_block Q (ti, ac, ru, wc, sz, dp, lo, ex, he, al, ov, a1, a2, a3, a4, a5, a6, a7, a8, a9, a10, a11, a12, a13, a14, a15, a16, a17, a18, a19, a20, a21, a22, a23, a24, a25, a26, a27) (nI k) (nI w) := by
  unfold wpX_block
  exact zk_in k 0 3 (fun z => br_f (by decide) (zk_in w 0 5 (fun _ => br_f (by decide) (zl_blockOf (by omega) hw (by rw [if_pos (by omega)] at hq; exact hq))) (fun z => absurd z (by omega)))) (fun z => br_t rfl (by rw [if_neg (by omega)] at hq; exact hq))
/-- what look answers; c0, c1: whether the programs are complete -/
def zl_lk (f1 f2 f5 f10 : Nat → Int32) (c0 c1 : Int32) : Nat → Int32
  | 0 => 31 * (31 * zl_dig f1 f2 f5 f10 + c0) + c1
  | i + 1 => 31 * (31 * (31 * (31 * zl_lk f1 f2 f5 f10 c0 c1 i + f1 i) + (if i < 8 then f2 i else 0)) + (if i < 4 then f5 i else 0)) + (if i / 5 < 3 then zl_b f10 (i / 5) (i % 5) else 0)
noncomputable def zl_c (tk : Nat → Nat) (N : Nat) : Int32 := @ite _ (zs_w tk N = []) (Classical.propDecidable _) 1 0
theorem zl_com {Q : Int32 → St1 → Prop} {p N : Nat} {tk : Nat → Nat} (hp : p < 2) (hN : N ≤ 42) (hc : a12 p = nI N) (hv : zs_V a11 p N tk)
    (h : ∀ wc' a13', Q (zl_c tk N) (ti, ac, ru, wc', sz, dp, lo, ex, he, al, ov, a1, a2, a3, a4, a5, a6, a7, a8, a9, a10, a11, a12, a13', a14, a15, a16, a17, a18, a19, a20, a21, a22, a23, a24, a25, a26, a27)) : wpX_complete Q (ti, ac, ru, wc, sz, dp, lo, ex, he, al, ov, a1, a2, a3, a4, a5, a6, a7, a8, a9, a10, a11, a12, a13, a14, a15, a16, a17, a18, a19, a20, a21, a22, a23, a24, a25, a26, a27) (nI p) := by
  refine zs_com hp hN hc hv (fun z wc' a13' => ?_) (fun z wc' a13' => ?_)
  · have := h wc' a13'
    unfold zl_c at this
    rw [if_pos z] at this
    exact this
  · have := h wc' a13'
    unfold zl_c at this
    rw [if_neg z] at this
    exact this
/-- the programs -/
def zz_P (f11 f12 : Nat → Int32) (N : Nat → Nat) (tk : Nat → Nat → Nat) : Prop := ∀ q, q < 2 → N q ≤ 42 ∧ f12 q = nI (N q) ∧ zs_V f11 q (N q) (tk q)
theorem zl_look {Q : Int32 → St1 → Prop} {N : Nat → Nat} {tk : Nat → Nat → Nat} (hP : zz_P a11 a12 N tk)
    (hq : ∀ wc' a13', Q (zl_lk a1 a2 a5 a10 (zl_c (tk 0) (N 0)) (zl_c (tk 1) (N 1)) 16) (ti, ac, ru, wc', sz, dp, lo, ex, he, al, ov, a1, a2, a3, a4, a5, a6, a7, a8, a9, a10, a11, a12, a13', a14, a15, a16, a17, a18, a19, a20, a21, a22, a23, a24, a25, a26, a27)) : wpL_look Q (ti, ac, ru, wc, sz, dp, lo, ex, he, al, ov, a1, a2, a3, a4, a5, a6, a7, a8, a9, a10, a11, a12, a13, a14, a15, a16, a17, a18, a19, a20, a21, a22, a23, a24, a25, a26, a27) := by
  obtain ⟨hN0, h0, v0⟩ := hP 0 (by omega)
  obtain ⟨hN1, h1, v1⟩ := hP 1 (by omega)
  unfold wpL_look
  refine zl_digest ?_
  refine zl_com (p := 0) (by omega) hN0 h0 v0 (fun wc a13 => nm_e ?_)
  refine zl_com (p := 1) (by omega) hN1 h1 v1 (fun wc a13 => nm_e ?_)
  refine pk_loop (σ := Unit) (fun n i _ => wL_look_27 Q ti ac ru wc sz dp lo ex he al ov a1 a2 a3 a4 a5 a6 a7 a8 a9 a10 a11 a12 a13 a14 a15 a16 a17 a18 a19 a20 a21 a22 a23 a24 a25 a26 a27 n (zl_lk a1 a2 a5 a10 (zl_c (tk 0) (N 0)) (zl_c (tk 1) (N 1)) i) (nI i)) (fun _ _ => True) 16 0 () (by omega) trivial (fun n _ _ => pk_le 16 16 (fun _ => hq wc a13) (fun z => absurd z (by omega))) (fun n i _ hi _ hw => pk_le 16 i (fun z => absurd z (by omega)) (fun _ => ?_))
  refine zl_var hi (nm_e (zl_cell hi (nm_e (zl_output hi (nm_e ⟨by decide, by decide, ?_⟩)))))
  rw [zl_rem (show i < 2 ^ 31 by omega), zl_div (show i < 2 ^ 31 by omega)]
  exact zl_block (by omega) (by omega) (nm_r (e' := zl_lk a1 a2 a5 a10 (zl_c (tk 0) (N 0)) (zl_c (tk 1) (N 1)) (i + 1)) rfl (nm_r (nI_1 i) (hw () trivial)))
/-! restart -/
def zl_r (lo hi : Nat) (f : Nat → Int32) : Nat → Int32 := fun j => if lo ≤ j ∧ j < hi then 0 else f j
theorem zl_r0 {lo : Nat} {f : Nat → Int32} : zl_r lo lo f = f := by
  funext j
  exact if_neg (by omega)
theorem zl_rs {lo i : Nat} {f : Nat → Int32} (h : lo ≤ i) : upd (zl_r lo i f) i 0 = zl_r lo (i + 1) f := by
  funext j
  by_cases e : j = i
  · rw [e, pk_us]
    exact (if_pos (by omega)).symm
  · rw [pk_un e]
    unfold zl_r
    by_cases c : lo ≤ j ∧ j < i
    · rw [if_pos c, if_pos (by omega)]
    · rw [if_neg c, if_neg (by omega)]
theorem zl_rr {lo hi : Nat} {f : Nat → Int32} : zl_r lo hi (zl_r lo hi f) = zl_r lo hi f := by
  funext j
  unfold zl_r
  by_cases c : lo ≤ j ∧ j < hi
  · rw [if_pos c, if_pos c]
  · rw [if_neg c, if_neg c]
theorem zl_rW {lo hi : Nat} (W : Nat → Nat → (Nat → Int32) → Prop) (h : lo ≤ hi) (f : Nat → Int32) (hx : ∀ n, W (n + 1) hi (zl_r lo hi f)) (hs : ∀ n i, lo ≤ i → i < hi → ∀ g, (W n (i + 1) (upd g i 0)) → W (n + 1) i g) : ∃ n, W n lo f := by
  have := pk_loop W (fun i s => lo ≤ i ∧ s = zl_r lo i f) hi lo f h ⟨Nat.le_refl _, zl_r0.symm⟩ (fun n s hs' => by rw [hs'.2]; exact hx n) (fun n i s hi' hI hw => hs n i hI.1 hi' s (hw _ ⟨by omega, by rw [hI.2]; exact zl_rs hI.1⟩))
  exact this
theorem zl_restart {Q : St1 → Prop} (hq : ∀ a6' a7' a8' a9', Q (ti, ac, ru, wc, sz, dp, lo, ex, he, al, ov, zl_r 4 16 a1, zl_r 0 8 a2, a3, a4, zl_r 0 4 a5, a6', a7', a8', a9', zl_r 0 15 a10, a11, a12, a13, a14, a15, a16, a17, a18, a19, a20, a21, a22, a23, a24, a25, a26, a27)) : wpX_restart Q (ti, ac, ru, wc, sz, dp, lo, ex, he, al, ov, a1, a2, a3, a4, a5, a6, a7, a8, a9, a10, a11, a12, a13, a14, a15, a16, a17, a18, a19, a20, a21, a22, a23, a24, a25, a26, a27) := by
  refine zl_rW (lo := 4) (hi := 16) (fun n i s => wX_restart_2 Q ti ac ru wc sz dp lo ex he al ov n (nI i) s a2 a3 a4 a5 a6 a7 a8 a9 a10 a11 a12 a13 a14 a15 a16 a17 a18 a19 a20 a21 a22 a23 a24 a25 a26 a27) (by omega) a1 (fun n => pk_le 16 16 (fun _ => ?_) (fun z => absurd z (by omega))) (fun n i h1 h2 g hw => pk_le 16 i (fun z => absurd z (by omega)) (fun _ => ⟨pk_in i 16 h2, nm_r (e' := upd g i 0) (by rw [nI_clamp (show i < 2 ^ 31 by omega)]) (nm_r (nI_1 i) hw)⟩))
  refine zl_rW (lo := 0) (hi := 8) (fun n i s => wX_restart_23 Q ti ac ru wc sz dp lo ex he al ov n (nI i) (zl_r 4 16 a1) s a3 a4 a5 a6 a7 a8 a9 a10 a11 a12 a13 a14 a15 a16 a17 a18 a19 a20 a21 a22 a23 a24 a25 a26 a27) (by omega) a2 (fun n => pk_le 8 8 (fun _ => ?_) (fun z => absurd z (by omega))) (fun n i h1 h2 g hw => pk_le 8 i (fun z => absurd z (by omega)) (fun _ => ⟨pk_in i 8 h2, nm_r (e' := upd g i 0) (by rw [nI_clamp (show i < 2 ^ 31 by omega)]) (nm_r (nI_1 i) hw)⟩))
  refine zl_rW (lo := 0) (hi := 4) (fun n i s => wX_restart_44 Q ti ac ru wc sz dp lo ex he al ov n (nI i) (zl_r 4 16 a1) (zl_r 0 8 a2) a3 a4 s a6 a7 a8 a9 a10 a11 a12 a13 a14 a15 a16 a17 a18 a19 a20 a21 a22 a23 a24 a25 a26 a27) (by omega) a5 (fun n => pk_le 4 4 (fun _ => ?_) (fun z => absurd z (by omega))) (fun n i h1 h2 g hw => pk_le 4 i (fun z => absurd z (by omega)) (fun _ => ⟨pk_in i 4 h2, nm_r (e' := upd g i 0) (by rw [nI_clamp (show i < 2 ^ 31 by omega)]) (nm_r (nI_1 i) hw)⟩))
  refine zl_rW (lo := 0) (hi := 15) (fun n i s => wX_restart_64 Q ti ac ru wc sz dp lo ex he al ov n (nI i) (zl_r 4 16 a1) (zl_r 0 8 a2) a3 a4 (zl_r 0 4 a5) a6 a7 a8 a9 s a11 a12 a13 a14 a15 a16 a17 a18 a19 a20 a21 a22 a23 a24 a25 a26 a27) (by omega) a10 (fun n => pk_le 15 15 (fun _ => ?_) (fun z => absurd z (by omega))) (fun n i h1 h2 g hw => pk_le 15 i (fun z => absurd z (by omega)) (fun _ => ⟨pk_in i 15 h2, nm_r (e' := upd g i 0) (by rw [nI_clamp (show i < 2 ^ 31 by omega)]) (nm_r (nI_1 i) hw)⟩))
  refine pk_loop (fun n i (s : (Nat → Int32) × (Nat → Int32) × (Nat → Int32) × (Nat → Int32)) => wX_restart_85 Q ti ac ru wc sz dp lo ex he al ov n (nI i) (zl_r 4 16 a1) (zl_r 0 8 a2) a3 a4 (zl_r 0 4 a5) s.1 s.2.1 s.2.2.1 s.2.2.2 (zl_r 0 15 a10) a11 a12 a13 a14 a15 a16 a17 a18 a19 a20 a21 a22 a23 a24 a25 a26 a27) (fun _ _ => True) 3 0 (a6, a7, a8, a9) (by omega) trivial (fun n s _ => pk_le 3 3 (fun _ => hq _ _ _ _) (fun z => absurd z (by omega))) (fun n i s hi _ hw => pk_le 3 i (fun z => absurd z (by omega)) (fun _ => ⟨pk_in i 3 hi, nm_e ⟨pk_in i 3 hi, nm_e ⟨pk_in i 3 hi, nm_e ⟨pk_in i 3 hi, nm_e (nm_r (nI_1 i) (hw (_, _, _, _) trivial))⟩⟩⟩⟩))
end
end
section
section
variable {ti ac ru wc sz dp lo ex he al ov : Int32} {a1 a2 a3 a4 a5 a6 a7 a8 a9 a10 a11 a12 a13 a14 a15 a16 a17 a18 a19 a20 a21 a22 a23 a24 a25 a26 a27 : Nat → Int32}
/-! the calls -/
theorem zz_pr {Q : Int32 → Prop} {u : St2} {p : Nat} (hp : p < 2) (h : Q 1) : wpX_isProgram Q u (nI p) := by
  refine zk_prog (nI p) (fun _ => h) (fun _ => h) (fun z z2 => absurd ?_ z2)
  by_cases hp0 : p = 0
  · exact absurd (by rw [hp0]) z
  · rw [show p = 1 by omega]
theorem zz_fx {Q : Int32 → Prop} {x : Int32} (h1 : ¬ ru = 0 → x = ac → Q 1) (h0 : (ru = 0 ∨ ¬ x = ac) → Q 0) : wpX_isFixed Q (ti, ac, ru, wc, sz, dp, lo, ex, he, al, ov, a1, a2, a3, a4, a5, a6, a7, a8, a9, a10, a11, a12, a13, a14, a15, a16, a17, a18, a19, a20, a21, a22, a23, a24, a25, a26, a27) x :=
  br_c (fun z => h0 (Or.inl z)) (fun z => br_c (fun y => h1 z y) (fun y => h0 (Or.inr y)))
theorem zz_cp {p : Nat} (hp : p < 2) : (nI p).toNatClampNeg = p := nI_clamp (by omega)
theorem zz_feed {Q : Int32 → St1 → Prop} {p N : Nat} {tk : Nat → Nat} {y : Int32} (hp : p < 2) (hN : N ≤ 42) (hc : a12 p = nI N) (hv : zs_V a11 p N tk)
    (hfix : ¬ ru = 0 → nI p = ac → Q (-2) (ti, ac, ru, wc, sz, dp, lo, ex, he, al, ov, a1, a2, a3, a4, a5, a6, a7, a8, a9, a10, a11, a12, a13, a14, a15, a16, a17, a18, a19, a20, a21, a22, a23, a24, a25, a26, a27))
    (hfull : (ru = 0 ∨ ¬ nI p = ac) → zs_w tk N = [] → ∀ wc' a13', Q (-3) (ti, ac, ru, wc', sz, dp, lo, ex, he, al, ov, a1, a2, a3, a4, a5, a6, a7, a8, a9, a10, a11, a12, a13', a14, a15, a16, a17, a18, a19, a20, a21, a22, a23, a24, a25, a26, a27))
    (hbad : (ru = 0 ∨ ¬ nI p = ac) → ¬ zs_w tk N = [] → ∀ wc' a13', Q (-1) (ti, ac, ru, wc', sz, dp, lo, ex, he, al, ov, a1, a2, a3, a4, a5, a6, a7, a8, a9, a10, a11, a12, a13', a14, a15, a16, a17, a18, a19, a20, a21, a22, a23, a24, a25, a26, a27))
    (hok : (ru = 0 ∨ ¬ nI p = ac) → ¬ zs_w tk N = [] → ∀ wc' a13' k tk', zs_V (upd a11 (60 * p + N) (nI k)) p (N + 1) tk' → Q (nI (N + 1)) (ti, ac, ru, wc', sz, dp, lo, ex, he, al, ov, a1, a2, a3, a4, a5, a6, a7, a8, a9, a10, upd a11 (60 * p + N) (nI k), upd a12 p (nI (N + 1)), a13', a14, a15, a16, a17, a18, a19, a20, a21, a22, a23, a24, a25, a26, a27)) : wpX_feed Q (ti, ac, ru, wc, sz, dp, lo, ex, he, al, ov, a1, a2, a3, a4, a5, a6, a7, a8, a9, a10, a11, a12, a13, a14, a15, a16, a17, a18, a19, a20, a21, a22, a23, a24, a25, a26, a27) (nI p) y := by
  have ip : vp_in (nI p) 2 := pk_in p 2 hp
  have cp := zz_cp hp
  unfold wpX_feed
  refine zz_pr hp (br_f (by decide) (zz_fx (fun z1 z2 => br_f (by decide) (hfix z1 z2)) (fun hf => br_t rfl ?_)))
  refine zs_scan hp hN hc hv (fun a13' hA => ?_)
  have hl := zs_len tk N
  cases hw : zs_w tk N with
  | nil => exact br_t rfl (hfull hf hw _ _)
  | cons b l =>
    rw [hw] at hA hl
    have hl' : l.length + 1 ≤ 1 + 3 * N := hl
    have hne : ¬ zs_w tk N = [] := by rw [hw]; simp
    have e1 : nI (b :: l).length - 1 = nI l.length := nI_pred l.length
    have cl : (nI l.length).toNatClampNeg = l.length := nI_clamp (by omega)
    have c12 : a12 (nI p).toNatClampNeg = nI N := by rw [cp]; exact hc
    have ok : ∀ k, (b → zk_s k) → (¬ b → zk_e k) → y = nI k → wX_feed_72 Q (nI p) y 1 ti ac ru (nI (b :: l).length) sz dp lo ex he al ov a1 a2 a3 a4 a5 a6 a7 a8 a9 a10 a11 a12 a13' a14 a15 a16 a17 a18 a19 a20 a21 a22 a23 a24 a25 a26 a27 := by
      intro k k1 k2 hy
      obtain ⟨tk', hv'⟩ := zs_Va hv hw k1 k2
      have ei : (60 : Int32) * nI p + a12 (nI p).toNatClampNeg = nI (60 * p + N) := by rw [c12, zs_ix]
      refine br_f (by decide) ⟨ip, ?_⟩
      rw [ei, nI_clamp (show 60 * p + N < 2 ^ 31 by omega)]
      refine ⟨pk_in (60 * p + N) 120 (by omega), nm_r (e' := upd a11 (60 * p + N) (nI k)) (by rw [hy]) ⟨ip, ip, nm_r (e' := upd a12 p (nI (N + 1))) (by rw [cp, hc, nI_1]) ⟨ip, ?_⟩⟩⟩
      rw [cp, pk_us]
      exact hok hf hne _ _ k tk' hv'
    have bad : wX_feed_72 Q (nI p) y 0 ti ac ru (nI (b :: l).length) sz dp lo ex he al ov a1 a2 a3 a4 a5 a6 a7 a8 a9 a10 a11 a12 a13' a14 a15 a16 a17 a18 a19 a20 a21 a22 a23 a24 a25 a26 a27 := br_t rfl (hbad hf hne _ _)
    refine br_f (nI_ne0 (Nat.succ_pos _) (by show l.length + 1 < 2 ^ 31; omega)) ⟨ip, ?_⟩
    rw [c12, e1, cl]
    refine pk_lt N 60 (fun _ => ⟨pk_in l.length 130 (by omega), br_c (fun z => zk_st y (fun k k1 k2 => ok k (fun _ => k1) (fun nb => ?_) k2) bad) (fun z => zk_ex y (fun k k1 k2 => ok k (fun hb => ?_) (fun _ => k1) k2) bad)⟩) (fun z => absurd z (by omega))
    · rw [hA.1.2 nb] at z
      exact absurd z (by decide)
    · exact absurd (hA.1.1 hb) z
theorem zz_feedB {Q : Int32 → St1 → Prop} {x y : Int32} (h0 : ¬ x = nI 0) (h1 : ¬ x = nI 1) (h : Q (-1) (ti, ac, ru, wc, sz, dp, lo, ex, he, al, ov, a1, a2, a3, a4, a5, a6, a7, a8, a9, a10, a11, a12, a13, a14, a15, a16, a17, a18, a19, a20, a21, a22, a23, a24, a25, a26, a27)) : wpX_feed Q (ti, ac, ru, wc, sz, dp, lo, ex, he, al, ov, a1, a2, a3, a4, a5, a6, a7, a8, a9, a10, a11, a12, a13, a14, a15, a16, a17, a18, a19, a20, a21, a22, a23, a24, a25, a26, a27) x y := by
  unfold wpX_feed
  exact zk_prog x (fun z => absurd z h0) (fun z => absurd z h1) (fun _ _ => br_t rfl h)
theorem zz_back {Q : Int32 → St1 → Prop} {p N : Nat} (hp : p < 2) (hN : N ≤ 42) (hc : a12 p = nI N)
    (hfix : ¬ ru = 0 → nI p = ac → Q (-2) (ti, ac, ru, wc, sz, dp, lo, ex, he, al, ov, a1, a2, a3, a4, a5, a6, a7, a8, a9, a10, a11, a12, a13, a14, a15, a16, a17, a18, a19, a20, a21, a22, a23, a24, a25, a26, a27)) (h0 : (ru = 0 ∨ ¬ nI p = ac) → N = 0 → Q (-2) (ti, ac, ru, wc, sz, dp, lo, ex, he, al, ov, a1, a2, a3, a4, a5, a6, a7, a8, a9, a10, a11, a12, a13, a14, a15, a16, a17, a18, a19, a20, a21, a22, a23, a24, a25, a26, a27)) (hok : (ru = 0 ∨ ¬ nI p = ac) → 0 < N → Q (nI (N - 1)) (ti, ac, ru, wc, sz, dp, lo, ex, he, al, ov, a1, a2, a3, a4, a5, a6, a7, a8, a9, a10, a11, upd a12 p (nI (N - 1)), a13, a14, a15, a16, a17, a18, a19, a20, a21, a22, a23, a24, a25, a26, a27)) : wpX_back Q (ti, ac, ru, wc, sz, dp, lo, ex, he, al, ov, a1, a2, a3, a4, a5, a6, a7, a8, a9, a10, a11, a12, a13, a14, a15, a16, a17, a18, a19, a20, a21, a22, a23, a24, a25, a26, a27) (nI p) := by
  have ip : vp_in (nI p) 2 := pk_in p 2 hp
  have cp := zz_cp hp
  have c12 : a12 (nI p).toNatClampNeg = nI N := by rw [cp]; exact hc
  unfold wpX_back
  refine zz_pr hp (br_f (by decide) (zz_fx (fun z1 z2 => br_f (by decide) (hfix z1 z2)) (fun hf => br_t rfl ⟨ip, pk_eq N 0 (fun z => h0 hf z) (fun z => ⟨ip, ip, nm_r (e' := upd a12 p (nI (N - 1))) (by rw [cp, hc, zx_sub (b := 1) (by omega)]) ⟨ip, ?_⟩⟩) c12⟩)))
  rw [cp, pk_us]
  exact hok hf (by omega)
theorem zz_backB {Q : Int32 → St1 → Prop} {x : Int32} (h0 : ¬ x = nI 0) (h1 : ¬ x = nI 1) (h : Q (-1) (ti, ac, ru, wc, sz, dp, lo, ex, he, al, ov, a1, a2, a3, a4, a5, a6, a7, a8, a9, a10, a11, a12, a13, a14, a15, a16, a17, a18, a19, a20, a21, a22, a23, a24, a25, a26, a27)) : wpX_back Q (ti, ac, ru, wc, sz, dp, lo, ex, he, al, ov, a1, a2, a3, a4, a5, a6, a7, a8, a9, a10, a11, a12, a13, a14, a15, a16, a17, a18, a19, a20, a21, a22, a23, a24, a25, a26, a27) x := by
  unfold wpX_back
  exact zk_prog x (fun z => absurd z h0) (fun z => absurd z h1) (fun _ _ => br_t rfl h)
theorem zz_erase {Q : Int32 → St1 → Prop} {p N : Nat} (hp : p < 2) (hc : a12 p = nI N)
    (hfix : ¬ ru = 0 → nI p = ac → Q (-2) (ti, ac, ru, wc, sz, dp, lo, ex, he, al, ov, a1, a2, a3, a4, a5, a6, a7, a8, a9, a10, a11, a12, a13, a14, a15, a16, a17, a18, a19, a20, a21, a22, a23, a24, a25, a26, a27)) (hok : (ru = 0 ∨ ¬ nI p = ac) → Q (nI N) (ti, ac, ru, wc, sz, dp, lo, ex, he, al, ov, a1, a2, a3, a4, a5, a6, a7, a8, a9, a10, a11, upd a12 p (nI 0), a13, a14, a15, a16, a17, a18, a19, a20, a21, a22, a23, a24, a25, a26, a27)) : wpX_erase Q (ti, ac, ru, wc, sz, dp, lo, ex, he, al, ov, a1, a2, a3, a4, a5, a6, a7, a8, a9, a10, a11, a12, a13, a14, a15, a16, a17, a18, a19, a20, a21, a22, a23, a24, a25, a26, a27) (nI p) := by
  have ip : vp_in (nI p) 2 := pk_in p 2 hp
  have cp := zz_cp hp
  unfold wpX_erase
  exact zz_pr hp (br_f (by decide) (zz_fx (fun z1 z2 => br_f (by decide) (hfix z1 z2)) (fun hf => br_t rfl ⟨ip, nm_r (e' := nI N) (by rw [cp]; exact hc) ⟨ip, nm_r (e' := upd a12 p (nI 0)) (by rw [cp]; rfl) (hok hf)⟩⟩)))
theorem zz_eraseB {Q : Int32 → St1 → Prop} {x : Int32} (h0 : ¬ x = nI 0) (h1 : ¬ x = nI 1) (h : Q (-1) (ti, ac, ru, wc, sz, dp, lo, ex, he, al, ov, a1, a2, a3, a4, a5, a6, a7, a8, a9, a10, a11, a12, a13, a14, a15, a16, a17, a18, a19, a20, a21, a22, a23, a24, a25, a26, a27)) : wpX_erase Q (ti, ac, ru, wc, sz, dp, lo, ex, he, al, ov, a1, a2, a3, a4, a5, a6, a7, a8, a9, a10, a11, a12, a13, a14, a15, a16, a17, a18, a19, a20, a21, a22, a23, a24, a25, a26, a27) x := by
  unfold wpX_erase
  exact zk_prog x (fun z => absurd z h0) (fun z => absurd z h1) (fun _ _ => br_t rfl h)
/-- the code is well typed -/
def zz_D (z : Int32) (f15 f16 f17 : Nat → Int32) : Prop := ∃ s H, z = nI s ∧ s ≤ 400 ∧ H 0 = 0 ∧ zc_C s f15 f16 f17 H (fun _ => False)
theorem zz_act {Q : Int32 → St1 → Prop} {p N : Nat} {tk : Nat → Nat} (hp : p < 2) (hN : N ≤ 42) (hc : a12 p = nI N) (hv : zs_V a11 p N tk)
    (h0 : ¬ zs_w tk N = [] → ∀ wc' a13', Q (-2) (ti, ac, ru, wc', sz, dp, lo, ex, he, al, ov, a1, a2, a3, a4, a5, a6, a7, a8, a9, a10, a11, a12, a13', a14, a15, a16, a17, a18, a19, a20, a21, a22, a23, a24, a25, a26, a27))
    (h1 : zs_w tk N = [] → ∀ wc' a13' sz' dp' lo' ex' a14' a15' a16' a17' a18' a19' a20' a21' a22' a23' a24', zz_D sz' a15' a16' a17' → Q ac (ti, nI p, 1, wc', sz', dp', lo', ex', he, al, ov, a1, a2, a3, a4, a5, a6, a7, a8, a9, a10, a11, a12, a13', a14', a15', a16', a17', a18', a19', a20', a21', a22', a23', a24', a25, a26, a27)) : wpX_activate Q (ti, ac, ru, wc, sz, dp, lo, ex, he, al, ov, a1, a2, a3, a4, a5, a6, a7, a8, a9, a10, a11, a12, a13, a14, a15, a16, a17, a18, a19, a20, a21, a22, a23, a24, a25, a26, a27) (nI p) := by
  unfold wpX_activate
  refine zz_pr hp (br_f (by decide) (zs_isC hp hN hc hv (fun z wc' a13' => br_f (by decide) ?_) (fun z wc' a13' => br_t rfl (h0 z wc' a13'))))
  exact zj_compile hp hN rfl hc hv z (fun sz' dp' lo' ex' a14' a15' a16' a17' a18' a19' a20' a21' a22' a23' a24' hD => h1 z wc' a13' sz' dp' lo' ex' a14' a15' a16' a17' a18' a19' a20' a21' a22' a23' a24' hD)
theorem zz_actB {Q : Int32 → St1 → Prop} {x : Int32} (h0 : ¬ x = nI 0) (h1 : ¬ x = nI 1) (h : Q (-1) (ti, ac, ru, wc, sz, dp, lo, ex, he, al, ov, a1, a2, a3, a4, a5, a6, a7, a8, a9, a10, a11, a12, a13, a14, a15, a16, a17, a18, a19, a20, a21, a22, a23, a24, a25, a26, a27)) : wpX_activate Q (ti, ac, ru, wc, sz, dp, lo, ex, he, al, ov, a1, a2, a3, a4, a5, a6, a7, a8, a9, a10, a11, a12, a13, a14, a15, a16, a17, a18, a19, a20, a21, a22, a23, a24, a25, a26, a27) x := by
  unfold wpX_activate
  exact zk_prog x (fun z => absurd z h0) (fun z => absurd z h1) (fun _ _ => br_t rfl h)
/-- isIn from 0: an index, or not -/
theorem zz_in {Q : Int32 → Prop} {u : St2} {x m : Int32} (n : Nat) (h1 : ∀ k, k < n → x = nI k → Q 1) (h0 : (x < 0 ∨ nI n ≤ x) → Q 0) (hm : m = nI n := by rfl) (hn : n < 2 ^ 31 := by omega) : wpX_isIn Q u x 0 m := by
  rcases pk_ix x hn with z | z | ⟨j, j1, j2⟩
  · exact zk_inneg z 0 (h0 (Or.inl z))
  · by_cases hx : x < 0
    · exact zk_inneg hx 0 (h0 (Or.inl hx))
    · obtain ⟨k, hk, e⟩ := nI_of hx
      subst e
      refine zk_in k 0 n (fun y => ?_) (fun _ => h0 (Or.inr z)) rfl rfl hm hk (by omega)
      exact absurd ((nI_leI hn hk).mp z) (by omega)
  · subst j2
    exact zk_in j 0 n (fun _ => h1 j j1 rfl) (fun y => absurd ⟨Nat.zero_le _, by omega⟩ y) rfl rfl hm (by omega) (by omega)
theorem zz_input {Q : Int32 → St1 → Prop} {x y : Int32} (hb : (x < 0 ∨ nI 4 ≤ x) → Q (-1) (ti, ac, ru, wc, sz, dp, lo, ex, he, al, ov, a1, a2, a3, a4, a5, a6, a7, a8, a9, a10, a11, a12, a13, a14, a15, a16, a17, a18, a19, a20, a21, a22, a23, a24, a25, a26, a27)) (hok : ∀ k a3', k < 4 → x = nI k → Q 0 (ti, ac, ru, wc, sz, dp, lo, ex, he, al, ov, a1, a2, a3', a4, a5, a6, a7, a8, a9, a10, a11, a12, a13, a14, a15, a16, a17, a18, a19, a20, a21, a22, a23, a24, a25, a26, a27)) : wpX_input Q (ti, ac, ru, wc, sz, dp, lo, ex, he, al, ov, a1, a2, a3, a4, a5, a6, a7, a8, a9, a10, a11, a12, a13, a14, a15, a16, a17, a18, a19, a20, a21, a22, a23, a24, a25, a26, a27) x y := by
  unfold wpX_input
  exact zz_in 4 (fun k hk e => br_f (by decide) ⟨by rw [e]; exact pk_in k 4 hk, nm_e (hok k _ hk e)⟩) (fun z => br_t rfl (hb z))
theorem zz_poke {Q : Int32 → St1 → Prop} {x y : Int32} (hb : (x < 0 ∨ nI 16 ≤ x) → Q (-1) (ti, ac, ru, wc, sz, dp, lo, ex, he, al, ov, a1, a2, a3, a4, a5, a6, a7, a8, a9, a10, a11, a12, a13, a14, a15, a16, a17, a18, a19, a20, a21, a22, a23, a24, a25, a26, a27)) (hok : ∀ k, k < 16 → x = nI k → Q 0 (ti, ac, ru, wc, sz, dp, lo, ex, he, al, ov, upd a1 k y, a2, a3, a4, a5, a6, a7, a8, a9, a10, a11, a12, a13, a14, a15, a16, a17, a18, a19, a20, a21, a22, a23, a24, a25, a26, a27)) : wpX_poke Q (ti, ac, ru, wc, sz, dp, lo, ex, he, al, ov, a1, a2, a3, a4, a5, a6, a7, a8, a9, a10, a11, a12, a13, a14, a15, a16, a17, a18, a19, a20, a21, a22, a23, a24, a25, a26, a27) x y := by
  unfold wpX_poke
  exact zz_in 16 (fun k hk e => br_f (by decide) ⟨by rw [e]; exact pk_in k 16 hk, nm_r (e' := upd a1 k y) (by rw [e, nI_clamp (show k < 2 ^ 31 by omega)]) (hok k hk e)⟩) (fun z => br_t rfl (hb z))
end
end
section
section
variable {ti ac ru wc sz dp lo ex he al ov : Int32} {a1 a2 a3 a4 a5 a6 a7 a8 a9 a10 a11 a12 a13 a14 a15 a16 a17 a18 a19 a20 a21 a22 a23 a24 a25 a26 a27 : Nat → Int32}
variable {L : Nat} {xs : Nat → Int32} {kc ks : Nat} {post : Int32 → Prop}
/-! the law: the tail of a turn -/
theorem zz_c0 {tk : Nat → Nat} {N : Nat} (hN : N ≤ 42) (h : zl_c tk N = 1) : ¬ nI N = 0 := by
  refine nI_ne0 ?_ (by omega)
  rcases Nat.eq_zero_or_pos N with z | z
  · subst z
    unfold zl_c at h
    rw [if_neg (show ¬ zs_w tk 0 = [] by show ¬ [True] = []; simp)] at h
    exact absurd h (by decide)
  · exact z
theorem zz_714 {J : Int32 → Int32 → Int32 → Int32 → Int32 → Int32 → Int32 → Int32 → Int32 → Int32 → Int32 → Int32 → Int32 → Int32 → Int32 → Int32 → (Nat → Int32) → (Nat → Int32) → (Nat → Int32) → (Nat → Int32) → (Nat → Int32) → (Nat → Int32) → (Nat → Int32) → (Nat → Int32) → (Nat → Int32) → (Nat → Int32) → (Nat → Int32) → (Nat → Int32) → (Nat → Int32) → (Nat → Int32) → (Nat → Int32) → (Nat → Int32) → (Nat → Int32) → (Nat → Int32) → (Nat → Int32) → (Nat → Int32) → (Nat → Int32) → (Nat → Int32) → (Nat → Int32) → (Nat → Int32) → (Nat → Int32) → (Nat → Int32) → (Nat → Int32) → Prop} {x2 x3 x4 x5 x6 : Int32} {N : Nat → Nat} {tk : Nat → Nat → Nat} (hP : zz_P a11 a12 N tk) (h4 : x4 = nI (N 0)) (h5 : x5 = nI (N 1)) (hJ : ∀ wc' a13', J x2 x3 (nI (N 0)) (nI (N 1)) (x6 + 3) ti ac ru wc' sz dp lo ex he al ov a1 a2 a3 a4 a5 a6 a7 a8 a9 a10 a11 a12 a13' a14 a15 a16 a17 a18 a19 a20 a21 a22 a23 a24 a25 a26 a27) : wL_law_714 post L xs J x2 x3 x4 x6 x5 kc ks ti ac ru wc sz dp lo ex he al ov a1 a2 a3 a4 a5 a6 a7 a8 a9 a10 a11 a12 a13 a14 a15 a16 a17 a18 a19 a20 a21 a22 a23 a24 a25 a26 a27 := by
  subst h4 h5
  obtain ⟨hN0, c0, v0⟩ := hP 0 (by omega)
  obtain ⟨hN1, c1, v1⟩ := hP 1 (by omega)
  have k744 : ∀ wc' a13', wL_law_744 post L xs J x2 x3 (nI (N 0)) (nI (N 1)) x6 kc ks ti ac ru wc' sz dp lo ex he al ov a1 a2 a3 a4 a5 a6 a7 a8 a9 a10 a11 a12 a13' a14 a15 a16 a17 a18 a19 a20 a21 a22 a23 a24 a25 a26 a27 := fun wc' a13' => by
    unfold wL_law_744 wpX_variable wpX_output
    exact zk_in 16 0 16 (fun z => absurd z (by omega)) (fun _ => br_t rfl (br_t rfl (zk_inneg (x := -1) (by decide) 0 (br_t rfl (br_t rfl (nm_e (hJ wc' a13')))))))
  have k730 : ∀ wc a13, wL_law_730 post L xs J x2 x3 (nI (N 0)) (nI (N 1)) x6 kc ks ti ac ru wc sz dp lo ex he al ov a1 a2 a3 a4 a5 a6 a7 a8 a9 a10 a11 a12 a13 a14 a15 a16 a17 a18 a19 a20 a21 a22 a23 a24 a25 a26 a27 := fun wc a13 => by
    unfold wL_law_730
    exact zl_com (p := 1) (by omega) hN1 c1 v1 (fun wc' a13' => br_c (fun z => br_f (zz_c0 hN1 z) (k744 wc' a13')) (fun _ => k744 wc' a13'))
  unfold wL_law_714
  exact zl_com (p := 0) (by omega) hN0 c0 v0 (fun wc' a13' => br_c (fun z => br_f (zz_c0 hN0 z) (k730 wc' a13')) (fun _ => k730 wc' a13'))
theorem zz_673 {J : Int32 → Int32 → Int32 → Int32 → Int32 → Int32 → Int32 → Int32 → Int32 → Int32 → Int32 → Int32 → Int32 → Int32 → Int32 → Int32 → (Nat → Int32) → (Nat → Int32) → (Nat → Int32) → (Nat → Int32) → (Nat → Int32) → (Nat → Int32) → (Nat → Int32) → (Nat → Int32) → (Nat → Int32) → (Nat → Int32) → (Nat → Int32) → (Nat → Int32) → (Nat → Int32) → (Nat → Int32) → (Nat → Int32) → (Nat → Int32) → (Nat → Int32) → (Nat → Int32) → (Nat → Int32) → (Nat → Int32) → (Nat → Int32) → (Nat → Int32) → (Nat → Int32) → (Nat → Int32) → (Nat → Int32) → (Nat → Int32) → (Nat → Int32) → Prop} {x2 x3 x4 x5 x6 x7 x9 x13 : Int32} {N : Nat → Nat} {tk : Nat → Nat → Nat} (hP : zz_P a11 a12 N tk) (h0 : x9 = 0 → ¬ 12 ≤ x7 → x13 = nI (N 0)) (h0' : (¬ x9 = 0 ∨ 12 ≤ x7) → x4 = nI (N 0)) (h1 : x9 = 1 → ¬ 12 ≤ x7 → x13 = nI (N 1)) (h1' : (¬ x9 = 1 ∨ 12 ≤ x7) → x5 = nI (N 1)) (hJ : ∀ wc' a13', J x2 x3 (nI (N 0)) (nI (N 1)) (x6 + 3) ti ac ru wc' sz dp lo ex he al ov a1 a2 a3 a4 a5 a6 a7 a8 a9 a10 a11 a12 a13' a14 a15 a16 a17 a18 a19 a20 a21 a22 a23 a24 a25 a26 a27) : wL_law_673 post L xs J x2 x3 x4 x5 x6 x7 x9 x13 kc ks ti ac ru wc sz dp lo ex he al ov a1 a2 a3 a4 a5 a6 a7 a8 a9 a10 a11 a12 a13 a14 a15 a16 a17 a18 a19 a20 a21 a22 a23 a24 a25 a26 a27 := by
  have k714 : ∀ u v, u = nI (N 0) → v = nI (N 1) → wL_law_714 post L xs J x2 x3 u x6 v kc ks ti ac ru wc sz dp lo ex he al ov a1 a2 a3 a4 a5 a6 a7 a8 a9 a10 a11 a12 a13 a14 a15 a16 a17 a18 a19 a20 a21 a22 a23 a24 a25 a26 a27 := fun u v hu hv => zz_714 hP hu hv hJ
  have k692 : ∀ u, u = nI (N 0) → wL_law_692 post L xs J x2 x3 x5 x6 x7 x9 x13 u kc ks ti ac ru wc sz dp lo ex he al ov a1 a2 a3 a4 a5 a6 a7 a8 a9 a10 a11 a12 a13 a14 a15 a16 a17 a18 a19 a20 a21 a22 a23 a24 a25 a26 a27 := fun u hu => br_c (fun z => br_c (fun y => k714 u x5 hu (h1' (Or.inr y))) (fun y => k714 u x13 hu (h1 z y))) (fun z => k714 u x5 hu (h1' (Or.inl z)))
  exact br_c (fun z => br_c (fun y => k692 x4 (h0' (Or.inr y))) (fun y => k692 x13 (h0 z y))) (fun z => k692 x4 (h0' (Or.inl z)))
/-- the invariant of the law's loop, ahead of turn j -/
def zz_I (j : Nat) (ac ru sz : Int32) (f11 f12 f15 f16 f17 : Nat → Int32) (N : Nat → Nat) (tk : Nat → Nat → Nat) : Prop := (ac = nI 0 ∨ ac = nI 1) ∧ (ru = 0 ∨ ru = 1) ∧ (∀ q, q < 2 → N q ≤ j) ∧ zz_P f11 f12 N tk ∧ zz_D sz f15 f16 f17
theorem zz_j3 (j : Nat) : nI (3 * j) + 3 = nI (3 * (j + 1)) := by
  show nI (3 * j) + nI 3 = _
  rw [nI_add, show 3 * j + 3 = 3 * (j + 1) by omega]
/-- kinds from 12 on: the programs stay -/
theorem zz_tB {J : Int32 → Int32 → Int32 → Int32 → Int32 → Int32 → Int32 → Int32 → Int32 → Int32 → Int32 → Int32 → Int32 → Int32 → Int32 → Int32 → (Nat → Int32) → (Nat → Int32) → (Nat → Int32) → (Nat → Int32) → (Nat → Int32) → (Nat → Int32) → (Nat → Int32) → (Nat → Int32) → (Nat → Int32) → (Nat → Int32) → (Nat → Int32) → (Nat → Int32) → (Nat → Int32) → (Nat → Int32) → (Nat → Int32) → (Nat → Int32) → (Nat → Int32) → (Nat → Int32) → (Nat → Int32) → (Nat → Int32) → (Nat → Int32) → (Nat → Int32) → (Nat → Int32) → (Nat → Int32) → (Nat → Int32) → (Nat → Int32) → (Nat → Int32) → Prop} {j κ : Nat} {x9 x13 : Int32} {N : Nat → Nat} {tk : Nat → Nat → Nat} (hκ : 12 ≤ κ) (hκ2 : κ < 20) (hI : zz_I j ac ru sz a11 a12 a15 a16 a17 N tk) (hJ : ∀ (ti' ac' ru' wc' sz' dp' lo' ex' he' al' ov' : Int32) (a1' a2' a3' a4' a5' a6' a7' a8' a9' a10' a11' a12' a13' a14' a15' a16' a17' a18' a19' a20' a21' a22' a23' a24' a25' a26' a27' : Nat → Int32) (N' : Nat → Nat) (tk' : Nat → Nat → Nat), zz_I (j + 1) ac' ru' sz' a11' a12' a15' a16' a17' N' tk' → J ru' ac' (nI (N' 0)) (nI (N' 1)) (nI (3 * (j + 1))) ti' ac' ru' wc' sz' dp' lo' ex' he' al' ov' a1' a2' a3' a4' a5' a6' a7' a8' a9' a10' a11' a12' a13' a14' a15' a16' a17' a18' a19' a20' a21' a22' a23' a24' a25' a26' a27') : wL_law_673 post L xs J ru ac (nI (N 0)) (nI (N 1)) (nI (3 * j)) (nI κ) x9 x13 kc ks ti ac ru wc sz dp lo ex he al ov a1 a2 a3 a4 a5 a6 a7 a8 a9 a10 a11 a12 a13 a14 a15 a16 a17 a18 a19 a20 a21 a22 a23 a24 a25 a26 a27 := by
  obtain ⟨i1, i2, i3, i4, i5⟩ := hI
  have h12 : (12 : Int32) ≤ nI κ := nI_le (a := 12) hκ (by omega)
  refine zz_673 i4 (fun _ z => absurd h12 z) (fun _ => rfl) (fun _ z => absurd h12 z) (fun _ => rfl) (fun wc' a13' => ?_)
  rw [zz_j3]
  exact hJ _ _ _ _ _ _ _ _ _ _ _ _ _ _ _ _ _ _ _ _ _ _ _ _ _ _ _ _ _ _ _ _ _ _ _ _ _ _ N tk ⟨i1, i2, fun q hq => by have := i3 q hq; omega, i4, i5⟩
/-- kinds below 12: program p may have changed -/
theorem zz_tA {J : Int32 → Int32 → Int32 → Int32 → Int32 → Int32 → Int32 → Int32 → Int32 → Int32 → Int32 → Int32 → Int32 → Int32 → Int32 → Int32 → (Nat → Int32) → (Nat → Int32) → (Nat → Int32) → (Nat → Int32) → (Nat → Int32) → (Nat → Int32) → (Nat → Int32) → (Nat → Int32) → (Nat → Int32) → (Nat → Int32) → (Nat → Int32) → (Nat → Int32) → (Nat → Int32) → (Nat → Int32) → (Nat → Int32) → (Nat → Int32) → (Nat → Int32) → (Nat → Int32) → (Nat → Int32) → (Nat → Int32) → (Nat → Int32) → (Nat → Int32) → (Nat → Int32) → (Nat → Int32) → (Nat → Int32) → (Nat → Int32) → (Nat → Int32) → Prop} {j κ p : Nat} {x9 x13 : Int32} {N N' : Nat → Nat} {tk : Nat → Nat → Nat} (hκ : κ < 12) (hp : p < 2) (h9 : x9 = nI p) (h13 : x13 = nI (N' p)) (hN : ∀ q, q < 2 → q ≠ p → N' q = N q) (hI : zz_I (j + 1) ac ru sz a11 a12 a15 a16 a17 N' tk) (hJ : ∀ (ti' ac' ru' wc' sz' dp' lo' ex' he' al' ov' : Int32) (a1' a2' a3' a4' a5' a6' a7' a8' a9' a10' a11' a12' a13' a14' a15' a16' a17' a18' a19' a20' a21' a22' a23' a24' a25' a26' a27' : Nat → Int32) (N' : Nat → Nat) (tk' : Nat → Nat → Nat), zz_I (j + 1) ac' ru' sz' a11' a12' a15' a16' a17' N' tk' → J ru' ac' (nI (N' 0)) (nI (N' 1)) (nI (3 * (j + 1))) ti' ac' ru' wc' sz' dp' lo' ex' he' al' ov' a1' a2' a3' a4' a5' a6' a7' a8' a9' a10' a11' a12' a13' a14' a15' a16' a17' a18' a19' a20' a21' a22' a23' a24' a25' a26' a27') : wL_law_673 post L xs J ru ac (nI (N 0)) (nI (N 1)) (nI (3 * j)) (nI κ) x9 x13 kc ks ti ac ru wc sz dp lo ex he al ov a1 a2 a3 a4 a5 a6 a7 a8 a9 a10 a11 a12 a13 a14 a15 a16 a17 a18 a19 a20 a21 a22 a23 a24 a25 a26 a27 := by
  have i4 := hI.2.2.2.1
  have h12 : ¬ (12 : Int32) ≤ nI κ := nI_ge (b := 12) hκ (by omega)
  subst h9 h13
  refine zz_673 i4 (fun z _ => ?_) (fun z => ?_) (fun z _ => ?_) (fun z => ?_) (fun wc' a13' => ?_)
  · rw [(nI_eq (a := p) (b := 0) (by omega) (by omega)).mp z]
  · rcases z with z | z
    · have : p ≠ 0 := fun y => z (by rw [y]; rfl)
      rw [hN 0 (by omega) (by omega)]
    · exact absurd z h12
  · rw [(nI_eq (a := p) (b := 1) (by omega) (by omega)).mp z]
  · rcases z with z | z
    · have : p ≠ 1 := fun y => z (by rw [y]; rfl)
      rw [hN 1 (by omega) (by omega)]
    · exact absurd z h12
  · rw [zz_j3]
    exact hJ _ _ _ _ _ _ _ _ _ _ _ _ _ _ _ _ _ _ _ _ _ _ _ _ _ _ _ _ _ _ _ _ _ _ _ _ _ _ N' tk hI
/-- kinds below 12, no program -/
theorem zz_tC {J : Int32 → Int32 → Int32 → Int32 → Int32 → Int32 → Int32 → Int32 → Int32 → Int32 → Int32 → Int32 → Int32 → Int32 → Int32 → Int32 → (Nat → Int32) → (Nat → Int32) → (Nat → Int32) → (Nat → Int32) → (Nat → Int32) → (Nat → Int32) → (Nat → Int32) → (Nat → Int32) → (Nat → Int32) → (Nat → Int32) → (Nat → Int32) → (Nat → Int32) → (Nat → Int32) → (Nat → Int32) → (Nat → Int32) → (Nat → Int32) → (Nat → Int32) → (Nat → Int32) → (Nat → Int32) → (Nat → Int32) → (Nat → Int32) → (Nat → Int32) → (Nat → Int32) → (Nat → Int32) → (Nat → Int32) → (Nat → Int32) → (Nat → Int32) → Prop} {j κ : Nat} {x9 x13 : Int32} {N : Nat → Nat} {tk : Nat → Nat → Nat} (h0 : ¬ x9 = nI 0) (h1 : ¬ x9 = nI 1) (hI : zz_I j ac ru sz a11 a12 a15 a16 a17 N tk) (hJ : ∀ (ti' ac' ru' wc' sz' dp' lo' ex' he' al' ov' : Int32) (a1' a2' a3' a4' a5' a6' a7' a8' a9' a10' a11' a12' a13' a14' a15' a16' a17' a18' a19' a20' a21' a22' a23' a24' a25' a26' a27' : Nat → Int32) (N' : Nat → Nat) (tk' : Nat → Nat → Nat), zz_I (j + 1) ac' ru' sz' a11' a12' a15' a16' a17' N' tk' → J ru' ac' (nI (N' 0)) (nI (N' 1)) (nI (3 * (j + 1))) ti' ac' ru' wc' sz' dp' lo' ex' he' al' ov' a1' a2' a3' a4' a5' a6' a7' a8' a9' a10' a11' a12' a13' a14' a15' a16' a17' a18' a19' a20' a21' a22' a23' a24' a25' a26' a27') : wL_law_673 post L xs J ru ac (nI (N 0)) (nI (N 1)) (nI (3 * j)) (nI κ) x9 x13 kc ks ti ac ru wc sz dp lo ex he al ov a1 a2 a3 a4 a5 a6 a7 a8 a9 a10 a11 a12 a13 a14 a15 a16 a17 a18 a19 a20 a21 a22 a23 a24 a25 a26 a27 := by
  obtain ⟨i1, i2, i3, i4, i5⟩ := hI
  refine zz_673 i4 (fun z _ => absurd z h0) (fun _ => rfl) (fun z _ => absurd z h1) (fun _ => rfl) (fun wc' a13' => ?_)
  rw [zz_j3]
  exact hJ _ _ _ _ _ _ _ _ _ _ _ _ _ _ _ _ _ _ _ _ _ _ _ _ _ _ _ _ _ _ _ _ _ _ _ _ _ _ N tk ⟨i1, i2, fun q hq => by have := i3 q hq; omega, i4, i5⟩
theorem zz_Iup {j : Nat} {N : Nat → Nat} {tk : Nat → Nat → Nat} (hI : zz_I j ac ru sz a11 a12 a15 a16 a17 N tk) : zz_I (j + 1) ac ru sz a11 a12 a15 a16 a17 N tk := ⟨hI.1, hI.2.1, fun q hq => by have := hI.2.2.1 q hq; omega, hI.2.2.2.1, hI.2.2.2.2⟩
theorem zz_n272 {J : Int32 → Int32 → Int32 → Int32 → Int32 → Int32 → Int32 → Int32 → Int32 → Int32 → Int32 → Int32 → Int32 → Int32 → Int32 → Int32 → (Nat → Int32) → (Nat → Int32) → (Nat → Int32) → (Nat → Int32) → (Nat → Int32) → (Nat → Int32) → (Nat → Int32) → (Nat → Int32) → (Nat → Int32) → (Nat → Int32) → (Nat → Int32) → (Nat → Int32) → (Nat → Int32) → (Nat → Int32) → (Nat → Int32) → (Nat → Int32) → (Nat → Int32) → (Nat → Int32) → (Nat → Int32) → (Nat → Int32) → (Nat → Int32) → (Nat → Int32) → (Nat → Int32) → (Nat → Int32) → (Nat → Int32) → (Nat → Int32) → (Nat → Int32) → Prop} {x2 x3 x4 x5 x6 x7 x9 x10 x11 x12 x13 x14 x15 : Int32} (hb : x2 = 0 ∨ ¬ x9 = x3) (h : wL_law_287 post L xs J x2 x3 x4 x5 x6 x7 x9 x10 x11 x12 x13 x14 x15 0 kc ks ti ac ru wc sz dp lo ex he al ov a1 a2 a3 a4 a5 a6 a7 a8 a9 a10 a11 a12 a13 a14 a15 a16 a17 a18 a19 a20 a21 a22 a23 a24 a25 a26 a27) : wL_law_272 post L xs J x2 x3 x4 x5 x6 x7 x9 x10 x11 x12 x13 x14 x15 kc ks ti ac ru wc sz dp lo ex he al ov a1 a2 a3 a4 a5 a6 a7 a8 a9 a10 a11 a12 a13 a14 a15 a16 a17 a18 a19 a20 a21 a22 a23 a24 a25 a26 a27 :=
  br_c (fun _ => h) (fun z => br_f (by rcases hb with y | y; exact absurd y z; exact y) h)
theorem zz_b272 {J : Int32 → Int32 → Int32 → Int32 → Int32 → Int32 → Int32 → Int32 → Int32 → Int32 → Int32 → Int32 → Int32 → Int32 → Int32 → Int32 → (Nat → Int32) → (Nat → Int32) → (Nat → Int32) → (Nat → Int32) → (Nat → Int32) → (Nat → Int32) → (Nat → Int32) → (Nat → Int32) → (Nat → Int32) → (Nat → Int32) → (Nat → Int32) → (Nat → Int32) → (Nat → Int32) → (Nat → Int32) → (Nat → Int32) → (Nat → Int32) → (Nat → Int32) → (Nat → Int32) → (Nat → Int32) → (Nat → Int32) → (Nat → Int32) → (Nat → Int32) → (Nat → Int32) → (Nat → Int32) → (Nat → Int32) → (Nat → Int32) → (Nat → Int32) → Prop} {x2 x3 x4 x5 x6 x7 x9 x10 x11 x12 x13 x14 x15 : Int32} (h1 : ¬ x2 = 0) (h2 : x9 = x3) (h : wL_law_287 post L xs J x2 x3 x4 x5 x6 x7 x9 x10 x11 x12 x13 x14 x15 1 kc ks ti ac ru wc sz dp lo ex he al ov a1 a2 a3 a4 a5 a6 a7 a8 a9 a10 a11 a12 a13 a14 a15 a16 a17 a18 a19 a20 a21 a22 a23 a24 a25 a26 a27) : wL_law_272 post L xs J x2 x3 x4 x5 x6 x7 x9 x10 x11 x12 x13 x14 x15 kc ks ti ac ru wc sz dp lo ex he al ov a1 a2 a3 a4 a5 a6 a7 a8 a9 a10 a11 a12 a13 a14 a15 a16 a17 a18 a19 a20 a21 a22 a23 a24 a25 a26 a27 :=
  br_f h1 (br_t h2 h)
theorem zz_a272 {J : Int32 → Int32 → Int32 → Int32 → Int32 → Int32 → Int32 → Int32 → Int32 → Int32 → Int32 → Int32 → Int32 → Int32 → Int32 → Int32 → (Nat → Int32) → (Nat → Int32) → (Nat → Int32) → (Nat → Int32) → (Nat → Int32) → (Nat → Int32) → (Nat → Int32) → (Nat → Int32) → (Nat → Int32) → (Nat → Int32) → (Nat → Int32) → (Nat → Int32) → (Nat → Int32) → (Nat → Int32) → (Nat → Int32) → (Nat → Int32) → (Nat → Int32) → (Nat → Int32) → (Nat → Int32) → (Nat → Int32) → (Nat → Int32) → (Nat → Int32) → (Nat → Int32) → (Nat → Int32) → (Nat → Int32) → (Nat → Int32) → (Nat → Int32) → Prop} {x2 x3 x4 x5 x6 x7 x9 x10 x11 x12 x13 x14 x15 : Int32} (h : ∀ z0, wL_law_287 post L xs J x2 x3 x4 x5 x6 x7 x9 x10 x11 x12 x13 x14 x15 z0 kc ks ti ac ru wc sz dp lo ex he al ov a1 a2 a3 a4 a5 a6 a7 a8 a9 a10 a11 a12 a13 a14 a15 a16 a17 a18 a19 a20 a21 a22 a23 a24 a25 a26 a27) : wL_law_272 post L xs J x2 x3 x4 x5 x6 x7 x9 x10 x11 x12 x13 x14 x15 kc ks ti ac ru wc sz dp lo ex he al ov a1 a2 a3 a4 a5 a6 a7 a8 a9 a10 a11 a12 a13 a14 a15 a16 a17 a18 a19 a20 a21 a22 a23 a24 a25 a26 a27 :=
  br_c (fun _ => h 0) (fun _ => br_c (fun _ => h 1) (fun _ => h 0))
/-- a program's new length -/
theorem zz_set {p M : Nat} {N : Nat → Nat} : (fun q => if q = p then M else N q) p = M := if_pos rfl
theorem zz_off {p M : Nat} {N : Nat → Nat} : ∀ q, q < 2 → q ≠ p → (fun q => if q = p then M else N q) q = N q := fun _ _ h => if_neg h
theorem zz_Pm {p M : Nat} {N : Nat → Nat} {tk : Nat → Nat → Nat} (hP : zz_P a11 a12 N tk) (hM : M ≤ N p) : zz_P a11 (upd a12 p (nI M)) (fun q => if q = p then M else N q) tk := by
  intro q hq
  obtain ⟨h1, h2, h3⟩ := hP q hq
  dsimp only
  by_cases e : q = p
  · rw [e] at h1 h3 ⊢
    rw [if_pos rfl, pk_us]
    exact ⟨by omega, rfl, zs_Vm h3 hM⟩
  · rw [if_neg e, pk_un e]
    exact ⟨h1, h2, h3⟩
theorem zz_Pa {p k : Nat} {N tk' : Nat → Nat} {tk : Nat → Nat → Nat} (hp : p < 2) (hP : zz_P a11 a12 N tk) (hM : N p < 42) (hv : zs_V (upd a11 (60 * p + N p) (nI k)) p (N p + 1) tk') : zz_P (upd a11 (60 * p + N p) (nI k)) (upd a12 p (nI (N p + 1))) (fun q => if q = p then N p + 1 else N q) (fun q => if q = p then tk' else tk q) := by
  intro q hq
  obtain ⟨h1, h2, h3⟩ := hP q hq
  dsimp only
  by_cases e : q = p
  · rw [e, if_pos rfl, if_pos rfl, pk_us]
    exact ⟨by omega, rfl, hv⟩
  · rw [if_neg e, if_neg e, pk_un e]
    exact ⟨h1, h2, zs_Vo h3 (by omega) (by omega) e⟩
end
end
section
section
variable {ti ac ru wc sz dp lo ex he al ov : Int32} {a1 a2 a3 a4 a5 a6 a7 a8 a9 a10 a11 a12 a13 a14 a15 a16 a17 a18 a19 a20 a21 a22 a23 a24 a25 a26 a27 : Nat → Int32}
variable {L : Nat} {xs : Nat → Int32} {kc ks : Nat} {post : Int32 → Prop}
/-! one call a kind: what it answers, and the law's check of it -/
theorem zz_nm1 {n : Nat} (h : n < 2 ^ 31) : ¬ nI n = -1 := fun e => nI_pos h (by rw [e]; decide)
theorem zz_cT {tk : Nat → Nat} {N : Nat} (h : zs_w tk N = []) : zl_c tk N = 1 := by unfold zl_c; rw [if_pos h]
theorem zz_cF {tk : Nat → Nat} {N : Nat} (h : ¬ zs_w tk N = []) : ¬ zl_c tk N = 1 := by unfold zl_c; rw [if_neg h]; decide
theorem zz_kf {Q : Int32 → St1 → Prop} {J : Int32 → Int32 → Int32 → Int32 → Int32 → Int32 → Int32 → Int32 → Int32 → Int32 → Int32 → Int32 → Int32 → Int32 → Int32 → Int32 → (Nat → Int32) → (Nat → Int32) → (Nat → Int32) → (Nat → Int32) → (Nat → Int32) → (Nat → Int32) → (Nat → Int32) → (Nat → Int32) → (Nat → Int32) → (Nat → Int32) → (Nat → Int32) → (Nat → Int32) → (Nat → Int32) → (Nat → Int32) → (Nat → Int32) → (Nat → Int32) → (Nat → Int32) → (Nat → Int32) → (Nat → Int32) → (Nat → Int32) → (Nat → Int32) → (Nat → Int32) → (Nat → Int32) → (Nat → Int32) → (Nat → Int32) → (Nat → Int32) → (Nat → Int32) → Prop} {j κ : Nat} {x9 x10 x11 x12 x13 x14 : Int32} {N : Nat → Nat} {tk : Nat → Nat → Nat} {p : Nat} (hκ : κ < 10) (hp : p < 2) (h9 : x9 = nI p) (h12 : x12 = 1) (h13 : x13 = nI (N p)) (h14 : x14 = zl_c (tk p) (N p)) (hj : j < 40) (hI : zz_I j ac ru sz a11 a12 a15 a16 a17 N tk) (hpos : ∀ (r : Int32) (ti' ac' ru' wc' sz' dp' lo' ex' he' al' ov' : Int32) (a1' a2' a3' a4' a5' a6' a7' a8' a9' a10' a11' a12' a13' a14' a15' a16' a17' a18' a19' a20' a21' a22' a23' a24' a25' a26' a27' : Nat → Int32), 0 ≤ r → wL_law_272 post L xs J ru ac (nI (N 0)) (nI (N 1)) (nI (3 * j)) (nI κ) x9 x10 x11 x12 x13 x14 r kc ks ti' ac' ru' wc' sz' dp' lo' ex' he' al' ov' a1' a2' a3' a4' a5' a6' a7' a8' a9' a10' a11' a12' a13' a14' a15' a16' a17' a18' a19' a20' a21' a22' a23' a24' a25' a26' a27' → Q r (ti', ac', ru', wc', sz', dp', lo', ex', he', al', ov', a1', a2', a3', a4', a5', a6', a7', a8', a9', a10', a11', a12', a13', a14', a15', a16', a17', a18', a19', a20', a21', a22', a23', a24', a25', a26', a27')) (hneg : ∀ (r : Int32), (r = -1 ∨ r = -2 ∨ r = -3) → (∀ wc' a13', wL_law_272 post L xs J ru ac (nI (N 0)) (nI (N 1)) (nI (3 * j)) (nI κ) x9 x10 x11 x12 x13 x14 r kc ks ti ac ru wc' sz dp lo ex he al ov a1 a2 a3 a4 a5 a6 a7 a8 a9 a10 a11 a12 a13' a14 a15 a16 a17 a18 a19 a20 a21 a22 a23 a24 a25 a26 a27) → ∀ wc' a13', Q r (ti, ac, ru, wc', sz, dp, lo, ex, he, al, ov, a1, a2, a3, a4, a5, a6, a7, a8, a9, a10, a11, a12, a13', a14, a15, a16, a17, a18, a19, a20, a21, a22, a23, a24, a25, a26, a27)) (hJ : ∀ (ti' ac' ru' wc' sz' dp' lo' ex' he' al' ov' : Int32) (a1' a2' a3' a4' a5' a6' a7' a8' a9' a10' a11' a12' a13' a14' a15' a16' a17' a18' a19' a20' a21' a22' a23' a24' a25' a26' a27' : Nat → Int32) (N' : Nat → Nat) (tk' : Nat → Nat → Nat), zz_I (j + 1) ac' ru' sz' a11' a12' a15' a16' a17' N' tk' → J ru' ac' (nI (N' 0)) (nI (N' 1)) (nI (3 * (j + 1))) ti' ac' ru' wc' sz' dp' lo' ex' he' al' ov' a1' a2' a3' a4' a5' a6' a7' a8' a9' a10' a11' a12' a13' a14' a15' a16' a17' a18' a19' a20' a21' a22' a23' a24' a25' a26' a27') : wpL_call Q (ti, ac, ru, wc, sz, dp, lo, ex, he, al, ov, a1, a2, a3, a4, a5, a6, a7, a8, a9, a10, a11, a12, a13, a14, a15, a16, a17, a18, a19, a20, a21, a22, a23, a24, a25, a26, a27) (nI κ) x9 x10 := by
  subst h9 h12 h13 h14
  have k10 : ¬ (10 : Int32) ≤ nI κ := nI_ge (b := 10) hκ (by omega)
  have i3 := hI.2.2.1 p hp
  obtain ⟨n1, n2, n3⟩ := hI.2.2.2.1 p hp
  have tl : ∀ wc' a13', wL_law_673 post L xs J ru ac (nI (N 0)) (nI (N 1)) (nI (3 * j)) (nI κ) (nI p) (nI (N p)) kc ks ti ac ru wc' sz dp lo ex he al ov a1 a2 a3 a4 a5 a6 a7 a8 a9 a10 a11 a12 a13' a14 a15 a16 a17 a18 a19 a20 a21 a22 a23 a24 a25 a26 a27 := fun wc' a13' => zz_tA (N' := N) (by omega) hp rfl rfl (fun _ _ _ => rfl) (zz_Iup hI) hJ
  refine br_f k10 (zz_feed hp n1 n2 n3 (fun z1 z2 => ?_) (fun hf hw wc' a13' => ?_) (fun hf hw wc' a13' => ?_) (fun hf hw wc' a13' k tk' hv' => ?_))
  · exact hneg (-2) (Or.inr (Or.inl rfl)) (fun wc' a13' => zz_b272 z1 z2 (br_f k10 (br_f (by decide) (br_f (by decide) (br_t rfl (br_t (by decide) (tl wc' a13'))))))) wc a13
  · exact hneg (-3) (Or.inr (Or.inr rfl)) (fun wc' a13' => zz_n272 hf (br_f k10 (br_f (by decide) (br_t rfl (br_t (zz_cT hw) (br_t rfl (br_t (by decide) (tl wc' a13')))))))) wc' a13'
  · exact hneg (-1) (Or.inl rfl) (fun wc' a13' => zz_n272 hf (br_f k10 (br_f (by decide) (br_t rfl (br_f (zz_cF hw) (br_f (zx_nI (b := 60) (by omega) (by omega) (by omega)) (br_t rfl (br_t (by decide) (tl wc' a13'))))))))) wc' a13'
  · refine hpos (nI (N p + 1)) _ _ _ _ _ _ _ _ _ _ _ _ _ _ _ _ _ _ _ _ _ _ _ _ _ _ _ _ _ _ _ _ _ _ _ _ _ _ (nI_pos' (by omega)) (zz_n272 hf (br_f k10 (br_f (by decide) (br_t rfl (br_f (zz_cF hw) (br_f (zx_nI (b := 60) (by omega) (by omega) (by omega)) (br_f (zz_nm1 (by omega)) (br_t (nI_1 (N p)).symm (br_f (nI_nle (by omega) (by omega)) ?_)))))))))
    refine zz_tA (N' := fun q => if q = p then N p + 1 else N q) (tk := fun q => if q = p then tk' else tk q) (by omega) hp rfl (by rw [if_pos rfl]) zz_off ⟨hI.1, hI.2.1, fun q hq => ?_, zz_Pa hp hI.2.2.2.1 (by omega) hv', hI.2.2.2.2⟩ hJ
    have := hI.2.2.1 q hq
    dsimp only
    by_cases e : q = p
    · rw [if_pos e]; omega
    · rw [if_neg e]; omega
theorem zz_kfB {Q : Int32 → St1 → Prop} {J : Int32 → Int32 → Int32 → Int32 → Int32 → Int32 → Int32 → Int32 → Int32 → Int32 → Int32 → Int32 → Int32 → Int32 → Int32 → Int32 → (Nat → Int32) → (Nat → Int32) → (Nat → Int32) → (Nat → Int32) → (Nat → Int32) → (Nat → Int32) → (Nat → Int32) → (Nat → Int32) → (Nat → Int32) → (Nat → Int32) → (Nat → Int32) → (Nat → Int32) → (Nat → Int32) → (Nat → Int32) → (Nat → Int32) → (Nat → Int32) → (Nat → Int32) → (Nat → Int32) → (Nat → Int32) → (Nat → Int32) → (Nat → Int32) → (Nat → Int32) → (Nat → Int32) → (Nat → Int32) → (Nat → Int32) → (Nat → Int32) → (Nat → Int32) → Prop} {j κ : Nat} {x9 x10 x11 x12 x13 x14 : Int32} {N : Nat → Nat} {tk : Nat → Nat → Nat} (hκ : κ < 10) (h0 : ¬ x9 = nI 0) (h1 : ¬ x9 = nI 1) (h12 : x12 = 0) (hI : zz_I j ac ru sz a11 a12 a15 a16 a17 N tk) (hpos : ∀ (r : Int32) (ti' ac' ru' wc' sz' dp' lo' ex' he' al' ov' : Int32) (a1' a2' a3' a4' a5' a6' a7' a8' a9' a10' a11' a12' a13' a14' a15' a16' a17' a18' a19' a20' a21' a22' a23' a24' a25' a26' a27' : Nat → Int32), 0 ≤ r → wL_law_272 post L xs J ru ac (nI (N 0)) (nI (N 1)) (nI (3 * j)) (nI κ) x9 x10 x11 x12 x13 x14 r kc ks ti' ac' ru' wc' sz' dp' lo' ex' he' al' ov' a1' a2' a3' a4' a5' a6' a7' a8' a9' a10' a11' a12' a13' a14' a15' a16' a17' a18' a19' a20' a21' a22' a23' a24' a25' a26' a27' → Q r (ti', ac', ru', wc', sz', dp', lo', ex', he', al', ov', a1', a2', a3', a4', a5', a6', a7', a8', a9', a10', a11', a12', a13', a14', a15', a16', a17', a18', a19', a20', a21', a22', a23', a24', a25', a26', a27')) (hneg : ∀ (r : Int32), (r = -1 ∨ r = -2 ∨ r = -3) → (∀ wc' a13', wL_law_272 post L xs J ru ac (nI (N 0)) (nI (N 1)) (nI (3 * j)) (nI κ) x9 x10 x11 x12 x13 x14 r kc ks ti ac ru wc' sz dp lo ex he al ov a1 a2 a3 a4 a5 a6 a7 a8 a9 a10 a11 a12 a13' a14 a15 a16 a17 a18 a19 a20 a21 a22 a23 a24 a25 a26 a27) → ∀ wc' a13', Q r (ti, ac, ru, wc', sz, dp, lo, ex, he, al, ov, a1, a2, a3, a4, a5, a6, a7, a8, a9, a10, a11, a12, a13', a14, a15, a16, a17, a18, a19, a20, a21, a22, a23, a24, a25, a26, a27)) (hJ : ∀ (ti' ac' ru' wc' sz' dp' lo' ex' he' al' ov' : Int32) (a1' a2' a3' a4' a5' a6' a7' a8' a9' a10' a11' a12' a13' a14' a15' a16' a17' a18' a19' a20' a21' a22' a23' a24' a25' a26' a27' : Nat → Int32) (N' : Nat → Nat) (tk' : Nat → Nat → Nat), zz_I (j + 1) ac' ru' sz' a11' a12' a15' a16' a17' N' tk' → J ru' ac' (nI (N' 0)) (nI (N' 1)) (nI (3 * (j + 1))) ti' ac' ru' wc' sz' dp' lo' ex' he' al' ov' a1' a2' a3' a4' a5' a6' a7' a8' a9' a10' a11' a12' a13' a14' a15' a16' a17' a18' a19' a20' a21' a22' a23' a24' a25' a26' a27') : wpL_call Q (ti, ac, ru, wc, sz, dp, lo, ex, he, al, ov, a1, a2, a3, a4, a5, a6, a7, a8, a9, a10, a11, a12, a13, a14, a15, a16, a17, a18, a19, a20, a21, a22, a23, a24, a25, a26, a27) (nI κ) x9 x10 := by
  subst h12
  have k10 : ¬ (10 : Int32) ≤ nI κ := nI_ge (b := 10) hκ (by omega)
  exact br_f k10 (zz_feedB h0 h1 (hneg (-1) (Or.inl rfl) (fun wc' a13' => zz_a272 (fun z0 => br_f k10 (br_t rfl (br_t rfl (br_t (by decide) (zz_tC h0 h1 hI hJ)))))) wc a13))
theorem zz_kb {Q : Int32 → St1 → Prop} {J : Int32 → Int32 → Int32 → Int32 → Int32 → Int32 → Int32 → Int32 → Int32 → Int32 → Int32 → Int32 → Int32 → Int32 → Int32 → Int32 → (Nat → Int32) → (Nat → Int32) → (Nat → Int32) → (Nat → Int32) → (Nat → Int32) → (Nat → Int32) → (Nat → Int32) → (Nat → Int32) → (Nat → Int32) → (Nat → Int32) → (Nat → Int32) → (Nat → Int32) → (Nat → Int32) → (Nat → Int32) → (Nat → Int32) → (Nat → Int32) → (Nat → Int32) → (Nat → Int32) → (Nat → Int32) → (Nat → Int32) → (Nat → Int32) → (Nat → Int32) → (Nat → Int32) → (Nat → Int32) → (Nat → Int32) → (Nat → Int32) → (Nat → Int32) → Prop} {j κ : Nat} {x9 x10 x11 x12 x13 x14 : Int32} {N : Nat → Nat} {tk : Nat → Nat → Nat} {p : Nat} (hκ : κ = 10) (hp : p < 2) (h9 : x9 = nI p) (h12 : x12 = 1) (h13 : x13 = nI (N p)) (hj : j < 40) (hI : zz_I j ac ru sz a11 a12 a15 a16 a17 N tk) (hpos : ∀ (r : Int32) (ti' ac' ru' wc' sz' dp' lo' ex' he' al' ov' : Int32) (a1' a2' a3' a4' a5' a6' a7' a8' a9' a10' a11' a12' a13' a14' a15' a16' a17' a18' a19' a20' a21' a22' a23' a24' a25' a26' a27' : Nat → Int32), 0 ≤ r → wL_law_272 post L xs J ru ac (nI (N 0)) (nI (N 1)) (nI (3 * j)) (nI κ) x9 x10 x11 x12 x13 x14 r kc ks ti' ac' ru' wc' sz' dp' lo' ex' he' al' ov' a1' a2' a3' a4' a5' a6' a7' a8' a9' a10' a11' a12' a13' a14' a15' a16' a17' a18' a19' a20' a21' a22' a23' a24' a25' a26' a27' → Q r (ti', ac', ru', wc', sz', dp', lo', ex', he', al', ov', a1', a2', a3', a4', a5', a6', a7', a8', a9', a10', a11', a12', a13', a14', a15', a16', a17', a18', a19', a20', a21', a22', a23', a24', a25', a26', a27')) (hneg : ∀ (r : Int32), (r = -1 ∨ r = -2 ∨ r = -3) → (∀ wc' a13', wL_law_272 post L xs J ru ac (nI (N 0)) (nI (N 1)) (nI (3 * j)) (nI κ) x9 x10 x11 x12 x13 x14 r kc ks ti ac ru wc' sz dp lo ex he al ov a1 a2 a3 a4 a5 a6 a7 a8 a9 a10 a11 a12 a13' a14 a15 a16 a17 a18 a19 a20 a21 a22 a23 a24 a25 a26 a27) → ∀ wc' a13', Q r (ti, ac, ru, wc', sz, dp, lo, ex, he, al, ov, a1, a2, a3, a4, a5, a6, a7, a8, a9, a10, a11, a12, a13', a14, a15, a16, a17, a18, a19, a20, a21, a22, a23, a24, a25, a26, a27)) (hJ : ∀ (ti' ac' ru' wc' sz' dp' lo' ex' he' al' ov' : Int32) (a1' a2' a3' a4' a5' a6' a7' a8' a9' a10' a11' a12' a13' a14' a15' a16' a17' a18' a19' a20' a21' a22' a23' a24' a25' a26' a27' : Nat → Int32) (N' : Nat → Nat) (tk' : Nat → Nat → Nat), zz_I (j + 1) ac' ru' sz' a11' a12' a15' a16' a17' N' tk' → J ru' ac' (nI (N' 0)) (nI (N' 1)) (nI (3 * (j + 1))) ti' ac' ru' wc' sz' dp' lo' ex' he' al' ov' a1' a2' a3' a4' a5' a6' a7' a8' a9' a10' a11' a12' a13' a14' a15' a16' a17' a18' a19' a20' a21' a22' a23' a24' a25' a26' a27') : wpL_call Q (ti, ac, ru, wc, sz, dp, lo, ex, he, al, ov, a1, a2, a3, a4, a5, a6, a7, a8, a9, a10, a11, a12, a13, a14, a15, a16, a17, a18, a19, a20, a21, a22, a23, a24, a25, a26, a27) (nI κ) x9 x10 := by
  subst h9 h12 h13 hκ
  have k10 : (10 : Int32) ≤ nI 10 := by decide
  have k12 : ¬ (12 : Int32) ≤ nI 10 := by decide
  have i3 := hI.2.2.1 p hp
  obtain ⟨n1, n2, n3⟩ := hI.2.2.2.1 p hp
  have tl : ∀ wc' a13', wL_law_673 post L xs J ru ac (nI (N 0)) (nI (N 1)) (nI (3 * j)) (nI 10) (nI p) (nI (N p)) kc ks ti ac ru wc' sz dp lo ex he al ov a1 a2 a3 a4 a5 a6 a7 a8 a9 a10 a11 a12 a13' a14 a15 a16 a17 a18 a19 a20 a21 a22 a23 a24 a25 a26 a27 := fun wc' a13' => zz_tA (N' := N) (by omega) hp rfl rfl (fun _ _ _ => rfl) (zz_Iup hI) hJ
  refine br_t k10 (br_f k12 (br_t rfl (zz_back hp n1 n2 (fun z1 z2 => ?_) (fun hf hn => ?_) (fun hf hn => ?_))))
  · have e440 : ∀ wc' a13', wL_law_440 post L xs J ru ac (nI (N 0)) (nI (N 1)) (nI (3 * j)) (nI 10) (nI p) (nI (N p)) (-2) (-2) (-2) kc ks ti ac ru wc' sz dp lo ex he al ov a1 a2 a3 a4 a5 a6 a7 a8 a9 a10 a11 a12 a13' a14 a15 a16 a17 a18 a19 a20 a21 a22 a23 a24 a25 a26 a27 := fun wc' a13' => br_t rfl (br_f (by decide) (tl wc' a13'))
    exact hneg (-2) (Or.inr (Or.inl rfl)) (fun wc' a13' => zz_b272 z1 z2 (br_t k10 (br_f k12 (br_t rfl (br_c (fun _ => br_f (by decide) (br_f (by decide) (e440 wc' a13'))) (fun _ => br_f (by decide) (br_f (by decide) (e440 wc' a13')))))))) wc a13
  · have e440 : ∀ wc' a13', wL_law_440 post L xs J ru ac (nI (N 0)) (nI (N 1)) (nI (3 * j)) (nI 10) (nI p) (nI (N p)) (-2) (-2) (-2) kc ks ti ac ru wc' sz dp lo ex he al ov a1 a2 a3 a4 a5 a6 a7 a8 a9 a10 a11 a12 a13' a14 a15 a16 a17 a18 a19 a20 a21 a22 a23 a24 a25 a26 a27 := fun wc' a13' => br_t rfl (br_f (by decide) (tl wc' a13'))
    exact hneg (-2) (Or.inr (Or.inl rfl)) (fun wc' a13' => zz_n272 hf (br_t k10 (br_f k12 (br_t rfl (br_t (by rw [hn]; rfl) (br_f (by decide) (br_t rfl (e440 wc' a13')))))))) wc a13
  · refine hpos (nI (N p - 1)) _ _ _ _ _ _ _ _ _ _ _ _ _ _ _ _ _ _ _ _ _ _ _ _ _ _ _ _ _ _ _ _ _ _ _ _ _ _ (nI_pos' (by omega)) (zz_n272 hf (br_t k10 (br_f k12 (br_t rfl (br_f (nI_ne0 hn (by omega)) (br_f (by decide) (br_t rfl (br_t (zx_sub (b := 1) (by omega)).symm (br_t (nI_pos' (by omega)) (br_t rfl ?_))))))))))
    refine zz_tA (N' := fun q => if q = p then N p - 1 else N q) (tk := tk) (by omega) hp rfl (by rw [if_pos rfl]) zz_off ⟨hI.1, hI.2.1, fun q hq => ?_, zz_Pm hI.2.2.2.1 (by omega), hI.2.2.2.2⟩ hJ
    have := hI.2.2.1 q hq
    dsimp only
    by_cases e : q = p
    · rw [if_pos e]; omega
    · rw [if_neg e]; omega
theorem zz_kbB {Q : Int32 → St1 → Prop} {J : Int32 → Int32 → Int32 → Int32 → Int32 → Int32 → Int32 → Int32 → Int32 → Int32 → Int32 → Int32 → Int32 → Int32 → Int32 → Int32 → (Nat → Int32) → (Nat → Int32) → (Nat → Int32) → (Nat → Int32) → (Nat → Int32) → (Nat → Int32) → (Nat → Int32) → (Nat → Int32) → (Nat → Int32) → (Nat → Int32) → (Nat → Int32) → (Nat → Int32) → (Nat → Int32) → (Nat → Int32) → (Nat → Int32) → (Nat → Int32) → (Nat → Int32) → (Nat → Int32) → (Nat → Int32) → (Nat → Int32) → (Nat → Int32) → (Nat → Int32) → (Nat → Int32) → (Nat → Int32) → (Nat → Int32) → (Nat → Int32) → (Nat → Int32) → Prop} {j κ : Nat} {x9 x10 x11 x12 x13 x14 : Int32} {N : Nat → Nat} {tk : Nat → Nat → Nat} (hκ : κ = 10) (h0 : ¬ x9 = nI 0) (h1 : ¬ x9 = nI 1) (h12 : x12 = 0) (hI : zz_I j ac ru sz a11 a12 a15 a16 a17 N tk) (hpos : ∀ (r : Int32) (ti' ac' ru' wc' sz' dp' lo' ex' he' al' ov' : Int32) (a1' a2' a3' a4' a5' a6' a7' a8' a9' a10' a11' a12' a13' a14' a15' a16' a17' a18' a19' a20' a21' a22' a23' a24' a25' a26' a27' : Nat → Int32), 0 ≤ r → wL_law_272 post L xs J ru ac (nI (N 0)) (nI (N 1)) (nI (3 * j)) (nI κ) x9 x10 x11 x12 x13 x14 r kc ks ti' ac' ru' wc' sz' dp' lo' ex' he' al' ov' a1' a2' a3' a4' a5' a6' a7' a8' a9' a10' a11' a12' a13' a14' a15' a16' a17' a18' a19' a20' a21' a22' a23' a24' a25' a26' a27' → Q r (ti', ac', ru', wc', sz', dp', lo', ex', he', al', ov', a1', a2', a3', a4', a5', a6', a7', a8', a9', a10', a11', a12', a13', a14', a15', a16', a17', a18', a19', a20', a21', a22', a23', a24', a25', a26', a27')) (hneg : ∀ (r : Int32), (r = -1 ∨ r = -2 ∨ r = -3) → (∀ wc' a13', wL_law_272 post L xs J ru ac (nI (N 0)) (nI (N 1)) (nI (3 * j)) (nI κ) x9 x10 x11 x12 x13 x14 r kc ks ti ac ru wc' sz dp lo ex he al ov a1 a2 a3 a4 a5 a6 a7 a8 a9 a10 a11 a12 a13' a14 a15 a16 a17 a18 a19 a20 a21 a22 a23 a24 a25 a26 a27) → ∀ wc' a13', Q r (ti, ac, ru, wc', sz, dp, lo, ex, he, al, ov, a1, a2, a3, a4, a5, a6, a7, a8, a9, a10, a11, a12, a13', a14, a15, a16, a17, a18, a19, a20, a21, a22, a23, a24, a25, a26, a27)) (hJ : ∀ (ti' ac' ru' wc' sz' dp' lo' ex' he' al' ov' : Int32) (a1' a2' a3' a4' a5' a6' a7' a8' a9' a10' a11' a12' a13' a14' a15' a16' a17' a18' a19' a20' a21' a22' a23' a24' a25' a26' a27' : Nat → Int32) (N' : Nat → Nat) (tk' : Nat → Nat → Nat), zz_I (j + 1) ac' ru' sz' a11' a12' a15' a16' a17' N' tk' → J ru' ac' (nI (N' 0)) (nI (N' 1)) (nI (3 * (j + 1))) ti' ac' ru' wc' sz' dp' lo' ex' he' al' ov' a1' a2' a3' a4' a5' a6' a7' a8' a9' a10' a11' a12' a13' a14' a15' a16' a17' a18' a19' a20' a21' a22' a23' a24' a25' a26' a27') : wpL_call Q (ti, ac, ru, wc, sz, dp, lo, ex, he, al, ov, a1, a2, a3, a4, a5, a6, a7, a8, a9, a10, a11, a12, a13, a14, a15, a16, a17, a18, a19, a20, a21, a22, a23, a24, a25, a26, a27) (nI κ) x9 x10 := by
  subst h12 hκ
  have k10 : (10 : Int32) ≤ nI 10 := by decide
  have k12 : ¬ (12 : Int32) ≤ nI 10 := by decide
  have e440 : ∀ wc' a13', wL_law_440 post L xs J ru ac (nI (N 0)) (nI (N 1)) (nI (3 * j)) (nI 10) x9 x13 (-1) (-1) (-1) kc ks ti ac ru wc' sz dp lo ex he al ov a1 a2 a3 a4 a5 a6 a7 a8 a9 a10 a11 a12 a13' a14 a15 a16 a17 a18 a19 a20 a21 a22 a23 a24 a25 a26 a27 := fun wc' a13' => br_t rfl (br_f (by decide) (zz_tC h0 h1 hI hJ))
  exact br_t k10 (br_f k12 (br_t rfl (zz_backB h0 h1 (hneg (-1) (Or.inl rfl) (fun wc' a13' => zz_a272 (fun z0 => br_t k10 (br_f k12 (br_t rfl (br_c (fun _ => br_t rfl (e440 wc' a13')) (fun _ => br_t rfl (e440 wc' a13'))))))) wc a13))))
theorem zz_ke {Q : Int32 → St1 → Prop} {J : Int32 → Int32 → Int32 → Int32 → Int32 → Int32 → Int32 → Int32 → Int32 → Int32 → Int32 → Int32 → Int32 → Int32 → Int32 → Int32 → (Nat → Int32) → (Nat → Int32) → (Nat → Int32) → (Nat → Int32) → (Nat → Int32) → (Nat → Int32) → (Nat → Int32) → (Nat → Int32) → (Nat → Int32) → (Nat → Int32) → (Nat → Int32) → (Nat → Int32) → (Nat → Int32) → (Nat → Int32) → (Nat → Int32) → (Nat → Int32) → (Nat → Int32) → (Nat → Int32) → (Nat → Int32) → (Nat → Int32) → (Nat → Int32) → (Nat → Int32) → (Nat → Int32) → (Nat → Int32) → (Nat → Int32) → (Nat → Int32) → (Nat → Int32) → Prop} {j κ : Nat} {x9 x10 x11 x12 x13 x14 : Int32} {N : Nat → Nat} {tk : Nat → Nat → Nat} {p : Nat} (hκ : κ = 11) (hp : p < 2) (h9 : x9 = nI p) (h12 : x12 = 1) (h13 : x13 = nI (N p)) (hj : j < 40) (hI : zz_I j ac ru sz a11 a12 a15 a16 a17 N tk) (hpos : ∀ (r : Int32) (ti' ac' ru' wc' sz' dp' lo' ex' he' al' ov' : Int32) (a1' a2' a3' a4' a5' a6' a7' a8' a9' a10' a11' a12' a13' a14' a15' a16' a17' a18' a19' a20' a21' a22' a23' a24' a25' a26' a27' : Nat → Int32), 0 ≤ r → wL_law_272 post L xs J ru ac (nI (N 0)) (nI (N 1)) (nI (3 * j)) (nI κ) x9 x10 x11 x12 x13 x14 r kc ks ti' ac' ru' wc' sz' dp' lo' ex' he' al' ov' a1' a2' a3' a4' a5' a6' a7' a8' a9' a10' a11' a12' a13' a14' a15' a16' a17' a18' a19' a20' a21' a22' a23' a24' a25' a26' a27' → Q r (ti', ac', ru', wc', sz', dp', lo', ex', he', al', ov', a1', a2', a3', a4', a5', a6', a7', a8', a9', a10', a11', a12', a13', a14', a15', a16', a17', a18', a19', a20', a21', a22', a23', a24', a25', a26', a27')) (hneg : ∀ (r : Int32), (r = -1 ∨ r = -2 ∨ r = -3) → (∀ wc' a13', wL_law_272 post L xs J ru ac (nI (N 0)) (nI (N 1)) (nI (3 * j)) (nI κ) x9 x10 x11 x12 x13 x14 r kc ks ti ac ru wc' sz dp lo ex he al ov a1 a2 a3 a4 a5 a6 a7 a8 a9 a10 a11 a12 a13' a14 a15 a16 a17 a18 a19 a20 a21 a22 a23 a24 a25 a26 a27) → ∀ wc' a13', Q r (ti, ac, ru, wc', sz, dp, lo, ex, he, al, ov, a1, a2, a3, a4, a5, a6, a7, a8, a9, a10, a11, a12, a13', a14, a15, a16, a17, a18, a19, a20, a21, a22, a23, a24, a25, a26, a27)) (hJ : ∀ (ti' ac' ru' wc' sz' dp' lo' ex' he' al' ov' : Int32) (a1' a2' a3' a4' a5' a6' a7' a8' a9' a10' a11' a12' a13' a14' a15' a16' a17' a18' a19' a20' a21' a22' a23' a24' a25' a26' a27' : Nat → Int32) (N' : Nat → Nat) (tk' : Nat → Nat → Nat), zz_I (j + 1) ac' ru' sz' a11' a12' a15' a16' a17' N' tk' → J ru' ac' (nI (N' 0)) (nI (N' 1)) (nI (3 * (j + 1))) ti' ac' ru' wc' sz' dp' lo' ex' he' al' ov' a1' a2' a3' a4' a5' a6' a7' a8' a9' a10' a11' a12' a13' a14' a15' a16' a17' a18' a19' a20' a21' a22' a23' a24' a25' a26' a27') : wpL_call Q (ti, ac, ru, wc, sz, dp, lo, ex, he, al, ov, a1, a2, a3, a4, a5, a6, a7, a8, a9, a10, a11, a12, a13, a14, a15, a16, a17, a18, a19, a20, a21, a22, a23, a24, a25, a26, a27) (nI κ) x9 x10 := by
  subst h9 h12 h13 hκ
  have k10 : (10 : Int32) ≤ nI 11 := by decide
  have k12 : ¬ (12 : Int32) ≤ nI 11 := by decide
  have ke : ¬ nI 11 = 10 := by decide
  have i3 := hI.2.2.1 p hp
  obtain ⟨n1, n2, n3⟩ := hI.2.2.2.1 p hp
  have tl : ∀ wc' a13', wL_law_673 post L xs J ru ac (nI (N 0)) (nI (N 1)) (nI (3 * j)) (nI 11) (nI p) (nI (N p)) kc ks ti ac ru wc' sz dp lo ex he al ov a1 a2 a3 a4 a5 a6 a7 a8 a9 a10 a11 a12 a13' a14 a15 a16 a17 a18 a19 a20 a21 a22 a23 a24 a25 a26 a27 := fun wc' a13' => zz_tA (N' := N) (by omega) hp rfl rfl (fun _ _ _ => rfl) (zz_Iup hI) hJ
  refine br_t k10 (br_f k12 (br_f ke (zz_erase hp n2 (fun z1 z2 => ?_) (fun hf => ?_))))
  · exact hneg (-2) (Or.inr (Or.inl rfl)) (fun wc' a13' => zz_b272 z1 z2 (br_t k10 (br_f k12 (br_f ke (br_f (by decide) (br_f (by decide) (br_t rfl (br_f (by decide) (tl wc' a13'))))))))) wc a13
  · refine hpos (nI (N p)) _ _ _ _ _ _ _ _ _ _ _ _ _ _ _ _ _ _ _ _ _ _ _ _ _ _ _ _ _ _ _ _ _ _ _ _ _ _ (nI_pos' (by omega)) (zz_n272 hf (br_t k10 (br_f k12 (br_f ke (br_f (by decide) (br_t rfl (br_t rfl (br_t (nI_pos' (by omega)) (br_f ke ?_)))))))))
    refine zz_tA (N' := fun q => if q = p then 0 else N q) (tk := tk) (by omega) hp rfl (by rw [if_pos rfl] <;> rfl) zz_off ⟨hI.1, hI.2.1, fun q hq => ?_, zz_Pm hI.2.2.2.1 (by omega), hI.2.2.2.2⟩ hJ
    have := hI.2.2.1 q hq
    dsimp only
    by_cases e : q = p
    · rw [if_pos e]; omega
    · rw [if_neg e]; omega
theorem zz_keB {Q : Int32 → St1 → Prop} {J : Int32 → Int32 → Int32 → Int32 → Int32 → Int32 → Int32 → Int32 → Int32 → Int32 → Int32 → Int32 → Int32 → Int32 → Int32 → Int32 → (Nat → Int32) → (Nat → Int32) → (Nat → Int32) → (Nat → Int32) → (Nat → Int32) → (Nat → Int32) → (Nat → Int32) → (Nat → Int32) → (Nat → Int32) → (Nat → Int32) → (Nat → Int32) → (Nat → Int32) → (Nat → Int32) → (Nat → Int32) → (Nat → Int32) → (Nat → Int32) → (Nat → Int32) → (Nat → Int32) → (Nat → Int32) → (Nat → Int32) → (Nat → Int32) → (Nat → Int32) → (Nat → Int32) → (Nat → Int32) → (Nat → Int32) → (Nat → Int32) → (Nat → Int32) → Prop} {j κ : Nat} {x9 x10 x11 x12 x13 x14 : Int32} {N : Nat → Nat} {tk : Nat → Nat → Nat} (hκ : κ = 11) (h0 : ¬ x9 = nI 0) (h1 : ¬ x9 = nI 1) (h12 : x12 = 0) (hI : zz_I j ac ru sz a11 a12 a15 a16 a17 N tk) (hpos : ∀ (r : Int32) (ti' ac' ru' wc' sz' dp' lo' ex' he' al' ov' : Int32) (a1' a2' a3' a4' a5' a6' a7' a8' a9' a10' a11' a12' a13' a14' a15' a16' a17' a18' a19' a20' a21' a22' a23' a24' a25' a26' a27' : Nat → Int32), 0 ≤ r → wL_law_272 post L xs J ru ac (nI (N 0)) (nI (N 1)) (nI (3 * j)) (nI κ) x9 x10 x11 x12 x13 x14 r kc ks ti' ac' ru' wc' sz' dp' lo' ex' he' al' ov' a1' a2' a3' a4' a5' a6' a7' a8' a9' a10' a11' a12' a13' a14' a15' a16' a17' a18' a19' a20' a21' a22' a23' a24' a25' a26' a27' → Q r (ti', ac', ru', wc', sz', dp', lo', ex', he', al', ov', a1', a2', a3', a4', a5', a6', a7', a8', a9', a10', a11', a12', a13', a14', a15', a16', a17', a18', a19', a20', a21', a22', a23', a24', a25', a26', a27')) (hneg : ∀ (r : Int32), (r = -1 ∨ r = -2 ∨ r = -3) → (∀ wc' a13', wL_law_272 post L xs J ru ac (nI (N 0)) (nI (N 1)) (nI (3 * j)) (nI κ) x9 x10 x11 x12 x13 x14 r kc ks ti ac ru wc' sz dp lo ex he al ov a1 a2 a3 a4 a5 a6 a7 a8 a9 a10 a11 a12 a13' a14 a15 a16 a17 a18 a19 a20 a21 a22 a23 a24 a25 a26 a27) → ∀ wc' a13', Q r (ti, ac, ru, wc', sz, dp, lo, ex, he, al, ov, a1, a2, a3, a4, a5, a6, a7, a8, a9, a10, a11, a12, a13', a14, a15, a16, a17, a18, a19, a20, a21, a22, a23, a24, a25, a26, a27)) (hJ : ∀ (ti' ac' ru' wc' sz' dp' lo' ex' he' al' ov' : Int32) (a1' a2' a3' a4' a5' a6' a7' a8' a9' a10' a11' a12' a13' a14' a15' a16' a17' a18' a19' a20' a21' a22' a23' a24' a25' a26' a27' : Nat → Int32) (N' : Nat → Nat) (tk' : Nat → Nat → Nat), zz_I (j + 1) ac' ru' sz' a11' a12' a15' a16' a17' N' tk' → J ru' ac' (nI (N' 0)) (nI (N' 1)) (nI (3 * (j + 1))) ti' ac' ru' wc' sz' dp' lo' ex' he' al' ov' a1' a2' a3' a4' a5' a6' a7' a8' a9' a10' a11' a12' a13' a14' a15' a16' a17' a18' a19' a20' a21' a22' a23' a24' a25' a26' a27') : wpL_call Q (ti, ac, ru, wc, sz, dp, lo, ex, he, al, ov, a1, a2, a3, a4, a5, a6, a7, a8, a9, a10, a11, a12, a13, a14, a15, a16, a17, a18, a19, a20, a21, a22, a23, a24, a25, a26, a27) (nI κ) x9 x10 := by
  subst h12 hκ
  have k10 : (10 : Int32) ≤ nI 11 := by decide
  have k12 : ¬ (12 : Int32) ≤ nI 11 := by decide
  have ke : ¬ nI 11 = 10 := by decide
  exact br_t k10 (br_f k12 (br_f ke (zz_eraseB h0 h1 (hneg (-1) (Or.inl rfl) (fun wc' a13' => zz_a272 (fun z0 => br_t k10 (br_f k12 (br_f ke (br_t rfl (br_t rfl (br_f (by decide) (zz_tC h0 h1 hI hJ)))))))) wc a13))))
/-- activate -/
theorem zz_ka {Q : Int32 → St1 → Prop} {J : Int32 → Int32 → Int32 → Int32 → Int32 → Int32 → Int32 → Int32 → Int32 → Int32 → Int32 → Int32 → Int32 → Int32 → Int32 → Int32 → (Nat → Int32) → (Nat → Int32) → (Nat → Int32) → (Nat → Int32) → (Nat → Int32) → (Nat → Int32) → (Nat → Int32) → (Nat → Int32) → (Nat → Int32) → (Nat → Int32) → (Nat → Int32) → (Nat → Int32) → (Nat → Int32) → (Nat → Int32) → (Nat → Int32) → (Nat → Int32) → (Nat → Int32) → (Nat → Int32) → (Nat → Int32) → (Nat → Int32) → (Nat → Int32) → (Nat → Int32) → (Nat → Int32) → (Nat → Int32) → (Nat → Int32) → (Nat → Int32) → (Nat → Int32) → Prop} {j κ : Nat} {x9 x10 x11 x12 x13 x14 : Int32} {N : Nat → Nat} {tk : Nat → Nat → Nat} {p : Nat} (hκ : κ = 12 ∨ κ = 13) (hp : p < 2) (h9 : x9 = nI p) (h12 : x12 = 1) (h14 : x14 = zl_c (tk p) (N p)) (hI : zz_I j ac ru sz a11 a12 a15 a16 a17 N tk) (hpos : ∀ (r : Int32) (ti' ac' ru' wc' sz' dp' lo' ex' he' al' ov' : Int32) (a1' a2' a3' a4' a5' a6' a7' a8' a9' a10' a11' a12' a13' a14' a15' a16' a17' a18' a19' a20' a21' a22' a23' a24' a25' a26' a27' : Nat → Int32), 0 ≤ r → wL_law_272 post L xs J ru ac (nI (N 0)) (nI (N 1)) (nI (3 * j)) (nI κ) x9 x10 x11 x12 x13 x14 r kc ks ti' ac' ru' wc' sz' dp' lo' ex' he' al' ov' a1' a2' a3' a4' a5' a6' a7' a8' a9' a10' a11' a12' a13' a14' a15' a16' a17' a18' a19' a20' a21' a22' a23' a24' a25' a26' a27' → Q r (ti', ac', ru', wc', sz', dp', lo', ex', he', al', ov', a1', a2', a3', a4', a5', a6', a7', a8', a9', a10', a11', a12', a13', a14', a15', a16', a17', a18', a19', a20', a21', a22', a23', a24', a25', a26', a27')) (hneg : ∀ (r : Int32), (r = -1 ∨ r = -2 ∨ r = -3) → (∀ wc' a13', wL_law_272 post L xs J ru ac (nI (N 0)) (nI (N 1)) (nI (3 * j)) (nI κ) x9 x10 x11 x12 x13 x14 r kc ks ti ac ru wc' sz dp lo ex he al ov a1 a2 a3 a4 a5 a6 a7 a8 a9 a10 a11 a12 a13' a14 a15 a16 a17 a18 a19 a20 a21 a22 a23 a24 a25 a26 a27) → ∀ wc' a13', Q r (ti, ac, ru, wc', sz, dp, lo, ex, he, al, ov, a1, a2, a3, a4, a5, a6, a7, a8, a9, a10, a11, a12, a13', a14, a15, a16, a17, a18, a19, a20, a21, a22, a23, a24, a25, a26, a27)) (hJ : ∀ (ti' ac' ru' wc' sz' dp' lo' ex' he' al' ov' : Int32) (a1' a2' a3' a4' a5' a6' a7' a8' a9' a10' a11' a12' a13' a14' a15' a16' a17' a18' a19' a20' a21' a22' a23' a24' a25' a26' a27' : Nat → Int32) (N' : Nat → Nat) (tk' : Nat → Nat → Nat), zz_I (j + 1) ac' ru' sz' a11' a12' a15' a16' a17' N' tk' → J ru' ac' (nI (N' 0)) (nI (N' 1)) (nI (3 * (j + 1))) ti' ac' ru' wc' sz' dp' lo' ex' he' al' ov' a1' a2' a3' a4' a5' a6' a7' a8' a9' a10' a11' a12' a13' a14' a15' a16' a17' a18' a19' a20' a21' a22' a23' a24' a25' a26' a27') : wpL_call Q (ti, ac, ru, wc, sz, dp, lo, ex, he, al, ov, a1, a2, a3, a4, a5, a6, a7, a8, a9, a10, a11, a12, a13, a14, a15, a16, a17, a18, a19, a20, a21, a22, a23, a24, a25, a26, a27) (nI κ) x9 x10 := by
  subst h9 h12 h14
  have k10 : (10 : Int32) ≤ nI κ := nI_le (a := 10) (by omega) (by omega)
  have k12 : (12 : Int32) ≤ nI κ := nI_le (a := 12) (by omega) (by omega)
  have k14 : ¬ (14 : Int32) ≤ nI κ := nI_ge (b := 14) (by omega) (by omega)
  obtain ⟨n1, n2, n3⟩ := hI.2.2.2.1 p hp
  refine br_t k10 (br_t k12 (br_f k14 (zz_act hp n1 n2 n3 (fun hw wc' a13' => ?_) (fun hw wc' a13' sz' dp' lo' ex' a14' a15' a16' a17' a18' a19' a20' a21' a22' a23' a24' hD => ?_))))
  · refine hneg (-2) (Or.inr (Or.inl rfl)) (fun wc' a13' => zz_a272 (fun z0 => br_t k10 (br_t k12 (br_f k14 (br_f (by decide) (br_f (zz_cF hw) (br_t rfl (br_t (by decide) ?_)))))))) wc' a13'
    have tl : wL_law_673 post L xs J ru ac (nI (N 0)) (nI (N 1)) (nI (3 * j)) (nI κ) (nI p) x13 kc ks ti ac ru wc' sz dp lo ex he al ov a1 a2 a3 a4 a5 a6 a7 a8 a9 a10 a11 a12 a13' a14 a15 a16 a17 a18 a19 a20 a21 a22 a23 a24 a25 a26 a27 := zz_tB (by omega) (by omega) hI hJ
    rcases hI.2.1 with e | e
    · subst e
      exact br_t rfl (br_t (by decide) tl)
    · subst e
      exact br_f (by decide) tl
  · have hac : ¬ ac < 0 := by rcases hI.1 with e | e <;> rw [e] <;> decide
    have hac' : 0 ≤ ac := by rcases hI.1 with e | e <;> rw [e] <;> decide
    refine hpos ac _ _ _ _ _ _ _ _ _ _ _ _ _ _ _ _ _ _ _ _ _ _ _ _ _ _ _ _ _ _ _ _ _ _ _ _ _ _ hac' (zz_a272 (fun z0 => br_t k10 (br_t k12 (br_f k14 (br_f (by decide) (br_t (zz_cT hw) (br_t rfl (br_f hac ?_))))))))
    have tl : wL_law_673 post L xs J 1 (nI p) (nI (N 0)) (nI (N 1)) (nI (3 * j)) (nI κ) (nI p) x13 kc ks ti (nI p) 1 wc' sz' dp' lo' ex' he al ov a1 a2 a3 a4 a5 a6 a7 a8 a9 a10 a11 a12 a13' a14' a15' a16' a17' a18' a19' a20' a21' a22' a23' a24' a25 a26 a27 := by
      refine zz_tB (by omega) (by omega) ⟨?_, Or.inr rfl, hI.2.2.1, hI.2.2.2.1, hD⟩ hJ
      by_cases e : p = 0
      · exact Or.inl (by rw [e])
      · exact Or.inr (by rw [show p = 1 by omega])
    exact br_c (fun _ => br_f hac tl) (fun _ => tl)
theorem zz_kaB {Q : Int32 → St1 → Prop} {J : Int32 → Int32 → Int32 → Int32 → Int32 → Int32 → Int32 → Int32 → Int32 → Int32 → Int32 → Int32 → Int32 → Int32 → Int32 → Int32 → (Nat → Int32) → (Nat → Int32) → (Nat → Int32) → (Nat → Int32) → (Nat → Int32) → (Nat → Int32) → (Nat → Int32) → (Nat → Int32) → (Nat → Int32) → (Nat → Int32) → (Nat → Int32) → (Nat → Int32) → (Nat → Int32) → (Nat → Int32) → (Nat → Int32) → (Nat → Int32) → (Nat → Int32) → (Nat → Int32) → (Nat → Int32) → (Nat → Int32) → (Nat → Int32) → (Nat → Int32) → (Nat → Int32) → (Nat → Int32) → (Nat → Int32) → (Nat → Int32) → (Nat → Int32) → Prop} {j κ : Nat} {x9 x10 x11 x12 x13 x14 : Int32} {N : Nat → Nat} {tk : Nat → Nat → Nat} (hκ : κ = 12 ∨ κ = 13) (h0 : ¬ x9 = nI 0) (h1 : ¬ x9 = nI 1) (h12 : x12 = 0) (hI : zz_I j ac ru sz a11 a12 a15 a16 a17 N tk) (hpos : ∀ (r : Int32) (ti' ac' ru' wc' sz' dp' lo' ex' he' al' ov' : Int32) (a1' a2' a3' a4' a5' a6' a7' a8' a9' a10' a11' a12' a13' a14' a15' a16' a17' a18' a19' a20' a21' a22' a23' a24' a25' a26' a27' : Nat → Int32), 0 ≤ r → wL_law_272 post L xs J ru ac (nI (N 0)) (nI (N 1)) (nI (3 * j)) (nI κ) x9 x10 x11 x12 x13 x14 r kc ks ti' ac' ru' wc' sz' dp' lo' ex' he' al' ov' a1' a2' a3' a4' a5' a6' a7' a8' a9' a10' a11' a12' a13' a14' a15' a16' a17' a18' a19' a20' a21' a22' a23' a24' a25' a26' a27' → Q r (ti', ac', ru', wc', sz', dp', lo', ex', he', al', ov', a1', a2', a3', a4', a5', a6', a7', a8', a9', a10', a11', a12', a13', a14', a15', a16', a17', a18', a19', a20', a21', a22', a23', a24', a25', a26', a27')) (hneg : ∀ (r : Int32), (r = -1 ∨ r = -2 ∨ r = -3) → (∀ wc' a13', wL_law_272 post L xs J ru ac (nI (N 0)) (nI (N 1)) (nI (3 * j)) (nI κ) x9 x10 x11 x12 x13 x14 r kc ks ti ac ru wc' sz dp lo ex he al ov a1 a2 a3 a4 a5 a6 a7 a8 a9 a10 a11 a12 a13' a14 a15 a16 a17 a18 a19 a20 a21 a22 a23 a24 a25 a26 a27) → ∀ wc' a13', Q r (ti, ac, ru, wc', sz, dp, lo, ex, he, al, ov, a1, a2, a3, a4, a5, a6, a7, a8, a9, a10, a11, a12, a13', a14, a15, a16, a17, a18, a19, a20, a21, a22, a23, a24, a25, a26, a27)) (hJ : ∀ (ti' ac' ru' wc' sz' dp' lo' ex' he' al' ov' : Int32) (a1' a2' a3' a4' a5' a6' a7' a8' a9' a10' a11' a12' a13' a14' a15' a16' a17' a18' a19' a20' a21' a22' a23' a24' a25' a26' a27' : Nat → Int32) (N' : Nat → Nat) (tk' : Nat → Nat → Nat), zz_I (j + 1) ac' ru' sz' a11' a12' a15' a16' a17' N' tk' → J ru' ac' (nI (N' 0)) (nI (N' 1)) (nI (3 * (j + 1))) ti' ac' ru' wc' sz' dp' lo' ex' he' al' ov' a1' a2' a3' a4' a5' a6' a7' a8' a9' a10' a11' a12' a13' a14' a15' a16' a17' a18' a19' a20' a21' a22' a23' a24' a25' a26' a27') : wpL_call Q (ti, ac, ru, wc, sz, dp, lo, ex, he, al, ov, a1, a2, a3, a4, a5, a6, a7, a8, a9, a10, a11, a12, a13, a14, a15, a16, a17, a18, a19, a20, a21, a22, a23, a24, a25, a26, a27) (nI κ) x9 x10 := by
  subst h12
  have k10 : (10 : Int32) ≤ nI κ := nI_le (a := 10) (by omega) (by omega)
  have k12 : (12 : Int32) ≤ nI κ := nI_le (a := 12) (by omega) (by omega)
  have k14 : ¬ (14 : Int32) ≤ nI κ := nI_ge (b := 14) (by omega) (by omega)
  refine br_t k10 (br_t k12 (br_f k14 (zz_actB h0 h1 (hneg (-1) (Or.inl rfl) (fun wc' a13' => zz_a272 (fun z0 => br_t k10 (br_t k12 (br_f k14 (br_t rfl (br_t rfl (br_t (by decide) ?_))))))) wc a13))))
  have tl : wL_law_673 post L xs J ru ac (nI (N 0)) (nI (N 1)) (nI (3 * j)) (nI κ) x9 x13 kc ks ti ac ru wc' sz dp lo ex he al ov a1 a2 a3 a4 a5 a6 a7 a8 a9 a10 a11 a12 a13' a14 a15 a16 a17 a18 a19 a20 a21 a22 a23 a24 a25 a26 a27 := zz_tB (by omega) (by omega) hI hJ
  rcases hI.2.1 with e | e
  · subst e
    exact br_t rfl (br_t (by decide) tl)
  · subst e
    exact br_f (by decide) tl
/-- halt -/
theorem zz_kh {Q : Int32 → St1 → Prop} {J : Int32 → Int32 → Int32 → Int32 → Int32 → Int32 → Int32 → Int32 → Int32 → Int32 → Int32 → Int32 → Int32 → Int32 → Int32 → Int32 → (Nat → Int32) → (Nat → Int32) → (Nat → Int32) → (Nat → Int32) → (Nat → Int32) → (Nat → Int32) → (Nat → Int32) → (Nat → Int32) → (Nat → Int32) → (Nat → Int32) → (Nat → Int32) → (Nat → Int32) → (Nat → Int32) → (Nat → Int32) → (Nat → Int32) → (Nat → Int32) → (Nat → Int32) → (Nat → Int32) → (Nat → Int32) → (Nat → Int32) → (Nat → Int32) → (Nat → Int32) → (Nat → Int32) → (Nat → Int32) → (Nat → Int32) → (Nat → Int32) → (Nat → Int32) → Prop} {j κ : Nat} {x9 x10 x11 x12 x13 x14 : Int32} {N : Nat → Nat} {tk : Nat → Nat → Nat} (hκ : κ = 14) (h11 : x11 = zl_lk a1 a2 a5 a10 (zl_c (tk 0) (N 0)) (zl_c (tk 1) (N 1)) 16) (hI : zz_I j ac ru sz a11 a12 a15 a16 a17 N tk) (hpos : ∀ (r : Int32) (ti' ac' ru' wc' sz' dp' lo' ex' he' al' ov' : Int32) (a1' a2' a3' a4' a5' a6' a7' a8' a9' a10' a11' a12' a13' a14' a15' a16' a17' a18' a19' a20' a21' a22' a23' a24' a25' a26' a27' : Nat → Int32), 0 ≤ r → wL_law_272 post L xs J ru ac (nI (N 0)) (nI (N 1)) (nI (3 * j)) (nI κ) x9 x10 x11 x12 x13 x14 r kc ks ti' ac' ru' wc' sz' dp' lo' ex' he' al' ov' a1' a2' a3' a4' a5' a6' a7' a8' a9' a10' a11' a12' a13' a14' a15' a16' a17' a18' a19' a20' a21' a22' a23' a24' a25' a26' a27' → Q r (ti', ac', ru', wc', sz', dp', lo', ex', he', al', ov', a1', a2', a3', a4', a5', a6', a7', a8', a9', a10', a11', a12', a13', a14', a15', a16', a17', a18', a19', a20', a21', a22', a23', a24', a25', a26', a27')) (hneg : ∀ (r : Int32), (r = -1 ∨ r = -2 ∨ r = -3) → (∀ wc' a13', wL_law_272 post L xs J ru ac (nI (N 0)) (nI (N 1)) (nI (3 * j)) (nI κ) x9 x10 x11 x12 x13 x14 r kc ks ti ac ru wc' sz dp lo ex he al ov a1 a2 a3 a4 a5 a6 a7 a8 a9 a10 a11 a12 a13' a14 a15 a16 a17 a18 a19 a20 a21 a22 a23 a24 a25 a26 a27) → ∀ wc' a13', Q r (ti, ac, ru, wc', sz, dp, lo, ex, he, al, ov, a1, a2, a3, a4, a5, a6, a7, a8, a9, a10, a11, a12, a13', a14, a15, a16, a17, a18, a19, a20, a21, a22, a23, a24, a25, a26, a27)) (hJ : ∀ (ti' ac' ru' wc' sz' dp' lo' ex' he' al' ov' : Int32) (a1' a2' a3' a4' a5' a6' a7' a8' a9' a10' a11' a12' a13' a14' a15' a16' a17' a18' a19' a20' a21' a22' a23' a24' a25' a26' a27' : Nat → Int32) (N' : Nat → Nat) (tk' : Nat → Nat → Nat), zz_I (j + 1) ac' ru' sz' a11' a12' a15' a16' a17' N' tk' → J ru' ac' (nI (N' 0)) (nI (N' 1)) (nI (3 * (j + 1))) ti' ac' ru' wc' sz' dp' lo' ex' he' al' ov' a1' a2' a3' a4' a5' a6' a7' a8' a9' a10' a11' a12' a13' a14' a15' a16' a17' a18' a19' a20' a21' a22' a23' a24' a25' a26' a27') : wpL_call Q (ti, ac, ru, wc, sz, dp, lo, ex, he, al, ov, a1, a2, a3, a4, a5, a6, a7, a8, a9, a10, a11, a12, a13, a14, a15, a16, a17, a18, a19, a20, a21, a22, a23, a24, a25, a26, a27) (nI κ) x9 x10 := by
  subst hκ h11
  have k10 : (10 : Int32) ≤ nI 14 := by decide
  have k12 : (12 : Int32) ≤ nI 14 := by decide
  have k14 : (14 : Int32) ≤ nI 14 := by decide
  have lk : ∀ (r : Int32), wL_law_556 post L xs J ac (nI (N 0)) (nI (N 1)) (nI (3 * j)) (nI 14) x9 (zl_lk a1 a2 a5 a10 (zl_c (tk 0) (N 0)) (zl_c (tk 1) (N 1)) 16) x13 r r kc ks ti ac 0 wc sz dp lo ex he al ov a1 a2 a3 a4 a5 a6 a7 a8 a9 a10 a11 a12 a13 a14 a15 a16 a17 a18 a19 a20 a21 a22 a23 a24 a25 a26 a27 := fun r => br_t rfl (zl_look hI.2.2.2.1 (fun wc' a13' => br_t rfl (zz_tB (by omega) (by omega) ⟨hI.1, Or.inl rfl, hI.2.2.1, hI.2.2.2.1, hI.2.2.2.2⟩ hJ)))
  refine br_t k10 (br_t k12 (br_t k14 (br_t rfl (br_c (fun z => ?_) (fun z => ?_)))))
  · exact hpos 0 _ _ _ _ _ _ _ _ _ _ _ _ _ _ _ _ _ _ _ _ _ _ _ _ _ _ _ _ _ _ _ _ _ _ _ _ _ _ (by decide) (zz_a272 (fun z0 => br_t k10 (br_t k12 (br_t k14 (br_t rfl (br_t z (lk 0)))))))
  · exact hpos 1 _ _ _ _ _ _ _ _ _ _ _ _ _ _ _ _ _ _ _ _ _ _ _ _ _ _ _ _ _ _ _ _ _ _ _ _ _ _ (by decide) (zz_a272 (fun z0 => br_t k10 (br_t k12 (br_t k14 (br_t rfl (br_f z (lk 1)))))))
/-- input, poke -/
theorem zz_ki {Q : Int32 → St1 → Prop} {J : Int32 → Int32 → Int32 → Int32 → Int32 → Int32 → Int32 → Int32 → Int32 → Int32 → Int32 → Int32 → Int32 → Int32 → Int32 → Int32 → (Nat → Int32) → (Nat → Int32) → (Nat → Int32) → (Nat → Int32) → (Nat → Int32) → (Nat → Int32) → (Nat → Int32) → (Nat → Int32) → (Nat → Int32) → (Nat → Int32) → (Nat → Int32) → (Nat → Int32) → (Nat → Int32) → (Nat → Int32) → (Nat → Int32) → (Nat → Int32) → (Nat → Int32) → (Nat → Int32) → (Nat → Int32) → (Nat → Int32) → (Nat → Int32) → (Nat → Int32) → (Nat → Int32) → (Nat → Int32) → (Nat → Int32) → (Nat → Int32) → (Nat → Int32) → Prop} {j κ : Nat} {x9 x10 x11 x12 x13 x14 : Int32} {N : Nat → Nat} {tk : Nat → Nat → Nat} (hκ : κ = 15) (hI : zz_I j ac ru sz a11 a12 a15 a16 a17 N tk) (hpos : ∀ (r : Int32) (ti' ac' ru' wc' sz' dp' lo' ex' he' al' ov' : Int32) (a1' a2' a3' a4' a5' a6' a7' a8' a9' a10' a11' a12' a13' a14' a15' a16' a17' a18' a19' a20' a21' a22' a23' a24' a25' a26' a27' : Nat → Int32), 0 ≤ r → wL_law_272 post L xs J ru ac (nI (N 0)) (nI (N 1)) (nI (3 * j)) (nI κ) x9 x10 x11 x12 x13 x14 r kc ks ti' ac' ru' wc' sz' dp' lo' ex' he' al' ov' a1' a2' a3' a4' a5' a6' a7' a8' a9' a10' a11' a12' a13' a14' a15' a16' a17' a18' a19' a20' a21' a22' a23' a24' a25' a26' a27' → Q r (ti', ac', ru', wc', sz', dp', lo', ex', he', al', ov', a1', a2', a3', a4', a5', a6', a7', a8', a9', a10', a11', a12', a13', a14', a15', a16', a17', a18', a19', a20', a21', a22', a23', a24', a25', a26', a27')) (hneg : ∀ (r : Int32), (r = -1 ∨ r = -2 ∨ r = -3) → (∀ wc' a13', wL_law_272 post L xs J ru ac (nI (N 0)) (nI (N 1)) (nI (3 * j)) (nI κ) x9 x10 x11 x12 x13 x14 r kc ks ti ac ru wc' sz dp lo ex he al ov a1 a2 a3 a4 a5 a6 a7 a8 a9 a10 a11 a12 a13' a14 a15 a16 a17 a18 a19 a20 a21 a22 a23 a24 a25 a26 a27) → ∀ wc' a13', Q r (ti, ac, ru, wc', sz, dp, lo, ex, he, al, ov, a1, a2, a3, a4, a5, a6, a7, a8, a9, a10, a11, a12, a13', a14, a15, a16, a17, a18, a19, a20, a21, a22, a23, a24, a25, a26, a27)) (hJ : ∀ (ti' ac' ru' wc' sz' dp' lo' ex' he' al' ov' : Int32) (a1' a2' a3' a4' a5' a6' a7' a8' a9' a10' a11' a12' a13' a14' a15' a16' a17' a18' a19' a20' a21' a22' a23' a24' a25' a26' a27' : Nat → Int32) (N' : Nat → Nat) (tk' : Nat → Nat → Nat), zz_I (j + 1) ac' ru' sz' a11' a12' a15' a16' a17' N' tk' → J ru' ac' (nI (N' 0)) (nI (N' 1)) (nI (3 * (j + 1))) ti' ac' ru' wc' sz' dp' lo' ex' he' al' ov' a1' a2' a3' a4' a5' a6' a7' a8' a9' a10' a11' a12' a13' a14' a15' a16' a17' a18' a19' a20' a21' a22' a23' a24' a25' a26' a27') : wpL_call Q (ti, ac, ru, wc, sz, dp, lo, ex, he, al, ov, a1, a2, a3, a4, a5, a6, a7, a8, a9, a10, a11, a12, a13, a14, a15, a16, a17, a18, a19, a20, a21, a22, a23, a24, a25, a26, a27) (nI κ) x9 x10 := by
  subst hκ
  have k10 : (10 : Int32) ≤ nI 15 := by decide
  have k12 : (12 : Int32) ≤ nI 15 := by decide
  have k14 : (14 : Int32) ≤ nI 15 := by decide
  have n14 : ¬ nI 15 = 14 := by decide
  have k17 : ¬ (17 : Int32) ≤ nI 15 := by decide
  have n16 : ¬ nI 15 = 16 := by decide
  refine br_t k10 (br_t k12 (br_t k14 (br_f n14 (br_f k17 (br_t rfl (zz_input (fun hb => ?_) (fun k a3' hk e => ?_)))))))
  · have k611 : ∀ wc' a13', wL_law_611 post L xs J ru ac (nI (N 0)) (nI (N 1)) (nI (3 * j)) (nI 15) x9 x10 x13 (-1) (-1) kc ks ti ac ru wc' sz dp lo ex he al ov a1 a2 a3 a4 a5 a6 a7 a8 a9 a10 a11 a12 a13' a14 a15 a16 a17 a18 a19 a20 a21 a22 a23 a24 a25 a26 a27 := fun wc' a13' => br_t rfl (br_f n16 (zz_tB (by omega) (by omega) hI hJ))
    exact hneg (-1) (Or.inl rfl) (fun wc' a13' => zz_a272 (fun z0 => br_t k10 (br_t k12 (br_t k14 (br_f n14 (br_f k17 (br_c (fun _ => k611 wc' a13') (fun z => br_t rfl (br_t (by rcases hb with y | y; exact absurd y z; exact y) (k611 wc' a13')))))))))) wc a13
  · subst e
    exact hpos 0 _ _ _ _ _ _ _ _ _ _ _ _ _ _ _ _ _ _ _ _ _ _ _ _ _ _ _ _ _ _ _ _ _ _ _ _ _ _ (by decide) (zz_a272 (fun z0 => br_t k10 (br_t k12 (br_t k14 (br_f n14 (br_f k17 (br_f (nI_pos (by omega)) (br_t rfl (br_f (nI_ge (b := 4) hk (by omega)) (br_t rfl (br_f n16 (zz_tB (by omega) (by omega) hI hJ))))))))))))
theorem zz_kp {Q : Int32 → St1 → Prop} {J : Int32 → Int32 → Int32 → Int32 → Int32 → Int32 → Int32 → Int32 → Int32 → Int32 → Int32 → Int32 → Int32 → Int32 → Int32 → Int32 → (Nat → Int32) → (Nat → Int32) → (Nat → Int32) → (Nat → Int32) → (Nat → Int32) → (Nat → Int32) → (Nat → Int32) → (Nat → Int32) → (Nat → Int32) → (Nat → Int32) → (Nat → Int32) → (Nat → Int32) → (Nat → Int32) → (Nat → Int32) → (Nat → Int32) → (Nat → Int32) → (Nat → Int32) → (Nat → Int32) → (Nat → Int32) → (Nat → Int32) → (Nat → Int32) → (Nat → Int32) → (Nat → Int32) → (Nat → Int32) → (Nat → Int32) → (Nat → Int32) → (Nat → Int32) → Prop} {j κ : Nat} {x9 x10 x11 x12 x13 x14 : Int32} {N : Nat → Nat} {tk : Nat → Nat → Nat} (hκ : κ = 16) (hI : zz_I j ac ru sz a11 a12 a15 a16 a17 N tk) (hpos : ∀ (r : Int32) (ti' ac' ru' wc' sz' dp' lo' ex' he' al' ov' : Int32) (a1' a2' a3' a4' a5' a6' a7' a8' a9' a10' a11' a12' a13' a14' a15' a16' a17' a18' a19' a20' a21' a22' a23' a24' a25' a26' a27' : Nat → Int32), 0 ≤ r → wL_law_272 post L xs J ru ac (nI (N 0)) (nI (N 1)) (nI (3 * j)) (nI κ) x9 x10 x11 x12 x13 x14 r kc ks ti' ac' ru' wc' sz' dp' lo' ex' he' al' ov' a1' a2' a3' a4' a5' a6' a7' a8' a9' a10' a11' a12' a13' a14' a15' a16' a17' a18' a19' a20' a21' a22' a23' a24' a25' a26' a27' → Q r (ti', ac', ru', wc', sz', dp', lo', ex', he', al', ov', a1', a2', a3', a4', a5', a6', a7', a8', a9', a10', a11', a12', a13', a14', a15', a16', a17', a18', a19', a20', a21', a22', a23', a24', a25', a26', a27')) (hneg : ∀ (r : Int32), (r = -1 ∨ r = -2 ∨ r = -3) → (∀ wc' a13', wL_law_272 post L xs J ru ac (nI (N 0)) (nI (N 1)) (nI (3 * j)) (nI κ) x9 x10 x11 x12 x13 x14 r kc ks ti ac ru wc' sz dp lo ex he al ov a1 a2 a3 a4 a5 a6 a7 a8 a9 a10 a11 a12 a13' a14 a15 a16 a17 a18 a19 a20 a21 a22 a23 a24 a25 a26 a27) → ∀ wc' a13', Q r (ti, ac, ru, wc', sz, dp, lo, ex, he, al, ov, a1, a2, a3, a4, a5, a6, a7, a8, a9, a10, a11, a12, a13', a14, a15, a16, a17, a18, a19, a20, a21, a22, a23, a24, a25, a26, a27)) (hJ : ∀ (ti' ac' ru' wc' sz' dp' lo' ex' he' al' ov' : Int32) (a1' a2' a3' a4' a5' a6' a7' a8' a9' a10' a11' a12' a13' a14' a15' a16' a17' a18' a19' a20' a21' a22' a23' a24' a25' a26' a27' : Nat → Int32) (N' : Nat → Nat) (tk' : Nat → Nat → Nat), zz_I (j + 1) ac' ru' sz' a11' a12' a15' a16' a17' N' tk' → J ru' ac' (nI (N' 0)) (nI (N' 1)) (nI (3 * (j + 1))) ti' ac' ru' wc' sz' dp' lo' ex' he' al' ov' a1' a2' a3' a4' a5' a6' a7' a8' a9' a10' a11' a12' a13' a14' a15' a16' a17' a18' a19' a20' a21' a22' a23' a24' a25' a26' a27') : wpL_call Q (ti, ac, ru, wc, sz, dp, lo, ex, he, al, ov, a1, a2, a3, a4, a5, a6, a7, a8, a9, a10, a11, a12, a13, a14, a15, a16, a17, a18, a19, a20, a21, a22, a23, a24, a25, a26, a27) (nI κ) x9 x10 := by
  subst hκ
  have k10 : (10 : Int32) ≤ nI 16 := by decide
  have k12 : (12 : Int32) ≤ nI 16 := by decide
  have k14 : (14 : Int32) ≤ nI 16 := by decide
  have n14 : ¬ nI 16 = 14 := by decide
  have k17 : ¬ (17 : Int32) ≤ nI 16 := by decide
  have n15 : ¬ nI 16 = 15 := by decide
  refine br_t k10 (br_t k12 (br_t k14 (br_f n14 (br_f k17 (br_f n15 (zz_poke (fun hb => ?_) (fun k hk e => ?_)))))))
  · have k611 : ∀ wc' a13', wL_law_611 post L xs J ru ac (nI (N 0)) (nI (N 1)) (nI (3 * j)) (nI 16) x9 x10 x13 (-1) (-1) kc ks ti ac ru wc' sz dp lo ex he al ov a1 a2 a3 a4 a5 a6 a7 a8 a9 a10 a11 a12 a13' a14 a15 a16 a17 a18 a19 a20 a21 a22 a23 a24 a25 a26 a27 := fun wc' a13' => br_t rfl (br_t rfl (br_f (by decide) (zz_tB (by omega) (by omega) hI hJ)))
    exact hneg (-1) (Or.inl rfl) (fun wc' a13' => zz_a272 (fun z0 => br_t k10 (br_t k12 (br_t k14 (br_f n14 (br_f k17 (br_c (fun _ => k611 wc' a13') (fun z => br_f n15 (br_t (by rcases hb with y | y; exact absurd y z; exact y) (k611 wc' a13')))))))))) wc a13
  · subst e
    exact hpos 0 _ _ _ _ _ _ _ _ _ _ _ _ _ _ _ _ _ _ _ _ _ _ _ _ _ _ _ _ _ _ _ _ _ _ _ _ _ _ (by decide) (zz_a272 (fun z0 => br_t k10 (br_t k12 (br_t k14 (br_f n14 (br_f k17 (br_f (nI_pos (by omega)) (br_f n15 (br_f (nI_ge (b := 16) hk (by omega)) (br_t rfl (br_t rfl (br_t rfl (zl_var hk (br_t pk_us (zz_tB (by omega) (by omega) hI hJ)))))))))))))))
/-- cycle -/
theorem zz_kc {Q : Int32 → St1 → Prop} {J : Int32 → Int32 → Int32 → Int32 → Int32 → Int32 → Int32 → Int32 → Int32 → Int32 → Int32 → Int32 → Int32 → Int32 → Int32 → Int32 → (Nat → Int32) → (Nat → Int32) → (Nat → Int32) → (Nat → Int32) → (Nat → Int32) → (Nat → Int32) → (Nat → Int32) → (Nat → Int32) → (Nat → Int32) → (Nat → Int32) → (Nat → Int32) → (Nat → Int32) → (Nat → Int32) → (Nat → Int32) → (Nat → Int32) → (Nat → Int32) → (Nat → Int32) → (Nat → Int32) → (Nat → Int32) → (Nat → Int32) → (Nat → Int32) → (Nat → Int32) → (Nat → Int32) → (Nat → Int32) → (Nat → Int32) → (Nat → Int32) → (Nat → Int32) → Prop} {j κ : Nat} {x9 x10 x11 x12 x13 x14 : Int32} {N : Nat → Nat} {tk : Nat → Nat → Nat} (hκ : 17 ≤ κ) (hκ2 : κ < 20) (hI : zz_I j ac ru sz a11 a12 a15 a16 a17 N tk) (hpos : ∀ (r : Int32) (ti' ac' ru' wc' sz' dp' lo' ex' he' al' ov' : Int32) (a1' a2' a3' a4' a5' a6' a7' a8' a9' a10' a11' a12' a13' a14' a15' a16' a17' a18' a19' a20' a21' a22' a23' a24' a25' a26' a27' : Nat → Int32), 0 ≤ r → wL_law_272 post L xs J ru ac (nI (N 0)) (nI (N 1)) (nI (3 * j)) (nI κ) x9 x10 x11 x12 x13 x14 r kc ks ti' ac' ru' wc' sz' dp' lo' ex' he' al' ov' a1' a2' a3' a4' a5' a6' a7' a8' a9' a10' a11' a12' a13' a14' a15' a16' a17' a18' a19' a20' a21' a22' a23' a24' a25' a26' a27' → Q r (ti', ac', ru', wc', sz', dp', lo', ex', he', al', ov', a1', a2', a3', a4', a5', a6', a7', a8', a9', a10', a11', a12', a13', a14', a15', a16', a17', a18', a19', a20', a21', a22', a23', a24', a25', a26', a27')) (hneg : ∀ (r : Int32), (r = -1 ∨ r = -2 ∨ r = -3) → (∀ wc' a13', wL_law_272 post L xs J ru ac (nI (N 0)) (nI (N 1)) (nI (3 * j)) (nI κ) x9 x10 x11 x12 x13 x14 r kc ks ti ac ru wc' sz dp lo ex he al ov a1 a2 a3 a4 a5 a6 a7 a8 a9 a10 a11 a12 a13' a14 a15 a16 a17 a18 a19 a20 a21 a22 a23 a24 a25 a26 a27) → ∀ wc' a13', Q r (ti, ac, ru, wc', sz, dp, lo, ex, he, al, ov, a1, a2, a3, a4, a5, a6, a7, a8, a9, a10, a11, a12, a13', a14, a15, a16, a17, a18, a19, a20, a21, a22, a23, a24, a25, a26, a27)) (hJ : ∀ (ti' ac' ru' wc' sz' dp' lo' ex' he' al' ov' : Int32) (a1' a2' a3' a4' a5' a6' a7' a8' a9' a10' a11' a12' a13' a14' a15' a16' a17' a18' a19' a20' a21' a22' a23' a24' a25' a26' a27' : Nat → Int32) (N' : Nat → Nat) (tk' : Nat → Nat → Nat), zz_I (j + 1) ac' ru' sz' a11' a12' a15' a16' a17' N' tk' → J ru' ac' (nI (N' 0)) (nI (N' 1)) (nI (3 * (j + 1))) ti' ac' ru' wc' sz' dp' lo' ex' he' al' ov' a1' a2' a3' a4' a5' a6' a7' a8' a9' a10' a11' a12' a13' a14' a15' a16' a17' a18' a19' a20' a21' a22' a23' a24' a25' a26' a27') : wpL_call Q (ti, ac, ru, wc, sz, dp, lo, ex, he, al, ov, a1, a2, a3, a4, a5, a6, a7, a8, a9, a10, a11, a12, a13, a14, a15, a16, a17, a18, a19, a20, a21, a22, a23, a24, a25, a26, a27) (nI κ) x9 x10 := by
  have k10 : (10 : Int32) ≤ nI κ := nI_le (a := 10) (by omega) (by omega)
  have k12 : (12 : Int32) ≤ nI κ := nI_le (a := 12) (by omega) (by omega)
  have k14 : (14 : Int32) ≤ nI κ := nI_le (a := 14) (by omega) (by omega)
  have n14 : ¬ nI κ = 14 := zx_nI (b := 14) (by omega) (by omega) (by omega)
  have k17 : (17 : Int32) ≤ nI κ := nI_le (a := 17) (by omega) (by omega)
  obtain ⟨s, H, d1, d2, d3, d4⟩ := hI.2.2.2.2
  subst d1
  refine br_t k10 (br_t k12 (br_t k14 (br_f n14 (br_t k17 (zm_cycle d4 d2 d3 (fun hb => ?_) (fun z1 z2 z3 => ?_) (fun z1 z2 z3 ti' he' a4' al ov a1 a2 a5 a6 a7 a8 a9 a10 a25 a26 a27 => ?_))))))
  · have k654 : ∀ wc' a13', wL_law_654 post L xs J ru ac (nI (N 0)) (nI (N 1)) (nI (3 * j)) (nI κ) x9 x13 (-1) kc ks ti ac ru wc' (nI s) dp lo ex he al ov a1 a2 a3 a4 a5 a6 a7 a8 a9 a10 a11 a12 a13' a14 a15 a16 a17 a18 a19 a20 a21 a22 a23 a24 a25 a26 a27 := fun wc' a13' => br_t rfl (zz_tB (by omega) (by omega) hI hJ)
    exact hneg (-1) (Or.inl rfl) (fun wc' a13' => zz_a272 (fun z0 => br_t k10 (br_t k12 (br_t k14 (br_f n14 (br_t k17 (br_c (fun _ => k654 wc' a13') (fun z => br_f (by rcases hb with y | y; exact absurd y z; exact y) (k654 wc' a13'))))))))) wc a13
  · exact hneg (-2) (Or.inr (Or.inl rfl)) (fun wc' a13' => zz_a272 (fun z0 => br_t k10 (br_t k12 (br_t k14 (br_f n14 (br_t k17 (br_f z1 (br_t z2 (br_t z3 (br_t rfl (zz_tB (by omega) (by omega) hI hJ))))))))))) wc a13
  · exact hpos 0 _ _ _ _ _ _ _ _ _ _ _ _ _ _ _ _ _ _ _ _ _ _ _ _ _ _ _ _ _ _ _ _ _ _ _ _ _ _ (by decide) (zz_a272 (fun z0 => br_t k10 (br_t k12 (br_t k14 (br_f n14 (br_t k17 (br_f z1 (br_t z2 (br_f z3 (br_t rfl (zz_tB (by omega) (by omega) hI hJ)))))))))))
end
end
section
section
variable {ti ac ru wc sz dp lo ex he al ov : Int32} {a1 a2 a3 a4 a5 a6 a7 a8 a9 a10 a11 a12 a13 a14 a15 a16 a17 a18 a19 a20 a21 a22 a23 a24 a25 a26 a27 : Nat → Int32}
variable {L : Nat} {xs : Nat → Int32} {kc ks : Nat} {post : Int32 → Prop}
theorem zz_an {A B : Prop} {Q : Int32 → St1 → Prop} {r : Int32} {N : Nat → Nat} {tk : Nat → Nat → Nat} (hr : r = -1 ∨ r = -2 ∨ r = -3) (hP : zz_P a11 a12 N tk) (h : ∀ wc' a13', Q (zl_lk a1 a2 a5 a10 (zl_c (tk 0) (N 0)) (zl_c (tk 1) (N 1)) 16) (ti, ac, ru, wc', sz, dp, lo, ex, he, al, ov, a1, a2, a3, a4, a5, a6, a7, a8, a9, a10, a11, a12, a13', a14, a15, a16, a17, a18, a19, a20, a21, a22, a23, a24, a25, a26, a27)) : (0 ≤ r → A) ∧ (¬ 0 ≤ r → (r < -3 → B) ∧ (¬ r < -3 → wpL_look Q (ti, ac, ru, wc, sz, dp, lo, ex, he, al, ov, a1, a2, a3, a4, a5, a6, a7, a8, a9, a10, a11, a12, a13, a14, a15, a16, a17, a18, a19, a20, a21, a22, a23, a24, a25, a26, a27))) := by
  rcases hr with e | e | e <;> subst e <;> exact br_f (by decide) (br_f (by decide) (zl_look hP h))
/-- any kind; a program p, or none -/
theorem zz_call {Q : Int32 → St1 → Prop} {J : Int32 → Int32 → Int32 → Int32 → Int32 → Int32 → Int32 → Int32 → Int32 → Int32 → Int32 → Int32 → Int32 → Int32 → Int32 → Int32 → (Nat → Int32) → (Nat → Int32) → (Nat → Int32) → (Nat → Int32) → (Nat → Int32) → (Nat → Int32) → (Nat → Int32) → (Nat → Int32) → (Nat → Int32) → (Nat → Int32) → (Nat → Int32) → (Nat → Int32) → (Nat → Int32) → (Nat → Int32) → (Nat → Int32) → (Nat → Int32) → (Nat → Int32) → (Nat → Int32) → (Nat → Int32) → (Nat → Int32) → (Nat → Int32) → (Nat → Int32) → (Nat → Int32) → (Nat → Int32) → (Nat → Int32) → (Nat → Int32) → (Nat → Int32) → Prop} {j κ : Nat} {x9 x10 x11 x12 x13 x14 : Int32} {N : Nat → Nat} {tk : Nat → Nat → Nat} {p : Nat} (hκ : κ < 20) (hp : p < 2) (h9 : x9 = nI p) (h12 : x12 = 1) (h13 : x13 = nI (N p)) (h14 : x14 = zl_c (tk p) (N p)) (h11 : x11 = zl_lk a1 a2 a5 a10 (zl_c (tk 0) (N 0)) (zl_c (tk 1) (N 1)) 16) (hj : j < 40) (hI : zz_I j ac ru sz a11 a12 a15 a16 a17 N tk) (hpos : ∀ (r : Int32) (ti' ac' ru' wc' sz' dp' lo' ex' he' al' ov' : Int32) (a1' a2' a3' a4' a5' a6' a7' a8' a9' a10' a11' a12' a13' a14' a15' a16' a17' a18' a19' a20' a21' a22' a23' a24' a25' a26' a27' : Nat → Int32), 0 ≤ r → wL_law_272 post L xs J ru ac (nI (N 0)) (nI (N 1)) (nI (3 * j)) (nI κ) x9 x10 x11 x12 x13 x14 r kc ks ti' ac' ru' wc' sz' dp' lo' ex' he' al' ov' a1' a2' a3' a4' a5' a6' a7' a8' a9' a10' a11' a12' a13' a14' a15' a16' a17' a18' a19' a20' a21' a22' a23' a24' a25' a26' a27' → Q r (ti', ac', ru', wc', sz', dp', lo', ex', he', al', ov', a1', a2', a3', a4', a5', a6', a7', a8', a9', a10', a11', a12', a13', a14', a15', a16', a17', a18', a19', a20', a21', a22', a23', a24', a25', a26', a27')) (hneg : ∀ (r : Int32), (r = -1 ∨ r = -2 ∨ r = -3) → (∀ wc' a13', wL_law_272 post L xs J ru ac (nI (N 0)) (nI (N 1)) (nI (3 * j)) (nI κ) x9 x10 x11 x12 x13 x14 r kc ks ti ac ru wc' sz dp lo ex he al ov a1 a2 a3 a4 a5 a6 a7 a8 a9 a10 a11 a12 a13' a14 a15 a16 a17 a18 a19 a20 a21 a22 a23 a24 a25 a26 a27) → ∀ wc' a13', Q r (ti, ac, ru, wc', sz, dp, lo, ex, he, al, ov, a1, a2, a3, a4, a5, a6, a7, a8, a9, a10, a11, a12, a13', a14, a15, a16, a17, a18, a19, a20, a21, a22, a23, a24, a25, a26, a27)) (hJ : ∀ (ti' ac' ru' wc' sz' dp' lo' ex' he' al' ov' : Int32) (a1' a2' a3' a4' a5' a6' a7' a8' a9' a10' a11' a12' a13' a14' a15' a16' a17' a18' a19' a20' a21' a22' a23' a24' a25' a26' a27' : Nat → Int32) (N' : Nat → Nat) (tk' : Nat → Nat → Nat), zz_I (j + 1) ac' ru' sz' a11' a12' a15' a16' a17' N' tk' → J ru' ac' (nI (N' 0)) (nI (N' 1)) (nI (3 * (j + 1))) ti' ac' ru' wc' sz' dp' lo' ex' he' al' ov' a1' a2' a3' a4' a5' a6' a7' a8' a9' a10' a11' a12' a13' a14' a15' a16' a17' a18' a19' a20' a21' a22' a23' a24' a25' a26' a27') : wpL_call Q (ti, ac, ru, wc, sz, dp, lo, ex, he, al, ov, a1, a2, a3, a4, a5, a6, a7, a8, a9, a10, a11, a12, a13, a14, a15, a16, a17, a18, a19, a20, a21, a22, a23, a24, a25, a26, a27) (nI κ) x9 x10 := by
  by_cases c1 : κ < 10
  · exact zz_kf c1 hp h9 h12 h13 h14 hj hI hpos hneg hJ
  · by_cases c2 : κ = 10
    · exact zz_kb c2 hp h9 h12 h13 hj hI hpos hneg hJ
    · by_cases c3 : κ = 11
      · exact zz_ke c3 hp h9 h12 h13 hj hI hpos hneg hJ
      · by_cases c4 : κ = 12 ∨ κ = 13
        · exact zz_ka c4 hp h9 h12 h14 hI hpos hneg hJ
        · by_cases c5 : κ = 14
          · exact zz_kh c5 h11 hI hpos hneg hJ
          · by_cases c6 : κ = 15
            · exact zz_ki c6 hI hpos hneg hJ
            · by_cases c7 : κ = 16
              · exact zz_kp c7 hI hpos hneg hJ
              · exact zz_kc (by omega) hκ hI hpos hneg hJ
theorem zz_callB {Q : Int32 → St1 → Prop} {J : Int32 → Int32 → Int32 → Int32 → Int32 → Int32 → Int32 → Int32 → Int32 → Int32 → Int32 → Int32 → Int32 → Int32 → Int32 → Int32 → (Nat → Int32) → (Nat → Int32) → (Nat → Int32) → (Nat → Int32) → (Nat → Int32) → (Nat → Int32) → (Nat → Int32) → (Nat → Int32) → (Nat → Int32) → (Nat → Int32) → (Nat → Int32) → (Nat → Int32) → (Nat → Int32) → (Nat → Int32) → (Nat → Int32) → (Nat → Int32) → (Nat → Int32) → (Nat → Int32) → (Nat → Int32) → (Nat → Int32) → (Nat → Int32) → (Nat → Int32) → (Nat → Int32) → (Nat → Int32) → (Nat → Int32) → (Nat → Int32) → (Nat → Int32) → Prop} {j κ : Nat} {x9 x10 x11 x12 x13 x14 : Int32} {N : Nat → Nat} {tk : Nat → Nat → Nat} (hκ : κ < 20) (h0 : ¬ x9 = nI 0) (h1 : ¬ x9 = nI 1) (h12 : x12 = 0) (h11 : x11 = zl_lk a1 a2 a5 a10 (zl_c (tk 0) (N 0)) (zl_c (tk 1) (N 1)) 16) (hI : zz_I j ac ru sz a11 a12 a15 a16 a17 N tk) (hpos : ∀ (r : Int32) (ti' ac' ru' wc' sz' dp' lo' ex' he' al' ov' : Int32) (a1' a2' a3' a4' a5' a6' a7' a8' a9' a10' a11' a12' a13' a14' a15' a16' a17' a18' a19' a20' a21' a22' a23' a24' a25' a26' a27' : Nat → Int32), 0 ≤ r → wL_law_272 post L xs J ru ac (nI (N 0)) (nI (N 1)) (nI (3 * j)) (nI κ) x9 x10 x11 x12 x13 x14 r kc ks ti' ac' ru' wc' sz' dp' lo' ex' he' al' ov' a1' a2' a3' a4' a5' a6' a7' a8' a9' a10' a11' a12' a13' a14' a15' a16' a17' a18' a19' a20' a21' a22' a23' a24' a25' a26' a27' → Q r (ti', ac', ru', wc', sz', dp', lo', ex', he', al', ov', a1', a2', a3', a4', a5', a6', a7', a8', a9', a10', a11', a12', a13', a14', a15', a16', a17', a18', a19', a20', a21', a22', a23', a24', a25', a26', a27')) (hneg : ∀ (r : Int32), (r = -1 ∨ r = -2 ∨ r = -3) → (∀ wc' a13', wL_law_272 post L xs J ru ac (nI (N 0)) (nI (N 1)) (nI (3 * j)) (nI κ) x9 x10 x11 x12 x13 x14 r kc ks ti ac ru wc' sz dp lo ex he al ov a1 a2 a3 a4 a5 a6 a7 a8 a9 a10 a11 a12 a13' a14 a15 a16 a17 a18 a19 a20 a21 a22 a23 a24 a25 a26 a27) → ∀ wc' a13', Q r (ti, ac, ru, wc', sz, dp, lo, ex, he, al, ov, a1, a2, a3, a4, a5, a6, a7, a8, a9, a10, a11, a12, a13', a14, a15, a16, a17, a18, a19, a20, a21, a22, a23, a24, a25, a26, a27)) (hJ : ∀ (ti' ac' ru' wc' sz' dp' lo' ex' he' al' ov' : Int32) (a1' a2' a3' a4' a5' a6' a7' a8' a9' a10' a11' a12' a13' a14' a15' a16' a17' a18' a19' a20' a21' a22' a23' a24' a25' a26' a27' : Nat → Int32) (N' : Nat → Nat) (tk' : Nat → Nat → Nat), zz_I (j + 1) ac' ru' sz' a11' a12' a15' a16' a17' N' tk' → J ru' ac' (nI (N' 0)) (nI (N' 1)) (nI (3 * (j + 1))) ti' ac' ru' wc' sz' dp' lo' ex' he' al' ov' a1' a2' a3' a4' a5' a6' a7' a8' a9' a10' a11' a12' a13' a14' a15' a16' a17' a18' a19' a20' a21' a22' a23' a24' a25' a26' a27') : wpL_call Q (ti, ac, ru, wc, sz, dp, lo, ex, he, al, ov, a1, a2, a3, a4, a5, a6, a7, a8, a9, a10, a11, a12, a13, a14, a15, a16, a17, a18, a19, a20, a21, a22, a23, a24, a25, a26, a27) (nI κ) x9 x10 := by
  by_cases c1 : κ < 10
  · exact zz_kfB c1 h0 h1 h12 hI hpos hneg hJ
  · by_cases c2 : κ = 10
    · exact zz_kbB c2 h0 h1 h12 hI hpos hneg hJ
    · by_cases c3 : κ = 11
      · exact zz_keB c3 h0 h1 h12 hI hpos hneg hJ
      · by_cases c4 : κ = 12 ∨ κ = 13
        · exact zz_kaB c4 h0 h1 h12 hI hpos hneg hJ
        · by_cases c5 : κ = 14
          · exact zz_kh c5 h11 hI hpos hneg hJ
          · by_cases c6 : κ = 15
            · exact zz_ki c6 hI hpos hneg hJ
            · by_cases c7 : κ = 16
              · exact zz_kp c7 hI hpos hneg hJ
              · exact zz_kc (by omega) hκ hI hpos hneg hJ
theorem zz_227 {J : Int32 → Int32 → Int32 → Int32 → Int32 → Int32 → Int32 → Int32 → Int32 → Int32 → Int32 → Int32 → Int32 → Int32 → Int32 → Int32 → (Nat → Int32) → (Nat → Int32) → (Nat → Int32) → (Nat → Int32) → (Nat → Int32) → (Nat → Int32) → (Nat → Int32) → (Nat → Int32) → (Nat → Int32) → (Nat → Int32) → (Nat → Int32) → (Nat → Int32) → (Nat → Int32) → (Nat → Int32) → (Nat → Int32) → (Nat → Int32) → (Nat → Int32) → (Nat → Int32) → (Nat → Int32) → (Nat → Int32) → (Nat → Int32) → (Nat → Int32) → (Nat → Int32) → (Nat → Int32) → (Nat → Int32) → (Nat → Int32) → (Nat → Int32) → Prop} {j κ : Nat} {x9 x10 x11 x12 x13 : Int32} {N : Nat → Nat} {tk : Nat → Nat → Nat} (hκ : κ < 20) (hg : (∃ p, p < 2 ∧ x9 = nI p ∧ x12 = 1 ∧ x13 = nI (N p)) ∨ (¬ x9 = nI 0 ∧ ¬ x9 = nI 1 ∧ x12 = 0)) (h11 : x11 = zl_lk a1 a2 a5 a10 (zl_c (tk 0) (N 0)) (zl_c (tk 1) (N 1)) 16) (hj : j < 40) (hI : zz_I j ac ru sz a11 a12 a15 a16 a17 N tk) (hJ : ∀ (ti' ac' ru' wc' sz' dp' lo' ex' he' al' ov' : Int32) (a1' a2' a3' a4' a5' a6' a7' a8' a9' a10' a11' a12' a13' a14' a15' a16' a17' a18' a19' a20' a21' a22' a23' a24' a25' a26' a27' : Nat → Int32) (N' : Nat → Nat) (tk' : Nat → Nat → Nat), zz_I (j + 1) ac' ru' sz' a11' a12' a15' a16' a17' N' tk' → J ru' ac' (nI (N' 0)) (nI (N' 1)) (nI (3 * (j + 1))) ti' ac' ru' wc' sz' dp' lo' ex' he' al' ov' a1' a2' a3' a4' a5' a6' a7' a8' a9' a10' a11' a12' a13' a14' a15' a16' a17' a18' a19' a20' a21' a22' a23' a24' a25' a26' a27') : wL_law_227 post L xs J ru ac (nI (N 0)) (nI (N 1)) (nI (3 * j)) (nI κ) x9 x10 x11 x12 x13 kc ks ti ac ru wc sz dp lo ex he al ov a1 a2 a3 a4 a5 a6 a7 a8 a9 a10 a11 a12 a13 a14 a15 a16 a17 a18 a19 a20 a21 a22 a23 a24 a25 a26 a27 := by
  have hP := hI.2.2.2.1
  rcases hg with ⟨p, hp, h9, h12, h13⟩ | ⟨h0, h1, h12⟩
  · obtain ⟨n1, n2, n3⟩ := hP p hp
    subst h9
    unfold wL_law_227
    refine zl_com hp n1 n2 n3 (fun wc a13 => ?_)
    exact zz_call hκ hp rfl h12 h13 rfl h11 hj hI (fun r ti' ac' ru' wc' sz' dp' lo' ex' he' al' ov' a1' a2' a3' a4' a5' a6' a7' a8' a9' a10' a11' a12' a13' a14' a15' a16' a17' a18' a19' a20' a21' a22' a23' a24' a25' a26' a27' h0 h => br_t h0 h) (fun r hr h wc' a13' => zz_an hr hP (fun wc2 a132 => br_t h11.symm (h wc2 a132))) hJ
  · unfold wL_law_227
    refine zs_comB h0 h1 ?_
    exact zz_callB hκ h0 h1 h12 h11 hI (fun r ti' ac' ru' wc' sz' dp' lo' ex' he' al' ov' a1' a2' a3' a4' a5' a6' a7' a8' a9' a10' a11' a12' a13' a14' a15' a16' a17' a18' a19' a20' a21' a22' a23' a24' a25' a26' a27' h0 h => br_t h0 h) (fun r hr h wc' a13' => zz_an hr hP (fun wc2 a132 => br_t h11.symm (h wc2 a132))) hJ
theorem zz_189 {J : Int32 → Int32 → Int32 → Int32 → Int32 → Int32 → Int32 → Int32 → Int32 → Int32 → Int32 → Int32 → Int32 → Int32 → Int32 → Int32 → (Nat → Int32) → (Nat → Int32) → (Nat → Int32) → (Nat → Int32) → (Nat → Int32) → (Nat → Int32) → (Nat → Int32) → (Nat → Int32) → (Nat → Int32) → (Nat → Int32) → (Nat → Int32) → (Nat → Int32) → (Nat → Int32) → (Nat → Int32) → (Nat → Int32) → (Nat → Int32) → (Nat → Int32) → (Nat → Int32) → (Nat → Int32) → (Nat → Int32) → (Nat → Int32) → (Nat → Int32) → (Nat → Int32) → (Nat → Int32) → (Nat → Int32) → (Nat → Int32) → (Nat → Int32) → Prop} {j κ : Nat} {x9 x10 : Int32} {N : Nat → Nat} {tk : Nat → Nat → Nat} (hκ : κ < 20) (hj : j < 40) (hI : zz_I j ac ru sz a11 a12 a15 a16 a17 N tk) (hJ : ∀ (ti' ac' ru' wc' sz' dp' lo' ex' he' al' ov' : Int32) (a1' a2' a3' a4' a5' a6' a7' a8' a9' a10' a11' a12' a13' a14' a15' a16' a17' a18' a19' a20' a21' a22' a23' a24' a25' a26' a27' : Nat → Int32) (N' : Nat → Nat) (tk' : Nat → Nat → Nat), zz_I (j + 1) ac' ru' sz' a11' a12' a15' a16' a17' N' tk' → J ru' ac' (nI (N' 0)) (nI (N' 1)) (nI (3 * (j + 1))) ti' ac' ru' wc' sz' dp' lo' ex' he' al' ov' a1' a2' a3' a4' a5' a6' a7' a8' a9' a10' a11' a12' a13' a14' a15' a16' a17' a18' a19' a20' a21' a22' a23' a24' a25' a26' a27') : wL_law_189 post L xs J ru ac (nI (N 0)) (nI (N 1)) (nI (3 * j)) (nI κ) x9 x10 kc ks ti ac ru wc sz dp lo ex he al ov a1 a2 a3 a4 a5 a6 a7 a8 a9 a10 a11 a12 a13 a14 a15 a16 a17 a18 a19 a20 a21 a22 a23 a24 a25 a26 a27 := by
  unfold wL_law_189
  refine zl_look hI.2.2.2.1 (fun wc a13 => ?_)
  refine br_c (fun z => ?_) (fun z0 => br_c (fun z => ?_) (fun z1 => ?_))
  · exact br_t z (zz_227 hκ (Or.inl ⟨0, by omega, z, rfl, rfl⟩) rfl hj hI hJ)
  · exact br_f z0 (zz_227 hκ (Or.inl ⟨1, by omega, z, rfl, rfl⟩) rfl hj hI hJ)
  · exact br_f z0 (zz_227 hκ (Or.inr ⟨z0, z1, rfl⟩) rfl hj hI hJ)
theorem zz_66 {J : Int32 → Int32 → Int32 → Int32 → Int32 → Int32 → Int32 → Int32 → Int32 → Int32 → Int32 → Int32 → Int32 → Int32 → Int32 → Int32 → (Nat → Int32) → (Nat → Int32) → (Nat → Int32) → (Nat → Int32) → (Nat → Int32) → (Nat → Int32) → (Nat → Int32) → (Nat → Int32) → (Nat → Int32) → (Nat → Int32) → (Nat → Int32) → (Nat → Int32) → (Nat → Int32) → (Nat → Int32) → (Nat → Int32) → (Nat → Int32) → (Nat → Int32) → (Nat → Int32) → (Nat → Int32) → (Nat → Int32) → (Nat → Int32) → (Nat → Int32) → (Nat → Int32) → (Nat → Int32) → (Nat → Int32) → (Nat → Int32) → (Nat → Int32) → Prop} {j κ : Nat} {z : Int32} {N : Nat → Nat} {tk : Nat → Nat → Nat} (hκ : κ < 20) (hj : j < 40) (hL : 3 * j + 2 < L) (hL2 : L ≤ 260) (hI : zz_I j ac ru sz a11 a12 a15 a16 a17 N tk) (hJ : ∀ (ti' ac' ru' wc' sz' dp' lo' ex' he' al' ov' : Int32) (a1' a2' a3' a4' a5' a6' a7' a8' a9' a10' a11' a12' a13' a14' a15' a16' a17' a18' a19' a20' a21' a22' a23' a24' a25' a26' a27' : Nat → Int32) (N' : Nat → Nat) (tk' : Nat → Nat → Nat), zz_I (j + 1) ac' ru' sz' a11' a12' a15' a16' a17' N' tk' → J ru' ac' (nI (N' 0)) (nI (N' 1)) (nI (3 * (j + 1))) ti' ac' ru' wc' sz' dp' lo' ex' he' al' ov' a1' a2' a3' a4' a5' a6' a7' a8' a9' a10' a11' a12' a13' a14' a15' a16' a17' a18' a19' a20' a21' a22' a23' a24' a25' a26' a27') : wL_law_66 post L xs J ru ac (nI (N 0)) (nI (N 1)) (nI (3 * j)) (nI κ) z kc ks ti ac ru wc sz dp lo ex he al ov a1 a2 a3 a4 a5 a6 a7 a8 a9 a10 a11 a12 a13 a14 a15 a16 a17 a18 a19 a20 a21 a22 a23 a24 a25 a26 a27 := by
  have i1 : vp_in (nI (3 * j) + 1) L := pk_in (3 * j + 1) L (by omega) (nI_add (3 * j) 1)
  have i2 : vp_in (nI (3 * j) + 2) L := pk_in (3 * j + 2) L (by omega) (nI_add (3 * j) 2)
  have k189 : ∀ x y : Int32, wL_law_189 post L xs J ru ac (nI (N 0)) (nI (N 1)) (nI (3 * j)) (nI κ) x y kc ks ti ac ru wc sz dp lo ex he al ov a1 a2 a3 a4 a5 a6 a7 a8 a9 a10 a11 a12 a13 a14 a15 a16 a17 a18 a19 a20 a21 a22 a23 a24 a25 a26 a27 := fun x y => zz_189 hκ hj hI hJ
  have k109 : ∀ x : Int32, wL_law_109 post L xs J ru ac (nI (N 0)) (nI (N 1)) (nI (3 * j)) (nI κ) z x kc ks ti ac ru wc sz dp lo ex he al ov a1 a2 a3 a4 a5 a6 a7 a8 a9 a10 a11 a12 a13 a14 a15 a16 a17 a18 a19 a20 a21 a22 a23 a24 a25 a26 a27 := fun x => br_c (fun _ => br_c (fun _ => ⟨i2, k189 _ _⟩) (fun _ => ⟨i1, br_c (fun _ => ⟨i2, by decide, k189 _ _⟩) (fun _ => ⟨i2, by decide, k189 _ _⟩)⟩)) (fun _ => ⟨i2, k189 _ _⟩)
  exact br_c (fun _ => br_c (fun _ => ⟨i1, k109 _⟩) (fun _ => ⟨i1, k109 _⟩)) (fun _ => ⟨i1, k109 _⟩)
/-- behind the loop -/
theorem zz_772 (hp : post 1) : wL_law_772 post L xs kc ks ti ac ru wc sz dp lo ex he al ov a1 a2 a3 a4 a5 a6 a7 a8 a9 a10 a11 a12 a13 a14 a15 a16 a17 a18 a19 a20 a21 a22 a23 a24 a25 a26 a27 := by
  unfold wL_law_772
  refine zl_var (i := 2) (by omega) ?_
  refine zl_restart (fun a6 a7 a8 a9 => ?_)
  refine zl_digest ?_
  refine zl_restart (fun a6 a7 a8 a9 => ?_)
  refine zl_digest ?_
  refine br_t (by rw [zl_rr, zl_rr, zl_rr, zl_rr]) ?_
  refine zl_var (i := 2) (by omega) (br_t ?_ ?_)
  · rw [zl_rr]
    exact if_neg (by omega)
  refine zl_var (i := 4) (by omega) (br_t ?_ ?_)
  · exact if_pos (by omega)
  refine zl_block (k := 2) (w := 2) (by omega) (by omega) (br_t ?_ hp)
  rw [if_pos (by omega)]
  show zl_r 0 15 (zl_r 0 15 a10) (6 + 2) = 0
  exact if_pos (by omega)
theorem zz_loop (hL : L ≤ 260) (hp : post 1) : ∀ c j, j + c = 40 → ∀ (ti' ac' ru' wc' sz' dp' lo' ex' he' al' ov' : Int32) (a1' a2' a3' a4' a5' a6' a7' a8' a9' a10' a11' a12' a13' a14' a15' a16' a17' a18' a19' a20' a21' a22' a23' a24' a25' a26' a27' : Nat → Int32) (N : Nat → Nat) (tk : Nat → Nat → Nat), zz_I j ac' ru' sz' a11' a12' a15' a16' a17' N tk → wL_law_21 post L xs kc ks (c + 1) ru' ac' (nI (N 0)) (nI (N 1)) (nI (3 * j)) ti' ac' ru' wc' sz' dp' lo' ex' he' al' ov' a1' a2' a3' a4' a5' a6' a7' a8' a9' a10' a11' a12' a13' a14' a15' a16' a17' a18' a19' a20' a21' a22' a23' a24' a25' a26' a27' := by
  intro c
  induction c with
  | zero =>
    intro j hj ti' ac' ru' wc' sz' dp' lo' ex' he' al' ov' a1' a2' a3' a4' a5' a6' a7' a8' a9' a10' a11' a12' a13' a14' a15' a16' a17' a18' a19' a20' a21' a22' a23' a24' a25' a26' a27' N tk hI
    exact br_c (fun _ => zz_772 hp) (fun _ => pk_le 120 (3 * j) (fun _ => zz_772 hp) (fun z => absurd z (by omega)))
  | succ c ih =>
    intro j hj ti' ac' ru' wc' sz' dp' lo' ex' he' al' ov' a1' a2' a3' a4' a5' a6' a7' a8' a9' a10' a11' a12' a13' a14' a15' a16' a17' a18' a19' a20' a21' a22' a23' a24' a25' a26' a27' N tk hI
    refine pk_le L (3 * j + 2) (fun _ => zz_772 hp) (fun hLj => ?_) rfl (nI_add (3 * j) 2)
    refine pk_le 120 (3 * j) (fun z => absurd z (by omega)) (fun _ => ?_)
    have i0 : vp_in (nI (3 * j)) L := pk_in (3 * j) L (by omega)
    obtain ⟨q, hq, eq⟩ := pk_andE (xs (nI (3 * j)).toNatClampNeg) (m := 255) 8 (by decide)
    have e7 : (xs (nI (3 * j)).toNatClampNeg &&& 255) - (xs (nI (3 * j)).toNatClampNeg &&& 255) / 20 * 20 = nI (q % 20) := by
      rw [eq]
      exact pk_rem (d := 20) (by omega) (by omega) (by omega)
    refine ⟨i0, by decide, nm_r e7 ⟨i0, ?_⟩⟩
    have k66 : ∀ z : Int32, wL_law_66 post L xs (wL_law_21 post L xs kc ks (c + 1)) ru' ac' (nI (N 0)) (nI (N 1)) (nI (3 * j)) (nI (q % 20)) z kc ks ti' ac' ru' wc' sz' dp' lo' ex' he' al' ov' a1' a2' a3' a4' a5' a6' a7' a8' a9' a10' a11' a12' a13' a14' a15' a16' a17' a18' a19' a20' a21' a22' a23' a24' a25' a26' a27' := fun z => zz_66 (by omega) (by omega) hLj hL hI (fun ti' ac' ru' wc' sz' dp' lo' ex' he' al' ov' a1' a2' a3' a4' a5' a6' a7' a8' a9' a10' a11' a12' a13' a14' a15' a16' a17' a18' a19' a20' a21' a22' a23' a24' a25' a26' a27' N' tk' hI' => ih (j + 1) (by omega) ti' ac' ru' wc' sz' dp' lo' ex' he' al' ov' a1' a2' a3' a4' a5' a6' a7' a8' a9' a10' a11' a12' a13' a14' a15' a16' a17' a18' a19' a20' a21' a22' a23' a24' a25' a26' a27' N' tk' hI')
    exact br_c (fun _ => k66 _) (fun _ => k66 _)
end
end
section
section
variable {ti ac ru wc sz dp lo ex he al ov : Int32} {a1 a2 a3 a4 a5 a6 a7 a8 a9 a10 a11 a12 a13 a14 a15 a16 a17 a18 a19 a20 a21 a22 a23 a24 a25 a26 a27 : Nat → Int32}
theorem i_vc (xs : Nat → Int32) (L : Nat) (hL : L ≤ 260) : wpL_law (fun r => r = 1) L xs := by
  refine ⟨27, 2135, by omega, by omega, ?_⟩
  refine ⟨by decide, by decide, by decide, by decide, by decide, by decide, by decide, by decide, by decide, by decide, by decide, by decide, by decide, by decide, by decide, by decide, by decide, by decide, by decide, by decide, by decide, by decide, by decide, by decide, by decide, by decide, by decide, by decide, by decide, by decide, by decide, by decide, by decide, by decide, by decide, by decide, by decide, by decide, by decide, by decide, by decide, by decide, by decide, by decide, by decide, by decide, by decide, by decide, by decide, by decide, by decide, by decide, by decide, by decide, ?_⟩
  refine ⟨41, ?_⟩
  have h := zz_loop (xs := xs) (kc := 1 + 27) (ks := 38 + 2135) hL (post := fun r => r = 1) rfl 40 0 (by omega) 0 0 0 0 0 0 0 0 0 0 0 (fun _ => 0) (fun _ => 0) (fun _ => 0) (fun _ => 0) (fun _ => 0) (fun _ => 0) (fun _ => 0) (fun _ => 0) (fun _ => 0) (fun _ => 0) (fun _ => 0) (fun _ => 0) (fun _ => 0) (fun _ => 0) (fun _ => 0) (fun _ => 0) (fun _ => 0) (fun _ => 0) (fun _ => 0) (fun _ => 0) (fun _ => 0) (fun _ => 0) (fun _ => 0) (fun _ => 0) (fun _ => 0) (fun _ => 0) (fun _ => 0) (fun _ => 0) (fun _ _ => 0) ⟨Or.inl rfl, Or.inl rfl, fun q hq => Nat.zero_le _, fun q hq => ⟨Nat.zero_le 42, rfl, zs_V0⟩, ⟨0, fun _ => 0, rfl, by omega, rfl, fun j hj => absurd hj (by omega), fun j hj => Nat.zero_le _⟩⟩
  exact h
end
end
