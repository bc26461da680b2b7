section
/-! pure trees: N counts, K keys, V values, C children (255: none), T the pages, lv levels, lo/hi the interval (lo in, hi out) of a page -/
def tr_up {α : Type} (f : Nat → α) (x : Nat) (v : α) : Nat → α := fun y => if y = x then v else f y
def tr_lb (K : Nat → Nat → Nat) (lo : Nat → Nat) (x i : Nat) : Nat := if i = 0 then lo x else K x (i - 1) + 1
def tr_ub (N : Nat → Nat) (K : Nat → Nat → Nat) (hi : Nat → Nat) (x i : Nat) : Nat := if i = N x then hi x else K x i
def tr_ok (N : Nat → Nat) (K C : Nat → Nat → Nat) (r : Nat) (T : Nat → Prop) (lv lo hi : Nat → Nat) : Prop :=
  (T r ∧ lo r = 0 ∧ hi r = 4096 ∧ lv r ≤ 7) ∧
  (∀ x, T x → x < 110 ∧ N x ≤ 5 ∧ lv x ≤ lv r ∧ (x ≠ r → 1 ≤ N x ∧ lv x < lv r)) ∧
  (∀ x i, T x → i < N x → lo x ≤ K x i ∧ K x i < hi x) ∧
  (∀ x i j, T x → i < j → j < N x → K x i < K x j) ∧
  (∀ x, T x → (C x 0 = 255 ↔ lv x = 0)) ∧
  (∀ x i, T x → 0 < lv x → i ≤ N x → T (C x i) ∧ lv (C x i) + 1 = lv x ∧ lo (C x i) = tr_lb K lo x i ∧ hi (C x i) = tr_ub N K hi x i) ∧
  (∀ x, T x → x ≠ r → ∃ p i, T p ∧ 0 < lv p ∧ i ≤ N p ∧ C p i = x)
def tr_mp (N : Nat → Nat) (K V : Nat → Nat → Nat) (T : Nat → Prop) (M : Nat → Option Nat) : Prop :=
  (∀ x i, T x → i < N x → M (K x i) = some (V x i)) ∧ (∀ k v, M k = some v → ∃ x i, T x ∧ i < N x ∧ K x i = k)
section
variable {N : Nat → Nat} {K V C : Nat → Nat → Nat} {r : Nat} {T : Nat → Prop} {lv lo hi : Nat → Nat} {M : Nat → Option Nat}
theorem tr_lbLe (h : tr_ok N K C r T lv lo hi) {x i : Nat} (hx : T x) (hi' : i ≤ N x) : lo x ≤ tr_lb K lo x i := by
  obtain ⟨h0, h1, h2, h3, h4, h5, h6⟩ := h
  unfold tr_lb
  split
  · exact Nat.le_refl _
  · have := h2 x (i - 1) hx (by omega)
    omega
theorem tr_ubLe (h : tr_ok N K C r T lv lo hi) {x i : Nat} (hx : T x) (hi' : i ≤ N x) : tr_ub N K hi x i ≤ hi x := by
  obtain ⟨h0, h1, h2, h3, h4, h5, h6⟩ := h
  unfold tr_ub
  split
  · exact Nat.le_refl _
  · have := h2 x i hx (by omega)
    omega
/-- a key is in at most one child's interval -/
theorem tr_ixU (h : tr_ok N K C r T lv lo hi) {x i j k : Nat} (hx : T x) (hi1 : i ≤ N x) (hj : j ≤ N x)
    (a : tr_lb K lo x i ≤ k) (b : k < tr_ub N K hi x i) (c : tr_lb K lo x j ≤ k) (d : k < tr_ub N K hi x j) : i = j := by
  obtain ⟨h0, h1, h2, h3, h4, h5, h6⟩ := h
  have key : ∀ i j, i ≤ N x → j ≤ N x → k < tr_ub N K hi x i → tr_lb K lo x j ≤ k → ¬ i < j := by
    intro i j hi1 hj b c hij
    unfold tr_ub at b
    unfold tr_lb at c
    rw [if_neg (by omega)] at b c
    by_cases e : i = j - 1
    · subst e; omega
    · have := h3 x i (j - 1) hx (by omega) (by omega)
      omega
  have := key i j hi1 hj b c
  have := key j i hj hi1 d a
  omega
/-- a key of the page is in no child's interval -/
theorem tr_ixK (h : tr_ok N K C r T lv lo hi) {x i j : Nat} (hx : T x) (hi1 : i ≤ N x) (hj : j < N x)
    (a : tr_lb K lo x i ≤ K x j) (b : K x j < tr_ub N K hi x i) : False := by
  obtain ⟨h0, h1, h2, h3, h4, h5, h6⟩ := h
  unfold tr_lb at a
  unfold tr_ub at b
  by_cases e : j < i
  · rw [if_neg (by omega)] at a
    by_cases e2 : j = i - 1
    · subst e2; omega
    · have := h3 x j (i - 1) hx (by omega) (by omega)
      omega
  · rw [if_neg (by omega)] at b
    by_cases e2 : i = j
    · subst e2; omega
    · have := h3 x i j hx (by omega) hj
      omega
theorem tr_anc (h : tr_ok N K C r T lv lo hi) : ∀ (d x : Nat), T x → lv x + d ≤ lv r →
    ∃ z, T z ∧ lv z = lv x + d ∧ lo z ≤ lo x ∧ hi x ≤ hi z ∧ (0 < d → ∃ i, i ≤ N z ∧ tr_lb K lo z i ≤ lo x ∧ hi x ≤ tr_ub N K hi z i) := by
  intro d
  induction d with
  | zero => intro x hx _; exact ⟨x, hx, rfl, Nat.le_refl _, Nat.le_refl _, fun z => absurd z (by omega)⟩
  | succ d ih =>
    intro x hx hd
    obtain ⟨z, hz, lz, l1, l2, _⟩ := ih x hx (by omega)
    have hh := h
    obtain ⟨h0, h1, h2, h3, h4, h5, h6⟩ := h
    have zr : z ≠ r := by
      intro e; subst e; omega
    obtain ⟨p, i, hp, lp, ip, e⟩ := h6 z hz zr
    obtain ⟨_, q1, q2, q3⟩ := h5 p i hp lp ip
    rw [e] at q1 q2 q3
    have b1 := tr_lbLe hh hp ip
    have b2 := tr_ubLe hh hp ip
    exact ⟨p, hp, by omega, by omega, by omega, fun _ => ⟨i, ip, by omega, by omega⟩⟩
theorem tr_uniq (h : tr_ok N K C r T lv lo hi) {k : Nat} : ∀ (d x y : Nat), lv r - lv x = d → T x → T y → lv x = lv y → lo x ≤ k → k < hi x → lo y ≤ k → k < hi y → x = y := by
  intro d
  have hh := h
  obtain ⟨h0, h1, h2, h3, h4, h5, h6⟩ := h
  induction d with
  | zero =>
    intro x y hd hx hy hl a b c d
    have e1 : x = r := by
      rcases Classical.em (x = r) with e | e
      · exact e
      · have := (h1 x hx).2.2.2 e; omega
    have e2 : y = r := by
      rcases Classical.em (y = r) with e | e
      · exact e
      · have := (h1 y hy).2.2.2 e; have := (h1 x hx); omega
    rw [e1, e2]
  | succ d ih =>
    intro x y hd hx hy hl a b c e
    have xr : x ≠ r := by intro e; subst e; omega
    have yr : y ≠ r := by intro e; subst e; omega
    obtain ⟨p, i, hp, lp, ip, ex⟩ := h6 x hx xr
    obtain ⟨q, j, hq, lq, jq, ey⟩ := h6 y hy yr
    obtain ⟨_, p1, p2, p3⟩ := h5 p i hp lp ip
    obtain ⟨_, q1, q2, q3⟩ := h5 q j hq lq jq
    rw [ex] at p1 p2 p3
    rw [ey] at q1 q2 q3
    have b1 := tr_lbLe hh hp ip
    have b2 := tr_ubLe hh hp ip
    have b3 := tr_lbLe hh hq jq
    have b4 := tr_ubLe hh hq jq
    have pq : p = q := ih p q (by omega) hp hq (by omega) (by omega) (by omega) (by omega) (by omega)
    subst pq
    have ij : i = j := tr_ixU (k := k) hh hp ip jq (by omega) (by omega) (by omega) (by omega)
    subst ij
    rw [← ex, ← ey]
theorem tr_same (h : tr_ok N K C r T lv lo hi) {k x y : Nat} (hx : T x) (hy : T y) (hl : lv x = lv y) (a : lo x ≤ k) (b : k < hi x) (c : lo y ≤ k) (d : k < hi y) : x = y :=
  tr_uniq h _ x y rfl hx hy hl a b c d
/-- where a key of an interval can stand -/
theorem tr_own (h : tr_ok N K C r T lv lo hi) {x z j : Nat} (hx : T x) (hz : T z) (hj : j < N z) (a : lo x ≤ K z j) (b : K z j < hi x) : lv z ≤ lv x ∧ (lv z = lv x → z = x) := by
  have hh := h
  obtain ⟨h0, h1, h2, h3, h4, h5, h6⟩ := h
  have k := h2 z j hz hj
  refine ⟨?_, fun e => tr_same hh hz hx e k.1 k.2 a b⟩
  rcases Nat.lt_or_ge (lv x) (lv z) with e | e
  · obtain ⟨w, hw, lw, w1, w2, w3⟩ := tr_anc hh (lv z - lv x) x hx (by have := h1 z hz; omega)
    obtain ⟨i, i1, i2, i3⟩ := w3 (by omega)
    clear w3
    have wz : w = z := tr_same (k := K z j) hh hw hz (by omega) (by omega) (by omega) k.1 k.2
    subst wz
    exact (tr_ixK hh hw i1 hj (by omega) (by omega)).elim
  · exact e
theorem tr_loc (h : tr_ok N K C r T lv lo hi) {x y i j : Nat} (hx : T x) (hy : T y) (hi1 : i < N x) (hj : j < N y) (e : K x i = K y j) : x = y ∧ i = j := by
  have hh := h
  obtain ⟨h0, h1, h2, h3, h4, h5, h6⟩ := h
  have k1 := h2 x i hx hi1
  have k2 := h2 y j hy hj
  have o1 := tr_own hh hx hy hj (by omega) (by omega)
  have o2 := tr_own hh hy hx hi1 (by omega) (by omega)
  have exy : y = x := o1.2 (by omega)
  subst exy
  refine ⟨rfl, ?_⟩
  rcases Nat.lt_trichotomy i j with c | c | c
  · have := h3 y i j hx c hj; omega
  · exact c
  · have := h3 y j i hx c hi1; omega
/-- a leaf holds all keys of its interval -/
theorem tr_leaf (h : tr_ok N K C r T lv lo hi) (m : tr_mp N K V T M) {x k v : Nat} (hx : T x) (hl : lv x = 0) (a : lo x ≤ k) (b : k < hi x) (hk : M k = some v) : ∃ i, i < N x ∧ K x i = k ∧ V x i = v := by
  obtain ⟨z, j, hz, hj, e⟩ := m.2 k v hk
  have o := tr_own h hx hz hj (by omega) (by omega)
  have ez : z = x := o.2 (by omega)
  subst ez
  have := m.1 z j hz hj
  rw [e, hk] at this
  exact ⟨j, hj, e, (Option.some.inj this).symm⟩
/-- the parent of a page is one -/
theorem tr_par (h : tr_ok N K C r T lv lo hi) {p q i j : Nat} (hp : T p) (hq : T q) (lp : 0 < lv p) (lq : 0 < lv q) (ip : i ≤ N p) (jq : j ≤ N q) (e : C p i = C q j) : p = q ∧ i = j := by
  have hh := h
  obtain ⟨h0, h1, h2, h3, h4, h5, h6⟩ := h
  obtain ⟨t1, p1, p2, p3⟩ := h5 p i hp lp ip
  obtain ⟨t2, q1, q2, q3⟩ := h5 q j hq lq jq
  rw [e] at p1 p2 p3
  have cr : C q j ≠ r := by
    intro e2
    rw [e2] at q1
    have := h1 q hq
    omega
  have n1 := ((h1 _ t2).2.2.2 cr).1
  have kk := h2 _ 0 t2 (by omega)
  have b1 := tr_lbLe hh hp ip
  have b2 := tr_ubLe hh hp ip
  have b3 := tr_lbLe hh hq jq
  have b4 := tr_ubLe hh hq jq
  have pq : p = q := tr_same hh (k := K (C q j) 0) hp hq (by omega) (by omega) (by omega) (by omega) (by omega)
  subst pq
  exact ⟨rfl, tr_ixU hh (k := K (C p j) 0) hp ip jq (by omega) (by omega) (by omega) (by omega)⟩
/-- width of a page with at least two keys all the way down -/
theorem tr_wide (h : tr_ok N K C r T lv lo hi) (hm : ∀ x, T x → x ≠ r → 2 ≤ N x) : ∀ (d x : Nat), lv x = d → T x → x ≠ r → lo x + 3 ^ (d + 1) ≤ hi x + 1 := by
  have hh := h
  obtain ⟨h0, h1, h2, h3, h4, h5, h6⟩ := h
  intro d
  induction d with
  | zero =>
    intro x hd hx hr
    have := hm x hx hr
    have a := h2 x 0 hx (by omega)
    have b := h2 x 1 hx (by omega)
    have c := h3 x 0 1 hx (by omega) (by omega)
    omega
  | succ d ih =>
    intro x hd hx hr
    have n2 := hm x hx hr
    have ch : ∀ i, i ≤ N x → tr_lb K lo x i + 3 ^ (d + 1) ≤ tr_ub N K hi x i + 1 := by
      intro i hi1
      obtain ⟨t, q1, q2, q3⟩ := h5 x i hx (by omega) hi1
      have := ih (C x i) (by omega) t (by intro e; rw [e] at q1; have := h1 x hx; omega)
      omega
    have c0 := ch 0 (by omega)
    have c1 := ch 1 (by omega)
    have c2 := ch 2 (by omega)
    have u2 := tr_ubLe hh hx (i := 2) (by omega)
    unfold tr_lb at c0 c1 c2
    unfold tr_ub at c0 c1
    rw [if_pos rfl, if_neg (by omega)] at c0
    rw [if_neg (by omega), if_neg (by omega)] at c1
    rw [if_neg (by omega)] at c2
    have e : 3 ^ (d + 1 + 1) = 3 * 3 ^ (d + 1) := by rw [Nat.pow_succ 3 (d + 1)]; omega
    rw [e]
    simp only [Nat.sub_self, Nat.add_sub_cancel, show (2 - 1 : Nat) = 1 from rfl] at c1 c2
    omega
theorem tr_height (h : tr_ok N K C r T lv lo hi) (hm : ∀ x, T x → x ≠ r → 2 ≤ N x) (h1r : 1 ≤ N r) : lv r ≤ 6 := by
  have hh := h
  obtain ⟨h0, h1, h2, h3, h4, h5, h6⟩ := h
  rcases Nat.lt_or_ge 6 (lv r) with e | e
  · have e7 : lv r = 7 := by omega
    have ch : ∀ i, i ≤ N r → tr_lb K lo r i + 3 ^ 7 ≤ tr_ub N K hi r i + 1 := by
      intro i hi1
      obtain ⟨t, q1, q2, q3⟩ := h5 r i h0.1 (by omega) hi1
      have := tr_wide hh hm 6 (C r i) (by omega) t (by intro e; rw [e] at q1; omega)
      omega
    have c0 := ch 0 (by omega)
    have c1 := ch 1 (by omega)
    have u1 := tr_ubLe hh h0.1 (i := 1) (by omega)
    unfold tr_lb at c0 c1
    unfold tr_ub at c0
    rw [if_pos rfl, if_neg (by omega)] at c0
    rw [if_neg (by omega)] at c1
    simp only [Nat.sub_self] at c1
    omega
  · exact e
end
end
section
/-! counting: a relation that gives every i < n a place c < m, no place twice: n ≤ m -/
theorem ct_pig : ∀ (n m : Nat) (R : Nat → Nat → Prop), (∀ i, i < n → ∃ c, c < m ∧ R i c) → (∀ i j c, i < n → j < n → R i c → R j c → i = j) → n ≤ m := by
  intro n
  induction n with
  | zero => intro m R _ _; exact Nat.zero_le _
  | succ n ih =>
    intro m R h1 h2
    obtain ⟨c0, hc0, hr0⟩ := h1 n (by omega)
    have := ih (m - 1) (fun i c => (c ≠ c0 ∧ R i c) ∨ (c = c0 ∧ c0 ≠ m - 1 ∧ R i (m - 1))) (fun i hi => by
      obtain ⟨c, hc, hr⟩ := h1 i (by omega)
      have hcc : c ≠ c0 := by
        intro e
        subst e
        have := h2 i n c (by omega) (by omega) hr hr0
        omega
      by_cases e : c = m - 1
      · subst e
        exact ⟨c0, by omega, Or.inr ⟨rfl, fun z => hcc z.symm, hr⟩⟩
      · exact ⟨c, by omega, Or.inl ⟨hcc, hr⟩⟩) (fun i j c hi hj a b => by
      rcases a with ⟨a1, a2⟩ | ⟨a1, a2, a3⟩
      · rcases b with ⟨b1, b2⟩ | ⟨b1, b2, b3⟩
        · exact h2 i j c (by omega) (by omega) a2 b2
        · exact absurd b1 a1
      · rcases b with ⟨b1, b2⟩ | ⟨b1, b2, b3⟩
        · exact absurd a1 b1
        · exact h2 i j (m - 1) (by omega) (by omega) a3 b3)
    omega
def ct_cd (M : Nat → Option Nat) (n : Nat) : Prop := ∃ f : Nat → Nat, (∀ k v, M k = some v → f k < n) ∧ ∀ k k' v v', M k = some v → M k' = some v' → f k = f k' → k = k'
theorem ct_free {P A B : Nat → Prop} {F G : Nat → Nat → Nat} (L : List Nat) (a b l : Nat)
    (hA : ∀ x j, A x → j < 2 → F x j < a) (hB : ∀ x j, B x → j < 2 → G x j < b)
    (iA : ∀ x y i j, A x → A y → i < 2 → j < 2 → F x i = F y j → x = y ∧ i = j)
    (iB : ∀ x y i j, B x → B y → i < 2 → j < 2 → G x i = G y j → x = y ∧ i = j)
    (hl : L.length ≤ l) (hP : ∀ x, P x → A x ∨ B x ∨ x ∈ L) (hn : a + b + 2 * l < 218) : ∃ y, y < 109 ∧ ¬ P y := by
  apply Classical.byContradiction
  intro hc
  have hall : ∀ y, y < 109 → P y := by
    intro y hy
    apply Classical.byContradiction
    intro hp
    exact hc ⟨y, hy, hp⟩
  have := ct_pig 218 (a + b + 2 * l)
    (fun i c => (A (i / 2) ∧ c = F (i / 2) (i % 2)) ∨ (¬ A (i / 2) ∧ B (i / 2) ∧ c = a + G (i / 2) (i % 2)) ∨ (¬ A (i / 2) ∧ ¬ B (i / 2) ∧ ∃ t, L[t]? = some (i / 2) ∧ c = a + b + 2 * t + i % 2 ∧ t < l))
    (fun i hi => by
      have h2 : i % 2 < 2 := Nat.mod_lt _ (by omega)
      by_cases cA : A (i / 2)
      · have := hA _ _ cA h2
        exact ⟨_, by omega, Or.inl ⟨cA, rfl⟩⟩
      · by_cases cB : B (i / 2)
        · have := hB _ _ cB h2
          exact ⟨_, by omega, Or.inr (Or.inl ⟨cA, cB, rfl⟩)⟩
        · rcases hP _ (hall (i / 2) (by omega)) with z | z | z
          · exact absurd z cA
          · exact absurd z cB
          · obtain ⟨t, ht⟩ := List.mem_iff_getElem?.mp z
            have hlt : t < L.length := by
              rcases Nat.lt_or_ge t L.length with q | q
              · exact q
              · rw [List.getElem?_eq_none q] at ht
                exact absurd ht (by simp)
            exact ⟨a + b + 2 * t + i % 2, by omega, Or.inr (Or.inr ⟨cA, cB, t, ht, rfl, by omega⟩)⟩)
    (fun i j c hi hj x y => by
      have hi2 : i % 2 < 2 := Nat.mod_lt _ (by omega)
      have hj2 : j % 2 < 2 := Nat.mod_lt _ (by omega)
      rcases x with ⟨x1, x2⟩ | ⟨x0, x1, x2⟩ | ⟨x0, x1, t, x2, x3, x4⟩
      · have b1 := hA _ _ x1 hi2
        rcases y with ⟨y1, y2⟩ | ⟨y0, y1, y2⟩ | ⟨y0, y1, u, y2, y3, y4⟩
        · have := iA _ _ _ _ x1 y1 hi2 hj2 (by omega)
          omega
        · omega
        · omega
      · have b1 := hB _ _ x1 hi2
        rcases y with ⟨y1, y2⟩ | ⟨y0, y1, y2⟩ | ⟨y0, y1, u, y2, y3, y4⟩
        · have := hA _ _ y1 hj2
          omega
        · have := iB _ _ _ _ x1 y1 hi2 hj2 (by omega)
          omega
        · omega
      · rcases y with ⟨y1, y2⟩ | ⟨y0, y1, y2⟩ | ⟨y0, y1, u, y2, y3, y4⟩
        · have := hA _ _ y1 hj2
          omega
        · have := hB _ _ y1 hj2
          omega
        · have e : t = u := by omega
          subst e
          rw [x2] at y2
          have := Option.some.inj y2
          omega)
  omega
theorem ct_page {N N2 : Nat → Nat} {K K2 V V2 C C2 : Nat → Nat → Nat} {r s : Nat} {T S P : Nat → Prop} {lv lo hi lvS loS hiS : Nat → Nat} {M MS : Nat → Option Nat} {a b l : Nat} (L : List Nat)
    (h : tr_ok N K C r T lv lo hi) (m : tr_mp N K V T M) (c : ct_cd M a) (hS : tr_ok N2 K2 C2 s S lvS loS hiS) (mS : tr_mp N2 K2 V2 S MS) (cS : ct_cd MS b)
    (hP : ∀ x, P x → (T x ∧ 2 ≤ N x) ∨ (S x ∧ 2 ≤ N2 x) ∨ x ∈ L) (hl : L.length ≤ l) (hn : a + b + 2 * l < 218) : ∃ y, y < 109 ∧ ¬ P y := by
  obtain ⟨f, f1, f2⟩ := c
  obtain ⟨g, g1, g2⟩ := cS
  exact ct_free (A := fun x => T x ∧ 2 ≤ N x) (B := fun x => S x ∧ 2 ≤ N2 x) (F := fun x j => f (K x j)) (G := fun x j => g (K2 x j)) L a b l
    (fun x j hx hj => f1 _ _ (m.1 x j hx.1 (by omega)))
    (fun x j hx hj => g1 _ _ (mS.1 x j hx.1 (by omega)))
    (fun x y i j hx hy hi' hj e => tr_loc h hx.1 hy.1 (by omega) (by omega) (f2 _ _ _ _ (m.1 x i hx.1 (by omega)) (m.1 y j hy.1 (by omega)) e))
    (fun x y i j hx hy hi' hj e => tr_loc hS hx.1 hy.1 (by omega) (by omega) (g2 _ _ _ _ (mS.1 x i hx.1 (by omega)) (mS.1 y j hy.1 (by omega)) e))
    hl hP hn
end
section
/-! changes of a tree -/
theorem tr_upS {α : Type} {f : Nat → α} {x : Nat} {v : α} : tr_up f x v x = v := if_pos rfl
theorem tr_upN {α : Type} {f : Nat → α} {x y : Nat} {v : α} (h : y ≠ x) : tr_up f x v y = f y := if_neg h
def tr_lc (N : Nat → Nat) (K C : Nat → Nat → Nat) (r : Nat) (T : Nat → Prop) (lv lo hi : Nat → Nat) (x : Nat) : Prop :=
  (x < 110 ∧ N x ≤ 5 ∧ lv x ≤ lv r ∧ (x ≠ r → 1 ≤ N x ∧ lv x < lv r)) ∧
  (∀ i, i < N x → lo x ≤ K x i ∧ K x i < hi x) ∧ (∀ i j, i < j → j < N x → K x i < K x j) ∧ (C x 0 = 255 ↔ lv x = 0) ∧
  (∀ i, 0 < lv x → i ≤ N x → T (C x i) ∧ lv (C x i) + 1 = lv x ∧ lo (C x i) = tr_lb K lo x i ∧ hi (C x i) = tr_ub N K hi x i)
section
variable {N N' : Nat → Nat} {K V C K' V' C' : Nat → Nat → Nat} {r r' : Nat} {T T' : Nat → Prop} {lv lo hi lv' lo' hi' : Nat → Nat} {M : Nat → Option Nat}
theorem tr_lcOf (h : tr_ok N K C r T lv lo hi) {x : Nat} (hx : T x) : tr_lc N K C r T lv lo hi x := by
  obtain ⟨h0, h1, h2, h3, h4, h5, h6⟩ := h
  exact ⟨h1 x hx, fun i => h2 x i hx, fun i j => h3 x i j hx, h4 x hx, fun i => h5 x i hx⟩
theorem tr_okOf (h0 : T r ∧ lo r = 0 ∧ hi r = 4096 ∧ lv r ≤ 7) (h1 : ∀ x, T x → tr_lc N K C r T lv lo hi x)
    (h6 : ∀ x, T x → x ≠ r → ∃ p i, T p ∧ 0 < lv p ∧ i ≤ N p ∧ C p i = x) : tr_ok N K C r T lv lo hi :=
  ⟨h0, fun x hx => (h1 x hx).1, fun x i hx => (h1 x hx).2.1 i, fun x i j hx => (h1 x hx).2.2.1 i j, fun x hx => (h1 x hx).2.2.2.1, fun x i hx => (h1 x hx).2.2.2.2 i, h6⟩
theorem tr_lbE {x i : Nat} (e : K' x = K x) (e2 : lo' x = lo x) : tr_lb K' lo' x i = tr_lb K lo x i := by
  unfold tr_lb; rw [e, e2]
theorem tr_ubE {x i : Nat} (e0 : N' x = N x) (e : K' x = K x) (e2 : hi' x = hi x) : tr_ub N' K' hi' x i = tr_ub N K hi x i := by
  unfold tr_ub; rw [e0, e, e2]
theorem tr_lcKeep {z : Nat} (h : tr_lc N K C r T lv lo hi z) (e1 : N' z = N z) (e2 : K' z = K z) (e3 : C' z 0 = 255 ↔ C z 0 = 255) (e4 : lv' z = lv z) (e5 : lo' z = lo z) (e6 : hi' z = hi z)
    (hr : lv z ≤ lv' r' ∧ (z ≠ r' → 1 ≤ N z ∧ lv z < lv' r'))
    (hc : ∀ i, 0 < lv z → i ≤ N z → T' (C' z i) ∧ lv' (C' z i) = lv (C z i) ∧ lo' (C' z i) = lo (C z i) ∧ hi' (C' z i) = hi (C z i)) : tr_lc N' K' C' r' T' lv' lo' hi' z := by
  obtain ⟨a, b, c, d, e⟩ := h
  refine ⟨⟨a.1, by rw [e1]; exact a.2.1, by rw [e4]; exact hr.1, by rw [e4, e1]; exact hr.2⟩, ?_, ?_, ?_, ?_⟩
  · intro i hi1; rw [e1] at hi1; rw [e2, e5, e6]; exact b i hi1
  · intro i j h1 h2; rw [e1] at h2; rw [e2]; exact c i j h1 h2
  · rw [e4]; exact e3.trans d
  · intro i h1 h2
    rw [e4] at h1
    rw [e1] at h2
    obtain ⟨t, q1, q2, q3⟩ := hc i h1 h2
    obtain ⟨_, p1, p2, p3⟩ := e i h1 h2
    refine ⟨t, by rw [e4]; omega, ?_, ?_⟩
    · rw [q2, p2, tr_lbE e2 e5]
    · rw [q3, p3, tr_ubE e1 e2 e6]
/-- contents kept on all pages of the tree -/
theorem tr_frame (h : tr_ok N K C r T lv lo hi) (e : ∀ x, T x → N' x = N x ∧ K' x = K x ∧ C' x = C x) : tr_ok N' K' C' r T lv lo hi := by
  refine tr_okOf h.1 (fun x hx => ?_) (fun x hx hr => ?_)
  · obtain ⟨e1, e2, e3⟩ := e x hx
    have l := tr_lcOf h hx
    refine tr_lcKeep l e1 e2 (by rw [e3]) rfl rfl rfl ⟨l.1.2.2.1, l.1.2.2.2⟩ (fun i a b => ?_)
    rw [e3]
    exact ⟨(l.2.2.2.2 i a b).1, rfl, rfl, rfl⟩
  · obtain ⟨p, i, a, b, c, d⟩ := h.2.2.2.2.2.2 x hx hr
    obtain ⟨e1, e2, e3⟩ := e p a
    exact ⟨p, i, a, b, by rw [e1]; exact c, by rw [e3]; exact d⟩
theorem tr_mpFrame (m : tr_mp N K V T M) (e : ∀ x, T x → N' x = N x ∧ K' x = K x ∧ V' x = V x) : tr_mp N' K' V' T M := by
  refine ⟨fun x i hx hi1 => ?_, fun k v hk => ?_⟩
  · obtain ⟨e1, e2, e3⟩ := e x hx
    rw [e2, e3]; rw [e1] at hi1; exact m.1 x i hx hi1
  · obtain ⟨x, i, hx, hi1, hk'⟩ := m.2 k v hk
    obtain ⟨e1, e2, e3⟩ := e x hx
    exact ⟨x, i, hx, by rw [e1]; exact hi1, by rw [e2]; exact hk'⟩
/-- x moves to the page c -/
theorem tr_copy (h : tr_ok N K C r T lv lo hi) (m : tr_mp N K V T M) {x c : Nat} (hx : T x) (hc : ¬ T c) (c1 : c < 110)
    (e1 : N' c = N x) (e2 : K' c = K x) (e3 : V' c = V x) (e4 : C' c = C x)
    (eo : ∀ y, T y → y ≠ x → N' y = N y ∧ K' y = K y ∧ V' y = V y ∧ (lv y = 0 → C' y 0 = C y 0) ∧ ∀ j, 0 < lv y → j ≤ N y → C' y j = if C y j = x then c else C y j)
    (er : r' = if x = r then c else r) :
    tr_ok N' K' C' r' (fun y => y = c ∨ (T y ∧ y ≠ x)) (tr_up lv c (lv x)) (tr_up lo c (lo x)) (tr_up hi c (hi x)) ∧ tr_mp N' K' V' (fun y => y = c ∨ (T y ∧ y ≠ x)) M := by
  have hh := h
  obtain ⟨h0, h1, h2, h3, h4, h5, h6⟩ := h
  have nc : ∀ y, T y → y ≠ c := fun y hy e => hc (e ▸ hy)
  have U : ∀ (f : Nat → Nat) y, T y → tr_up f c (f x) y = f y := fun f y hy => tr_upN (nc y hy)
  have U' : ∀ (f : Nat → Nat) y, T y → tr_up f c (f x) (if y = x then c else y) = f y := by
    intro f y hy
    split
    · next e => rw [tr_upS, e]
    · exact U f y hy
  have lr : tr_up lv c (lv x) r' = lv r := by
    rw [er]
    by_cases e : x = r
    · rw [if_pos e, tr_upS, e]
    · rw [if_neg e]; exact U lv r h0.1
  have rr : ∀ y, T y → y ≠ x → y ≠ r' → y ≠ r := by
    intro y hy a b e
    subst e
    rw [if_neg (fun z => a z.symm)] at er
    exact b er.symm
  refine ⟨tr_okOf ?_ ?_ ?_, ?_, ?_⟩
  · refine ⟨?_, ?_, ?_, by rw [lr]; exact h0.2.2.2⟩
    · rw [er]
      by_cases e : x = r
      · rw [if_pos e]; exact Or.inl rfl
      · rw [if_neg e]; exact Or.inr ⟨h0.1, fun z => e z.symm⟩
    · rw [er]
      by_cases e : x = r
      · rw [if_pos e, tr_upS, e]; exact h0.2.1
      · rw [if_neg e, U lo r h0.1]; exact h0.2.1
    · rw [er]
      by_cases e : x = r
      · rw [if_pos e, tr_upS, e]; exact h0.2.2.1
      · rw [if_neg e, U hi r h0.1]; exact h0.2.2.1
  · intro y hy
    rcases hy with e | ⟨hy, yx⟩
    · subst e
      have l := tr_lcOf hh hx
      refine ⟨⟨c1, by rw [e1]; exact l.1.2.1, by rw [tr_upS, lr]; exact l.1.2.2.1, fun z => ?_⟩, ?_, ?_, ?_, ?_⟩
      · rw [e1, tr_upS, lr]
        have xr : x ≠ r := by intro e; rw [if_pos e] at er; exact z er.symm
        exact l.1.2.2.2 xr
      · intro i hi1
        rw [e1] at hi1
        rw [e2, tr_upS, tr_upS]; exact l.2.1 i hi1
      · intro i j a b
        rw [e1] at b
        rw [e2]; exact l.2.2.1 i j a b
      · rw [e4, tr_upS]; exact l.2.2.2.1
      · intro i a b
        rw [tr_upS] at a
        rw [e1] at b
        obtain ⟨t, q1, q2, q3⟩ := l.2.2.2.2 i a b
        have cx : C x i ≠ x := by intro e; rw [e] at q1; omega
        rw [e4, U lv _ t, U lo _ t, U hi _ t, tr_upS]
        refine ⟨Or.inr ⟨t, cx⟩, q1, ?_, ?_⟩
        · rw [q2]; unfold tr_lb; rw [e2, tr_upS]
        · rw [q3]; unfold tr_ub; rw [e1, e2, tr_upS]
    · have l := tr_lcOf hh hy
      obtain ⟨o1, o2, _, o4, o5⟩ := eo y hy yx
      refine tr_lcKeep l o1 o2 ?_ (U lv y hy) (U lo y hy) (U hi y hy) ?_ ?_
      · by_cases z : lv y = 0
        · rw [o4 z]
        · rw [o5 0 (by omega) (by omega)]
          obtain ⟨t, q1, q2, q3⟩ := l.2.2.2.2 0 (by omega) (by omega)
          have a1 := (h1 _ t).1
          split <;> constructor <;> intro <;> omega
      · rw [lr]
        exact ⟨l.1.2.2.1, fun z => l.1.2.2.2 (rr y hy yx z)⟩
      · intro i a b
        obtain ⟨t, q1, q2, q3⟩ := l.2.2.2.2 i a b
        rw [o5 i a b, U' lv _ t, U' lo _ t, U' hi _ t]
        refine ⟨?_, rfl, rfl, rfl⟩
        split
        · exact Or.inl rfl
        · next e => exact Or.inr ⟨t, e⟩
  · intro z hz zr
    rcases hz with e | ⟨hz, zx⟩
    · have xr : x ≠ r := by intro e2; rw [if_pos e2] at er; exact zr (by rw [er, e])
      obtain ⟨p, i, a, b, d, f⟩ := h6 x hx xr
      have px : p ≠ x := by
        intro e2
        obtain ⟨t, q1, q2, q3⟩ := h5 p i a b d
        rw [f, e2] at q1; omega
      obtain ⟨o1, o2, _, o4, o5⟩ := eo p a px
      refine ⟨p, i, Or.inr ⟨a, px⟩, by rw [U lv p a]; exact b, by rw [o1]; exact d, ?_⟩
      rw [o5 i b d, if_pos f, e]
    · obtain ⟨p, i, a, b, d, f⟩ := h6 z hz (rr z hz zx zr)
      by_cases px : p = x
      · subst px
        exact ⟨c, i, Or.inl rfl, by rw [tr_upS]; exact b, by rw [e1]; exact d, by rw [e4]; exact f⟩
      · obtain ⟨o1, o2, _, o4, o5⟩ := eo p a px
        refine ⟨p, i, Or.inr ⟨a, px⟩, by rw [U lv p a]; exact b, by rw [o1]; exact d, ?_⟩
        rw [o5 i b d, f, if_neg zx]
  · intro y i hy hi1
    rcases hy with e | ⟨hy, yx⟩
    · subst e
      rw [e1] at hi1
      rw [e2, e3]; exact m.1 x i hx hi1
    · obtain ⟨o1, o2, o3, o4, o5⟩ := eo y hy yx
      rw [o1] at hi1
      rw [o2, o3]; exact m.1 y i hy hi1
  · intro k v hk
    obtain ⟨y, i, hy, hi1, e⟩ := m.2 k v hk
    by_cases yx : y = x
    · subst yx
      exact ⟨c, i, Or.inl rfl, by rw [e1]; exact hi1, by rw [e2]; exact e⟩
    · obtain ⟨o1, o2, o3, o4, o5⟩ := eo y hy yx
      exact ⟨y, i, Or.inr ⟨hy, yx⟩, by rw [o1]; exact hi1, by rw [o2]; exact e⟩
/-- a page's keys after one was put in -/
def tr_insF (n : Nat) (f f' : Nat → Nat) (i k : Nat) : Prop := (∀ j, j < i → f' j = f j) ∧ f' i = k ∧ ∀ j, i < j → j ≤ n → f' j = f (j - 1)
/-- .. was taken out -/
def tr_delF (n : Nat) (f f' : Nat → Nat) (i : Nat) : Prop := (∀ j, j < i → f' j = f j) ∧ ∀ j, i ≤ j → j + 1 < n → f' j = f (j + 1)
theorem tr_insIn {n i k : Nat} {f f' : Nat → Nat} {P : Nat → Prop} (h : tr_insF n f f' i k) (hi1 : i ≤ n) (a : P k) (b : ∀ j, j < n → P (f j)) : ∀ j, j < n + 1 → P (f' j) := by
  intro j hj
  rcases Nat.lt_trichotomy j i with c | c | c
  · rw [h.1 j c]; exact b j (by omega)
  · subst c; rw [h.2.1]; exact a
  · rw [h.2.2 j c (by omega)]; exact b _ (by omega)
theorem tr_insSort {n i k : Nat} {f f' : Nat → Nat} (h : tr_insF n f f' i k) (hi1 : i ≤ n) (a : ∀ j, j < i → f j < k) (b : ∀ j, i ≤ j → j < n → k < f j) (s : ∀ i j, i < j → j < n → f i < f j) :
    ∀ u v, u < v → v < n + 1 → f' u < f' v := by
  intro u v huv hv
  rcases Nat.lt_trichotomy u i with c | c | c
  · rw [h.1 u c]
    rcases Nat.lt_trichotomy v i with d | d | d
    · rw [h.1 v d]; exact s u v huv (by omega)
    · subst d; rw [h.2.1]; exact a u c
    · rw [h.2.2 v d (by omega)]
      exact Nat.lt_trans (a u c) (b (v - 1) (by omega) (by omega))
  · subst c
    rw [h.2.1, h.2.2 v huv (by omega)]
    exact b _ (by omega) (by omega)
  · rw [h.2.2 u c (by omega), h.2.2 v (by omega) (by omega)]
    exact s _ _ (by omega) (by omega)
/-- a key put into a leaf -/
theorem tr_ins (h : tr_ok N K C r T lv lo hi) (m : tr_mp N K V T M) {x i k v : Nat} (hx : T x) (hl : lv x = 0) (n4 : N x ≤ 4) (hi1 : i ≤ N x) (k1 : lo x ≤ k) (k2 : k < hi x)
    (a : ∀ j, j < i → K x j < k) (b : ∀ j, i ≤ j → j < N x → k < K x j)
    (e1 : N' x = N x + 1) (e2 : tr_insF (N x) (K x) (K' x) i k) (e3 : tr_insF (N x) (V x) (V' x) i v) (e4 : C' x = C x)
    (eo : ∀ y, y ≠ x → N' y = N y ∧ K' y = K y ∧ V' y = V y ∧ C' y = C y) :
    tr_ok N' K' C' r T lv lo hi ∧ tr_mp N' K' V' T (tr_up M k (some v)) := by
  have hh := h
  obtain ⟨h0, h1, h2, h3, h4, h5, h6⟩ := h
  have e4' : ∀ y, C' y = C y := by
    intro y
    by_cases e : y = x
    · rw [e]; exact e4
    · exact (eo y e).2.2.2
  have kk : ∀ z j, T z → j < N z → K z j ≠ k := by
    intro z j hz hj e
    have o := tr_own hh hx hz hj (by omega) (by omega)
    have ez : z = x := o.2 (by omega)
    subst ez
    rcases Nat.lt_or_ge j i with c | c
    · have := a j c; omega
    · have := b j c hj; omega
  refine ⟨tr_okOf h0 ?_ ?_, ?_, ?_⟩
  · intro y hy
    have l := tr_lcOf hh hy
    by_cases e : y = x
    · subst e
      refine ⟨⟨l.1.1, by omega, l.1.2.2.1, fun z => ⟨by omega, (l.1.2.2.2 z).2⟩⟩, ?_, ?_, ?_, fun _ z => absurd z (by omega)⟩
      · rw [e1]; exact tr_insIn (P := fun q => lo y ≤ q ∧ q < hi y) e2 hi1 ⟨k1, k2⟩ l.2.1
      · rw [e1]; exact tr_insSort e2 hi1 a b l.2.2.1
      · rw [e4]; exact l.2.2.2.1
    · obtain ⟨o1, o2, o3, o4⟩ := eo y e
      refine tr_lcKeep l o1 o2 (by rw [o4]) rfl rfl rfl ⟨l.1.2.2.1, l.1.2.2.2⟩ (fun i a b => ?_)
      rw [o4]
      exact ⟨(l.2.2.2.2 i a b).1, rfl, rfl, rfl⟩
  · intro z hz zr
    obtain ⟨p, i, a, b, c, d⟩ := h6 z hz zr
    have px : p ≠ x := by intro e; rw [e] at b; omega
    exact ⟨p, i, a, b, by rw [(eo p px).1]; exact c, by rw [e4']; exact d⟩
  · intro y j hy hj
    by_cases e : y = x
    · subst e
      rw [e1] at hj
      rcases Nat.lt_trichotomy j i with c | c | c
      · rw [e2.1 j c, e3.1 j c, tr_upN (kk y j hy (by omega))]; exact m.1 y j hy (by omega)
      · subst c; rw [e2.2.1, e3.2.1, tr_upS]
      · rw [e2.2.2 j c (by omega), e3.2.2 j c (by omega), tr_upN (kk y _ hy (by omega))]; exact m.1 y _ hy (by omega)
    · obtain ⟨o1, o2, o3, o4⟩ := eo y e
      rw [o1] at hj
      rw [o2, o3, tr_upN (kk y j hy hj)]; exact m.1 y j hy hj
  · intro q w hq
    by_cases e : q = k
    · exact ⟨x, i, hx, by omega, by rw [e2.2.1, e]⟩
    · rw [tr_upN e] at hq
      obtain ⟨y, j, hy, hj, f⟩ := m.2 q w hq
      by_cases ey : y = x
      · subst ey
        rcases Nat.lt_or_ge j i with c | c
        · exact ⟨y, j, hy, by omega, by rw [e2.1 j c]; exact f⟩
        · refine ⟨y, j + 1, hy, by omega, ?_⟩
          rw [e2.2.2 (j + 1) (by omega) (by omega)]; exact f
      · obtain ⟨o1, o2, o3, o4⟩ := eo y ey
        exact ⟨y, j, hy, by omega, by rw [o2]; exact f⟩
/-- another value for a key that is there -/
theorem tr_val (h : tr_ok N K C r T lv lo hi) (m : tr_mp N K V T M) {x i v : Nat} (hx : T x) (hi1 : i < N x)
    (e : V' x i = v) (eo : ∀ y j, (y ≠ x ∨ j ≠ i) → V' y j = V y j) : tr_mp N K V' T (tr_up M (K x i) (some v)) := by
  refine ⟨fun y j hy hj => ?_, fun k w hk => ?_⟩
  · by_cases c : K y j = K x i
    · obtain ⟨c1, c2⟩ := tr_loc h hy hx hj hi1 c
      rw [c, tr_upS, c1, c2, e]
    · rw [tr_upN c, eo y j]
      · exact m.1 y j hy hj
      · rcases Classical.em (y = x) with q | q
        · subst q
          exact Or.inr (fun z => c (by rw [z]))
        · exact Or.inl q
  · by_cases c : k = K x i
    · exact ⟨x, i, hx, hi1, c.symm⟩
    · rw [tr_upN c] at hk
      exact m.2 k w hk
end
end
section
section
variable {N N' : Nat → Nat} {K V C K' V' C' : Nat → Nat → Nat} {r r' : Nat} {T T' : Nat → Prop} {lv lo hi lv' lo' hi' : Nat → Nat} {M : Nat → Option Nat}
/-- a root on top -/
theorem tr_root (h : tr_ok N K C r T lv lo hi) (m : tr_mp N K V T M) {z : Nat} (hz : ¬ T z) (z1 : z < 110) (l6 : lv r ≤ 6) (n1 : 1 ≤ N r) (e1 : N' z = 0) (e2 : C' z 0 = r)
    (eo : ∀ y, T y → N' y = N y ∧ K' y = K y ∧ V' y = V y ∧ C' y = C y) :
    tr_ok N' K' C' z (fun y => y = z ∨ T y) (tr_up lv z (lv r + 1)) (tr_up lo z 0) (tr_up hi z 4096) ∧ tr_mp N' K' V' (fun y => y = z ∨ T y) M := by
  have hh := h
  obtain ⟨h0, h1, h2, h3, h4, h5, h6⟩ := h
  have nz : ∀ y, T y → y ≠ z := fun y hy e => hz (e ▸ hy)
  have U : ∀ (f : Nat → Nat) v y, T y → tr_up f z v y = f y := fun f v y hy => tr_upN (nz y hy)
  have r1 := h1 r h0.1
  refine ⟨tr_okOf ⟨Or.inl rfl, tr_upS, tr_upS, by rw [tr_upS]; omega⟩ ?_ ?_, ?_, ?_⟩
  · intro y hy
    rcases hy with e | hy
    · subst e
      refine ⟨⟨z1, by omega, Nat.le_refl _, fun q => absurd rfl q⟩, fun i hi1 => absurd hi1 (by omega), fun i j a b => absurd b (by omega), ?_, ?_⟩
      · rw [e2, tr_upS]; constructor <;> intro <;> omega
      · intro i a b
        have i0 : i = 0 := by omega
        subst i0
        rw [e2, U lv _ r h0.1, U lo _ r h0.1, U hi _ r h0.1, tr_upS]
        refine ⟨Or.inr h0.1, rfl, ?_, ?_⟩
        · unfold tr_lb; rw [if_pos rfl, tr_upS]; exact h0.2.1
        · unfold tr_ub; rw [if_pos e1.symm, tr_upS]; exact h0.2.2.1
    · obtain ⟨o1, o2, o3, o4⟩ := eo y hy
      have l := tr_lcOf hh hy
      refine tr_lcKeep l o1 o2 (by rw [o4]) (U lv _ y hy) (U lo _ y hy) (U hi _ y hy) ?_ ?_
      · rw [tr_upS]
        have ly := l.1.2.2.1
        refine ⟨by omega, fun _ => ⟨?_, by omega⟩⟩
        by_cases e : y = r
        · rw [e]; exact n1
        · exact (l.1.2.2.2 e).1
      · intro i a b
        obtain ⟨t, q1, q2, q3⟩ := l.2.2.2.2 i a b
        rw [o4, U lv _ _ t, U lo _ _ t, U hi _ _ t]
        exact ⟨Or.inr t, rfl, rfl, rfl⟩
  · intro y hy yz
    rcases hy with e | hy
    · exact absurd e yz
    · by_cases e : y = r
      · exact ⟨z, 0, Or.inl rfl, by rw [tr_upS]; omega, by omega, by rw [e2, e]⟩
      · obtain ⟨p, i, a, b, c, d⟩ := h6 y hy e
        obtain ⟨o1, o2, o3, o4⟩ := eo p a
        exact ⟨p, i, Or.inr a, by rw [U lv _ p a]; exact b, by rw [o1]; exact c, by rw [o4]; exact d⟩
  · intro y i hy hi1
    rcases hy with e | hy
    · subst e; omega
    · obtain ⟨o1, o2, o3, o4⟩ := eo y hy
      rw [o1] at hi1
      rw [o2, o3]; exact m.1 y i hy hi1
  · intro k v hk
    obtain ⟨y, i, hy, hi1, e⟩ := m.2 k v hk
    obtain ⟨o1, o2, o3, o4⟩ := eo y hy
    exact ⟨y, i, Or.inr hy, by rw [o1]; exact hi1, by rw [o2]; exact e⟩
theorem tr_split (h : tr_ok N K C r T lv lo hi) (m : tr_mp N K V T M) {p i x y : Nat} (hp : T p) (lp : 0 < lv p) (ip : i ≤ N p) (ex : C p i = x) (n5 : N x = 5) (np : N p ≤ 4) (hy : ¬ T y) (y1 : y < 110)
    (a1 : N' x = 2) (a2 : N' y = 2) (a3 : N' p = N p + 1)
    (b1 : ∀ j, j < 2 → K' x j = K x j ∧ V' x j = V x j) (b2 : ∀ j, j < 2 → K' y j = K x (3 + j) ∧ V' y j = V x (3 + j))
    (b3 : tr_insF (N p) (K p) (K' p) i (K x 2)) (b4 : tr_insF (N p) (V p) (V' p) i (V x 2))
    (c1 : ∀ j, j ≤ 2 → C' x j = C x j) (c2 : 0 < lv x → ∀ j, j ≤ 2 → C' y j = C x (3 + j)) (c2' : lv x = 0 → C' y 0 = 255) (c3 : tr_insF (N p + 1) (C p) (C' p) (i + 1) y)
    (eo : ∀ z, T z → z ≠ x → z ≠ p → N' z = N z ∧ K' z = K z ∧ V' z = V z ∧ C' z = C z) :
    tr_ok N' K' C' r (fun z => z = y ∨ T z) (tr_up lv y (lv x)) (tr_up lo y (K x 2 + 1)) (tr_up (tr_up hi x (K x 2)) y (hi x)) ∧ tr_mp N' K' V' (fun z => z = y ∨ T z) M := by
  have hh := h
  obtain ⟨h0, h1, h2, h3, h4, h5, h6⟩ := h
  obtain ⟨hx, x1, x2, x3⟩ := h5 p i hp lp ip
  rw [ex] at hx x1 x2 x3
  have lx := tr_lcOf hh hx
  have lpp := tr_lcOf hh hp
  have ny : ∀ z, T z → z ≠ y := fun z hz e => hy (e ▸ hz)
  have U : ∀ (f : Nat → Nat) v z, T z → tr_up f y v z = f z := fun f v z hz => tr_upN (ny z hz)
  have UH : ∀ z, T z → z ≠ x → tr_up (tr_up hi x (K x 2)) y (hi x) z = hi z := fun z hz e => by rw [U _ _ z hz, tr_upN e]
  have UX : tr_up (tr_up hi x (K x 2)) y (hi x) x = K x 2 := by rw [U _ _ x hx, tr_upS]
  have px : p ≠ x := by intro e; rw [e] at x1; omega
  have xr : x ≠ r := by intro e; rw [e] at x1; have := (h1 p hp); omega
  have k2 := h2 x 2 hx (by omega)
  have plo := tr_lbLe hh hp ip
  have phi := tr_ubLe hh hp ip
  have pa : ∀ j, j < i → K p j < K x 2 := by
    intro j hj
    unfold tr_lb at x2
    rw [if_neg (by omega)] at x2
    by_cases e : j = i - 1
    · subst e; omega
    · have := h3 p j (i - 1) hp (by omega) (by omega); omega
  have pb : ∀ j, i ≤ j → j < N p → K x 2 < K p j := by
    intro j hj hj2
    unfold tr_ub at x3
    rw [if_neg (by omega)] at x3
    by_cases e : i = j
    · subst e; omega
    · have := h3 p i j hp (by omega) (by omega); omega
  have chx : ∀ q j, T q → 0 < lv q → j ≤ N q → (q ≠ p ∨ j ≠ i) → C q j ≠ x := by
    intro q j hq lq jq hn e
    have := tr_par hh hq hp lq lp jq ip (e.trans ex.symm)
    rcases hn with z | z
    · exact z this.1
    · exact z this.2
  have s23 := h3 x 2 3 hx (by omega) (by omega)
  have s34 := h3 x 3 4 hx (by omega) (by omega)
  have s01 := h3 x 0 1 hx (by omega) (by omega)
  have s12 := h3 x 1 2 hx (by omega) (by omega)
  have r0 := h2 x 0 hx (by omega)
  have r1 := h2 x 1 hx (by omega)
  have r3 := h2 x 3 hx (by omega)
  have r4 := h2 x 4 hx (by omega)
  have lvr : tr_up lv y (lv x) r = lv r := U _ _ r h0.1
  refine ⟨tr_okOf ⟨Or.inr h0.1, by rw [U _ _ r h0.1]; exact h0.2.1, by rw [UH r h0.1 (fun e => xr e.symm)]; exact h0.2.2.1, by rw [lvr]; exact h0.2.2.2⟩ ?_ ?_, ?_, ?_⟩
  · intro z hz
    rcases hz with e | hz
    · -- y
      subst e
      refine ⟨⟨y1, by omega, by rw [tr_upS, lvr]; exact lx.1.2.2.1, fun _ => ⟨by omega, by rw [tr_upS, lvr]; exact (lx.1.2.2.2 xr).2⟩⟩, ?_, ?_, ?_, ?_⟩
      · intro j hj
        rw [a2] at hj
        rw [tr_upS, tr_upS, (b2 j hj).1]
        have g1 := h2 x (3 + j) hx (by omega)
        have g2 := h3 x 2 (3 + j) hx (by omega) (by omega)
        exact ⟨by omega, by omega⟩
      · intro u v huv hv
        rw [a2] at hv
        rw [(b2 u (by omega)).1, (b2 v hv).1]
        exact h3 x _ _ hx (by omega) (by omega)
      · rw [tr_upS]
        by_cases e : lv x = 0
        · rw [c2' e]; simp [e]
        · rw [c2 (by omega) 0 (by omega)]
          obtain ⟨t, _, _, _⟩ := h5 x (3 + 0) hx (by omega) (by omega)
          have := (h1 _ t).1
          constructor <;> intro <;> omega
      · intro j a b
        rw [tr_upS] at a
        rw [a2] at b
        obtain ⟨t, q1, q2, q3⟩ := h5 x (3 + j) hx a (by omega)
        have cx := chx x (3 + j) hx a (by omega) (Or.inl (fun e => px e.symm))
        rw [c2 a j b, U lv _ _ t, U lo _ _ t, UH _ t cx, tr_upS]
        refine ⟨Or.inr t, q1, ?_, ?_⟩
        · rw [q2]
          unfold tr_lb
          rw [if_neg (by omega), tr_upS]
          by_cases e : j = 0
          · rw [if_pos e, e]
          · rw [if_neg e, (b2 (j - 1) (by omega)).1, show 3 + j - 1 = 3 + (j - 1) by omega]
        · rw [q3]
          unfold tr_ub
          rw [a2, tr_upS]
          by_cases e : j = 2
          · rw [if_pos e, if_pos (by omega)]
          · rw [if_neg e, if_neg (by omega), (b2 j (by omega)).1]
    · by_cases zx : z = x
      · subst zx
        refine ⟨⟨lx.1.1, by omega, by rw [U _ _ z hz, lvr]; exact lx.1.2.2.1, fun _ => ⟨by omega, by rw [U _ _ z hz, lvr]; exact (lx.1.2.2.2 xr).2⟩⟩, ?_, ?_, ?_, ?_⟩
        · intro j hj
          rw [a1] at hj
          rw [U _ _ z hz, UX, (b1 j hj).1]
          rcases (show j = 0 ∨ j = 1 by omega) with e | e <;> subst e <;> exact ⟨by omega, by omega⟩
        · intro u v huv hv
          rw [a1] at hv
          rw [(b1 u (by omega)).1, (b1 v hv).1]
          exact h3 z _ _ hx (by omega) (by omega)
        · rw [U _ _ z hz, c1 0 (by omega)]; exact lx.2.2.2.1
        · intro j a b
          rw [U _ _ z hz] at a
          rw [a1] at b
          obtain ⟨t, q1, q2, q3⟩ := h5 z j hx a (by omega)
          have cx := chx z j hx a (by omega) (Or.inl (fun e => px e.symm))
          rw [c1 j b, U lv _ _ t, U lo _ _ t, UH _ t cx, U _ _ z hz]
          refine ⟨Or.inr t, q1, ?_, ?_⟩
          · rw [q2]
            unfold tr_lb
            by_cases e : j = 0
            · rw [if_pos e, if_pos e, U _ _ z hz]
            · rw [if_neg e, if_neg e, (b1 (j - 1) (by omega)).1]
          · rw [q3]
            unfold tr_ub
            rw [if_neg (by omega), a1]
            by_cases e : j = 2
            · rw [if_pos e, UX, e]
            · rw [if_neg e, (b1 j (by omega)).1]
      · by_cases zp : z = p
        · subst zp
          refine ⟨⟨lpp.1.1, by omega, by rw [U _ _ z hz, lvr]; exact lpp.1.2.2.1, fun e => ⟨by omega, by rw [U _ _ z hz, lvr]; exact (lpp.1.2.2.2 e).2⟩⟩, ?_, ?_, ?_, ?_⟩
          · rw [a3, U _ _ z hz, UH z hz zx]
            exact tr_insIn (P := fun q => lo z ≤ q ∧ q < hi z) b3 ip ⟨by omega, by omega⟩ lpp.2.1
          · rw [a3]; exact tr_insSort b3 ip pa pb lpp.2.2.1
          · rw [U _ _ z hz, c3.1 0 (by omega)]; exact lpp.2.2.2.1
          · intro j a b
            rw [a3] at b
            rw [U _ _ z hz]
            rcases Nat.lt_trichotomy j i with d | d | d
            · obtain ⟨t, q1, q2, q3⟩ := h5 z j hp lp (by omega)
              have cx := chx z j hp lp (by omega) (Or.inr (by omega))
              rw [c3.1 j (by omega), U lv _ _ t, U lo _ _ t, UH _ t cx]
              refine ⟨Or.inr t, q1, ?_, ?_⟩
              · rw [q2]
                unfold tr_lb
                by_cases e : j = 0
                · rw [if_pos e, if_pos e, U _ _ z hz]
                · rw [if_neg e, if_neg e, b3.1 (j - 1) (by omega)]
              · rw [q3]
                unfold tr_ub
                rw [if_neg (by omega), if_neg (by omega), b3.1 j d]
            · subst d
              rw [c3.1 j (by omega), ex, U lv _ _ hx, U lo _ _ hx, UX]
              refine ⟨Or.inr hx, x1, ?_, ?_⟩
              · rw [x2]
                unfold tr_lb
                by_cases e : j = 0
                · rw [if_pos e, if_pos e, U _ _ z hz]
                · rw [if_neg e, if_neg e, b3.1 (j - 1) (by omega)]
              · unfold tr_ub
                rw [if_neg (by omega), b3.2.1]
            · by_cases d2 : j = i + 1
              · subst d2
                rw [c3.2.1, tr_upS, tr_upS, tr_upS]
                refine ⟨Or.inl rfl, x1, ?_, ?_⟩
                · unfold tr_lb
                  rw [if_neg (by omega), Nat.add_sub_cancel, b3.2.1]
                · refine x3.trans ?_
                  unfold tr_ub
                  rw [a3]
                  by_cases e : i = N z
                  · rw [if_pos e, if_pos (by omega), UH z hz zx]
                  · rw [if_neg e, if_neg (by omega), b3.2.2 (i + 1) (by omega) (by omega), Nat.add_sub_cancel]
              · obtain ⟨t, q1, q2, q3⟩ := h5 z (j - 1) hp lp (by omega)
                have cx := chx z (j - 1) hp lp (by omega) (Or.inr (by omega))
                rw [c3.2.2 j (by omega) (by omega), U lv _ _ t, U lo _ _ t, UH _ t cx]
                refine ⟨Or.inr t, q1, ?_, ?_⟩
                · rw [q2]
                  unfold tr_lb
                  rw [if_neg (by omega), if_neg (by omega), b3.2.2 (j - 1) (by omega) (by omega)]
                · rw [q3]
                  unfold tr_ub
                  rw [a3]
                  by_cases e : j = N z + 1
                  · rw [if_pos (by omega), if_pos e, UH z hz zx]
                  · rw [if_neg (by omega), if_neg e, b3.2.2 j (by omega) (by omega)]
        · obtain ⟨o1, o2, o3, o4⟩ := eo z hz zx zp
          have l := tr_lcOf hh hz
          refine tr_lcKeep l o1 o2 (by rw [o4]) (U _ _ z hz) (U _ _ z hz) (UH z hz zx) (by rw [lvr]; exact ⟨l.1.2.2.1, l.1.2.2.2⟩) ?_
          intro j a b
          obtain ⟨t, q1, q2, q3⟩ := h5 z j hz a b
          have cx := chx z j hz a b (Or.inl zp)
          rw [o4, U lv _ _ t, U lo _ _ t, UH _ t cx]
          exact ⟨Or.inr t, rfl, rfl, rfl⟩
  · intro z hz zr
    rcases hz with e | hz
    · exact ⟨p, i + 1, Or.inr hp, by rw [U _ _ p hp]; exact lp, by omega, by rw [c3.2.1, e]⟩
    · obtain ⟨q, j, a, b, c, d⟩ := h6 z hz zr
      by_cases qp : q = p
      · subst qp
        rcases Nat.lt_or_ge i j with e | e
        · exact ⟨q, j + 1, Or.inr a, by rw [U _ _ q a]; exact b, by omega, by rw [c3.2.2 (j + 1) (by omega) (by omega)]; exact d⟩
        · exact ⟨q, j, Or.inr a, by rw [U _ _ q a]; exact b, by omega, by rw [c3.1 j (by omega)]; exact d⟩
      · by_cases qx : q = x
        · subst qx
          rcases Nat.lt_or_ge 2 j with e | e
          · refine ⟨y, j - 3, Or.inl rfl, by rw [tr_upS]; exact b, by omega, ?_⟩
            rw [c2 b (j - 3) (by omega), show 3 + (j - 3) = j by omega]; exact d
          · exact ⟨q, j, Or.inr a, by rw [U _ _ q a]; exact b, by omega, by rw [c1 j e]; exact d⟩
        · obtain ⟨o1, o2, o3, o4⟩ := eo q a qx qp
          exact ⟨q, j, Or.inr a, by rw [U _ _ q a]; exact b, by omega, by rw [o4]; exact d⟩
  · intro z j hz hj
    rcases hz with e | hz
    · subst e
      rw [a2] at hj
      rw [(b2 j hj).1, (b2 j hj).2]; exact m.1 x _ hx (by omega)
    · by_cases zx : z = x
      · subst zx
        rw [a1] at hj
        rw [(b1 j hj).1, (b1 j hj).2]; exact m.1 z _ hx (by omega)
      · by_cases zp : z = p
        · subst zp
          rw [a3] at hj
          rcases Nat.lt_trichotomy j i with d | d | d
          · rw [b3.1 j d, b4.1 j d]; exact m.1 z j hz (by omega)
          · subst d; rw [b3.2.1, b4.2.1]; exact m.1 x 2 hx (by omega)
          · rw [b3.2.2 j d (by omega), b4.2.2 j d (by omega)]; exact m.1 z _ hz (by omega)
        · obtain ⟨o1, o2, o3, o4⟩ := eo z hz zx zp
          rw [o1] at hj
          rw [o2, o3]; exact m.1 z j hz hj
  · intro k v hk
    obtain ⟨z, j, hz, hj, e⟩ := m.2 k v hk
    by_cases zx : z = x
    · subst zx
      rcases Nat.lt_trichotomy j 2 with d | d | d
      · exact ⟨z, j, Or.inr hz, by omega, by rw [(b1 j d).1]; exact e⟩
      · subst d; exact ⟨p, i, Or.inr hp, by omega, by rw [b3.2.1]; exact e⟩
      · refine ⟨y, j - 3, Or.inl rfl, by omega, ?_⟩
        rw [(b2 (j - 3) (by omega)).1, show 3 + (j - 3) = j by omega]; exact e
    · by_cases zp : z = p
      · subst zp
        rcases Nat.lt_or_ge j i with d | d
        · exact ⟨z, j, Or.inr hz, by omega, by rw [b3.1 j d]; exact e⟩
        · exact ⟨z, j + 1, Or.inr hz, by omega, by rw [b3.2.2 (j + 1) (by omega) (by omega)]; exact e⟩
      · obtain ⟨o1, o2, o3, o4⟩ := eo z hz zx zp
        exact ⟨z, j, Or.inr hz, by omega, by rw [o2]; exact e⟩
end
end
section
section
variable {N N' : Nat → Nat} {K V C K' V' C' : Nat → Nat → Nat} {r r' : Nat} {T T' : Nat → Prop} {lv lo hi lv' lo' hi' : Nat → Nat} {M : Nat → Option Nat}
theorem tr_delIn {n i : Nat} {f f' : Nat → Nat} {P : Nat → Prop} (h : tr_delF n f f' i) (b : ∀ j, j < n → P (f j)) : ∀ j, j < n - 1 → P (f' j) := by
  intro j hj
  rcases Nat.lt_or_ge j i with c | c
  · rw [h.1 j c]; exact b j (by omega)
  · rw [h.2 j c (by omega)]; exact b _ (by omega)
theorem tr_delSort {n i : Nat} {f f' : Nat → Nat} (h : tr_delF n f f' i) (s : ∀ i j, i < j → j < n → f i < f j) : ∀ u v, u < v → v < n - 1 → f' u < f' v := by
  intro u v huv hv
  rcases Nat.lt_or_ge u i with c | c
  · rw [h.1 u c]
    rcases Nat.lt_or_ge v i with d | d
    · rw [h.1 v d]; exact s u v huv (by omega)
    · rw [h.2 v d (by omega)]; exact s _ _ (by omega) (by omega)
  · rw [h.2 u c (by omega), h.2 v (by omega) (by omega)]
    exact s _ _ (by omega) (by omega)
/-- a key out of a leaf -/
theorem tr_del (h : tr_ok N K C r T lv lo hi) (m : tr_mp N K V T M) {x i : Nat} (hx : T x) (hl : lv x = 0) (hi1 : i < N x) (n2 : x ≠ r → 2 ≤ N x)
    (e1 : N' x = N x - 1) (e2 : tr_delF (N x) (K x) (K' x) i) (e3 : tr_delF (N x) (V x) (V' x) i) (e4 : C' x = C x)
    (eo : ∀ y, T y → y ≠ x → N' y = N y ∧ K' y = K y ∧ V' y = V y ∧ C' y = C y) :
    tr_ok N' K' C' r T lv lo hi ∧ tr_mp N' K' V' T (tr_up M (K x i) none) := by
  have hh := h
  obtain ⟨h0, h1, h2, h3, h4, h5, h6⟩ := h
  refine ⟨tr_okOf h0 ?_ ?_, ?_, ?_⟩
  · intro y hy
    have l := tr_lcOf hh hy
    by_cases e : y = x
    · subst e
      refine ⟨⟨l.1.1, by have := l.1.2.1; omega, l.1.2.2.1, fun z => ⟨by have := n2 z; omega, (l.1.2.2.2 z).2⟩⟩, ?_, ?_, ?_, fun _ z => absurd z (by omega)⟩
      · rw [e1]; exact tr_delIn (P := fun q => lo y ≤ q ∧ q < hi y) e2 l.2.1
      · rw [e1]; exact tr_delSort e2 l.2.2.1
      · rw [e4]; exact l.2.2.2.1
    · obtain ⟨o1, o2, o3, o4⟩ := eo y hy e
      refine tr_lcKeep l o1 o2 (by rw [o4]) rfl rfl rfl ⟨l.1.2.2.1, l.1.2.2.2⟩ (fun i a b => ?_)
      rw [o4]
      exact ⟨(l.2.2.2.2 i a b).1, rfl, rfl, rfl⟩
  · intro z hz zr
    obtain ⟨p, i, a, b, c, d⟩ := h6 z hz zr
    have px : p ≠ x := by intro e; rw [e] at b; omega
    obtain ⟨o1, o2, o3, o4⟩ := eo p a px
    exact ⟨p, i, a, b, by rw [o1]; exact c, by rw [o4]; exact d⟩
  · intro y j hy hj
    by_cases e : y = x
    · subst e
      rw [e1] at hj
      rcases Nat.lt_or_ge j i with c | c
      · have := h3 y j i hy c hi1
        rw [e2.1 j c, e3.1 j c, tr_upN (by omega)]; exact m.1 y j hy (by omega)
      · have := h3 y i (j + 1) hy (by omega) (by omega)
        rw [e2.2 j c (by omega), e3.2 j c (by omega), tr_upN (by omega)]; exact m.1 y _ hy (by omega)
    · obtain ⟨o1, o2, o3, o4⟩ := eo y hy e
      rw [o1] at hj
      have : K y j ≠ K x i := fun z => e (tr_loc hh hy hx hj hi1 z).1
      rw [o2, o3, tr_upN this]; exact m.1 y j hy hj
  · intro q w hq
    by_cases e : q = K x i
    · rw [e, tr_upS] at hq; exact absurd hq (by simp)
    · rw [tr_upN e] at hq
      obtain ⟨y, j, hy, hj, f⟩ := m.2 q w hq
      by_cases ey : y = x
      · subst ey
        have ji : j ≠ i := by intro z; subst z; exact e f.symm
        rcases Nat.lt_or_ge j i with c | c
        · exact ⟨y, j, hy, by omega, by rw [e2.1 j c]; exact f⟩
        · refine ⟨y, j - 1, hy, by omega, ?_⟩
          rw [e2.2 (j - 1) (by omega) (by omega), show j - 1 + 1 = j by omega]; exact f
      · obtain ⟨o1, o2, o3, o4⟩ := eo y hy ey
        exact ⟨y, j, hy, by omega, by rw [o2]; exact f⟩
/-- an inner key is replaced by the greatest one before it, which leaves its leaf -/
theorem tr_swap (h : tr_ok N K C r T lv lo hi) (m : tr_mp N K V T M) {x i z n : Nat} (hx : T x) (lx : 0 < lv x) (hi1 : i < N x) (hz : T z) (lz : lv z = 0) (z1 : tr_lb K lo x i ≤ lo z) (z2 : hi z = K x i) (nz : N z = n + 1) (n1 : 1 ≤ n)
    (e1 : N' z = n) (e2 : ∀ j, j < n → K' z j = K z j ∧ V' z j = V z j) (e3 : C' z = C z)
    (f0 : N' x = N x) (f1 : K' x i = K z n ∧ V' x i = V z n) (f2 : ∀ j, j < N x → j ≠ i → K' x j = K x j ∧ V' x j = V x j) (f3 : C' x = C x)
    (eo : ∀ y, T y → y ≠ x → y ≠ z → N' y = N y ∧ K' y = K y ∧ V' y = V y ∧ C' y = C y) :
    tr_ok N' K' C' r T lv (fun y => if lo y = K x i + 1 then K z n + 1 else lo y) (fun y => if hi y = K x i then K z n else hi y) ∧ tr_mp N' K' V' T (tr_up M (K x i) none) := by
  have hh := h
  obtain ⟨h0, h1, h2, h3, h4, h5, h6⟩ := h
  have kz := h2 z n hz (by omega)
  have kx := h2 x i hx hi1
  have xz : x ≠ z := by intro e; subst e; omega
  have hrx := tr_own hh h0.1 hx hi1 (by omega)
  have xr0 : K x i < 4096 := by
    obtain ⟨w, hw, lw, w1, w2, w3⟩ := tr_anc hh (lv r - lv x) x hx (by have := h1 x hx; omega)
    clear w3
    have : w = r := by
      rcases Classical.em (w = r) with e | e
      · exact e
      · have := (h1 w hw).2.2.2 e; have := h1 x hx; omega
    subst this; omega
  have F1 : ∀ y j, T y → j < N y → K y j < K x i → (y ≠ z ∨ j ≠ n) → K y j < K z n := by
    intro y j hy hj hlt hne
    rcases Nat.lt_trichotomy (K y j) (K z n) with c | c | c
    · exact c
    · have := tr_loc hh hy hz hj (by omega) c
      rcases hne with q | q
      · exact absurd this.1 q
      · exact absurd this.2 q
    · have o := tr_own hh hz hy hj (by omega) (by omega)
      have ey : y = z := o.2 (by omega)
      subst ey
      have : j < n ∨ j = n := by omega
      rcases this with q | q
      · have := h3 y j n hy q (by omega); omega
      · subst q; omega
  have F2 : ∀ y j, T y → j < N y → (y ≠ x ∨ j ≠ i) → K y j ≠ K x i := by
    intro y j hy hj hne e
    have := tr_loc hh hy hx hj hi1 e
    rcases hne with q | q
    · exact q this.1
    · exact q this.2
  have plo := tr_lbLe hh hx (i := i) (by omega)
  have CC : ∀ y, T y → C' y = C y := by
    intro y hy
    by_cases e : y = x
    · rw [e]; exact f3
    · by_cases e' : y = z
      · rw [e']; exact e3
      · exact (eo y hy e e').2.2.2
  -- all valid keys of the new pages
  have KV : ∀ y j, T y → j < N' y → (y = x ∧ j = i) ∨ ((y ≠ x ∨ j ≠ i) ∧ (y ≠ z ∨ j ≠ n) ∧ j < N y ∧ K' y j = K y j ∧ V' y j = V y j) := by
    intro y j hy hj
    by_cases e : y = x
    · subst e
      rw [f0] at hj
      by_cases ej : j = i
      · exact Or.inl ⟨rfl, ej⟩
      · have := f2 j hj ej
        exact Or.inr ⟨Or.inr ej, Or.inl xz, hj, this.1, this.2⟩
    · by_cases e' : y = z
      · subst e'
        rw [e1] at hj
        have := e2 j hj
        exact Or.inr ⟨Or.inl e, Or.inr (by omega), by omega, this.1, this.2⟩
      · obtain ⟨o1, o2, o3, o4⟩ := eo y hy e e'
        rw [o1] at hj
        exact Or.inr ⟨Or.inl e, Or.inl e', hj, by rw [o2], by rw [o3]⟩
  have NN : ∀ y, T y → 0 < lv y → N' y = N y := by
    intro y hy ly
    by_cases e : y = x
    · rw [e]; exact f0
    · exact (eo y hy e (by intro q; subst q; omega)).1
  refine ⟨tr_okOf ⟨h0.1, ?_, ?_, h0.2.2.2⟩ ?_ ?_, ?_, ?_⟩
  · show (if lo r = K x i + 1 then K z n + 1 else lo r) = 0
    rw [if_neg (by omega)]; exact h0.2.1
  · show (if hi r = K x i then K z n else hi r) = 4096
    rw [if_neg (by omega)]; exact h0.2.2.1
  · intro y hy
    have l := tr_lcOf hh hy
    refine ⟨⟨l.1.1, ?_, l.1.2.2.1, fun q => ⟨?_, (l.1.2.2.2 q).2⟩⟩, ?_, ?_, ?_, ?_⟩
    · by_cases ly : 0 < lv y
      · rw [NN y hy ly]; exact l.1.2.1
      · by_cases e' : y = z
        · subst e'; have := l.1.2.1; omega
        · rw [(eo y hy (by intro q; subst q; omega) e').1]; exact l.1.2.1
    · have := (l.1.2.2.2 q).1
      by_cases ly : 0 < lv y
      · rw [NN y hy ly]; exact this
      · by_cases e' : y = z
        · subst e'; omega
        · rw [(eo y hy (by intro q; subst q; omega) e').1]; exact this
    · intro j hj
      show (if lo y = K x i + 1 then K z n + 1 else lo y) ≤ K' y j ∧ K' y j < (if hi y = K x i then K z n else hi y)
      rcases KV y j hy hj with ⟨a, b⟩ | ⟨a, b, c, d, _⟩
      · subst a; subst b
        rw [f1.1, if_neg (by omega), if_neg (by omega)]
        exact ⟨by omega, by omega⟩
      · rw [d]
        have kk := l.2.1 j c
        have ne := F2 y j hy c a
        constructor
        · split <;> omega
        · split
          · exact F1 y j hy c (by omega) b
          · exact kk.2
    · intro u v huv hv
      rcases KV y u hy (by omega) with ⟨a, b⟩ | ⟨a, b, c, d, _⟩
      · rcases KV y v hy hv with ⟨a', b'⟩ | ⟨a', b', c', d', _⟩
        · omega
        · subst a; subst b
          rw [f1.1, d']
          have := h3 y u v hx huv c'
          omega
      · rcases KV y v hy hv with ⟨a', b'⟩ | ⟨a', b', c', d', _⟩
        · subst a'; subst b'
          rw [f1.1, d]
          exact F1 y u hy c (h3 y u v hx huv hi1) b
        · rw [d, d']; exact h3 y u v hy huv c'
    · rw [CC y hy]; exact l.2.2.2.1
    · intro j a b
      rw [NN y hy a] at b
      obtain ⟨t, q1, q2, q3⟩ := l.2.2.2.2 j a b
      rw [CC y hy]
      refine ⟨t, q1, ?_, ?_⟩
      · show (if lo (C y j) = K x i + 1 then K z n + 1 else lo (C y j)) = _
        rw [q2]
        unfold tr_lb
        by_cases e : j = 0
        · rw [if_pos e, if_pos e]
        · rw [if_neg e, if_neg e]
          rcases KV y (j - 1) hy (by rw [NN y hy a]; omega) with ⟨u, w⟩ | ⟨u, _, c, d, _⟩
          · subst u; rw [w, f1.1, if_pos rfl]
          · rw [d, if_neg (by have := F2 y (j - 1) hy c u; omega)]
      · show (if hi (C y j) = K x i then K z n else hi (C y j)) = _
        rw [q3]
        unfold tr_ub
        rw [NN y hy a]
        by_cases e : j = N y
        · rw [if_pos e, if_pos e]
        · rw [if_neg e, if_neg e]
          rcases KV y j hy (by rw [NN y hy a]; omega) with ⟨u, w⟩ | ⟨u, _, c, d, _⟩
          · subst u; rw [w, f1.1, if_pos rfl]
          · rw [d, if_neg (F2 y j hy c u)]
  · intro y hy yr
    obtain ⟨p, j, a, b, c, d⟩ := h6 y hy yr
    exact ⟨p, j, a, b, by rw [NN p a b]; exact c, by rw [CC p a]; exact d⟩
  · intro y j hy hj
    rcases KV y j hy hj with ⟨a, b⟩ | ⟨a, b, c, d, e⟩
    · subst a; subst b
      rw [f1.1, f1.2, tr_upN (by omega)]; exact m.1 z n hz (by omega)
    · rw [d, e, tr_upN (F2 y j hy c a)]; exact m.1 y j hy c
  · intro k w hk
    by_cases e : k = K x i
    · rw [e, tr_upS] at hk; exact absurd hk (by simp)
    · rw [tr_upN e] at hk
      obtain ⟨y, j, hy, hj, q⟩ := m.2 k w hk
      by_cases yx : y = x
      · subst yx
        have ji : j ≠ i := by intro s; subst s; exact e q.symm
        exact ⟨y, j, hy, by omega, by rw [(f2 j hj ji).1]; exact q⟩
      · by_cases yz : y = z
        · subst yz
          rcases Nat.lt_or_ge j n with c | c
          · exact ⟨y, j, hy, by omega, by rw [(e2 j c).1]; exact q⟩
          · have : j = n := by omega
            subst this
            exact ⟨x, i, hx, by omega, by rw [f1.1]; exact q⟩
        · obtain ⟨o1, o2, o3, o4⟩ := eo y hy yx yz
          exact ⟨y, j, hy, by omega, by rw [o2]; exact q⟩
/-- an empty root goes -/
theorem tr_coll (h : tr_ok N K C r T lv lo hi) (m : tr_mp N K V T M) (n0 : N r = 0) (lr : 0 < lv r) :
    tr_ok N K C (C r 0) (fun y => T y ∧ y ≠ r) lv lo hi ∧ tr_mp N K V (fun y => T y ∧ y ≠ r) M := by
  have hh := h
  obtain ⟨h0, h1, h2, h3, h4, h5, h6⟩ := h
  obtain ⟨t, q1, q2, q3⟩ := h5 r 0 h0.1 lr (by omega)
  unfold tr_lb at q2
  unfold tr_ub at q3
  rw [if_pos rfl] at q2
  rw [if_pos n0.symm] at q3
  have cr : C r 0 ≠ r := by intro e; rw [e] at q1; omega
  refine ⟨tr_okOf ⟨⟨t, cr⟩, by omega, by omega, by omega⟩ ?_ ?_, ?_, ?_⟩
  · intro y hy
    have l := tr_lcOf hh hy.1
    have l2 := l.1.2.2.2 hy.2
    refine tr_lcKeep l rfl rfl Iff.rfl rfl rfl rfl ⟨by omega, fun e => ⟨l2.1, ?_⟩⟩ ?_
    · obtain ⟨p, i, a, b, c, d⟩ := h6 y hy.1 hy.2
      obtain ⟨_, q1', _, _⟩ := h5 p i a b c
      rw [d] at q1'
      by_cases pr : p = r
      · subst pr
        have : i = 0 := by omega
        subst this
        exact absurd d.symm e
      · have := (h1 p a).2.2.2 pr
        omega
    · intro i a b
      obtain ⟨t', p1, _, _⟩ := l.2.2.2.2 i a b
      exact ⟨⟨t', by intro e; rw [e] at p1; omega⟩, rfl, rfl, rfl⟩
  · intro y hy yc
    obtain ⟨p, i, a, b, c, d⟩ := h6 y hy.1 hy.2
    refine ⟨p, i, ⟨a, ?_⟩, b, c, d⟩
    intro pr
    subst pr
    have : i = 0 := by omega
    subst this
    exact yc d.symm
  · intro y i hy hi1; exact m.1 y i hy.1 hi1
  · intro k v hk
    obtain ⟨y, i, hy, hi1, e⟩ := m.2 k v hk
    exact ⟨y, i, ⟨hy, by intro q; subst q; omega⟩, hi1, e⟩
end
end
section
section
variable {N N' : Nat → Nat} {K V C K' V' C' : Nat → Nat → Nat} {r r' : Nat} {T T' : Nat → Prop} {lv lo hi lv' lo' hi' : Nat → Nat} {M : Nat → Option Nat}
/-- x = child i of p takes one from y = child i - 1 -/
theorem tr_rotL (h : tr_ok N K C r T lv lo hi) (m : tr_mp N K V T M) {p i x y n : Nat} (hp : T p) (lp : 0 < lv p) (ip : i < N p) (ey : C p i = y) (ex : C p (i + 1) = x) (nx : N x ≤ 4) (ny : N y = n + 1) (n1 : 1 ≤ n)
    (a1 : N' x = N x + 1) (a2 : N' y = n) (a3 : N' p = N p)
    (b1 : tr_insF (N x) (K x) (K' x) 0 (K p i)) (b1' : tr_insF (N x) (V x) (V' x) 0 (V p i)) (b2 : ∀ j, j < n → K' y j = K y j ∧ V' y j = V y j)
    (b3 : K' p i = K y n ∧ V' p i = V y n) (b4 : ∀ j, j < N p → j ≠ i → K' p j = K p j ∧ V' p j = V p j)
    (c1 : 0 < lv x → tr_insF (N x + 1) (C x) (C' x) 0 (C y (n + 1))) (c1' : lv x = 0 → C' x 0 = C x 0) (c2 : C' y = C y) (c3 : C' p = C p)
    (eo : ∀ z, T z → z ≠ x → z ≠ p → z ≠ y → N' z = N z ∧ K' z = K z ∧ V' z = V z ∧ C' z = C z) :
    tr_ok N' K' C' r T lv (tr_up lo x (K y n + 1)) (tr_up hi y (K y n)) ∧ tr_mp N' K' V' T M := by
  have hh := h
  obtain ⟨h0, h1, h2, h3, h4, h5, h6⟩ := h
  obtain ⟨hx, x1, x2, x3⟩ := h5 p (i + 1) hp lp ip
  obtain ⟨hy, y1, y2, y3⟩ := h5 p i hp lp (by omega)
  rw [ex] at hx x1 x2 x3
  rw [ey] at hy y1 y2 y3
  have px : p ≠ x := by intro e; rw [e] at x1; omega
  have py : p ≠ y := by intro e; rw [e] at y1; omega
  have xy : x ≠ y := by
    intro e
    have := tr_par hh hp hp lp lp (i := i + 1) (j := i) (by omega) (by omega) (by rw [ex, ey, e])
    omega
  have lx := tr_lcOf hh hx
  have ly := tr_lcOf hh hy
  have lpp := tr_lcOf hh hp
  have pr1 := h1 p hp
  have xr : x ≠ r := by intro e; rw [e] at x1; omega
  have yr : y ≠ r := by intro e; rw [e] at y1; omega
  have nx1 := (lx.1.2.2.2 xr).1
  have x2' : lo x = K p i + 1 := by rw [x2]; unfold tr_lb; rw [if_neg (by omega), Nat.add_sub_cancel]
  have y3' : hi y = K p i := by rw [y3]; unfold tr_ub; rw [if_neg (by omega)]
  have kn := h2 y n hy (by omega)
  have k0 := h2 x 0 hx (by omega)
  have plo := tr_lbLe hh hp (i := i) (by omega)
  have kp := h2 p i hp ip
  have UL : ∀ z, z ≠ x → tr_up lo x (K y n + 1) z = lo z := fun z e => tr_upN e
  have UH : ∀ z, z ≠ y → tr_up hi y (K y n) z = hi z := fun z e => tr_upN e
  have chx : ∀ q j, T q → 0 < lv q → j ≤ N q → (q ≠ p ∨ j ≠ i + 1) → C q j ≠ x := by
    intro q j hq lq jq hn e
    have := tr_par hh hq hp lq lp jq (show i + 1 ≤ N p by omega) (e.trans ex.symm)
    rcases hn with z | z
    · exact z this.1
    · exact z this.2
  have chy : ∀ q j, T q → 0 < lv q → j ≤ N q → (q ≠ p ∨ j ≠ i) → C q j ≠ y := by
    intro q j hq lq jq hn e
    have := tr_par hh hq hp lq lp jq (show i ≤ N p by omega) (e.trans ey.symm)
    rcases hn with z | z
    · exact z this.1
    · exact z this.2
  have hlx : lv x = lv y := by omega
  refine ⟨tr_okOf ⟨h0.1, by rw [UL r (fun e => xr e.symm)]; exact h0.2.1, by rw [UH r (fun e => yr e.symm)]; exact h0.2.2.1, h0.2.2.2⟩ ?_ ?_, ?_, ?_⟩
  · intro z hz
    have l := tr_lcOf hh hz
    by_cases zx : z = x
    · subst zx
      refine ⟨⟨l.1.1, by omega, l.1.2.2.1, fun e => ⟨by omega, (l.1.2.2.2 e).2⟩⟩, ?_, ?_, ?_, ?_⟩
      · rw [a1, tr_upS, UH z xy]
        refine tr_insIn (P := fun q => K y n + 1 ≤ q ∧ q < hi z) b1 (by omega) ⟨by omega, by omega⟩ (fun j hj => ?_)
        have := l.2.1 j hj
        exact ⟨by omega, this.2⟩
      · rw [a1]
        refine tr_insSort b1 (by omega) (fun j hj => absurd hj (by omega)) (fun j _ hj => ?_) l.2.2.1
        have := l.2.1 j hj
        omega
      · by_cases e : lv z = 0
        · rw [c1' e]; exact l.2.2.2.1
        · rw [(c1 (by omega)).2.1]
          have t := (h5 y (n + 1) hy (by omega) (by omega)).1
          have := (h1 _ t).1
          constructor <;> intro <;> omega
      · intro j a b
        rw [a1] at b
        have cc := c1 a
        by_cases j0 : j = 0
        · subst j0
          obtain ⟨t, q1, q2, q3⟩ := h5 y (n + 1) hy (by omega) (by omega)
          have cx := chx y (n + 1) hy (by omega) (by omega) (Or.inl (fun e => py e.symm))
          have cy := chy y (n + 1) hy (by omega) (by omega) (Or.inl (fun e => py e.symm))
          rw [cc.2.1, UL _ cx, UH _ cy]
          refine ⟨t, by omega, ?_, ?_⟩
          · rw [q2]; unfold tr_lb; rw [if_neg (by omega), if_pos rfl, tr_upS, Nat.add_sub_cancel]
          · rw [q3]; unfold tr_ub; rw [if_pos ny.symm, if_neg (by omega), b1.2.1]; exact y3'
        · obtain ⟨t, q1, q2, q3⟩ := h5 z (j - 1) hx a (by omega)
          have cx := chx z (j - 1) hx a (by omega) (Or.inl (fun e => px e.symm))
          have cy := chy z (j - 1) hx a (by omega) (Or.inl (fun e => px e.symm))
          rw [cc.2.2 j (by omega) (by omega), UL _ cx, UH _ cy]
          refine ⟨t, q1, ?_, ?_⟩
          · rw [q2]
            unfold tr_lb
            rw [if_neg j0]
            by_cases j1 : j = 1
            · subst j1; rw [if_pos rfl]; show lo z = K' z 0 + 1; rw [b1.2.1]; exact x2'
            · rw [if_neg (by omega), b1.2.2 (j - 1) (by omega) (by omega)]
          · rw [q3]
            unfold tr_ub
            rw [a1, UH z xy]
            by_cases e : j = N z + 1
            · rw [if_pos (by omega), if_pos e]
            · rw [if_neg (by omega), if_neg e, b1.2.2 j (by omega) (by omega)]
    · by_cases zy : z = y
      · subst zy
        refine ⟨⟨l.1.1, by have := l.1.2.1; omega, l.1.2.2.1, fun e => ⟨by omega, (l.1.2.2.2 e).2⟩⟩, ?_, ?_, ?_, ?_⟩
        · intro j hj
          rw [a2] at hj
          rw [UL z zx, tr_upS, (b2 j hj).1]
          exact ⟨(l.2.1 j (by omega)).1, h3 z j n hz hj (by omega)⟩
        · intro u v huv hv
          rw [a2] at hv
          rw [(b2 u (by omega)).1, (b2 v hv).1]
          exact h3 z u v hz huv (by omega)
        · rw [c2]; exact l.2.2.2.1
        · intro j a b
          rw [a2] at b
          obtain ⟨t, q1, q2, q3⟩ := h5 z j hz a (by omega)
          have cx := chx z j hz a (by omega) (Or.inl (fun e => py e.symm))
          have cy := chy z j hz a (by omega) (Or.inl (fun e => py e.symm))
          rw [c2, UL _ cx, UH _ cy]
          refine ⟨t, q1, ?_, ?_⟩
          · rw [q2]
            unfold tr_lb
            by_cases e : j = 0
            · rw [if_pos e, if_pos e, UL z zx]
            · rw [if_neg e, if_neg e, (b2 (j - 1) (by omega)).1]
          · rw [q3]
            unfold tr_ub
            rw [a2, if_neg (by omega)]
            by_cases e : j = n
            · rw [if_pos e, tr_upS, e]
            · rw [if_neg e, (b2 j (by omega)).1]
      · by_cases zp : z = p
        · subst zp
          refine ⟨⟨l.1.1, by rw [a3]; exact l.1.2.1, l.1.2.2.1, by rw [a3]; exact l.1.2.2.2⟩, ?_, ?_, ?_, ?_⟩
          · intro j hj
            rw [a3] at hj
            rw [UL z zx, UH z zy]
            by_cases e : j = i
            · subst e; rw [b3.1]; exact ⟨by omega, by omega⟩
            · rw [(b4 j hj e).1]; exact l.2.1 j hj
          · intro u v huv hv
            rw [a3] at hv
            by_cases e : u = i
            · subst e
              have := h3 z u v hz huv hv
              rw [b3.1, (b4 v hv (by omega)).1]; omega
            · rw [(b4 u (by omega) e).1]
              by_cases e2 : v = i
              · subst e2
                rw [b3.1]
                unfold tr_lb at y2
                rw [if_neg (by omega)] at y2
                by_cases e3 : u = v - 1
                · subst e3; omega
                · have := h3 z u (v - 1) hz (by omega) (by omega); omega
              · rw [(b4 v hv e2).1]; exact h3 z u v hz huv hv
          · rw [c3]; exact l.2.2.2.1
          · intro j a b
            rw [a3] at b
            rw [c3]
            obtain ⟨t, q1, q2, q3⟩ := h5 z j hz a b
            refine ⟨t, q1, ?_, ?_⟩
            · by_cases e : j = i + 1
              · subst e
                rw [ex, tr_upS]; unfold tr_lb; rw [if_neg (by omega), Nat.add_sub_cancel, b3.1]
              · rw [UL _ (chx z j hz a b (Or.inr e)), q2]
                unfold tr_lb
                by_cases e0 : j = 0
                · rw [if_pos e0, if_pos e0, UL z zx]
                · rw [if_neg e0, if_neg e0, (b4 (j - 1) (by omega) (by omega)).1]
            · by_cases e : j = i
              · subst e
                rw [ey, tr_upS]; unfold tr_ub; rw [a3, if_neg (by omega), b3.1]
              · rw [UH _ (chy z j hz a b (Or.inr e)), q3]
                unfold tr_ub
                rw [a3, UH z zy]
                by_cases e0 : j = N z
                · rw [if_pos e0, if_pos e0]
                · rw [if_neg e0, if_neg e0, (b4 j (by omega) e).1]
        · obtain ⟨o1, o2, o3, o4⟩ := eo z hz zx zp zy
          refine tr_lcKeep l o1 o2 (by rw [o4]) rfl (UL z zx) (UH z zy) ⟨l.1.2.2.1, l.1.2.2.2⟩ ?_
          intro j a b
          obtain ⟨t, q1, q2, q3⟩ := h5 z j hz a b
          rw [o4, UL _ (chx z j hz a b (Or.inl zp)), UH _ (chy z j hz a b (Or.inl zp))]
          exact ⟨t, rfl, rfl, rfl⟩
  · intro z hz zr
    obtain ⟨q, j, a, b, c, d⟩ := h6 z hz zr
    by_cases qx : q = x
    · subst qx
      exact ⟨q, j + 1, a, b, by omega, by rw [(c1 b).2.2 (j + 1) (by omega) (by omega)]; exact d⟩
    · by_cases qy : q = y
      · subst qy
        rcases Nat.lt_or_ge n j with e | e
        · have : j = n + 1 := by omega
          subst this
          exact ⟨x, 0, hx, by omega, by omega, by rw [(c1 (by omega)).2.1]; exact d⟩
        · exact ⟨q, j, a, b, by omega, by rw [c2]; exact d⟩
      · by_cases qp : q = p
        · subst qp; exact ⟨q, j, a, b, by omega, by rw [c3]; exact d⟩
        · obtain ⟨o1, o2, o3, o4⟩ := eo q a qx qp qy
          exact ⟨q, j, a, b, by omega, by rw [o4]; exact d⟩
  · intro z j hz hj
    by_cases zx : z = x
    · subst zx
      rw [a1] at hj
      by_cases e : j = 0
      · subst e; rw [b1.2.1, b1'.2.1]; exact m.1 p i hp ip
      · rw [b1.2.2 j (by omega) (by omega), b1'.2.2 j (by omega) (by omega)]; exact m.1 z _ hz (by omega)
    · by_cases zy : z = y
      · subst zy
        rw [a2] at hj
        rw [(b2 j hj).1, (b2 j hj).2]; exact m.1 z j hz (by omega)
      · by_cases zp : z = p
        · subst zp
          rw [a3] at hj
          by_cases e : j = i
          · subst e; rw [b3.1, b3.2]; exact m.1 y n hy (by omega)
          · rw [(b4 j hj e).1, (b4 j hj e).2]; exact m.1 z j hz hj
        · obtain ⟨o1, o2, o3, o4⟩ := eo z hz zx zp zy
          rw [o1] at hj
          rw [o2, o3]; exact m.1 z j hz hj
  · intro k v hk
    obtain ⟨z, j, hz, hj, e⟩ := m.2 k v hk
    by_cases zx : z = x
    · subst zx
      exact ⟨z, j + 1, hz, by omega, by rw [b1.2.2 (j + 1) (by omega) (by omega)]; exact e⟩
    · by_cases zy : z = y
      · subst zy
        rcases Nat.lt_or_ge j n with d | d
        · exact ⟨z, j, hz, by omega, by rw [(b2 j d).1]; exact e⟩
        · have : j = n := by omega
          subst this
          exact ⟨p, i, hp, by omega, by rw [b3.1]; exact e⟩
      · by_cases zp : z = p
        · subst zp
          by_cases d : j = i
          · subst d; exact ⟨x, 0, hx, by omega, by rw [b1.2.1]; exact e⟩
          · exact ⟨z, j, hz, by omega, by rw [(b4 j hj d).1]; exact e⟩
        · obtain ⟨o1, o2, o3, o4⟩ := eo z hz zx zp zy
          exact ⟨z, j, hz, by omega, by rw [o2]; exact e⟩
/-- x = child i of p takes one from y = child i + 1 -/
theorem tr_rotR (h : tr_ok N K C r T lv lo hi) (m : tr_mp N K V T M) {p i x y : Nat} (hp : T p) (lp : 0 < lv p) (ip : i < N p) (ex : C p i = x) (ey : C p (i + 1) = y) (nx : N x ≤ 4) (ny : 2 ≤ N y)
    (a1 : N' x = N x + 1) (a2 : N' y = N y - 1) (a3 : N' p = N p)
    (b1 : ∀ j, j < N x → K' x j = K x j ∧ V' x j = V x j) (b1' : K' x (N x) = K p i ∧ V' x (N x) = V p i) (b2 : tr_delF (N y) (K y) (K' y) 0) (b2' : tr_delF (N y) (V y) (V' y) 0)
    (b3 : K' p i = K y 0 ∧ V' p i = V y 0) (b4 : ∀ j, j < N p → j ≠ i → K' p j = K p j ∧ V' p j = V p j)
    (c1 : ∀ j, j ≤ N x → C' x j = C x j) (c1' : 0 < lv x → C' x (N x + 1) = C y 0) (c2 : 0 < lv y → tr_delF (N y + 1) (C y) (C' y) 0) (c2' : lv y = 0 → C' y 0 = C y 0) (c3 : C' p = C p)
    (eo : ∀ z, T z → z ≠ x → z ≠ p → z ≠ y → N' z = N z ∧ K' z = K z ∧ V' z = V z ∧ C' z = C z) :
    tr_ok N' K' C' r T lv (tr_up lo y (K y 0 + 1)) (tr_up hi x (K y 0)) ∧ tr_mp N' K' V' T M := by
  have hh := h
  obtain ⟨h0, h1, h2, h3, h4, h5, h6⟩ := h
  obtain ⟨hx, x1, x2, x3⟩ := h5 p i hp lp (by omega)
  obtain ⟨hy, y1, y2, y3⟩ := h5 p (i + 1) hp lp ip
  rw [ex] at hx x1 x2 x3
  rw [ey] at hy y1 y2 y3
  have px : p ≠ x := by intro e; rw [e] at x1; omega
  have py : p ≠ y := by intro e; rw [e] at y1; omega
  have xy : x ≠ y := by
    intro e
    have := tr_par hh hp hp lp lp (i := i + 1) (j := i) (by omega) (by omega) (by rw [ex, ey, e])
    omega
  have lx := tr_lcOf hh hx
  have ly := tr_lcOf hh hy
  have lpp := tr_lcOf hh hp
  have pr1 := h1 p hp
  have xr : x ≠ r := by intro e; rw [e] at x1; omega
  have yr : y ≠ r := by intro e; rw [e] at y1; omega
  have nx1 := (lx.1.2.2.2 xr).1
  have y2' : lo y = K p i + 1 := by rw [y2]; unfold tr_lb; rw [if_neg (by omega), Nat.add_sub_cancel]
  have x3' : hi x = K p i := by rw [x3]; unfold tr_ub; rw [if_neg (by omega)]
  have k0 := h2 y 0 hy (by omega)
  have kx := h2 x 0 hx (by omega)
  have phi := tr_ubLe hh hp (i := i + 1) (by omega)
  have kp := h2 p i hp ip
  have UL : ∀ z, z ≠ y → tr_up lo y (K y 0 + 1) z = lo z := fun z e => tr_upN e
  have UH : ∀ z, z ≠ x → tr_up hi x (K y 0) z = hi z := fun z e => tr_upN e
  have chx : ∀ q j, T q → 0 < lv q → j ≤ N q → (q ≠ p ∨ j ≠ i) → C q j ≠ x := by
    intro q j hq lq jq hn e
    have := tr_par hh hq hp lq lp jq (show i ≤ N p by omega) (e.trans ex.symm)
    rcases hn with z | z
    · exact z this.1
    · exact z this.2
  have chy : ∀ q j, T q → 0 < lv q → j ≤ N q → (q ≠ p ∨ j ≠ i + 1) → C q j ≠ y := by
    intro q j hq lq jq hn e
    have := tr_par hh hq hp lq lp jq (show i + 1 ≤ N p by omega) (e.trans ey.symm)
    rcases hn with z | z
    · exact z this.1
    · exact z this.2
  have hlx : lv x = lv y := by omega
  refine ⟨tr_okOf ⟨h0.1, by rw [UL r (fun e => yr e.symm)]; exact h0.2.1, by rw [UH r (fun e => xr e.symm)]; exact h0.2.2.1, h0.2.2.2⟩ ?_ ?_, ?_, ?_⟩
  · intro z hz
    have l := tr_lcOf hh hz
    by_cases zx : z = x
    · subst zx
      refine ⟨⟨l.1.1, by omega, l.1.2.2.1, fun e => ⟨by omega, (l.1.2.2.2 e).2⟩⟩, ?_, ?_, ?_, ?_⟩
      · intro j hj
        rw [a1] at hj
        rw [UL z xy, tr_upS]
        by_cases e : j = N z
        · subst e; rw [b1'.1]; exact ⟨by omega, by omega⟩
        · have := l.2.1 j (by omega)
          rw [(b1 j (by omega)).1]; exact ⟨by omega, by omega⟩
      · intro u v huv hv
        rw [a1] at hv
        rw [(b1 u (by omega)).1]
        by_cases e : v = N z
        · subst e; rw [b1'.1]; have := l.2.1 u huv; omega
        · rw [(b1 v (by omega)).1]; exact h3 z u v hz huv (by omega)
      · rw [c1 0 (by omega)]; exact l.2.2.2.1
      · intro j a b
        rw [a1] at b
        by_cases je : j = N z + 1
        · subst je
          obtain ⟨t, q1, q2, q3⟩ := h5 y 0 hy (by omega) (by omega)
          have cx := chx y 0 hy (by omega) (by omega) (Or.inl (fun e => py e.symm))
          have cy := chy y 0 hy (by omega) (by omega) (Or.inl (fun e => py e.symm))
          rw [c1' a, UL _ cy, UH _ cx]
          refine ⟨t, by omega, ?_, ?_⟩
          · rw [q2]; unfold tr_lb; rw [if_pos rfl, if_neg (by omega), Nat.add_sub_cancel, b1'.1]; exact y2'
          · rw [q3]; unfold tr_ub; rw [if_neg (by omega), if_pos a1.symm, tr_upS]
        · obtain ⟨t, q1, q2, q3⟩ := h5 z j hx a (by omega)
          have cx := chx z j hx a (by omega) (Or.inl (fun e => px e.symm))
          have cy := chy z j hx a (by omega) (Or.inl (fun e => px e.symm))
          rw [c1 j (by omega), UL _ cy, UH _ cx]
          refine ⟨t, q1, ?_, ?_⟩
          · rw [q2]
            unfold tr_lb
            by_cases e : j = 0
            · rw [if_pos e, if_pos e, UL z xy]
            · rw [if_neg e, if_neg e, (b1 (j - 1) (by omega)).1]
          · rw [q3]
            unfold tr_ub
            rw [a1, if_neg je]
            by_cases e : j = N z
            · rw [if_pos e, e, b1'.1]; exact x3'
            · rw [if_neg e, (b1 j (by omega)).1]
    · by_cases zy : z = y
      · subst zy
        refine ⟨⟨l.1.1, by have := l.1.2.1; omega, l.1.2.2.1, fun e => ⟨by omega, (l.1.2.2.2 e).2⟩⟩, ?_, ?_, ?_, ?_⟩
        · rw [a2, tr_upS, UH z zx]
          intro j hj
          rw [b2.2 j (by omega) (by omega)]
          exact ⟨h3 z 0 (j + 1) hz (by omega) (by omega), (l.2.1 (j + 1) (by omega)).2⟩
        · rw [a2]; exact tr_delSort b2 l.2.2.1
        · by_cases e : lv z = 0
          · rw [c2' e]; exact l.2.2.2.1
          · rw [(c2 (by omega)).2 0 (by omega) (by omega)]
            have t := (h5 z (0 + 1) hz (by omega) (by omega)).1
            have := (h1 _ t).1
            constructor <;> intro <;> omega
        · intro j a b
          rw [a2] at b
          obtain ⟨t, q1, q2, q3⟩ := h5 z (j + 1) hz a (by omega)
          have cx := chx z (j + 1) hz a (by omega) (Or.inl (fun e => py e.symm))
          have cy := chy z (j + 1) hz a (by omega) (Or.inl (fun e => py e.symm))
          rw [(c2 a).2 j (by omega) (by omega), UL _ cy, UH _ cx]
          refine ⟨t, q1, ?_, ?_⟩
          · rw [q2]
            unfold tr_lb
            rw [if_neg (by omega), Nat.add_sub_cancel]
            by_cases e : j = 0
            · rw [if_pos e, tr_upS, e]
            · rw [if_neg e, b2.2 (j - 1) (by omega) (by omega), show j - 1 + 1 = j by omega]
          · rw [q3]
            unfold tr_ub
            rw [a2, UH z zx]
            by_cases e : j + 1 = N z
            · rw [if_pos e, if_pos (by omega)]
            · rw [if_neg e, if_neg (by omega), b2.2 j (by omega) (by omega)]
      · by_cases zp : z = p
        · subst zp
          refine ⟨⟨l.1.1, by rw [a3]; exact l.1.2.1, l.1.2.2.1, by rw [a3]; exact l.1.2.2.2⟩, ?_, ?_, ?_, ?_⟩
          · intro j hj
            rw [a3] at hj
            rw [UL z zy, UH z zx]
            by_cases e : j = i
            · subst e; rw [b3.1]; exact ⟨by omega, by omega⟩
            · rw [(b4 j hj e).1]; exact l.2.1 j hj
          · intro u v huv hv
            rw [a3] at hv
            by_cases e : v = i
            · subst e
              have := h3 z u v hz huv hv
              rw [b3.1, (b4 u (by omega) (by omega)).1]; omega
            · rw [(b4 v hv e).1]
              by_cases e2 : u = i
              · subst e2
                rw [b3.1]
                unfold tr_ub at y3
                rw [if_neg (by omega)] at y3
                by_cases e3 : v = u + 1
                · subst e3; omega
                · have := h3 z (u + 1) v hz (by omega) (by omega); omega
              · rw [(b4 u (by omega) e2).1]; exact h3 z u v hz huv hv
          · rw [c3]; exact l.2.2.2.1
          · intro j a b
            rw [a3] at b
            rw [c3]
            obtain ⟨t, q1, q2, q3⟩ := h5 z j hz a b
            refine ⟨t, q1, ?_, ?_⟩
            · by_cases e : j = i + 1
              · subst e
                rw [ey, tr_upS]; unfold tr_lb; rw [if_neg (by omega), Nat.add_sub_cancel, b3.1]
              · rw [UL _ (chy z j hz a b (Or.inr e)), q2]
                unfold tr_lb
                by_cases e0 : j = 0
                · rw [if_pos e0, if_pos e0, UL z zy]
                · rw [if_neg e0, if_neg e0, (b4 (j - 1) (by omega) (by omega)).1]
            · by_cases e : j = i
              · subst e
                rw [ex, tr_upS]; unfold tr_ub; rw [a3, if_neg (by omega), b3.1]
              · rw [UH _ (chx z j hz a b (Or.inr e)), q3]
                unfold tr_ub
                rw [a3, UH z zx]
                by_cases e0 : j = N z
                · rw [if_pos e0, if_pos e0]
                · rw [if_neg e0, if_neg e0, (b4 j (by omega) e).1]
        · obtain ⟨o1, o2, o3, o4⟩ := eo z hz zx zp zy
          refine tr_lcKeep l o1 o2 (by rw [o4]) rfl (UL z zy) (UH z zx) ⟨l.1.2.2.1, l.1.2.2.2⟩ ?_
          intro j a b
          obtain ⟨t, q1, q2, q3⟩ := h5 z j hz a b
          rw [o4, UL _ (chy z j hz a b (Or.inl zp)), UH _ (chx z j hz a b (Or.inl zp))]
          exact ⟨t, rfl, rfl, rfl⟩
  · intro z hz zr
    obtain ⟨q, j, a, b, c, d⟩ := h6 z hz zr
    by_cases qx : q = x
    · subst qx
      exact ⟨q, j, a, b, by omega, by rw [c1 j c]; exact d⟩
    · by_cases qy : q = y
      · subst qy
        by_cases e : j = 0
        · subst e
          exact ⟨x, N x + 1, hx, by omega, by omega, by rw [c1' (by omega)]; exact d⟩
        · refine ⟨q, j - 1, a, b, by omega, ?_⟩
          rw [(c2 b).2 (j - 1) (by omega) (by omega), show j - 1 + 1 = j by omega]; exact d
      · by_cases qp : q = p
        · subst qp; exact ⟨q, j, a, b, by omega, by rw [c3]; exact d⟩
        · obtain ⟨o1, o2, o3, o4⟩ := eo q a qx qp qy
          exact ⟨q, j, a, b, by omega, by rw [o4]; exact d⟩
  · intro z j hz hj
    by_cases zx : z = x
    · subst zx
      rw [a1] at hj
      by_cases e : j = N z
      · subst e; rw [b1'.1, b1'.2]; exact m.1 p i hp ip
      · rw [(b1 j (by omega)).1, (b1 j (by omega)).2]; exact m.1 z _ hz (by omega)
    · by_cases zy : z = y
      · subst zy
        rw [a2] at hj
        rw [b2.2 j (by omega) (by omega), b2'.2 j (by omega) (by omega)]; exact m.1 z _ hz (by omega)
      · by_cases zp : z = p
        · subst zp
          rw [a3] at hj
          by_cases e : j = i
          · subst e; rw [b3.1, b3.2]; exact m.1 y 0 hy (by omega)
          · rw [(b4 j hj e).1, (b4 j hj e).2]; exact m.1 z j hz hj
        · obtain ⟨o1, o2, o3, o4⟩ := eo z hz zx zp zy
          rw [o1] at hj
          rw [o2, o3]; exact m.1 z j hz hj
  · intro k v hk
    obtain ⟨z, j, hz, hj, e⟩ := m.2 k v hk
    by_cases zx : z = x
    · subst zx
      exact ⟨z, j, hz, by omega, by rw [(b1 j hj).1]; exact e⟩
    · by_cases zy : z = y
      · subst zy
        by_cases d : j = 0
        · subst d; exact ⟨p, i, hp, by omega, by rw [b3.1]; exact e⟩
        · refine ⟨z, j - 1, hz, by omega, ?_⟩
          rw [b2.2 (j - 1) (by omega) (by omega), show j - 1 + 1 = j by omega]; exact e
      · by_cases zp : z = p
        · subst zp
          by_cases d : j = i
          · subst d; exact ⟨x, N x, hx, by omega, by rw [b1'.1]; exact e⟩
          · exact ⟨z, j, hz, by omega, by rw [(b4 j hj d).1]; exact e⟩
        · obtain ⟨o1, o2, o3, o4⟩ := eo z hz zx zp zy
          exact ⟨z, j, hz, by omega, by rw [o2]; exact e⟩
end
end
section
section
variable {N N' : Nat → Nat} {K V C K' V' C' : Nat → Nat → Nat} {r r' : Nat} {T T' : Nat → Prop} {lv lo hi lv' lo' hi' : Nat → Nat} {M : Nat → Option Nat}
/-- x = child i of p takes up the separator and y = child i + 1 -/
theorem tr_melt (h : tr_ok N K C r T lv lo hi) (m : tr_mp N K V T M) {p i x y : Nat} (hp : T p) (lp : 0 < lv p) (ip : i < N p) (ex : C p i = x) (ey : C p (i + 1) = y) (nn : N x + 1 + N y ≤ 5) (np : p ≠ r → 2 ≤ N p)
    (a1 : N' x = N x + 1 + N y) (a3 : N' p = N p - 1)
    (b1 : ∀ j, j < N x → K' x j = K x j ∧ V' x j = V x j) (b1' : K' x (N x) = K p i ∧ V' x (N x) = V p i) (b2 : ∀ j, j < N y → K' x (N x + 1 + j) = K y j ∧ V' x (N x + 1 + j) = V y j)
    (b3 : tr_delF (N p) (K p) (K' p) i) (b4 : tr_delF (N p) (V p) (V' p) i)
    (c1 : ∀ j, j ≤ N x → C' x j = C x j) (c1' : 0 < lv x → ∀ j, j ≤ N y → C' x (N x + 1 + j) = C y j) (c3 : tr_delF (N p + 1) (C p) (C' p) (i + 1))
    (eo : ∀ z, T z → z ≠ x → z ≠ p → z ≠ y → N' z = N z ∧ K' z = K z ∧ V' z = V z ∧ C' z = C z) :
    tr_ok N' K' C' r (fun z => T z ∧ z ≠ y) lv lo (tr_up hi x (hi y)) ∧ tr_mp N' K' V' (fun z => T z ∧ z ≠ y) M := by
  have hh := h
  obtain ⟨h0, h1, h2, h3, h4, h5, h6⟩ := h
  obtain ⟨hx, x1, x2, x3⟩ := h5 p i hp lp (by omega)
  obtain ⟨hy, y1, y2, y3⟩ := h5 p (i + 1) hp lp ip
  rw [ex] at hx x1 x2 x3
  rw [ey] at hy y1 y2 y3
  have px : p ≠ x := by intro e; rw [e] at x1; omega
  have py : p ≠ y := by intro e; rw [e] at y1; omega
  have xy : x ≠ y := by
    intro e
    have := tr_par hh hp hp lp lp (i := i + 1) (j := i) (by omega) (by omega) (by rw [ex, ey, e])
    omega
  have lx := tr_lcOf hh hx
  have ly := tr_lcOf hh hy
  have pr1 := h1 p hp
  have xr : x ≠ r := by intro e; rw [e] at x1; omega
  have yr : y ≠ r := by intro e; rw [e] at y1; omega
  have y2' : lo y = K p i + 1 := by rw [y2]; unfold tr_lb; rw [if_neg (by omega), Nat.add_sub_cancel]
  have x3' : hi x = K p i := by rw [x3]; unfold tr_ub; rw [if_neg (by omega)]
  have nx1 := (lx.1.2.2.2 xr).1
  have ny1 := (ly.1.2.2.2 yr).1
  have k0 := h2 y 0 hy (by omega)
  have kx := h2 x 0 hx (by omega)
  have UH : ∀ z, z ≠ x → tr_up hi x (hi y) z = hi z := fun z e => tr_upN e
  have chx : ∀ q j, T q → 0 < lv q → j ≤ N q → (q ≠ p ∨ j ≠ i) → C q j ≠ x := by
    intro q j hq lq jq hn e
    have := tr_par hh hq hp lq lp jq (show i ≤ N p by omega) (e.trans ex.symm)
    rcases hn with z | z
    · exact z this.1
    · exact z this.2
  have chy : ∀ q j, T q → 0 < lv q → j ≤ N q → (q ≠ p ∨ j ≠ i + 1) → C q j ≠ y := by
    intro q j hq lq jq hn e
    have := tr_par hh hq hp lq lp jq (show i + 1 ≤ N p by omega) (e.trans ey.symm)
    rcases hn with z | z
    · exact z this.1
    · exact z this.2
  have hlx : lv x = lv y := by omega
  have ub5 := lx.1.2.1
  -- a key of the new x
  have KX : ∀ j, j < N' x → (j < N x ∧ K' x j = K x j ∧ V' x j = V x j) ∨ (j = N x ∧ K' x j = K p i ∧ V' x j = V p i) ∨ ∃ u, u < N y ∧ j = N x + 1 + u ∧ K' x j = K y u ∧ V' x j = V y u := by
    intro j hj
    rcases Nat.lt_trichotomy j (N x) with d | d | d
    · exact Or.inl ⟨d, b1 j d⟩
    · exact Or.inr (Or.inl ⟨d, by rw [d]; exact b1'⟩)
    · have := b2 (j - (N x + 1)) (by omega)
      rw [show N x + 1 + (j - (N x + 1)) = j by omega] at this
      exact Or.inr (Or.inr ⟨j - (N x + 1), by omega, by omega, this⟩)
  refine ⟨tr_okOf ⟨⟨h0.1, fun e => yr e.symm⟩, h0.2.1, by rw [UH r (fun e => xr e.symm)]; exact h0.2.2.1, h0.2.2.2⟩ ?_ ?_, ?_, ?_⟩
  · intro z hz
    obtain ⟨hz, zy⟩ := hz
    have l := tr_lcOf hh hz
    by_cases zx : z = x
    · subst zx
      refine ⟨⟨l.1.1, by omega, l.1.2.2.1, fun e => ⟨by omega, (l.1.2.2.2 e).2⟩⟩, ?_, ?_, ?_, ?_⟩
      · intro j hj
        rw [tr_upS]
        rcases KX j hj with ⟨d, e, _⟩ | ⟨d, e, _⟩ | ⟨u, d, _, e, _⟩
        · have := l.2.1 j d
          rw [e]; exact ⟨this.1, by omega⟩
        · rw [e]; exact ⟨by omega, by omega⟩
        · have := ly.2.1 u d
          rw [e]; exact ⟨by omega, this.2⟩
      · intro u v huv hv
        rcases KX u (by omega) with ⟨d, e, _⟩ | ⟨d, e, _⟩ | ⟨w, d, f, e, _⟩
        · have g := l.2.1 u d
          rcases KX v hv with ⟨d', e', _⟩ | ⟨d', e', _⟩ | ⟨w', d', f', e', _⟩
          · rw [e, e']; exact h3 z u v hz huv d'
          · rw [e, e']; omega
          · have := ly.2.1 w' d'
            rw [e, e']; omega
        · rcases KX v hv with ⟨d', e', _⟩ | ⟨d', e', _⟩ | ⟨w', d', f', e', _⟩
          · omega
          · omega
          · have := ly.2.1 w' d'
            rw [e, e']; omega
        · rcases KX v hv with ⟨d', e', _⟩ | ⟨d', e', _⟩ | ⟨w', d', f', e', _⟩
          · omega
          · omega
          · rw [e, e']; exact h3 y w w' hy (by omega) d'
      · rw [c1 0 (by omega)]; exact l.2.2.2.1
      · intro j a b
        rw [a1] at b
        rcases Nat.lt_or_ge (N z) j with d | d
        · obtain ⟨u, hu⟩ : ∃ u, j = N z + 1 + u := ⟨j - (N z + 1), by omega⟩
          subst hu
          obtain ⟨t, q1, q2, q3⟩ := h5 y u hy (by omega) (by omega)
          have cx := chx y u hy (by omega) (by omega) (Or.inl (fun e => py e.symm))
          have cy := chy y u hy (by omega) (by omega) (Or.inl (fun e => py e.symm))
          rw [c1' a u (by omega), UH _ cx]
          refine ⟨⟨t, cy⟩, by omega, ?_, ?_⟩
          · rw [q2]
            unfold tr_lb
            rw [if_neg (show ¬ N z + 1 + u = 0 by omega)]
            by_cases e : u = 0
            · subst e; rw [if_pos rfl, show N z + 1 + 0 - 1 = N z by omega, b1'.1]; exact y2'
            · rw [if_neg e, show N z + 1 + u - 1 = N z + 1 + (u - 1) by omega, (b2 (u - 1) (by omega)).1]
          · rw [q3]
            unfold tr_ub
            rw [a1, tr_upS]
            by_cases e : u = N y
            · rw [if_pos e, if_pos (by omega)]
            · rw [if_neg e, if_neg (by omega), (b2 u (by omega)).1]
        · obtain ⟨t, q1, q2, q3⟩ := h5 z j hx a d
          have cx := chx z j hx a d (Or.inl (fun e => px e.symm))
          have cy := chy z j hx a d (Or.inl (fun e => px e.symm))
          rw [c1 j d, UH _ cx]
          refine ⟨⟨t, cy⟩, q1, ?_, ?_⟩
          · rw [q2]
            unfold tr_lb
            by_cases e : j = 0
            · rw [if_pos e, if_pos e]
            · rw [if_neg e, if_neg e, (b1 (j - 1) (by omega)).1]
          · rw [q3]
            unfold tr_ub
            rw [a1, if_neg (show ¬ j = N z + 1 + N y by omega)]
            by_cases e : j = N z
            · rw [if_pos e, e, b1'.1]; exact x3'
            · rw [if_neg e, (b1 j (by omega)).1]
    · by_cases zp : z = p
      · subst zp
        refine ⟨⟨l.1.1, by have := l.1.2.1; omega, l.1.2.2.1, fun e => ⟨by have := np e; omega, (l.1.2.2.2 e).2⟩⟩, ?_, ?_, ?_, ?_⟩
        · rw [a3, UH z zx]; exact tr_delIn (P := fun q => lo z ≤ q ∧ q < hi z) b3 l.2.1
        · rw [a3]; exact tr_delSort b3 l.2.2.1
        · rw [c3.1 0 (by omega)]; exact l.2.2.2.1
        · intro j a b
          rw [a3] at b
          rcases Nat.lt_trichotomy j i with d | d | d
          · obtain ⟨t, q1, q2, q3⟩ := h5 z j hz a (by omega)
            rw [c3.1 j (by omega), UH _ (chx z j hz a (by omega) (Or.inr (by omega)))]
            refine ⟨⟨t, chy z j hz a (by omega) (Or.inr (by omega))⟩, q1, ?_, ?_⟩
            · rw [q2]
              unfold tr_lb
              by_cases e : j = 0
              · rw [if_pos e, if_pos e]
              · rw [if_neg e, if_neg e, b3.1 (j - 1) (by omega)]
            · rw [q3]
              unfold tr_ub
              rw [a3, if_neg (by omega), if_neg (by omega), b3.1 j d]
          · subst d
            rw [c3.1 j (by omega), ex, tr_upS]
            refine ⟨⟨hx, xy⟩, x1, ?_, ?_⟩
            · rw [x2]
              unfold tr_lb
              by_cases e : j = 0
              · rw [if_pos e, if_pos e]
              · rw [if_neg e, if_neg e, b3.1 (j - 1) (by omega)]
            · refine y3.trans ?_
              unfold tr_ub
              rw [a3, UH z zx]
              by_cases e : j + 1 = N z
              · rw [if_pos e, if_pos (by omega)]
              · rw [if_neg e, if_neg (by omega), b3.2 j (by omega) (by omega)]
          · obtain ⟨t, q1, q2, q3⟩ := h5 z (j + 1) hz a (by omega)
            rw [c3.2 j (by omega) (by omega), UH _ (chx z (j + 1) hz a (by omega) (Or.inr (by omega)))]
            refine ⟨⟨t, chy z (j + 1) hz a (by omega) (Or.inr (by omega))⟩, q1, ?_, ?_⟩
            · rw [q2]
              unfold tr_lb
              rw [if_neg (by omega), if_neg (by omega), b3.2 (j - 1) (by omega) (by omega), Nat.add_sub_cancel, show j - 1 + 1 = j by omega]
            · rw [q3]
              unfold tr_ub
              rw [a3, UH z zx]
              by_cases e : j + 1 = N z
              · rw [if_pos e, if_pos (by omega)]
              · rw [if_neg e, if_neg (by omega), b3.2 j (by omega) (by omega)]
      · obtain ⟨o1, o2, o3, o4⟩ := eo z hz zx zp zy
        refine tr_lcKeep l o1 o2 (by rw [o4]) rfl rfl (UH z zx) ⟨l.1.2.2.1, l.1.2.2.2⟩ ?_
        intro j a b
        obtain ⟨t, q1, q2, q3⟩ := h5 z j hz a b
        rw [o4, UH _ (chx z j hz a b (Or.inl zp))]
        exact ⟨⟨t, chy z j hz a b (Or.inl zp)⟩, rfl, rfl, rfl⟩
  · intro z hz zr
    obtain ⟨hz, zy⟩ := hz
    obtain ⟨q, j, a, b, c, d⟩ := h6 z hz zr
    by_cases qx : q = x
    · subst qx
      exact ⟨q, j, ⟨a, xy⟩, b, by omega, by rw [c1 j c]; exact d⟩
    · by_cases qy : q = y
      · subst qy
        exact ⟨x, N x + 1 + j, ⟨hx, xy⟩, by omega, by omega, by rw [c1' (by omega) j c]; exact d⟩
      · by_cases qp : q = p
        · subst qp
          rcases Nat.lt_trichotomy j (i + 1) with e | e | e
          · exact ⟨q, j, ⟨a, py⟩, b, by omega, by rw [c3.1 j e]; exact d⟩
          · subst e; rw [ey] at d; exact absurd d.symm zy
          · refine ⟨q, j - 1, ⟨a, py⟩, b, by omega, ?_⟩
            rw [c3.2 (j - 1) (by omega) (by omega), show j - 1 + 1 = j by omega]; exact d
        · obtain ⟨o1, o2, o3, o4⟩ := eo q a qx qp qy
          exact ⟨q, j, ⟨a, qy⟩, b, by omega, by rw [o4]; exact d⟩
  · intro z j hz hj
    obtain ⟨hz, zy⟩ := hz
    by_cases zx : z = x
    · subst zx
      rcases KX j hj with ⟨d, e, f⟩ | ⟨d, e, f⟩ | ⟨u, d, _, e, f⟩
      · rw [e, f]; exact m.1 z j hz d
      · rw [e, f]; exact m.1 p i hp ip
      · rw [e, f]; exact m.1 y u hy d
    · by_cases zp : z = p
      · subst zp
        rw [a3] at hj
        rcases Nat.lt_or_ge j i with d | d
        · rw [b3.1 j d, b4.1 j d]; exact m.1 z j hz (by omega)
        · rw [b3.2 j d (by omega), b4.2 j d (by omega)]; exact m.1 z _ hz (by omega)
      · obtain ⟨o1, o2, o3, o4⟩ := eo z hz zx zp zy
        rw [o1] at hj
        rw [o2, o3]; exact m.1 z j hz hj
  · intro k v hk
    obtain ⟨z, j, hz, hj, e⟩ := m.2 k v hk
    by_cases zx : z = x
    · subst zx
      exact ⟨z, j, ⟨hz, xy⟩, by omega, by rw [(b1 j hj).1]; exact e⟩
    · by_cases zy : z = y
      · subst zy
        exact ⟨x, N x + 1 + j, ⟨hx, xy⟩, by omega, by rw [(b2 j hj).1]; exact e⟩
      · by_cases zp : z = p
        · subst zp
          rcases Nat.lt_trichotomy j i with d | d | d
          · exact ⟨z, j, ⟨hz, py⟩, by omega, by rw [b3.1 j d]; exact e⟩
          · subst d; exact ⟨x, N x, ⟨hx, xy⟩, by omega, by rw [b1'.1]; exact e⟩
          · refine ⟨z, j - 1, ⟨hz, py⟩, by omega, ?_⟩
            rw [b3.2 (j - 1) (by omega) (by omega), show j - 1 + 1 = j by omega]; exact e
        · obtain ⟨o1, o2, o3, o4⟩ := eo z hz zx zp zy
          exact ⟨z, j, ⟨hz, zy⟩, by omega, by rw [o2]; exact e⟩
end
end
section
/-! the arrays of the object against a page store -/
def pg_I (c : Nat) : Int32 := (nI c).toInt8.toInt32
def ph_u2 (f : Nat → Nat → Nat) (x i v : Nat) : Nat → Nat → Nat := tr_up f x (tr_up (f x) i v)
def ph_ok (a1 a2 a3 a4 : Nat → Int32) (N : Nat → Nat) (K V C : Nat → Nat → Nat) : Prop :=
  (∀ x, x < 110 → a1 x = nI (N x) ∧ N x ≤ 5) ∧
  (∀ x i, x < 110 → i < 5 → a2 (5 * x + i) = nI (K x i) ∧ a3 (5 * x + i) = nI (V x i) ∧ K x i < 32768 ∧ V x i < 32768) ∧
  (∀ x i, x < 110 → i < 6 → a4 (6 * x + i) = pg_I (C x i))
def ph_fr (a5 : Nat → Int32) (fr : Nat → Prop) : Prop := ∀ x, x < 110 → (fr x ∧ a5 x = 1) ∨ (¬ fr x ∧ a5 x = 0)
theorem ph_s16 {k : Nat} (h : k < 32768) : (nI k).toInt16.toInt32 = nI k := by
  apply Int32.toInt_inj.mp
  rw [Int16.toInt_toInt32, Int32.toInt_toInt16, nI_toInt (by omega)]
  simp only [Int.bmod]
  omega
theorem ph_s8 {k : Nat} (h : k < 128) : pg_I k = nI k := by
  apply Int32.toInt_inj.mp
  unfold pg_I
  rw [Int8.toInt_toInt32, Int32.toInt_toInt8, nI_toInt (by omega)]
  simp only [Int.bmod]
  omega
theorem ph_n16 {k : Nat} (h : k < 32768) : vp_nar .short (nI k) = nI k := by rw [vp_nar_short, ph_s16 h]
theorem ph_n8 (c : Nat) : vp_nar .byte (pg_I c) = pg_I c := pk_vb _
theorem ph_n8n {k : Nat} (h : k < 128) : vp_nar .byte (nI k) = nI k := by rw [← ph_s8 h, ph_n8]
theorem ph_t8 (c : Nat) : (pg_I c).toInt8.toInt32 = pg_I c := by rw [← vp_nar_byte, ph_n8]
theorem ph_t8n {k : Nat} (h : k < 128) : (nI k).toInt8.toInt32 = pg_I k := rfl
theorem ph_255 : pg_I 255 = -1 := by decide
theorem ph_b0 : vp_nar .boolean 0 = 0 := by decide
theorem ph_b1 : vp_nar .boolean 1 = 1 := by decide
theorem ph_i5 (x i : Nat) : 5 * nI x + nI i = nI (5 * x + i) := by
  rw [show (5 : Int32) = nI 5 from rfl, pk_mul, nI_add]
theorem ph_i6 (x i : Nat) : 6 * nI x + nI i = nI (6 * x + i) := by
  rw [show (6 : Int32) = nI 6 from rfl, pk_mul, nI_add]
theorem ph_i60 (x : Nat) : 6 * nI x = nI (6 * x + 0) := by
  rw [show (6 : Int32) = nI 6 from rfl, pk_mul]
  rfl
theorem ph_c5 {x i : Nat} (hx : x < 110) (hi : i < 6) : (5 * nI x + nI i).toNatClampNeg = 5 * x + i := by
  rw [ph_i5]; exact nI_clamp (by omega)
theorem ph_c6 {x i : Nat} (hx : x < 110) (hi : i < 7) : (6 * nI x + nI i).toNatClampNeg = 6 * x + i := by
  rw [ph_i6]; exact nI_clamp (by omega)
theorem ph_c60 {x : Nat} (hx : x < 110) : (6 * nI x).toNatClampNeg = 6 * x + 0 := by
  rw [ph_i60]; exact nI_clamp (by omega)
theorem ph_cn {x : Nat} (hx : x < 5000) : (nI x).toNatClampNeg = x := nI_clamp (by omega)
theorem ph_in5 {x i : Nat} (hx : x < 110) (hi : i < 5) : vp_in (5 * nI x + nI i) 550 := pk_in (5 * x + i) 550 (by omega) (ph_i5 x i)
theorem ph_in6 {x i : Nat} (hx : x < 110) (hi : i < 6) : vp_in (6 * nI x + nI i) 660 := pk_in (6 * x + i) 660 (by omega) (ph_i6 x i)
theorem ph_in60 {x : Nat} (hx : x < 110) : vp_in (6 * nI x) 660 := pk_in (6 * x + 0) 660 (by omega) (ph_i60 x)
theorem ph_u2S {f : Nat → Nat → Nat} {x i v : Nat} : ph_u2 f x i v x i = v := by unfold ph_u2; rw [tr_upS, tr_upS]
theorem ph_u2N {f : Nat → Nat → Nat} {x i v y : Nat} (h : y ≠ x) : ph_u2 f x i v y = f y := by unfold ph_u2; rw [tr_upN h]
theorem ph_u2J {f : Nat → Nat → Nat} {x i v j : Nat} (h : j ≠ i) : ph_u2 f x i v x j = f x j := by unfold ph_u2; rw [tr_upS, tr_upN h]
theorem ph_u2A {f : Nat → Nat → Nat} {x i v y j : Nat} (h : y ≠ x ∨ j ≠ i) : ph_u2 f x i v y j = f y j := by
  by_cases e : y = x
  · subst e
    rcases h with z | z
    · exact absurd rfl z
    · exact ph_u2J z
  · rw [ph_u2N e]
section
variable {a1 a2 a3 a4 a5 : Nat → Int32} {N : Nat → Nat} {K V C : Nat → Nat → Nat} {fr : Nat → Prop}
theorem ph_rN (h : ph_ok a1 a2 a3 a4 N K V C) {x : Nat} (hx : x < 110) : a1 (nI x).toNatClampNeg = nI (N x) := by
  rw [ph_cn (by omega)]; exact (h.1 x hx).1
theorem ph_rK (h : ph_ok a1 a2 a3 a4 N K V C) {x i : Nat} (hx : x < 110) (hi : i < 5) : a2 (5 * nI x + nI i).toNatClampNeg = nI (K x i) := by
  rw [ph_c5 hx (by omega)]; exact (h.2.1 x i hx hi).1
theorem ph_rV (h : ph_ok a1 a2 a3 a4 N K V C) {x i : Nat} (hx : x < 110) (hi : i < 5) : a3 (5 * nI x + nI i).toNatClampNeg = nI (V x i) := by
  rw [ph_c5 hx (by omega)]; exact (h.2.1 x i hx hi).2.1
theorem ph_rC (h : ph_ok a1 a2 a3 a4 N K V C) {x i : Nat} (hx : x < 110) (hi : i < 6) : a4 (6 * nI x + nI i).toNatClampNeg = pg_I (C x i) := by
  rw [ph_c6 hx (by omega)]; exact h.2.2 x i hx hi
theorem ph_rC0 (h : ph_ok a1 a2 a3 a4 N K V C) {x : Nat} (hx : x < 110) : a4 (6 * nI x).toNatClampNeg = pg_I (C x 0) := by
  rw [ph_c60 hx]; exact h.2.2 x 0 hx (by omega)
theorem ph_rCn (h : ph_ok a1 a2 a3 a4 N K V C) {x i : Nat} (hx : x < 110) (hi : i < 6) (hc : C x i < 110) : a4 (6 * nI x + nI i).toNatClampNeg = nI (C x i) := by
  rw [ph_rC h hx hi, ph_s8 (by omega)]
theorem ph_wN (h : ph_ok a1 a2 a3 a4 N K V C) {x n : Nat} (hx : x < 110) (hn : n ≤ 5) : ph_ok (upd a1 x (nI n)) a2 a3 a4 (tr_up N x n) K V C := by
  refine ⟨fun y hy => ?_, h.2.1, h.2.2⟩
  by_cases e : y = x
  · subst e; rw [pk_us, tr_upS]; exact ⟨rfl, hn⟩
  · rw [pk_un e, tr_upN e]; exact h.1 y hy
theorem ph_wK (h : ph_ok a1 a2 a3 a4 N K V C) {x i k : Nat} (hx : x < 110) (hi : i < 5) (hk : k < 32768) : ph_ok a1 (upd a2 (5 * x + i) (nI k)) a3 a4 N (ph_u2 K x i k) V C := by
  refine ⟨h.1, fun y j hy hj => ?_, h.2.2⟩
  by_cases e : y = x ∧ j = i
  · obtain ⟨e1, e2⟩ := e
    subst e1; subst e2
    rw [pk_us, ph_u2S]; exact ⟨rfl, (h.2.1 y j hy hj).2.1, hk, (h.2.1 y j hy hj).2.2.2⟩
  · rw [pk_un (by omega), ph_u2A (by omega)]; exact h.2.1 y j hy hj
theorem ph_wV (h : ph_ok a1 a2 a3 a4 N K V C) {x i v : Nat} (hx : x < 110) (hi : i < 5) (hv : v < 32768) : ph_ok a1 a2 (upd a3 (5 * x + i) (nI v)) a4 N K (ph_u2 V x i v) C := by
  refine ⟨h.1, fun y j hy hj => ?_, h.2.2⟩
  by_cases e : y = x ∧ j = i
  · obtain ⟨e1, e2⟩ := e
    subst e1; subst e2
    rw [pk_us, ph_u2S]; exact ⟨(h.2.1 y j hy hj).1, rfl, (h.2.1 y j hy hj).2.2.1, hv⟩
  · rw [pk_un (by omega), ph_u2A (by omega)]; exact h.2.1 y j hy hj
theorem ph_wC (h : ph_ok a1 a2 a3 a4 N K V C) {x i c : Nat} (hx : x < 110) (hi : i < 6) : ph_ok a1 a2 a3 (upd a4 (6 * x + i) (pg_I c)) N K V (ph_u2 C x i c) := by
  refine ⟨h.1, h.2.1, fun y j hy hj => ?_⟩
  by_cases e : y = x ∧ j = i
  · obtain ⟨e1, e2⟩ := e
    subst e1; subst e2
    rw [pk_us, ph_u2S]
  · rw [pk_un (by omega), ph_u2A (by omega)]; exact h.2.2 y j hy hj
theorem ph_frSet (h : ph_fr a5 fr) (x : Nat) : ph_fr (upd a5 x 1) (fun y => y = x ∨ fr y) := by
  intro y hy
  by_cases e : y = x
  · subst e; rw [pk_us]; exact Or.inl ⟨Or.inl rfl, rfl⟩
  · rw [pk_un e]
    rcases h y hy with ⟨a, b⟩ | ⟨a, b⟩
    · exact Or.inl ⟨Or.inr a, b⟩
    · exact Or.inr ⟨fun z => z.elim e a, b⟩
theorem ph_frClr (h : ph_fr a5 fr) (x : Nat) : ph_fr (upd a5 x 0) (fun y => fr y ∧ y ≠ x) := by
  intro y hy
  by_cases e : y = x
  · subst e; rw [pk_us]; exact Or.inr ⟨fun z => z.2 rfl, rfl⟩
  · rw [pk_un e]
    rcases h y hy with ⟨a, b⟩ | ⟨a, b⟩
    · exact Or.inl ⟨⟨a, e⟩, b⟩
    · exact Or.inr ⟨fun z => a z.1, b⟩
end
end
section
/-! isLeaf, pushWay, find, get's base -/
def pt_ok (N : Nat → Nat) (C : Nat → Nat → Nat) (r : Nat) (T : Nat → Prop) (lv : Nat → Nat) (n : Nat) (wp wi : Nat → Nat) : Prop :=
  (∀ j, j < n → T (wp j) ∧ lv (wp j) + j = lv r ∧ wi j ≤ N (wp j)) ∧ (0 < n → wp 0 = r) ∧ (∀ j, j + 1 < n → C (wp j) (wi j) = wp (j + 1))
def pt_nx (C : Nat → Nat → Nat) (r n : Nat) (wp wi : Nat → Nat) (x : Nat) : Prop := (n = 0 → x = r) ∧ (0 < n → C (wp (n - 1)) (wi (n - 1)) = x)
def pt_ar (a12 a13 : Nat → Int32) (n : Nat) (wp wi : Nat → Nat) : Prop := ∀ j, j < n → a12 j = nI (wp j) ∧ a13 j = nI (wi j)
theorem pt_idx (n : Nat) (f : Nat → Nat) (k : Nat) : ∃ i, i ≤ n ∧ (∀ j, j < i → f j < k) ∧ (i < n → k ≤ f i) := by
  induction n with
  | zero => exact ⟨0, by omega, fun j hj => absurd hj (by omega), fun h => absurd h (by omega)⟩
  | succ n ih =>
    obtain ⟨i, a, b, c⟩ := ih
    by_cases e : i < n
    · exact ⟨i, by omega, b, fun _ => c e⟩
    · by_cases d : f i < k
      · refine ⟨i + 1, by omega, fun j hj => ?_, fun h => absurd h (by omega)⟩
        by_cases q : j = i
        · subst q; exact d
        · exact b j (by omega)
      · exact ⟨i, by omega, b, fun _ => by omega⟩
section
variable {rt we wt : Int32} {a1 a2 a3 a4 a5 a6 a7 a8 a9 a10 a11 a12 a13 a14 : Nat → Int32} {N : Nat → Nat} {K V C : Nat → Nat → Nat} {r : Nat} {T : Nat → Prop} {lv lo hi : Nat → Nat} {M : Nat → Option Nat}
theorem pt_ext {n x : Nat} {wp wi : Nat → Nat} (h : pt_ok N C r T lv n wp wi) (nx : pt_nx C r n wp wi x) (hx : T x) (hl : lv x + n = lv r) {i : Nat} (hi : i ≤ N x) : pt_ok N C r T lv (n + 1) (tr_up wp n x) (tr_up wi n i) := by
  refine ⟨fun j hj => ?_, fun _ => ?_, fun j hj => ?_⟩
  · by_cases e : j = n
    · subst e; rw [tr_upS, tr_upS]; exact ⟨hx, hl, hi⟩
    · rw [tr_upN e, tr_upN e]; exact h.1 j (by omega)
  · by_cases e : n = 0
    · subst e; rw [tr_upS]; exact nx.1 rfl
    · rw [tr_upN (by omega)]; exact h.2.1 (by omega)
  · by_cases e : j + 1 = n
    · subst e
      rw [tr_upN (by omega), tr_upN (by omega), tr_upS]
      exact nx.2 (by omega)
    · rw [tr_upN (by omega), tr_upN (by omega), tr_upN e]; exact h.2.2 j (by omega)
theorem pt_nxE {n x : Nat} {wp wi : Nat → Nat} {i : Nat} : pt_nx C r (n + 1) (tr_up wp n x) (tr_up wi n i) (C x i) :=
  ⟨fun z => absurd z (by omega), fun _ => by rw [Nat.add_sub_cancel, tr_upS, tr_upS]⟩
theorem pt_arE {n x i : Nat} {wp wi : Nat → Nat} (h : pt_ar a12 a13 n wp wi) : pt_ar (upd a12 n (nI x)) (upd a13 n (nI i)) (n + 1) (tr_up wp n x) (tr_up wi n i) := by
  intro j hj
  by_cases e : j = n
  · subst e; rw [pk_us, pk_us, tr_upS, tr_upS]; exact ⟨rfl, rfl⟩
  · rw [pk_un e, pk_un e, tr_upN e, tr_upN e]; exact h j (by omega)
theorem wk_leaf {post : Int32 → Prop} (h : ph_ok a1 a2 a3 a4 N K V C) {x : Nat} (hx : x < 110) (c : C x 0 < 110 ∨ C x 0 = 255) (ht : C x 0 = 255 → post 1) (hf : C x 0 ≠ 255 → post 0) : wpX_isLeaf post (rt, we, wt, a1, a2, a3, a4, a5, a6, a7, a8, a9, a10, a11, a12, a13, a14) (nI x) := by
  refine ⟨ph_in60 hx, ?_⟩
  rw [ph_rC0 h hx]
  rcases c with c | c
  · refine br_t ?_ (hf (by omega))
    rw [ph_s8 (by omega)]; exact nI_pos' (by omega)
  · refine br_f ?_ (ht c)
    rw [c, ph_255]; decide
theorem wk_push {post : St1 → Prop} {n x i : Nat} (hn : n < 8) (hx : x < 128) (hi : i < 128) (H : post (rt, nI (n + 1), wt, a1, a2, a3, a4, a5, a6, a7, a8, a9, a10, a11, upd a12 n (nI x), upd a13 n (nI i), a14)) : wpX_pushWay post (rt, nI n, wt, a1, a2, a3, a4, a5, a6, a7, a8, a9, a10, a11, a12, a13, a14) (nI x) (nI i) := by
  refine ⟨pk_in n 8 hn, nm_r (e' := upd a12 n (nI x)) ?_ ⟨pk_in n 8 hn, nm_r (e' := upd a13 n (nI i)) ?_ (nm_r (nI_1 n) H)⟩⟩
  · rw [ph_cn (by omega), ph_t8n hx, ph_s8 hx]
  · rw [ph_cn (by omega), ph_t8n hi, ph_s8 hi]
theorem tr_c110 (h : tr_ok N K C r T lv lo hi) {x : Nat} (hx : T x) : C x 0 < 110 ∨ C x 0 = 255 := by
  by_cases e : lv x = 0
  · exact Or.inr ((h.2.2.2.2.1 x hx).mpr e)
  · exact Or.inl (h.2.1 _ (h.2.2.2.2.2.1 x 0 hx (by omega) (by omega)).1).1
theorem wk_find16 {post : Int32 → St1 → Prop} {J : Int32 → Int32 → Int32 → Int32 → (Nat → Int32) → (Nat → Int32) → (Nat → Int32) → (Nat → Int32) → (Nat → Int32) → (Nat → Int32) → (Nat → Int32) → (Nat → Int32) → (Nat → Int32) → (Nat → Int32) → (Nat → Int32) → (Nat → Int32) → (Nat → Int32) → (Nat → Int32) → Prop}
    (h : ph_ok a1 a2 a3 a4 N K V C) {x i key : Nat} (hx : x < 110) (i1 : i ≤ N x) (i2 : ∀ j, j < i → K x j < key) (i3 : i < N x → key ≤ K x i) (hk : key < 5000)
    (H : wX_find_46 post J (nI key) (nI x) (nI i) rt we wt a1 a2 a3 a4 a5 a6 a7 a8 a9 a10 a11 a12 a13 a14) : ∃ n, wX_find_16 post J (nI key) (nI x) rt we wt a1 a2 a3 a4 a5 a6 a7 a8 a9 a10 a11 a12 a13 a14 n 0 := by
  have n5 := (h.1 x hx).2
  refine pk_loop (σ := Unit) (fun n i _ => wX_find_16 post J (nI key) (nI x) rt we wt a1 a2 a3 a4 a5 a6 a7 a8 a9 a10 a11 a12 a13 a14 n (nI i)) (fun _ _ => True) i 0 () (by omega) trivial ?_ ?_
  · intro n _ _
    refine ⟨pk_in x 110 hx, pk_le (N x) i (fun _ => H) (fun z => ⟨ph_in5 hx (by omega), ?_⟩) (ph_rN h hx)⟩
    have b := h.2.1 x i hx (by omega)
    exact pk_le key (K x i) (fun _ => H) (fun q => absurd (i3 z) (by omega)) rfl (ph_rK h hx (by omega))
  · intro n j _ hj _ hw
    refine ⟨pk_in x 110 hx, pk_le (N x) j (fun z => absurd z (by omega)) (fun z => ⟨ph_in5 hx (by omega), ?_⟩) (ph_rN h hx)⟩
    have b := h.2.1 x j hx (by omega)
    exact pk_le key (K x j) (fun q => absurd (i2 j hj) (by omega)) (fun q => nm_r (nI_1 j) (hw () trivial)) rfl (ph_rK h hx (by omega))
theorem wk_find10 {post : Int32 → St1 → Prop} (hp : ph_ok a1 a2 a3 a4 N K V C) (h : tr_ok N K C r T lv lo hi) {key : Nat} (hk : key < 4096)
    (H1 : ∀ n wp wi b12 b13, pt_ok N C r T lv n wp wi → 0 < n → n ≤ 8 → pt_ar b12 b13 n wp wi → wi (n - 1) < N (wp (n - 1)) → K (wp (n - 1)) (wi (n - 1)) = key → post 1 (rt, nI n, wt, a1, a2, a3, a4, a5, a6, a7, a8, a9, a10, a11, b12, b13, a14))
    (H0 : ∀ n wp wi b12 b13, pt_ok N C r T lv n wp wi → 0 < n → n ≤ 8 → pt_ar b12 b13 n wp wi → lv (wp (n - 1)) = 0 → lo (wp (n - 1)) ≤ key → key < hi (wp (n - 1)) →
      (∀ j, j < wi (n - 1) → K (wp (n - 1)) j < key) → (∀ j, wi (n - 1) ≤ j → j < N (wp (n - 1)) → key < K (wp (n - 1)) j) → post 0 (rt, nI n, wt, a1, a2, a3, a4, a5, a6, a7, a8, a9, a10, a11, b12, b13, a14)) :
    ∀ d x n wp wi a12 a13, lv x = d → T x → lo x ≤ key → key < hi x → n + d = lv r → pt_ok N C r T lv n wp wi → pt_nx C r n wp wi x → pt_ar a12 a13 n wp wi →
      wX_find_10 post (nI key) (d + 2) (nI x) rt (nI n) wt a1 a2 a3 a4 a5 a6 a7 a8 a9 a10 a11 a12 a13 a14 := by
  intro d
  have hh := h
  obtain ⟨h0, h1, h2, h3, h4, h5, h6⟩ := h
  induction d with
  | zero =>
    intro x n wp wi a12 a13 ld hx k1 k2 hn po px pa
    have x1 := h1 x hx
    refine br_f (nI_pos (by omega)) ?_
    obtain ⟨i, i1, i2, i3⟩ := pt_idx (N x) (K x) key
    refine wk_find16 hp x1.1 i1 i2 i3 (by omega) ?_
    have pe := pt_ext po px hx (by omega) i1
    have pr := pt_arE (x := x) (i := i) pa
    unfold wX_find_46
    refine wk_push (by omega) (by omega) (by omega) ?_
    have el : wX_find_78 post (wX_find_10 post (nI key) 1) (nI key) (nI x) (nI i) rt (nI (n + 1)) wt a1 a2 a3 a4 a5 a6 a7 a8 a9 a10 a11 (upd a12 n (nI x)) (upd a13 n (nI i)) a14 ∨ (i < N x ∧ K x i = key) := by
      by_cases e : i < N x ∧ K x i = key
      · exact Or.inr e
      · left
        unfold wX_find_78
        refine wk_leaf hp x1.1 (tr_c110 hh hx) (fun _ => br_f (by decide) (br_t (by decide) ?_)) (fun z => absurd ((h4 x hx).mpr ld) z)
        refine H0 (n + 1) _ _ _ _ pe (by omega) (by omega) pr ?_ ?_ ?_ ?_ ?_
        all_goals rw [Nat.add_sub_cancel, tr_upS]
        · exact ld
        · exact k1
        · exact k2
        · rw [tr_upS]; exact i2
        · rw [tr_upS]
          intro j j1 j2
          have : key ≤ K x i := i3 (by omega)
          by_cases q : j = i
          · subst q
            have : K x j ≠ key := fun w => e ⟨j2, w⟩
            omega
          · have := h3 x i j hx (by omega) j2
            omega
    refine ⟨pk_in x 110 x1.1, pk_le (N x) i (fun z => ?_) (fun z => ⟨ph_in5 x1.1 (by omega), ?_⟩) (ph_rN hp x1.1)⟩
    · rcases el with e | e
      · exact e
      · omega
    · have b := hp.2.1 x i x1.1 (by omega)
      refine pk_eq (K x i) key (fun q => ?_) (fun q => ?_) (ph_rK hp x1.1 (by omega))
      · refine H1 (n + 1) _ _ _ _ pe (by omega) (by omega) pr ?_ ?_
        all_goals rw [Nat.add_sub_cancel, tr_upS, tr_upS]
        · exact z
        · exact q
      · rcases el with e | e
        · exact e
        · exact absurd e.2 q
  | succ d ih =>
    intro x n wp wi a12 a13 ld hx k1 k2 hn po px pa
    have x1 := h1 x hx
    refine br_f (nI_pos (by omega)) ?_
    obtain ⟨i, i1, i2, i3⟩ := pt_idx (N x) (K x) key
    refine wk_find16 hp x1.1 i1 i2 i3 (by omega) ?_
    have pe := pt_ext po px hx (by omega) i1
    have pr := pt_arE (x := x) (i := i) pa
    unfold wX_find_46
    refine wk_push (by omega) (by omega) (by omega) ?_
    have el : wX_find_78 post (wX_find_10 post (nI key) (d + 2)) (nI key) (nI x) (nI i) rt (nI (n + 1)) wt a1 a2 a3 a4 a5 a6 a7 a8 a9 a10 a11 (upd a12 n (nI x)) (upd a13 n (nI i)) a14 ∨ (i < N x ∧ K x i = key) := by
      by_cases e : i < N x ∧ K x i = key
      · exact Or.inr e
      · left
        obtain ⟨t, q1, q2, q3⟩ := h5 x i hx (by omega) i1
        have c1 := (h1 _ t).1
        unfold wX_find_78
        refine wk_leaf hp x1.1 (tr_c110 hh hx) (fun z => absurd ((h4 x hx).mp z) (by omega)) (fun _ => br_t rfl ⟨ph_in6 x1.1 (by omega), nm_r (ph_rCn hp x1.1 (by omega) c1) ?_⟩)
        refine ih (C x i) (n + 1) _ _ _ _ (by omega) t ?_ ?_ (by omega) pe pt_nxE pr
        · rw [q2]
          unfold tr_lb
          split
          · exact k1
          · exact i2 (i - 1) (by omega)
        · rw [q3]
          unfold tr_ub
          split
          · exact k2
          · have := i3 (by omega)
            have : K x i ≠ key := fun w => e ⟨by omega, w⟩
            omega
    refine ⟨pk_in x 110 x1.1, pk_le (N x) i (fun z => ?_) (fun z => ⟨ph_in5 x1.1 (by omega), ?_⟩) (ph_rN hp x1.1)⟩
    · rcases el with e | e
      · exact e
      · omega
    · have b := hp.2.1 x i x1.1 (by omega)
      refine pk_eq (K x i) key (fun q => ?_) (fun q => ?_) (ph_rK hp x1.1 (by omega))
      · refine H1 (n + 1) _ _ _ _ pe (by omega) (by omega) pr ?_ ?_
        all_goals rw [Nat.add_sub_cancel, tr_upS, tr_upS]
        · exact z
        · exact q
      · rcases el with e | e
        · exact e
        · exact absurd e.2 q
/-- find, over a tree -/
theorem wk_find {post : Int32 → St1 → Prop} (hp : ph_ok a1 a2 a3 a4 N K V C) (h : tr_ok N K C r T lv lo hi) {key : Nat} (hk : key < 4096) (hr : rt = nI r)
    (H1 : ∀ n wp wi b12 b13, pt_ok N C r T lv n wp wi → 0 < n → n ≤ 8 → pt_ar b12 b13 n wp wi → wi (n - 1) < N (wp (n - 1)) → K (wp (n - 1)) (wi (n - 1)) = key → post 1 (rt, nI n, wt, a1, a2, a3, a4, a5, a6, a7, a8, a9, a10, a11, b12, b13, a14))
    (H0 : ∀ n wp wi b12 b13, pt_ok N C r T lv n wp wi → 0 < n → n ≤ 8 → pt_ar b12 b13 n wp wi → lv (wp (n - 1)) = 0 → lo (wp (n - 1)) ≤ key → key < hi (wp (n - 1)) →
      (∀ j, j < wi (n - 1) → K (wp (n - 1)) j < key) → (∀ j, wi (n - 1) ≤ j → j < N (wp (n - 1)) → key < K (wp (n - 1)) j) → post 0 (rt, nI n, wt, a1, a2, a3, a4, a5, a6, a7, a8, a9, a10, a11, b12, b13, a14)) :
    wpX_find post (rt, we, wt, a1, a2, a3, a4, a5, a6, a7, a8, a9, a10, a11, a12, a13, a14) (nI key) := by
  have := wk_find10 (wt := wt) (a5 := a5) (a6 := a6) (a7 := a7) (a8 := a8) (a9 := a9) (a10 := a10) (a11 := a11) (a14 := a14) hp h hk H1 H0 (lv r) r 0 (fun _ => 0) (fun _ => 0) a12 a13 rfl h.1.1 (by have := h.1; omega) (by have := h.1; omega) (by omega)
    ⟨fun j hj => absurd hj (by omega), fun z => absurd z (by omega), fun j hj => absurd hj (by omega)⟩ ⟨fun _ => rfl, fun z => absurd z (by omega)⟩ (fun j hj => absurd hj (by omega))
  refine ⟨lv r + 2, ?_⟩
  rw [← hr] at this
  exact this
end
end
section
/-! nextKey, lastKey, validPlace -/
theorem ph_i5m {x i : Nat} (hi : 0 < i) : 5 * nI x + nI i - 1 = nI (5 * x + (i - 1)) := by
  rw [ph_i5, show 5 * x + i = (5 * x + (i - 1)) + 1 by omega, nI_pred]
theorem ph_i6m {x i : Nat} (hi : 0 < i) : 6 * nI x + nI i - 1 = nI (6 * x + (i - 1)) := by
  rw [ph_i6, show 6 * x + i = (6 * x + (i - 1)) + 1 by omega, nI_pred]
section
variable {rt we wt : Int32} {a1 a2 a3 a4 a5 a6 a7 a8 a9 a10 a11 a12 a13 a14 : Nat → Int32} {N : Nat → Nat} {K V C : Nat → Nat → Nat} {r : Nat} {T : Nat → Prop} {lv lo hi : Nat → Nat} {M : Nat → Option Nat}
theorem tr_top (h : tr_ok N K C r T lv lo hi) {x : Nat} (hx : T x) : hi x ≤ 4096 := by
  obtain ⟨w, hw, lw, w1, w2, w3⟩ := tr_anc h (lv r - lv x) x hx (by have := h.2.1 x hx; omega)
  clear w3
  have : w = r := by
    rcases Classical.em (w = r) with e | e
    · exact e
    · have := (h.2.1 w hw).2.2.2 e; have := h.2.1 x hx; omega
  subst this
  have := h.1
  omega
theorem tr_k4 (h : tr_ok N K C r T lv lo hi) {x i : Nat} (hx : T x) (hi1 : i < N x) : K x i < 4096 := by
  have := tr_top h hx
  have := h.2.2.1 x i hx hi1
  omega
theorem tr_m4 (h : tr_ok N K C r T lv lo hi) (m : tr_mp N K V T M) {k v : Nat} (hk : M k = some v) : k < 4096 := by
  obtain ⟨x, i, hx, hi1, e⟩ := m.2 k v hk
  have := tr_k4 h hx hi1
  omega
theorem wk_next14 {post : Int32 → Prop} {J : Int32 → Int32 → Prop} {b : Int32} (h : ph_ok a1 a2 a3 a4 N K V C) {x i key : Nat} (hx : x < 110) (i1 : i ≤ N x) (i2 : ∀ j, j < i → K x j < key + 1) (i3 : i < N x → key + 1 ≤ K x i) (hk : key < 5000)
    (H : wX_nextKey_46 post J (nI key) b (nI x) (nI i) rt we wt a1 a2 a3 a4 a5 a6 a7 a8 a9 a10 a11 a12 a13 a14) : ∃ n, wX_nextKey_14 post J (nI key) b (nI x) rt we wt a1 a2 a3 a4 a5 a6 a7 a8 a9 a10 a11 a12 a13 a14 n 0 := by
  have n5 := (h.1 x hx).2
  refine pk_loop (σ := Unit) (fun n i _ => wX_nextKey_14 post J (nI key) b (nI x) rt we wt a1 a2 a3 a4 a5 a6 a7 a8 a9 a10 a11 a12 a13 a14 n (nI i)) (fun _ _ => True) i 0 () (by omega) trivial ?_ ?_
  · intro n _ _
    refine ⟨pk_in x 110 hx, pk_le (N x) i (fun _ => H) (fun z => ⟨ph_in5 hx (by omega), ?_⟩) (ph_rN h hx)⟩
    have b := h.2.1 x i hx (by omega)
    exact pk_lt key (K x i) (fun _ => H) (fun q => absurd (i3 z) (by omega)) rfl (ph_rK h hx (by omega))
  · intro n j _ hj _ hw
    refine ⟨pk_in x 110 hx, pk_le (N x) j (fun z => absurd z (by omega)) (fun z => ⟨ph_in5 hx (by omega), ?_⟩) (ph_rN h hx)⟩
    have b := h.2.1 x j hx (by omega)
    exact pk_lt key (K x j) (fun q => absurd (i2 j hj) (by omega)) (fun q => nm_r (nI_1 j) (hw () trivial)) rfl (ph_rK h hx (by omega))
theorem wk_last14 {post : Int32 → Prop} {J : Int32 → Int32 → Prop} {b : Int32} (h : ph_ok a1 a2 a3 a4 N K V C) {x i key : Nat} (hx : x < 110) (i1 : i ≤ N x) (i2 : ∀ j, j < i → K x j < key + 1) (i3 : i < N x → key + 1 ≤ K x i) (hk : key < 5000)
    (H : wX_lastKey_46 post J (nI key) b (nI x) (nI i) rt we wt a1 a2 a3 a4 a5 a6 a7 a8 a9 a10 a11 a12 a13 a14) : ∃ n, wX_lastKey_14 post J (nI key) b (nI x) rt we wt a1 a2 a3 a4 a5 a6 a7 a8 a9 a10 a11 a12 a13 a14 n 0 := by
  have n5 := (h.1 x hx).2
  refine pk_loop (σ := Unit) (fun n i _ => wX_lastKey_14 post J (nI key) b (nI x) rt we wt a1 a2 a3 a4 a5 a6 a7 a8 a9 a10 a11 a12 a13 a14 n (nI i)) (fun _ _ => True) i 0 () (by omega) trivial ?_ ?_
  · intro n _ _
    refine ⟨pk_in x 110 hx, pk_le (N x) i (fun _ => H) (fun z => ⟨ph_in5 hx (by omega), ?_⟩) (ph_rN h hx)⟩
    have b := h.2.1 x i hx (by omega)
    exact pk_lt key (K x i) (fun _ => H) (fun q => absurd (i3 z) (by omega)) rfl (ph_rK h hx (by omega))
  · intro n j _ hj _ hw
    refine ⟨pk_in x 110 hx, pk_le (N x) j (fun z => absurd z (by omega)) (fun z => ⟨ph_in5 hx (by omega), ?_⟩) (ph_rN h hx)⟩
    have b := h.2.1 x j hx (by omega)
    exact pk_lt key (K x j) (fun q => absurd (i2 j hj) (by omega)) (fun q => nm_r (nI_1 j) (hw () trivial)) rfl (ph_rK h hx (by omega))
/-- what stands between, in a leaf -/
theorem tr_gap (h : tr_ok N K C r T lv lo hi) (m : tr_mp N K V T M) {x i key : Nat} (hx : T x) (hl : lv x = 0) (i1 : i ≤ N x) (i2 : ∀ j, j < i → K x j < key + 1) (i3 : i < N x → key + 1 ≤ K x i) {k v : Nat} (hk : M k = some v) (a : lo x ≤ k) (b : k < hi x) :
    (key < k → i < N x ∧ K x i ≤ k) ∧ (k ≤ key → 0 < i ∧ k ≤ K x (i - 1)) := by
  obtain ⟨j, hj, e, _⟩ := tr_leaf h m hx hl a b hk
  have h3 := h.2.2.2.1
  constructor
  · intro c
    rcases Nat.lt_or_ge j i with d | d
    · have := i2 j d; omega
    · refine ⟨by omega, ?_⟩
      by_cases q : i = j
      · subst q; omega
      · have := h3 x i j hx (by omega) hj; omega
  · intro c
    rcases Nat.lt_or_ge j i with d | d
    · refine ⟨by omega, ?_⟩
      by_cases q : j = i - 1
      · subst q; omega
      · have := h3 x j (i - 1) hx (by omega) (by omega); omega
    · have := i3 (by omega)
      by_cases q : i = j
      · subst q; omega
      · have := h3 x i j hx (by omega) hj; omega
theorem wk_next7 {post : Int32 → Prop} (hp : ph_ok a1 a2 a3 a4 N K V C) (h : tr_ok N K C r T lv lo hi) (m : tr_mp N K V T M) {key : Nat} (hk : key < 4096)
    (HN : (∀ k v, M k = some v → k ≤ key) → post (-1)) (HS : ∀ q v, M q = some v → key < q → q < 4096 → (∀ k w, M k = some w → key < k → q ≤ k) → post (nI q)) :
    ∀ d x b, lv x = d → T x → lo x ≤ key + 1 → key + 1 ≤ hi x → (hi x < 4096 → ∃ v, M (hi x) = some v) → b = (if hi x = 4096 then (-1) else nI (hi x)) →
      wX_nextKey_7 post (nI key) rt we wt a1 a2 a3 a4 a5 a6 a7 a8 a9 a10 a11 a12 a13 a14 (d + 2) b (nI x) := by
  intro d
  have hh := h
  obtain ⟨h0, h1, h2, h3, h4, h5, h6⟩ := h
  induction d with
  | zero =>
    intro x b ld hx k1 k2 hm hb
    have x1 := h1 x hx
    have tp := tr_top hh hx
    refine br_f (nI_pos (by omega)) ?_
    obtain ⟨i, i1, i2, i3⟩ := pt_idx (N x) (K x) (key + 1)
    refine wk_next14 hp x1.1 i1 i2 i3 (by omega) ?_
    have gp := fun {k v : Nat} (q : M k = some v) => tr_gap hh m hx ld i1 i2 i3 q
    have lf : ∀ b', post b' → wX_nextKey_69 post (wX_nextKey_7 post (nI key) rt we wt a1 a2 a3 a4 a5 a6 a7 a8 a9 a10 a11 a12 a13 a14 1) (nI key) b' (nI x) (nI i) rt we wt a1 a2 a3 a4 a5 a6 a7 a8 a9 a10 a11 a12 a13 a14 := by
      intro b' hb'
      unfold wX_nextKey_69
      exact wk_leaf hp x1.1 (tr_c110 hh hx) (fun _ => br_f (by decide) (br_t (by decide) hb')) (fun z => absurd ((h4 x hx).mpr ld) z)
    refine ⟨pk_in x 110 x1.1, pk_le (N x) i (fun z => lf b ?_) (fun z => ⟨ph_in5 x1.1 (by omega), nm_r (ph_rK hp x1.1 (by omega)) (lf _ ?_)⟩) (ph_rN hp x1.1)⟩
    · rw [hb]
      split
      · next e =>
        refine HN (fun k v q => ?_)
        have := tr_m4 hh m q
        rcases Nat.lt_or_ge key k with c | c
        · have := ((gp q) (by omega) (by omega)).1 c; omega
        · exact c
      · next e =>
        obtain ⟨v, hv⟩ := hm (by omega)
        refine HS (hi x) v hv (by omega) (by omega) (fun k w q c => ?_)
        rcases Nat.lt_or_ge k (hi x) with d | d
        · have := ((gp q) (by omega) (by omega)).1 c; omega
        · exact d
    · have kk := h2 x i hx z
      refine HS (K x i) _ (m.1 x i hx z) (i3 z) (by omega) (fun k w q c => ?_)
      rcases Nat.lt_or_ge k (hi x) with d | d
      · exact (((gp q) (by omega) (by omega)).1 c).2
      · omega
  | succ d ih =>
    intro x b ld hx k1 k2 hm hb
    have x1 := h1 x hx
    have tp := tr_top hh hx
    refine br_f (nI_pos (by omega)) ?_
    obtain ⟨i, i1, i2, i3⟩ := pt_idx (N x) (K x) (key + 1)
    refine wk_next14 hp x1.1 i1 i2 i3 (by omega) ?_
    obtain ⟨t, q1, q2, q3⟩ := h5 x i hx (by omega) i1
    have c1 := (h1 _ t).1
    have lo1 : lo (C x i) ≤ key + 1 := by
      rw [q2]
      unfold tr_lb
      split
      · exact k1
      · have := i2 (i - 1) (by omega); omega
    have ds : ∀ b', b' = (if hi (C x i) = 4096 then (-1) else nI (hi (C x i))) → wX_nextKey_69 post (wX_nextKey_7 post (nI key) rt we wt a1 a2 a3 a4 a5 a6 a7 a8 a9 a10 a11 a12 a13 a14 (d + 2)) (nI key) b' (nI x) (nI i) rt we wt a1 a2 a3 a4 a5 a6 a7 a8 a9 a10 a11 a12 a13 a14 := by
      intro b' hb'
      unfold wX_nextKey_69
      refine wk_leaf hp x1.1 (tr_c110 hh hx) (fun z => absurd ((h4 x hx).mp z) (by omega)) (fun _ => br_t rfl ⟨ph_in6 x1.1 (by omega), nm_r (ph_rCn hp x1.1 (by omega) c1) ?_⟩)
      refine ih (C x i) b' (by omega) t lo1 ?_ ?_ hb'
      · rw [q3]
        unfold tr_ub
        split
        · exact k2
        · exact i3 (by omega)
      · rw [q3]
        unfold tr_ub
        split
        · exact hm
        · intro _; exact ⟨_, m.1 x i hx (by omega)⟩
    refine ⟨pk_in x 110 x1.1, pk_le (N x) i (fun z => ds b ?_) (fun z => ⟨ph_in5 x1.1 (by omega), nm_r (ph_rK hp x1.1 (by omega)) (ds _ ?_)⟩) (ph_rN hp x1.1)⟩
    · rw [hb, q3]
      unfold tr_ub
      rw [if_pos (show i = N x by omega)]
    · have kk := tr_k4 hh hx z
      rw [q3]
      unfold tr_ub
      rw [if_neg (show ¬ i = N x by omega), if_neg (show ¬ K x i = 4096 by omega)]
theorem wk_next {post : Int32 → Prop} (hp : ph_ok a1 a2 a3 a4 N K V C) (h : tr_ok N K C r T lv lo hi) (m : tr_mp N K V T M) {key : Nat} (hk : key < 4096) (hr : rt = nI r)
    (HN : (∀ k v, M k = some v → k ≤ key) → post (-1)) (HS : ∀ q v, M q = some v → key < q → q < 4096 → (∀ k w, M k = some w → key < k → q ≤ k) → post (nI q)) :
    wpX_nextKey post (rt, we, wt, a1, a2, a3, a4, a5, a6, a7, a8, a9, a10, a11, a12, a13, a14) (nI key) := by
  have := wk_next7 (rt := rt) (we := we) (wt := wt) (a5 := a5) (a6 := a6) (a7 := a7) (a8 := a8) (a9 := a9) (a10 := a10) (a11 := a11) (a12 := a12) (a13 := a13) (a14 := a14) hp h m hk HN HS (lv r) r (-1) rfl h.1.1 (by have := h.1; omega) (by have := h.1; omega) (fun z => absurd h.1.2.2.1 (by omega)) (by rw [if_pos h.1.2.2.1])
  refine ⟨lv r + 2, ?_⟩
  show wX_nextKey_7 post (nI key) rt we wt a1 a2 a3 a4 a5 a6 a7 a8 a9 a10 a11 a12 a13 a14 (lv r + 2) (-1) rt
  rw [← hr] at this
  exact this
theorem wk_last7 {post : Int32 → Prop} (hp : ph_ok a1 a2 a3 a4 N K V C) (h : tr_ok N K C r T lv lo hi) (m : tr_mp N K V T M) {key : Nat} (hk : key < 4096)
    (HN : (∀ k v, M k = some v → key < k) → post (-1)) (HS : ∀ q v, M q = some v → q ≤ key → (∀ k w, M k = some w → k ≤ key → k ≤ q) → post (nI q)) :
    ∀ d x b, lv x = d → T x → lo x ≤ key + 1 → key + 1 ≤ hi x → (0 < lo x → ∃ v, M (lo x - 1) = some v) → b = (if lo x = 0 then (-1) else nI (lo x - 1)) →
      wX_lastKey_7 post (nI key) rt we wt a1 a2 a3 a4 a5 a6 a7 a8 a9 a10 a11 a12 a13 a14 (d + 2) b (nI x) := by
  intro d
  have hh := h
  obtain ⟨h0, h1, h2, h3, h4, h5, h6⟩ := h
  induction d with
  | zero =>
    intro x b ld hx k1 k2 hm hb
    have x1 := h1 x hx
    refine br_f (nI_pos (by omega)) ?_
    obtain ⟨i, i1, i2, i3⟩ := pt_idx (N x) (K x) (key + 1)
    refine wk_last14 hp x1.1 i1 i2 i3 (by omega) ?_
    have gp := fun {k v : Nat} (q : M k = some v) => tr_gap hh m hx ld i1 i2 i3 q
    have lf : ∀ b', post b' → wX_lastKey_65 post (wX_lastKey_7 post (nI key) rt we wt a1 a2 a3 a4 a5 a6 a7 a8 a9 a10 a11 a12 a13 a14 1) (nI key) b' (nI x) (nI i) rt we wt a1 a2 a3 a4 a5 a6 a7 a8 a9 a10 a11 a12 a13 a14 := by
      intro b' hb'
      unfold wX_lastKey_65
      exact wk_leaf hp x1.1 (tr_c110 hh hx) (fun _ => br_f (by decide) (br_t (by decide) hb')) (fun z => absurd ((h4 x hx).mpr ld) z)
    refine pk_le i 0 (fun z => lf b ?_) (fun z => ⟨pk_in (5 * x + (i - 1)) 550 (by omega) (ph_i5m z), nm_r (e' := nI (K x (i - 1))) ?_ (lf _ ?_)⟩)
    · rw [hb]
      split
      · next e =>
        refine HN (fun k v q => ?_)
        rcases Nat.lt_or_ge key k with c | c
        · exact c
        · have := ((gp q) (by omega) (by omega)).2 c; omega
      · next e =>
        obtain ⟨v, hv⟩ := hm (by omega)
        refine HS (lo x - 1) v hv (by omega) (fun k w q c => ?_)
        rcases Nat.lt_or_ge k (lo x) with d | d
        · omega
        · have := ((gp q) (by omega) (by omega)).2 c; omega
    · rw [ph_i5m z, nI_clamp (by omega)]; exact (hp.2.1 x (i - 1) x1.1 (by omega)).1
    · have kk := h2 x (i - 1) hx (by omega)
      have ii := i2 (i - 1) (by omega)
      refine HS (K x (i - 1)) _ (m.1 x (i - 1) hx (by omega)) (by omega) (fun k w q c => ?_)
      rcases Nat.lt_or_ge k (lo x) with d | d
      · omega
      · exact (((gp q) (by omega) (by omega)).2 c).2
  | succ d ih =>
    intro x b ld hx k1 k2 hm hb
    have x1 := h1 x hx
    refine br_f (nI_pos (by omega)) ?_
    obtain ⟨i, i1, i2, i3⟩ := pt_idx (N x) (K x) (key + 1)
    refine wk_last14 hp x1.1 i1 i2 i3 (by omega) ?_
    obtain ⟨t, q1, q2, q3⟩ := h5 x i hx (by omega) i1
    have c1 := (h1 _ t).1
    have hi1 : key + 1 ≤ hi (C x i) := by
      rw [q3]
      unfold tr_ub
      split
      · exact k2
      · exact i3 (by omega)
    have ds : ∀ b', b' = (if lo (C x i) = 0 then (-1) else nI (lo (C x i) - 1)) → wX_lastKey_65 post (wX_lastKey_7 post (nI key) rt we wt a1 a2 a3 a4 a5 a6 a7 a8 a9 a10 a11 a12 a13 a14 (d + 2)) (nI key) b' (nI x) (nI i) rt we wt a1 a2 a3 a4 a5 a6 a7 a8 a9 a10 a11 a12 a13 a14 := by
      intro b' hb'
      unfold wX_lastKey_65
      refine wk_leaf hp x1.1 (tr_c110 hh hx) (fun z => absurd ((h4 x hx).mp z) (by omega)) (fun _ => br_t rfl ⟨ph_in6 x1.1 (by omega), nm_r (ph_rCn hp x1.1 (by omega) c1) ?_⟩)
      refine ih (C x i) b' (by omega) t ?_ hi1 ?_ hb'
      · rw [q2]
        unfold tr_lb
        split
        · exact k1
        · have := i2 (i - 1) (by omega); omega
      · rw [q2]
        unfold tr_lb
        split
        · exact hm
        · intro _; exact ⟨_, m.1 x (i - 1) hx (by omega)⟩
    refine pk_le i 0 (fun z => ds b ?_) (fun z => ⟨pk_in (5 * x + (i - 1)) 550 (by omega) (ph_i5m z), nm_r (e' := nI (K x (i - 1))) ?_ (ds _ ?_)⟩)
    · rw [hb, q2]
      unfold tr_lb
      rw [if_pos (show i = 0 by omega)]
    · rw [ph_i5m z, nI_clamp (by omega)]; exact (hp.2.1 x (i - 1) x1.1 (by omega)).1
    · rw [q2]
      unfold tr_lb
      rw [if_neg (show ¬ i = 0 by omega), if_neg (show ¬ K x (i - 1) + 1 = 0 by omega), Nat.add_sub_cancel]
theorem wk_last {post : Int32 → Prop} (hp : ph_ok a1 a2 a3 a4 N K V C) (h : tr_ok N K C r T lv lo hi) (m : tr_mp N K V T M) {key : Nat} (hk : key < 4096) (hr : rt = nI r)
    (HN : (∀ k v, M k = some v → key < k) → post (-1)) (HS : ∀ q v, M q = some v → q ≤ key → (∀ k w, M k = some w → k ≤ key → k ≤ q) → post (nI q)) :
    wpX_lastKey post (rt, we, wt, a1, a2, a3, a4, a5, a6, a7, a8, a9, a10, a11, a12, a13, a14) (nI key) := by
  have := wk_last7 (rt := rt) (we := we) (wt := wt) (a5 := a5) (a6 := a6) (a7 := a7) (a8 := a8) (a9 := a9) (a10 := a10) (a11 := a11) (a12 := a12) (a13 := a13) (a14 := a14) hp h m hk HN HS (lv r) r (-1) rfl h.1.1 (by have := h.1; omega) (by have := h.1; omega) (fun z => absurd h.1.2.1 (by omega)) (by rw [if_pos h.1.2.1])
  refine ⟨lv r + 2, ?_⟩
  show wX_lastKey_7 post (nI key) rt we wt a1 a2 a3 a4 a5 a6 a7 a8 a9 a10 a11 a12 a13 a14 (lv r + 2) (-1) rt
  rw [← hr] at this
  exact this
end
end
section
/-! walks over a tree, newPage -/
def wl_ok (N : Nat → Nat) (C : Nat → Nat → Nat) (G : Nat → Prop) (lv : Nat → Nat) (r : Nat) : Prop :=
  r = 255 ∨ (G r ∧ lv r ≤ 7 ∧ ∀ x, G x → x < 110 ∧ (C x 0 = 255 ↔ lv x = 0) ∧ (0 < lv x → ∀ i, i ≤ N x → G (C x i) ∧ lv (C x i) + 1 = lv x))
def wl_mu (lv stk : Nat → Nat) : Nat → Nat
  | 0 => 0
  | w + 1 => wl_mu lv stk w + 7 ^ lv (stk w)
theorem wl_muE (lv f g : Nat → Nat) : ∀ w, (∀ j, j < w → f j = g j) → wl_mu lv f w = wl_mu lv g w := by
  intro w
  induction w with
  | zero => intro _; rfl
  | succ w ih =>
    intro h
    show wl_mu lv f w + 7 ^ lv (f w) = wl_mu lv g w + 7 ^ lv (g w)
    rw [ih (fun j hj => h j (by omega)), h w (by omega)]
theorem wl_muA (lv f : Nat → Nat) (w l : Nat) : ∀ n, (∀ t, t < n → lv (f (w + t)) = l) → wl_mu lv f (w + n) = wl_mu lv f w + n * 7 ^ l := by
  intro n
  induction n with
  | zero => intro _; simp
  | succ n ih =>
    intro h
    show wl_mu lv f (w + n) + 7 ^ lv (f (w + n)) = _
    rw [ih (fun t ht => h t (by omega)), h n (by omega), Nat.succ_mul, Nat.add_assoc]
def sv_ok (a7 a8 a9 : Nat → Int32) (s num v : Nat) : Prop :=
  v < 2 ∧ a7 v = pg_I s ∧ a8 v = nI num ∧ num < 10000 ∧ ¬ a9 v = 0 ∧ (v = 0 → a9 1 = 0 ∨ ¬ a8 0 ≤ a8 1) ∧ (v = 1 → a9 0 = 0 ∨ a8 0 ≤ a8 1)
section
variable {rt we wt : Int32} {a1 a2 a3 a4 a5 a6 a7 a8 a9 a10 a11 a12 a13 a14 : Nat → Int32} {N : Nat → Nat} {K V C : Nat → Nat → Nat} {r s : Nat} {T G S fr nd : Nat → Prop} {lv lo hi lvS loS hiS : Nat → Nat} {M : Nat → Option Nat}
theorem tr_wl (h : tr_ok N K C r T lv lo hi) : wl_ok N C T lv r :=
  Or.inr ⟨h.1.1, h.1.2.2.2, fun x hx => ⟨(h.2.1 x hx).1, h.2.2.2.2.1 x hx, fun l i hi1 => ⟨(h.2.2.2.2.2.1 x i hx l hi1).1, (h.2.2.2.2.2.1 x i hx l hi1).2.1⟩⟩⟩
/-- a set that has the root and, with a page, its children, has the whole tree -/
theorem tr_all (h : tr_ok N K C r T lv lo hi) {vis : Nat → Prop} (v0 : vis r) (v1 : ∀ x, vis x → 0 < lv x → ∀ i, i ≤ N x → vis (C x i)) : ∀ d x, lv r - lv x = d → T x → vis x := by
  intro d
  induction d with
  | zero =>
    intro x hd hx
    have : x = r := by
      rcases Classical.em (x = r) with e | e
      · exact e
      · have := (h.2.1 x hx).2.2.2 e; omega
    rw [this]; exact v0
  | succ d ih =>
    intro x hd hx
    by_cases e : x = r
    · rw [e]; exact v0
    · obtain ⟨p, i, a, b, c, f⟩ := h.2.2.2.2.2.2 x hx e
      have q := (h.2.2.2.2.2.1 p i a b c).2.1
      rw [f] at q
      have := v1 p (ih p (by omega) a) b i c
      rw [f] at this
      exact this
theorem wk_valid {post : Int32 → Prop} {num v : Nat} (h : sv_ok a7 a8 a9 s num v) (H : post (nI v)) : wpX_validPlace post (rt, we, wt, a1, a2, a3, a4, a5, a6, a7, a8, a9, a10, a11, a12, a13, a14) := by
  obtain ⟨v2, _, _, _, hv, h0, h1⟩ := h
  rcases (show v = 0 ∨ v = 1 by omega) with e | e
  · subst e
    refine br_f hv ?_
    rcases h0 rfl with q | q
    · exact br_t q H
    · exact br_c (fun _ => H) (fun _ => br_f q H)
  · subst e
    rcases h1 rfl with q | q
    · exact br_t q H
    · exact br_c (fun _ => H) (fun _ => br_f hv (br_t q H))
theorem wk_start {post : St1 → Prop} (hN : r = 255 → post (rt, we, 0, a1, a2, a3, a4, a5, a6, a7, a8, a9, a10, a11, a12, a13, a14)) (hS : r < 110 → post (rt, we, 1, a1, a2, a3, a4, a5, a6, a7, a8, a9, a10, a11, a12, a13, upd a14 0 (nI r))) (hr : r < 110 ∨ r = 255) : wpX_startWalk post (rt, we, wt, a1, a2, a3, a4, a5, a6, a7, a8, a9, a10, a11, a12, a13, a14) (pg_I r) := by
  rcases hr with q | q
  · refine br_t ?_ (nm_r ?_ (hS q))
    · rw [ph_s8 (by omega)]; exact nI_pos' (by omega)
    · rw [ph_t8, ph_s8 (by omega)]
  · refine br_f ?_ (hN q)
    rw [q, ph_255]; decide
theorem wk_walk {post : Int32 → St1 → Prop} (hp : ph_ok a1 a2 a3 a4 N K V C) {w x : Nat} (hx : x < 110) (hc : C x 0 < 110 ∨ C x 0 = 255) (hw : w < 104) (e : a14 w = nI x) (hch : C x 0 ≠ 255 → ∀ i, i ≤ N x → C x i < 110)
    (HL : C x 0 = 255 → post (nI x) (rt, we, nI w, a1, a2, a3, a4, a5, a6, a7, a8, a9, a10, a11, a12, a13, a14))
    (HI : C x 0 ≠ 255 → ∀ b14, (∀ j, j < w → b14 j = a14 j) → (∀ i, i < N x + 1 → b14 (w + i) = nI (C x i)) → post (nI x) (rt, we, nI (w + (N x + 1)), a1, a2, a3, a4, a5, a6, a7, a8, a9, a10, a11, a12, a13, b14)) :
    wpX_walk post (rt, we, nI (w + 1), a1, a2, a3, a4, a5, a6, a7, a8, a9, a10, a11, a12, a13, a14) := by
  have n5 := (hp.1 x hx).2
  refine nm_r (nI_pred w) ⟨pk_in w 110 (by omega), nm_r (e' := nI x) (by rw [nI_clamp (by omega), e]) ?_⟩
  refine wk_leaf hp hx hc (fun q => br_f (by decide) (HL q)) (fun q => br_t rfl ?_)
  refine pk_loop (fun n i s => wX_walk_32 post (nI x) rt we n (nI i) (nI (w + i)) a1 a2 a3 a4 a5 a6 a7 a8 a9 a10 a11 a12 a13 s) (fun i s => (∀ j, j < w → s j = a14 j) ∧ ∀ t, t < i → s (w + t) = nI (C x t)) (N x + 1) 0 a14 (by omega) ⟨fun _ _ => rfl, fun t ht => absurd ht (by omega)⟩ ?_ ?_
  · intro n b hb
    refine ⟨pk_in x 110 hx, pk_lt (N x) (N x + 1) (fun _ => HI q b hb.1 hb.2) (fun z => absurd z (by omega)) (ph_rN hp hx)⟩
  · intro n i b hi1 hb hwk
    refine ⟨pk_in x 110 hx, pk_lt (N x) i (fun z => absurd z (by omega)) (fun z => ⟨ph_in6 hx (by omega), pk_in (w + i) 110 (by omega), nm_r (e' := upd b (w + i) (nI (C x i))) ?_ (nm_r (nI_1 (w + i)) (nm_r (nI_1 i) (hwk _ ⟨fun j hj => ?_, fun t ht => ?_⟩)))⟩) (ph_rN hp hx)⟩
    · rw [nI_clamp (by omega), ph_rC hp hx (by omega), ph_n8, ph_s8 (by have := hch q i (by omega); omega)]
    · rw [pk_un (by omega)]; exact hb.1 j hj
    · by_cases e2 : t = i
      · subst e2; rw [pk_us]
      · rw [pk_un (by omega)]; exact hb.2 t (by omega)
/-- the stack of a walk and what has been visited -/
def wl_st (N : Nat → Nat) (C : Nat → Nat → Nat) (G : Nat → Prop) (lv : Nat → Nat) (r : Nat) (a14 : Nat → Int32) (w : Nat) (stk : Nat → Nat) (vis : Nat → Prop) : Prop :=
  (∀ j, j < w → a14 j = nI (stk j) ∧ G (stk j) ∧ j + 5 * lv (stk j) ≤ 35) ∧
  (∀ x, vis x → G x) ∧ (∀ x, vis x → 0 < lv x → ∀ i, i ≤ N x → vis (C x i) ∨ ∃ j, j < w ∧ stk j = C x i) ∧ (vis r ∨ ∃ j, j < w ∧ stk j = r)
/-- one page popped: its visit, the new stack -/
theorem wl_pop (wl : wl_ok N C G lv r) (hr : r ≠ 255) (h5 : ∀ x, x < 110 → N x ≤ 5) {w : Nat} {stk : Nat → Nat} {vis : Nat → Prop} (h : wl_st N C G lv r a14 (w + 1) stk vis) :
    G (stk w) ∧ w ≤ 35 ∧ stk w < 110 ∧ a14 w = nI (stk w) ∧ (C (stk w) 0 < 110 ∨ C (stk w) 0 = 255) ∧ (C (stk w) 0 ≠ 255 → ∀ i, i ≤ N (stk w) → C (stk w) i < 110) ∧
    (C (stk w) 0 = 255 → wl_st N C G lv r a14 w stk (fun y => y = stk w ∨ vis y) ∧ wl_mu lv stk w < wl_mu lv stk (w + 1)) ∧
    (C (stk w) 0 ≠ 255 → ∀ b14 : Nat → Int32, (∀ j, j < w → b14 j = a14 j) → (∀ i, i < N (stk w) + 1 → b14 (w + i) = nI (C (stk w) i)) →
      wl_st N C G lv r b14 (w + (N (stk w) + 1)) (fun j => if j < w then stk j else C (stk w) (j - w)) (fun y => y = stk w ∨ vis y) ∧
      wl_mu lv (fun j => if j < w then stk j else C (stk w) (j - w)) (w + (N (stk w) + 1)) < wl_mu lv stk (w + 1)) := by
  rcases wl with e | ⟨g0, g1, g2⟩
  · exact absurd e hr
  obtain ⟨s1, s2, s3, s4⟩ := h
  obtain ⟨t1, t2, t3⟩ := s1 w (by omega)
  obtain ⟨x1, x2, x3⟩ := g2 _ t2
  have n5 := h5 _ x1
  have cc : C (stk w) 0 ≠ 255 → ∀ i, i ≤ N (stk w) → C (stk w) i < 110 := by
    intro q i hi1
    have : 0 < lv (stk w) := by
      rcases Nat.eq_zero_or_pos (lv (stk w)) with z | z
      · exact absurd (x2.mpr z) q
      · exact z
    exact (g2 _ (x3 this i hi1).1).1
  refine ⟨t2, by omega, x1, t1, ?_, cc, fun q => ?_, fun q b14 b1 b2 => ?_⟩
  · by_cases q : C (stk w) 0 = 255
    · exact Or.inr q
    · exact Or.inl (cc q 0 (by omega))
  · refine ⟨⟨fun j hj => s1 j (by omega), fun y hy => ?_, fun y hy ly i hi1 => ?_, ?_⟩, ?_⟩
    · rcases hy with e | hy
      · rw [e]; exact t2
      · exact s2 y hy
    · rcases hy with e | hy
      · have := x2.mp q
        rw [e] at ly; omega
      · rcases s3 y hy ly i hi1 with z | ⟨j, j1, j2⟩
        · exact Or.inl (Or.inr z)
        · by_cases e : j = w
          · subst e; exact Or.inl (Or.inl j2.symm)
          · exact Or.inr ⟨j, by omega, j2⟩
    · rcases s4 with z | ⟨j, j1, j2⟩
      · exact Or.inl (Or.inr z)
      · by_cases e : j = w
        · subst e; exact Or.inl (Or.inl j2.symm)
        · exact Or.inr ⟨j, by omega, j2⟩
    · show wl_mu lv stk w < wl_mu lv stk w + 7 ^ lv (stk w)
      have : 0 < 7 ^ lv (stk w) := Nat.pos_of_ne_zero (by simp)
      omega
  · have lp : 0 < lv (stk w) := by
      rcases Nat.eq_zero_or_pos (lv (stk w)) with z | z
      · exact absurd (x2.mpr z) q
      · exact z
    have old : ∀ j, j < w → (if j < w then stk j else C (stk w) (j - w)) = stk j := fun j hj => if_pos hj
    have new : ∀ i, (if w + i < w then stk (w + i) else C (stk w) (w + i - w)) = C (stk w) i := fun i => by rw [if_neg (by omega), Nat.add_sub_cancel_left]
    have mv : ∀ z, (∃ j, j < w + 1 ∧ stk j = z) → (z = stk w) ∨ ∃ j, j < w + (N (stk w) + 1) ∧ (if j < w then stk j else C (stk w) (j - w)) = z := by
      intro z ⟨j, j1, j2⟩
      by_cases e : j = w
      · subst e; exact Or.inl j2.symm
      · exact Or.inr ⟨j, by omega, by rw [old j (by omega)]; exact j2⟩
    refine ⟨⟨fun j hj => ?_, fun y hy => ?_, fun y hy ly i hi1 => ?_, ?_⟩, ?_⟩
    · by_cases e : j < w
      · show b14 j = nI (if j < w then stk j else C (stk w) (j - w)) ∧ G (if j < w then stk j else C (stk w) (j - w)) ∧ j + 5 * lv (if j < w then stk j else C (stk w) (j - w)) ≤ 35
        rw [old j e, b1 j e]; exact s1 j (by omega)
      · obtain ⟨i, hi1⟩ : ∃ i, j = w + i := ⟨j - w, by omega⟩
        subst hi1
        show b14 (w + i) = nI (if w + i < w then stk (w + i) else C (stk w) (w + i - w)) ∧ G (if w + i < w then stk (w + i) else C (stk w) (w + i - w)) ∧ w + i + 5 * lv (if w + i < w then stk (w + i) else C (stk w) (w + i - w)) ≤ 35
        rw [new i, b2 i (by omega)]
        have := x3 lp i (by omega)
        exact ⟨rfl, this.1, by omega⟩
    · rcases hy with e | hy
      · rw [e]; exact t2
      · exact s2 y hy
    · rcases hy with e | hy
      · rw [e] at hi1 ly ⊢
        exact Or.inr ⟨w + i, by omega, new i⟩
      · rcases s3 y hy ly i hi1 with z | z
        · exact Or.inl (Or.inr z)
        · rcases mv _ z with u | u
          · exact Or.inl (Or.inl u)
          · exact Or.inr u
    · rcases s4 with z | z
      · exact Or.inl (Or.inr z)
      · rcases mv _ z with u | u
        · exact Or.inl (Or.inl u)
        · exact Or.inr u
    · rw [wl_muA lv _ w (lv (stk w) - 1) (N (stk w) + 1) (fun t ht => by
        show lv (if w + t < w then stk (w + t) else C (stk w) (w + t - w)) = _
        rw [new t]; have := (x3 lp t (by omega)).2; omega), wl_muE lv _ stk w old]
      show _ < wl_mu lv stk w + 7 ^ lv (stk w)
      have e7 : 7 ^ lv (stk w) = 7 ^ (lv (stk w) - 1) * 7 := by rw [← Nat.pow_succ]; congr 1; omega
      have p7 : 0 < 7 ^ (lv (stk w) - 1) := Nat.pos_of_ne_zero (by simp)
      have : (N (stk w) + 1) * 7 ^ (lv (stk w) - 1) ≤ 6 * 7 ^ (lv (stk w) - 1) := Nat.mul_le_mul_right _ (by omega)
      omega
theorem wk_mark5 {post : St1 → Prop} (hp : ph_ok a1 a2 a3 a4 N K V C) (wl : wl_ok N C G lv r) (hr : r ≠ 255)
    (H : ∀ b6 b14 (vis : Nat → Prop), ph_fr b6 (fun x => nd x ∨ vis x) → (∀ x, vis x → G x) → vis r → (∀ x, vis x → 0 < lv x → ∀ i, i ≤ N x → vis (C x i)) → post (rt, we, 0, a1, a2, a3, a4, a5, b6, a7, a8, a9, a10, a11, a12, a13, b14)) :
    ∀ n w a6 a14 stk vis, wl_st N C G lv r a14 w stk vis → ph_fr a6 (fun x => nd x ∨ vis x) → wl_mu lv stk w < n → wX_markTree_5 post n rt we (nI w) a1 a2 a3 a4 a5 a6 a7 a8 a9 a10 a11 a12 a13 a14 := by
  intro n
  induction n with
  | zero => intro w a6 a14 stk vis _ _ h; omega
  | succ n ih =>
    intro w a6 a14 stk vis hs hf hm
    cases w with
    | zero =>
      refine pk_le 0 0 (fun _ => ?_) (fun z => absurd z (by omega))
      refine H a6 a14 vis hf hs.2.1 ?_ ?_
      · rcases hs.2.2.2 with z | ⟨j, j1, _⟩
        · exact z
        · omega
      · intro x hx lx i hi1
        rcases hs.2.2.1 x hx lx i hi1 with z | ⟨j, j1, _⟩
        · exact z
        · omega
    | succ w =>
      obtain ⟨p1, p2, p3, p4, p5, p6, p7, p8⟩ := wl_pop wl hr (fun x hx => (hp.1 x hx).2) hs
      have wb : w + 1 < 2 ^ 31 := by omega
      have fe : ph_fr (upd a6 (stk w) 1) (fun x => nd x ∨ (x = stk w ∨ vis x)) := by
        have := ph_frSet hf (stk w)
        intro y hy
        rcases this y hy with ⟨a, b⟩ | ⟨a, b⟩
        · refine Or.inl ⟨?_, b⟩
          rcases a with z | z | z
          · exact Or.inr (Or.inl z)
          · exact Or.inl z
          · exact Or.inr (Or.inr z)
        · refine Or.inr ⟨fun z => a ?_, b⟩
          rcases z with z | z | z
          · exact Or.inr (Or.inl z)
          · exact Or.inl z
          · exact Or.inr (Or.inr z)
      refine pk_le (w + 1) 0 (fun z => absurd z (by omega)) (fun _ => ?_) rfl rfl wb
      refine wk_walk hp p3 p5 (by omega) p4 p6 (fun q => ?_) (fun q b14 b1 b2 => ?_)
      · refine ⟨pk_in (stk w) 110 p3, nm_r (by rw [nI_clamp (by omega)]) ?_⟩
        exact ih w _ _ stk _ (p7 q).1 fe (by have := (p7 q).2; omega)
      · refine ⟨pk_in (stk w) 110 p3, nm_r (by rw [nI_clamp (by omega)]) ?_⟩
        have := p8 q b14 b1 b2
        exact ih _ _ _ _ _ this.1 fe (by omega)
theorem wk_mark {post : St1 → Prop} (hp : ph_ok a1 a2 a3 a4 N K V C) (wl : wl_ok N C G lv r) (hf : ph_fr a6 nd)
    (H : ∀ w' b6 b14 (vis : Nat → Prop), ph_fr b6 (fun x => nd x ∨ vis x) → (∀ x, vis x → G x ∧ r ≠ 255) → (r ≠ 255 → vis r ∧ ∀ x, vis x → 0 < lv x → ∀ i, i ≤ N x → vis (C x i)) → post (rt, we, w', a1, a2, a3, a4, a5, b6, a7, a8, a9, a10, a11, a12, a13, b14)) :
    wpX_markTree post (rt, we, wt, a1, a2, a3, a4, a5, a6, a7, a8, a9, a10, a11, a12, a13, a14) (pg_I r) := by
  have hr : r < 110 ∨ r = 255 := by
    rcases wl with e | ⟨g0, g1, g2⟩
    · exact Or.inr e
    · exact Or.inl (g2 r g0).1
  unfold wpX_markTree
  refine wk_start (fun e => ?_) (fun hr2 => ?_) hr
  · refine ⟨1, pk_le 0 0 (fun _ => ?_) (fun z => absurd z (by omega))⟩
    refine H 0 a6 a14 (fun _ => False) (fun y hy => ?_) (fun x z => z.elim) (fun z => absurd e z)
    rcases hf y hy with ⟨a, b⟩ | ⟨a, b⟩
    · exact Or.inl ⟨Or.inl a, b⟩
    · exact Or.inr ⟨fun z => z.elim a id, b⟩
  · have r255 : r ≠ 255 := by omega
    have wl' := wl
    rcases wl with e | ⟨g0, g1, g2⟩
    · exact absurd e r255
    refine ⟨wl_mu lv (fun _ => r) 1 + 1, ?_⟩
    refine wk_mark5 (nd := nd) hp wl' r255 (fun b6 b14 vis h1 h2 h3 h4 => H 0 b6 b14 vis h1 (fun x z => ⟨h2 x z, r255⟩) (fun _ => ⟨h3, h4⟩)) _ 1 a6 _ (fun _ => r) (fun _ => False) ⟨fun j hj => ?_, fun x z => z.elim, fun x z => z.elim, Or.inr ⟨0, by omega, rfl⟩⟩ (fun y hy => ?_) (by omega)
    · have : j = 0 := by omega
      subst this
      rw [pk_us]; exact ⟨rfl, g0, by show 0 + 5 * lv r ≤ 35; omega⟩
    · rcases hf y hy with ⟨a, b⟩ | ⟨a, b⟩
      · exact Or.inl ⟨Or.inl a, b⟩
      · exact Or.inr ⟨fun z => z.elim a id, b⟩
/-- the first free page -/
theorem wk_new51 {post : Int32 → St1 → Prop} (hf : ph_fr a6 nd) (hy : ∃ y, y < 109 ∧ ¬ nd y)
    (H : ∀ c, c < 110 → ¬ nd c → post (nI c) (rt, we, wt, upd a1 c 0, a2, a3, upd a4 (6 * c + 0) (pg_I 255), upd a5 c 1, a6, a7, a8, a9, a10, a11, a12, a13, a14)) :
    ∃ n, wX_newPage_51 post rt we wt a1 a2 a3 a4 a5 a6 a7 a8 a9 a10 a11 a12 a13 a14 n 0 := by
  obtain ⟨y, ⟨y1, y2⟩, y3⟩ := pk_least (fun y => y < 109 ∧ ¬ nd y) hy
  have fin : wX_newPage_72 post (nI y) rt we wt a1 a2 a3 a4 a5 a6 a7 a8 a9 a10 a11 a12 a13 a14 := by
    refine ⟨pk_in y 110 (by omega), nm_r (by rw [nI_clamp (by omega)]) ⟨pk_in y 110 (by omega), nm_r (by rw [nI_clamp (by omega)]) ⟨ph_in60 (by omega), nm_r ?_ (H y (by omega) y2)⟩⟩⟩
    rw [ph_c60 (by omega), ph_255]
  refine pk_loop (σ := Unit) (fun n i _ => wX_newPage_51 post rt we wt a1 a2 a3 a4 a5 a6 a7 a8 a9 a10 a11 a12 a13 a14 n (nI i)) (fun _ _ => True) y 0 () (by omega) trivial ?_ ?_
  · intro n _ _
    refine pk_le 109 y (fun z => absurd z (by omega)) (fun z => ⟨pk_in y 110 (by omega), br_t ?_ fin⟩)
    rw [nI_clamp (by omega)]
    rcases hf y (by omega) with ⟨a, b⟩ | ⟨a, b⟩
    · exact absurd a y2
    · exact b
  · intro n i _ hi1 _ hw
    refine pk_le 109 i (fun z => absurd z (by omega)) (fun z => ⟨pk_in i 110 (by omega), br_f ?_ (nm_r (nI_1 i) (hw () trivial))⟩)
    rw [nI_clamp (by omega)]
    rcases hf i (by omega) with ⟨a, b⟩ | ⟨a, b⟩
    · rw [b]; decide
    · exact absurd ⟨by omega, a⟩ (y3 i hi1)
theorem wk_new {post : Int32 → St1 → Prop} {num v : Nat} (hp : ph_ok a1 a2 a3 a4 N K V C) (wl : wl_ok N C G lv r) (hrt : rt = pg_I r) (hS : (s = 255 ∧ ∀ x, ¬ S x) ∨ tr_ok N K C s S lvS loS hiS) (sv : sv_ok a7 a8 a9 s num v) (hf : ph_fr a5 fr)
    (hy : ∃ y, y < 109 ∧ ¬ (fr y ∨ G y ∨ S y))
    (H : ∀ c w' b6 b14, c < 110 → ¬ fr c → ¬ S c → post (nI c) (rt, we, w', upd a1 c 0, a2, a3, upd a4 (6 * c + 0) (pg_I 255), upd a5 c 1, b6, a7, a8, a9, a10, a11, a12, a13, b14)) :
    wpX_newPage post (rt, we, wt, a1, a2, a3, a4, a5, a6, a7, a8, a9, a10, a11, a12, a13, a14) := by
  refine pk_loop (fun n i b => wX_newPage_2 post rt we wt n (nI i) a1 a2 a3 a4 a5 b a7 a8 a9 a10 a11 a12 a13 a14) (fun i b => ∀ x, x < i → b x = a5 x) 110 0 a6 (by omega) (fun x hx => absurd hx (by omega)) ?_ ?_
  · intro n b hb
    have fb : ph_fr b fr := fun x hx => by rw [hb x hx]; exact hf x hx
    refine pk_le 110 110 (fun _ => ?_) (fun z => absurd z (by omega))
    refine wk_valid sv ?_
    rw [hrt]
    refine wk_mark hp wl fb (fun w1 b6 b14 vis h1 h2 h3 => ?_)
    refine ⟨pk_in v 2 sv.1, ?_⟩
    have e7 : a7 (nI v).toNatClampNeg = pg_I s := by rw [nI_clamp (by have := sv.1; omega)]; exact sv.2.1
    rw [e7]
    have wlS : wl_ok N C S lvS s := by
      rcases hS with e | e
      · exact Or.inl e.1
      · exact tr_wl e
    refine wk_mark hp wlS h1 (fun w2 c6 c14 visS g1 g2 g3 => ?_)
    rw [← hrt]
    refine wk_new51 g1 ?_ (fun c hc hn => H c _ _ _ hc (fun z => hn (Or.inl (Or.inl z))) (fun z => ?_))
    · obtain ⟨y, y1, y2⟩ := hy
      refine ⟨y, y1, fun z => y2 ?_⟩
      rcases z with (z | z) | z
      · exact Or.inl z
      · exact Or.inr (Or.inl (h2 y z).1)
      · exact Or.inr (Or.inr (g2 y z).1)
    · rcases hS with e | e
      · exact e.2 c z
      · have s255 : s ≠ 255 := by
          have := (e.2.1 s e.1.1).1
          omega
        exact hn (Or.inr (tr_all e (g3 s255).1 (g3 s255).2 _ c rfl z))
  · intro n i b hi1 hb hw
    refine pk_le 110 i (fun z => absurd z (by omega)) (fun _ => ⟨pk_in i 110 hi1, pk_in i 110 hi1, nm_r (e' := upd b i (a5 i)) ?_ (nm_r (nI_1 i) (hw _ (fun x hx => ?_)))⟩)
    · rw [nI_clamp (by omega)]
      rcases hf i hi1 with ⟨_, q⟩ | ⟨_, q⟩
      · rw [q, ph_b1]
      · rw [q, ph_b0]
    · by_cases e : x = i
      · subst e; rw [pk_us]
      · rw [pk_un e]; exact hb x (by omega)
end
end
section
/-! freshCopy, copyWay -/
def bt_ok (a1 a2 a3 a4 a5 : Nat → Int32) (rt : Int32) (N : Nat → Nat) (K V C : Nat → Nat → Nat) (fr : Nat → Prop) (r : Nat) (T : Nat → Prop) (lv lo hi : Nat → Nat)
    (s : Nat) (S : Nat → Prop) (lvS loS hiS : Nat → Nat) (M MS : Nat → Option Nat) (L : List Nat) : Prop :=
  ph_ok a1 a2 a3 a4 N K V C ∧ ph_fr a5 fr ∧ rt = nI r ∧ tr_ok N K C r T lv lo hi ∧ tr_mp N K V T M ∧ tr_ok N K C s S lvS loS hiS ∧ tr_mp N K V S MS ∧
  (∀ x, fr x → T x ∧ ¬ S x) ∧ (∀ x, T x → fr x ∨ S x) ∧ ct_cd M 85 ∧ ct_cd MS 80 ∧ (∀ x, T x → x ∉ L → 2 ≤ N x) ∧ (∀ x, S x → (x ≠ s → 2 ≤ N x) ∧ 1 ≤ N x ∧ N x ≤ 4) ∧ L.length ≤ 10
def st_ok (a1 a2 a3 a4 a5 : Nat → Int32) (rt : Int32) (N : Nat → Nat) (K V C : Nat → Nat → Nat) (fr : Nat → Prop) (r : Nat) (T : Nat → Prop) (lv lo hi : Nat → Nat)
    (s : Nat) (S : Nat → Prop) (lvS loS hiS : Nat → Nat) (M MS : Nat → Option Nat) : Prop :=
  bt_ok a1 a2 a3 a4 a5 rt N K V C fr r T lv lo hi s S lvS loS hiS M MS [r] ∧ (∀ x, T x → N x ≤ 4) ∧ 1 ≤ N r
section
variable {rt we wt : Int32} {a1 a2 a3 a4 a5 a6 a7 a8 a9 a10 a11 a12 a13 a14 : Nat → Int32} {N N' : Nat → Nat} {K V C K' V' C' : Nat → Nat → Nat} {r s : Nat} {T G S fr nd : Nat → Prop} {lv lo hi lvS loS hiS : Nat → Nat} {M MS : Nat → Option Nat} {L : List Nat}
theorem bt_free (h : bt_ok a1 a2 a3 a4 a5 rt N K V C fr r T lv lo hi s S lvS loS hiS M MS L) : ∃ y, y < 109 ∧ ¬ (fr y ∨ T y ∨ S y) := by
  obtain ⟨b1, b2, b3, b4, b5, b6, b7, b8, b9, b10, b11, b12, b13, b14⟩ := h
  have st : ∀ x, S x → (T x ∧ 2 ≤ N x) ∨ (S x ∧ 2 ≤ N x) ∨ x ∈ s :: L := by
    intro x z
    by_cases e : x = s
    · exact Or.inr (Or.inr (by rw [e]; exact List.mem_cons_self))
    · exact Or.inr (Or.inl ⟨z, (b13 x z).1 e⟩)
  have tt : ∀ x, T x → (T x ∧ 2 ≤ N x) ∨ (S x ∧ 2 ≤ N x) ∨ x ∈ s :: L := by
    intro x z
    by_cases e : x ∈ L
    · exact Or.inr (Or.inr (List.mem_cons_of_mem _ e))
    · exact Or.inl ⟨z, b12 x z e⟩
  refine ct_page (P := fun y => fr y ∨ T y ∨ S y) (l := 11) (s :: L) b4 b5 b10 b6 b7 b11 (fun x hx => ?_) (by simp; omega) (by omega)
  rcases hx with z | z | z
  · exact tt x (b8 x z).1
  · exact tt x z
  · exact st x z
theorem ph_cong (h : ph_ok a1 a2 a3 a4 N K V C) (e1 : ∀ x, x < 110 → N' x = N x) (e2 : ∀ x i, x < 110 → i < 5 → K' x i = K x i ∧ V' x i = V x i) (e3 : ∀ x i, x < 110 → i < 6 → C' x i = C x i) : ph_ok a1 a2 a3 a4 N' K' V' C' := by
  refine ⟨fun x hx => by rw [e1 x hx]; exact h.1 x hx, fun x i hx hi1 => ?_, fun x i hx hi1 => by rw [e3 x i hx hi1]; exact h.2.2 x i hx hi1⟩
  rw [(e2 x i hx hi1).1, (e2 x i hx hi1).2]; exact h.2.1 x i hx hi1
theorem ph_new (h : ph_ok a1 a2 a3 a4 N K V C) {c : Nat} (hc : c < 110) : ph_ok (upd a1 c 0) a2 a3 (upd a4 (6 * c + 0) (pg_I 255)) (tr_up N c 0) K V (ph_u2 C c 0 255) := by
  have := ph_wC (ph_wN h hc (show 0 ≤ 5 by omega)) hc (show 0 < 6 by omega) (c := 255)
  rw [nI_0] at this
  exact this
theorem wk_fresh83 {post : Int32 → St1 → Prop} (hp : ph_ok a1 a2 a3 a4 N K V C) {x c : Nat} (hx : x < 110) (hc : c < 110) (xc : x ≠ c)
    (H : ∀ b4 C1, ph_ok a1 a2 a3 b4 N K V C1 → (∀ y, y ≠ c → C1 y = C y) → (∀ j, j < 6 → C1 c j = C x j) → post (nI c) (rt, we, wt, a1, a2, a3, b4, a5, a6, a7, a8, a9, a10, a11, a12, a13, a14)) :
    ∃ n, wX_freshCopy_83 post (nI x) (nI c) rt we wt n 0 a1 a2 a3 a4 a5 a6 a7 a8 a9 a10 a11 a12 a13 a14 := by
  refine pk_loop (fun n i b => wX_freshCopy_83 post (nI x) (nI c) rt we wt n (nI i) a1 a2 a3 b a5 a6 a7 a8 a9 a10 a11 a12 a13 a14) (fun i b => ∃ C1, ph_ok a1 a2 a3 b N K V C1 ∧ (∀ y, y ≠ c → C1 y = C y) ∧ ∀ j, j < i → C1 c j = C x j) 6 0 a4 (by omega) ⟨C, hp, fun _ _ => rfl, fun j hj => absurd hj (by omega)⟩ ?_ ?_
  · intro n b ⟨C1, h1, h2, h3⟩
    exact pk_le 6 6 (fun _ => H b C1 h1 h2 h3) (fun z => absurd z (by omega))
  · intro n i b hi1 ⟨C1, h1, h2, h3⟩ hw
    refine pk_le 6 i (fun z => absurd z (by omega)) (fun _ => ⟨ph_in6 hx hi1, ph_in6 hc hi1, nm_r (e' := upd b (6 * c + i) (pg_I (C x i))) ?_ (nm_r (nI_1 i) (hw _ ⟨ph_u2 C1 c i (C x i), ph_wC h1 hc hi1, fun y hy => ?_, fun j hj => ?_⟩))⟩)
    · rw [ph_c6 hc (by omega), ph_rC h1 hx hi1, ph_n8, h2 x xc]
    · rw [ph_u2N hy]; exact h2 y hy
    · by_cases e : j = i
      · subst e; rw [ph_u2S]
      · rw [ph_u2J e]; exact h3 j (by omega)
theorem wk_fresh30 {post : Int32 → St1 → Prop} (hp : ph_ok a1 a2 a3 a4 N K V C) {x c : Nat} (hx : x < 110) (hc : c < 110) (xc : x ≠ c)
    (H : ∀ b2 b3 b4 K1 V1 C1, ph_ok a1 b2 b3 b4 N K1 V1 C1 → (∀ y, y ≠ c → K1 y = K y ∧ V1 y = V y ∧ C1 y = C y) → (∀ j, j < 5 → K1 c j = K x j ∧ V1 c j = V x j) → (∀ j, j < 6 → C1 c j = C x j) → post (nI c) (rt, we, wt, a1, b2, b3, b4, a5, a6, a7, a8, a9, a10, a11, a12, a13, a14)) :
    ∃ n, wX_freshCopy_30 post (nI x) (nI c) rt we wt n 0 a1 a2 a3 a4 a5 a6 a7 a8 a9 a10 a11 a12 a13 a14 := by
  refine pk_loop (fun n i (b : (Nat → Int32) × (Nat → Int32)) => wX_freshCopy_30 post (nI x) (nI c) rt we wt n (nI i) a1 b.1 b.2 a4 a5 a6 a7 a8 a9 a10 a11 a12 a13 a14)
    (fun i b => ∃ K1 V1, ph_ok a1 b.1 b.2 a4 N K1 V1 C ∧ (∀ y, y ≠ c → K1 y = K y ∧ V1 y = V y) ∧ ∀ j, j < i → K1 c j = K x j ∧ V1 c j = V x j) 5 0 (a2, a3) (by omega) ⟨K, V, hp, fun _ _ => ⟨rfl, rfl⟩, fun j hj => absurd hj (by omega)⟩ ?_ ?_
  · intro n b ⟨K1, V1, h1, h2, h3⟩
    refine pk_le 5 5 (fun _ => ?_) (fun z => absurd z (by omega))
    exact wk_fresh83 h1 hx hc xc (fun b4 C1 g1 g2 g3 => H b.1 b.2 b4 K1 V1 C1 g1 (fun y hy => ⟨(h2 y hy).1, (h2 y hy).2, g2 y hy⟩) h3 g3)
  · intro n i b hi1 ⟨K1, V1, h1, h2, h3⟩ hw
    have bb := h1.2.1 x i hx hi1
    have w1 := ph_wK h1 hc hi1 bb.2.2.1
    refine pk_le 5 i (fun z => absurd z (by omega)) (fun _ => ⟨ph_in5 hx hi1, ph_in5 hc hi1, nm_r (e' := upd b.1 (5 * c + i) (nI (K1 x i))) ?_ ⟨ph_in5 hx hi1, ph_in5 hc hi1, nm_r (e' := upd b.2 (5 * c + i) (nI (V1 x i))) ?_ (nm_r (nI_1 i) (hw (upd b.1 (5 * c + i) (nI (K1 x i)), upd b.2 (5 * c + i) (nI (V1 x i))) ⟨ph_u2 K1 c i (K1 x i), ph_u2 V1 c i (V1 x i), ph_wV w1 hc hi1 bb.2.2.2, fun y hy => ?_, fun j hj => ?_⟩))⟩⟩)
    · rw [ph_c5 hc (by omega), ph_rK h1 hx hi1, ph_n16 bb.2.2.1]
    · rw [ph_c5 hc (by omega), ph_rV h1 hx hi1, ph_n16 bb.2.2.2]
    · rw [ph_u2N hy, ph_u2N hy]; exact h2 y hy
    · by_cases e : j = i
      · subst e; rw [ph_u2S, ph_u2S, (h2 x xc).1, (h2 x xc).2]; exact ⟨rfl, rfl⟩
      · rw [ph_u2J e, ph_u2J e]; exact h3 j (by omega)
theorem wk_fresh {post : Int32 → St1 → Prop} {num v : Nat} (h : bt_ok a1 a2 a3 a4 a5 rt N K V C fr r T lv lo hi s S lvS loS hiS M MS L) (sv : sv_ok a7 a8 a9 s num v) {x : Nat} (hx : T x)
    (HF : fr x → post (nI x) (rt, we, wt, a1, a2, a3, a4, a5, a6, a7, a8, a9, a10, a11, a12, a13, a14))
    (HN : ¬ fr x → ∀ c w' b1 b2 b3 b4 b5 b6 b14, c < 110 → ¬ fr c → ¬ S c → ¬ T c → ph_ok b1 b2 b3 b4 (tr_up N c (N x)) (tr_up K c (K x)) (tr_up V c (V x)) (tr_up C c (C x)) → ph_fr b5 (fun y => y = c ∨ fr y) →
      post (nI c) (rt, we, w', b1, b2, b3, b4, b5, b6, a7, a8, a9, a10, a11, a12, a13, b14)) :
    wpX_freshCopy post (rt, we, wt, a1, a2, a3, a4, a5, a6, a7, a8, a9, a10, a11, a12, a13, a14) (nI x) := by
  have fy := bt_free h
  obtain ⟨p1, p2, p3, p4, p5, p6, p7, p8, p9, p10, p11, p12, p13, p14⟩ := h
  have x1 := (p4.2.1 x hx).1
  have r1 := (p4.2.1 r p4.1.1).1
  refine ⟨pk_in x 110 x1, ?_⟩
  rw [nI_clamp (by omega)]
  rcases p2 x x1 with ⟨f, e⟩ | ⟨f, e⟩
  · exact br_f (by rw [e]; decide) (HF f)
  · refine br_t e ?_
    refine wk_new p1 (tr_wl p4) (by rw [p3, ph_s8 (by omega)]) (Or.inr p6) sv p2 fy (fun c w' b6 b14 hc hf hs => ?_)
    have hT : ¬ T c := fun z => (p9 c z).elim hf hs
    have xc : x ≠ c := fun z => hT (z ▸ hx)
    have hq := ph_new p1 hc
    have n5 := (p1.1 x x1).2
    refine ⟨pk_in x 110 x1, pk_in c 110 hc, nm_r (e' := upd (upd a1 c 0) c (nI (N x))) ?_ ?_⟩
    · rw [nI_clamp (by omega), pk_un xc, (p1.1 x x1).1, ph_n8n (by omega)]
    · have hq2 := ph_wN hq hc n5
      refine wk_fresh30 hq2 x1 hc xc (fun b2 b3 b4 K1 V1 C1 g1 g2 g3 g4 => ?_)
      refine HN f c w' _ b2 b3 b4 _ b6 b14 hc hf hs hT (ph_cong g1 (fun y hy => ?_) (fun y i hy hi1 => ?_) (fun y i hy hi1 => ?_)) (ph_frSet p2 c)
      · by_cases e : y = c
        · subst e; rw [tr_upS, tr_upS]
        · rw [tr_upN e, tr_upN e, tr_upN e]
      · by_cases e : y = c
        · subst e; rw [tr_upS, tr_upS, (g3 i hi1).1, (g3 i hi1).2]; exact ⟨rfl, rfl⟩
        · rw [tr_upN e, tr_upN e, (g2 y e).1, (g2 y e).2.1]; exact ⟨rfl, rfl⟩
      · by_cases e : y = c
        · subst e; rw [tr_upS, g4 i hi1, ph_u2N xc]
        · rw [tr_upN e, (g2 y e).2.2, ph_u2N e]
/-- the copy c of x is linked in at place (p, i), or as the root -/
theorem bt_link {b1 b2 b3 b4 b5 : Nat → Int32} (h : bt_ok a1 a2 a3 a4 a5 rt N K V C fr r T lv lo hi s S lvS loS hiS M MS L) {x c : Nat} (hx : T x) (hc : c < 110) (hf : ¬ fr c) (hs : ¬ S c) (hT : ¬ T c) (xf : ¬ fr x)
    (q : ph_ok b1 b2 b3 b4 (tr_up N c (N x)) (tr_up K c (K x)) (tr_up V c (V x)) (tr_up C c (C x))) (qf : ph_fr b5 (fun y => y = c ∨ fr y)) :
    (x = r → L = [r] → bt_ok b1 b2 b3 b4 b5 (nI c) (tr_up N c (N x)) (tr_up K c (K x)) (tr_up V c (V x)) (tr_up C c (C x)) (fun y => y = c ∨ fr y) c (fun y => y = c ∨ (T y ∧ y ≠ x)) (tr_up lv c (lv x)) (tr_up lo c (lo x)) (tr_up hi c (hi x)) s S lvS loS hiS M MS [c]) ∧
    (∀ p i, x ∉ L → x ≠ r → T p → fr p → 0 < lv p → i ≤ N p → C p i = x → bt_ok b1 b2 b3 (upd b4 (6 * p + i) (pg_I c)) b5 rt (tr_up N c (N x)) (tr_up K c (K x)) (tr_up V c (V x)) (ph_u2 (tr_up C c (C x)) p i c) (fun y => y = c ∨ fr y) r (fun y => y = c ∨ (T y ∧ y ≠ x)) (tr_up lv c (lv x)) (tr_up lo c (lo x)) (tr_up hi c (hi x)) s S lvS loS hiS M MS L) := by
  obtain ⟨p1, p2, p3, p4, p5, p6, p7, p8, p9, p10, p11, p12, p13, p14⟩ := h
  have nc : ∀ y, T y → y ≠ c := fun y hy e => hT (e ▸ hy)
  have ns : ∀ y, S y → y ≠ c := fun y hy e => hs (e ▸ hy)
  have xS : S x := (p9 x hx).resolve_left xf
  have F1 : ∀ y, (y = c ∨ fr y) → (y = c ∨ (T y ∧ y ≠ x)) ∧ ¬ S y := by
    intro y hy
    rcases hy with e | e
    · exact ⟨Or.inl e, e ▸ hs⟩
    · exact ⟨Or.inr ⟨(p8 y e).1, fun z => xf (z ▸ e)⟩, (p8 y e).2⟩
  have F2 : ∀ y, (y = c ∨ (T y ∧ y ≠ x)) → (y = c ∨ fr y) ∨ S y := by
    intro y hy
    rcases hy with e | ⟨e, _⟩
    · exact Or.inl (Or.inl e)
    · exact (p9 y e).elim (fun z => Or.inl (Or.inr z)) Or.inr
  have SZ : ∀ y, S y → (y ≠ s → 2 ≤ tr_up N c (N x) y) ∧ 1 ≤ tr_up N c (N x) y ∧ tr_up N c (N x) y ≤ 4 := by
    intro y hy
    rw [tr_upN (ns y hy)]; exact p13 y hy
  refine ⟨fun xr eL => ?_, fun p i xL xr hp pf lp ip e => ?_⟩
  · have t := tr_copy (r' := c) (N' := tr_up N c (N x)) (K' := tr_up K c (K x)) (V' := tr_up V c (V x)) (C' := tr_up C c (C x)) p4 p5 hx hT hc tr_upS tr_upS tr_upS tr_upS (fun y hy yx => ⟨tr_upN (nc y hy), tr_upN (nc y hy), tr_upN (nc y hy), fun _ => by rw [tr_upN (nc y hy)], fun j lj hj => by
      rw [tr_upN (nc y hy), if_neg]
      intro e
      have := p4.2.2.2.2.2.1 y j hy lj hj
      rw [e, xr] at this
      have := p4.2.1 y hy
      omega⟩) (by rw [if_pos xr])
    refine ⟨q, qf, rfl, t.1, t.2, tr_frame p6 (fun y hy => ⟨tr_upN (ns y hy), tr_upN (ns y hy), tr_upN (ns y hy)⟩), tr_mpFrame p7 (fun y hy => ⟨tr_upN (ns y hy), tr_upN (ns y hy), tr_upN (ns y hy)⟩), F1, F2, p10, p11, fun y hy yl => ?_, SZ, by simp⟩
    rcases hy with e | ⟨e, e2⟩
    · exact absurd (by rw [e]; exact List.mem_singleton.mpr rfl) yl
    · rw [tr_upN (nc y e)]; exact p12 y e (by rw [eL, ← xr]; simpa using e2)
  · have px : p ≠ x := by
      intro z
      have := (p4.2.2.2.2.2.1 p i hp lp ip).2.1
      rw [e, z] at this; omega
    have pc : p ≠ c := nc p hp
    have p1' := p4.2.1 p hp
    have n5 := (p1.1 p p1'.1).2
    have CN : ∀ y, y ≠ p → y ≠ c → ph_u2 (tr_up C c (C x)) p i c y = C y := fun y a b => by rw [ph_u2N a, tr_upN b]
    have Cc : ph_u2 (tr_up C c (C x)) p i c c = C x := by rw [ph_u2N (fun z => pc z.symm), tr_upS]
    have pS : ¬ S p := (p8 p pf).2
    have t := tr_copy (r' := r) (N' := tr_up N c (N x)) (K' := tr_up K c (K x)) (V' := tr_up V c (V x)) (C' := ph_u2 (tr_up C c (C x)) p i c) p4 p5 hx hT hc tr_upS tr_upS tr_upS Cc (fun y hy yx => ⟨tr_upN (nc y hy), tr_upN (nc y hy), tr_upN (nc y hy), fun l0 => by
      rw [CN y (fun z => by rw [z] at l0; omega) (nc y hy)], fun j lj hj => by
      by_cases yp : y = p
      · subst yp
        by_cases ji : j = i
        · subst ji; rw [ph_u2S, if_pos e]
        · rw [ph_u2J ji, tr_upN pc, if_neg]
          intro z
          exact ji (tr_par p4 hy hy lj lj hj ip (z.trans e.symm)).2
      · rw [CN y yp (nc y hy), if_neg]
        intro z
        exact yp (tr_par p4 hy hp lj lp hj ip (z.trans e.symm)).1⟩) (by rw [if_neg xr])
    refine ⟨ph_wC q p1'.1 (by omega), qf, p3, t.1, t.2, tr_frame p6 (fun y hy => ⟨tr_upN (ns y hy), tr_upN (ns y hy), CN y (fun z => pS (z ▸ hy)) (ns y hy)⟩), tr_mpFrame p7 (fun y hy => ⟨tr_upN (ns y hy), tr_upN (ns y hy), tr_upN (ns y hy)⟩), F1, F2, p10, p11, fun y hy yl => ?_, SZ, p14⟩
    rcases hy with e | ⟨e, e2⟩
    · rw [e, tr_upS]; exact p12 x hx xL
    · rw [tr_upN (nc y e)]; exact p12 y e yl
end
end
section
/-! copyWay -/
/-- the pages of two ways correspond -/
def pt_co (n : Nat) (N0 : Nat → Nat) (K0 V0 : Nat → Nat → Nat) (lv0 lo0 hi0 wp0 : Nat → Nat) (N : Nat → Nat) (K V : Nat → Nat → Nat) (lv lo hi wp : Nat → Nat) : Prop :=
  ∀ j, j < n → N (wp j) = N0 (wp0 j) ∧ K (wp j) = K0 (wp0 j) ∧ V (wp j) = V0 (wp0 j) ∧ lv (wp j) = lv0 (wp0 j) ∧ lo (wp j) = lo0 (wp0 j) ∧ hi (wp j) = hi0 (wp0 j)
section
variable {rt we wt : Int32} {a1 a2 a3 a4 a5 a6 a7 a8 a9 a10 a11 a12 a13 a14 : Nat → Int32} {s : Nat} {S : Nat → Prop} {lvS loS hiS : Nat → Nat} {M MS : Nat → Option Nat} {num v n : Nat} {wi : Nat → Nat} {N0 : Nat → Nat} {K0 V0 : Nat → Nat → Nat} {lv0 lo0 hi0 wp0 : Nat → Nat}
theorem wk_way2 {post : St1 → Prop} (sv : sv_ok a7 a8 a9 s num v) (n8 : n ≤ 8)
    (H : ∀ rt wt a1 a2 a3 a4 a5 a6 a12 a14 N K V C fr r T lv lo hi wp, st_ok a1 a2 a3 a4 a5 rt N K V C fr r T lv lo hi s S lvS loS hiS M MS → pt_ok N C r T lv n wp wi → pt_ar a12 a13 n wp wi → (∀ j, j < n → fr (wp j)) → pt_co n N0 K0 V0 lv0 lo0 hi0 wp0 N K V lv lo hi wp → post (rt, nI n, wt, a1, a2, a3, a4, a5, a6, a7, a8, a9, a10, a11, a12, a13, a14)) :
    ∀ d l rt wt a1 a2 a3 a4 a5 a6 a12 a14 N K V C fr r T lv lo hi wp, l + d = n → st_ok a1 a2 a3 a4 a5 rt N K V C fr r T lv lo hi s S lvS loS hiS M MS → pt_ok N C r T lv n wp wi → pt_ar a12 a13 n wp wi → (∀ j, j < l → fr (wp j)) → pt_co n N0 K0 V0 lv0 lo0 hi0 wp0 N K V lv lo hi wp →
      wX_copyWay_2 post (d + 1) (nI l) rt (nI n) wt a1 a2 a3 a4 a5 a6 a7 a8 a9 a10 a11 a12 a13 a14 := by
  intro d
  induction d with
  | zero =>
    intro l rt wt a1 a2 a3 a4 a5 a6 a12 a14 N K V C fr r T lv lo hi wp hl hb hpt har hfr hco
    have e : l = n := by omega
    subst e
    exact pk_le l l (fun _ => H _ _ _ _ _ _ _ _ _ _ _ _ _ _ _ _ _ _ _ _ _ hb hpt har hfr hco) (fun z => absurd z (by omega))
  | succ d ih =>
    intro l rt wt a1 a2 a3 a4 a5 a6 a12 a14 N K V C fr r T lv lo hi wp hl hb hpt har hfr hco
    have hln : l < n := by omega
    have hl8 : l < 8 := by omega
    obtain ⟨hT, hlv, hwi⟩ := hpt.1 l hln
    have hs' := hb
    obtain ⟨hb, n4, nr⟩ := hb
    have hb' := hb
    obtain ⟨p1, p2, p3, p4, p5, p6, p7, p8, p9, p10, p11, p12, p13, p14⟩ := hb
    have x110 := (p4.2.1 _ hT).1
    have ea : a12 (nI l).toNatClampNeg = nI (wp l) := by rw [nI_clamp (by omega)]; exact (har l hln).1
    refine pk_le n l (fun z => absurd z (by omega)) (fun _ => ⟨pk_in l 8 hl8, ?_⟩)
    rw [ea]
    refine wk_fresh hb' sv hT (fun f => ?_) (fun xf c w' b1 b2 b3 b4 b5 b6 b14 hc hf hs hTc hq hqf => ?_)
    · -- already fresh
      have e12 : upd a12 (nI l).toNatClampNeg (nI (wp l)).toInt8.toInt32 = a12 := by
        funext j
        rw [nI_clamp (by omega), ph_t8n (by omega), ph_s8 (by omega)]
        by_cases e : j = l
        · subst e; rw [pk_us]; exact (har j hln).1.symm
        · rw [pk_un e]
      have hfr' : ∀ j, j < l + 1 → fr (wp j) := by
        intro j hj
        by_cases e : j = l
        · subst e; exact f
        · exact hfr j (by omega)
      refine ⟨pk_in l 8 hl8, nm_r e12 (pk_eq l 0 (fun z => nm_r (nI_1 l) ?_) (fun z => ?_))⟩
      · subst z
        have : nI (wp 0) = rt := by rw [p3, hpt.2.1 (by omega)]
        rw [this]
        exact ih (0 + 1) _ _ _ _ _ _ _ _ _ _ _ _ _ _ _ _ _ _ _ _ _ (by omega) hs' hpt har hfr' hco
      · obtain ⟨q, hq⟩ : ∃ q, l = q + 1 := ⟨l - 1, by omega⟩
        subst hq
        have e1 : nI (q + 1) - 1 = nI q := nI_pred q
        obtain ⟨gT, glv, gwi⟩ := hpt.1 q (by omega)
        have g110 := p4.2.1 _ gT
        have r1 : a12 (nI (q + 1) - 1).toNatClampNeg = nI (wp q) := by rw [e1, nI_clamp (by omega)]; exact (har q (by omega)).1
        have r2 : a13 (nI (q + 1) - 1).toNatClampNeg = nI (wi q) := by rw [e1, nI_clamp (by omega)]; exact (har q (by omega)).2
        rw [r1, r2]
        have e4 : upd a4 (6 * nI (wp q) + nI (wi q)).toNatClampNeg (nI (wp (q + 1))).toInt8.toInt32 = a4 := by
          funext j
          rw [ph_c6 g110.1 (by omega), ph_t8n (by omega)]
          by_cases e : j = 6 * wp q + wi q
          · subst e; rw [pk_us, p1.2.2 _ _ g110.1 (by omega), hpt.2.2 q (by omega)]
          · rw [pk_un e]
        refine ⟨pk_in q 8 (by omega) e1, pk_in q 8 (by omega) e1, ph_in6 g110.1 (by omega), nm_r e4 (nm_r (nI_1 (q + 1)) ?_)⟩
        exact ih (q + 1 + 1) _ _ _ _ _ _ _ _ _ _ _ _ _ _ _ _ _ _ _ _ _ (by omega) hs' hpt har hfr' hco
    · -- a new copy
      have nc : ∀ y, T y → y ≠ c := fun y hy e => hTc (e ▸ hy)
      have lk := bt_link (a5 := a5) hb' hT hc hf hs hTc xf hq hqf
      have wpx : ∀ j, j < n → j ≠ l → wp j ≠ wp l := by
        intro j hj jl e
        have := (hpt.1 j hj).2.1
        rw [e] at this; omega
      have e12 : upd a12 (nI l).toNatClampNeg (nI c).toInt8.toInt32 = upd a12 l (nI c) := by
        rw [nI_clamp (by omega), ph_t8n (by omega), ph_s8 (by omega)]
      have har' : pt_ar (upd a12 l (nI c)) a13 n (tr_up wp l c) wi := by
        intro j hj
        by_cases e : j = l
        · subst e; rw [pk_us, tr_upS]; exact ⟨rfl, (har j hj).2⟩
        · rw [pk_un e, tr_upN e]; exact har j hj
      have hfr' : ∀ j, j < l + 1 → (tr_up wp l c j = c ∨ fr (tr_up wp l c j)) := by
        intro j hj
        by_cases e : j = l
        · subst e; rw [tr_upS]; exact Or.inl rfl
        · rw [tr_upN e]; exact Or.inr (hfr j (by omega))
      have hco' : pt_co n N0 K0 V0 lv0 lo0 hi0 wp0 (tr_up N c (N (wp l))) (tr_up K c (K (wp l))) (tr_up V c (V (wp l))) (tr_up lv c (lv (wp l))) (tr_up lo c (lo (wp l))) (tr_up hi c (hi (wp l))) (tr_up wp l c) := by
        intro j hj
        by_cases e : j = l
        · subst e
          rw [tr_upS, tr_upS, tr_upS, tr_upS, tr_upS, tr_upS, tr_upS]; exact hco j hj
        · have q := nc _ (hpt.1 j hj).1
          rw [tr_upN e, tr_upN q, tr_upN q, tr_upN q, tr_upN q, tr_upN q, tr_upN q]; exact hco j hj
      have n4' : ∀ y, (y = c ∨ (T y ∧ y ≠ wp l)) → tr_up N c (N (wp l)) y ≤ 4 := by
        intro y hy
        rcases hy with e | ⟨e, _⟩
        · rw [e, tr_upS]; exact n4 _ hT
        · rw [tr_upN (nc y e)]; exact n4 y e
      refine ⟨pk_in l 8 hl8, nm_r e12 (pk_eq l 0 (fun z => nm_r (nI_1 l) ?_) (fun z => ?_))⟩
      · subst z
        have w0 := hpt.2.1 (by omega)
        have bt := lk.1 w0 rfl
        refine ih (0 + 1) _ _ _ _ _ _ _ _ _ _ _ _ _ _ _ _ _ _ _ _ _ (by omega) ⟨bt, n4', by rw [tr_upS, w0]; exact nr⟩ ?_ har' hfr' hco'
        refine ⟨fun j hj => ?_, fun _ => tr_upS, fun j hj => ?_⟩
        · by_cases e : j = 0
          · subst e; rw [tr_upS, tr_upS, tr_upS]; exact ⟨Or.inl rfl, by omega, hwi⟩
          · have q := hpt.1 j hj
            rw [tr_upN e, tr_upN (nc _ q.1), tr_upN (nc _ q.1), tr_upS, w0]
            exact ⟨Or.inr ⟨q.1, fun e2 => wpx j hj e (e2.trans w0.symm)⟩, q.2.1, q.2.2⟩
        · rw [tr_upN (show j + 1 ≠ 0 by omega)]
          by_cases e : j = 0
          · subst e; rw [tr_upS, tr_upS]; exact hpt.2.2 0 hj
          · rw [tr_upN e, tr_upN (nc _ (hpt.1 j (by omega)).1)]; exact hpt.2.2 j hj
      · obtain ⟨q, hq'⟩ : ∃ q, l = q + 1 := ⟨l - 1, by omega⟩
        subst hq'
        have e1 : nI (q + 1) - 1 = nI q := nI_pred q
        obtain ⟨gT, glv, gwi⟩ := hpt.1 q (by omega)
        have g110 := p4.2.1 _ gT
        have r1 : upd a12 (q + 1) (nI c) (nI (q + 1) - 1).toNatClampNeg = nI (wp q) := by rw [e1, nI_clamp (by omega), pk_un (by omega)]; exact (har q (by omega)).1
        have r2 : a13 (nI (q + 1) - 1).toNatClampNeg = nI (wi q) := by rw [e1, nI_clamp (by omega)]; exact (har q (by omega)).2
        rw [r1, r2]
        have e4 : upd b4 (6 * nI (wp q) + nI (wi q)).toNatClampNeg (nI c).toInt8.toInt32 = upd b4 (6 * wp q + wi q) (pg_I c) := by
          rw [ph_c6 g110.1 (by omega), ph_t8n (by omega)]
        have xr : wp (q + 1) ≠ r := by intro e; rw [e] at hlv; omega
        have bt := lk.2 (wp q) (wi q) (by simpa using xr) xr gT (hfr q (by omega)) (by omega) gwi (hpt.2.2 q (by omega))
        refine ⟨pk_in q 8 (by omega) e1, pk_in q 8 (by omega) e1, ph_in6 g110.1 (by omega), nm_r e4 (nm_r (nI_1 (q + 1)) ?_)⟩
        refine ih (q + 1 + 1) _ _ _ _ _ _ _ _ _ _ _ _ _ _ _ _ _ _ _ _ _ (by omega) ⟨bt, n4', by rw [tr_upN (nc r p4.1.1)]; exact nr⟩ ?_ har' hfr' hco'
        refine ⟨fun j hj => ?_, fun _ => ?_, fun j hj => ?_⟩
        · by_cases e : j = q + 1
          · subst e; rw [tr_upS, tr_upS, tr_upS, tr_upN (nc r p4.1.1)]; exact ⟨Or.inl rfl, hlv, hwi⟩
          · have q := hpt.1 j hj
            rw [tr_upN e, tr_upN (nc _ q.1), tr_upN (nc _ q.1), tr_upN (nc r p4.1.1)]
            exact ⟨Or.inr ⟨q.1, wpx j hj e⟩, q.2.1, q.2.2⟩
        · rw [tr_upN (by omega)]; exact hpt.2.1 (by omega)
        · by_cases e : j = q + 1
          · subst e
            rw [tr_upS, tr_upN (by omega), ph_u2N (fun e2 => nc _ gT e2.symm), tr_upS]; exact hpt.2.2 (q + 1) hj
          · by_cases e2 : j = q
            · subst e2; rw [tr_upN e, tr_upS, ph_u2S]
            · have h1 := hpt.1 j (by omega)
              have h2 : wp j ≠ wp q := by
                intro e3
                have := h1.2.1
                rw [e3] at this; omega
              rw [tr_upN e, tr_upN (by omega), ph_u2N h2, tr_upN (nc _ h1.1)]; exact hpt.2.2 j hj
theorem wk_way {post : St1 → Prop} {N : Nat → Nat} {K V C : Nat → Nat → Nat} {fr T : Nat → Prop} {r : Nat} {lv lo hi wp : Nat → Nat} (sv : sv_ok a7 a8 a9 s num v) (n8 : n ≤ 8)
    (h : st_ok a1 a2 a3 a4 a5 rt N K V C fr r T lv lo hi s S lvS loS hiS M MS) (hpt : pt_ok N C r T lv n wp wi) (har : pt_ar a12 a13 n wp wi)
    (H : ∀ rt wt a1 a2 a3 a4 a5 a6 a12 a14 N' K' V' C' fr r T lv' lo' hi' wp', st_ok a1 a2 a3 a4 a5 rt N' K' V' C' fr r T lv' lo' hi' s S lvS loS hiS M MS → pt_ok N' C' r T lv' n wp' wi → pt_ar a12 a13 n wp' wi → (∀ j, j < n → fr (wp' j)) → pt_co n N K V lv lo hi wp N' K' V' lv' lo' hi' wp' → post (rt, nI n, wt, a1, a2, a3, a4, a5, a6, a7, a8, a9, a10, a11, a12, a13, a14)) :
    wpX_copyWay post (rt, nI n, wt, a1, a2, a3, a4, a5, a6, a7, a8, a9, a10, a11, a12, a13, a14) :=
  ⟨n + 1, wk_way2 (a10 := a10) (a11 := a11) sv n8 H n 0 rt wt a1 a2 a3 a4 a5 a6 a12 a14 N K V C fr r T lv lo hi wp (by omega) h hpt har (fun j hj => absurd hj (by omega)) (fun j hj => ⟨rfl, rfl, rfl, rfl, rfl, rfl⟩)⟩
end
end
section
/-! openPlace, putAt, the pieces of split -/
theorem ph_i53 (x k : Nat) : 5 * nI x + 3 + nI k = nI (5 * x + (3 + k)) := by
  rw [show (5 : Int32) = nI 5 from rfl, show (3 : Int32) = nI 3 from rfl, pk_mul, nI_add, nI_add, Nat.add_assoc]
theorem ph_i63 (x k : Nat) : 6 * nI x + 3 + nI k = nI (6 * x + (3 + k)) := by
  rw [show (6 : Int32) = nI 6 from rfl, show (3 : Int32) = nI 3 from rfl, pk_mul, nI_add, nI_add, Nat.add_assoc]
theorem ph_i52 (x : Nat) : 5 * nI x + 2 = nI (5 * x + 2) := by
  rw [show (5 : Int32) = nI 5 from rfl, show (2 : Int32) = nI 2 from rfl, pk_mul, nI_add]
theorem ph_i6p (x i : Nat) : 6 * nI x + nI i + 1 = nI (6 * x + (i + 1)) := by
  rw [ph_i6, nI_1, Nat.add_assoc]
theorem ph_i5p (x i : Nat) : 5 * nI x + nI i + 1 = nI (5 * x + (i + 1)) := by
  rw [ph_i5, nI_1, Nat.add_assoc]
section
variable {rt we wt : Int32} {a1 a2 a3 a4 a5 a6 a7 a8 a9 a10 a11 a12 a13 a14 : Nat → Int32} {N : Nat → Nat} {K V C : Nat → Nat → Nat}
theorem wk_putAt {post : St1 → Prop} {x i k v : Nat} (hx : x < 110) (hi : i < 5) (hk : k < 32768) (hv : v < 32768) (H : post (rt, we, wt, a1, upd a2 (5 * x + i) (nI k), upd a3 (5 * x + i) (nI v), a4, a5, a6, a7, a8, a9, a10, a11, a12, a13, a14)) : wpX_putAt post (rt, we, wt, a1, a2, a3, a4, a5, a6, a7, a8, a9, a10, a11, a12, a13, a14) (nI x) (nI i) (nI k) (nI v) := by
  refine ⟨ph_in5 hx hi, nm_r (e' := upd a2 (5 * x + i) (nI k)) ?_ ⟨ph_in5 hx hi, nm_r (e' := upd a3 (5 * x + i) (nI v)) ?_ H⟩⟩
  · rw [ph_c5 hx (by omega), ph_s16 hk]
  · rw [ph_c5 hx (by omega), ph_s16 hv]
theorem wk_open {post : St1 → Prop} (hp : ph_ok a1 a2 a3 a4 N K V C) {x i : Nat} (hx : x < 110) (hi : i ≤ N x) (n4 : N x ≤ 4)
    (H : ∀ b2 b3 K1 V1, ph_ok (upd a1 x (nI (N x + 1))) b2 b3 a4 (tr_up N x (N x + 1)) K1 V1 C → (∀ y, y ≠ x → K1 y = K y ∧ V1 y = V y) → (∀ j, j < i → K1 x j = K x j ∧ V1 x j = V x j) → (∀ j, i < j → j ≤ N x → K1 x j = K x (j - 1) ∧ V1 x j = V x (j - 1)) → post (rt, we, wt, upd a1 x (nI (N x + 1)), b2, b3, a4, a5, a6, a7, a8, a9, a10, a11, a12, a13, a14)) :
    wpX_openPlace post (rt, we, wt, a1, a2, a3, a4, a5, a6, a7, a8, a9, a10, a11, a12, a13, a14) (nI x) (nI i) := by
  have main : ∀ d k b2 b3 K1 V1, i + d = k → k ≤ N x → ph_ok a1 b2 b3 a4 N K1 V1 C → (∀ y, y ≠ x → K1 y = K y ∧ V1 y = V y) → (∀ j, j < k → K1 x j = K x j ∧ V1 x j = V x j) → (∀ j, k < j → j ≤ N x → K1 x j = K x (j - 1) ∧ V1 x j = V x (j - 1)) →
      wX_openPlace_7 post (nI x) (nI i) rt we wt (d + 1) (nI k) a1 b2 b3 a4 a5 a6 a7 a8 a9 a10 a11 a12 a13 a14 := by
    intro d
    induction d with
    | zero =>
      intro k b2 b3 K1 V1 hk hkn h1 h2 h3 h4
      have : k = i := by omega
      subst this
      refine pk_le k k (fun _ => ⟨pk_in x 110 hx, pk_in x 110 hx, nm_r (e' := upd a1 x (nI (N x + 1))) ?_ (H b2 b3 K1 V1 (ph_wN h1 hx (by omega)) h2 h3 h4)⟩) (fun z => absurd z (by omega))
      rw [ph_rN h1 hx, nI_clamp (by omega), nI_1, ph_t8n (by omega), ph_s8 (by omega)]
    | succ d ih =>
      intro k b2 b3 K1 V1 hk hkn h1 h2 h3 h4
      obtain ⟨q, hq⟩ : ∃ q, k = q + 1 := ⟨k - 1, by omega⟩
      subst hq
      have e1 : 5 * nI x + nI (q + 1) - 1 = nI (5 * x + q) := ph_i5m (by omega)
      have bb := h1.2.1 x q hx (by omega)
      have w1 := ph_wV (ph_wK h1 hx (show q + 1 < 5 by omega) bb.2.2.1) hx (show q + 1 < 5 by omega) bb.2.2.2
      refine pk_le (q + 1) i (fun z => absurd z (by omega)) (fun _ => ⟨pk_in (5 * x + q) 550 (by omega) e1, ph_in5 hx (by omega), nm_r (e' := upd b2 (5 * x + (q + 1)) (nI (K1 x q))) ?_ ⟨pk_in (5 * x + q) 550 (by omega) e1, ph_in5 hx (by omega), nm_r (e' := upd b3 (5 * x + (q + 1)) (nI (V1 x q))) ?_ (nm_r (pk_m1 q) (ih q _ _ _ _ (by omega) (by omega) w1 (fun y hy => ?_) (fun j hj => ?_) (fun j h5 h6 => ?_)))⟩⟩)
      · rw [e1, ph_c5 hx (by omega), nI_clamp (by omega), bb.1, ph_n16 bb.2.2.1]
      · rw [e1, ph_c5 hx (by omega), nI_clamp (by omega), bb.2.1, ph_n16 bb.2.2.2]
      · rw [ph_u2N hy, ph_u2N hy]; exact h2 y hy
      · rw [ph_u2J (by omega), ph_u2J (by omega)]; exact h3 j (by omega)
      · by_cases e : j = q + 1
        · subst e; rw [ph_u2S, ph_u2S, Nat.add_sub_cancel]; exact h3 q (by omega)
        · rw [ph_u2J e, ph_u2J e]; exact h4 j (by omega) h6
  refine ⟨pk_in x 110 hx, nm_r (ph_rN hp hx) ⟨N x - i + 1, ?_⟩⟩
  exact main (N x - i) (N x) a2 a3 K V (by omega) (by omega) hp (fun _ _ => ⟨rfl, rfl⟩) (fun _ _ => ⟨rfl, rfl⟩) (fun j h5 h6 => absurd h6 (by omega))
/-- a place opened and filled -/
theorem ph_insF {b1 b2 b3 b4 : Nat → Int32} {N1 : Nat → Nat} {K1 V1 C1 : Nat → Nat → Nat} {n x i k v : Nat} (h1 : ph_ok b1 b2 b3 b4 N1 K1 V1 C1) (hx : x < 110) (hi : i < 5) (hk : k < 32768) (hv : v < 32768)
    (h2 : ∀ y, y ≠ x → K1 y = K y ∧ V1 y = V y) (h3 : ∀ j, j < i → K1 x j = K x j ∧ V1 x j = V x j) (h4 : ∀ j, i < j → j ≤ n → K1 x j = K x (j - 1) ∧ V1 x j = V x (j - 1)) :
    ∃ K2 V2, ph_ok b1 (upd b2 (5 * x + i) (nI k)) (upd b3 (5 * x + i) (nI v)) b4 N1 K2 V2 C1 ∧ (∀ y, y ≠ x → K2 y = K y ∧ V2 y = V y) ∧ tr_insF n (K x) (K2 x) i k ∧ tr_insF n (V x) (V2 x) i v := by
  refine ⟨_, _, ph_wV (ph_wK h1 hx hi hk) hx hi hv, fun y hy => ?_, ⟨fun j hj => ?_, ph_u2S, fun j a b => ?_⟩, ⟨fun j hj => ?_, ph_u2S, fun j a b => ?_⟩⟩
  · rw [ph_u2N hy, ph_u2N hy]; exact h2 y hy
  · rw [ph_u2J (by omega)]; exact (h3 j hj).1
  · rw [ph_u2J (by omega)]; exact (h4 j a b).1
  · rw [ph_u2J (by omega)]; exact (h3 j hj).2
  · rw [ph_u2J (by omega)]; exact (h4 j a b).2
theorem wk_split161 {post : St1 → Prop} (hp : ph_ok a1 a2 a3 a4 N K V C) {x y p i : Nat} (hx : x < 110) (hy : y < 110) (hp1 : p < 110) (xp : x ≠ p) (ip : i ≤ N p) (np : N p ≤ 4)
    (H : ∀ b2 b3 b4 K1 V1 C1, ph_ok (upd a1 p (nI (N p + 1))) b2 b3 b4 (tr_up N p (N p + 1)) K1 V1 C1 → (∀ z, z ≠ p → K1 z = K z ∧ V1 z = V z ∧ C1 z = C z) → tr_insF (N p) (K p) (K1 p) i (K x 2) → tr_insF (N p) (V p) (V1 p) i (V x 2) → tr_insF (N p + 1) (C p) (C1 p) (i + 1) y → post (rt, we, wt, upd a1 p (nI (N p + 1)), b2, b3, b4, a5, a6, a7, a8, a9, a10, a11, a12, a13, a14)) :
    wX_split_161 post (nI x) (nI y) (nI p) (nI i) rt we wt a1 a2 a3 a4 a5 a6 a7 a8 a9 a10 a11 a12 a13 a14 := by
  have kx := hp.2.1 x 2 hx (by omega)
  have main : ∀ d k b4 C1, i + 1 + d = k → k ≤ N p + 1 → ph_ok a1 a2 a3 b4 N K V C1 → (∀ z, z ≠ p → C1 z = C z) → (∀ j, j < k → C1 p j = C p j) → (∀ j, k < j → j ≤ N p + 1 → C1 p j = C p (j - 1)) →
      wX_split_174 post (nI x) (nI y) (nI p) (nI i) rt we wt (d + 1) (nI k) a1 a2 a3 b4 a5 a6 a7 a8 a9 a10 a11 a12 a13 a14 := by
    intro d
    induction d with
    | zero =>
      intro k b4 C1 hk hkn h1 h2 h3 h4
      have e1 : k = i + 1 := by omega
      subst e1
      refine pk_le (i + 1) (i + 1) (fun _ => ?_) (fun z => absurd z (by omega)) rfl (nI_1 i)
      refine wk_open h1 hp1 ip np (fun b2 b3 K1 V1 g1 g2 g3 g4 => ?_)
      have kx1 := g1.2.1 x 2 hx (by omega)
      have r2 : b2 (5 * nI x + 2).toNatClampNeg = nI (K x 2) := by rw [ph_i52, nI_clamp (by omega), kx1.1, (g2 x xp).1]
      have r3 : b3 (5 * nI x + 2).toNatClampNeg = nI (V x 2) := by rw [ph_i52, nI_clamp (by omega), kx1.2.1, (g2 x xp).2]
      refine ⟨pk_in (5 * x + 2) 550 (by omega) (ph_i52 x), pk_in (5 * x + 2) 550 (by omega) (ph_i52 x), ?_⟩
      rw [r2, r3]
      refine wk_putAt hp1 (by omega) kx.2.2.1 kx.2.2.2 ?_
      refine ⟨pk_in (6 * p + (i + 1)) 660 (by omega) (ph_i6p p i), nm_r (e' := upd b4 (6 * p + (i + 1)) (pg_I y)) ?_ ?_⟩
      · rw [ph_i6p, nI_clamp (by omega), ph_t8n (by omega)]
      · refine H _ _ _ _ _ _ (ph_wC (ph_wV (ph_wK g1 hp1 (show i < 5 by omega) kx.2.2.1) hp1 (show i < 5 by omega) kx.2.2.2) hp1 (show i + 1 < 6 by omega)) (fun z hz => ?_) ⟨fun j hj => ?_, ph_u2S, fun j a b => ?_⟩ ⟨fun j hj => ?_, ph_u2S, fun j a b => ?_⟩ ⟨fun j hj => ?_, ph_u2S, fun j a b => ?_⟩
        · rw [ph_u2N hz, ph_u2N hz, ph_u2N hz]; exact ⟨(g2 z hz).1, (g2 z hz).2, h2 z hz⟩
        · rw [ph_u2J (by omega)]; exact (g3 j hj).1
        · rw [ph_u2J (by omega)]; exact (g4 j a b).1
        · rw [ph_u2J (by omega)]; exact (g3 j hj).2
        · rw [ph_u2J (by omega)]; exact (g4 j a b).2
        · rw [ph_u2J (by omega)]; exact h3 j hj
        · rw [ph_u2J (by omega)]; exact h4 j a b
    | succ d ih =>
      intro k b4 C1 hk hkn h1 h2 h3 h4
      obtain ⟨q, hq⟩ : ∃ q, k = q + 1 := ⟨k - 1, by omega⟩
      subst hq
      have e1 : 6 * nI p + nI (q + 1) - 1 = nI (6 * p + q) := ph_i6m (by omega)
      refine pk_le (q + 1) (i + 1) (fun z => absurd z (by omega)) (fun _ => ⟨pk_in (6 * p + q) 660 (by omega) e1, ph_in6 hp1 (by omega), nm_r (e' := upd b4 (6 * p + (q + 1)) (pg_I (C1 p q))) ?_ (nm_r (pk_m1 q) (ih q _ _ (by omega) (by omega) (ph_wC h1 hp1 (by omega)) (fun z hz => ?_) (fun j hj => ?_) (fun j h5 h6 => ?_)))⟩) rfl (nI_1 i)
      · rw [e1, ph_c6 hp1 (by omega), nI_clamp (by omega), h1.2.2 p q hp1 (by omega), ph_n8]
      · rw [ph_u2N hz]; exact h2 z hz
      · rw [ph_u2J (by omega)]; exact h3 j (by omega)
      · by_cases e : j = q + 1
        · subst e; rw [ph_u2S, Nat.add_sub_cancel]; exact h3 q (by omega)
        · rw [ph_u2J e]; exact h4 j (by omega) h6
  refine ⟨pk_in p 110 hp1, nm_r (e' := nI (N p + 1)) (by rw [ph_rN hp hp1, nI_1]) ⟨N p - i + 1, ?_⟩⟩
  exact main (N p - i) (N p + 1) a4 C (by omega) (by omega) hp (fun _ _ => rfl) (fun _ _ => rfl) (fun j h5 h6 => absurd h6 (by omega))
theorem wk_split15 {post : St1 → Prop} {q : Int32} (hp : ph_ok a1 a2 a3 a4 N K V C) {x y : Nat} (hx : x < 110) (hy : y < 110) (xy : x ≠ y) (hc : C x 0 < 110 ∨ C x 0 = 255)
    (H : ∀ b2 b3 b4 K1 V1 C1, ph_ok a1 b2 b3 b4 N K1 V1 C1 → (∀ z, z ≠ y → K1 z = K z ∧ V1 z = V z ∧ C1 z = C z) → (∀ j, j < 2 → K1 y j = K x (3 + j) ∧ V1 y j = V x (3 + j)) → (C x 0 ≠ 255 → ∀ j, j < 3 → C1 y j = C x (3 + j)) → (C x 0 = 255 → C1 y = C y) →
      wX_split_109 post q (nI x) (nI y) rt we wt a1 b2 b3 b4 a5 a6 a7 a8 a9 a10 a11 a12 a13 a14) :
    ∃ n, wX_split_15 post q (nI x) (nI y) n 0 rt we wt a1 a2 a3 a4 a5 a6 a7 a8 a9 a10 a11 a12 a13 a14 := by
  refine pk_loop (fun n i (b : (Nat → Int32) × (Nat → Int32)) => wX_split_15 post q (nI x) (nI y) n (nI i) rt we wt a1 b.1 b.2 a4 a5 a6 a7 a8 a9 a10 a11 a12 a13 a14)
    (fun i b => ∃ K1 V1, ph_ok a1 b.1 b.2 a4 N K1 V1 C ∧ (∀ z, z ≠ y → K1 z = K z ∧ V1 z = V z) ∧ ∀ j, j < i → K1 y j = K x (3 + j) ∧ V1 y j = V x (3 + j)) 2 0 (a2, a3) (by omega) ⟨K, V, hp, fun _ _ => ⟨rfl, rfl⟩, fun j hj => absurd hj (by omega)⟩ ?_ ?_
  · intro n b ⟨K1, V1, h1, h2, h3⟩
    refine pk_le 2 2 (fun _ => ?_) (fun z => absurd z (by omega))
    refine wk_leaf h1 hx hc (fun e => br_f (by decide) ?_) (fun e => br_t rfl ?_)
    · exact H _ _ _ _ _ _ h1 (fun z hz => ⟨(h2 z hz).1, (h2 z hz).2, rfl⟩) h3 (fun z => absurd e z) (fun _ => rfl)
    · refine pk_loop (fun n i c => wX_split_71 post q (nI x) (nI y) rt we wt n (nI i) a1 b.1 b.2 c a5 a6 a7 a8 a9 a10 a11 a12 a13 a14)
        (fun i c => ∃ C1, ph_ok a1 b.1 b.2 c N K1 V1 C1 ∧ (∀ z, z ≠ y → C1 z = C z) ∧ ∀ j, j < i → C1 y j = C x (3 + j)) 3 0 a4 (by omega) ⟨C, h1, fun _ _ => rfl, fun j hj => absurd hj (by omega)⟩ ?_ ?_
      · intro n c ⟨C1, g1, g2, g3⟩
        refine pk_le 3 3 (fun _ => ?_) (fun z => absurd z (by omega))
        exact H _ _ _ _ _ _ g1 (fun z hz => ⟨(h2 z hz).1, (h2 z hz).2, g2 z hz⟩) h3 (fun _ => g3) (fun z => absurd z e)
      · intro n i c hi1 ⟨C1, g1, g2, g3⟩ hw
        refine pk_le 3 i (fun z => absurd z (by omega)) (fun _ => ⟨pk_in (6 * x + (3 + i)) 660 (by omega) (ph_i63 x i), ph_in6 hy (by omega), nm_r (e' := upd c (6 * y + i) (pg_I (C x (3 + i)))) ?_ (nm_r (nI_1 i) (hw _ ⟨_, ph_wC g1 hy (show i < 6 by omega), fun z hz => ?_, fun j hj => ?_⟩))⟩)
        · rw [ph_i63, ph_c6 hy (by omega), nI_clamp (by omega), g1.2.2 x (3 + i) hx (by omega), ph_n8, g2 x xy]
        · rw [ph_u2N hz]; exact g2 z hz
        · by_cases e2 : j = i
          · subst e2; rw [ph_u2S]
          · rw [ph_u2J e2]; exact g3 j (by omega)
  · intro n i b hi1 ⟨K1, V1, h1, h2, h3⟩ hw
    have bb := h1.2.1 x (3 + i) hx (by omega)
    have e1 : b.1 (5 * nI x + 3 + nI i).toNatClampNeg = nI (K1 x (3 + i)) := by rw [ph_i53, nI_clamp (by omega)]; exact bb.1
    have e2 : b.2 (5 * nI x + 3 + nI i).toNatClampNeg = nI (V1 x (3 + i)) := by rw [ph_i53, nI_clamp (by omega)]; exact bb.2.1
    refine pk_le 2 i (fun z => absurd z (by omega)) (fun _ => ⟨pk_in (5 * x + (3 + i)) 550 (by omega) (ph_i53 x i), pk_in (5 * x + (3 + i)) 550 (by omega) (ph_i53 x i), ?_⟩)
    rw [e1, e2]
    refine wk_putAt hy (by omega) bb.2.2.1 bb.2.2.2 (nm_r (nI_1 i) (hw (upd b.1 (5 * y + i) (nI (K1 x (3 + i))), upd b.2 (5 * y + i) (nI (V1 x (3 + i)))) ⟨_, _, ph_wV (ph_wK h1 hy (show i < 5 by omega) bb.2.2.1) hy (show i < 5 by omega) bb.2.2.2, fun z hz => ?_, fun j hj => ?_⟩))
    · rw [ph_u2N hz, ph_u2N hz]; exact h2 z hz
    · by_cases e2 : j = i
      · subst e2; rw [ph_u2S, ph_u2S, (h2 x xy).1, (h2 x xy).2]; exact ⟨rfl, rfl⟩
      · rw [ph_u2J e2, ph_u2J e2]; exact h3 j (by omega)
end
end
section
/-! split -/
section
variable {rt we wt : Int32} {a1 a2 a3 a4 a5 a6 a7 a8 a9 a10 a11 a12 a13 a14 : Nat → Int32} {N N' : Nat → Nat} {K V C K' V' C' : Nat → Nat → Nat} {r s : Nat} {T G S fr nd : Nat → Prop} {lv lo hi lvS loS hiS : Nat → Nat} {M MS : Nat → Option Nat} {L : List Nat}
theorem bt_free2 (h : bt_ok a1 a2 a3 a4 a5 rt N K V C fr r T lv lo hi s S lvS loS hiS M MS L) (y : Nat) : ∃ z, z < 109 ∧ ¬ ((z = y ∨ fr z) ∨ T z ∨ S z) := by
  obtain ⟨b1, b2, b3, b4, b5, b6, b7, b8, b9, b10, b11, b12, b13, b14⟩ := h
  have st : ∀ x, S x → (T x ∧ 2 ≤ N x) ∨ (S x ∧ 2 ≤ N x) ∨ x ∈ y :: s :: L := by
    intro x z
    by_cases e : x = s
    · exact Or.inr (Or.inr (by rw [e]; exact List.mem_cons_of_mem _ List.mem_cons_self))
    · exact Or.inr (Or.inl ⟨z, (b13 x z).1 e⟩)
  have tt : ∀ x, T x → (T x ∧ 2 ≤ N x) ∨ (S x ∧ 2 ≤ N x) ∨ x ∈ y :: s :: L := by
    intro x z
    by_cases e : x ∈ L
    · exact Or.inr (Or.inr (List.mem_cons_of_mem _ (List.mem_cons_of_mem _ e)))
    · exact Or.inl ⟨z, b12 x z e⟩
  refine ct_page (P := fun z => (z = y ∨ fr z) ∨ T z ∨ S z) (l := 12) (y :: s :: L) b4 b5 b10 b6 b7 b11 (fun x hx => ?_) (by simp; omega) (by omega)
  rcases hx with (z | z) | z | z
  · exact Or.inr (Or.inr (by rw [z]; exact List.mem_cons_self))
  · exact tt x (b8 x z).1
  · exact tt x z
  · exact st x z
theorem bt_hgt (h : bt_ok a1 a2 a3 a4 a5 rt N K V C fr r T lv lo hi s S lvS loS hiS M MS [r]) (nr : 1 ≤ N r) : lv r ≤ 6 := by
  obtain ⟨b1, b2, b3, b4, b5, b6, b7, b8, b9, b10, b11, b12, b13, b14⟩ := h
  exact tr_height b4 (fun x hx e => b12 x hx (by simpa using e)) nr
theorem wk_split {post : St1 → Prop} {num v l : Nat} {wp wi : Nat → Nat} (h : bt_ok a1 a2 a3 a4 a5 rt N K V C fr r T lv lo hi s S lvS loS hiS M MS [r]) (sv : sv_ok a7 a8 a9 s num v)
    (pt : pt_ok N C r T lv (l + 1) wp wi) (ar : pt_ar a12 a13 (l + 1) wp wi) (l8 : l < 8) (hfr : ∀ j, j < l + 1 → fr (wp j)) (n5 : N (wp l) = 5) (oth : ∀ x, T x → x ≠ wp l → N x ≤ 4) (nr : 1 ≤ N r)
    (H0 : l = 0 → ∀ rt' w' b1 b2 b3 b4 b5 b6 b14 N' K' V' C' fr' r' T' lv' lo' hi', bt_ok b1 b2 b3 b4 b5 rt' N' K' V' C' fr' r' T' lv' lo' hi' s S lvS loS hiS M MS [r'] → (∀ x, T' x → N' x ≤ 4) → 1 ≤ N' r' → post (rt', we, w', b1, b2, b3, b4, b5, b6, a7, a8, a9, a10, a11, a12, a13, b14))
    (H1 : ∀ q, l = q + 1 → ∀ w' b1 b2 b3 b4 b5 b6 b14 N' K' V' C' fr' T' lv' lo' hi', bt_ok b1 b2 b3 b4 b5 rt N' K' V' C' fr' r T' lv' lo' hi' s S lvS loS hiS M MS [r] → pt_ok N' C' r T' lv' (q + 1) wp wi → (∀ j, j < q + 1 → fr' (wp j)) → (∀ x, T' x → x ≠ wp q → N' x ≤ 4) → 1 ≤ N' r → post (rt, we, w', b1, b2, b3, b4, b5, b6, a7, a8, a9, a10, a11, a12, a13, b14)) :
    wpX_split post (rt, we, wt, a1, a2, a3, a4, a5, a6, a7, a8, a9, a10, a11, a12, a13, a14) (nI l) := by
  have fy := bt_free h
  have fy2 := bt_free2 h
  have hgt := bt_hgt h nr
  obtain ⟨p1, p2, p3, p4, p5, p6, p7, p8, p9, p10, p11, p12, p13, p14⟩ := h
  obtain ⟨hx, xlv, xwi⟩ := pt.1 l (by omega)
  have xfr := hfr l (by omega)
  have xS := (p8 _ xfr).2
  have x1 := (p4.2.1 _ hx).1
  have r1 := (p4.2.1 r p4.1.1).1
  have war := (ar l (by omega)).1
  refine ⟨pk_in l 8 l8, nm_r (e' := nI (wp l)) (by rw [nI_clamp (by omega)]; exact war) ?_⟩
  refine wk_new p1 (tr_wl p4) (by rw [p3, ph_s8 (by omega)]) (Or.inr p6) sv p2 fy (fun y w' b6 b14 hy hf hs => ?_)
  have hTy : ¬ T y := fun z => (p9 y z).elim hf hs
  have xy : wp l ≠ y := fun z => hTy (z ▸ hx)
  have ny : ∀ z, T z → z ≠ y := fun z hz e => hTy (e ▸ hz)
  have hq := ph_new p1 hy
  refine wk_split15 hq x1 hy xy (by rw [ph_u2N xy]; exact tr_c110 p4 hx) (fun b2 b3 b4 K1 V1 C1 g1 g2 g3 g4 g5 => ?_)
  rw [ph_u2N xy] at g4 g5
  have g2C : ∀ z, z ≠ y → C1 z = C z := fun z hz => by rw [(g2 z hz).2.2, ph_u2N hz]
  have G1 := ph_wN (ph_wN g1 hy (show 2 ≤ 5 by omega)) x1 (show 2 ≤ 5 by omega)
  have NX : tr_up (tr_up (tr_up N y 0) y 2) (wp l) 2 (wp l) = 2 := tr_upS
  have NY : tr_up (tr_up (tr_up N y 0) y 2) (wp l) 2 y = 2 := by rw [tr_upN (fun e => xy e.symm), tr_upS]
  have NO : ∀ z, z ≠ y → z ≠ wp l → tr_up (tr_up (tr_up N y 0) y 2) (wp l) 2 z = N z := fun z a b => by rw [tr_upN b, tr_upN a, tr_upN a]
  have c2' : lv (wp l) = 0 → C1 y 0 = 255 := fun e => by rw [g5 ((p4.2.2.2.2.1 _ hx).mpr e), ph_u2S]
  have c2 : 0 < lv (wp l) → ∀ j, j ≤ 2 → C1 y j = C (wp l) (3 + j) := fun e j hj => g4 (fun z => absurd ((p4.2.2.2.2.1 _ hx).mp z) (by omega)) j (by omega)
  refine ⟨pk_in y 110 hy, nm_r (e' := upd (upd a1 y 0) y (nI 2)) (by rw [nI_clamp (by omega)]; rfl) ⟨pk_in (wp l) 110 x1, nm_r (e' := upd (upd (upd a1 y 0) y (nI 2)) (wp l) (nI 2)) (by rw [nI_clamp (by omega)]; rfl) (pk_eq l 0 (fun z => ?_) (fun z => ?_))⟩⟩
  · -- the root
    subst z
    have wr : wp 0 = r := pt.2.1 (by omega)
    unfold wpX_newRoot
    refine wk_new G1 (G := T) (lv := lv) (r := r) (S := S) (lvS := lvS) (loS := loS) (hiS := hiS) (fr := fun z => z = y ∨ fr z) (Or.inr ⟨p4.1.1, p4.1.2.2.2, fun z hz => ?_⟩) (by rw [p3, ph_s8 (by omega)]) (Or.inr (tr_frame p6 (fun z hz => ?_))) sv (ph_frSet p2 y) (fy2 y) (fun z0 w2 c6 c14 hz hzf hzs => ?_)
    · refine ⟨(p4.2.1 z hz).1, by rw [g2C z (ny z hz)]; exact p4.2.2.2.2.1 z hz, fun lz i hi1 => ?_⟩
      rw [g2C z (ny z hz)]
      have : i ≤ N z := by
        by_cases e : z = wp 0
        · rw [e, NX] at hi1; rw [e]; omega
        · rw [NO z (ny z hz) e] at hi1; exact hi1
      exact ⟨(p4.2.2.2.2.2.1 z i hz lz this).1, (p4.2.2.2.2.2.1 z i hz lz this).2.1⟩
    · have zy : z ≠ y := fun e => hs (e ▸ hz)
      have zx : z ≠ wp 0 := fun e => xS (e ▸ hz)
      exact ⟨NO z zy zx, (g2 z zy).1, g2C z zy⟩
    · have z0y : z0 ≠ y := fun e => hzf (Or.inl e)
      have hTz : ¬ T z0 := fun e => (p9 z0 e).elim (fun q => hzf (Or.inr q)) hzs
      have z0x : z0 ≠ wp 0 := fun e => hTz (e ▸ hx)
      have nz : ∀ z, T z → z ≠ z0 := fun z hz e => hTz (e ▸ hz)
      refine ⟨ph_in60 hz, nm_r (e' := upd (upd b4 (6 * z0 + 0) (pg_I 255)) (6 * z0 + 0) (pg_I (wp 0))) (by rw [ph_c60 hz, ph_t8n (by omega)]) ?_⟩
      have G2 := ph_wC (ph_new G1 hz) hz (show 0 < 6 by omega) (c := wp 0)
      refine br_t rfl ?_
      have Q := wk_split161 (rt := nI z0) (we := we) (wt := w2) (a5 := upd (upd a5 y 1) z0 1) (a6 := c6) (a7 := a7) (a8 := a8) (a9 := a9) (a10 := a10) (a11 := a11) (a12 := a12) (a13 := a13) (a14 := c14) (post := post) (y := y) (p := z0) (i := 0) G2 x1 hy hz (fun e => z0x e.symm) (by omega) (by rw [tr_upS]; omega) ?_
      · exact Q
      · rw [tr_upS]
        intro d2 d3 d4 K2 V2 C2 k1 k2 k3 k4 k5
        have A := tr_root (N' := tr_up N z0 0) (K' := K) (V' := V) (C' := ph_u2 C z0 0 r) p4 p5 hTz hz hgt nr tr_upS ph_u2S (fun w hw => ⟨tr_upN (nz w hw), rfl, rfl, ph_u2N (nz w hw)⟩)
        have NZ : tr_up (tr_up (tr_up (tr_up (tr_up N y 0) y 2) (wp 0) 2) z0 0) z0 (0 + 1) z0 = 1 := tr_upS
        have NN : ∀ w, w ≠ z0 → tr_up (tr_up (tr_up (tr_up (tr_up N y 0) y 2) (wp 0) 2) z0 0) z0 (0 + 1) w = tr_up (tr_up (tr_up N y 0) y 2) (wp 0) 2 w := fun w hw => by rw [tr_upN hw, tr_upN hw]
        have kC : ∀ w, w ≠ z0 → C2 w = C1 w := fun w hw => by rw [(k2 w hw).2.2, ph_u2N hw, ph_u2N hw]
        have B := tr_split (p := z0) (i := 0) (x := wp 0) (y := y) (N' := tr_up (tr_up (tr_up (tr_up (tr_up N y 0) y 2) (wp 0) 2) z0 0) z0 (0 + 1)) (K' := K2) (V' := V2) (C' := C2) A.1 A.2 (Or.inl rfl) (by rw [tr_upS]; omega) (by omega) (by rw [ph_u2S, wr]) (by rw [tr_upN (fun e => z0x e.symm)]; exact n5) (by rw [tr_upS]; omega)
          (fun e => e.elim (fun q => z0y q.symm) hTy) hy (by rw [NN _ (fun e => z0x e.symm), NX]) (by rw [NN _ (fun e => z0y e.symm), NY]) (by rw [NZ, tr_upS])
          (fun j hj => by rw [(k2 _ (fun e => z0x e.symm)).1, (k2 _ (fun e => z0x e.symm)).2.1, (g2 _ xy).1, (g2 _ xy).2.1]; exact ⟨rfl, rfl⟩)
          (fun j hj => by rw [(k2 _ (fun e => z0y e.symm)).1, (k2 _ (fun e => z0y e.symm)).2.1]; exact g3 j hj)
          ⟨fun j hj => absurd hj (by omega), by rw [k3.2.1, (g2 _ xy).1], fun j a b => by rw [tr_upS] at b; omega⟩ ⟨fun j hj => absurd hj (by omega), by rw [k4.2.1, (g2 _ xy).2.1], fun j a b => by rw [tr_upS] at b; omega⟩
          (fun j hj => by rw [kC _ (fun e => z0x e.symm), g2C _ xy, ph_u2N (fun e => z0x e.symm)])
          (fun e j hj => by rw [tr_upN (fun e => z0x e.symm)] at e; rw [kC _ (fun e => z0y e.symm), c2 e j hj, ph_u2N (fun e => z0x e.symm)])
          (fun e => by rw [tr_upN (fun e => z0x e.symm)] at e; rw [kC _ (fun e => z0y e.symm), c2' e])
          (by
            rw [tr_upS]
            refine ⟨fun j hj => ?_, k5.2.1, fun j a b => absurd b (by omega)⟩
            have : j = 0 := by omega
            subst this
            rw [k5.1 0 (by omega), ph_u2S, ph_u2S, wr])
          (fun w hw a b => by
            rcases hw with e | hw
            · exact absurd e b
            · rw [NN w b, NO w (ny w hw) a, (k2 w b).1, (k2 w b).2.1, (g2 w (ny w hw)).1, (g2 w (ny w hw)).2.1, kC w b, g2C w (ny w hw), tr_upN b, ph_u2N b]; exact ⟨rfl, rfl, rfl, rfl⟩)
        have S1 : ∀ w, S w → w ≠ z0 ∧ w ≠ y ∧ w ≠ wp 0 := fun w hw => ⟨fun e => hzs (e ▸ hw), fun e => hs (e ▸ hw), fun e => xS (e ▸ hw)⟩
        have SF : ∀ w, S w → tr_up (tr_up (tr_up (tr_up (tr_up N y 0) y 2) (wp 0) 2) z0 0) z0 (0 + 1) w = N w ∧ K2 w = K w ∧ V2 w = V w ∧ C2 w = C w := by
          intro w hw
          obtain ⟨s1, s2, s3⟩ := S1 w hw
          rw [NN w s1, NO w s2 s3, (k2 w s1).1, (k2 w s1).2.1, (g2 w s2).1, (g2 w s2).2.1, kC w s1, g2C w s2]
          exact ⟨rfl, rfl, rfl, rfl⟩
        refine H0 rfl _ _ _ _ _ _ _ _ _ _ _ _ _ _ _ _ _ _ _ ⟨k1, ph_frSet (ph_frSet p2 y) z0, rfl, B.1, B.2, tr_frame p6 (fun w hw => ⟨(SF w hw).1, (SF w hw).2.1, (SF w hw).2.2.2⟩), tr_mpFrame p7 (fun w hw => ⟨(SF w hw).1, (SF w hw).2.1, (SF w hw).2.2.1⟩), ?_, ?_, p10, p11, ?_, ?_, by simp⟩ ?_ ?_
        · intro w hw
          rcases hw with e | e | e
          · exact ⟨Or.inr (Or.inl e), e ▸ hzs⟩
          · exact ⟨Or.inl e, e ▸ hs⟩
          · exact ⟨Or.inr (Or.inr (p8 w e).1), (p8 w e).2⟩
        · intro w hw
          rcases hw with e | e | e
          · exact Or.inl (Or.inr (Or.inl e))
          · exact Or.inl (Or.inl e)
          · exact (p9 w e).elim (fun q => Or.inl (Or.inr (Or.inr q))) Or.inr
        · intro w hw wl
          have wz : w ≠ z0 := by simpa using wl
          rw [NN w wz]
          rcases hw with e | e | e
          · rw [e, NY]; omega
          · exact absurd e wz
          · by_cases wx : w = wp 0
            · rw [wx, NX]; omega
            · rw [NO w (ny w e) wx]
              exact p12 w e (by rw [← wr]; simpa using wx)
        · intro w hw; rw [(SF w hw).1]; exact p13 w hw
        · intro w hw
          by_cases wz : w = z0
          · rw [wz, NZ]; omega
          · rw [NN w wz]
            rcases hw with e | e | e
            · rw [e, NY]; omega
            · exact absurd e wz
            · by_cases wx : w = wp 0
              · rw [wx, NX]; omega
              · rw [NO w (ny w e) wx]; exact oth w e wx
        · rw [NZ]; omega
  · -- below the root
    obtain ⟨q, hq'⟩ : ∃ q, l = q + 1 := ⟨l - 1, by omega⟩
    subst hq'
    have e1 : nI (q + 1) - 1 = nI q := nI_pred q
    obtain ⟨hP, Plv, Pwi⟩ := pt.1 q (by omega)
    have Pfr := hfr q (by omega)
    have P1 := (p4.2.1 _ hP).1
    have PS := (p8 _ Pfr).2
    have Py := ny _ hP
    have Px : wp q ≠ wp (q + 1) := by intro e; rw [e] at Plv; omega
    have P4 := oth _ hP Px
    have xr : wp (q + 1) ≠ r := by intro e; rw [e] at xlv; omega
    have r1 : a12 (nI (q + 1) - 1).toNatClampNeg = nI (wp q) := by rw [e1, nI_clamp (by omega)]; exact (ar q (by omega)).1
    have r2 : a13 (nI (q + 1) - 1).toNatClampNeg = nI (wi q) := by rw [e1, nI_clamp (by omega)]; exact (ar q (by omega)).2
    refine ⟨pk_in q 8 (by omega) e1, ?_⟩
    rw [r1]
    refine br_f (nI_ne0 (by omega) (by omega)) ⟨pk_in q 8 (by omega) e1, ?_⟩
    rw [r2]
    refine wk_split161 G1 x1 hy P1 (fun e => Px e.symm) (by rw [NO _ Py Px]; exact Pwi) (by rw [NO _ Py Px]; exact P4) ?_
    rw [NO _ Py Px]
    intro d2 d3 d4 K2 V2 C2 k1 k2 k3 k4 k5
    have xP : wp (q + 1) ≠ wp q := fun e => Px e.symm
    have yP : y ≠ wp q := fun e => Py e.symm
    have NP : tr_up (tr_up (tr_up (tr_up N y 0) y 2) (wp (q + 1)) 2) (wp q) (N (wp q) + 1) (wp q) = N (wp q) + 1 := tr_upS
    have NN : ∀ w, w ≠ wp q → tr_up (tr_up (tr_up (tr_up N y 0) y 2) (wp (q + 1)) 2) (wp q) (N (wp q) + 1) w = tr_up (tr_up (tr_up N y 0) y 2) (wp (q + 1)) 2 w := fun w hw => tr_upN hw
    have kC : ∀ w, w ≠ wp q → C2 w = C1 w := fun w hw => (k2 w hw).2.2
    rw [(g2 _ Py).1, (g2 _ xy).1] at k3
    rw [(g2 _ Py).2.1, (g2 _ xy).2.1] at k4
    rw [g2C _ Py] at k5
    have B := tr_split (p := wp q) (i := wi q) (x := wp (q + 1)) (y := y) (N' := tr_up (tr_up (tr_up (tr_up N y 0) y 2) (wp (q + 1)) 2) (wp q) (N (wp q) + 1)) (K' := K2) (V' := V2) (C' := C2) p4 p5 hP (by omega) Pwi (pt.2.2 q (by omega)) n5 P4 hTy hy (by rw [NN _ xP, NX]) (by rw [NN _ yP, NY]) NP
      (fun j hj => by rw [(k2 _ xP).1, (k2 _ xP).2.1, (g2 _ xy).1, (g2 _ xy).2.1]; exact ⟨rfl, rfl⟩)
      (fun j hj => by rw [(k2 _ yP).1, (k2 _ yP).2.1]; exact g3 j hj) k3 k4
      (fun j hj => by rw [kC _ xP, g2C _ xy]) (fun e j hj => by rw [kC _ yP, c2 e j hj]) (fun e => by rw [kC _ yP, c2' e]) k5
      (fun w hw a b => by rw [NN w b, NO w (ny w hw) a, (k2 w b).1, (k2 w b).2.1, (g2 w (ny w hw)).1, (g2 w (ny w hw)).2.1, kC w b, g2C w (ny w hw)]; exact ⟨rfl, rfl, rfl, rfl⟩)
    have S1 : ∀ w, S w → w ≠ wp q ∧ w ≠ y ∧ w ≠ wp (q + 1) := fun w hw => ⟨fun e => PS (e ▸ hw), fun e => hs (e ▸ hw), fun e => xS (e ▸ hw)⟩
    have SF : ∀ w, S w → tr_up (tr_up (tr_up (tr_up N y 0) y 2) (wp (q + 1)) 2) (wp q) (N (wp q) + 1) w = N w ∧ K2 w = K w ∧ V2 w = V w ∧ C2 w = C w := by
      intro w hw
      obtain ⟨s1, s2, s3⟩ := S1 w hw
      rw [NN w s1, NO w s2 s3, (k2 w s1).1, (k2 w s1).2.1, (g2 w s2).1, (g2 w s2).2.1, kC w s1, g2C w s2]
      exact ⟨rfl, rfl, rfl, rfl⟩
    have NT : ∀ w, T w → w ≠ wp q → w ≠ wp (q + 1) → tr_up (tr_up (tr_up (tr_up N y 0) y 2) (wp (q + 1)) 2) (wp q) (N (wp q) + 1) w = N w := fun w hw a b => by rw [NN w a, NO w (ny w hw) b]
    have LV : ∀ w, T w → tr_up lv y (lv (wp (q + 1))) w = lv w := fun w hw => tr_upN (ny w hw)
    refine H1 q rfl _ _ _ _ _ _ _ _ _ _ _ _ _ _ _ _ _ ⟨k1, ph_frSet p2 y, p3, B.1, B.2, tr_frame p6 (fun w hw => ⟨(SF w hw).1, (SF w hw).2.1, (SF w hw).2.2.2⟩), tr_mpFrame p7 (fun w hw => ⟨(SF w hw).1, (SF w hw).2.1, (SF w hw).2.2.1⟩), ?_, ?_, p10, p11, ?_, ?_, by simp⟩ ⟨fun j hj => ?_, fun _ => pt.2.1 (by omega), fun j hj => ?_⟩ ?_ ?_ ?_
    · intro w hw
      rcases hw with e | e
      · exact ⟨Or.inl e, e ▸ hs⟩
      · exact ⟨Or.inr (p8 w e).1, (p8 w e).2⟩
    · intro w hw
      rcases hw with e | e
      · exact Or.inl (Or.inl e)
      · exact (p9 w e).elim (fun q => Or.inl (Or.inr q)) Or.inr
    · intro w hw wl
      by_cases wP : w = wp q
      · rw [wP, NP]
        have : wp q ∉ [r] := by rw [← wP]; exact wl
        have := p12 _ hP this
        omega
      · rcases hw with e | e
        · rw [NN w wP, e, NY]; omega
        · by_cases wx : w = wp (q + 1)
          · rw [NN w wP, wx, NX]; omega
          · rw [NT w e wP wx]; exact p12 w e wl
    · intro w hw; rw [(SF w hw).1]; exact p13 w hw
    · have f := pt.1 j (by omega)
      rw [LV _ f.1, LV _ p4.1.1]
      refine ⟨Or.inr f.1, f.2.1, ?_⟩
      by_cases e : j = q
      · subst e; rw [NP]; omega
      · have a : wp j ≠ wp q := by intro e2; have := f.2.1; rw [e2] at this; omega
        have b : wp j ≠ wp (q + 1) := by intro e2; have := f.2.1; rw [e2] at this; omega
        rw [NT _ f.1 a b]; exact f.2.2
    · have f := pt.1 j (by omega)
      have a : wp j ≠ wp q := by intro e2; have := f.2.1; rw [e2] at this; omega
      rw [kC _ a, g2C _ (ny _ f.1)]; exact pt.2.2 j (by omega)
    · intro j hj; exact Or.inr (hfr j (by omega))
    · intro w hw wP
      rcases hw with e | e
      · rw [NN w wP, e, NY]; omega
      · by_cases wx : w = wp (q + 1)
        · rw [NN w wP, wx, NX]; omega
        · rw [NT w e wP wx]; exact oth w e wx
    · by_cases e : r = wp q
      · rw [← e] at NP; rw [← e, NP]; omega
      · rw [NT r p4.1.1 e (fun z => xr z.symm)]; exact nr
end
end
section
/-! put -/
theorem ct_mono {M : Nat → Option Nat} {a b : Nat} (h : ct_cd M a) (hab : a ≤ b) : ct_cd M b := by
  obtain ⟨f, h1, h2⟩ := h
  exact ⟨f, fun k v e => by have := h1 k v e; omega, h2⟩
theorem ct_ins {M : Nat → Option Nat} {n : Nat} (h : ct_cd M n) (k : Nat) (w : Option Nat) : ct_cd (tr_up M k w) (n + 1) := by
  obtain ⟨f, h1, h2⟩ := h
  have key : ∀ k' v, tr_up M k w k' = some v → k' ≠ k → M k' = some v := fun k' v e ne => by rw [tr_upN ne] at e; exact e
  refine ⟨tr_up f k n, fun k' v e => ?_, fun k1 k2 v1 v2 e1 e2 e => ?_⟩
  · by_cases c : k' = k
    · subst c; rw [tr_upS]; omega
    · rw [tr_upN c]; have := h1 k' v (key k' v e c); omega
  · by_cases c1 : k1 = k
    · by_cases c2 : k2 = k
      · rw [c1, c2]
      · rw [c1, tr_upS, tr_upN c2] at e
        have := h1 k2 v2 (key k2 v2 e2 c2); omega
    · by_cases c2 : k2 = k
      · rw [c2, tr_upS, tr_upN c1] at e
        have := h1 k1 v1 (key k1 v1 e1 c1); omega
      · rw [tr_upN c1, tr_upN c2] at e
        exact h2 k1 k2 v1 v2 (key k1 v1 e1 c1) (key k2 v2 e2 c2) e
section
variable {rt we wt : Int32} {a1 a2 a3 a4 a5 a6 a7 a8 a9 a10 a11 a12 a13 a14 : Nat → Int32} {N N' : Nat → Nat} {K V C K' V' C' : Nat → Nat → Nat} {r s : Nat} {T G S fr nd : Nat → Prop} {lv lo hi lvS loS hiS : Nat → Nat} {M MS : Nat → Option Nat} {L : List Nat}
theorem wk_put117 {post : St1 → Prop} {num v : Nat} {wp wi : Nat → Nat} (sv : sv_ok a7 a8 a9 s num v)
    (H : ∀ rt w' b1 b2 b3 b4 b5 b6 b14 N K V C fr r T lv lo hi, st_ok b1 b2 b3 b4 b5 rt N K V C fr r T lv lo hi s S lvS loS hiS M MS → post (rt, we, w', b1, b2, b3, b4, b5, b6, a7, a8, a9, a10, a11, a12, a13, b14)) :
    ∀ l rt wt a1 a2 a3 a4 a5 a6 a14 N K V C fr r T lv lo hi, l < 8 → bt_ok a1 a2 a3 a4 a5 rt N K V C fr r T lv lo hi s S lvS loS hiS M MS [r] → pt_ok N C r T lv (l + 1) wp wi → pt_ar a12 a13 (l + 1) wp wi → (∀ j, j < l + 1 → fr (wp j)) → (∀ x, T x → x ≠ wp l → N x ≤ 4) → 1 ≤ N r →
      wX_put_117 post (l + 2) (nI l) rt we wt a1 a2 a3 a4 a5 a6 a7 a8 a9 a10 a11 a12 a13 a14 := by
  intro l
  induction l with
  | zero =>
    intro rt wt a1 a2 a3 a4 a5 a6 a14 N K V C fr r T lv lo hi l8 hb pt ar hfr oth nr
    have e12 : a12 (nI 0).toNatClampNeg = nI (wp 0) := by rw [nI_clamp (by omega)]; exact (ar 0 (by omega)).1
    have x1 := (hb.2.2.2.1.2.1 _ (pt.1 0 (by omega)).1)
    refine br_f (nI_pos (by omega)) ⟨pk_in 0 8 (by omega), ?_⟩
    rw [e12]
    refine ⟨pk_in (wp 0) 110 x1.1, pk_eq (N (wp 0)) 5 (fun z => ?_) (fun z => ?_) (ph_rN hb.1 x1.1)⟩
    · refine wk_split hb sv pt ar l8 hfr z oth nr (fun _ rt' w' b1 b2 b3 b4 b5 b6 b14 N' K' V' C' fr' r' T' lv' lo' hi' g1 g2 g3 => ?_) (fun q hq => absurd hq (by omega))
      refine nm_r (e' := -1) (by decide) (br_t (by decide) ?_)
      exact H _ _ _ _ _ _ _ _ _ _ _ _ _ _ _ _ _ _ _ ⟨g1, g2, g3⟩
    · refine H _ _ _ _ _ _ _ _ _ _ _ _ _ _ _ _ _ _ _ ⟨hb, fun x hx => ?_, nr⟩
      by_cases e : x = wp 0
      · rw [e]; have := x1.2.1; omega
      · exact oth x hx e
  | succ q ih =>
    intro rt wt a1 a2 a3 a4 a5 a6 a14 N K V C fr r T lv lo hi l8 hb pt ar hfr oth nr
    have e12 : a12 (nI (q + 1)).toNatClampNeg = nI (wp (q + 1)) := by rw [nI_clamp (by omega)]; exact (ar (q + 1) (by omega)).1
    have x1 := (hb.2.2.2.1.2.1 _ (pt.1 (q + 1) (by omega)).1)
    refine br_f (nI_pos (by omega)) ⟨pk_in (q + 1) 8 (by omega), ?_⟩
    rw [e12]
    refine ⟨pk_in (wp (q + 1)) 110 x1.1, pk_eq (N (wp (q + 1))) 5 (fun z => ?_) (fun z => ?_) (ph_rN hb.1 x1.1)⟩
    · refine wk_split hb sv pt ar l8 hfr z oth nr (fun z => absurd z (by omega)) (fun q' hq w' b1 b2 b3 b4 b5 b6 b14 N' K' V' C' fr' T' lv' lo' hi' g1 g2 g3 g4 g5 => ?_)
      have : q' = q := by omega
      subst this
      refine nm_r (pk_m1 q') ?_
      exact ih _ _ _ _ _ _ _ _ _ _ _ _ _ _ _ _ _ _ _ (by omega) g1 g2 (fun j hj => ar j (by omega)) g3 g4 g5
    · refine H _ _ _ _ _ _ _ _ _ _ _ _ _ _ _ _ _ _ _ ⟨hb, fun x hx => ?_, nr⟩
      by_cases e : x = wp (q + 1)
      · rw [e]; have := x1.2.1; omega
      · exact oth x hx e
theorem wk_put {post : St1 → Prop} {num v k w : Nat} (h : st_ok a1 a2 a3 a4 a5 rt N K V C fr r T lv lo hi s S lvS loS hiS M MS) (c80 : ct_cd M 84) (sv : sv_ok a7 a8 a9 s num v) (hk : k < 4096) (hw : w < 32768)
    (H : ∀ rt we wt b1 b2 b3 b4 b5 b6 b12 b13 b14 N K V C fr r T lv lo hi, st_ok b1 b2 b3 b4 b5 rt N K V C fr r T lv lo hi s S lvS loS hiS (tr_up M k (some w)) MS → post (rt, we, wt, b1, b2, b3, b4, b5, b6, a7, a8, a9, a10, a11, b12, b13, b14)) :
    wpX_put post (rt, we, wt, a1, a2, a3, a4, a5, a6, a7, a8, a9, a10, a11, a12, a13, a14) (nI k) (nI w) := by
  obtain ⟨hb, n4, nr⟩ := h
  have hb0 := hb
  obtain ⟨p1, p2, p3, p4, p5, p6, p7, p8, p9, p10, p11, p12, p13, p14⟩ := hb
  have cd : ct_cd (tr_up M k (some w)) 85 := ct_mono (ct_ins c80 k (some w)) (by omega)
  unfold wpX_put
  refine wk_find p1 p4 hk p3 (fun n wp wi b12 b13 pt n0 n8 ar w1 w2 => ?_) (fun n wp wi b12 b13 pt n0 n8 ar l0 k1 k2 i1 i2 => ?_)
  · -- there
    refine wk_way sv n8 ⟨hb0, n4, nr⟩ pt ar (fun rt wt a1 a2 a3 a4 a5 a6 a12 a14 N' K' V' C' fr' r' T' lv' lo' hi' wp' hs' pt' ar' hfr' co => ?_)
    have e1 : nI n - 1 = nI (n - 1) := by rw [show n = (n - 1) + 1 by omega, nI_pred]; rfl
    have r1 : a12 (nI n - 1).toNatClampNeg = nI (wp' (n - 1)) := by rw [e1, nI_clamp (by omega)]; exact (ar' (n - 1) (by omega)).1
    have r2 : b13 (nI n - 1).toNatClampNeg = nI (wi (n - 1)) := by rw [e1, nI_clamp (by omega)]; exact (ar' (n - 1) (by omega)).2
    have cx := co (n - 1) (by omega)
    have tx := (pt'.1 (n - 1) (by omega)).1
    obtain ⟨hb', n4', nr'⟩ := hs'
    obtain ⟨q1, q2, q3, q4, q5, q6, q7, q8, q9, q10, q11, q12, q13, q14⟩ := hb'
    have x1 := (q4.2.1 _ tx).1
    have n5 := (q4.2.1 _ tx).2.1
    have iN : wi (n - 1) < N' (wp' (n - 1)) := by rw [cx.1]; exact w1
    have ke : K' (wp' (n - 1)) (wi (n - 1)) = k := by rw [cx.2.1]; exact w2
    refine br_f (by decide) ⟨pk_in (n - 1) 8 (by omega) e1, pk_in (n - 1) 8 (by omega) e1, ?_⟩
    rw [r1, r2]
    refine ⟨ph_in5 x1 (by omega), nm_r (e' := upd a3 (5 * wp' (n - 1) + wi (n - 1)) (nI w)) (by rw [ph_c5 x1 (by omega), ph_s16 hw]) ?_⟩
    have m' := tr_val (V' := ph_u2 V' (wp' (n - 1)) (wi (n - 1)) w) q4 q5 tx iN ph_u2S (fun y j hyj => ph_u2A hyj)
    rw [ke] at m'
    have sx : ¬ S (wp' (n - 1)) := (q8 _ (hfr' (n - 1) (by omega))).2
    refine H _ _ _ _ _ _ _ _ _ _ _ _ _ _ _ _ _ _ _ _ _ _ ⟨⟨ph_wV q1 x1 (by omega) hw, q2, q3, q4, m', q6, tr_mpFrame q7 (fun y hy => ⟨rfl, rfl, ph_u2N (fun e => sx (e ▸ hy))⟩), q8, q9, cd, q11, q12, q13, q14⟩, n4', nr'⟩
  · -- not there
    refine wk_way sv n8 ⟨hb0, n4, nr⟩ pt ar (fun rt wt a1 a2 a3 a4 a5 a6 a12 a14 N' K' V' C' fr' r' T' lv' lo' hi' wp' hs' pt' ar' hfr' co => ?_)
    have e1 : nI n - 1 = nI (n - 1) := by rw [show n = (n - 1) + 1 by omega, nI_pred]; rfl
    have r1 : a12 (nI (n - 1)).toNatClampNeg = nI (wp' (n - 1)) := by rw [nI_clamp (by omega)]; exact (ar' (n - 1) (by omega)).1
    have r2 : b13 (nI (n - 1)).toNatClampNeg = nI (wi (n - 1)) := by rw [nI_clamp (by omega)]; exact (ar' (n - 1) (by omega)).2
    obtain ⟨c1, c2, c3, c4, c5, c6⟩ := co (n - 1) (by omega)
    have tx := (pt'.1 (n - 1) (by omega)).1
    have ix := (pt'.1 (n - 1) (by omega)).2.2
    obtain ⟨hb', n4', nr'⟩ := hs'
    obtain ⟨q1, q2, q3, q4, q5, q6, q7, q8, q9, q10, q11, q12, q13, q14⟩ := hb'
    have x1 := (q4.2.1 _ tx).1
    have sx : ¬ S (wp' (n - 1)) := (q8 _ (hfr' (n - 1) (by omega))).2
    refine br_t rfl (br_f (nI_ne0 n0 (by omega)) ?_)
    refine nm_r e1 ⟨pk_in (n - 1) 8 (by omega), pk_in (n - 1) 8 (by omega), ?_⟩
    rw [r1, r2]
    refine wk_open q1 x1 ix (n4' _ tx) (fun d2 d3 K2 V2 h1 h2 h3 h4 => ⟨pk_in (n - 1) 8 (by omega), pk_in (n - 1) 8 (by omega), ?_⟩)
    rw [r1, r2]
    refine wk_putAt x1 (by have := n4' _ tx; omega) (show k < 32768 by omega) hw ?_
    obtain ⟨K1, V1, g1, g2, g3, g4⟩ := ph_insF (i := wi (n - 1)) (k := k) (v := w) h1 x1 (by have := n4' _ tx; omega) (show k < 32768 by omega) hw h2 h3 h4
    · have A := tr_ins (k := k) (v := w) (N' := tr_up N' (wp' (n - 1)) (N' (wp' (n - 1)) + 1)) (K' := K1) (V' := V1) (C' := C') q4 q5 tx (by rw [c4]; exact l0) (n4' _ tx) ix (by rw [c5]; exact k1) (by rw [c6]; exact k2)
        (fun j hj => by rw [c2]; exact i1 j hj) (fun j h5 h6 => by rw [c2]; exact i2 j h5 (by rw [← c1]; exact h6)) tr_upS g3 g4 rfl (fun y hy => ⟨tr_upN hy, (g2 y hy).1, (g2 y hy).2, rfl⟩)
      have NS : ∀ y, S y → tr_up N' (wp' (n - 1)) (N' (wp' (n - 1)) + 1) y = N' y ∧ K1 y = K' y ∧ V1 y = V' y := fun y hy => by
        have e : y ≠ wp' (n - 1) := fun e => sx (e ▸ hy)
        exact ⟨tr_upN e, (g2 y e).1, (g2 y e).2⟩
      have N2 : ∀ y, N' y ≤ tr_up N' (wp' (n - 1)) (N' (wp' (n - 1)) + 1) y := by
        intro y
        by_cases e : y = wp' (n - 1)
        · rw [e, tr_upS]; omega
        · rw [tr_upN e]; exact Nat.le_refl _
      refine ⟨n - 1 + 2, wk_put117 (M := tr_up M k (some w)) (MS := MS) (wp := wp') (wi := wi) sv (fun rt w' b1 b2 b3 b4 b5 b6 b14 N K V C fr r T lv lo hi hst => H _ _ _ _ _ _ _ _ _ _ _ _ _ _ _ _ _ _ _ _ _ _ hst) (n - 1) _ _ _ _ _ _ _ _ _ _ _ _ _ _ _ _ _ _ _ (by omega)
        ⟨g1, q2, q3, A.1, A.2, tr_frame q6 (fun y hy => ⟨(NS y hy).1, (NS y hy).2.1, rfl⟩), tr_mpFrame q7 NS, q8, q9, cd, q11, fun y hy yl => by have := q12 y hy yl; have := N2 y; omega, fun y hy => by rw [(NS y hy).1]; exact q13 y hy, q14⟩ ?_ ?_ ?_ ?_ ?_⟩
      · rw [show n - 1 + 1 = n by omega]
        exact ⟨fun j hj => ⟨(pt'.1 j hj).1, (pt'.1 j hj).2.1, by have := (pt'.1 j hj).2.2; have := N2 (wp' j); omega⟩, pt'.2.1, pt'.2.2⟩
      · rw [show n - 1 + 1 = n by omega]; exact ar'
      · intro j hj; exact hfr' j (by omega)
      · intro y hy e; rw [tr_upN e]; exact n4' y hy
      · have := N2 r'; omega
end
end
section
/-! closePlace, takeFromRight, takeFromLeft, melt over the arrays -/
theorem ph_i50 (x : Nat) : 5 * nI x = nI (5 * x + 0) := by
  rw [show (5 : Int32) = nI 5 from rfl, pk_mul]
  rfl
theorem ph_dec {n : Nat} (h0 : 0 < n) (h : n < 100) : (nI n - 1).toInt8.toInt32 = nI (n - 1) := by
  rw [show n = (n - 1) + 1 by omega, nI_pred, ph_t8n (by omega), ph_s8 (by omega)]; rfl
theorem ph_inc {n : Nat} (h : n < 100) : (nI n + 1).toInt8.toInt32 = nI (n + 1) := by
  rw [nI_1, ph_t8n (by omega), ph_s8 (by omega)]
theorem ph_i6q (x e k : Nat) : 6 * nI x + nI e + 1 + nI k = nI (6 * x + (e + 1 + k)) := by
  rw [ph_i6p, nI_add]; congr 1; omega
section
variable {rt we wt : Int32} {a1 a2 a3 a4 a5 a6 a7 a8 a9 a10 a11 a12 a13 a14 : Nat → Int32} {N : Nat → Nat} {K V C : Nat → Nat → Nat}
theorem wk_close {post : St1 → Prop} (hp : ph_ok a1 a2 a3 a4 N K V C) {x i : Nat} (hx : x < 110) (hi : i < N x)
    (H : ∀ b2 b3 K1 V1, ph_ok (upd a1 x (nI (N x - 1))) b2 b3 a4 (tr_up N x (N x - 1)) K1 V1 C → (∀ y, y ≠ x → K1 y = K y ∧ V1 y = V y) → tr_delF (N x) (K x) (K1 x) i → tr_delF (N x) (V x) (V1 x) i → post (rt, we, wt, upd a1 x (nI (N x - 1)), b2, b3, a4, a5, a6, a7, a8, a9, a10, a11, a12, a13, a14)) :
    wpX_closePlace post (rt, we, wt, a1, a2, a3, a4, a5, a6, a7, a8, a9, a10, a11, a12, a13, a14) (nI x) (nI i) := by
  have n5 := (hp.1 x hx).2
  have hq := ph_wN hp hx (show N x - 1 ≤ 5 by omega)
  refine ⟨pk_in x 110 hx, pk_in x 110 hx, nm_r (e' := upd a1 x (nI (N x - 1))) (by rw [ph_rN hp hx, nI_clamp (by omega), ph_dec (by omega) (by omega)]) ?_⟩
  refine pk_loop (fun n k (b : (Nat → Int32) × (Nat → Int32)) => wX_closePlace_13 post (nI x) rt we wt n (nI k) (upd a1 x (nI (N x - 1))) b.1 b.2 a4 a5 a6 a7 a8 a9 a10 a11 a12 a13 a14)
    (fun k b => i ≤ k ∧ ∃ K1 V1, ph_ok (upd a1 x (nI (N x - 1))) b.1 b.2 a4 (tr_up N x (N x - 1)) K1 V1 C ∧ (∀ y, y ≠ x → K1 y = K y ∧ V1 y = V y) ∧ (∀ j, j < i → K1 x j = K x j ∧ V1 x j = V x j) ∧ (∀ j, i ≤ j → j < k → K1 x j = K x (j + 1) ∧ V1 x j = V x (j + 1)) ∧ (∀ j, k ≤ j → K1 x j = K x j ∧ V1 x j = V x j)) (N x - 1) i (a2, a3) (by omega)
    ⟨Nat.le_refl i, K, V, hq, fun _ _ => ⟨rfl, rfl⟩, fun _ _ => ⟨rfl, rfl⟩, fun j h1 h2 => absurd h1 (by omega), fun _ _ => ⟨rfl, rfl⟩⟩ ?_ ?_
  · intro n b ⟨_, K1, V1, h1, h2, h3, h4, h5⟩
    refine ⟨pk_in x 110 hx, pk_le (N x - 1) (N x - 1) (fun _ => ?_) (fun z => absurd z (by omega)) (by rw [ph_rN h1 hx, tr_upS])⟩
    exact H b.1 b.2 K1 V1 h1 h2 ⟨fun j hj => (h3 j hj).1, fun j a c => (h4 j a (by omega)).1⟩ ⟨fun j hj => (h3 j hj).2, fun j a c => (h4 j a (by omega)).2⟩
  · intro n k b hk ⟨ki, K1, V1, h1, h2, h3, h4, h5⟩ hw
    · have bb := h1.2.1 x (k + 1) hx (by omega)
      refine ⟨pk_in x 110 hx, pk_le (N x - 1) k (fun z => absurd z (by omega)) (fun _ => ⟨pk_in (5 * x + (k + 1)) 550 (by omega) (ph_i5p x k), ph_in5 hx (by omega), nm_r (e' := upd b.1 (5 * x + k) (nI (K1 x (k + 1)))) ?_ ⟨pk_in (5 * x + (k + 1)) 550 (by omega) (ph_i5p x k), ph_in5 hx (by omega), nm_r (e' := upd b.2 (5 * x + k) (nI (V1 x (k + 1)))) ?_ (nm_r (nI_1 k) (hw (upd b.1 (5 * x + k) (nI (K1 x (k + 1))), upd b.2 (5 * x + k) (nI (V1 x (k + 1)))) ⟨by omega, _, _, ph_wV (ph_wK h1 hx (show k < 5 by omega) bb.2.2.1) hx (show k < 5 by omega) bb.2.2.2, fun y hy => ?_, fun j hj => ?_, fun j a c => ?_, fun j hj => ?_⟩))⟩⟩) (by rw [ph_rN h1 hx, tr_upS])⟩
      · rw [ph_i5p, ph_c5 hx (by omega), nI_clamp (by omega), bb.1, ph_n16 bb.2.2.1]
      · rw [ph_i5p, ph_c5 hx (by omega), nI_clamp (by omega), bb.2.1, ph_n16 bb.2.2.2]
      · rw [ph_u2N hy, ph_u2N hy]; exact h2 y hy
      · rw [ph_u2J (by omega), ph_u2J (by omega)]; exact h3 j hj
      · by_cases e : j = k
        · subst e; rw [ph_u2S, ph_u2S]; exact h5 (j + 1) (by omega)
        · rw [ph_u2J e, ph_u2J e]; exact h4 j a (by omega)
      · rw [ph_u2J (by omega), ph_u2J (by omega)]; exact h5 j (by omega)
/-- x = child i of p, y = child i + 1: the borrowing from the right -/
theorem wk_takeR {post : St1 → Prop} (hp : ph_ok a1 a2 a3 a4 N K V C) {p i x y : Nat} (p1 : p < 110) (x1 : x < 110) (y1 : y < 110) (px : p ≠ x) (py : p ≠ y) (xy : x ≠ y) (ex : C p i = x) (ey : C p (i + 1) = y) (ip : i < N p) (nx : N x ≤ 4) (ny : 2 ≤ N y) (hl : (C x 0 = 255 ∧ C y 0 = 255) ∨ (C x 0 < 110 ∧ C y 0 < 110))
    (H : ∀ b1 b2 b3 b4 N' K' V' C', ph_ok b1 b2 b3 b4 N' K' V' C' → N' x = N x + 1 → N' y = N y - 1 → N' p = N p → (∀ j, j < N x → K' x j = K x j ∧ V' x j = V x j) → (K' x (N x) = K p i ∧ V' x (N x) = V p i) → tr_delF (N y) (K y) (K' y) 0 → tr_delF (N y) (V y) (V' y) 0 → (K' p i = K y 0 ∧ V' p i = V y 0) → (∀ j, j ≠ i → K' p j = K p j ∧ V' p j = V p j) →
      (∀ j, j ≤ N x → C' x j = C x j) → (C x 0 < 110 → C' x (N x + 1) = C y 0) → (C y 0 < 110 → tr_delF (N y + 1) (C y) (C' y) 0) → (C y 0 = 255 → C' y 0 = C y 0) → C' p = C p → (∀ z, z ≠ x → z ≠ p → z ≠ y → N' z = N z ∧ K' z = K z ∧ V' z = V z ∧ C' z = C z) → post (rt, we, wt, b1, b2, b3, b4, a5, a6, a7, a8, a9, a10, a11, a12, a13, a14)) :
    wpX_takeFromRight post (rt, we, wt, a1, a2, a3, a4, a5, a6, a7, a8, a9, a10, a11, a12, a13, a14) (nI p) (nI i) := by
  have np5 := (hp.1 p p1).2
  have ny5 := (hp.1 y y1).2
  have kp := hp.2.1 p i p1 (by omega)
  have ky := hp.2.1 y 0 y1 (by omega)
  have hcx : C x 0 < 110 ∨ C x 0 = 255 := hl.elim (fun q => Or.inr q.1) (fun q => Or.inl q.1)
  have hcy : C y 0 < 110 ∨ C y 0 = 255 := hl.elim (fun q => Or.inr q.2) (fun q => Or.inl q.2)
  refine ⟨ph_in6 p1 (by omega), nm_r (e' := nI x) (by rw [ph_rC hp p1 (by omega), ex, ph_s8 (by omega)]) ⟨pk_in (6 * p + (i + 1)) 660 (by omega) (ph_i6p p i), nm_r (e' := nI y) (by rw [ph_i6p, nI_clamp (by omega), hp.2.2 p (i + 1) p1 (by omega), ey, ph_s8 (by omega)]) ⟨pk_in x 110 x1, nm_r (ph_rN hp x1) ⟨ph_in5 p1 (by omega), ph_in5 p1 (by omega), ?_⟩⟩⟩⟩
  rw [ph_rK hp p1 (by omega), ph_rV hp p1 (by omega)]
  refine wk_putAt x1 (by omega) kp.2.2.1 kp.2.2.2 ?_
  have q1 := ph_wV (ph_wK hp x1 (show N x < 5 by omega) kp.2.2.1) x1 (show N x < 5 by omega) kp.2.2.2
  -- behind the child pointer
  have fin : ∀ b4 C1, ph_ok a1 (upd a2 (5 * x + N x) (nI (K p i))) (upd a3 (5 * x + N x) (nI (V p i))) b4 N (ph_u2 K x (N x) (K p i)) (ph_u2 V x (N x) (V p i)) C1 → (∀ z, z ≠ x → C1 z = C z) → (∀ j, j ≤ N x → C1 x j = C x j) → (C x 0 < 110 → C1 x (N x + 1) = C y 0) →
      wX_takeFromRight_94 post (nI p) (nI i) (nI x) (nI y) rt we wt a1 (upd a2 (5 * x + N x) (nI (K p i))) (upd a3 (5 * x + N x) (nI (V p i))) b4 a5 a6 a7 a8 a9 a10 a11 a12 a13 a14 := by
    intro b4 C1 g1 g2 g3 g4
    have yx : y ≠ x := fun e => xy e.symm
    have ky' : ph_u2 K x (N x) (K p i) y = K y ∧ ph_u2 V x (N x) (V p i) y = V y := ⟨ph_u2N yx, ph_u2N yx⟩
    have g5 := ph_wN g1 x1 (show N x + 1 ≤ 5 by omega)
    have r2 : upd a2 (5 * x + N x) (nI (K p i)) (5 * nI y).toNatClampNeg = nI (K y 0) := by rw [ph_i50, nI_clamp (by omega), (g1.2.1 y 0 y1 (by omega)).1, ky'.1]
    have r3 : upd a3 (5 * x + N x) (nI (V p i)) (5 * nI y).toNatClampNeg = nI (V y 0) := by rw [ph_i50, nI_clamp (by omega), (g1.2.1 y 0 y1 (by omega)).2.1, ky'.2]
    refine ⟨pk_in x 110 x1, pk_in x 110 x1, nm_r (e' := upd a1 x (nI (N x + 1))) (by rw [ph_rN hp x1, nI_clamp (by omega), ph_inc (by omega)]) ⟨pk_in (5 * y + 0) 550 (by omega) (ph_i50 y), pk_in (5 * y + 0) 550 (by omega) (ph_i50 y), ?_⟩⟩
    rw [r2, r3]
    refine wk_putAt p1 (by omega) ky.2.2.1 ky.2.2.2 ?_
    have g6 := ph_wV (ph_wK g5 p1 (show i < 5 by omega) ky.2.2.1) p1 (show i < 5 by omega) ky.2.2.2
    have cy1 : C1 y = C y := g2 y yx
    have yp : y ≠ p := fun e => py e.symm
    have last : ∀ c4 C2, ph_ok (upd a1 x (nI (N x + 1))) (upd (upd a2 (5 * x + N x) (nI (K p i))) (5 * p + i) (nI (K y 0))) (upd (upd a3 (5 * x + N x) (nI (V p i))) (5 * p + i) (nI (V y 0))) c4 (tr_up N x (N x + 1)) (ph_u2 (ph_u2 K x (N x) (K p i)) p i (K y 0)) (ph_u2 (ph_u2 V x (N x) (V p i)) p i (V y 0)) C2 → (∀ z, z ≠ y → C2 z = C1 z) → (C y 0 < 110 → tr_delF (N y + 1) (C y) (C2 y) 0) → (C y 0 = 255 → C2 y = C y) →
        wX_takeFromRight_187 post (nI y) rt we wt (upd a1 x (nI (N x + 1))) (upd (upd a2 (5 * x + N x) (nI (K p i))) (5 * p + i) (nI (K y 0))) (upd (upd a3 (5 * x + N x) (nI (V p i))) (5 * p + i) (nI (V y 0))) c4 a5 a6 a7 a8 a9 a10 a11 a12 a13 a14 := by
      intro c4 C2 f1 f2 f3 f4
      unfold wX_takeFromRight_187
      have NY : tr_up N x (N x + 1) y = N y := tr_upN yx
      refine wk_close f1 y1 (i := 0) (by rw [NY]; omega) ?_
      rw [NY, ph_u2N yp, ph_u2N yp, ky'.1, ky'.2]
      intro d2 d3 K1 V1 e1 e2 e3 e4
      refine H _ _ _ _ _ _ _ _ e1 (by rw [tr_upN xy, tr_upS]) tr_upS (by rw [tr_upN py, tr_upN px]) ?_ ?_ e3 e4 ?_ ?_ ?_ ?_ f3 (fun e => by rw [f4 e]) ?_ ?_
      · intro j hj
        rw [(e2 x xy).1, (e2 x xy).2, ph_u2N (fun e => px e.symm), ph_u2N (fun e => px e.symm), ph_u2J (by omega), ph_u2J (by omega)]; exact ⟨rfl, rfl⟩
      · rw [(e2 x xy).1, (e2 x xy).2, ph_u2N (fun e => px e.symm), ph_u2N (fun e => px e.symm), ph_u2S, ph_u2S]; exact ⟨rfl, rfl⟩
      · rw [(e2 p py).1, (e2 p py).2, ph_u2S, ph_u2S]; exact ⟨rfl, rfl⟩
      · intro j hj
        rw [(e2 p py).1, (e2 p py).2, ph_u2J hj, ph_u2J hj, ph_u2N px, ph_u2N px]; exact ⟨rfl, rfl⟩
      · intro j hj; rw [f2 x xy]; exact g3 j hj
      · intro e; rw [f2 x xy]; exact g4 e
      · rw [f2 p py, g2 p px]
      · intro z a b c
        rw [tr_upN c, tr_upN a, (e2 z c).1, (e2 z c).2, ph_u2N b, ph_u2N b, ph_u2N a, ph_u2N a, f2 z c, g2 z a]; exact ⟨rfl, rfl, rfl, rfl⟩
    refine wk_leaf g6 y1 (by rw [cy1]; exact hcy) (fun e => br_f (by decide) ?_) (fun e => br_t rfl ?_)
    · rw [cy1] at e
      exact last b4 C1 g6 (fun _ _ => rfl) (fun q => absurd q (by omega)) (fun _ => cy1)
    · rw [cy1] at e
      have NY : tr_up N x (N x + 1) y = N y := tr_upN yx
      refine pk_loop (fun n k b => wX_takeFromRight_141 post (nI y) rt we wt n (nI k) (upd a1 x (nI (N x + 1))) (upd (upd a2 (5 * x + N x) (nI (K p i))) (5 * p + i) (nI (K y 0))) (upd (upd a3 (5 * x + N x) (nI (V p i))) (5 * p + i) (nI (V y 0))) b a5 a6 a7 a8 a9 a10 a11 a12 a13 a14)
        (fun k b => ∃ C2, ph_ok (upd a1 x (nI (N x + 1))) (upd (upd a2 (5 * x + N x) (nI (K p i))) (5 * p + i) (nI (K y 0))) (upd (upd a3 (5 * x + N x) (nI (V p i))) (5 * p + i) (nI (V y 0))) b (tr_up N x (N x + 1)) (ph_u2 (ph_u2 K x (N x) (K p i)) p i (K y 0)) (ph_u2 (ph_u2 V x (N x) (V p i)) p i (V y 0)) C2 ∧ (∀ z, z ≠ y → C2 z = C1 z) ∧ (∀ j, j < k → C2 y j = C y (j + 1)) ∧ (∀ j, k ≤ j → C2 y j = C y j)) (N y) 0 b4 (by omega)
        ⟨C1, g6, fun _ _ => rfl, fun j hj => absurd hj (by omega), fun j _ => by rw [cy1]⟩ ?_ ?_
      · intro n b ⟨C2, f1, f2, f3, f4⟩
        refine ⟨pk_in y 110 y1, pk_le (N y) (N y) (fun _ => ?_) (fun z => absurd z (by omega)) (by rw [ph_rN f1 y1, NY])⟩
        exact last b C2 f1 f2 (fun _ => ⟨fun j hj => absurd hj (by omega), fun j _ hj => f3 j (by omega)⟩) (fun q => absurd q e)
      · intro n k b hk ⟨C2, f1, f2, f3, f4⟩ hw
        refine ⟨pk_in y 110 y1, pk_le (N y) k (fun z => absurd z (by omega)) (fun _ => ⟨pk_in (6 * y + (k + 1)) 660 (by omega) (ph_i6p y k), ph_in6 y1 (by omega), nm_r (e' := upd b (6 * y + k) (pg_I (C y (k + 1)))) ?_ (nm_r (nI_1 k) (hw _ ⟨_, ph_wC f1 y1 (show k < 6 by omega), fun z hz => ?_, fun j hj => ?_, fun j hj => ?_⟩))⟩) (by rw [ph_rN f1 y1, NY])⟩
        · rw [ph_i6p, ph_c6 y1 (by omega), nI_clamp (by omega), f1.2.2 y (k + 1) y1 (by omega), ph_n8, f4 (k + 1) (by omega)]
        · rw [ph_u2N hz]; exact f2 z hz
        · by_cases q : j = k
          · subst q; rw [ph_u2S]
          · rw [ph_u2J q]; exact f3 j (by omega)
        · rw [ph_u2J (by omega)]; exact f4 j (by omega)
  refine wk_leaf q1 x1 hcx (fun e => br_f (by decide) ?_) (fun e => br_t rfl ?_)
  · exact fin a4 C q1 (fun _ _ => rfl) (fun _ _ => rfl) (fun q => absurd q (by omega))
  · have e110 : C y 0 < 110 := by rcases hl with q | q; exact absurd q.1 e; exact q.2
    refine ⟨ph_in60 y1, pk_in (6 * x + (N x + 1)) 660 (by omega) (ph_i6p x (N x)), nm_r (e' := upd a4 (6 * x + (N x + 1)) (pg_I (C y 0))) ?_ ?_⟩
    · rw [ph_rC0 hp y1, ph_i6p, nI_clamp (by omega), ph_n8]
    · exact fin _ _ (ph_wC q1 x1 (show N x + 1 < 6 by omega)) (fun z hz => ph_u2N hz) (fun j hj => ph_u2J (by omega)) (fun _ => ph_u2S)
end
end
section
/-! takeFromLeft, melt over the arrays -/
section
variable {rt we wt : Int32} {a1 a2 a3 a4 a5 a6 a7 a8 a9 a10 a11 a12 a13 a14 : Nat → Int32} {N : Nat → Nat} {K V C : Nat → Nat → Nat}
/-- y = child i of p, x = child i + 1: the borrowing from the left -/
theorem wk_takeL {post : St1 → Prop} (hp : ph_ok a1 a2 a3 a4 N K V C) {p i x y n : Nat} (p1 : p < 110) (x1 : x < 110) (y1 : y < 110) (px : p ≠ x) (py : p ≠ y) (xy : x ≠ y) (ey : C p i = y) (ex : C p (i + 1) = x) (ip : i < N p) (nx : N x ≤ 4) (ny : N y = n + 1) (hl : (C x 0 = 255 ∧ C y 0 = 255) ∨ (C x 0 < 110 ∧ C y 0 < 110))
    (H : ∀ b1 b2 b3 b4 N' K' V' C', ph_ok b1 b2 b3 b4 N' K' V' C' → N' x = N x + 1 → N' y = n → N' p = N p → tr_insF (N x) (K x) (K' x) 0 (K p i) → tr_insF (N x) (V x) (V' x) 0 (V p i) → (∀ j, j < n → K' y j = K y j ∧ V' y j = V y j) → (K' p i = K y n ∧ V' p i = V y n) → (∀ j, j ≠ i → K' p j = K p j ∧ V' p j = V p j) →
      (C x 0 < 110 → tr_insF (N x + 1) (C x) (C' x) 0 (C y (n + 1))) → (C x 0 = 255 → C' x 0 = C x 0) → C' y = C y → C' p = C p → (∀ z, z ≠ x → z ≠ p → z ≠ y → N' z = N z ∧ K' z = K z ∧ V' z = V z ∧ C' z = C z) → post (rt, we, wt, b1, b2, b3, b4, a5, a6, a7, a8, a9, a10, a11, a12, a13, a14)) :
    wpX_takeFromLeft post (rt, we, wt, a1, a2, a3, a4, a5, a6, a7, a8, a9, a10, a11, a12, a13, a14) (nI p) (nI (i + 1)) := by
  have np5 := (hp.1 p p1).2
  have ny5 := (hp.1 y y1).2
  have hcx : C x 0 < 110 ∨ C x 0 = 255 := hl.elim (fun q => Or.inr q.1) (fun q => Or.inl q.1)
  have yx : y ≠ x := fun e => xy e.symm
  have yp : y ≠ p := fun e => py e.symm
  have xp : x ≠ p := fun e => px e.symm
  have m6 : 6 * nI p + nI (i + 1) - 1 = nI (6 * p + i) := ph_i6m (by omega)
  have m5 : 5 * nI p + nI (i + 1) - 1 = nI (5 * p + i) := ph_i5m (by omega)
  have my : 5 * nI y + nI (n + 1) - 1 = nI (5 * y + n) := ph_i5m (by omega)
  refine ⟨ph_in6 p1 (by omega), nm_r (e' := nI x) (by rw [ph_rC hp p1 (by omega), ex, ph_s8 (by omega)]) ⟨pk_in (6 * p + i) 660 (by omega) m6, nm_r (e' := nI y) (by rw [m6, nI_clamp (by omega), hp.2.2 p i p1 (by omega), ey, ph_s8 (by omega)]) ⟨pk_in y 110 y1, nm_r (e' := nI (n + 1)) (by rw [ph_rN hp y1, ny]) ?_⟩⟩⟩
  have fin : ∀ b4 C1, ph_ok a1 a2 a3 b4 N K V C1 → (∀ z, z ≠ x → C1 z = C z) → (C x 0 < 110 → tr_insF (N x + 1) (C x) (C1 x) 0 (C y (n + 1))) → (C x 0 = 255 → C1 x = C x) →
      wX_takeFromLeft_113 post (nI p) (nI (i + 1)) (nI x) (nI y) (nI (n + 1)) rt we wt a1 a2 a3 b4 a5 a6 a7 a8 a9 a10 a11 a12 a13 a14 := by
    intro b4 C1 g1 g2 g3 g4
    unfold wX_takeFromLeft_113
    have kp := hp.2.1 p i p1 (by omega)
    have ky := hp.2.1 y n y1 (by omega)
    refine wk_open g1 x1 (i := 0) (by omega) nx (fun b2 b3 K2 V2 h1 h2 h3 h4 => ?_)
    have kp2 := h1.2.1 p i p1 (by omega)
    have ky2 := h1.2.1 y n y1 (by omega)
    rw [(h2 p px).1, (h2 p px).2] at kp2
    rw [(h2 y yx).1, (h2 y yx).2] at ky2
    have r1 : b2 (5 * nI p + nI (i + 1) - 1).toNatClampNeg = nI (K p i) := by rw [m5, nI_clamp (by omega)]; exact kp2.1
    have r2 : b3 (5 * nI p + nI (i + 1) - 1).toNatClampNeg = nI (V p i) := by rw [m5, nI_clamp (by omega)]; exact kp2.2.1
    refine ⟨pk_in (5 * p + i) 550 (by omega) m5, pk_in (5 * p + i) 550 (by omega) m5, ?_⟩
    rw [r1, r2]
    refine wk_putAt x1 (i := 0) (by omega) kp.2.2.1 kp.2.2.2 ?_
    obtain ⟨K1, V1, f1, f2, f3, f4⟩ := ph_insF (i := 0) (k := K p i) (v := V p i) h1 x1 (by omega) kp.2.2.1 kp.2.2.2 h2 h3 h4
    have ky1 := f1.2.1 y n y1 (by omega)
    rw [(f2 y yx).1, (f2 y yx).2] at ky1
    have r3 : upd b2 (5 * x + 0) (nI (K p i)) (5 * nI y + nI (n + 1) - 1).toNatClampNeg = nI (K y n) := by rw [my, nI_clamp (by omega)]; exact ky1.1
    have r4 : upd b3 (5 * x + 0) (nI (V p i)) (5 * nI y + nI (n + 1) - 1).toNatClampNeg = nI (V y n) := by rw [my, nI_clamp (by omega)]; exact ky1.2.1
    refine ⟨pk_in (5 * y + n) 550 (by omega) my, pk_in (5 * y + n) 550 (by omega) my, ?_⟩
    rw [r3, r4, nI_pred]
    refine wk_putAt p1 (by omega) ky.2.2.1 ky.2.2.2 ?_
    have f5 := ph_wV (ph_wK f1 p1 (show i < 5 by omega) ky.2.2.1) p1 (show i < 5 by omega) ky.2.2.2
    have f6 := ph_wN f5 y1 (show n ≤ 5 by omega)
    have NY : tr_up N x (N x + 1) y = n + 1 := by rw [tr_upN yx, ny]
    refine ⟨pk_in y 110 y1, pk_in y 110 y1, nm_r (e' := upd (upd a1 x (nI (N x + 1))) y (nI n)) ?_ ?_⟩
    · rw [ph_rN f5 y1, NY, nI_clamp (by omega), nI_pred, ph_t8n (by omega), ph_s8 (by omega)]
    · refine H _ _ _ _ _ _ _ _ f6 (by rw [tr_upN xy, tr_upS]) tr_upS (by rw [tr_upN py, tr_upN px]) (by rw [ph_u2N xp]; exact f3) (by rw [ph_u2N xp]; exact f4) (fun j hj => ?_) ?_ (fun j hj => ?_) g3 (fun e => by rw [g4 e]) (g2 y yx) (g2 p px) (fun z a b c => ?_)
      · rw [ph_u2N yp, ph_u2N yp, (f2 y yx).1, (f2 y yx).2]; exact ⟨rfl, rfl⟩
      · rw [ph_u2S, ph_u2S]; exact ⟨rfl, rfl⟩
      · rw [ph_u2J hj, ph_u2J hj, (f2 p px).1, (f2 p px).2]; exact ⟨rfl, rfl⟩
      · rw [tr_upN c, tr_upN a, ph_u2N b, ph_u2N b, (f2 z a).1, (f2 z a).2, g2 z a]; exact ⟨rfl, rfl, rfl, rfl⟩
  refine wk_leaf hp x1 hcx (fun e => br_f (by decide) ?_) (fun e => br_t rfl ?_)
  · exact fin a4 C hp (fun _ _ => rfl) (fun q => absurd q (by omega)) (fun _ => rfl)
  · refine ⟨pk_in x 110 x1, nm_r (e' := nI (N x + 1)) (by rw [ph_rN hp x1, nI_1]) ⟨N x + 2, ?_⟩⟩
    have main : ∀ k b4 C1, k ≤ N x + 1 → ph_ok a1 a2 a3 b4 N K V C1 → (∀ z, z ≠ x → C1 z = C z) → (∀ j, j < k → C1 x j = C x j) → (∀ j, k < j → j ≤ N x + 1 → C1 x j = C x (j - 1)) →
        wX_takeFromLeft_54 post (nI p) (nI (i + 1)) (nI x) (nI y) (nI (n + 1)) rt we wt (k + 1) (nI k) a1 a2 a3 b4 a5 a6 a7 a8 a9 a10 a11 a12 a13 a14 := by
      intro k
      induction k with
      | zero =>
        intro b4 C1 hk h1 h2 h3 h4
        refine pk_le 0 0 (fun _ => ⟨ph_in6 y1 (by omega), ph_in60 x1, nm_r (e' := upd b4 (6 * x + 0) (pg_I (C y (n + 1)))) ?_ ?_⟩) (fun z => absurd z (by omega))
        · rw [ph_rC h1 y1 (by omega), h2 y yx, ph_n8, ph_c60 x1]
        · refine fin _ _ (ph_wC h1 x1 (show 0 < 6 by omega)) (fun z hz => by rw [ph_u2N hz]; exact h2 z hz) (fun _ => ⟨fun j hj => absurd hj (by omega), ph_u2S, fun j a b => ?_⟩) (fun q => absurd q e)
          rw [ph_u2J (by omega)]; exact h4 j a b
      | succ k ih =>
        intro b4 C1 hk h1 h2 h3 h4
        have e1 : 6 * nI x + nI (k + 1) - 1 = nI (6 * x + k) := ph_i6m (by omega)
        refine pk_le (k + 1) 0 (fun z => absurd z (by omega)) (fun _ => ⟨pk_in (6 * x + k) 660 (by omega) e1, ph_in6 x1 (by omega), nm_r (e' := upd b4 (6 * x + (k + 1)) (pg_I (C1 x k))) ?_ (nm_r (pk_m1 k) (ih _ _ (by omega) (ph_wC h1 x1 (show k + 1 < 6 by omega)) (fun z hz => ?_) (fun j hj => ?_) (fun j a b => ?_)))⟩)
        · rw [e1, ph_c6 x1 (by omega), nI_clamp (by omega), h1.2.2 x k x1 (by omega), ph_n8]
        · rw [ph_u2N hz]; exact h2 z hz
        · rw [ph_u2J (by omega)]; exact h3 j (by omega)
        · by_cases q : j = k + 1
          · subst q; rw [ph_u2S, Nat.add_sub_cancel]; exact h3 k (by omega)
          · rw [ph_u2J q]; exact h4 j (by omega) b
    exact main (N x + 1) a4 C (by omega) hp (fun _ _ => rfl) (fun _ _ => rfl) (fun j a b => absurd b (by omega))
/-- x = child i of p, y = child i + 1: melted into x -/
theorem wk_melt {post : St1 → Prop} (hp : ph_ok a1 a2 a3 a4 N K V C) {p i x y : Nat} (p1 : p < 110) (x1 : x < 110) (y1 : y < 110) (px : p ≠ x) (py : p ≠ y) (xy : x ≠ y) (ex : C p i = x) (ey : C p (i + 1) = y) (ip : i < N p) (nn : N x + 1 + N y ≤ 4) (hl : (C x 0 = 255 ∧ C y 0 = 255) ∨ (C x 0 < 110 ∧ C y 0 < 110))
    (H : ∀ b1 b2 b3 b4 N' K' V' C', ph_ok b1 b2 b3 b4 N' K' V' C' → N' x = N x + 1 + N y → N' p = N p - 1 → (∀ j, j < N x → K' x j = K x j ∧ V' x j = V x j) → (K' x (N x) = K p i ∧ V' x (N x) = V p i) → (∀ j, j < N y → K' x (N x + 1 + j) = K y j ∧ V' x (N x + 1 + j) = V y j) → tr_delF (N p) (K p) (K' p) i → tr_delF (N p) (V p) (V' p) i →
      (∀ j, j ≤ N x → C' x j = C x j) → (C x 0 < 110 → ∀ j, j ≤ N y → C' x (N x + 1 + j) = C y j) → tr_delF (N p + 1) (C p) (C' p) (i + 1) → (∀ z, z ≠ x → z ≠ p → N' z = N z ∧ K' z = K z ∧ V' z = V z ∧ C' z = C z) → post (rt, we, wt, b1, b2, b3, b4, upd a5 y 0, a6, a7, a8, a9, a10, a11, a12, a13, a14)) :
    wpX_melt post (rt, we, wt, a1, a2, a3, a4, a5, a6, a7, a8, a9, a10, a11, a12, a13, a14) (nI p) (nI i) := by
  have np5 := (hp.1 p p1).2
  have kp := hp.2.1 p i p1 (by omega)
  have hcx : C x 0 < 110 ∨ C x 0 = 255 := hl.elim (fun q => Or.inr q.1) (fun q => Or.inl q.1)
  have yx : y ≠ x := fun e => xy e.symm
  have yp : y ≠ p := fun e => py e.symm
  have xp : x ≠ p := fun e => px e.symm
  refine ⟨ph_in6 p1 (by omega), nm_r (e' := nI x) (by rw [ph_rC hp p1 (by omega), ex, ph_s8 (by omega)]) ⟨pk_in (6 * p + (i + 1)) 660 (by omega) (ph_i6p p i), nm_r (e' := nI y) (by rw [ph_i6p, nI_clamp (by omega), hp.2.2 p (i + 1) p1 (by omega), ey, ph_s8 (by omega)]) ⟨pk_in x 110 x1, nm_r (ph_rN hp x1) ⟨ph_in5 p1 (by omega), ph_in5 p1 (by omega), ?_⟩⟩⟩⟩
  rw [ph_rK hp p1 (by omega), ph_rV hp p1 (by omega)]
  refine wk_putAt x1 (by omega) kp.2.2.1 kp.2.2.2 ?_
  have q1 := ph_wV (ph_wK hp x1 (show N x < 5 by omega) kp.2.2.1) x1 (show N x < 5 by omega) kp.2.2.2
  -- behind the loops
  have fin : ∀ b2 b3 b4 K1 V1 C1, ph_ok a1 b2 b3 b4 N K1 V1 C1 → (∀ z, z ≠ x → K1 z = K z ∧ V1 z = V z ∧ C1 z = C z) → (∀ j, j < N x → K1 x j = K x j ∧ V1 x j = V x j) → (K1 x (N x) = K p i ∧ V1 x (N x) = V p i) → (∀ j, j < N y → K1 x (N x + 1 + j) = K y j ∧ V1 x (N x + 1 + j) = V y j) → (∀ j, j ≤ N x → C1 x j = C x j) → (C x 0 < 110 → ∀ j, j ≤ N y → C1 x (N x + 1 + j) = C y j) →
      wX_melt_178 post (nI p) (nI i) (nI x) (nI y) (nI (N x)) rt we wt a1 b2 b3 b4 a5 a6 a7 a8 a9 a10 a11 a12 a13 a14 := by
    intro b2 b3 b4 K1 V1 C1 g1 g2 g3 g4 g5 g6 g7
    have g8 := ph_wN g1 x1 (show N x + 1 + N y ≤ 5 by omega)
    refine ⟨pk_in y 110 y1, pk_in x 110 x1, nm_r (e' := upd a1 x (nI (N x + 1 + N y))) ?_ ?_⟩
    · rw [ph_rN g1 y1, nI_1, nI_add, nI_clamp (by omega), ph_t8n (by omega), ph_s8 (by omega)]
    · have NP : tr_up N x (N x + 1 + N y) p = N p := tr_upN px
      refine wk_close g8 p1 (i := i) (by rw [NP]; exact ip) ?_
      rw [NP, (g2 p px).1, (g2 p px).2.1]
      intro d2 d3 K2 V2 h1 h2 h3 h4
      refine nm_r (nI_1 i) ?_
      have NP2 : tr_up (tr_up N x (N x + 1 + N y)) p (N p - 1) p = N p - 1 := tr_upS
      refine pk_loop (fun n k b => wX_melt_208 post (nI p) (nI y) rt we wt n (nI k) (upd (upd a1 x (nI (N x + 1 + N y))) p (nI (N p - 1))) d2 d3 b a5 a6 a7 a8 a9 a10 a11 a12 a13 a14)
        (fun k b => i + 1 ≤ k ∧ ∃ C2, ph_ok (upd (upd a1 x (nI (N x + 1 + N y))) p (nI (N p - 1))) d2 d3 b (tr_up (tr_up N x (N x + 1 + N y)) p (N p - 1)) K2 V2 C2 ∧ (∀ z, z ≠ p → C2 z = C1 z) ∧ (∀ j, j < i + 1 → C2 p j = C p j) ∧ (∀ j, i + 1 ≤ j → j < k → C2 p j = C p (j + 1)) ∧ (∀ j, k ≤ j → C2 p j = C p j)) (N p) (i + 1) b4 (by omega)
        ⟨Nat.le_refl _, C1, h1, fun _ _ => rfl, fun j _ => by rw [(g2 p px).2.2], fun j a b => absurd b (by omega), fun j _ => by rw [(g2 p px).2.2]⟩ ?_ ?_
      · intro n b ⟨_, C2, f1, f2, f3, f4, f5⟩
        refine ⟨pk_in p 110 p1, pk_lt (N p - 1) (N p) (fun _ => ⟨pk_in y 110 y1, nm_r (by rw [nI_clamp (by omega)]) ?_⟩) (fun z => absurd z (by omega)) (by rw [ph_rN f1 p1, NP2])⟩
        refine H _ _ _ _ _ _ _ _ f1 (by rw [tr_upN xp, tr_upS]) NP2 (fun j hj => ?_) ?_ (fun j hj => ?_) h3 h4 (fun j hj => ?_) (fun e j hj => ?_) ⟨fun j hj => f3 j hj, fun j a c => f4 j a (by omega)⟩ (fun z a c => ?_)
        · rw [(h2 x xp).1, (h2 x xp).2]; exact g3 j hj
        · rw [(h2 x xp).1, (h2 x xp).2]; exact g4
        · rw [(h2 x xp).1, (h2 x xp).2]; exact g5 j hj
        · rw [f2 x xp]; exact g6 j hj
        · rw [f2 x xp]; exact g7 e j hj
        · rw [tr_upN c, tr_upN a, (h2 z c).1, (h2 z c).2, (g2 z a).1, (g2 z a).2.1, f2 z c, (g2 z a).2.2]; exact ⟨rfl, rfl, rfl, rfl⟩
      · intro n k b hk ⟨ki, C2, f1, f2, f3, f4, f5⟩ hw
        refine ⟨pk_in p 110 p1, pk_lt (N p - 1) k (fun z => absurd z (by omega)) (fun _ => ⟨pk_in (6 * p + (k + 1)) 660 (by omega) (ph_i6p p k), ph_in6 p1 (by omega), nm_r (e' := upd b (6 * p + k) (pg_I (C p (k + 1)))) ?_ (nm_r (nI_1 k) (hw _ ⟨by omega, _, ph_wC f1 p1 (show k < 6 by omega), fun z hz => ?_, fun j hj => ?_, fun j a c => ?_, fun j hj => ?_⟩))⟩) (by rw [ph_rN f1 p1, NP2])⟩
        · rw [ph_i6p, ph_c6 p1 (by omega), nI_clamp (by omega), f1.2.2 p (k + 1) p1 (by omega), ph_n8, f5 (k + 1) (by omega)]
        · rw [ph_u2N hz]; exact f2 z hz
        · rw [ph_u2J (by omega)]; exact f3 j hj
        · by_cases q : j = k
          · subst q; rw [ph_u2S]
          · rw [ph_u2J q]; exact f4 j a (by omega)
        · rw [ph_u2J (by omega)]; exact f5 j (by omega)
  refine pk_loop (fun n k (b : (Nat → Int32) × (Nat → Int32)) => wX_melt_65 post (nI p) (nI i) (nI x) (nI y) (nI (N x)) n (nI k) rt we wt a1 b.1 b.2 a4 a5 a6 a7 a8 a9 a10 a11 a12 a13 a14)
    (fun k b => ∃ K1 V1, ph_ok a1 b.1 b.2 a4 N K1 V1 C ∧ (∀ z, z ≠ x → K1 z = K z ∧ V1 z = V z) ∧ (∀ j, j < N x → K1 x j = K x j ∧ V1 x j = V x j) ∧ (K1 x (N x) = K p i ∧ V1 x (N x) = V p i) ∧ (∀ j, j < k → K1 x (N x + 1 + j) = K y j ∧ V1 x (N x + 1 + j) = V y j)) (N y) 0 (upd a2 (5 * x + N x) (nI (K p i)), upd a3 (5 * x + N x) (nI (V p i))) (by omega)
    ⟨_, _, q1, fun z hz => ⟨ph_u2N hz, ph_u2N hz⟩, fun j hj => ⟨ph_u2J (by omega), ph_u2J (by omega)⟩, ⟨ph_u2S, ph_u2S⟩, fun j hj => absurd hj (by omega)⟩ ?_ ?_
  · intro n b ⟨K1, V1, g1, g2, g3, g4, g5⟩
    refine ⟨pk_in y 110 y1, pk_le (N y) (N y) (fun _ => ?_) (fun z => absurd z (by omega)) (ph_rN g1 y1)⟩
    refine wk_leaf g1 x1 hcx (fun e => br_f (by decide) ?_) (fun e => br_t rfl ?_)
    · exact fin _ _ _ _ _ _ g1 (fun z hz => ⟨(g2 z hz).1, (g2 z hz).2, rfl⟩) g3 g4 g5 (fun _ _ => rfl) (fun q => absurd q (by omega))
    · refine pk_loop (fun n k c => wX_melt_130 post (nI p) (nI i) (nI x) (nI y) (nI (N x)) rt we wt n (nI k) a1 b.1 b.2 c a5 a6 a7 a8 a9 a10 a11 a12 a13 a14)
        (fun k c => ∃ C1, ph_ok a1 b.1 b.2 c N K1 V1 C1 ∧ (∀ z, z ≠ x → C1 z = C z) ∧ (∀ j, j ≤ N x → C1 x j = C x j) ∧ (∀ j, j < k → C1 x (N x + 1 + j) = C y j)) (N y + 1) 0 a4 (by omega) ⟨C, g1, fun _ _ => rfl, fun _ _ => rfl, fun j hj => absurd hj (by omega)⟩ ?_ ?_
      · intro n c ⟨C1, f1, f2, f3, f4⟩
        refine ⟨pk_in y 110 y1, pk_lt (N y) (N y + 1) (fun _ => ?_) (fun z => absurd z (by omega)) (ph_rN f1 y1)⟩
        exact fin _ _ _ _ _ _ f1 (fun z hz => ⟨(g2 z hz).1, (g2 z hz).2, f2 z hz⟩) g3 g4 g5 f3 (fun _ j hj => f4 j (by omega))
      · intro n k c hk ⟨C1, f1, f2, f3, f4⟩ hw
        refine ⟨pk_in y 110 y1, pk_lt (N y) k (fun z => absurd z (by omega)) (fun _ => ⟨ph_in6 y1 (by omega), pk_in (6 * x + (N x + 1 + k)) 660 (by omega) (ph_i6q x (N x) k), nm_r (e' := upd c (6 * x + (N x + 1 + k)) (pg_I (C y k))) ?_ (nm_r (nI_1 k) (hw _ ⟨_, ph_wC f1 x1 (show N x + 1 + k < 6 by omega), fun z hz => ?_, fun j hj => ?_, fun j hj => ?_⟩))⟩) (ph_rN f1 y1)⟩
        · rw [ph_i6q, ph_rC f1 y1 (by omega), nI_clamp (by omega), ph_n8, f2 y yx]
        · rw [ph_u2N hz]; exact f2 z hz
        · rw [ph_u2J (by omega)]; exact f3 j hj
        · by_cases q : j = k
          · subst q; rw [ph_u2S]
          · rw [ph_u2J (by omega)]; exact f4 j (by omega)
  · intro n k b hk ⟨K1, V1, g1, g2, g3, g4, g5⟩ hw
    have bb := g1.2.1 y k y1 (by omega)
    rw [(g2 y yx).1, (g2 y yx).2] at bb
    refine ⟨pk_in y 110 y1, pk_le (N y) k (fun z => absurd z (by omega)) (fun _ => ⟨ph_in5 y1 (by omega), ph_in5 y1 (by omega), ?_⟩) (ph_rN g1 y1)⟩
    rw [ph_rK g1 y1 (by omega), ph_rV g1 y1 (by omega), (g2 y yx).1, (g2 y yx).2, show nI (N x) + 1 + nI k = nI (N x + 1 + k) by rw [nI_1, nI_add]]
    refine wk_putAt x1 (show N x + 1 + k < 5 by omega) bb.2.2.1 bb.2.2.2 (nm_r (nI_1 k) (hw (upd b.1 (5 * x + (N x + 1 + k)) (nI (K y k)), upd b.2 (5 * x + (N x + 1 + k)) (nI (V y k))) ⟨_, _, ph_wV (ph_wK g1 x1 (show N x + 1 + k < 5 by omega) bb.2.2.1) x1 (show N x + 1 + k < 5 by omega) bb.2.2.2, fun z hz => ?_, fun j hj => ?_, ?_, fun j hj => ?_⟩))
    · rw [ph_u2N hz, ph_u2N hz]; exact g2 z hz
    · rw [ph_u2J (by omega), ph_u2J (by omega)]; exact g3 j hj
    · rw [ph_u2J (by omega), ph_u2J (by omega)]; exact g4
    · by_cases q : j = k
      · subst q; rw [ph_u2S, ph_u2S]; exact ⟨rfl, rfl⟩
      · rw [ph_u2J (by omega), ph_u2J (by omega)]; exact g5 j (by omega)
end
end
section
/-! refill -/
section
variable {rt we wt : Int32} {a1 a2 a3 a4 a5 a6 a7 a8 a9 a10 a11 a12 a13 a14 : Nat → Int32} {N : Nat → Nat} {K V C : Nat → Nat → Nat} {r s : Nat} {T S fr : Nat → Prop} {lv lo hi lvS loS hiS : Nat → Nat} {M MS : Nat → Option Nat} {L : List Nat}
theorem bt_mono {L' : List Nat} (h : bt_ok a1 a2 a3 a4 a5 rt N K V C fr r T lv lo hi s S lvS loS hiS M MS L) (e : ∀ x, T x → x ∉ L' → 2 ≤ N x) (l : L'.length ≤ 10) : bt_ok a1 a2 a3 a4 a5 rt N K V C fr r T lv lo hi s S lvS loS hiS M MS L' := by
  obtain ⟨p1, p2, p3, p4, p5, p6, p7, p8, p9, p10, p11, p12, p13, p14⟩ := h
  exact ⟨p1, p2, p3, p4, p5, p6, p7, p8, p9, p10, p11, e, p13, l⟩
/-- the way down to a page of level l -/
def pt_to (N : Nat → Nat) (C : Nat → Nat → Nat) (r : Nat) (T : Nat → Prop) (lv : Nat → Nat) (l : Nat) (wp wi : Nat → Nat) : Prop :=
  pt_ok N C r T lv l wp wi ∧ pt_nx C r l wp wi (wp l) ∧ T (wp l) ∧ lv (wp l) + l = lv r
/-- the neighbour of a page of the way, made fresh and linked in -/
theorem wk_nb {post : Int32 → St1 → Prop} {num v p i : Nat} (h : bt_ok a1 a2 a3 a4 a5 rt N K V C fr r T lv lo hi s S lvS loS hiS M MS L) (sv : sv_ok a7 a8 a9 s num v) (hP : T p) (pf : fr p) (lp : 0 < lv p) (ip : i ≤ N p) (zL : C p i ∉ L)
    (H : ∀ c w' b1 b2 b3 b4 b5 b6 b14 N' K' V' C' fr' T' lv' lo' hi', bt_ok b1 b2 b3 (upd b4 (6 * p + i) (pg_I c)) b5 rt N' K' V' C' fr' r T' lv' lo' hi' s S lvS loS hiS M MS L → b1 c = nI (N (C p i)) → c < 110 → C' p i = c → fr' c → T' c → lv' c = lv (C p i) → N' c = N (C p i) → (∀ j, j ≠ i → C' p j = C p j) →
      (∀ y, T y → y ≠ C p i → T' y ∧ N' y = N y ∧ (y ≠ p → C' y = C y) ∧ lv' y = lv y ∧ (fr y → fr' y)) → (∀ y, T' y → y = c ∨ (T y ∧ y ≠ C p i)) → post (nI c) (rt, we, w', b1, b2, b3, b4, b5, b6, a7, a8, a9, a10, a11, a12, a13, b14)) :
    wpX_freshCopy post (rt, we, wt, a1, a2, a3, a4, a5, a6, a7, a8, a9, a10, a11, a12, a13, a14) (nI (C p i)) := by
  have hb := h
  obtain ⟨p1, p2, p3, p4, p5, p6, p7, p8, p9, p10, p11, p12, p13, p14⟩ := h
  obtain ⟨hz, z1, z2, z3⟩ := p4.2.2.2.2.2.1 p i hP lp ip
  have zb := p4.2.1 _ hz
  have pb := p4.2.1 _ hP
  have zr : C p i ≠ r := by intro e; rw [e] at z1; omega
  refine wk_fresh hb sv hz (fun f => ?_) (fun xf c w' b1 b2 b3 b4 b5 b6 b14 hc hf hs hT hq hqf => ?_)
  · have e4 : upd a4 (6 * p + i) (pg_I (C p i)) = a4 := by
      funext j
      by_cases e : j = 6 * p + i
      · subst e; rw [pk_us, p1.2.2 p i pb.1 (by omega)]
      · rw [pk_un e]
    exact H (C p i) _ _ _ _ _ _ _ _ N K V C fr T lv lo hi (by rw [e4]; exact hb) (p1.1 _ zb.1).1 zb.1 rfl f hz rfl rfl (fun _ _ => rfl) (fun y hy _ => ⟨hy, rfl, fun _ => rfl, rfl, id⟩) (fun y hy => by
      by_cases e : y = C p i
      · exact Or.inl e
      · exact Or.inr ⟨hy, e⟩)
  · have nc : ∀ y, T y → y ≠ c := fun y hy e => hT (e ▸ hy)
    have lk := (bt_link hb hz hc hf hs hT xf hq hqf).2 p i zL zr hP pf lp ip rfl
    have e1 : b1 c = nI (N (C p i)) := by have := (hq.1 c hc).1; rw [tr_upS] at this; exact this
    exact H c _ _ _ _ _ _ _ _ _ _ _ _ _ _ _ _ _ lk e1 hc ph_u2S (Or.inl rfl) (Or.inl rfl) tr_upS tr_upS (fun j hj => by rw [ph_u2J hj, tr_upN (nc p hP)]) (fun y hy yz => ⟨Or.inr ⟨hy, yz⟩, tr_upN (nc y hy), fun yp => by rw [ph_u2N yp, tr_upN (nc y hy)], tr_upN (nc y hy), Or.inr⟩) (fun y hy => hy)
/-- both children of a page are leaves, or none is -/
theorem tr_pair (h : tr_ok N K C r T lv lo hi) {p i j : Nat} (hP : T p) (lp : 0 < lv p) (ip : i ≤ N p) (jp : j ≤ N p) : (C (C p i) 0 = 255 ∧ C (C p j) 0 = 255) ∨ (C (C p i) 0 < 110 ∧ C (C p j) 0 < 110) := by
  obtain ⟨hi1, l1, _, _⟩ := h.2.2.2.2.2.1 p i hP lp ip
  obtain ⟨hj1, l2, _, _⟩ := h.2.2.2.2.2.1 p j hP lp jp
  by_cases e : lv (C p i) = 0
  · exact Or.inl ⟨(h.2.2.2.2.1 _ hi1).mpr e, (h.2.2.2.2.1 _ hj1).mpr (by omega)⟩
  · exact Or.inr ⟨(h.2.1 _ (h.2.2.2.2.2.1 _ 0 hi1 (by omega) (by omega)).1).1, (h.2.1 _ (h.2.2.2.2.2.1 _ 0 hj1 (by omega) (by omega)).1).1⟩
/-- behind the choice of the neighbour d (fl: from the left) -/
theorem wk_ref105 {post : St1 → Prop} {num v p i d q : Nat} {fl : Int32} {wp wi : Nat → Nat} (h : bt_ok a1 a2 a3 a4 a5 rt N K V C fr r T lv lo hi s S lvS loS hiS M MS [r, wp (q + 1)]) (sv : sv_ok a7 a8 a9 s num v)
    (pt : pt_to N C r T lv (q + 1) wp wi) (hfr : ∀ j, j < q + 2 → fr (wp j)) (n4 : ∀ x, T x → N x ≤ 4) (nr : 1 ≤ N r) (n1 : N (wp (q + 1)) = 1) (ep : p = wp q) (ei : i = wi q)
    (hd : (fl = 0 ∧ d = i + 1 ∧ i < N p) ∨ (fl = 1 ∧ i = d + 1))
    (H : ∀ w' b1 b2 b3 b4 b5 b6 b14 N' K' V' C' fr' T' lv' lo' hi', bt_ok b1 b2 b3 b4 b5 rt N' K' V' C' fr' r T' lv' lo' hi' s S lvS loS hiS M MS [r, wp q] → pt_to N' C' r T' lv' q wp wi → (∀ j, j < q + 1 → fr' (wp j)) → (∀ x, T' x → N' x ≤ 4) → (0 < q → 1 ≤ N' r) → post (rt, we, w', b1, b2, b3, b4, b5, b6, a7, a8, a9, a10, a11, a12, a13, b14)) :
    wX_refill_105 post (nI p) (nI i) fl (nI d) rt we wt a1 a2 a3 a4 a5 a6 a7 a8 a9 a10 a11 a12 a13 a14 := by
  have hb := h
  obtain ⟨p1, p2, p3, p4, p5, p6, p7, p8, p9, p10, p11, p12, p13, p14⟩ := h
  obtain ⟨pt1, pt2, hx, lx⟩ := pt
  obtain ⟨hP, lP, wN⟩ := pt1.1 q (by omega)
  have cx : C (wp q) (wi q) = wp (q + 1) := pt2.2 (by omega)
  rw [← ep] at hP lP wN cx
  rw [← ei] at wN cx
  have pf : fr p := by rw [ep]; exact hfr q (by omega)
  have xf : fr (wp (q + 1)) := hfr (q + 1) (by omega)
  have pb := p4.2.1 p hP
  have xb := p4.2.1 _ hx
  have dN : d ≤ N p := by rcases hd with z | z <;> omega
  have di : d ≠ i := by rcases hd with z | z <;> omega
  have lp : 0 < lv p := by omega
  obtain ⟨hz, z1, _, _⟩ := p4.2.2.2.2.2.1 p d hP lp dN
  have zx : C p d ≠ wp (q + 1) := by
    intro e
    exact di (tr_par p4 hP hP lp lp dN wN (e.trans cx.symm)).2
  have zr : C p d ≠ r := by intro e; rw [e] at z1; omega
  have zL : C p d ∉ [r, wp (q + 1)] := by simp [zr, zx]
  have zb := p4.2.1 _ hz
  have nz := p12 _ hz zL
  have e6 : a4 (6 * nI p + nI d).toNatClampNeg = nI (C p d) := ph_rCn p1 pb.1 (by omega) zb.1
  refine ⟨ph_in6 pb.1 (by omega), ?_⟩
  rw [e6]
  refine wk_nb hb sv hP pf lp dN zL (fun c w' b1 b2 b3 b4 b5 b6 b14 N' K' V' C' fr' T' lv' lo' hi' hb' e1 hc ec cf cT cl cn co hy hT => ?_)
  obtain ⟨q1, q2, q3, q4, q5, q6, q7, q8, q9, q10, q11, q12, q13, q14⟩ := hb'
  have px : p ≠ wp (q + 1) := by intro e; rw [← e] at lx; omega
  have pz : p ≠ C p d := by intro e; rw [← e] at z1; omega
  obtain ⟨pT, pN, _, pl, pfr⟩ := hy p hP pz
  obtain ⟨xT, xN, xC, xl, xfr⟩ := hy _ hx (fun e => zx e.symm)
  have pf' := pfr pf
  have xf' := xfr xf
  have cx' : C' p i = wp (q + 1) := by rw [co i (fun e => di e.symm)]; exact cx
  have cS : ¬ S c := (q8 c cf).2
  have xS : ¬ S (wp (q + 1)) := (q8 _ xf').2
  have pS : ¬ S p := (q8 _ pf').2
  have cp : c ≠ p := by intro e; rw [e] at cl; omega
  have cxx : c ≠ wp (q + 1) := by
    intro e
    exact di (tr_par q4 pT pT (by omega) (by omega) (i := d) (j := i) (by omega) (by omega) (by rw [ec, cx', e])).2
  have rT := (hy r p4.1.1 (fun e => zr e.symm))
  have lvr : lv' r = lv r := rT.2.2.2.1
  have n4' : ∀ y, T' y → N' y ≤ 4 := by
    intro y hy'
    rcases hT y hy' with e | ⟨e, e2⟩
    · rw [e, cn]; exact n4 _ hz
    · rw [(hy y e e2).2.1]; exact n4 y e
  -- the way, over the state behind the copy
  have wpT : ∀ j, j < q + 1 → T' (wp j) ∧ N' (wp j) = N (wp j) ∧ lv' (wp j) = lv (wp j) ∧ fr' (wp j) ∧ wp j ≠ c ∧ wp j ≠ wp (q + 1) := by
    intro j hj
    have f := pt1.1 j hj
    have nz : wp j ≠ C p d := by intro e; have := f.2.1; rw [e] at this; omega
    obtain ⟨t1, t2, t3, t4, t5⟩ := hy _ f.1 nz
    refine ⟨t1, t2, t4, t5 (hfr j (by omega)), ?_, ?_⟩
    · intro e; have t6 : lv' (wp j) = lv (C p d) := by rw [e, cl]
      have := f.2.1; omega
    · intro e; have := f.2.1; rw [e] at this; omega
  have wpp : ∀ j, j < q → wp j ≠ p := by
    intro j hj e
    have := (pt1.1 j (by omega)).2.1
    rw [e] at this; omega
  -- what any of the three changes leaves
  have close : ∀ c5 d1 d2 d3 d4 N2 K2 V2 C2 fr2 T2 lo2 hi2, ph_ok d1 d2 d3 d4 N2 K2 V2 C2 → ph_fr c5 fr2 → tr_ok N2 K2 C2 r T2 lv' lo2 hi2 → tr_mp N2 K2 V2 T2 M →
      (∀ z, z ≠ wp (q + 1) → z ≠ p → z ≠ c → N2 z = N' z ∧ K2 z = K' z ∧ V2 z = V' z ∧ C2 z = C' z) → (∀ z, fr2 z → fr' z ∧ T2 z) → (∀ z, T2 z → T' z ∧ (fr' z → fr2 z) ∧ (z = wp (q + 1) ∨ z = c → 2 ≤ N2 z) ∧ N2 z ≤ 4) → T2 p → (0 < q → 1 ≤ N2 r) → (∀ z, T' z → z ≠ wp (q + 1) → z ≠ c → T2 z) →
      post (rt, we, w', d1, d2, d3, d4, c5, b6, a7, a8, a9, a10, a11, a12, a13, b14) := by
    intro c5 d1 d2 d3 d4 N2 K2 V2 C2 fr2 T2 lo2 hi2 f1 f2 f3 f4 f5 f6 f7 f8 f9 f10
    have SN : ∀ z, S z → N2 z = N' z ∧ K2 z = K' z ∧ V2 z = V' z ∧ C2 z = C' z := fun z hz => f5 z (fun e => xS (e ▸ hz)) (fun e => pS (e ▸ hz)) (fun e => cS (e ▸ hz))
    refine H _ _ _ _ _ _ _ _ _ _ _ _ _ _ _ _ _ ⟨f1, f2, q3, f3, f4, tr_frame q6 (fun z hz => ⟨(SN z hz).1, (SN z hz).2.1, (SN z hz).2.2.2⟩), tr_mpFrame q7 (fun z hz => ⟨(SN z hz).1, (SN z hz).2.1, (SN z hz).2.2.1⟩), fun z hz => ⟨(f6 z hz).2, (q8 z (f6 z hz).1).2⟩, fun z hz => (q9 z (f7 z hz).1).elim (fun a => Or.inl ((f7 z hz).2.1 a)) Or.inr, q10, q11, fun z hz zl => ?_, fun z hz => by rw [(SN z hz).1]; exact q13 z hz, by simp⟩ ⟨⟨fun j hj => ?_, fun h0 => pt1.2.1 (by omega), fun j hj => ?_⟩, ⟨fun e => ?_, fun h0 => ?_⟩, ?_, ?_⟩ (fun j hj => ?_) (fun z hz => (f7 z hz).2.2.2) f9
    · simp at zl
      by_cases a : z = wp (q + 1)
      · exact (f7 z hz).2.2.1 (Or.inl a)
      · by_cases b : z = c
        · exact (f7 z hz).2.2.1 (Or.inr b)
        · rw [(f5 z a (by rw [ep]; exact zl.2) b).1]
          exact q12 z (f7 z hz).1 (by simp [zl.1, a])
    · obtain ⟨t1, t2, t3, t4, t5, t6⟩ := wpT j (by omega)
      have f := pt1.1 j (by omega)
      rw [(f5 _ t6 (wpp j hj) t5).1, t2, t3, lvr]
      exact ⟨f10 _ t1 t6 t5, f.2.1, f.2.2⟩
    · obtain ⟨t1, t2, t3, t4, t5, t6⟩ := wpT j (by omega)
      rw [(f5 _ t6 (wpp j (by omega)) t5).2.2.2]
      have nz : wp j ≠ C p d := by intro e; have := (pt1.1 j (by omega)).2.1; rw [e] at this; omega
      rw [(hy _ (pt1.1 j (by omega)).1 nz).2.2.1 (wpp j (by omega))]
      exact pt1.2.2 j (by omega)
    · subst e; exact pt1.2.1 (by omega)
    · obtain ⟨t1, t2, t3, t4, t5, t6⟩ := wpT (q - 1) (by omega)
      rw [(f5 _ t6 (wpp (q - 1) (by omega)) t5).2.2.2]
      have nz : wp (q - 1) ≠ C p d := by intro e; have := (pt1.1 (q - 1) (by omega)).2.1; rw [e] at this; omega
      rw [(hy _ (pt1.1 (q - 1) (by omega)).1 nz).2.2.1 (wpp (q - 1) (by omega))]
      have := pt1.2.2 (q - 1) (by omega)
      rw [show q - 1 + 1 = q by omega] at this
      exact this
    · rw [← ep]; exact f8
    · rw [← ep, pl, lvr]; omega
    · obtain ⟨t1, t2, t3, t4, t5, t6⟩ := wpT j hj
      exact (f7 _ (f10 _ t1 t6 t5)).2.1 t4
  have lxc : lv' (wp (q + 1)) = lv' c := by rw [xl, cl]; omega
  have N2r : r = p ∨ (r ≠ p ∧ r ≠ wp (q + 1) ∧ r ≠ c ∧ N' r = N r) := by
    by_cases e : r = p
    · exact Or.inl e
    · refine Or.inr ⟨e, ?_, ?_, rT.2.1⟩
      · intro e2; rw [← e2] at lx; omega
      · intro e2; rw [← e2] at cl; omega
  have qr : 0 < q → r ≠ p := by intro h0 e; rw [e] at lP; omega
  have pr2 : p ≠ r → 2 ≤ N' p := fun e => q12 p pT (by simp [e, px])
  refine ⟨ph_in6 pb.1 (by omega), nm_r (e' := upd b4 (6 * p + d) (pg_I c)) (by rw [ph_c6 pb.1 (by omega), ph_t8n (by omega)]) ⟨pk_in c 110 hc, ?_⟩⟩
  have rc : b1 (nI c).toNatClampNeg = nI (N (C p d)) := by rw [nI_clamp (by omega)]; exact e1
  refine pk_lt 2 (N (C p d)) (fun z => ?_) (fun z => ?_) rfl rc
  · -- there are keys to take
    rcases hd with ⟨hf, hd1, hd2⟩ | ⟨hf, hd1⟩
    · subst hd1
      refine br_t hf ?_
      have hl := tr_pair q4 pT (by omega) (i := i) (j := i + 1) (by omega) (by omega)
      rw [ec, cx'] at hl
      refine wk_takeR q1 pb.1 xb.1 hc px (fun e => cp e.symm) (fun e => cxx e.symm) cx' ec (by rw [pN]; exact hd2) (by rw [xN, n1]; omega) (by rw [cn]; omega) hl (fun d1 d2 d3 d4 N2 K2 V2 C2 g1 g2 g3 g4 g5 g6 g7 g8 g9 g10 g11 g12 g13 g14 g15 g16 => ?_)
      have R := tr_rotR (p := p) (i := i) (x := wp (q + 1)) (y := c) (N' := N2) (K' := K2) (V' := V2) (C' := C2) q4 q5 pT (by omega) (by rw [pN]; exact hd2) cx' ec (by rw [xN, n1]; omega) (by rw [cn]; omega) g2 g3 g4 g5 g6 g7 g8 g9 (fun j _ hj => g10 j hj) g11
        (fun l0 => g12 (by rcases hl with a | a; exact absurd ((q4.2.2.2.2.1 _ xT).mp a.1) (by omega); exact a.1))
        (fun l0 => g13 (by rcases hl with a | a; exact absurd ((q4.2.2.2.2.1 _ cT).mp a.2) (by omega); exact a.2))
        (fun l0 => g14 ((q4.2.2.2.2.1 _ cT).mpr l0)) g15 (fun w _ a b e => g16 w a b e)
      refine close _ _ _ _ _ _ _ _ _ fr' T' _ _ g1 q2 R.1 R.2 (fun w a b e => g16 w a b e) (fun w hw => ⟨hw, (q8 w hw).1⟩) (fun w hw => ⟨hw, id, fun e => ?_, ?_⟩) pT (fun h0 => ?_) (fun w hw _ _ => hw)
      · rcases e with e | e
        · rw [e, g2, xN, n1]; omega
        · rw [e, g3, cn]; omega
      · by_cases a : w = wp (q + 1)
        · rw [a, g2, xN, n1]; omega
        · by_cases b : w = c
          · rw [b, g3]; have := n4' c cT; omega
          · by_cases e : w = p
            · rw [e, g4]; exact n4' p pT
            · rw [(g16 w a e b).1]; exact n4' w hw
      · rcases N2r with a | ⟨a, b, e, f⟩
        · exact absurd a (qr h0)
        · rw [(g16 r b a e).1, f]; exact nr
    · subst hd1
      refine br_f (by rw [hf]; decide) ?_
      have hl := tr_pair q4 pT (by omega) (i := d + 1) (j := d) (by omega) (by omega)
      rw [ec, cx'] at hl
      refine wk_takeL (n := N (C p d) - 1) q1 pb.1 xb.1 hc px (fun e => cp e.symm) (fun e => cxx e.symm) ec cx' (by rw [pN]; omega) (by rw [xN, n1]; omega) (by rw [cn]; omega) hl (fun d1 d2 d3 d4 N2 K2 V2 C2 g1 g2 g3 g4 g5 g6 g7 g8 g9 g10 g11 g12 g13 g14 => ?_)
      have R := tr_rotL (p := p) (i := d) (x := wp (q + 1)) (y := c) (n := N (C p d) - 1) (N' := N2) (K' := K2) (V' := V2) (C' := C2) q4 q5 pT (by omega) (by rw [pN]; omega) ec cx' (by rw [xN, n1]; omega) (by rw [cn]; omega) (by omega) g2 g3 g4 g5 g6 g7 g8 (fun j _ hj => g9 j hj)
        (fun l0 => g10 (by rcases hl with a | a; exact absurd ((q4.2.2.2.2.1 _ xT).mp a.1) (by omega); exact a.1))
        (fun l0 => g11 ((q4.2.2.2.2.1 _ xT).mpr l0)) g12 g13 (fun w _ a b e => g14 w a b e)
      refine close _ _ _ _ _ _ _ _ _ fr' T' _ _ g1 q2 R.1 R.2 (fun w a b e => g14 w a b e) (fun w hw => ⟨hw, (q8 w hw).1⟩) (fun w hw => ⟨hw, id, fun e => ?_, ?_⟩) pT (fun h0 => ?_) (fun w hw _ _ => hw)
      · rcases e with e | e
        · rw [e, g2, xN, n1]; omega
        · rw [e, g3]; omega
      · by_cases a : w = wp (q + 1)
        · rw [a, g2, xN, n1]; omega
        · by_cases b : w = c
          · rw [b, g3]; have := n4' c cT; omega
          · by_cases e : w = p
            · rw [e, g4]; exact n4' p pT
            · rw [(g14 w a e b).1]; exact n4' w hw
      · rcases N2r with a | ⟨a, b, e, f⟩
        · exact absurd a (qr h0)
        · rw [(g14 r b a e).1, f]; exact nr
  · -- melted
    have nz2 : N (C p d) = 2 := by omega
    rcases hd with ⟨hf, hd1, hd2⟩ | ⟨hf, hd1⟩
    · subst hd1
      refine br_t hf ?_
      unfold wX_refill_165
      have hl := tr_pair q4 pT (by omega) (i := i) (j := i + 1) (by omega) (by omega)
      rw [ec, cx'] at hl
      refine wk_melt q1 pb.1 xb.1 hc px (fun e => cp e.symm) (fun e => cxx e.symm) cx' ec (by rw [pN]; exact hd2) (by rw [xN, n1, cn]; omega) hl (fun d1 d2 d3 d4 N2 K2 V2 C2 g1 g2 g3 g4 g5 g6 g7 g8 g9 g10 g11 g12 => ?_)
      have R := tr_melt (p := p) (i := i) (x := wp (q + 1)) (y := c) (N' := N2) (K' := K2) (V' := V2) (C' := C2) q4 q5 pT (by omega) (by rw [pN]; exact hd2) cx' ec (by rw [xN, n1, cn]; omega) pr2 g2 g3 g4 g5 g6 g7 g8 g9
        (fun l0 => g10 (by rcases hl with a | a; exact absurd ((q4.2.2.2.2.1 _ xT).mp a.1) (by omega); exact a.1)) g11 (fun w _ a b _ => g12 w a b)
      refine close _ _ _ _ _ _ _ _ _ (fun w => fr' w ∧ w ≠ c) (fun w => T' w ∧ w ≠ c) _ _ g1 (ph_frClr q2 c) R.1 R.2 (fun w a b e => g12 w a b) (fun w hw => ⟨hw.1, (q8 w hw.1).1, hw.2⟩) (fun w hw => ⟨hw.1, fun a => ⟨a, hw.2⟩, fun e => ?_, ?_⟩) ⟨pT, fun e => cp e.symm⟩ (fun h0 => ?_) (fun w hw _ b => ⟨hw, b⟩)
      · rcases e with e | e
        · rw [e, g2]; omega
        · exact absurd e hw.2
      · by_cases a : w = wp (q + 1)
        · rw [a, g2, xN, n1, cn]; omega
        · by_cases e : w = p
          · rw [e, g3]; have := n4' p pT; omega
          · rw [(g12 w a e).1]; exact n4' w hw.1
      · rcases N2r with a | ⟨a, b, e, f⟩
        · exact absurd a (qr h0)
        · rw [(g12 r b a).1, f]; exact nr
    · subst hd1
      refine br_f (by rw [hf]; decide) ?_
      rw [nI_pred]
      unfold wX_refill_165
      have hl := tr_pair q4 pT (by omega) (i := d) (j := d + 1) (by omega) (by omega)
      rw [ec, cx'] at hl
      refine wk_melt q1 pb.1 hc xb.1 (fun e => cp e.symm) px cxx ec cx' (by rw [pN]; omega) (by rw [xN, n1, cn]; omega) hl (fun d1 d2 d3 d4 N2 K2 V2 C2 g1 g2 g3 g4 g5 g6 g7 g8 g9 g10 g11 g12 => ?_)
      have R := tr_melt (p := p) (i := d) (x := c) (y := wp (q + 1)) (N' := N2) (K' := K2) (V' := V2) (C' := C2) q4 q5 pT (by omega) (by rw [pN]; omega) ec cx' (by rw [xN, n1, cn]; omega) pr2 g2 g3 g4 g5 g6 g7 g8 g9
        (fun l0 => g10 (by rcases hl with a | a; exact absurd ((q4.2.2.2.2.1 _ cT).mp a.1) (by omega); exact a.1)) g11 (fun w _ a b _ => g12 w a b)
      refine close _ _ _ _ _ _ _ _ _ (fun w => fr' w ∧ w ≠ wp (q + 1)) (fun w => T' w ∧ w ≠ wp (q + 1)) _ _ g1 (ph_frClr q2 (wp (q + 1))) R.1 R.2 (fun w a b e => g12 w e b) (fun w hw => ⟨hw.1, (q8 w hw.1).1, hw.2⟩) (fun w hw => ⟨hw.1, fun a => ⟨a, hw.2⟩, fun e => ?_, ?_⟩) ⟨pT, px⟩ (fun h0 => ?_) (fun w hw a _ => ⟨hw, a⟩)
      · rcases e with e | e
        · exact absurd e hw.2
        · rw [e, g2]; omega
      · by_cases a : w = c
        · rw [a, g2, xN, n1, cn]; omega
        · by_cases e : w = p
          · rw [e, g3]; have := n4' p pT; omega
          · rw [(g12 w a e).1]; exact n4' w hw.1
      · rcases N2r with a | ⟨a, b, e, f⟩
        · exact absurd a (qr h0)
        · rw [(g12 r e a).1, f]; exact nr
end
end
section
/-! refill, the loops of remove -/
section
variable {rt we wt : Int32} {a1 a2 a3 a4 a5 a6 a7 a8 a9 a10 a11 a12 a13 a14 : Nat → Int32} {N : Nat → Nat} {K V C : Nat → Nat → Nat} {r s : Nat} {T S fr : Nat → Prop} {lv lo hi lvS loS hiS : Nat → Nat} {M MS : Nat → Option Nat} {L : List Nat}
theorem wk_refill {post : St1 → Prop} {num v q : Nat} {wp wi : Nat → Nat} (h : bt_ok a1 a2 a3 a4 a5 rt N K V C fr r T lv lo hi s S lvS loS hiS M MS [r, wp (q + 1)]) (sv : sv_ok a7 a8 a9 s num v)
    (pt : pt_to N C r T lv (q + 1) wp wi) (q8 : q < 8) (ar : a12 q = nI (wp q) ∧ a13 q = nI (wi q)) (hfr : ∀ j, j < q + 2 → fr (wp j)) (n4 : ∀ x, T x → N x ≤ 4) (nr : 1 ≤ N r) (n1 : N (wp (q + 1)) = 1)
    (H : ∀ w' b1 b2 b3 b4 b5 b6 b14 N' K' V' C' fr' T' lv' lo' hi', bt_ok b1 b2 b3 b4 b5 rt N' K' V' C' fr' r T' lv' lo' hi' s S lvS loS hiS M MS [r, wp q] → pt_to N' C' r T' lv' q wp wi → (∀ j, j < q + 1 → fr' (wp j)) → (∀ x, T' x → N' x ≤ 4) → (0 < q → 1 ≤ N' r) → post (rt, we, w', b1, b2, b3, b4, b5, b6, a7, a8, a9, a10, a11, a12, a13, b14)) :
    wpX_refill post (rt, we, wt, a1, a2, a3, a4, a5, a6, a7, a8, a9, a10, a11, a12, a13, a14) (nI (q + 1)) := by
  have p1 := h.1
  have p4 := h.2.2.2.1
  have p12 := h.2.2.2.2.2.2.2.2.2.2.2.1
  obtain ⟨hP, lP, wN⟩ := pt.1.1 q (by omega)
  have pb := p4.2.1 _ hP
  have lx := pt.2.2.2
  have lp : 0 < lv (wp q) := by omega
  have e1 : nI (q + 1) - 1 = nI q := nI_pred q
  have r1 : a12 (nI (q + 1) - 1).toNatClampNeg = nI (wp q) := by rw [e1, nI_clamp (by omega)]; exact ar.1
  have r2 : a13 (nI (q + 1) - 1).toNatClampNeg = nI (wi q) := by rw [e1, nI_clamp (by omega)]; exact ar.2
  have np : 1 ≤ N (wp q) := by
    by_cases e : wp q = r
    · rw [e]; exact nr
    · exact (pb.2.2.2 e).1
  have ch : ∀ j, j ≤ N (wp q) → C (wp q) j < 110 := fun j hj => (p4.2.1 _ (p4.2.2.2.2.2.1 _ j hP lp hj).1).1
  have R0 : wi q < N (wp q) → wX_refill_91 post (nI (wp q)) (nI (wi q)) 0 rt we wt a1 a2 a3 a4 a5 a6 a7 a8 a9 a10 a11 a12 a13 a14 := by
    intro hi1
    refine br_t rfl ?_
    rw [nI_1]
    exact wk_ref105 h sv pt hfr n4 nr n1 rfl rfl (Or.inl ⟨rfl, rfl, hi1⟩) H
  have R1 : 0 < wi q → wX_refill_91 post (nI (wp q)) (nI (wi q)) 1 rt we wt a1 a2 a3 a4 a5 a6 a7 a8 a9 a10 a11 a12 a13 a14 := by
    intro hi1
    refine br_f (by decide) ?_
    have e : nI (wi q) - 1 = nI (wi q - 1) := by
      obtain ⟨t, ht⟩ : ∃ t, wi q = t + 1 := ⟨wi q - 1, by omega⟩
      rw [ht, nI_pred]; rfl
    rw [e]
    exact wk_ref105 h sv pt hfr n4 nr n1 rfl rfl (Or.inr ⟨rfl, by omega⟩) H
  refine ⟨pk_in q 8 (by omega) e1, nm_r r1 ⟨pk_in q 8 (by omega) e1, nm_r r2 (pk_le (wi q) 0 (fun z => ?_) (fun z => ?_))⟩⟩
  · exact br_t rfl (R0 (by omega))
  · have em : 6 * nI (wp q) + nI (wi q) - 1 = nI (6 * wp q + (wi q - 1)) := ph_i6m z
    have rm : a4 (6 * nI (wp q) + nI (wi q) - 1).toNatClampNeg = nI (C (wp q) (wi q - 1)) := by
      rw [em, nI_clamp (by omega), p1.2.2 _ _ pb.1 (by omega), ph_s8 (by have := ch (wi q - 1) (by omega); omega)]
    have c1 := ch (wi q - 1) (by omega)
    refine br_f (by decide) ⟨pk_in (6 * wp q + (wi q - 1)) 660 (by omega) em, ?_⟩
    rw [rm]
    refine ⟨pk_in _ 110 c1, pk_lt 2 (N (C (wp q) (wi q - 1))) (fun _ => R1 z) (fun _ => ⟨pk_in (wp q) 110 pb.1, pk_le (N (wp q)) (wi q) (fun _ => R1 z) (fun z2 => ?_) (ph_rN p1 pb.1)⟩) rfl (ph_rN p1 c1) (by omega) (by have := (p1.1 _ c1).2; omega)⟩
    have c2 := ch (wi q + 1) (by omega)
    have rp : a4 (6 * nI (wp q) + nI (wi q) + 1).toNatClampNeg = nI (C (wp q) (wi q + 1)) := by
      rw [ph_i6p, nI_clamp (by omega), p1.2.2 _ _ pb.1 (by omega), ph_s8 (by omega)]
    refine ⟨pk_in (6 * wp q + (wi q + 1)) 660 (by omega) (ph_i6p _ _), ?_⟩
    rw [rp]
    exact ⟨pk_in _ 110 c2, pk_le (N (C (wp q) (wi q + 1))) 2 (fun _ => R1 z) (fun _ => R0 z2) (ph_rN p1 c2) rfl (by have := (p1.1 _ c2).2; omega)⟩
/-- behind the refills: an empty root goes -/
theorem wk_rm179 {post : St1 → Prop} (h : bt_ok a1 a2 a3 a4 a5 rt N K V C fr r T lv lo hi s S lvS loS hiS M MS [r]) (n4 : ∀ x, T x → N x ≤ 4) (rf : N r = 0 → fr r) (hne : ∃ k w, M k = some w)
    (H : ∀ rt' b5 fr' r' T', st_ok a1 a2 a3 a4 b5 rt' N K V C fr' r' T' lv lo hi s S lvS loS hiS M MS → post (rt', we, wt, a1, a2, a3, a4, b5, a6, a7, a8, a9, a10, a11, a12, a13, a14)) : wX_remove_179 post rt we wt a1 a2 a3 a4 a5 a6 a7 a8 a9 a10 a11 a12 a13 a14 := by
  have hb := h
  obtain ⟨p1, p2, p3, p4, p5, p6, p7, p8, p9, p10, p11, p12, p13, p14⟩ := h
  have rb := p4.2.1 r p4.1.1
  subst p3
  refine ⟨pk_in r 110 rb.1, pk_le (N r) 0 (fun z => ?_) (fun z => H _ _ _ _ _ ⟨hb, n4, by omega⟩) (ph_rN p1 rb.1)⟩
  have n0 : N r = 0 := by omega
  have lr : 0 < lv r := by
    rcases Nat.eq_zero_or_pos (lv r) with e | e
    · obtain ⟨k, w, hk⟩ := hne
      obtain ⟨x, i, hx, hi1, _⟩ := p5.2 k w hk
      have : x = r := by
        rcases Classical.em (x = r) with q | q
        · exact q
        · have := (p4.2.1 x hx).2.2.2 q; omega
      subst this; omega
    · exact e
  obtain ⟨ht, l1, _, _⟩ := p4.2.2.2.2.2.1 r 0 p4.1.1 lr (by omega)
  have cb := p4.2.1 _ ht
  have cr : C r 0 ≠ r := by intro e; rw [e] at l1; omega
  refine wk_leaf p1 rb.1 (tr_c110 p4 p4.1.1) (fun e => absurd ((p4.2.2.2.2.1 r p4.1.1).mp e) (by omega)) (fun _ => br_t rfl ⟨ph_in60 rb.1, nm_r (e' := nI (C r 0)) (by rw [ph_rC0 p1 rb.1, ph_s8 (by omega)]) ⟨pk_in r 110 rb.1, nm_r (e' := upd a5 r 0) (by rw [nI_clamp (by omega)]) ?_⟩⟩)
  have A := tr_coll p4 p5 n0 lr
  refine H _ _ _ _ _ ⟨⟨p1, ph_frClr p2 r, rfl, A.1, A.2, p6, p7, fun x hx => ⟨⟨(p8 x hx.1).1, hx.2⟩, (p8 x hx.1).2⟩, fun x hx => (p9 x hx.1).elim (fun q => Or.inl ⟨q, hx.2⟩) Or.inr, p10, p11, fun x hx xl => p12 x hx.1 (by simpa using hx.2), p13, by simp⟩, fun x hx => n4 x hx.1, ?_⟩
  have := p12 _ ht (by simpa using cr)
  omega
theorem wk_rm146 {post : St1 → Prop} {num v : Nat} {wp wi : Nat → Nat} (sv : sv_ok a7 a8 a9 s num v) (hne : ∃ k w, M k = some w)
    (H : ∀ rt w' b1 b2 b3 b4 b5 b6 b14 N K V C fr r T lv lo hi, st_ok b1 b2 b3 b4 b5 rt N K V C fr r T lv lo hi s S lvS loS hiS M MS → post (rt, we, w', b1, b2, b3, b4, b5, b6, a7, a8, a9, a10, a11, a12, a13, b14)) :
    ∀ l rt wt a1 a2 a3 a4 a5 a6 a14 N K V C fr r T lv lo hi, l < 8 → bt_ok a1 a2 a3 a4 a5 rt N K V C fr r T lv lo hi s S lvS loS hiS M MS [r, wp l] → pt_to N C r T lv l wp wi → pt_ar a12 a13 (l + 1) wp wi → (∀ j, j < l + 1 → fr (wp j)) → (∀ x, T x → N x ≤ 4) → (0 < l → 1 ≤ N r) →
      wX_remove_146 post (l + 1) (nI l) rt we wt a1 a2 a3 a4 a5 a6 a7 a8 a9 a10 a11 a12 a13 a14 := by
  intro l
  induction l with
  | zero =>
    intro rt wt a1 a2 a3 a4 a5 a6 a14 N K V C fr r T lv lo hi l8 hb pt ar hfr n4 nr
    have w0 : wp 0 = r := pt.2.1.1 rfl
    refine pk_le 0 0 (fun _ => ?_) (fun z => absurd z (by omega))
    refine wk_rm179 (bt_mono hb (fun x hx e => hb.2.2.2.2.2.2.2.2.2.2.2.1 x hx (by rw [w0]; simpa using e)) (by simp)) n4 (fun _ => by rw [← w0]; exact hfr 0 (by omega)) hne (fun rt' b5 fr' r' T' hst => H _ _ _ _ _ _ _ _ _ _ _ _ _ _ _ _ _ _ _ hst)
  | succ q ih =>
    intro rt wt a1 a2 a3 a4 a5 a6 a14 N K V C fr r T lv lo hi l8 hb pt ar hfr n4 nr
    have xb := hb.2.2.2.1.2.1 _ pt.2.2.1
    have xr : wp (q + 1) ≠ r := by intro e; have := pt.2.2.2; rw [e] at this; omega
    have e12 : a12 (nI (q + 1)).toNatClampNeg = nI (wp (q + 1)) := by rw [nI_clamp (by omega)]; exact (ar (q + 1) (by omega)).1
    refine pk_le (q + 1) 0 (fun z => absurd z (by omega)) (fun _ => ⟨pk_in (q + 1) 8 l8, ?_⟩)
    rw [e12]
    refine ⟨pk_in _ 110 xb.1, pk_le 2 (N (wp (q + 1))) (fun z => ?_) (fun z => ?_) rfl (ph_rN hb.1 xb.1)⟩
    · refine wk_rm179 (bt_mono hb (fun x hx e => ?_) (by simp)) n4 (fun e => absurd e (by have := nr (by omega); omega)) hne (fun rt' b5 fr' r' T' hst => H _ _ _ _ _ _ _ _ _ _ _ _ _ _ _ _ _ _ _ hst)
      by_cases c : x = wp (q + 1)
      · rw [c]; exact z
      · have xr2 : x ≠ r := by simpa using e
        exact hb.2.2.2.2.2.2.2.2.2.2.2.1 x hx (by simp [xr2, c])
    · have := (xb.2.2.2 xr).1
      refine wk_refill hb sv pt (by omega) ⟨(ar q (by omega)).1, (ar q (by omega)).2⟩ hfr n4 (nr (by omega)) (by omega) (fun w' b1 b2 b3 b4 b5 b6 b14 N' K' V' C' fr' T' lv' lo' hi' g1 g2 g3 g4 g5 => nm_r (pk_m1 q) ?_)
      exact ih _ _ _ _ _ _ _ _ _ _ _ _ _ _ _ _ _ _ _ (by omega) g1 g2 (fun j hj => ar j (by omega)) g3 g4 g5
end
end
section
/-! lengthenWay, remove -/
theorem ct_del {M : Nat → Option Nat} {n : Nat} (h : ct_cd M n) (k : Nat) : ct_cd (tr_up M k none) n := by
  obtain ⟨f, h1, h2⟩ := h
  have key : ∀ k' v, tr_up M k none k' = some v → M k' = some v := fun k' v e => by
    by_cases c : k' = k
    · rw [c, tr_upS] at e; exact absurd e (by simp)
    · rw [tr_upN c] at e; exact e
  exact ⟨f, fun k' v e => h1 k' v (key k' v e), fun k1 k2 v1 v2 e1 e2 e => h2 k1 k2 v1 v2 (key k1 v1 e1) (key k2 v2 e2) e⟩
section
variable {rt we wt : Int32} {a1 a2 a3 a4 a5 a6 a7 a8 a9 a10 a11 a12 a13 a14 : Nat → Int32} {N : Nat → Nat} {K V C : Nat → Nat → Nat} {r s : Nat} {T S fr : Nat → Prop} {lv lo hi lvS loS hiS : Nat → Nat} {M MS : Nat → Option Nat} {L : List Nat}
theorem wk_long43 {post : St1 → Prop} (hp : ph_ok a1 a2 a3 a4 N K V C) (h : tr_ok N K C r T lv lo hi) {key m lb0 : Nat} {wp0 wi0 : Nat → Nat}
    (H : ∀ n wp wi b12 b13, m < n → n ≤ 8 → pt_ok N C r T lv n wp wi → pt_ar b12 b13 n wp wi → (∀ j, j < m → wp j = wp0 j ∧ wi j = wi0 j) → (∀ j, m ≤ j → j + 1 < n → wi j = N (wp j)) → lv (wp (n - 1)) = 0 → wi (n - 1) + 1 = N (wp (n - 1)) → hi (wp (n - 1)) = key → lb0 ≤ lo (wp (n - 1)) → post (rt, nI n, wt, a1, a2, a3, a4, a5, a6, a7, a8, a9, a10, a11, b12, b13, a14)) :
    ∀ d y n wp wi a12 a13, lv y = d → T y → y ≠ r → n + d = lv r → pt_ok N C r T lv n wp wi → pt_nx C r n wp wi y → pt_ar a12 a13 n wp wi → hi y = key → lb0 ≤ lo y → m ≤ n → (∀ j, j < m → wp j = wp0 j ∧ wi j = wi0 j) → (∀ j, m ≤ j → j < n → wi j = N (wp j)) →
      wX_lengthenWay_43 post (d + 1) (nI y) rt (nI n) wt a1 a2 a3 a4 a5 a6 a7 a8 a9 a10 a11 a12 a13 a14 := by
  intro d
  have hh := h
  obtain ⟨h0, h1, h2, h3, h4, h5, h6⟩ := h
  induction d with
  | zero =>
    intro y n wp wi a12 a13 ld hy yr hn po px pa hk hl hm e1 e2
    have y1 := h1 y hy
    have ny := (y1.2.2.2 yr).1
    unfold wX_lengthenWay_43
    refine wk_leaf hp y1.1 (tr_c110 hh hy) (fun _ => br_f (by decide) ⟨pk_in y 110 y1.1, ?_⟩) (fun z => absurd ((h4 y hy).mpr ld) z)
    have en : a1 (nI y).toNatClampNeg - 1 = nI (N y - 1) := by
      rw [ph_rN hp y1.1, show N y = (N y - 1) + 1 by omega, nI_pred]; rfl
    rw [en]
    refine wk_push (by omega) (by omega) (by omega) ?_
    refine H (n + 1) _ _ _ _ (by omega) (by omega) (pt_ext po px hy (by omega) (show N y - 1 ≤ N y by omega)) (pt_arE pa) (fun j hj => ?_) (fun j h7 h8 => ?_) ?_ ?_ ?_ ?_
    · rw [tr_upN (by omega), tr_upN (by omega)]; exact e1 j hj
    · rw [tr_upN (by omega), tr_upN (by omega)]; exact e2 j h7 (by omega)
    · rw [Nat.add_sub_cancel, tr_upS]; exact ld
    · rw [Nat.add_sub_cancel, tr_upS, tr_upS]; omega
    · rw [Nat.add_sub_cancel, tr_upS]; exact hk
    · rw [Nat.add_sub_cancel, tr_upS]; exact hl
  | succ d ih =>
    intro y n wp wi a12 a13 ld hy yr hn po px pa hk hl hm e1 e2
    have y1 := h1 y hy
    obtain ⟨t, q1, q2, q3⟩ := h5 y (N y) hy (by omega) (by omega)
    have c1 := h1 _ t
    have cr : C y (N y) ≠ r := by intro e; rw [e] at q1; omega
    unfold wX_lengthenWay_43
    refine wk_leaf hp y1.1 (tr_c110 hh hy) (fun z => absurd ((h4 y hy).mp z) (by omega)) (fun _ => br_t rfl ⟨pk_in y 110 y1.1, ?_⟩)
    rw [ph_rN hp y1.1]
    refine wk_push (by omega) (by omega) (by omega) ?_
    refine ⟨pk_in y 110 y1.1, ?_⟩
    rw [ph_rN hp y1.1]
    refine ⟨ph_in6 y1.1 (by omega), nm_r (ph_rCn hp y1.1 (by omega) c1.1) ?_⟩
    refine ih (C y (N y)) (n + 1) _ _ _ _ (by omega) t cr (by omega) (pt_ext po px hy (by omega) (Nat.le_refl _)) pt_nxE (pt_arE pa) ?_ ?_ (by omega) (fun j hj => ?_) (fun j h7 h8 => ?_)
    · rw [q3]; unfold tr_ub; rw [if_pos rfl]; exact hk
    · rw [q2]; have := tr_lbLe hh hy (i := N y) (by omega); omega
    · rw [tr_upN (by omega), tr_upN (by omega)]; exact e1 j hj
    · by_cases e : j = n
      · subst e; rw [tr_upS, tr_upS]
      · rw [tr_upN e, tr_upN e]; exact e2 j h7 (by omega)
theorem wk_long {post : St1 → Prop} (hp : ph_ok a1 a2 a3 a4 N K V C) (h : tr_ok N K C r T lv lo hi) {key m : Nat} {wp wi : Nat → Nat} (m0 : 0 < m) (m8 : m ≤ 8) (pt : pt_ok N C r T lv m wp wi) (ar : pt_ar a12 a13 m wp wi) (ix : wi (m - 1) < N (wp (m - 1))) (ek : K (wp (m - 1)) (wi (m - 1)) = key)
    (HL : lv (wp (m - 1)) = 0 → post (rt, nI m, wt, a1, a2, a3, a4, a5, a6, a7, a8, a9, a10, a11, a12, a13, a14))
    (H : ∀ n wp' wi' b12 b13, m < n → n ≤ 8 → pt_ok N C r T lv n wp' wi' → pt_ar b12 b13 n wp' wi' → (∀ j, j < m → wp' j = wp j ∧ wi' j = wi j) → (∀ j, m ≤ j → j + 1 < n → wi' j = N (wp' j)) → lv (wp' (n - 1)) = 0 → wi' (n - 1) + 1 = N (wp' (n - 1)) → hi (wp' (n - 1)) = key → tr_lb K lo (wp (m - 1)) (wi (m - 1)) ≤ lo (wp' (n - 1)) → post (rt, nI n, wt, a1, a2, a3, a4, a5, a6, a7, a8, a9, a10, a11, b12, b13, a14)) :
    wpX_lengthenWay post (rt, nI m, wt, a1, a2, a3, a4, a5, a6, a7, a8, a9, a10, a11, a12, a13, a14) := by
  have e1 : nI m - 1 = nI (m - 1) := by rw [show m = (m - 1) + 1 by omega, nI_pred]; rfl
  have r1 : a12 (nI m - 1).toNatClampNeg = nI (wp (m - 1)) := by rw [e1, nI_clamp (by omega)]; exact (ar (m - 1) (by omega)).1
  have r2 : a13 (nI m - 1).toNatClampNeg = nI (wi (m - 1)) := by rw [e1, nI_clamp (by omega)]; exact (ar (m - 1) (by omega)).2
  obtain ⟨hx, lx, _⟩ := pt.1 (m - 1) (by omega)
  have xb := h.2.1 _ hx
  have n5 := xb.2.1
  refine ⟨pk_in (m - 1) 8 (by omega) e1, nm_r r1 ?_⟩
  refine wk_leaf hp xb.1 (tr_c110 h hx) (fun z => br_f (by decide) (HL ((h.2.2.2.2.1 _ hx).mp z))) (fun z => br_t rfl ⟨pk_in (m - 1) 8 (by omega) e1, ?_⟩)
  have l0 : 0 < lv (wp (m - 1)) := by
    rcases Nat.eq_zero_or_pos (lv (wp (m - 1))) with e | e
    · exact absurd ((h.2.2.2.2.1 _ hx).mpr e) z
    · exact e
  obtain ⟨t, q1, q2, q3⟩ := h.2.2.2.2.2.1 _ (wi (m - 1)) hx l0 (by omega)
  have cb := h.2.1 _ t
  rw [r2]
  refine ⟨ph_in6 xb.1 (by omega), nm_r (ph_rCn hp xb.1 (by omega) cb.1) ⟨lv (C (wp (m - 1)) (wi (m - 1))) + 1, ?_⟩⟩
  refine wk_long43 hp h H _ _ m wp wi a12 a13 rfl t (by intro e; rw [e] at q1; omega) (by omega) pt ⟨fun e => absurd e (by omega), fun _ => rfl⟩ ar ?_ (by rw [q2]; exact Nat.le_refl _) (Nat.le_refl _) (fun j hj => ⟨rfl, rfl⟩) (fun j h7 h8 => absurd h8 (by omega))
  rw [q3]; unfold tr_ub; rw [if_neg (by omega)]; exact ek
/-- levels that hold another key are passed -/
theorem wk_rm41s {post : St1 → Prop} (hp : ph_ok a1 a2 a3 a4 N K V C) {key n m f : Nat} {z i : Int32} {wp wi : Nat → Nat} (ar : pt_ar a12 a13 n wp wi) (n8 : n ≤ 8) (mn : m + 1 ≤ n) (hk : key < 5000) (hb : ∀ j, j < m → wp j < 110 ∧ wi j ≤ N (wp j))
    (F : wX_remove_41 post (nI key) z i f (nI m) rt (nI n) wt a1 a2 a3 a4 a5 a6 a7 a8 a9 a10 a11 a12 a13 a14) :
    ∀ d l, l + d = m → (∀ j, l ≤ j → j < m → ¬ (wi j < N (wp j) ∧ K (wp j) (wi j) = key)) → wX_remove_41 post (nI key) z i (f + d) (nI l) rt (nI n) wt a1 a2 a3 a4 a5 a6 a7 a8 a9 a10 a11 a12 a13 a14 := by
  intro d
  induction d with
  | zero =>
    intro l hl _
    have : l = m := by omega
    subst this; exact F
  | succ d ih =>
    intro l hl hs
    have e1 : nI n - 1 = nI (n - 1) := by rw [show n = (n - 1) + 1 by omega, nI_pred]; rfl
    have lb := hb l (by omega)
    have n5 := (hp.1 _ lb.1).2
    have nx : wX_remove_41 post (nI key) z i (f + d) (nI (l + 1)) rt (nI n) wt a1 a2 a3 a4 a5 a6 a7 a8 a9 a10 a11 a12 a13 a14 := ih (l + 1) (by omega) (fun j a b => hs j (by omega) b)
    refine pk_le (n - 1) l (fun q => absurd q (by omega)) (fun _ => ⟨pk_in l 8 (by omega), nm_r (e' := nI (wp l)) (by rw [nI_clamp (by omega)]; exact (ar l (by omega)).1) ⟨pk_in l 8 (by omega), nm_r (e' := nI (wi l)) (by rw [nI_clamp (by omega)]; exact (ar l (by omega)).2) ⟨pk_in (wp l) 110 lb.1, pk_le (N (wp l)) (wi l) (fun _ => nm_r (nI_1 l) nx) (fun q => ⟨ph_in5 lb.1 (by omega), ?_⟩) (ph_rN hp lb.1)⟩⟩⟩) e1
    have kb := hp.2.1 (wp l) (wi l) lb.1 (by omega)
    exact pk_eq (K (wp l) (wi l)) key (fun q2 => absurd ⟨q, q2⟩ (hs l (by omega) (by omega))) (fun _ => nm_r (nI_1 l) nx) (ph_rK hp lb.1 (by omega))
theorem wk_remove {post : St1 → Prop} {num v key v0 : Nat} (h : st_ok a1 a2 a3 a4 a5 rt N K V C fr r T lv lo hi s S lvS loS hiS M MS) (sv : sv_ok a7 a8 a9 s num v) (hk : M key = some v0) (hne : ∃ k w, k ≠ key ∧ M k = some w)
    (H : ∀ rt we wt b1 b2 b3 b4 b5 b6 b12 b13 b14 N K V C fr r T lv lo hi, st_ok b1 b2 b3 b4 b5 rt N K V C fr r T lv lo hi s S lvS loS hiS (tr_up M key none) MS → post (rt, we, wt, b1, b2, b3, b4, b5, b6, a7, a8, a9, a10, a11, b12, b13, b14)) :
    wpX_remove post (rt, we, wt, a1, a2, a3, a4, a5, a6, a7, a8, a9, a10, a11, a12, a13, a14) (nI key) := by
  obtain ⟨hb, n4, nr⟩ := h
  have hb0 := hb
  obtain ⟨p1, p2, p3, p4, p5, p6, p7, p8, p9, p10, p11, p12, p13, p14⟩ := hb
  have k4 := tr_m4 p4 p5 hk
  have hne' : ∃ k w, tr_up M key none k = some w := by
    obtain ⟨k, w, a, b⟩ := hne
    exact ⟨k, w, by rw [tr_upN a]; exact b⟩
  unfold wpX_remove
  refine wk_find p1 p4 k4 p3 (fun m wp wi b12 b13 pt m0 m8 ar w1 w2 => ?_) (fun n wp wi b12 b13 pt n0 n8 ar l0 k1 k2 i1 i2 => ?_)
  · refine wk_long p1 p4 m0 m8 pt ar w1 w2 (fun l0 => ?_) (fun n wp2 wi2 c12 c13 mn n8 pt2 ar2 same rgt l0 lastI hiZ loZ => ?_)
    · -- the key stands in a leaf
      refine wk_way sv m8 ⟨hb0, n4, nr⟩ pt ar (fun rt wt a1 a2 a3 a4 a5 a6 a12 a14 N' K' V' C' fr' r' T' lv' lo' hi' wp' hs' pt' ar' hfr' co => ?_)
      obtain ⟨hb', n4', nr'⟩ := hs'
      obtain ⟨q1, q2, q3, q4, q5, q6, q7, q8, q9, q10, q11, q12, q13, q14⟩ := hb'
      obtain ⟨c1, c2, c3, c4, c5, c6⟩ := co (m - 1) (by omega)
      obtain ⟨tx, lx, ix⟩ := pt'.1 (m - 1) (by omega)
      have xb := q4.2.1 _ tx
      have sx : ¬ S (wp' (m - 1)) := (q8 _ (hfr' (m - 1) (by omega))).2
      have e1 : nI m - 1 = nI (m - 1) := by rw [show m = (m - 1) + 1 by omega, nI_pred]; rfl
      have r1 : a12 (nI m - 1).toNatClampNeg = nI (wp' (m - 1)) := by rw [e1, nI_clamp (by omega)]; exact (ar' (m - 1) (by omega)).1
      have r2 : b13 (nI m - 1).toNatClampNeg = nI (wi (m - 1)) := by rw [e1, nI_clamp (by omega)]; exact (ar' (m - 1) (by omega)).2
      have iN : wi (m - 1) < N' (wp' (m - 1)) := by rw [c1]; exact w1
      have ek : K' (wp' (m - 1)) (wi (m - 1)) = key := by rw [c2]; exact w2
      refine ⟨pk_in (m - 1) 8 (by omega) e1, nm_r r1 ⟨pk_in (m - 1) 8 (by omega) e1, nm_r r2 ⟨1 + (m - 1), ?_⟩⟩⟩
      refine wk_rm41s (f := 1) q1 ar' m8 (show m - 1 + 1 ≤ m by omega) (by omega) (fun j hj => ⟨(q4.2.1 _ (pt'.1 j (by omega)).1).1, (pt'.1 j (by omega)).2.2⟩) ?_ (m - 1) 0 (by omega) (fun j _ hj e => ?_)
      · refine pk_le (m - 1) (m - 1) (fun _ => ?_) (fun z => absurd z (by omega)) e1
        refine wk_close q1 xb.1 iN (fun d2 d3 K1 V1 g1 g2 g3 g4 => nm_r e1 ⟨m - 1 + 1, ?_⟩)
        have A := tr_del (N' := tr_up N' (wp' (m - 1)) (N' (wp' (m - 1)) - 1)) (K' := K1) (V' := V1) (C' := C') q4 q5 tx (by rw [c4]; exact l0) iN (fun e => q12 _ tx (by simpa using e)) tr_upS g3 g4 rfl (fun y _ e => ⟨tr_upN e, (g2 y e).1, (g2 y e).2, rfl⟩)
        rw [ek] at A
        have NS : ∀ y, S y → tr_up N' (wp' (m - 1)) (N' (wp' (m - 1)) - 1) y = N' y ∧ K1 y = K' y ∧ V1 y = V' y := fun y hy => by
          have e : y ≠ wp' (m - 1) := fun e => sx (e ▸ hy)
          exact ⟨tr_upN e, (g2 y e).1, (g2 y e).2⟩
        have lne : ∀ j, j < m - 1 → wp' j ≠ wp' (m - 1) := by
          intro j hj e
          have := (pt'.1 j (by omega)).2.1
          rw [e] at this; omega
        refine wk_rm146 (M := tr_up M key none) (MS := MS) (wp := wp') (wi := wi) sv hne' (fun rt w' b1 b2 b3 b4 b5 b6 b14 N K V C fr r T lv lo hi hst => H _ _ _ _ _ _ _ _ _ _ _ _ _ _ _ _ _ _ _ _ _ _ hst) (m - 1) _ _ _ _ _ _ _ _ _ _ _ _ _ _ _ _ _ _ _ (by omega)
          ⟨g1, q2, q3, A.1, A.2, tr_frame q6 (fun y hy => ⟨(NS y hy).1, (NS y hy).2.1, rfl⟩), tr_mpFrame q7 NS, q8, q9, ct_del q10 key, q11, fun y hy yl => ?_, fun y hy => by rw [(NS y hy).1]; exact q13 y hy, by simp⟩ ⟨⟨fun j hj => ?_, fun _ => pt'.2.1 (by omega), fun j hj => pt'.2.2 j (by omega)⟩, ⟨fun e => ?_, fun e => ?_⟩, tx, lx⟩ (fun j hj => ar' j (by omega)) (fun j hj => hfr' j (by omega)) (fun y hy => ?_) (fun e => ?_)
        · simp at yl
          rw [tr_upN yl.2]; exact q12 y hy (by simpa using yl.1)
        · have f := pt'.1 j (by omega)
          rw [tr_upN (lne j hj)]; exact ⟨f.1, f.2.1, f.2.2⟩
        · rw [show m - 1 = 0 by omega]; exact pt'.2.1 (by omega)
        · have := pt'.2.2 (m - 1 - 1) (by omega)
          rw [show m - 1 - 1 + 1 = m - 1 by omega] at this
          exact this
        · by_cases e : y = wp' (m - 1)
          · rw [e, tr_upS]; have := n4' _ tx; omega
          · rw [tr_upN e]; exact n4' y hy
        · have : r' ≠ wp' (m - 1) := by intro e2; rw [← e2] at lx; omega
          rw [tr_upN this]; exact nr'
      · have := tr_loc q4 (pt'.1 j (by omega)).1 tx e.1 iN (e.2.trans ek.symm)
        have l1 := (pt'.1 j (by omega)).2.1
        rw [this.1] at l1; omega
    · -- it stands above: its predecessor comes up
      refine wk_way sv n8 ⟨hb0, n4, nr⟩ pt2 ar2 (fun rt wt a1 a2 a3 a4 a5 a6 a12 a14 N' K' V' C' fr' r' T' lv' lo' hi' wp' hs' pt' ar' hfr' co => ?_)
      obtain ⟨hb', n4', nr'⟩ := hs'
      obtain ⟨q1, q2, q3, q4, q5, q6, q7, q8, q9, q10, q11, q12, q13, q14⟩ := hb'
      obtain ⟨c1, c2, c3, c4, c5, c6⟩ := co (n - 1) (by omega)
      obtain ⟨d1, d2, d3, d4, d5, d6⟩ := co (m - 1) (by omega)
      obtain ⟨s1, s2⟩ := same (m - 1) (by omega)
      rw [s1] at d1 d2 d3 d4 d5 d6
      obtain ⟨tz, lz, iz⟩ := pt'.1 (n - 1) (by omega)
      obtain ⟨tx, lx, ix⟩ := pt'.1 (m - 1) (by omega)
      rw [s2] at ix
      have zb := q4.2.1 _ tz
      have xb := q4.2.1 _ tx
      have sz : ¬ S (wp' (n - 1)) := (q8 _ (hfr' (n - 1) (by omega))).2
      have sx : ¬ S (wp' (m - 1)) := (q8 _ (hfr' (m - 1) (by omega))).2
      have xz : wp' (m - 1) ≠ wp' (n - 1) := by intro e; rw [e] at lx; omega
      have zr : wp' (n - 1) ≠ r' := by intro e; rw [e] at lz; omega
      have nz2 := q12 _ tz (by simpa using zr)
      have e1 : nI n - 1 = nI (n - 1) := by rw [show n = (n - 1) + 1 by omega, nI_pred]; rfl
      have r1 : a12 (nI n - 1).toNatClampNeg = nI (wp' (n - 1)) := by rw [e1, nI_clamp (by omega)]; exact (ar' (n - 1) (by omega)).1
      have r2 : c13 (nI n - 1).toNatClampNeg = nI (wi2 (n - 1)) := by rw [e1, nI_clamp (by omega)]; exact (ar' (n - 1) (by omega)).2
      have iN : wi (m - 1) < N' (wp' (m - 1)) := by rw [d1]; exact w1
      have ek : K' (wp' (m - 1)) (wi (m - 1)) = key := by rw [d2]; exact w2
      have zi : wi2 (n - 1) + 1 = N' (wp' (n - 1)) := by rw [c1]; exact lastI
      have zK := q1.2.1 (wp' (n - 1)) (wi2 (n - 1)) zb.1 (by omega)
      refine ⟨pk_in (n - 1) 8 (by omega) e1, nm_r r1 ⟨pk_in (n - 1) 8 (by omega) e1, nm_r r2 ⟨1 + (n - 1 - m) + 1 + (m - 1), ?_⟩⟩⟩
      refine wk_rm41s (f := 1 + (n - 1 - m) + 1) q1 ar' n8 (show m - 1 + 1 ≤ n by omega) (by omega) (fun j hj => ⟨(q4.2.1 _ (pt'.1 j (by omega)).1).1, (pt'.1 j (by omega)).2.2⟩) ?_ (m - 1) 0 (by omega) (fun j _ hj e => ?_)
      · -- the level of the key
        have r3 : a12 (nI (m - 1)).toNatClampNeg = nI (wp' (m - 1)) := by rw [nI_clamp (by omega)]; exact (ar' (m - 1) (by omega)).1
        have r4 : c13 (nI (m - 1)).toNatClampNeg = nI (wi (m - 1)) := by rw [nI_clamp (by omega), (ar' (m - 1) (by omega)).2, s2]
        refine pk_le (n - 1) (m - 1) (fun z => absurd z (by omega)) (fun _ => ⟨pk_in (m - 1) 8 (by omega), nm_r r3 ⟨pk_in (m - 1) 8 (by omega), nm_r r4 ⟨pk_in _ 110 xb.1, pk_le (N' (wp' (m - 1))) (wi (m - 1)) (fun z => absurd z (by omega)) (fun _ => ⟨ph_in5 xb.1 (by omega), ?_⟩) (ph_rN q1 xb.1)⟩⟩⟩) e1
        refine br_t (by rw [ph_rK q1 xb.1 (by omega), ek]) ⟨ph_in5 zb.1 (by omega), ph_in5 zb.1 (by omega), ?_⟩
        rw [ph_rK q1 zb.1 (by omega), ph_rV q1 zb.1 (by omega)]
        refine wk_putAt xb.1 (by omega) zK.2.2.1 zK.2.2.2 (nm_r (nI_1 (m - 1)) ?_)
        have g0 := ph_wV (ph_wK q1 xb.1 (show wi (m - 1) < 5 by omega) zK.2.2.1) xb.1 (show wi (m - 1) < 5 by omega) zK.2.2.2
        refine wk_rm41s (f := 1) g0 ar' n8 (show n - 1 + 1 ≤ n by omega) (by omega) (fun j hj => ⟨(q4.2.1 _ (pt'.1 j (by omega)).1).1, (pt'.1 j (by omega)).2.2⟩) ?_ (n - 1 - m) (m - 1 + 1) (by omega) (fun j h7 h8 e => ?_)
        · refine pk_le (n - 1) (n - 1) (fun _ => ?_) (fun z => absurd z (by omega)) e1
          refine wk_close g0 zb.1 (i := wi2 (n - 1)) (by omega) (fun f2 f3 K1 V1 g1 g2 g3 g4 => nm_r e1 ⟨n - 1 + 1, ?_⟩)
          rw [ph_u2N (fun e => xz e.symm)] at g3 g4
          have A := tr_swap (x := wp' (m - 1)) (i := wi (m - 1)) (z := wp' (n - 1)) (n := wi2 (n - 1)) (N' := tr_up N' (wp' (n - 1)) (N' (wp' (n - 1)) - 1)) (K' := K1) (V' := V1) (C' := C') q4 q5 tx (by omega) iN tz (by rw [c4]; exact l0)
            (by
              have : tr_lb K' lo' (wp' (m - 1)) (wi (m - 1)) = tr_lb K lo (wp (m - 1)) (wi (m - 1)) := by unfold tr_lb; rw [d2, d5]
              rw [this, c5]; exact loZ) (by rw [c6, ek]; exact hiZ) zi.symm (by omega) (by rw [tr_upS]; omega) (fun j hj => ⟨g3.1 j hj, g4.1 j hj⟩) rfl (tr_upN xz)
            (by rw [(g2 _ xz).1, (g2 _ xz).2, ph_u2S, ph_u2S]; exact ⟨rfl, rfl⟩) (fun j _ hj => by rw [(g2 _ xz).1, (g2 _ xz).2, ph_u2J hj, ph_u2J hj]; exact ⟨rfl, rfl⟩) rfl
            (fun y _ a b => ⟨tr_upN b, by rw [(g2 y b).1, ph_u2N a], by rw [(g2 y b).2, ph_u2N a], rfl⟩)
          rw [ek] at A
          have NS : ∀ y, S y → tr_up N' (wp' (n - 1)) (N' (wp' (n - 1)) - 1) y = N' y ∧ K1 y = K' y ∧ V1 y = V' y := fun y hy => by
            have e : y ≠ wp' (n - 1) := fun e => sz (e ▸ hy)
            have e' : y ≠ wp' (m - 1) := fun e => sx (e ▸ hy)
            exact ⟨tr_upN e, by rw [(g2 y e).1, ph_u2N e'], by rw [(g2 y e).2, ph_u2N e']⟩
          have lne : ∀ j, j < n - 1 → wp' j ≠ wp' (n - 1) := by
            intro j hj e
            have := (pt'.1 j (by omega)).2.1
            rw [e] at this; omega
          refine wk_rm146 (M := tr_up M key none) (MS := MS) (wp := wp') (wi := wi2) sv hne' (fun rt w' b1 b2 b3 b4 b5 b6 b14 N K V C fr r T lv lo hi hst => H _ _ _ _ _ _ _ _ _ _ _ _ _ _ _ _ _ _ _ _ _ _ hst) (n - 1) _ _ _ _ _ _ _ _ _ _ _ _ _ _ _ _ _ _ _ (by omega)
            ⟨g1, q2, q3, A.1, A.2, tr_frame q6 (fun y hy => ⟨(NS y hy).1, (NS y hy).2.1, rfl⟩), tr_mpFrame q7 NS, q8, q9, ct_del q10 key, q11, fun y hy yl => ?_, fun y hy => by rw [(NS y hy).1]; exact q13 y hy, by simp⟩ ⟨⟨fun j hj => ?_, fun _ => pt'.2.1 (by omega), fun j hj => pt'.2.2 j (by omega)⟩, ⟨fun e => ?_, fun e => ?_⟩, tz, lz⟩ (fun j hj => ar' j (by omega)) (fun j hj => hfr' j (by omega)) (fun y hy => ?_) (fun e => ?_)
          · simp at yl
            rw [tr_upN yl.2]; exact q12 y hy (by simpa using yl.1)
          · have f := pt'.1 j (by omega)
            rw [tr_upN (lne j hj)]; exact ⟨f.1, f.2.1, f.2.2⟩
          · omega
          · have := pt'.2.2 (n - 1 - 1) (by omega)
            rw [show n - 1 - 1 + 1 = n - 1 by omega] at this
            exact this
          · by_cases e : y = wp' (n - 1)
            · rw [e, tr_upS]; have := n4' _ tz; omega
            · rw [tr_upN e]; exact n4' y hy
          · rw [tr_upN (fun e => zr e.symm)]; exact nr'
        · have f := co j (by omega)
          have := rgt j (by omega) (by omega)
          rw [← f.1] at this
          omega
      · have wj := same j (by omega)
        have := tr_loc q4 (pt'.1 j (by omega)).1 tx e.1 iN (e.2.trans ek.symm)
        have l1 := (pt'.1 j (by omega)).2.1
        rw [this.1] at l1; omega
  · exfalso
    obtain ⟨i, hi1, e, _⟩ := tr_leaf p4 p5 (pt.1 (n - 1) (by omega)).1 l0 k1 k2 hk
    rcases Nat.lt_or_ge i (wi (n - 1)) with c | c
    · have := i1 i c; omega
    · have := i2 i c hi1; omega
end
end
section
/-! wb_: rows of kit/laws/BITS.to-paste (a starting text) -/
theorem wb_tb (n : Nat) : (lN n).toBitVec = BitVec.ofNat 64 n := rfl
theorem wb_inj {a b : Int64} (h : a.toBitVec = b.toBitVec) : a = b := Int64.toBitVec_inj.mp h
theorem wb_tn {n : Nat} (h : n < 2 ^ 64) : (lN n).toBitVec.toNat = n := by rw [wb_tb, BitVec.toNat_ofNat, Nat.mod_eq_of_lt h]
theorem wb_of (x : Int64) : ∃ n, n < 2 ^ 64 ∧ x = lN n := ⟨x.toBitVec.toNat, x.toBitVec.isLt, wb_inj (by rw [wb_tb]; simp)⟩
theorem wb_of32 (x : Int32) : ∃ n, n < 2 ^ 32 ∧ x = nI n := ⟨x.toBitVec.toNat, x.toBitVec.isLt, Int32.toBitVec_inj.mp (by show _ = BitVec.ofNat 32 _; simp)⟩
theorem wb_c : ∀ k, k < 64 → ((nI k).toInt64 &&& 63) = lN k := by decide +kernel
theorem wb_cu : ∀ k, k < 64 → ((nI k).toInt64.toUInt64 &&& Int64.toUInt64 63) = UInt64.ofNat k := by decide +kernel
theorem wb_sm : ∀ k, k < 64 → (BitVec.ofNat 64 k).smod 64 = BitVec.ofNat 64 k := by decide +kernel
theorem wb_pw {a b : Nat} (h : a ≤ b) : 2 ^ b = 2 ^ a * 2 ^ (b - a) := by rw [← Nat.pow_add]; congr 1; omega
theorem wb_lt2 {a b : Nat} (h : a < b) : 2 ^ a < 2 ^ b := Nat.pow_lt_pow_right (by decide) h
theorem wb_mod (n : Nat) : lN n = lN (n % 2 ^ 64) := wb_inj (by rw [wb_tb, wb_tb]; apply BitVec.eq_of_toNat_eq; rw [BitVec.toNat_ofNat, BitVec.toNat_ofNat, Nat.mod_mod])
theorem wb_shr {n k : Nat} (hn : n < 2 ^ 64) (hk : k < 64) : ((lN n).toUInt64 >>> ((nI k).toInt64.toUInt64 &&& Int64.toUInt64 63)).toInt64 = lN (n / 2 ^ k) := by
  rw [wb_cu k hk]
  apply wb_inj
  apply BitVec.eq_of_toNat_eq
  show ((lN n).toUInt64 >>> UInt64.ofNat k).toNat = (BitVec.ofNat 64 _).toNat
  have h1 : (UInt64.ofNat k).toNat = k := by
    show (BitVec.ofNat 64 k).toNat = k
    rw [BitVec.toNat_ofNat, Nat.mod_eq_of_lt (by omega)]
  have h2 : (lN n).toUInt64.toNat = n := wb_tn hn
  rw [UInt64.toNat_shiftRight, h1, h2, Nat.mod_eq_of_lt hk, Nat.shiftRight_eq_div_pow, BitVec.toNat_ofNat, Nat.mod_eq_of_lt (Nat.lt_of_le_of_lt (Nat.div_le_self _ _) hn)]
theorem wb_shl (n : Nat) {k : Nat} (hk : k < 64) : lN n <<< ((nI k).toInt64 &&& 63) = lN (n * 2 ^ k) := by
  rw [wb_c k hk]
  apply wb_inj
  rw [Int64.toBitVec_shiftLeft, wb_tb, wb_tb, wb_tb, wb_sm k hk]
  apply BitVec.eq_of_toNat_eq
  rw [BitVec.shiftLeft_eq', BitVec.toNat_shiftLeft, BitVec.toNat_ofNat, BitVec.toNat_ofNat, BitVec.toNat_ofNat, Nat.mod_eq_of_lt (show k < 2 ^ 64 by omega), Nat.shiftLeft_eq, Nat.mul_mod, Nat.mod_mod, ← Nat.mul_mod]
theorem wb_and {a b : Nat} (ha : a < 2 ^ 64) (hb : b < 2 ^ 64) : lN a &&& lN b = lN (a &&& b) := by
  apply wb_inj
  rw [Int64.toBitVec_and, wb_tb, wb_tb, wb_tb]
  apply BitVec.eq_of_toNat_eq
  rw [BitVec.toNat_and, BitVec.toNat_ofNat, BitVec.toNat_ofNat, BitVec.toNat_ofNat, Nat.mod_eq_of_lt ha, Nat.mod_eq_of_lt hb, Nat.mod_eq_of_lt (Nat.and_lt_two_pow _ hb)]
theorem wb_or {a b : Nat} (ha : a < 2 ^ 64) (hb : b < 2 ^ 64) : lN a ||| lN b = lN (a ||| b) := by
  apply wb_inj
  rw [Int64.toBitVec_or, wb_tb, wb_tb, wb_tb]
  apply BitVec.eq_of_toNat_eq
  rw [BitVec.toNat_or, BitVec.toNat_ofNat, BitVec.toNat_ofNat, BitVec.toNat_ofNat, Nat.mod_eq_of_lt ha, Nat.mod_eq_of_lt hb, Nat.mod_eq_of_lt (Nat.or_lt_two_pow ha hb)]
theorem wb_mask {n k : Nat} (hn : n < 2 ^ 64) (hk : k < 64) : lN n &&& lN (2 ^ k - 1) = lN (n % 2 ^ k) := by
  rw [wb_and hn (by have := wb_lt2 hk; omega), Nat.and_two_pow_sub_one_eq_mod]
theorem wb_a1 {n : Nat} (hn : n < 2 ^ 64) : lN n &&& 1 = lN (n % 2) := wb_mask (k := 1) hn (by decide)
theorem wb_bit {n k : Nat} (hn : n < 2 ^ 64) (hk : k < 64) : ((lN n).toUInt64 >>> ((nI k).toInt64.toUInt64 &&& Int64.toUInt64 63)).toInt64 &&& 1 = lN (n / 2 ^ k % 2) := by
  rw [wb_shr hn hk, wb_a1 (Nat.lt_of_le_of_lt (Nat.div_le_self _ _) hn)]
/-! blocksIn, bitsIn -/
def bk_cov (k v p : Nat) : Prop := 128 ≤ k % 256 ∧ v / 16 ≤ p ∧ p < v / 16 + v % 16
def bk_in (M : Nat → Option Nat) (p : Nat) : Prop := ∃ k v, M k = some v ∧ bk_cov k v p
def bk_fit (M : Nat → Option Nat) : Prop := ∀ k v, M k = some v → 128 ≤ k % 256 → v / 16 + v % 16 ≤ 48
theorem bk_mask {v : Nat} (hv : v < 32768) (hf : v / 16 + v % 16 ≤ 48) : ((1 : Int64) <<< ((nI v &&& 15).toInt64 &&& 63) - 1) <<< ((nI v >>> ((4 : Int32) &&& 31)).toInt64 &&& 63) = lN ((2 ^ (v % 16) - 1) * 2 ^ (v / 16)) := by
  have h1 : nI v &&& 15 = nI (v % 16) := pk_andN (m := 15) (by omega) 4 (by decide)
  have h2 : nI v >>> ((4 : Int32) &&& 31) = nI (v / 16) := pk_shrN (by omega) _ 4 (by decide)
  rw [h1, h2, show (1 : Int64) = lN 1 from rfl, wb_shl 1 (by omega), lN_sub (by rw [Nat.one_mul]; exact Nat.one_le_two_pow), wb_shl _ (by omega), Nat.one_mul]
theorem bk_maskLt {n s : Nat} (h : s + n ≤ 48) : (2 ^ n - 1) * 2 ^ s < 2 ^ 48 := by
  have a : 2 ^ n * 2 ^ s ≤ 2 ^ 48 := by rw [← Nat.pow_add]; exact Nat.pow_le_pow_right (by decide) (by omega)
  have b : 0 < 2 ^ s := Nat.two_pow_pos s
  have c : (2 ^ n - 1) * 2 ^ s = 2 ^ n * 2 ^ s - 2 ^ s := by rw [Nat.sub_mul, Nat.one_mul]
  have d : 2 ^ s ≤ 2 ^ n * 2 ^ s := Nat.le_mul_of_pos_left _ (Nat.two_pow_pos n)
  omega
theorem bk_maskBit (n s p : Nat) : ((2 ^ n - 1) * 2 ^ s).testBit p = true ↔ s ≤ p ∧ p < s + n := by
  rw [← Nat.shiftLeft_eq, Nat.testBit_shiftLeft, Nat.testBit_two_pow_sub_one]
  simp
  omega
def bk_cnt (z : Nat) : Nat → Nat
  | 0 => 0
  | n + 1 => bk_cnt z n + z / 2 ^ n % 2
theorem bk_cntLe (z : Nat) : ∀ n, bk_cnt z n ≤ n := by
  intro n
  induction n with
  | zero => exact Nat.le_refl 0
  | succ n ih =>
    show bk_cnt z n + z / 2 ^ n % 2 ≤ n + 1
    have := Nat.mod_lt (z / 2 ^ n) (show 0 < 2 by omega)
    omega
section
variable {rt we wt : Int32} {a1 a2 a3 a4 a5 a6 a7 a8 a9 a10 a11 a12 a13 a14 : Nat → Int32} {N : Nat → Nat} {K V C : Nat → Nat → Nat} {r s : Nat} {T S fr : Nat → Prop} {lv lo hi lvS loS hiS : Nat → Nat} {M MS : Nat → Option Nat} {L : List Nat}
theorem wk_blk23 {post : Int64 → St1 → Prop} {J : Int64 → Int32 → Int32 → Int32 → (Nat → Int32) → (Nat → Int32) → (Nat → Int32) → (Nat → Int32) → (Nat → Int32) → (Nat → Int32) → (Nat → Int32) → (Nat → Int32) → (Nat → Int32) → (Nat → Int32) → (Nat → Int32) → (Nat → Int32) → (Nat → Int32) → (Nat → Int32) → Prop}
    (hp : ph_ok a1 a2 a3 a4 N K V C) {x z : Nat} (hx : x < 110) (hz : z < 2 ^ 48) (hv : ∀ j, j < N x → 128 ≤ K x j % 256 → V x j / 16 + V x j % 16 ≤ 48)
    (H : ∀ z', z' < 2 ^ 48 → (∀ p, z'.testBit p = true ↔ z.testBit p = true ∨ ∃ j, j < N x ∧ bk_cov (K x j) (V x j) p) → J (lN z') rt we wt a1 a2 a3 a4 a5 a6 a7 a8 a9 a10 a11 a12 a13 a14) :
    ∃ n, wX_blocksIn_23 post J (nI x) rt we wt a1 a2 a3 a4 a5 a6 a7 a8 a9 a10 a11 a12 a13 a14 n (lN z) 0 := by
  have n5 := (hp.1 x hx).2
  have p48 : (2 : Nat) ^ 48 < 2 ^ 64 := by decide
  refine pk_loop (fun n i (b : Nat) => wX_blocksIn_23 post J (nI x) rt we wt a1 a2 a3 a4 a5 a6 a7 a8 a9 a10 a11 a12 a13 a14 n (lN b) (nI i)) (fun i b => b < 2 ^ 48 ∧ ∀ p, b.testBit p = true ↔ z.testBit p = true ∨ ∃ j, j < i ∧ bk_cov (K x j) (V x j) p) (N x) 0 z (by omega) ⟨hz, fun p => ⟨Or.inl, fun e => e.elim id (fun ⟨j, hj, _⟩ => absurd hj (by omega))⟩⟩ ?_ ?_
  · intro n b ⟨h1, h2⟩
    exact ⟨pk_in x 110 hx, pk_le (N x) (N x) (fun _ => H b h1 h2) (fun q => absurd q (by omega)) (ph_rN hp hx)⟩
  · intro n i b hi1 ⟨h1, h2⟩ hw
    have kb := hp.2.1 x i hx (by omega)
    refine ⟨pk_in x 110 hx, pk_le (N x) i (fun q => absurd q (by omega)) (fun _ => ⟨ph_in5 hx (by omega), ?_⟩) (ph_rN hp hx)⟩
    refine pk_le 128 (K x i % 256) (fun q => ⟨ph_in5 hx (by omega), nm_r (ph_rV hp hx (by omega)) ?_⟩) (fun q => nm_r (nI_1 i) (hw b ⟨h1, fun p => ?_⟩)) rfl (by rw [ph_rK hp hx (by omega)]; exact pk_andN (m := 255) (by omega) 8 (by decide))
    · have fit := hv i hi1 q
      have ml := bk_maskLt (n := V x i % 16) (s := V x i / 16) fit
      refine nm_r (e' := lN (b ||| (2 ^ (V x i % 16) - 1) * 2 ^ (V x i / 16))) (by rw [bk_mask kb.2.2.2 fit, wb_or (by omega) (by omega)]) (nm_r (nI_1 i) (hw _ ⟨Nat.or_lt_two_pow h1 ml, fun p => ?_⟩))
      rw [Nat.testBit_or, Bool.or_eq_true, h2 p, bk_maskBit]
      constructor
      · rintro ((e | ⟨j, j1, j2⟩) | e)
        · exact Or.inl e
        · exact Or.inr ⟨j, by omega, j2⟩
        · exact Or.inr ⟨i, by omega, q, e.1, e.2⟩
      · rintro (e | ⟨j, j1, j2⟩)
        · exact Or.inl (Or.inl e)
        · by_cases c : j = i
          · subst c; exact Or.inr ⟨j2.2.1, j2.2.2⟩
          · exact Or.inl (Or.inr ⟨j, by omega, j2⟩)
    · rw [h2 p]
      constructor
      · rintro (e | ⟨j, j1, j2⟩)
        · exact Or.inl e
        · exact Or.inr ⟨j, by omega, j2⟩
      · rintro (e | ⟨j, j1, j2⟩)
        · exact Or.inl e
        · by_cases c : j = i
          · subst c; exact absurd j2.1 (by omega)
          · exact Or.inr ⟨j, by omega, j2⟩
theorem wk_blk7 {post : Int64 → St1 → Prop} (hp : ph_ok a1 a2 a3 a4 N K V C) (h : tr_ok N K C r T lv lo hi) (m : tr_mp N K V T M) (hv : bk_fit M)
    (H : ∀ b14 z, z < 2 ^ 48 → (∀ p, z.testBit p = true ↔ bk_in M p) → post (lN z) (rt, we, 0, a1, a2, a3, a4, a5, a6, a7, a8, a9, a10, a11, a12, a13, b14)) :
    ∀ n w a14 stk vis z, wl_st N C T lv r a14 w stk vis → z < 2 ^ 48 → (∀ p, z.testBit p = true ↔ ∃ x j, vis x ∧ j < N x ∧ bk_cov (K x j) (V x j) p) → wl_mu lv stk w < n → wX_blocksIn_7 post n (lN z) rt we (nI w) a1 a2 a3 a4 a5 a6 a7 a8 a9 a10 a11 a12 a13 a14 := by
  intro n
  have r255 : r ≠ 255 := by have := (h.2.1 r h.1.1).1; omega
  induction n with
  | zero => intro w a14 stk vis z _ _ _ q; omega
  | succ n ih =>
    intro w a14 stk vis z hs hz hb hm
    cases w with
    | zero =>
      refine pk_le 0 0 (fun _ => ?_) (fun q => absurd q (by omega))
      have v0 : vis r := by
        rcases hs.2.2.2 with q | ⟨j, j1, _⟩
        · exact q
        · omega
      have v1 : ∀ x, vis x → 0 < lv x → ∀ i, i ≤ N x → vis (C x i) := by
        intro x hx lx i hi1
        rcases hs.2.2.1 x hx lx i hi1 with q | ⟨j, j1, _⟩
        · exact q
        · omega
      have va := fun x hx => tr_all h v0 v1 _ x rfl hx
      refine H a14 z hz (fun p => (hb p).trans ⟨fun ⟨x, j, h1, h2, h3⟩ => ⟨K x j, V x j, m.1 x j (hs.2.1 x h1) h2, h3⟩, fun ⟨k, v, h1, h2⟩ => ?_⟩)
      obtain ⟨x, j, hx, hj, e⟩ := m.2 k v h1
      have e2 := m.1 x j hx hj
      rw [e, h1] at e2
      have e3 := Option.some.inj e2
      exact ⟨x, j, va x hx, hj, by rw [e, ← e3]; exact h2⟩
    | succ w =>
      obtain ⟨p1, p2, p3, p4, p5, p6, p7, p8⟩ := wl_pop (tr_wl h) r255 (fun x hx => (hp.1 x hx).2) hs
      have wb : w + 1 < 2 ^ 31 := by omega
      have fit : ∀ j, j < N (stk w) → 128 ≤ K (stk w) j % 256 → V (stk w) j / 16 + V (stk w) j % 16 ≤ 48 := fun j hj q => hv _ _ (m.1 _ j p1 hj) q
      have nb : ∀ z' : Nat, (∀ p, z'.testBit p = true ↔ z.testBit p = true ∨ ∃ j, j < N (stk w) ∧ bk_cov (K (stk w) j) (V (stk w) j) p) → ∀ p, z'.testBit p = true ↔ ∃ x j, (x = stk w ∨ vis x) ∧ j < N x ∧ bk_cov (K x j) (V x j) p := by
        intro z' e p
        rw [e p, hb p]
        constructor
        · rintro (⟨x, j, a, b, c⟩ | ⟨j, a, b⟩)
          · exact ⟨x, j, Or.inr a, b, c⟩
          · exact ⟨stk w, j, Or.inl rfl, a, b⟩
        · rintro ⟨x, j, a | a, b, c⟩
          · subst a; exact Or.inr ⟨j, b, c⟩
          · exact Or.inl ⟨x, j, a, b, c⟩
      refine pk_le (w + 1) 0 (fun q => absurd q (by omega)) (fun _ => ?_) rfl rfl wb
      refine wk_walk hp p3 p5 (by omega) p4 p6 (fun q => ?_) (fun q b14 b1 b2 => ?_)
      · refine wk_blk23 hp p3 hz fit (fun z' h1 h2 => ?_)
        exact ih w _ stk _ z' (p7 q).1 h1 (nb z' h2) (by have := (p7 q).2; omega)
      · refine wk_blk23 hp p3 hz fit (fun z' h1 h2 => ?_)
        have := p8 q b14 b1 b2
        exact ih _ _ _ _ z' this.1 h1 (nb z' h2) (by omega)
theorem wk_blocks {post : Int64 → St1 → Prop} (hp : ph_ok a1 a2 a3 a4 N K V C) (h : tr_ok N K C r T lv lo hi) (m : tr_mp N K V T M) (hv : bk_fit M)
    (H : ∀ w' b14 z, z < 2 ^ 48 → (∀ p, z.testBit p = true ↔ bk_in M p) → post (lN z) (rt, we, w', a1, a2, a3, a4, a5, a6, a7, a8, a9, a10, a11, a12, a13, b14)) :
    wpX_blocksIn post (rt, we, wt, a1, a2, a3, a4, a5, a6, a7, a8, a9, a10, a11, a12, a13, a14) (nI r) := by
  have r1 := (h.2.1 r h.1.1).1
  unfold wpX_blocksIn
  rw [← ph_s8 (show r < 128 by omega)]
  refine wk_start (fun e => absurd e (by omega)) (fun _ => ?_) (Or.inl r1)
  refine ⟨wl_mu lv (fun _ => r) 1 + 1, ?_⟩
  have l7 := h.1.2.2.2
  refine wk_blk7 hp h m hv (fun b14 z h1 h2 => H _ b14 z h1 h2) _ 1 _ (fun _ => r) (fun _ => False) 0 ⟨fun j hj => ?_, fun x q => q.elim, fun x q => q.elim, Or.inr ⟨0, by omega, rfl⟩⟩ (by decide) (fun p => ?_) (by omega)
  · have : j = 0 := by omega
    subst this
    rw [pk_us]; exact ⟨rfl, h.1.1, by show 0 + 5 * lv r ≤ 35; omega⟩
  · simp
theorem wk_bits {post : Int32 → Prop} {z : Nat} (hz : z < 2 ^ 48) (H : post (nI (bk_cnt z 48))) : wpX_bitsIn post (rt, we, wt, a1, a2, a3, a4, a5, a6, a7, a8, a9, a10, a11, a12, a13, a14) (lN z) := by
  have p48 : (2 : Nat) ^ 48 < 2 ^ 64 := by decide
  refine pk_loop (σ := Unit) (fun n i _ => wX_bitsIn_5 post (lN z) rt we wt a1 a2 a3 a4 a5 a6 a7 a8 a9 a10 a11 a12 a13 a14 n (nI (bk_cnt z i)) (nI i)) (fun _ _ => True) 48 0 () (by omega) trivial ?_ ?_
  · intro n _ _
    exact pk_le 48 48 (fun _ => H) (fun q => absurd q (by omega))
  · intro n i _ hi1 _ hw
    refine pk_le 48 i (fun q => absurd q (by omega)) (fun _ => nm_r (e' := nI (bk_cnt z (i + 1))) ?_ (nm_r (nI_1 i) (hw () trivial)))
    rw [wb_bit (by omega) (by omega), lN_i, nI_add]
    rfl
end
end
section
/-! a state of the object matches an abstract one: M the map, MS the saved map, dk the disk, hd the handles (255: none), num the number of the saving -/
def mt_ok (M MS : Nat → Option Nat) (dk : Nat → Int32) (hd : Nat → Nat) (num : Nat) (u : St1) : Prop := match u with
  | (rt, we, wt, a1, a2, a3, a4, a5, a6, a7, a8, a9, a10, a11, a12, a13, a14) => ∃ N K V C fr r T lv lo hi s S lvS loS hiS v, st_ok a1 a2 a3 a4 a5 rt N K V C fr r T lv lo hi s S lvS loS hiS M MS ∧ sv_ok a7 a8 a9 s num v ∧ a10 = dk ∧ ∀ h, h < 4 → a11 h = pg_I (hd h)
def ge_I (o : Option Nat) : Int32 := match o with
  | none => -1
  | some v => nI v
section
variable {rt we wt : Int32} {a1 a2 a3 a4 a5 a6 a7 a8 a9 a10 a11 a12 a13 a14 : Nat → Int32} {M MS : Nat → Option Nat} {dk : Nat → Int32} {hd : Nat → Nat} {num : Nat} {u : St1}
theorem mt_hd (h : mt_ok M MS dk hd num (rt, we, wt, a1, a2, a3, a4, a5, a6, a7, a8, a9, a10, a11, a12, a13, a14)) {i : Nat} (hi : i < 4) : a11 (nI i).toNatClampNeg = pg_I (hd i) := by
  obtain ⟨N, K, V, C, fr, r, T, lv, lo, hi1, s, S, lvS, loS, hiS, v, h1, h2, h3, h4⟩ := h
  rw [nI_clamp (by omega)]; exact h4 i hi
theorem mt_dk (h : mt_ok M MS dk hd num (rt, we, wt, a1, a2, a3, a4, a5, a6, a7, a8, a9, a10, a11, a12, a13, a14)) : a10 = dk := by
  obtain ⟨N, K, V, C, fr, r, T, lv, lo, hi1, s, S, lvS, loS, hiS, v, h1, h2, h3, h4⟩ := h
  exact h3
theorem mt_bnd (h : mt_ok M MS dk hd num u) {k v : Nat} (hk : M k = some v) : k < 4096 ∧ v < 32768 := by
  obtain ⟨rt, we, wt, a1, a2, a3, a4, a5, a6, a7, a8, a9, a10, a11, a12, a13, a14⟩ := u
  obtain ⟨N, K, V, C, fr, r, T, lv, lo, hi1, s, S, lvS, loS, hiS, v', h1, h2, h3, h4⟩ := h
  obtain ⟨⟨p1, p2, p3, p4, p5, _⟩, n4, _⟩ := h1
  obtain ⟨x, i, hx, hi2, e⟩ := p5.2 k v hk
  have e2 := p5.1 x i hx hi2
  rw [e, hk] at e2
  have x1 := p4.2.1 x hx
  have := p1.2.1 x i x1.1 (by omega)
  have e3 := Option.some.inj e2
  exact ⟨tr_m4 p4 p5 hk, by omega⟩
theorem mt_get {post : Int32 → St1 → Prop} {k : Nat} (h : mt_ok M MS dk hd num u) (hk : k < 4096) (H : ∀ u', mt_ok M MS dk hd num u' → post (ge_I (M k)) u') : wpX_get post u (nI k) := by
  obtain ⟨rt, we, wt, a1, a2, a3, a4, a5, a6, a7, a8, a9, a10, a11, a12, a13, a14⟩ := u
  obtain ⟨N, K, V, C, fr, r, T, lv, lo, hi1, s, S, lvS, loS, hiS, v, h1, h2, h3, h4⟩ := h
  have hst := h1
  obtain ⟨⟨p1, p2, p3, p4, p5, _⟩, n4, _⟩ := h1
  unfold wpX_get
  refine wk_find p1 p4 hk p3 (fun n wp wi b12 b13 pt n0 n8 ar w1 w2 => ?_) (fun n wp wi b12 b13 pt n0 n8 ar l0 k1 k2 i1 i2 => ?_)
  · have e1 : nI n - 1 = nI (n - 1) := by rw [show n = (n - 1) + 1 by omega, nI_pred]; rfl
    have r1 : b12 (nI n - 1).toNatClampNeg = nI (wp (n - 1)) := by rw [e1, nI_clamp (by omega)]; exact (ar (n - 1) (by omega)).1
    have r2 : b13 (nI n - 1).toNatClampNeg = nI (wi (n - 1)) := by rw [e1, nI_clamp (by omega)]; exact (ar (n - 1) (by omega)).2
    have tx := (pt.1 (n - 1) (by omega)).1
    have xb := p4.2.1 _ tx
    refine br_f (by decide) ⟨pk_in (n - 1) 8 (by omega) e1, pk_in (n - 1) 8 (by omega) e1, ?_⟩
    rw [r1, r2]
    refine ⟨ph_in5 xb.1 (by omega), ?_⟩
    rw [ph_rV p1 xb.1 (by omega)]
    have e2 := p5.1 _ _ tx w1
    rw [w2] at e2
    have := H (rt, nI n, wt, a1, a2, a3, a4, a5, a6, a7, a8, a9, a10, a11, b12, b13, a14) ⟨N, K, V, C, fr, r, T, lv, lo, hi1, s, S, lvS, loS, hiS, v, hst, h2, h3, h4⟩
    rw [e2] at this
    exact this
  · have e2 : M k = none := by
      cases e : M k with
      | none => rfl
      | some w =>
        obtain ⟨i, hi2, e3, _⟩ := tr_leaf p4 p5 (pt.1 (n - 1) (by omega)).1 l0 k1 k2 e
        rcases Nat.lt_or_ge i (wi (n - 1)) with c | c
        · have := i1 i c; omega
        · have := i2 i c hi2; omega
    have := H (rt, nI n, wt, a1, a2, a3, a4, a5, a6, a7, a8, a9, a10, a11, b12, b13, a14) ⟨N, K, V, C, fr, r, T, lv, lo, hi1, s, S, lvS, loS, hiS, v, hst, h2, h3, h4⟩
    rw [e2] at this
    exact br_t rfl this
theorem mt_put {post : St1 → Prop} {k w : Nat} (h : mt_ok M MS dk hd num u) (c84 : ct_cd M 84) (hk : k < 4096) (hw : w < 32768) (H : ∀ u', mt_ok (tr_up M k (some w)) MS dk hd num u' → post u') : wpX_put post u (nI k) (nI w) := by
  obtain ⟨rt, we, wt, a1, a2, a3, a4, a5, a6, a7, a8, a9, a10, a11, a12, a13, a14⟩ := u
  obtain ⟨N, K, V, C, fr, r, T, lv, lo, hi1, s, S, lvS, loS, hiS, v, h1, h2, h3, h4⟩ := h
  exact wk_put h1 c84 h2 hk hw (fun rt we wt b1 b2 b3 b4 b5 b6 b12 b13 b14 N K V C fr r T lv lo hi hst => H _ ⟨N, K, V, C, fr, r, T, lv, lo, hi, s, S, lvS, loS, hiS, v, hst, h2, h3, h4⟩)
theorem mt_rem {post : St1 → Prop} {k w : Nat} (h : mt_ok M MS dk hd num u) (hk : M k = some w) (hne : ∃ k' w', k' ≠ k ∧ M k' = some w') (H : ∀ u', mt_ok (tr_up M k none) MS dk hd num u' → post u') : wpX_remove post u (nI k) := by
  obtain ⟨rt, we, wt, a1, a2, a3, a4, a5, a6, a7, a8, a9, a10, a11, a12, a13, a14⟩ := u
  obtain ⟨N, K, V, C, fr, r, T, lv, lo, hi1, s, S, lvS, loS, hiS, v, h1, h2, h3, h4⟩ := h
  exact wk_remove h1 h2 hk hne (fun rt we wt b1 b2 b3 b4 b5 b6 b12 b13 b14 N K V C fr r T lv lo hi hst => H _ ⟨N, K, V, C, fr, r, T, lv, lo, hi, s, S, lvS, loS, hiS, v, hst, h2, h3, h4⟩)
theorem mt_next {post : Int32 → Prop} {k : Nat} (h : mt_ok M MS dk hd num u) (hk : k < 4096) (HN : (∀ k' v, M k' = some v → k' ≤ k) → post (-1)) (HS : ∀ q v, M q = some v → k < q → q < 4096 → (∀ k' w, M k' = some w → k < k' → q ≤ k') → post (nI q)) : wpX_nextKey post u (nI k) := by
  obtain ⟨rt, we, wt, a1, a2, a3, a4, a5, a6, a7, a8, a9, a10, a11, a12, a13, a14⟩ := u
  obtain ⟨N, K, V, C, fr, r, T, lv, lo, hi1, s, S, lvS, loS, hiS, v, h1, h2, h3, h4⟩ := h
  obtain ⟨⟨p1, p2, p3, p4, p5, _⟩, n4, _⟩ := h1
  exact wk_next p1 p4 p5 hk p3 HN HS
theorem mt_last {post : Int32 → Prop} {k : Nat} (h : mt_ok M MS dk hd num u) (hk : k < 4096) (HN : (∀ k' v, M k' = some v → k < k') → post (-1)) (HS : ∀ q v, M q = some v → q ≤ k → (∀ k' w, M k' = some w → k' ≤ k → k' ≤ q) → post (nI q)) : wpX_lastKey post u (nI k) := by
  obtain ⟨rt, we, wt, a1, a2, a3, a4, a5, a6, a7, a8, a9, a10, a11, a12, a13, a14⟩ := u
  obtain ⟨N, K, V, C, fr, r, T, lv, lo, hi1, s, S, lvS, loS, hiS, v, h1, h2, h3, h4⟩ := h
  obtain ⟨⟨p1, p2, p3, p4, p5, _⟩, n4, _⟩ := h1
  exact wk_last p1 p4 p5 hk p3 HN HS
/-- other handles -/
theorem mt_setHd (h : mt_ok M MS dk hd num (rt, we, wt, a1, a2, a3, a4, a5, a6, a7, a8, a9, a10, a11, a12, a13, a14)) {i n : Nat} {x : Int32} (hi : i < 4) (hx : x = pg_I n) : mt_ok M MS dk (tr_up hd i n) num (rt, we, wt, a1, a2, a3, a4, a5, a6, a7, a8, a9, a10, upd a11 i x, a12, a13, a14) := by
  obtain ⟨N, K, V, C, fr, r, T, lv, lo, hi1, s, S, lvS, loS, hiS, v, h1, h2, h3, h4⟩ := h
  refine ⟨N, K, V, C, fr, r, T, lv, lo, hi1, s, S, lvS, loS, hiS, v, h1, h2, h3, fun j hj => ?_⟩
  by_cases e : j = i
  · subst e; rw [pk_us, tr_upS]; exact hx
  · rw [pk_un e, tr_upN e]; exact h4 j hj
/-- another disk -/
theorem mt_setDk (h : mt_ok M MS dk hd num (rt, we, wt, a1, a2, a3, a4, a5, a6, a7, a8, a9, a10, a11, a12, a13, a14)) {d' : Nat → Int32} : mt_ok M MS d' hd num (rt, we, wt, a1, a2, a3, a4, a5, a6, a7, a8, a9, d', a11, a12, a13, a14) := by
  obtain ⟨N, K, V, C, fr, r, T, lv, lo, hi1, s, S, lvS, loS, hiS, v, h1, h2, h3, h4⟩ := h
  exact ⟨N, K, V, C, fr, r, T, lv, lo, hi1, s, S, lvS, loS, hiS, v, h1, h2, rfl, h4⟩
theorem mt_isH {post : Int32 → Prop} {x : Int32} (u : St1) (h0 : (∀ i : Nat, i < 4 → x ≠ nI i) → post 0) (h1 : ∀ i : Nat, i < 4 → x = nI i → post 1) : wpX_isHandle post u x := by
  obtain ⟨rt, we, wt, a1, a2, a3, a4, a5, a6, a7, a8, a9, a10, a11, a12, a13, a14⟩ := u
  by_cases c : x < 0
  · refine br_t c (h0 (fun i hi e => ?_))
    rw [e] at c
    exact nI_pos (by omega) c
  · refine br_f c ?_
    obtain ⟨j, j1, j2⟩ := nI_of c
    subst j2
    refine pk_lt 3 j (fun z => h0 (fun i hi e => ?_)) (fun z => h1 j (by omega) rfl)
    have := (nI_eq j1 (show i < 2 ^ 31 by omega)).mp e
    omega
theorem mt_isN {post : Int32 → Prop} {n : Nat} (u : St1) (hn : n ≤ 99) (h1 : post 1) : wpX_isName post u (nI n) := by
  obtain ⟨rt, we, wt, a1, a2, a3, a4, a5, a6, a7, a8, a9, a10, a11, a12, a13, a14⟩ := u
  exact br_f (nI_pos (by omega)) (pk_lt 99 n (fun z => absurd z (by omega)) (fun _ => h1))
end
end
section
/-! the file system in a map -/
def fs_ok (M : Nat → Option Nat) : Prop :=
  M 0 = some 1 ∧
  (∀ k v, M k = some v → k < 4096 ∧ (k % 256 ≤ 6 ∨ (128 ≤ k % 256 ∧ k % 256 ≤ 135))) ∧
  (∀ n v, M (256 * n) = some v → (v % 4 = 1 ∨ v % 4 = 2) ∧ v / 4 < 16 ∧ (n ≠ 0 → ∃ a, a < 6 ∧ M (256 * (v / 4) + 1 + a) = some n)) ∧
  (∀ n a v, a < 6 → M (256 * n + 1 + a) = some v → 1 ≤ v ∧ v < 16 ∧ (∃ w, M (256 * n) = some w ∧ w % 4 = 1) ∧ (∃ w, M (256 * v) = some w ∧ w / 4 = n)) ∧
  (∀ n a n' a' v, a < 6 → a' < 6 → M (256 * n + 1 + a) = some v → M (256 * n' + 1 + a') = some v → n = n' ∧ a = a') ∧
  (∃ rk : Nat → Nat, ∀ n v, n ≠ 0 → M (256 * n) = some v → rk (v / 4) < rk n) ∧
  (∀ k v, M k = some v → 128 ≤ k % 256 → (∃ w, M (256 * (k / 256)) = some w ∧ w % 4 = 2) ∧ 1 ≤ v % 16 ∧ k % 256 + v % 16 ≤ 136 ∧ v / 16 + v % 16 ≤ 48) ∧
  (∀ k k' v v', M k = some v → M k' = some v' → 128 ≤ k % 256 → 128 ≤ k' % 256 → k < k' → k + v % 16 ≤ k' ∧ (v / 16 + v % 16 ≤ v' / 16 ∨ v' / 16 + v' % 16 ≤ v / 16))
def hd_ok (M : Nat → Option Nat) (hd : Nat → Nat) : Prop := hd 0 = 0 ∧ ∀ h, h < 4 → hd h = 255 ∨ (hd h < 16 ∧ ∃ w, M (256 * hd h) = some w)
theorem fs_key {M : Nat → Option Nat} (h : fs_ok M) {k v : Nat} (hk : M k = some v) : (∃ n, n < 16 ∧ k = 256 * n) ∨ (∃ n a, n < 16 ∧ a < 6 ∧ k = 256 * n + 1 + a) ∨ 128 ≤ k % 256 := by
  obtain ⟨k1, k2⟩ := h.2.1 k v hk
  rcases k2 with k2 | k2
  · by_cases e : k % 256 = 0
    · exact Or.inl ⟨k / 256, by omega, by omega⟩
    · exact Or.inr (Or.inl ⟨k / 256, k % 256 - 1, by omega, by omega, by omega⟩)
  · exact Or.inr (Or.inr k2.1)
theorem fs_fit {M : Nat → Option Nat} (h : fs_ok M) : bk_fit M := fun k v hk hm => (h.2.2.2.2.2.2.1 k v hk hm).2.2.2
theorem fs_cd {M : Nat → Option Nat} (h : fs_ok M) : ct_cd M 80 := by
  have hh := h
  obtain ⟨f1, f2, f3, f4, f5, f6, f7, f8⟩ := h
  refine ⟨fun k => if k % 256 = 0 then k / 256 else if k % 256 < 128 then 16 + (M k).getD 0 else 32 + (M k).getD 0 / 16, fun k v hk => ?_, fun k k' v v' hk hk' e => ?_⟩
  · show (if k % 256 = 0 then k / 256 else if k % 256 < 128 then 16 + (M k).getD 0 else 32 + (M k).getD 0 / 16) < 80
    rw [hk, Option.getD_some]
    rcases fs_key hh hk with ⟨n, n1, n2⟩ | ⟨n, a, n1, n2, n3⟩ | n1
    · rw [if_pos (by omega)]; omega
    · rw [if_neg (by omega), if_pos (by omega)]
      rw [n3] at hk
      have := f4 n a v n2 hk
      omega
    · rw [if_neg (by omega), if_neg (by omega)]
      have := (f7 k v hk n1).2
      omega
  · have e : (if k % 256 = 0 then k / 256 else if k % 256 < 128 then 16 + (M k).getD 0 else 32 + (M k).getD 0 / 16) = (if k' % 256 = 0 then k' / 256 else if k' % 256 < 128 then 16 + (M k').getD 0 else 32 + (M k').getD 0 / 16) := e
    rw [hk, hk', Option.getD_some, Option.getD_some] at e
    rcases fs_key hh hk with ⟨n, n1, n2⟩ | ⟨n, a, n1, n2, n3⟩ | n1
    · rw [if_pos (by omega)] at e
      rcases fs_key hh hk' with ⟨m, m1, m2⟩ | ⟨m, b, m1, m2, m3⟩ | m1
      · rw [if_pos (by omega)] at e; omega
      · rw [if_neg (by omega), if_pos (by omega)] at e; omega
      · rw [if_neg (by omega), if_neg (by omega)] at e; omega
    · rw [if_neg (by omega), if_pos (by omega)] at e
      have q := f4 n a v n2 (by rw [← n3]; exact hk)
      rcases fs_key hh hk' with ⟨m, m1, m2⟩ | ⟨m, b, m1, m2, m3⟩ | m1
      · rw [if_pos (by omega)] at e; omega
      · rw [if_neg (by omega), if_pos (by omega)] at e
        have ev : v = v' := by omega
        subst ev
        have := f5 n a m b v n2 m2 (by rw [← n3]; exact hk) (by rw [← m3]; exact hk')
        omega
      · rw [if_neg (by omega), if_neg (by omega)] at e; omega
    · rw [if_neg (by omega), if_neg (by omega)] at e
      rcases fs_key hh hk' with ⟨m, m1, m2⟩ | ⟨m, b, m1, m2, m3⟩ | m1
      · rw [if_pos (by omega)] at e; omega
      · rw [if_neg (by omega), if_pos (by omega)] at e
        have := f4 m b v' m2 (by rw [← m3]; exact hk')
        omega
      · rw [if_neg (by omega), if_neg (by omega)] at e
        have l1 := (f7 k v hk n1).2.1
        have l2 := (f7 k' v' hk' m1).2.1
        rcases Nat.lt_trichotomy k k' with c | c | c
        · have := (f8 k k' v v' hk hk' n1 m1 c).2; omega
        · exact c
        · have := (f8 k' k v' v hk' hk m1 n1 c).2; omega
/-! questions -/
theorem ph_256 (n : Nat) : 256 * nI n = nI (256 * n) := by rw [show (256 : Int32) = nI 256 from rfl, pk_mul]
theorem ph_ent (n a : Nat) : 256 * nI n + 1 + nI a = nI (256 * n + 1 + a) := by rw [ph_256, nI_1, nI_add]
theorem ph_str (n b : Nat) : 256 * nI n + 128 + nI b = nI (256 * n + 128 + b) := by rw [ph_256, show (128 : Int32) = nI 128 from rfl, nI_add, nI_add]
theorem ph_and3 {v : Nat} (h : v < 32768) : nI v &&& 3 = nI (v % 4) := pk_andN (m := 3) (by omega) 2 (by decide)
section
variable {rt we wt : Int32} {a1 a2 a3 a4 a5 a6 a7 a8 a9 a10 a11 a12 a13 a14 : Nat → Int32} {M MS : Nat → Option Nat} {dk : Nat → Int32} {hd : Nat → Nat} {num : Nat} {u : St1}
theorem mt_sort {post : Int32 → St1 → Prop} {n w : Nat} (h : mt_ok M MS dk hd num u) (hn : n < 16) (hw : M (256 * n) = some w) (H : ∀ u', mt_ok M MS dk hd num u' → post (nI (w % 4)) u') : wpX_sortOf post u (nI n) := by
  have wb := (mt_bnd h hw).2
  obtain ⟨rt, we, wt, a1, a2, a3, a4, a5, a6, a7, a8, a9, a10, a11, a12, a13, a14⟩ := u
  unfold wpX_sortOf
  rw [ph_256]
  refine mt_get h (by omega) (fun u' hu' => ?_)
  obtain ⟨rt, we, wt, a1, a2, a3, a4, a5, a6, a7, a8, a9, a10, a11, a12, a13, a14⟩ := u'
  have := H _ hu'
  rw [hw]
  show post (nI w &&& 3) _
  rw [ph_and3 wb]; exact this
theorem hd_neg {c : Nat} (h : c = 255) : ¬ (0 : Int32) ≤ pg_I c := by rw [h, ph_255]; decide
theorem hd_pos {c : Nat} (h : c < 16) : (0 : Int32) ≤ pg_I c := by rw [ph_s8 (by omega)]; exact nI_pos' (by omega)
theorem hd_neg' {c : Nat} (h : c = 255) : pg_I c < (0 : Int32) := by rw [h, ph_255]; decide
theorem hd_pos' {c : Nat} (h : c < 16) : ¬ pg_I c < (0 : Int32) := by rw [ph_s8 (by omega)]; exact nI_pos (by omega)
theorem mt_dirF {post : Int32 → St1 → Prop} {d : Nat} (h : mt_ok M MS dk hd num u) (hh : hd_ok M hd) (hd4 : d < 4) (H0 : hd d = 255 → post (-3) u)
    (H1 : ∀ w u', hd d < 16 → M (256 * hd d) = some w → w % 4 = 2 → mt_ok M MS dk hd num u' → post (-4) u') (H2 : ∀ w u', hd d < 16 → M (256 * hd d) = some w → w % 4 ≠ 2 → mt_ok M MS dk hd num u' → post 0 u') : wpX_directoryFault post u (nI d) := by
  obtain ⟨rt, we, wt, a1, a2, a3, a4, a5, a6, a7, a8, a9, a10, a11, a12, a13, a14⟩ := u
  refine ⟨pk_in d 4 hd4, ?_⟩
  rw [mt_hd h hd4]
  rcases hh.2 d hd4 with e | ⟨e, w, hw⟩
  · exact br_f (hd_neg e) (H0 e)
  · refine br_t (hd_pos e) ⟨pk_in d 4 hd4, ?_⟩
    rw [ph_s8 (by omega)]
    refine mt_sort h e hw (fun u' hu' => ?_)
    obtain ⟨rt, we, wt, a1, a2, a3, a4, a5, a6, a7, a8, a9, a10, a11, a12, a13, a14⟩ := u'
    exact pk_eq (w % 4) 2 (fun z => H1 w _ e hw z hu') (fun z => H2 w _ e hw z hu')
theorem mt_filF {post : Int32 → St1 → Prop} {d : Nat} (h : mt_ok M MS dk hd num u) (hh : hd_ok M hd) (hd4 : d < 4) (H0 : hd d = 255 → post (-3) u)
    (H1 : ∀ w u', hd d < 16 → M (256 * hd d) = some w → w % 4 = 1 → mt_ok M MS dk hd num u' → post (-4) u') (H2 : ∀ w u', hd d < 16 → M (256 * hd d) = some w → w % 4 ≠ 1 → mt_ok M MS dk hd num u' → post 0 u') : wpX_fileFault post u (nI d) := by
  obtain ⟨rt, we, wt, a1, a2, a3, a4, a5, a6, a7, a8, a9, a10, a11, a12, a13, a14⟩ := u
  refine ⟨pk_in d 4 hd4, ?_⟩
  rw [mt_hd h hd4]
  rcases hh.2 d hd4 with e | ⟨e, w, hw⟩
  · exact br_f (hd_neg e) (H0 e)
  · refine br_t (hd_pos e) ⟨pk_in d 4 hd4, ?_⟩
    rw [ph_s8 (by omega)]
    refine mt_sort h e hw (fun u' hu' => ?_)
    obtain ⟨rt, we, wt, a1, a2, a3, a4, a5, a6, a7, a8, a9, a10, a11, a12, a13, a14⟩ := u'
    exact pk_eq (w % 4) 1 (fun z => H1 w _ e hw z hu') (fun z => H2 w _ e hw z hu')
end
end
section
/-! what nextKey, stretchAt, placeOf answer, as facts of the map -/
def nx_is (M : Nat → Option Nat) (k : Nat) (o : Option Nat) : Prop :=
  (o = none ∧ ∀ k' v, M k' = some v → k' ≤ k) ∨ (∃ q v, o = some q ∧ M q = some v ∧ k < q ∧ ∀ k' w, M k' = some w → k < k' → q ≤ k')
theorem nx_ex (M : Nat → Option Nat) (k : Nat) : ∃ o, nx_is M k o := by
  by_cases h : ∃ q, ∃ v, M q = some v ∧ k < q
  · obtain ⟨q, ⟨v, h1, h2⟩, h3⟩ := pk_least (fun q => ∃ v, M q = some v ∧ k < q) h
    refine ⟨some q, Or.inr ⟨q, v, rfl, h1, h2, fun k' w a b => ?_⟩⟩
    rcases Nat.lt_or_ge k' q with c | c
    · exact absurd ⟨w, a, b⟩ (h3 k' c)
    · exact c
  · refine ⟨none, Or.inl ⟨rfl, fun k' v e => ?_⟩⟩
    rcases Nat.lt_or_ge k k' with c | c
    · exact absurd ⟨k', v, e, c⟩ h
    · exact c
def sa_is (M : Nat → Option Nat) (n b : Nat) (o : Option Nat) : Prop :=
  (o = none ∧ ∀ k v, M k = some v → 256 * n + 128 ≤ k → ¬ k ≤ 256 * n + 128 + b) ∨
  (∃ q v, o = some q ∧ M q = some v ∧ 256 * n + 128 ≤ q ∧ q ≤ 256 * n + 128 + b ∧ ∀ k w, M k = some w → k ≤ 256 * n + 128 + b → k ≤ q)
def pl_is (M : Nat → Option Nat) (n b : Nat) (o : Option Nat) : Prop :=
  (o = none ∧ ∀ k v, M k = some v → 256 * n + 128 ≤ k → k ≤ 256 * n + 128 + b → k + v % 16 ≤ 256 * n + 128 + b) ∨
  (∃ k v, M k = some v ∧ 256 * n + 128 ≤ k ∧ k ≤ 256 * n + 128 + b ∧ 256 * n + 128 + b < k + v % 16 ∧ o = some (v / 16 + (256 * n + 128 + b - k)))
theorem pl_ex (M : Nat → Option Nat) (n b : Nat) : ∃ o, pl_is M n b o := by
  by_cases h : ∃ k v, M k = some v ∧ 256 * n + 128 ≤ k ∧ k ≤ 256 * n + 128 + b ∧ 256 * n + 128 + b < k + v % 16
  · obtain ⟨k, v, h1, h2, h3, h4⟩ := h
    exact ⟨_, Or.inr ⟨k, v, h1, h2, h3, h4, rfl⟩⟩
  · refine ⟨none, Or.inl ⟨rfl, fun k v a b c => ?_⟩⟩
    rcases Nat.lt_or_ge (256 * n + 128 + _) (k + v % 16) with d | d
    · exact absurd ⟨k, v, a, b, c, d⟩ h
    · exact d
/-- a covering stretch is the one that stretchAt finds -/
theorem fs_cov {M : Nat → Option Nat} (h : fs_ok M) {n b k v : Nat} (hb : b < 8) (a : M k = some v) (c : 256 * n + 128 ≤ k) (d : k ≤ 256 * n + 128 + b) (e : 256 * n + 128 + b < k + v % 16) :
    ∀ k' w, M k' = some w → k' ≤ 256 * n + 128 + b → k' ≤ k := by
  intro k' w hk hl
  rcases Nat.lt_or_ge k k' with q | q
  · have := (h.2.2.2.2.2.2.2 k k' v w a hk (by omega) (by omega) q).1
    omega
  · exact q
section
variable {rt we wt : Int32} {a1 a2 a3 a4 a5 a6 a7 a8 a9 a10 a11 a12 a13 a14 : Nat → Int32} {M MS : Nat → Option Nat} {dk : Nat → Int32} {hd : Nat → Nat} {num : Nat} {u : St1}
theorem mt_nx {post : Int32 → Prop} {k : Nat} {o : Option Nat} (h : mt_ok M MS dk hd num u) (hk : k < 4096) (ho : nx_is M k o) (H : post (ge_I o)) : wpX_nextKey post u (nI k) := by
  refine mt_next h hk (fun e => ?_) (fun q v a b c d => ?_)
  · rcases ho with ⟨o1, _⟩ | ⟨q, v, _, o2, o3, _⟩
    · rw [o1] at H; exact H
    · have := e q v o2; omega
  · rcases ho with ⟨_, o1⟩ | ⟨q', v', o1, o2, o3, o4⟩
    · have := o1 q v a; omega
    · have h1 := o4 q v a b
      have h2 := d q' v' o2 o3
      have : q' = q := by omega
      subst this
      rw [o1] at H; exact H
theorem mt_sa {post : Int32 → Prop} {n b : Nat} {o : Option Nat} (h : mt_ok M MS dk hd num u) (hn : n < 16) (hb : b < 8) (ho : sa_is M n b o) (H : post (ge_I o)) : wpX_stretchAt post u (nI n) (nI b) := by
  obtain ⟨rt, we, wt, a1, a2, a3, a4, a5, a6, a7, a8, a9, a10, a11, a12, a13, a14⟩ := u
  unfold wpX_stretchAt
  have e1 : 256 * nI n + 128 = nI (256 * n + 128) := by rw [ph_256, show (128 : Int32) = nI 128 from rfl, nI_add]
  rw [ph_str]
  refine mt_last h (by omega) (fun e => ?_) (fun q v a b' d => ?_)
  · refine br_t ?_ ?_
    · rw [e1]
      exact Int32.lt_iff_toInt_lt.mpr (by rw [nI_toInt (by omega), show (-1 : Int32).toInt = -1 from by decide]; omega)
    · rcases ho with ⟨o1, _⟩ | ⟨q, v, _, o2, _, o3, _⟩
      · rw [o1] at H; exact H
      · have := e q v o2; omega
  · have q4 := (mt_bnd h a).1
    refine pk_lt q (256 * n + 128) (fun z => ?_) (fun z => ?_) rfl e1
    · rcases ho with ⟨o1, _⟩ | ⟨q', v', _, o2, o3, o4, _⟩
      · rw [o1] at H; exact H
      · have := d q' v' o2 o4; omega
    · rcases ho with ⟨_, o1⟩ | ⟨q', v', o1, o2, o3, o4, o5⟩
      · exact absurd b' (o1 q v a z)
      · have h1 := o5 q v a b'
        have h2 := d q' v' o2 o4
        have : q' = q := by omega
        subst this
        rw [o1] at H; exact H
theorem sa_ex (M : Nat → Option Nat) (n b : Nat) (hb : ∀ k v, M k = some v → 256 * n + 128 ≤ k → True) : ∃ o, sa_is M n b o := by
  by_cases h : ∃ d, d ≤ b ∧ ∃ v, M (256 * n + 128 + (b - d)) = some v
  · obtain ⟨d, ⟨h1, v, h2⟩, h3⟩ := pk_least (fun d => d ≤ b ∧ ∃ v, M (256 * n + 128 + (b - d)) = some v) h
    refine ⟨some _, Or.inr ⟨_, v, rfl, h2, by omega, by omega, fun k w a c => ?_⟩⟩
    rcases Nat.lt_or_ge (256 * n + 128 + (b - d)) k with e | e
    · refine absurd ⟨by omega, w, ?_⟩ (h3 (256 * n + 128 + b - k) (by omega))
      rw [show 256 * n + 128 + (b - (256 * n + 128 + b - k)) = k by omega]; exact a
    · exact e
  · refine ⟨none, Or.inl ⟨rfl, fun k v a c d => h ⟨256 * n + 128 + b - k, by omega, v, ?_⟩⟩⟩
    rw [show 256 * n + 128 + (b - (256 * n + 128 + b - k)) = k by omega]; exact a
theorem ph_and15 {v : Nat} (h : v < 32768) : nI v &&& 15 = nI (v % 16) := pk_andN (m := 15) (by omega) 4 (by decide)
theorem ph_shr4 {v : Nat} (h : v < 32768) : nI v >>> ((4 : Int32) &&& 31) = nI (v / 16) := pk_shrN (by omega) _ 4 (by decide)
theorem mt_pl {post : Int32 → St1 → Prop} {n b : Nat} {o : Option Nat} (h : mt_ok M MS dk hd num u) (hf : fs_ok M) (hn : n < 16) (hb : b < 8) (ho : pl_is M n b o) (H : ∀ u', mt_ok M MS dk hd num u' → post (ge_I o) u') : wpX_placeOf post u (nI n) (nI b) := by
  obtain ⟨so, hso⟩ := sa_ex M n b (fun _ _ _ _ => trivial)
  have hu := h
  obtain ⟨rt, we, wt, a1, a2, a3, a4, a5, a6, a7, a8, a9, a10, a11, a12, a13, a14⟩ := u
  unfold wpX_placeOf
  refine mt_sa h hn hb hso ?_
  rcases hso with ⟨s1, s2⟩ | ⟨q, v, s1, s2, s3, s4, s5⟩
  · rw [s1]
    refine br_f (by decide) ?_
    have : o = none := by
      rcases ho with ⟨o1, _⟩ | ⟨k, v, o1, o2, o3, _, _⟩
      · exact o1
      · exact absurd o3 (s2 k v o1 o2)
    rw [this] at H
    exact H _ hu
  · rw [s1]
    have qb := mt_bnd h s2
    refine br_t (nI_pos' (by omega)) ?_
    refine mt_get h (by omega) (fun u' hu' => ?_)
    obtain ⟨rt, we, wt, a1, a2, a3, a4, a5, a6, a7, a8, a9, a10, a11, a12, a13, a14⟩ := u'
    rw [s2]
    refine nm_r (e' := nI (256 * n + 128 + b - q)) (by rw [ph_str]; exact pk_sub (by omega)) ?_
    refine pk_le (v % 16) (256 * n + 128 + b - q) (fun z => ?_) (fun z => ?_) (ph_and15 qb.2)
    · have : o = none := by
        rcases ho with ⟨o1, _⟩ | ⟨k, w, o1, o2, o3, o4, _⟩
        · exact o1
        · have h1 := s5 k w o1 o3
          have h2 := fs_cov hf hb o1 o2 o3 o4 q v s2 s4
          have : k = q := by omega
          subst this
          rw [s2] at o1
          have := Option.some.inj o1
          subst this
          omega
      rw [this] at H
      exact H _ hu'
    · have : o = some (v / 16 + (256 * n + 128 + b - q)) := by
        rcases ho with ⟨_, o1⟩ | ⟨k, w, o1, o2, o3, o4, o5⟩
        · have := o1 q v s2 s3 s4; omega
        · have h1 := s5 k w o1 o3
          have h2 := fs_cov hf hb o1 o2 o3 o4 q v s2 s4
          have : k = q := by omega
          subst this
          rw [s2] at o1
          have := Option.some.inj o1
          subst this
          exact o5
      rw [this] at H
      have e : nI v >>> ((4 : Int32) &&& 31) + nI (256 * n + 128 + b - q) = nI (v / 16 + (256 * n + 128 + b - q)) := by rw [ph_shr4 qb.2, nI_add]
      have := H _ hu'
      show post (nI v >>> ((4 : Int32) &&& 31) + nI (256 * n + 128 + b - q)) _
      rw [e]; exact this
end
end
section
/-! questions: every state that matches answers alike -/
def rq_ok (M MS : Nat → Option Nat) (dk : Nat → Int32) (hd : Nat → Nat) (num : Nat) (W : (Int32 → St1 → Prop) → St1 → Prop) (Q : Int32 → Prop) : Prop :=
  ∃ r, Q r ∧ ∀ u post, mt_ok M MS dk hd num u → (∀ u', mt_ok M MS dk hd num u' → post r u') → W post u
def nd_cnt (M : Nat → Option Nat) : Nat → Nat
  | 0 => 0
  | n + 1 => nd_cnt M n + if (M (256 * n)).isSome then 1 else 0
def pc_cnt (f : Nat → Option Nat) : Nat → Nat
  | 0 => 0
  | n + 1 => pc_cnt f n + if (f n).isSome then 1 else 0
theorem ge_neg (o : Option Nat) (h : o = none) : ge_I o < 0 := by rw [h]; decide
theorem ge_pos {o : Option Nat} {v : Nat} (h : o = some v) (hv : v < 32768) : ¬ ge_I o < 0 := by rw [h]; exact nI_pos (by omega)
theorem ge_pos' {o : Option Nat} {v : Nat} (h : o = some v) (hv : v < 32768) : 0 ≤ ge_I o := by rw [h]; exact nI_pos' (by omega)
theorem ge_neg' {o : Option Nat} (h : o = none) : ¬ 0 ≤ ge_I o := by rw [h]; decide
section
variable {rt we wt : Int32} {a1 a2 a3 a4 a5 a6 a7 a8 a9 a10 a11 a12 a13 a14 : Nat → Int32} {M MS : Nat → Option Nat} {dk : Nat → Int32} {hd : Nat → Nat} {num : Nat} {u : St1}
theorem rq_kind (hh : hd_ok M hd) {h : Nat} (h4 : h < 4) : rq_ok M MS dk hd num (fun post u => wpX_kind post u (nI h)) (fun _ => True) := by
  have main : ∀ r, (∀ u post, mt_ok M MS dk hd num u → (∀ u', mt_ok M MS dk hd num u' → post r u') → wpX_kind post u (nI h)) → rq_ok M MS dk hd num (fun post u => wpX_kind post u (nI h)) (fun _ => True) := fun r q => ⟨r, trivial, q⟩
  rcases hh.2 h h4 with e | ⟨e, w, hw⟩
  · refine main 0 (fun u post hu H => ?_)
    obtain ⟨rt, we, wt, a1, a2, a3, a4, a5, a6, a7, a8, a9, a10, a11, a12, a13, a14⟩ := u
    unfold wpX_kind
    refine mt_isH _ (fun z => absurd rfl (z h h4)) (fun i _ _ => br_f (by decide) ⟨pk_in h 4 h4, ?_⟩)
    rw [mt_hd hu h4]
    exact br_f (hd_neg e) (H _ hu)
  · refine main (nI (w % 4)) (fun u post hu H => ?_)
    obtain ⟨rt, we, wt, a1, a2, a3, a4, a5, a6, a7, a8, a9, a10, a11, a12, a13, a14⟩ := u
    unfold wpX_kind
    refine mt_isH _ (fun z => absurd rfl (z h h4)) (fun i _ _ => br_f (by decide) ⟨pk_in h 4 h4, ?_⟩)
    rw [mt_hd hu h4]
    refine br_t (hd_pos e) ⟨pk_in h 4 h4, ?_⟩
    rw [ph_s8 (by omega)]
    refine mt_sort hu e hw (fun u' hu' => ?_)
    obtain ⟨rt, we, wt, a1, a2, a3, a4, a5, a6, a7, a8, a9, a10, a11, a12, a13, a14⟩ := u'
    exact H _ hu'
theorem rq_nodes (hf : fs_ok M) : rq_ok M MS dk hd num wpX_nodes (fun _ => True) := by
  refine ⟨nI (nd_cnt M 16), trivial, fun u post hu H => ?_⟩
  have main : ∀ d i u, i + d = 16 → mt_ok M MS dk hd num u → match u with | (rt, we, wt, a1, a2, a3, a4, a5, a6, a7, a8, a9, a10, a11, a12, a13, a14) => wX_nodes_4 post (d + 1) (nI (nd_cnt M i)) (nI i) rt we wt a1 a2 a3 a4 a5 a6 a7 a8 a9 a10 a11 a12 a13 a14 := by
    intro d
    induction d with
    | zero =>
      intro i u hi hu
      obtain ⟨rt, we, wt, a1, a2, a3, a4, a5, a6, a7, a8, a9, a10, a11, a12, a13, a14⟩ := u
      have : i = 16 := by omega
      subst this
      exact pk_le 16 16 (fun _ => H _ hu) (fun z => absurd z (by omega))
    | succ d ih =>
      intro i u hi hu
      obtain ⟨rt, we, wt, a1, a2, a3, a4, a5, a6, a7, a8, a9, a10, a11, a12, a13, a14⟩ := u
      refine pk_le 16 i (fun z => absurd z (by omega)) (fun _ => ?_)
      rw [ph_256]
      refine mt_get hu (by omega) (fun u' hu' => ?_)
      have nx := ih (i + 1) u' (by omega) hu'
      obtain ⟨rt, we, wt, a1, a2, a3, a4, a5, a6, a7, a8, a9, a10, a11, a12, a13, a14⟩ := u'
      cases e : M (256 * i) with
      | none =>
        refine br_t (by decide) (nm_r (nI_1 i) ?_)
        have : nd_cnt M (i + 1) = nd_cnt M i := by show nd_cnt M i + _ = _; rw [e]; rfl
        rw [← this]; exact nx
      | some v =>
        have vb := (mt_bnd hu' e).2
        refine br_f (nI_pos (by omega)) (nm_r (e' := nI (nd_cnt M (i + 1))) ?_ (nm_r (nI_1 i) nx))
        rw [nI_1]
        congr 1
        show _ = nd_cnt M i + _
        rw [e]; rfl
  have := main 16 0 u (by omega) hu
  obtain ⟨rt, we, wt, a1, a2, a3, a4, a5, a6, a7, a8, a9, a10, a11, a12, a13, a14⟩ := u
  exact ⟨17, this⟩
theorem en_loop (hf : fs_ok M) {n : Nat} (hn : n < 16) : ∀ m o, (o = none ∨ ∃ q, o = some q ∧ q < 4096 ∧ 4096 - q ≤ m) → ∃ c f, c ≤ m ∧ (∀ q, o = some q → q < 256 * n + 128 → 0 < c) ∧
    ∀ (rt we wt : Int32) (a1 a2 a3 a4 a5 a6 a7 a8 a9 a10 a11 a12 a13 a14 : Nat → Int32) (x : Nat) (post : Int32 → Prop), mt_ok M MS dk hd num (rt, we, wt, a1, a2, a3, a4, a5, a6, a7, a8, a9, a10, a11, a12, a13, a14) → post (nI (x + c)) → wX_entriesOf_12 post (nI n) rt we wt a1 a2 a3 a4 a5 a6 a7 a8 a9 a10 a11 a12 a13 a14 f (nI x) (ge_I o) := by
  intro m
  have e1 : 256 * nI n + 128 = nI (256 * n + 128) := by rw [ph_256, show (128 : Int32) = nI 128 from rfl, nI_add]
  induction m with
  | zero =>
    intro o ho
    rcases ho with e | ⟨q, _, q1, q2⟩
    · subst e
      exact ⟨0, 1, by omega, fun q e => absurd e (by simp), fun rt we wt a1 a2 a3 a4 a5 a6 a7 a8 a9 a10 a11 a12 a13 a14 x post _ H => br_t (by decide) H⟩
    · omega
  | succ m ih =>
    intro o ho
    rcases ho with e | ⟨q, e, q1, q2⟩
    · subst e
      exact ⟨0, 1, by omega, fun q e => absurd e (by simp), fun rt we wt a1 a2 a3 a4 a5 a6 a7 a8 a9 a10 a11 a12 a13 a14 x post _ H => br_t (by decide) H⟩
    · subst e
      by_cases c : 256 * n + 128 ≤ q
      · exact ⟨0, 1, by omega, fun q' e d => by have := Option.some.inj e; omega, fun rt we wt a1 a2 a3 a4 a5 a6 a7 a8 a9 a10 a11 a12 a13 a14 x post _ H => br_f (nI_pos (by omega)) (pk_le (256 * n + 128) q (fun _ => H) (fun z => absurd z (by omega)) e1)⟩
      · obtain ⟨o', ho'⟩ := nx_ex M q
        obtain ⟨c', f', h0, h1, h2⟩ := ih o' (by
          rcases ho' with ⟨z, _⟩ | ⟨q', v', z, z1, z2, _⟩
          · exact Or.inl z
          · have := (hf.2.1 q' v' z1).1
            exact Or.inr ⟨q', z, this, by omega⟩)
        refine ⟨c' + 1, f' + 1, by omega, fun _ _ _ => by omega, fun rt we wt a1 a2 a3 a4 a5 a6 a7 a8 a9 a10 a11 a12 a13 a14 x post hu H => ?_⟩
        refine br_f (nI_pos (by omega)) (pk_le (256 * n + 128) q (fun z => absurd z c) (fun _ => nm_r (nI_1 x) ?_) e1)
        refine mt_nx hu (by omega) ho' ?_
        refine h2 rt we wt a1 a2 a3 a4 a5 a6 a7 a8 a9 a10 a11 a12 a13 a14 (x + 1) post hu ?_
        rw [show x + 1 + c' = x + (c' + 1) by omega]; exact H
theorem rq_entries (hf : fs_ok M) {n : Nat} (hn : n < 16) : ∃ c, c ≤ 4096 ∧ (c = 0 → ∀ a, a < 6 → M (256 * n + 1 + a) = none) ∧ ∀ u (post : Int32 → Prop), mt_ok M MS dk hd num u → post (nI c) → wpX_entriesOf post u (nI n) := by
  obtain ⟨o, ho⟩ := nx_ex M (256 * n)
  obtain ⟨c, f, h0, h1, h2⟩ := en_loop (MS := MS) (dk := dk) (hd := hd) (num := num) hf hn 4096 o (by
    rcases ho with ⟨z, _⟩ | ⟨q', v', z, z1, z2, _⟩
    · exact Or.inl z
    · have := (hf.2.1 q' v' z1).1
      exact Or.inr ⟨q', z, this, by omega⟩)
  refine ⟨c, h0, fun c0 a ha => ?_, fun u post hu H => ?_⟩
  · cases e : M (256 * n + 1 + a) with
    | none => rfl
    | some v =>
      rcases ho with ⟨_, z⟩ | ⟨q', v', z, z1, z2, z3⟩
      · have := z _ _ e; omega
      · have := z3 _ _ e (by omega)
        have := h1 q' z (by omega)
        omega
  · obtain ⟨rt, we, wt, a1, a2, a3, a4, a5, a6, a7, a8, a9, a10, a11, a12, a13, a14⟩ := u
    unfold wpX_entriesOf
    rw [ph_256]
    refine mt_nx hu (by omega) ho ⟨f, h2 rt we wt a1 a2 a3 a4 a5 a6 a7 a8 a9 a10 a11 a12 a13 a14 0 post hu ?_⟩
    rw [Nat.zero_add]; exact H
theorem pl_fun (M : Nat → Option Nat) (n : Nat) : ∃ f : Nat → Option Nat, ∀ b, pl_is M n b (f b) := ⟨fun b => Classical.choose (pl_ex M n b), fun b => Classical.choose_spec (pl_ex M n b)⟩
theorem pl_48 {n b q : Nat} (hf : fs_ok M) (hb : b < 8) (h : pl_is M n b (some q)) : q < 48 := by
  rcases h with ⟨e, _⟩ | ⟨k, v, h1, h2, h3, h4, e⟩
  · exact absurd e (by simp)
  · have := (hf.2.2.2.2.2.2.1 k v h1 (by omega)).2.2.2
    have := Option.some.inj e
    omega
theorem rq_size (hf : fs_ok M) (hh : hd_ok M hd) {h : Nat} (h4 : h < 4) : rq_ok M MS dk hd num (fun post u => wpX_size post u (nI h)) (fun _ => True) := by
  have main : ∀ r, (∀ u post, mt_ok M MS dk hd num u → (∀ u', mt_ok M MS dk hd num u' → post r u') → wpX_size post u (nI h)) → rq_ok M MS dk hd num (fun post u => wpX_size post u (nI h)) (fun _ => True) := fun r q => ⟨r, trivial, q⟩
  rcases hh.2 h h4 with e | ⟨e, w, hw⟩
  · refine main 0 (fun u post hu H => ?_)
    obtain ⟨rt, we, wt, a1, a2, a3, a4, a5, a6, a7, a8, a9, a10, a11, a12, a13, a14⟩ := u
    unfold wpX_size
    refine mt_isH _ (fun z => absurd rfl (z h h4)) (fun i _ _ => br_f (by decide) ⟨pk_in h 4 h4, ?_⟩)
    rw [mt_hd hu h4]
    exact br_f (hd_neg e) (H _ hu)
  · by_cases w1 : w % 4 = 1
    · obtain ⟨c, _, _, hc⟩ := rq_entries (MS := MS) (dk := dk) (hd := hd) (num := num) hf e
      refine main (nI c) (fun u post hu H => ?_)
      obtain ⟨rt, we, wt, a1, a2, a3, a4, a5, a6, a7, a8, a9, a10, a11, a12, a13, a14⟩ := u
      unfold wpX_size
      refine mt_isH _ (fun z => absurd rfl (z h h4)) (fun i _ _ => br_f (by decide) ⟨pk_in h 4 h4, ?_⟩)
      rw [mt_hd hu h4]
      refine br_t (hd_pos e) ⟨pk_in h 4 h4, ?_⟩
      rw [ph_s8 (by omega)]
      refine mt_sort hu e hw (fun u' hu' => ?_)
      obtain ⟨rt, we, wt, a1, a2, a3, a4, a5, a6, a7, a8, a9, a10, a11, a12, a13, a14⟩ := u'
      rw [w1]
      refine br_t rfl ⟨pk_in h 4 h4, ?_⟩
      rw [mt_hd hu' h4, ph_s8 (by omega)]
      exact hc _ _ hu' (H _ hu')
    · obtain ⟨f, hfn⟩ := pl_fun M (hd h)
      refine main (nI (pc_cnt f 8)) (fun u post hu H => ?_)
      obtain ⟨rt, we, wt, a1, a2, a3, a4, a5, a6, a7, a8, a9, a10, a11, a12, a13, a14⟩ := u
      unfold wpX_size
      refine mt_isH _ (fun z => absurd rfl (z h h4)) (fun i _ _ => br_f (by decide) ⟨pk_in h 4 h4, ?_⟩)
      rw [mt_hd hu h4]
      refine br_t (hd_pos e) ⟨pk_in h 4 h4, ?_⟩
      rw [ph_s8 (by omega)]
      refine mt_sort hu e hw (fun u' hu' => ?_)
      have loop : ∀ d i u, i + d = 8 → mt_ok M MS dk hd num u → match u with | (rt, we, wt, a1, a2, a3, a4, a5, a6, a7, a8, a9, a10, a11, a12, a13, a14) => wX_size_50 post (nI h) (d + 1) (nI (pc_cnt f i)) (nI i) rt we wt a1 a2 a3 a4 a5 a6 a7 a8 a9 a10 a11 a12 a13 a14 := by
        intro d
        induction d with
        | zero =>
          intro i u hi hu
          obtain ⟨rt, we, wt, a1, a2, a3, a4, a5, a6, a7, a8, a9, a10, a11, a12, a13, a14⟩ := u
          have : i = 8 := by omega
          subst this
          exact pk_le 8 8 (fun _ => H _ hu) (fun z => absurd z (by omega))
        | succ d ih =>
          intro i u hi hu
          obtain ⟨rt, we, wt, a1, a2, a3, a4, a5, a6, a7, a8, a9, a10, a11, a12, a13, a14⟩ := u
          refine pk_le 8 i (fun z => absurd z (by omega)) (fun _ => ⟨pk_in h 4 h4, ?_⟩)
          rw [mt_hd hu h4, ph_s8 (by omega)]
          refine mt_pl hu hf e (by omega) (hfn i) (fun u' hu' => ?_)
          have nx := ih (i + 1) u' (by omega) hu'
          obtain ⟨rt, we, wt, a1, a2, a3, a4, a5, a6, a7, a8, a9, a10, a11, a12, a13, a14⟩ := u'
          cases e2 : f i with
          | none =>
            refine br_t (by decide) (nm_r (nI_1 i) ?_)
            have : pc_cnt f (i + 1) = pc_cnt f i := by show pc_cnt f i + _ = _; rw [e2]; rfl
            rw [← this]; exact nx
          | some v =>
            have vb := pl_48 hf (show i < 8 by omega) (by rw [← e2]; exact hfn i)
            refine br_f (nI_pos (by omega)) (nm_r (e' := nI (pc_cnt f (i + 1))) ?_ (nm_r (nI_1 i) nx))
            rw [nI_1]
            congr 1
            show _ = pc_cnt f i + _
            rw [e2]; rfl
      have l := loop 8 0 u' (by omega) hu'
      obtain ⟨rt, we, wt, a1, a2, a3, a4, a5, a6, a7, a8, a9, a10, a11, a12, a13, a14⟩ := u'
      exact pk_eq (w % 4) 1 (fun z => absurd z w1) (fun _ => ⟨9, l⟩)
theorem ph_i4 (q j : Nat) : 4 * nI q + nI j = nI (4 * q + j) := by rw [show (4 : Int32) = nI 4 from rfl, pk_mul, nI_add]
theorem rq_read (hf : fs_ok M) (hh : hd_ok M hd) {h c : Nat} (h4 : h < 4) (hc : c < 32) : rq_ok M MS dk hd num (fun post u => wpX_read post u (nI h) (nI c)) (fun _ => True) := by
  have main : ∀ r, (∀ u post, mt_ok M MS dk hd num u → (∀ u', mt_ok M MS dk hd num u' → post r u') → wpX_read post u (nI h) (nI c)) → rq_ok M MS dk hd num (fun post u => wpX_read post u (nI h) (nI c)) (fun _ => True) := fun r q => ⟨r, trivial, q⟩
  rcases hh.2 h h4 with e | ⟨e, w, hw⟩
  · refine main 0 (fun u post hu H => ?_)
    obtain ⟨rt, we, wt, a1, a2, a3, a4, a5, a6, a7, a8, a9, a10, a11, a12, a13, a14⟩ := u
    unfold wpX_read
    refine mt_isH _ (fun z => absurd rfl (z h h4)) (fun i _ _ => br_f (by decide) (br_f (nI_pos (by omega)) (pk_lt 31 c (fun z => absurd z (by omega)) (fun _ => ⟨pk_in h 4 h4, ?_⟩))))
    rw [mt_hd hu h4]
    exact br_t (hd_neg' e) (H _ hu)
  · obtain ⟨o, ho⟩ := pl_ex M (hd h) (c / 4)
    by_cases w1 : w % 4 = 1
    · refine main 0 (fun u post hu H => ?_)
      obtain ⟨rt, we, wt, a1, a2, a3, a4, a5, a6, a7, a8, a9, a10, a11, a12, a13, a14⟩ := u
      unfold wpX_read
      refine mt_isH _ (fun z => absurd rfl (z h h4)) (fun i _ _ => br_f (by decide) (br_f (nI_pos (by omega)) (pk_lt 31 c (fun z => absurd z (by omega)) (fun _ => ⟨pk_in h 4 h4, ?_⟩))))
      rw [mt_hd hu h4]
      refine br_f (hd_pos' e) ⟨pk_in h 4 h4, ?_⟩
      rw [ph_s8 (by omega)]
      refine mt_sort hu e hw (fun u' hu' => ?_)
      obtain ⟨rt, we, wt, a1, a2, a3, a4, a5, a6, a7, a8, a9, a10, a11, a12, a13, a14⟩ := u'
      rw [w1]
      exact br_t rfl (H _ hu')
    · refine main (match o with | none => 0 | some q => dk (4 * q + c % 4)) (fun u post hu H => ?_)
      obtain ⟨rt, we, wt, a1, a2, a3, a4, a5, a6, a7, a8, a9, a10, a11, a12, a13, a14⟩ := u
      unfold wpX_read
      refine mt_isH _ (fun z => absurd rfl (z h h4)) (fun i _ _ => br_f (by decide) (br_f (nI_pos (by omega)) (pk_lt 31 c (fun z => absurd z (by omega)) (fun _ => ⟨pk_in h 4 h4, ?_⟩))))
      rw [mt_hd hu h4]
      refine br_f (hd_pos' e) ⟨pk_in h 4 h4, ?_⟩
      rw [ph_s8 (by omega)]
      refine mt_sort hu e hw (fun u' hu' => ?_)
      obtain ⟨rt, we, wt, a1, a2, a3, a4, a5, a6, a7, a8, a9, a10, a11, a12, a13, a14⟩ := u'
      refine pk_eq (w % 4) 1 (fun z => absurd z w1) (fun _ => ⟨pk_in h 4 h4, ?_⟩)
      have ec : nI c >>> ((2 : Int32) &&& 31) = nI (c / 4) := pk_shrN (by omega) _ 2 (by decide)
      rw [mt_hd hu' h4, ph_s8 (by omega), ec]
      refine mt_pl hu' hf e (by omega) ho (fun u2 hu2 => ?_)
      obtain ⟨rt, we, wt, a1, a2, a3, a4, a5, a6, a7, a8, a9, a10, a11, a12, a13, a14⟩ := u2
      have e3 : nI c &&& 3 = nI (c % 4) := pk_andN (m := 3) (by omega) 2 (by decide)
      rw [e3]
      cases o with
      | none => exact br_f (by decide) (H _ hu2)
      | some q =>
        have qb := pl_48 hf (by omega) ho
        refine br_t (nI_pos' (by omega)) ?_
        have er : a10 (4 * nI q + nI (c % 4)).toNatClampNeg = dk (4 * q + c % 4) := by rw [ph_i4, nI_clamp (by omega), mt_dk hu2]
        refine ⟨pk_in (4 * q + c % 4) 192 (by omega) (ph_i4 q _), ?_⟩
        show post (a10 (4 * nI q + nI (c % 4)).toNatClampNeg) _
        rw [er]
        exact H _ hu2
end
end
section
/-! next, copies -/
section
variable {rt we wt : Int32} {a1 a2 a3 a4 a5 a6 a7 a8 a9 a10 a11 a12 a13 a14 : Nat → Int32} {M MS : Nat → Option Nat} {dk : Nat → Int32} {hd : Nat → Nat} {num : Nat} {u : St1}
/-- the name behind a name in a directory, out of the map -/
theorem rq_next59 {n k : Nat} (hf : fs_ok M) (hn : n < 16) (hk1 : 256 * n ≤ k) (hk2 : k < 256 * n + 128) :
    ∃ r, (r = -3 ∨ ∃ a, a < 6 ∧ r = nI a ∧ k < 256 * n + 1 + a ∧ ∃ v, M (256 * n + 1 + a) = some v) ∧
      ∀ (rt we wt : Int32) (a1 a2 a3 a4 a5 a6 a7 a8 a9 a10 a11 a12 a13 a14 : Nat → Int32) (post : Int32 → St1 → Prop), mt_ok M MS dk hd num (rt, we, wt, a1, a2, a3, a4, a5, a6, a7, a8, a9, a10, a11, a12, a13, a14) → post r (rt, we, wt, a1, a2, a3, a4, a5, a6, a7, a8, a9, a10, a11, a12, a13, a14) → wX_next_59 post (nI (256 * n)) (nI k) rt we wt a1 a2 a3 a4 a5 a6 a7 a8 a9 a10 a11 a12 a13 a14 := by
  have e1 : nI (256 * n) + 128 = nI (256 * n + 128) := by rw [show (128 : Int32) = nI 128 from rfl, nI_add]
  obtain ⟨o, ho⟩ := nx_ex M k
  rcases ho with ⟨h1, h2⟩ | ⟨q, v, h1, h2, h3, h4⟩
  · refine ⟨-3, Or.inl rfl, fun rt we wt a1 a2 a3 a4 a5 a6 a7 a8 a9 a10 a11 a12 a13 a14 post hu H => ?_⟩
    unfold wX_next_59
    refine mt_nx hu (by omega) (Or.inl ⟨h1, h2⟩) ?_
    rw [h1]
    exact br_t (by decide) H
  · have qb := hf.2.1 q v h2
    by_cases c : q < 256 * n + 128
    · obtain ⟨a, ha, e⟩ : ∃ a, a < 6 ∧ q = 256 * n + 1 + a := ⟨q - 256 * n - 1, by omega, by omega⟩
      subst e
      refine ⟨nI a, Or.inr ⟨a, ha, rfl, h3, v, h2⟩, fun rt we wt a1 a2 a3 a4 a5 a6 a7 a8 a9 a10 a11 a12 a13 a14 post hu H => ?_⟩
      unfold wX_next_59
      refine mt_nx hu (by omega) (Or.inr ⟨_, v, h1, h2, h3, h4⟩) ?_
      rw [h1]
      refine br_f (nI_pos (by omega)) (pk_lt (256 * n + 1 + a) (256 * n + 128) (fun _ => ?_) (fun z => absurd z (by omega)) rfl e1)
      have e2 : nI (256 * n + 1 + a) - nI (256 * n) - 1 = nI a := by
        rw [pk_sub (by omega), show 256 * n + 1 + a - 256 * n = a + 1 by omega, nI_pred]
      show post (nI (256 * n + 1 + a) - nI (256 * n) - 1) _
      rw [e2]; exact H
    · refine ⟨-3, Or.inl rfl, fun rt we wt a1 a2 a3 a4 a5 a6 a7 a8 a9 a10 a11 a12 a13 a14 post hu H => ?_⟩
      unfold wX_next_59
      refine mt_nx hu (by omega) (Or.inr ⟨_, v, h1, h2, h3, h4⟩) ?_
      rw [h1]
      exact br_f (nI_pos (by omega)) (pk_lt q (256 * n + 128) (fun z => absurd z c) (fun _ => H) rfl e1)
def rq_nm (x : Int32) : Prop := x = -1 ∨ ∃ a : Nat, a ≤ 99 ∧ x = nI a
theorem rq_next (hf : fs_ok M) (hh : hd_ok M hd) {h : Nat} (h4 : h < 4) {x : Int32} (hx : rq_nm x) : rq_ok M MS dk hd num (fun post u => wpX_next post u (nI h) x)
    (fun r => (r = -3 ∨ (r = -4 ∧ ∃ w, M (256 * hd h) = some w ∧ w % 4 = 2) ∨ ∃ a, a < 6 ∧ r = nI a ∧ (∀ b : Nat, b ≤ 99 → x = nI b → b < a) ∧ ∃ v, M (256 * hd h + 1 + a) = some v)) := by
  have st : ∀ r, ((r = -3 ∨ (r = -4 ∧ ∃ w, M (256 * hd h) = some w ∧ w % 4 = 2) ∨ ∃ a, a < 6 ∧ r = nI a ∧ (∀ b : Nat, b ≤ 99 → x = nI b → b < a) ∧ ∃ v, M (256 * hd h + 1 + a) = some v)) →
      (∀ u post, mt_ok M MS dk hd num u → (∀ u', mt_ok M MS dk hd num u' → post r u') → wpX_directoryFault (fun r_3 u => match u with
        | (rt, we, wt, a1, a2, a3, a4, a5, a6, a7, a8, a9, a10, a11, a12, a13, a14) => (((r_3 = 0 → (((x ≤ 98 → (vp_in (nI h) 4 ∧ (∀ x4_52 : Int32, x4_52 = 256 * (a11 (nI h).toNatClampNeg) → (((0 ≤ x → (wX_next_59 post x4_52 ((x4_52 + 1) + x) rt we wt a1 a2 a3 a4 a5 a6 a7 a8 a9 a10 a11 a12 a13 a14)) ∧ (¬ 0 ≤ x → (wX_next_59 post x4_52 x4_52 rt we wt a1 a2 a3 a4 a5 a6 a7 a8 a9 a10 a11 a12 a13 a14))))))) ∧ (¬ x ≤ 98 → (post (-3) (rt, we, wt, a1, a2, a3, a4, a5, a6, a7, a8, a9, a10, a11, a12, a13, a14)))))) ∧ (¬ r_3 = 0 → (post r_3 (rt, we, wt, a1, a2, a3, a4, a5, a6, a7, a8, a9, a10, a11, a12, a13, a14)))))) u (nI h)) →
      rq_ok M MS dk hd num (fun post u => wpX_next post u (nI h) x) (fun r => (r = -3 ∨ (r = -4 ∧ ∃ w, M (256 * hd h) = some w ∧ w % 4 = 2) ∨ ∃ a, a < 6 ∧ r = nI a ∧ (∀ b : Nat, b ≤ 99 → x = nI b → b < a) ∧ ∃ v, M (256 * hd h + 1 + a) = some v)) := by
    intro r hr hW
    refine ⟨r, hr, fun u post hu H => ?_⟩
    have q := hW u post hu H
    obtain ⟨rt, we, wt, a1, a2, a3, a4, a5, a6, a7, a8, a9, a10, a11, a12, a13, a14⟩ := u
    show wpX_next post _ (nI h) x
    unfold wpX_next
    exact mt_isH _ (fun z => absurd rfl (z h h4)) (fun i _ _ => br_f (by decide) q)
  rcases hh.2 h h4 with e | ⟨e, w, hw⟩
  · refine st (-3) (Or.inl rfl) (fun u post hu H => ?_)
    refine mt_dirF hu hh h4 (fun _ => ?_) (fun w u' z => by omega) (fun w u' z => by omega)
    have := H u hu
    obtain ⟨rt, we, wt, a1, a2, a3, a4, a5, a6, a7, a8, a9, a10, a11, a12, a13, a14⟩ := u
    exact br_f (by decide) this
  · by_cases w2 : w % 4 = 2
    · refine st (-4) (Or.inr (Or.inl ⟨rfl, w, hw, w2⟩)) (fun u post hu H => ?_)
      refine mt_dirF hu hh h4 (fun z => by omega) (fun w' u' _ _ _ hu' => ?_) (fun w' u' _ q z hu' => ?_)
      · have := H u' hu'
        obtain ⟨rt, we, wt, a1, a2, a3, a4, a5, a6, a7, a8, a9, a10, a11, a12, a13, a14⟩ := u'
        exact br_f (by decide) this
      · rw [hw] at q; have := Option.some.inj q; subst this; exact absurd w2 z
    · -- a directory
      have go : ∀ r, ((r = -3 ∨ (r = -4 ∧ ∃ w, M (256 * hd h) = some w ∧ w % 4 = 2) ∨ ∃ a, a < 6 ∧ r = nI a ∧ (∀ b : Nat, b ≤ 99 → x = nI b → b < a) ∧ ∃ v, M (256 * hd h + 1 + a) = some v)) →
          (∀ (rt we wt : Int32) (a1 a2 a3 a4 a5 a6 a7 a8 a9 a10 a11 a12 a13 a14 : Nat → Int32) (post : Int32 → St1 → Prop), mt_ok M MS dk hd num (rt, we, wt, a1, a2, a3, a4, a5, a6, a7, a8, a9, a10, a11, a12, a13, a14) → post r (rt, we, wt, a1, a2, a3, a4, a5, a6, a7, a8, a9, a10, a11, a12, a13, a14) →
            (((x ≤ 98 → (vp_in (nI h) 4 ∧ (∀ x4_52 : Int32, x4_52 = 256 * (a11 (nI h).toNatClampNeg) → (((0 ≤ x → (wX_next_59 post x4_52 ((x4_52 + 1) + x) rt we wt a1 a2 a3 a4 a5 a6 a7 a8 a9 a10 a11 a12 a13 a14)) ∧ (¬ 0 ≤ x → (wX_next_59 post x4_52 x4_52 rt we wt a1 a2 a3 a4 a5 a6 a7 a8 a9 a10 a11 a12 a13 a14))))))) ∧ (¬ x ≤ 98 → (post (-3) (rt, we, wt, a1, a2, a3, a4, a5, a6, a7, a8, a9, a10, a11, a12, a13, a14)))))) →
          rq_ok M MS dk hd num (fun post u => wpX_next post u (nI h) x) (fun r => (r = -3 ∨ (r = -4 ∧ ∃ w, M (256 * hd h) = some w ∧ w % 4 = 2) ∨ ∃ a, a < 6 ∧ r = nI a ∧ (∀ b : Nat, b ≤ 99 → x = nI b → b < a) ∧ ∃ v, M (256 * hd h + 1 + a) = some v)) := by
        intro r hr hW
        refine st r hr (fun u post hu H => ?_)
        refine mt_dirF hu hh h4 (fun z => by omega) (fun w' u' _ q z hu' => ?_) (fun w' u' _ _ _ hu' => ?_)
        · rw [hw] at q; have := Option.some.inj q; subst this; exact absurd z w2
        · have := H u' hu'
          obtain ⟨rt, we, wt, a1, a2, a3, a4, a5, a6, a7, a8, a9, a10, a11, a12, a13, a14⟩ := u'
          exact br_t rfl (hW rt we wt a1 a2 a3 a4 a5 a6 a7 a8 a9 a10 a11 a12 a13 a14 post hu' this)
      rcases hx with x1 | ⟨b, b1, b2⟩
      · obtain ⟨r, hr, hW⟩ := rq_next59 (MS := MS) (dk := dk) (hd := hd) (num := num) hf e (Nat.le_refl (256 * hd h)) (by omega)
        refine go r ?_ (fun rt we wt a1 a2 a3 a4 a5 a6 a7 a8 a9 a10 a11 a12 a13 a14 post hu H => ?_)
        · rcases hr with z | ⟨a, z1, z2, z3, z4⟩
          · exact Or.inl z
          · refine Or.inr (Or.inr ⟨a, z1, z2, fun b hb q => ?_, z4⟩)
            rw [x1] at q
            exact absurd (show nI b < 0 by rw [← q]; decide) (nI_pos (by omega))
        · refine br_t (by rw [x1]; decide) ⟨pk_in h 4 h4, nm_r (e' := nI (256 * hd h)) (by rw [mt_hd hu h4, ph_s8 (by omega), ph_256]) (br_f (by rw [x1]; decide) ?_)⟩
          exact hW rt we wt a1 a2 a3 a4 a5 a6 a7 a8 a9 a10 a11 a12 a13 a14 post hu H
      · by_cases b98 : b ≤ 98
        · obtain ⟨r, hr, hW⟩ := rq_next59 (MS := MS) (dk := dk) (hd := hd) (num := num) (k := 256 * hd h + 1 + b) hf e (by omega) (by omega)
          refine go r ?_ (fun rt we wt a1 a2 a3 a4 a5 a6 a7 a8 a9 a10 a11 a12 a13 a14 post hu H => ?_)
          · rcases hr with z | ⟨a, z1, z2, z3, z4⟩
            · exact Or.inl z
            · refine Or.inr (Or.inr ⟨a, z1, z2, fun c hc q => ?_, z4⟩)
              rw [b2] at q
              have := (nI_eq (show b < 2 ^ 31 by omega) (show c < 2 ^ 31 by omega)).mp q
              omega
          · rw [b2]
            refine pk_le b 98 (fun _ => ⟨pk_in h 4 h4, nm_r (e' := nI (256 * hd h)) (by rw [mt_hd hu h4, ph_s8 (by omega), ph_256]) (br_t (nI_pos' (by omega)) ?_)⟩) (fun z => absurd z (by omega))
            rw [nI_1, nI_add]
            exact hW rt we wt a1 a2 a3 a4 a5 a6 a7 a8 a9 a10 a11 a12 a13 a14 post hu H
        · refine go (-3) (Or.inl rfl) (fun rt we wt a1 a2 a3 a4 a5 a6 a7 a8 a9 a10 a11 a12 a13 a14 post hu H => ?_)
          rw [b2]
          exact pk_le b 98 (fun z => absurd z b98) (fun _ => H)
theorem mt_any (h : mt_ok M MS dk hd num (rt, we, wt, a1, a2, a3, a4, a5, a6, a7, a8, a9, a10, a11, a12, a13, a14)) (we' wt' : Int32) (b6 b12 b13 b14 : Nat → Int32) : mt_ok M MS dk hd num (rt, we', wt', a1, a2, a3, a4, a5, b6, a7, a8, a9, a10, a11, b12, b13, b14) := h
theorem mt_blkR {post : Int64 → St1 → Prop} (h : mt_ok M MS dk hd num (rt, we, wt, a1, a2, a3, a4, a5, a6, a7, a8, a9, a10, a11, a12, a13, a14)) (hv : bk_fit M)
    (H : ∀ w' b14 z, z < 2 ^ 48 → (∀ p, z.testBit p = true ↔ bk_in M p) → mt_ok M MS dk hd num (rt, we, w', a1, a2, a3, a4, a5, a6, a7, a8, a9, a10, a11, a12, a13, b14) → post (lN z) (rt, we, w', a1, a2, a3, a4, a5, a6, a7, a8, a9, a10, a11, a12, a13, b14)) : wpX_blocksIn post (rt, we, wt, a1, a2, a3, a4, a5, a6, a7, a8, a9, a10, a11, a12, a13, a14) rt := by
  have hu := h
  obtain ⟨N, K, V, C, fr, r, T, lv, lo, hi1, s, S, lvS, loS, hiS, v, h1, h2, h3, h4⟩ := h
  obtain ⟨⟨p1, p2, p3, p4, p5, _⟩, n4, _⟩ := h1
  have := wk_blocks (rt := rt) (we := we) (wt := wt) (a5 := a5) (a6 := a6) (a7 := a7) (a8 := a8) (a9 := a9) (a10 := a10) (a11 := a11) (a12 := a12) (a13 := a13) (a14 := a14) p1 p4 p5 hv (fun w' b14 z a b => H w' b14 z a b hu)
  rw [← p3] at this
  exact this
theorem mt_sv (h : mt_ok M MS dk hd num (rt, we, wt, a1, a2, a3, a4, a5, a6, a7, a8, a9, a10, a11, a12, a13, a14)) (hv : bk_fit MS) : ∃ v, v < 2 ∧ (∀ post : Int32 → Prop, post (nI v) → wpX_validPlace post (rt, we, wt, a1, a2, a3, a4, a5, a6, a7, a8, a9, a10, a11, a12, a13, a14)) ∧
    ∀ (w : Int32) (c14 : Nat → Int32) (post : Int64 → St1 → Prop), (∀ w' b14 z, z < 2 ^ 48 → (∀ p, z.testBit p = true ↔ bk_in MS p) → mt_ok M MS dk hd num (rt, we, w', a1, a2, a3, a4, a5, a6, a7, a8, a9, a10, a11, a12, a13, b14) → post (lN z) (rt, we, w', a1, a2, a3, a4, a5, a6, a7, a8, a9, a10, a11, a12, a13, b14)) → wpX_blocksIn post (rt, we, w, a1, a2, a3, a4, a5, a6, a7, a8, a9, a10, a11, a12, a13, c14) (a7 (nI v).toNatClampNeg) := by
  have hu := h
  obtain ⟨N, K, V, C, fr, r, T, lv, lo, hi1, s, S, lvS, loS, hiS, v, h1, h2, h3, h4⟩ := h
  obtain ⟨⟨p1, p2, p3, p4, p5, p6, p7, _⟩, n4, _⟩ := h1
  refine ⟨v, h2.1, fun post H => wk_valid h2 H, fun w c14 post H => ?_⟩
  have s1 := (p6.2.1 s p6.1.1).1
  have e : a7 (nI v).toNatClampNeg = nI s := by rw [nI_clamp (by have := h2.1; omega), h2.2.1, ph_s8 (by omega)]
  rw [e]
  exact wk_blocks p1 p6 p7 hv (fun w' b14 z a b => H w' b14 z a b hu)
theorem bk_uni {z z' : Nat} {P : Nat → Prop} (h : ∀ p, z.testBit p = true ↔ P p) (h' : ∀ p, z'.testBit p = true ↔ P p) : z = z' := by
  apply Nat.eq_of_testBit_eq
  intro i
  have a := h i
  have b := h' i
  cases e : z.testBit i <;> cases e' : z'.testBit i <;> simp_all
theorem bk_ex {P : Nat → Prop} : ∀ n, (∀ p, P p → p < n) → ∃ z, z < 2 ^ n ∧ ∀ p, z.testBit p = true ↔ P p := by
  intro n
  induction n generalizing P with
  | zero => exact fun h => ⟨0, by simp, fun p => ⟨fun e => by simp at e, fun e => absurd (h p e) (by omega)⟩⟩
  | succ n ih =>
    intro h
    obtain ⟨z, z1, z2⟩ := ih (P := fun p => P p ∧ p < n) (fun p q => q.2)
    by_cases c : P n
    · refine ⟨z ||| 2 ^ n, Nat.or_lt_two_pow (by rw [Nat.pow_succ]; omega) (Nat.pow_lt_pow_right (by decide) (by omega)), fun p => ?_⟩
      rw [Nat.testBit_or, Bool.or_eq_true, z2 p, Nat.testBit_two_pow]
      simp only [decide_eq_true_eq]
      constructor
      · rintro (⟨a, _⟩ | a)
        · exact a
        · rw [← a]; exact c
      · intro a
        have := h p a
        by_cases q : p = n
        · exact Or.inr q.symm
        · exact Or.inl ⟨a, by omega⟩
    · refine ⟨z, by rw [Nat.pow_succ]; omega, fun p => ?_⟩
      rw [z2 p]
      constructor
      · exact fun a => a.1
      · intro a
        have := h p a
        by_cases q : p = n
        · rw [q] at a; exact absurd a c
        · exact ⟨a, by omega⟩
theorem bk_lt {p : Nat} (h : bk_fit M) (hp : bk_in M p) : p < 48 := by
  obtain ⟨k, v, h1, h2, h3, h4⟩ := hp
  have := h k v h1 h2
  omega
theorem bk_z (h : bk_fit M) (hS : bk_fit MS) : ∃ z, z < 2 ^ 48 ∧ ∀ p, z.testBit p = true ↔ bk_in M p ∨ bk_in MS p :=
  bk_ex 48 (fun p q => q.elim (bk_lt h) (bk_lt hS))
/-- the bits of a or b -/
theorem bk_or {a b z : Nat} {P Q : Nat → Prop} (ha : ∀ p, a.testBit p = true ↔ P p) (hb : ∀ p, b.testBit p = true ↔ Q p) (hz : ∀ p, z.testBit p = true ↔ P p ∨ Q p) : a ||| b = z := by
  refine bk_uni (P := fun p => P p ∨ Q p) (fun p => ?_) hz
  rw [Nat.testBit_or, Bool.or_eq_true, ha p, hb p]
theorem rq_copies (hf : bk_fit M) (hS : bk_fit MS) {z : Nat} (z1 : z < 2 ^ 48) (z2 : ∀ p, z.testBit p = true ↔ bk_in M p ∨ bk_in MS p) : rq_ok M MS dk hd num wpX_copies (fun r => r = nI (bk_cnt z 48)) := by
  have p48 : (2 : Nat) ^ 48 < 2 ^ 64 := by decide
  refine ⟨nI (bk_cnt z 48), rfl, fun u post hu H => ?_⟩
  obtain ⟨rt, we, wt, a1, a2, a3, a4, a5, a6, a7, a8, a9, a10, a11, a12, a13, a14⟩ := u
  obtain ⟨v, v2, hv, hb⟩ := mt_sv hu hS
  unfold wpX_copies
  refine hv _ ?_
  refine mt_blkR hu hf (fun w' b14 za q1 q2 hu' => ⟨pk_in v 2 v2, ?_⟩)
  refine hb _ _ _ (fun w2 b2 zb r1 r2 hu2 => ?_)
  refine nm_r (e' := lN z) (by rw [wb_or (by omega) (by omega), bk_or q2 r2 z2]) ?_
  exact wk_bits z1 (H _ hu2)
end
end
section
/-! changes of a file system: pure -/
section
variable {M M' : Nat → Option Nat}
theorem fs_some {o : Option Nat} {v : Nat} {P : Prop} (h : o = none) (e : o = some v) : P := by rw [h] at e; exact absurd e (by simp)
theorem fs_par (h : fs_ok M) {m v : Nat} (hm : m ≠ 0) (e : M (256 * m) = some v) : ∃ w, M (256 * (v / 4)) = some w ∧ w % 4 = 1 := by
  obtain ⟨a, a1, a2⟩ := (h.2.2.1 m v e).2.2 hm
  exact (h.2.2.2.1 _ a m a1 a2).2.2.1
theorem fs_make (h : fs_ok M) {p a n w srt : Nat} (hp : p < 16) (hw : M (256 * p) = some w) (w1 : w % 4 = 1) (ha : a < 6) (he : M (256 * p + 1 + a) = none) (n1 : 1 ≤ n) (n2 : n < 16) (hn : M (256 * n) = none) (hs : srt = 1 ∨ srt = 2)
    (m1 : M' (256 * n) = some (4 * p + srt)) (m2 : M' (256 * p + 1 + a) = some n) (mo : ∀ k, k ≠ 256 * n → k ≠ 256 * p + 1 + a → M' k = M k) : fs_ok M' := by
  obtain ⟨f1, f2, f3, f4, f5, ⟨rk, f6⟩, f7, f8⟩ := h
  have pn : p ≠ n := by intro e; rw [e] at hw; exact fs_some hn hw
  have nd : ∀ m, m ≠ n → M' (256 * m) = M (256 * m) := fun m e => mo _ (by omega) (by omega)
  have ndS : ∀ m v, M (256 * m) = some v → m ≠ n ∧ M' (256 * m) = some v := by
    intro m v e
    have q : m ≠ n := by intro z; rw [z] at e; exact fs_some hn e
    exact ⟨q, by rw [nd m q]; exact e⟩
  have en : ∀ m b, b < 6 → (m ≠ p ∨ b ≠ a) → M' (256 * m + 1 + b) = M (256 * m + 1 + b) := fun m b hb q => mo _ (by omega) (by omega)
  have sk : ∀ k, 128 ≤ k % 256 → M' k = M k := fun k q => mo _ (by omega) (by omega)
  refine ⟨by rw [mo 0 (by omega) (by omega)]; exact f1, fun k v e => ?_, fun m v e => ?_, fun m b v hb e => ?_, fun m b m' b' v hb hb' e e' => ?_, ⟨tr_up rk n (rk p + 1), fun m v hm e => ?_⟩, fun k v e hk => ?_, fun k k' v v' e e' hk hk' hl => ?_⟩
  · by_cases c1 : k = 256 * n
    · subst c1; omega
    · by_cases c2 : k = 256 * p + 1 + a
      · subst c2; omega
      · rw [mo k c1 c2] at e; exact f2 k v e
  · by_cases c : m = n
    · subst c
      rw [m1] at e
      have := Option.some.inj e
      subst this
      rw [show (4 * p + srt) / 4 = p by omega]
      exact ⟨by omega, by omega, fun _ => ⟨a, ha, m2⟩⟩
    · rw [nd m c] at e
      obtain ⟨g1, g2, g3⟩ := f3 m v e
      refine ⟨g1, g2, fun m0 => ?_⟩
      obtain ⟨b, b1, b2⟩ := g3 m0
      refine ⟨b, b1, ?_⟩
      rw [en _ b b1 ?_]
      · exact b2
      · by_cases z : v / 4 = p ∧ b = a
        · rw [z.1, z.2] at b2; exact fs_some he b2
        · omega
  · by_cases c : m = p ∧ b = a
    · obtain ⟨c1, c2⟩ := c
      subst c1; subst c2
      rw [m2] at e
      have := Option.some.inj e
      subst this
      exact ⟨n1, n2, ⟨w, (ndS m w hw).2, w1⟩, ⟨_, m1, by omega⟩⟩
    · rw [en m b hb (by omega)] at e
      obtain ⟨g1, g2, ⟨w', g3, g4⟩, ⟨w2, g5, g6⟩⟩ := f4 m b v hb e
      exact ⟨g1, g2, ⟨w', (ndS m w' g3).2, g4⟩, ⟨w2, (ndS v w2 g5).2, g6⟩⟩
  · by_cases c : m = p ∧ b = a
    · by_cases c' : m' = p ∧ b' = a
      · omega
      · rw [en m' b' hb' (by omega)] at e'
        rw [c.1, c.2, m2] at e
        have := Option.some.inj e
        subst this
        obtain ⟨_, _, _, ⟨w2, g5, _⟩⟩ := f4 m' b' _ hb' e'
        exact fs_some hn g5
    · rw [en m b hb (by omega)] at e
      by_cases c' : m' = p ∧ b' = a
      · rw [c'.1, c'.2, m2] at e'
        have := Option.some.inj e'
        subst this
        obtain ⟨_, _, _, ⟨w2, g5, _⟩⟩ := f4 m b _ hb e
        exact fs_some hn g5
      · rw [en m' b' hb' (by omega)] at e'
        exact f5 m b m' b' v hb hb' e e'
  · by_cases c : m = n
    · subst c
      rw [m1] at e
      have := Option.some.inj e
      subst this
      rw [show (4 * p + srt) / 4 = p by omega, tr_upS, tr_upN pn]; omega
    · rw [nd m c] at e
      obtain ⟨b, b1, b2⟩ := (f3 m v e).2.2 hm
      obtain ⟨_, _, ⟨w', g3, _⟩, _⟩ := f4 _ b m b1 b2
      rw [tr_upN c, tr_upN (ndS _ w' g3).1]
      exact f6 m v hm e
  · rw [sk k hk] at e
    obtain ⟨⟨w', g1, g2⟩, g3⟩ := f7 k v e hk
    exact ⟨⟨w', (ndS _ w' g1).2, g2⟩, g3⟩
  · rw [sk k hk] at e
    rw [sk k' hk'] at e'
    exact f8 k k' v v' e e' hk hk' hl
theorem fs_erase (h : fs_ok M) {p a n : Nat} (ha : a < 6) (he : M (256 * p + 1 + a) = some n) (hE : ∀ b, b < 6 → M (256 * n + 1 + b) = none) (hS : ∀ k, k / 256 = n → 128 ≤ k % 256 → M k = none)
    (m1 : M' (256 * n) = none) (m2 : M' (256 * p + 1 + a) = none) (mo : ∀ k, k ≠ 256 * n → k ≠ 256 * p + 1 + a → M' k = M k) : fs_ok M' := by
  obtain ⟨f1, f2, f3, f4, f5, ⟨rk, f6⟩, f7, f8⟩ := h
  have n1 := (f4 p a n ha he).1
  have nd : ∀ m, m ≠ n → M' (256 * m) = M (256 * m) := fun m e => mo _ (by omega) (by omega)
  have ndB : ∀ m v, M' (256 * m) = some v → m ≠ n ∧ M (256 * m) = some v := by
    intro m v e
    have q : m ≠ n := by intro z; rw [z] at e; exact fs_some m1 e
    exact ⟨q, by rw [← nd m q]; exact e⟩
  have en : ∀ m b, b < 6 → (m ≠ p ∨ b ≠ a) → M' (256 * m + 1 + b) = M (256 * m + 1 + b) := fun m b hb q => mo _ (by omega) (by omega)
  have enB : ∀ m b v, b < 6 → M' (256 * m + 1 + b) = some v → (m ≠ p ∨ b ≠ a) ∧ M (256 * m + 1 + b) = some v := by
    intro m b v hb e
    by_cases c : m = p ∧ b = a
    · rw [c.1, c.2] at e; exact fs_some m2 e
    · exact ⟨by omega, by rw [← en m b hb (by omega)]; exact e⟩
  have sk : ∀ k, 128 ≤ k % 256 → M' k = M k := fun k q => mo _ (by omega) (by omega)
  refine ⟨by rw [mo 0 (by omega) (by omega)]; exact f1, fun k v e => ?_, fun m v e => ?_, fun m b v hb e => ?_, fun m b m' b' v hb hb' e e' => ?_, ⟨rk, fun m v hm e => ?_⟩, fun k v e hk => ?_, fun k k' v v' e e' hk hk' hl => ?_⟩
  · by_cases c1 : k = 256 * n
    · subst c1; exact fs_some m1 e
    · by_cases c2 : k = 256 * p + 1 + a
      · subst c2; exact fs_some m2 e
      · rw [mo k c1 c2] at e; exact f2 k v e
  · obtain ⟨c, e⟩ := ndB m v e
    obtain ⟨g1, g2, g3⟩ := f3 m v e
    refine ⟨g1, g2, fun m0 => ?_⟩
    obtain ⟨b, b1, b2⟩ := g3 m0
    refine ⟨b, b1, ?_⟩
    rw [en _ b b1 ?_]
    · exact b2
    · by_cases z : v / 4 = p ∧ b = a
      · rw [z.1, z.2, he] at b2
        exact absurd (Option.some.inj b2).symm c
      · omega
  · obtain ⟨c, e⟩ := enB m b v hb e
    obtain ⟨g1, g2, ⟨w', g3, g4⟩, ⟨w2, g5, g6⟩⟩ := f4 m b v hb e
    have mn : m ≠ n := by intro z; rw [z] at e; exact fs_some (hE b hb) e
    have vn : v ≠ n := by
      intro z
      rw [z] at e
      have := f5 m b p a n hb ha e he
      omega
    exact ⟨g1, g2, ⟨w', by rw [nd m mn]; exact g3, g4⟩, ⟨w2, by rw [nd v vn]; exact g5, g6⟩⟩
  · exact f5 m b m' b' v hb hb' (enB m b v hb e).2 (enB m' b' v hb' e').2
  · exact f6 m v hm (ndB m v e).2
  · rw [sk k hk] at e
    obtain ⟨⟨w', g1, g2⟩, g3⟩ := f7 k v e hk
    have kn : k / 256 ≠ n := fun z => fs_some (hS k z hk) e
    exact ⟨⟨w', by rw [nd _ kn]; exact g1, g2⟩, g3⟩
  · rw [sk k hk] at e
    rw [sk k' hk'] at e'
    exact f8 k k' v v' e e' hk hk' hl
/-- the parent, and what comes by going up -/
def fs_up (M : Nat → Option Nat) (m : Nat) : Nat := (M (256 * m)).getD 0 / 4
def fs_it (M : Nat → Option Nat) : Nat → Nat → Nat
  | 0, m => m
  | i + 1, m => fs_it M i (fs_up M m)
theorem fs_ren (h : fs_ok M) {p a q b n v w : Nat} (ha : a < 6) (hb : b < 6) (hq : q < 16) (he : M (256 * p + 1 + a) = some n) (hv : M (256 * n) = some v) (hw : M (256 * q) = some w) (w1 : w % 4 = 1) (hf : M (256 * q + 1 + b) = none)
    (hD : ∀ i, fs_it M i q ≠ n) (m1 : M' (256 * n) = some (4 * q + v % 4)) (m2 : M' (256 * p + 1 + a) = none) (m3 : M' (256 * q + 1 + b) = some n) (mo : ∀ k, k ≠ 256 * n → k ≠ 256 * p + 1 + a → k ≠ 256 * q + 1 + b → M' k = M k) : fs_ok M' := by
  obtain ⟨f1, f2, f3, f4, f5, ⟨rk, f6⟩, f7, f8⟩ := h
  obtain ⟨n1, n2, _, _⟩ := f4 p a n ha he
  have vs := (f3 n v hv).1
  have nd : ∀ m, m ≠ n → M' (256 * m) = M (256 * m) := fun m e => mo _ (by omega) (by omega) (by omega)
  have en : ∀ m c, c < 6 → (m ≠ p ∨ c ≠ a) → (m ≠ q ∨ c ≠ b) → M' (256 * m + 1 + c) = M (256 * m + 1 + c) := fun m c hc x y => mo _ (by omega) (by omega) (by omega)
  have sk : ∀ k, 128 ≤ k % 256 → M' k = M k := fun k x => mo _ (by omega) (by omega) (by omega)
  have pq : ¬ (p = q ∧ a = b) := by
    intro z
    rw [z.1, z.2] at he
    exact fs_some hf he
  -- a node, with its sort
  have ndS : ∀ m x, M (256 * m) = some x → ∃ y, M' (256 * m) = some y ∧ y % 4 = x % 4 := by
    intro m x e
    by_cases c : m = n
    · subst c
      rw [hv] at e
      have := Option.some.inj e
      subst this
      exact ⟨_, m1, by omega⟩
    · exact ⟨x, by rw [nd m c]; exact e, rfl⟩
  have enB : ∀ m c x, c < 6 → M' (256 * m + 1 + c) = some x → (m = q ∧ c = b ∧ x = n) ∨ ((m ≠ p ∨ c ≠ a) ∧ (m ≠ q ∨ c ≠ b) ∧ M (256 * m + 1 + c) = some x) := by
    intro m c x hc e
    by_cases z : m = q ∧ c = b
    · rw [z.1, z.2, m3] at e
      exact Or.inl ⟨z.1, z.2, (Option.some.inj e).symm⟩
    · by_cases z2 : m = p ∧ c = a
      · rw [z2.1, z2.2] at e; exact fs_some m2 e
      · exact Or.inr ⟨by omega, by omega, by rw [← en m c hc (by omega) (by omega)]; exact e⟩
  have vn : ∀ m c x, c < 6 → (m ≠ p ∨ c ≠ a) → M (256 * m + 1 + c) = some x → x ≠ n := by
    intro m c x hc z e x2
    rw [x2] at e
    have := f5 m c p a n hc ha e he
    omega
  refine ⟨by rw [mo 0 (by omega) (by omega) (by omega)]; exact f1, fun k x e => ?_, fun m x e => ?_, fun m c x hc e => ?_, fun m c m' c' x hc hc' e e' => ?_, ?_, fun k x e hk => ?_, fun k k' x x' e e' hk hk' hl => ?_⟩
  · by_cases c1 : k = 256 * n
    · subst c1; omega
    · by_cases c2 : k = 256 * p + 1 + a
      · subst c2; exact fs_some m2 e
      · by_cases c3 : k = 256 * q + 1 + b
        · subst c3; omega
        · rw [mo k c1 c2 c3] at e; exact f2 k x e
  · by_cases c : m = n
    · subst c
      rw [m1] at e
      have := Option.some.inj e
      subst this
      rw [show (4 * q + v % 4) / 4 = q by omega]
      exact ⟨by omega, hq, fun _ => ⟨b, hb, m3⟩⟩
    · rw [nd m c] at e
      obtain ⟨g1, g2, g3⟩ := f3 m x e
      refine ⟨g1, g2, fun m0 => ?_⟩
      obtain ⟨c', b1, b2⟩ := g3 m0
      refine ⟨c', b1, ?_⟩
      rw [en _ c' b1 ?_ ?_]
      · exact b2
      · by_cases z : x / 4 = p ∧ c' = a
        · rw [z.1, z.2, he] at b2
          exact absurd (Option.some.inj b2).symm c
        · omega
      · by_cases z : x / 4 = q ∧ c' = b
        · rw [z.1, z.2] at b2; exact fs_some hf b2
        · omega
  · rcases enB m c x hc e with ⟨z1, z2, z3⟩ | ⟨z1, z2, z3⟩
    · subst z1; subst z2; subst z3
      obtain ⟨y, y1, y2⟩ := ndS m w hw
      exact ⟨n1, n2, ⟨y, y1, by omega⟩, ⟨_, m1, by omega⟩⟩
    · obtain ⟨g1, g2, ⟨w', g3, g4⟩, ⟨w2, g5, g6⟩⟩ := f4 m c x hc z3
      obtain ⟨y, y1, y2⟩ := ndS m w' g3
      exact ⟨g1, g2, ⟨y, y1, by omega⟩, ⟨w2, by rw [nd x (vn m c x hc z1 z3)]; exact g5, g6⟩⟩
  · rcases enB m c x hc e with ⟨z1, z2, z3⟩ | ⟨z1, z2, z3⟩
    · rcases enB m' c' x hc' e' with ⟨y1, y2, y3⟩ | ⟨y1, y2, y3⟩
      · omega
      · exact absurd z3 (vn m' c' x hc' y1 y3)
    · rcases enB m' c' x hc' e' with ⟨y1, y2, y3⟩ | ⟨y1, y2, y3⟩
      · exact absurd y3 (vn m c x hc z1 z3)
      · exact f5 m c m' c' x hc hc' z3 y3
  · -- the rank: what hangs under n is lifted over q
    have hup : ∀ m x, M (256 * m) = some x → fs_up M m = x / 4 := fun m x e => by unfold fs_up; rw [e]; rfl
    refine ⟨fun m => (haveI := Classical.propDecidable (∃ i, fs_it M i m = n); if ∃ i, fs_it M i m = n then rk m + (rk q + 1) else rk m), fun m x hm e => ?_⟩
    show (haveI := Classical.propDecidable (∃ i, fs_it M i (x / 4) = n); if ∃ i, fs_it M i (x / 4) = n then rk (x / 4) + (rk q + 1) else rk (x / 4)) < (haveI := Classical.propDecidable (∃ i, fs_it M i m = n); if ∃ i, fs_it M i m = n then rk m + (rk q + 1) else rk m)
    by_cases c : m = n
    · subst c
      rw [m1] at e
      have := Option.some.inj e
      subst this
      rw [show (4 * q + v % 4) / 4 = q by omega, if_neg (fun ⟨i, hi⟩ => hD i hi), if_pos ⟨0, rfl⟩]
      omega
    · rw [nd m c] at e
      have r := f6 m x hm e
      have hu := hup m x e
      by_cases d : ∃ i, fs_it M i m = n
      · rw [if_pos d]
        obtain ⟨i, hi⟩ := d
        cases i with
        | zero => exact absurd hi c
        | succ i =>
          have : ∃ i, fs_it M i (x / 4) = n := ⟨i, by rw [← hu]; exact hi⟩
          rw [if_pos this]; omega
      · have : ¬ ∃ i, fs_it M i (x / 4) = n := fun ⟨i, hi⟩ => d ⟨i + 1, by show fs_it M i (fs_up M m) = n; rw [hu]; exact hi⟩
        rw [if_neg this, if_neg d]; exact r
  · rw [sk k hk] at e
    obtain ⟨⟨w', g1, g2⟩, g3⟩ := f7 k x e hk
    obtain ⟨y, y1, y2⟩ := ndS _ w' g1
    exact ⟨⟨y, y1, by omega⟩, g3⟩
  · rw [sk k hk] at e
    rw [sk k' hk'] at e'
    exact f8 k k' x x' e e' hk hk' hl
/-- only stretches change, and stay apart -/
theorem fs_str (h : fs_ok M) (mo : ∀ k, k % 256 < 128 → M' k = M k) (s1 : ∀ k v, M' k = some v → 128 ≤ k % 256 → k < 4096 ∧ k % 256 ≤ 135 ∧ (∃ w, M (256 * (k / 256)) = some w ∧ w % 4 = 2) ∧ 1 ≤ v % 16 ∧ k % 256 + v % 16 ≤ 136 ∧ v / 16 + v % 16 ≤ 48)
    (s2 : ∀ k k' v v', M' k = some v → M' k' = some v' → 128 ≤ k % 256 → 128 ≤ k' % 256 → k < k' → k + v % 16 ≤ k' ∧ (v / 16 + v % 16 ≤ v' / 16 ∨ v' / 16 + v' % 16 ≤ v / 16)) : fs_ok M' := by
  obtain ⟨f1, f2, f3, f4, f5, ⟨rk, f6⟩, f7, f8⟩ := h
  have nd : ∀ m, M' (256 * m) = M (256 * m) := fun m => mo _ (by omega)
  have en : ∀ m b, b < 6 → M' (256 * m + 1 + b) = M (256 * m + 1 + b) := fun m b hb => mo _ (by omega)
  refine ⟨by rw [mo 0 (by omega)]; exact f1, fun k v e => ?_, fun m v e => ?_, fun m b v hb e => ?_, fun m b m' b' v hb hb' e e' => ?_, ⟨rk, fun m v hm e => ?_⟩, fun k v e hk => ?_, s2⟩
  · by_cases c : 128 ≤ k % 256
    · have := s1 k v e c
      exact ⟨this.1, Or.inr ⟨c, this.2.1⟩⟩
    · rw [mo k (by omega)] at e; exact f2 k v e
  · rw [nd m] at e
    obtain ⟨g1, g2, g3⟩ := f3 m v e
    refine ⟨g1, g2, fun m0 => ?_⟩
    obtain ⟨b, b1, b2⟩ := g3 m0
    exact ⟨b, b1, by rw [en _ b b1]; exact b2⟩
  · rw [en m b hb] at e
    rw [nd m, nd v]
    exact f4 m b v hb e
  · rw [en m b hb] at e
    rw [en m' b' hb'] at e'
    exact f5 m b m' b' v hb hb' e e'
  · rw [nd m] at e; exact f6 m v hm e
  · have := s1 k v e hk
    exact ⟨by rw [nd]; exact this.2.2.1, this.2.2.2⟩
end
end
section
/-! stretches: which block lies where; leaveOut, cutBlocks -/
def cv_at (M : Nat → Option Nat) (t p : Nat) : Prop := ∃ k v, M k = some v ∧ 128 ≤ k % 256 ∧ k ≤ t ∧ t < k + v % 16 ∧ p = v / 16 + (t - k)
section
variable {M M' : Nat → Option Nat}
theorem cv_bk {p : Nat} : bk_in M p ↔ ∃ t, cv_at M t p := by
  constructor
  · rintro ⟨k, v, h1, h2, h3, h4⟩
    exact ⟨k + (p - v / 16), k, v, h1, h2, by omega, by omega, by omega⟩
  · rintro ⟨t, k, v, h1, h2, h3, h4, h5⟩
    exact ⟨k, v, h1, h2, by omega, by omega⟩
theorem cv_uni (h : fs_ok M) {t p p' : Nat} (a : cv_at M t p) (b : cv_at M t p') : p = p' := by
  obtain ⟨k, v, a1, a2, a3, a4, a5⟩ := a
  obtain ⟨k', v', b1, b2, b3, b4, b5⟩ := b
  rcases Nat.lt_trichotomy k k' with c | c | c
  · have := (h.2.2.2.2.2.2.2 k k' v v' a1 b1 a2 b2 c).1; omega
  · subst c
    rw [a1] at b1
    have := Option.some.inj b1
    subst this
    omega
  · have := (h.2.2.2.2.2.2.2 k' k v' v b1 a1 b2 a2 c).1; omega
theorem cv_pl (h : fs_ok M) {n b : Nat} (hb : b < 8) {o : Option Nat} (ho : pl_is M n b o) : (o = none → ∀ q, ¬ cv_at M (256 * n + 128 + b) q) ∧ (∀ q, o = some q → cv_at M (256 * n + 128 + b) q) := by
  constructor
  · intro e q ⟨k, v, a1, a2, a3, a4, a5⟩
    have l := (h.2.2.2.2.2.2.1 k v a1 a2).2.2.1
    rcases ho with ⟨_, g⟩ | ⟨_, _, _, _, _, _, g⟩
    · have := g k v a1 (by omega) a3; omega
    · rw [e] at g; exact absurd g (by simp)
  · intro q e
    rcases ho with ⟨g, _⟩ | ⟨k, v, g1, g2, g3, g4, g5⟩
    · rw [g] at e; exact absurd e (by simp)
    · rw [e] at g5
      exact ⟨k, v, g1, by omega, g3, g4, Option.some.inj g5⟩
theorem pl_cv (h : fs_ok M) {n b : Nat} (hb : b < 8) {q : Nat} (hc : cv_at M (256 * n + 128 + b) q) : pl_is M n b (some q) := by
  obtain ⟨k, v, a1, a2, a3, a4, a5⟩ := hc
  have l := (h.2.2.2.2.2.2.1 k v a1 a2).2.2.1
  exact Or.inr ⟨k, v, a1, by omega, a3, a4, by rw [a5]⟩
theorem pl_cvN (h : fs_ok M) {n b : Nat} (hb : b < 8) (hc : ∀ q, ¬ cv_at M (256 * n + 128 + b) q) : pl_is M n b none := by
  obtain ⟨o, ho⟩ := pl_ex M n b
  cases o with
  | none => exact ho
  | some q => exact absurd ((cv_pl h hb ho).2 q rfl) (hc q)
theorem fs_16 {a b : Nat} (h : b < 16) : (16 * a + b) / 16 = a ∧ (16 * a + b) % 16 = b := by omega
/-- the map behind leaveOut -/
def lx_M (M : Nat → Option Nat) (k0 v0 o : Nat) : Nat → Option Nat :=
  let M1 := tr_up M k0 (if o = 0 then none else some (16 * (v0 / 16) + o))
  if v0 % 16 - o - 1 = 0 then M1 else tr_up M1 (k0 + o + 1) (some (16 * (v0 / 16 + o + 1) + (v0 % 16 - o - 1)))
theorem lx_at {k0 v0 o k v : Nat} (h : lx_M M k0 v0 o k = some v) (ho : o < v0 % 16) :
    (k = k0 ∧ 0 < o ∧ v = 16 * (v0 / 16) + o) ∨ (k = k0 + o + 1 ∧ o + 1 < v0 % 16 ∧ v = 16 * (v0 / 16 + o + 1) + (v0 % 16 - o - 1)) ∨ (k ≠ k0 ∧ M k = some v ∧ (o + 1 < v0 % 16 → k ≠ k0 + o + 1)) := by
  unfold lx_M at h
  by_cases c : v0 % 16 - o - 1 = 0
  · simp only [c, if_true] at h
    by_cases e : k = k0
    · subst e
      rw [tr_upS] at h
      by_cases o0 : o = 0
      · rw [if_pos o0] at h; exact absurd h (by simp)
      · rw [if_neg o0] at h
        exact Or.inl ⟨rfl, by omega, (Option.some.inj h).symm⟩
    · rw [tr_upN e] at h
      exact Or.inr (Or.inr ⟨e, h, fun z => by omega⟩)
  · simp only [c, if_false] at h
    by_cases e1 : k = k0 + o + 1
    · subst e1
      rw [tr_upS] at h
      exact Or.inr (Or.inl ⟨rfl, by omega, (Option.some.inj h).symm⟩)
    · rw [tr_upN e1] at h
      by_cases e : k = k0
      · subst e
        rw [tr_upS] at h
        by_cases o0 : o = 0
        · rw [if_pos o0] at h; exact absurd h (by simp)
        · rw [if_neg o0] at h
          exact Or.inl ⟨rfl, by omega, (Option.some.inj h).symm⟩
      · rw [tr_upN e] at h
        exact Or.inr (Or.inr ⟨e, h, fun _ => e1⟩)
theorem lx_ok (h : fs_ok M) {k0 v0 o : Nat} (hk : M k0 = some v0) (hm : 128 ≤ k0 % 256) (ho : o < v0 % 16) :
    fs_ok (lx_M M k0 v0 o) ∧ (∀ k, k % 256 < 128 → lx_M M k0 v0 o k = M k) ∧ ∀ t p, cv_at (lx_M M k0 v0 o) t p → cv_at M t p ∧ t ≠ k0 + o := by
  obtain ⟨f1, f2, f3, f4, f5, f6, f7, f8⟩ := h
  have h : fs_ok M := ⟨f1, f2, f3, f4, f5, f6, f7, f8⟩
  have b0 := f2 k0 v0 hk
  obtain ⟨⟨w, w1, w2⟩, l1, l2, l3⟩ := f7 k0 v0 hk hm
  have ap : ∀ k v, k ≠ k0 → M k = some v → 128 ≤ k % 256 → (k + v % 16 ≤ k0 ∨ k0 + v0 % 16 ≤ k) ∧ (v / 16 + v % 16 ≤ v0 / 16 ∨ v0 / 16 + v0 % 16 ≤ v / 16) := by
    intro k v e hv hk'
    rcases Nat.lt_or_ge k k0 with c | c
    · have := f8 k k0 v v0 hv hk hk' hm c; omega
    · have := f8 k0 k v0 v hk hv hm hk' (by omega); omega
  have ne : ∀ k, k % 256 < 128 → lx_M M k0 v0 o k = M k := by
    intro k hk'
    unfold lx_M
    by_cases c : v0 % 16 - o - 1 = 0
    · simp only [c, if_true]; rw [tr_upN (by omega)]
    · simp only [c, if_false]; rw [tr_upN (by omega), tr_upN (by omega)]
  refine ⟨fs_str h ne ?_ ?_, ne, ?_⟩
  · intro k v e hk'
    rcases lx_at e ho with ⟨e1, e2, e3⟩ | ⟨e1, e2, e3⟩ | ⟨e1, e2, e3⟩
    · subst e1; subst e3
      exact ⟨b0.1, by omega, ⟨w, w1, w2⟩, by omega, by omega, by omega⟩
    · subst e1; subst e3
      have z := fs_16 (a := v0 / 16 + o + 1) (b := v0 % 16 - o - 1) (by omega)
      rw [z.1, z.2]
      refine ⟨by omega, by omega, ⟨w, ?_, w2⟩, by omega, by omega, by omega⟩
      rw [show (k0 + o + 1) / 256 = k0 / 256 by omega]; exact w1
    · have b := f2 k v e2
      exact ⟨b.1, by omega, f7 k v e2 hk'⟩
  · intro k k' v v' e e' hk1 hk2 hl
    rcases lx_at e ho with ⟨e1, e2, e3⟩ | ⟨e1, e2, e3⟩ | ⟨e1, e2, e3⟩
    · rcases lx_at e' ho with ⟨g1, g2, g3⟩ | ⟨g1, g2, g3⟩ | ⟨g1, g2, g3⟩
      · omega
      · subst e1; subst e3; subst g1; subst g3; omega
      · have := ap k' v' g1 g2 hk2
        subst e1; subst e3; omega
    · rcases lx_at e' ho with ⟨g1, g2, g3⟩ | ⟨g1, g2, g3⟩ | ⟨g1, g2, g3⟩
      · omega
      · omega
      · have := ap k' v' g1 g2 hk2
        have := (f7 k' v' g2 hk2).2.1
        subst e1; subst e3; omega
    · have a1 := ap k v e1 e2 hk1
      have a2 := (f7 k v e2 hk1).2.1
      rcases lx_at e' ho with ⟨g1, g2, g3⟩ | ⟨g1, g2, g3⟩ | ⟨g1, g2, g3⟩
      · subst g1; subst g3; omega
      · subst g1; subst g3; omega
      · exact f8 k k' v v' e2 g2 hk1 hk2 hl
  · intro t p ⟨k, v, a1, a2, a3, a4, a5⟩
    rcases lx_at a1 ho with ⟨e1, e2, e3⟩ | ⟨e1, e2, e3⟩ | ⟨e1, e2, e3⟩
    · subst e1; subst e3
      exact ⟨⟨k, v0, hk, hm, a3, by omega, by omega⟩, by omega⟩
    · subst e1; subst e3
      exact ⟨⟨k0, v0, hk, hm, by omega, by omega, by omega⟩, by omega⟩
    · have := ap k v e1 e2 a2
      exact ⟨⟨k, v, e2, a2, a3, a4, a5⟩, by omega⟩
end
section
variable {rt we wt : Int32} {a1 a2 a3 a4 a5 a6 a7 a8 a9 a10 a11 a12 a13 a14 : Nat → Int32} {M MS : Nat → Option Nat} {dk : Nat → Int32} {hd : Nat → Nat} {num : Nat} {u : St1}
theorem mt_leave {post : St1 → Prop} {n b q : Nat} (h : mt_ok M MS dk hd num u) (hf : fs_ok M) (hn : n < 16) (hb : b < 8) {k0 v0 : Nat} (a1 : M k0 = some v0) (a2 : 128 ≤ k0 % 256) (a3 : k0 ≤ 256 * n + 128 + b) (a4 : 256 * n + 128 + b < k0 + v0 % 16)
    (H : ∀ u', mt_ok (lx_M M k0 v0 (256 * n + 128 + b - k0)) MS dk hd num u' → post u') : wpX_leaveOut post u (nI n) (nI b) := by
  have l := (hf.2.2.2.2.2.2.1 k0 v0 a1 a2)
  have kb := mt_bnd h a1
  have kn : 256 * n + 128 ≤ k0 := by omega
  obtain ⟨o, hoe⟩ : ∃ o, 256 * n + 128 + b = k0 + o := ⟨256 * n + 128 + b - k0, by omega⟩
  have sa : sa_is M n b (some k0) := Or.inr ⟨k0, v0, rfl, a1, kn, a3, fs_cov hf hb a1 kn a3 a4⟩
  have c80 := fs_cd hf
  have m0 : M 0 = some 1 := hf.1
  have k00 : k0 ≠ 0 := by omega
  obtain ⟨rt, we, wt, b1, b2, b3, b4, b5, b6, b7, b8, b9, b10, b11, b12, b13, b14⟩ := u
  unfold wpX_leaveOut
  refine mt_sa h hn hb sa ?_
  refine mt_get h (by omega) (fun u' hu' => ?_)
  rw [a1]
  rw [hoe, Nat.add_sub_cancel_left] at H
  have o16 : o < v0 % 16 := by omega
  -- the piece behind
  have tl : ∀ M1, ct_cd M1 84 → (∀ u', mt_ok (if v0 % 16 - o - 1 = 0 then M1 else tr_up M1 (k0 + o + 1) (some (16 * (v0 / 16 + o + 1) + (v0 % 16 - o - 1)))) MS dk hd num u' → post u') → ∀ u', mt_ok M1 MS dk hd num u' → match u' with | (rt, we, wt, a1, a2, a3, a4, a5, a6, a7, a8, a9, a10, a11, a12, a13, a14) => wX_leaveOut_73 post (nI k0) (nI o) (nI (v0 / 16)) (nI (v0 % 16 - o - 1)) rt we wt a1 a2 a3 a4 a5 a6 a7 a8 a9 a10 a11 a12 a13 a14 := by
    intro M1 cd H1 u' hu'
    obtain ⟨rt, we, wt, a1, a2, a3, a4, a5, a6, a7, a8, a9, a10, a11, a12, a13, a14⟩ := u'
    refine pk_le (v0 % 16 - o - 1) 0 (fun z => ?_) (fun z => ?_)
    · refine H1 _ ?_
      rw [if_pos (by omega)]; exact hu'
    · rw [nI_add, nI_1, nI_add, nI_1, show (16 : Int32) = nI 16 from rfl, pk_mul, nI_add]
      refine mt_put hu' cd (by omega) (by omega) (fun u2 hu2 => ?_)
      have : post u2 := H1 u2 (by rw [if_neg (by omega)]; exact hu2)
      obtain ⟨rt, we, wt, a1, a2, a3, a4, a5, a6, a7, a8, a9, a10, a11, a12, a13, a14⟩ := u2
      exact this
  obtain ⟨rt, we, wt, a1', a2', a3', a4', a5', a6', a7', a8', a9', a10', a11', a12', a13', a14'⟩ := u'
  refine nm_r (e' := nI o) (by show _ - nI k0 = _; rw [ph_str, hoe, pk_sub (by omega), Nat.add_sub_cancel_left]) (nm_r (e' := nI (v0 / 16)) (ph_shr4 kb.2) (nm_r (e' := nI (v0 % 16 - o - 1)) ?_ ?_))
  · show (nI v0 &&& 15) - nI o - 1 = _
    rw [ph_and15 kb.2, pk_sub (by omega), show v0 % 16 - o = (v0 % 16 - o - 1) + 1 by omega, nI_pred]; rfl
  · refine pk_le o 0 (fun z => ?_) (fun z => ?_)
    · have o0 : o = 0 := by omega
      refine mt_rem hu' a1 ⟨0, 1, fun e => k00 e.symm, m0⟩ (fun u2 hu2 => ?_)
      have t := tl (tr_up M k0 none) (ct_mono (ct_del c80 k0) (by omega)) (fun u3 hu3 => H u3 (by unfold lx_M; rw [if_pos o0]; exact hu3)) u2 hu2
      obtain ⟨rt, we, wt, a1, a2, a3, a4, a5, a6, a7, a8, a9, a10, a11, a12, a13, a14⟩ := u2
      exact t
    · rw [show (16 : Int32) = nI 16 from rfl, pk_mul, nI_add]
      refine mt_put hu' (ct_mono c80 (by omega)) (by omega) (by omega) (fun u2 hu2 => ?_)
      have t := tl (tr_up M k0 (some (16 * (v0 / 16) + o))) (ct_mono (ct_ins c80 k0 _) (by omega)) (fun u3 hu3 => H u3 (by unfold lx_M; rw [if_neg (show ¬ o = 0 by omega)]; exact hu3)) u2 hu2
      obtain ⟨rt, we, wt, a1, a2, a3, a4, a5, a6, a7, a8, a9, a10, a11, a12, a13, a14⟩ := u2
      exact t
/-- blocks b .. 7 of a file are cut -/
theorem rm_cut {n : Nat} (hn : n < 16) : ∀ d b M, b + d = 8 → fs_ok M → ∃ M' c f, fs_ok M' ∧ (∀ k, k % 256 < 128 → M' k = M k) ∧ (∀ t p, cv_at M' t p → cv_at M t p) ∧ (∀ b', b ≤ b' → b' < 8 → ∀ q, ¬ cv_at M' (256 * n + 128 + b') q) ∧ c ≤ d ∧
    ∀ (u : St1) (x : Nat) (post : Int32 → St1 → Prop), mt_ok M MS dk hd num u → (∀ u', mt_ok M' MS dk hd num u' → post (nI (x + c)) u') → match u with | (rt, we, wt, a1, a2, a3, a4, a5, a6, a7, a8, a9, a10, a11, a12, a13, a14) => wX_cutBlocks_5 post (nI n) f (nI x) (nI b) rt we wt a1 a2 a3 a4 a5 a6 a7 a8 a9 a10 a11 a12 a13 a14 := by
  intro d
  induction d with
  | zero =>
    intro b M hb hf
    have : b = 8 := by omega
    subst this
    refine ⟨M, 0, 1, hf, fun _ _ => rfl, fun _ _ e => e, fun b' h1 h2 => by omega, by omega, fun u x post hu H => ?_⟩
    have := H u hu
    obtain ⟨rt, we, wt, a1, a2, a3, a4, a5, a6, a7, a8, a9, a10, a11, a12, a13, a14⟩ := u
    exact pk_le 8 8 (fun _ => this) (fun z => absurd z (by omega))
  | succ d ih =>
    intro b M hb hf
    obtain ⟨o, ho⟩ := pl_ex M n b
    have cv := cv_pl hf (show b < 8 by omega) ho
    cases o with
    | none =>
      obtain ⟨M', c, f, g1, g2, g3, g4, g5, g6⟩ := ih (b + 1) M (by omega) hf
      refine ⟨M', c, f + 1, g1, g2, g3, fun b' h1 h2 q e => ?_, by omega, fun u x post hu H => ?_⟩
      · by_cases z : b' = b
        · subst z; exact cv.1 rfl q (g3 _ _ e)
        · exact g4 b' (by omega) h2 q e
      · obtain ⟨rt, we, wt, a1, a2, a3, a4, a5, a6, a7, a8, a9, a10, a11, a12, a13, a14⟩ := u
        refine pk_le 8 b (fun z => absurd z (by omega)) (fun _ => ?_)
        refine mt_pl hu hf hn (by omega) ho (fun u' hu' => ?_)
        have nx := g6 u' x post hu' H
        obtain ⟨rt, we, wt, a1, a2, a3, a4, a5, a6, a7, a8, a9, a10, a11, a12, a13, a14⟩ := u'
        exact br_f (by decide) (nm_r (nI_1 b) nx)
    | some q =>
      obtain ⟨k0, v0, e1, e2, e3, e4, e5⟩ := cv.2 q rfl
      have q48 := pl_48 hf (show b < 8 by omega) ho
      obtain ⟨l1, l2, l3⟩ := lx_ok (o := 256 * n + 128 + b - k0) hf e1 e2 (by omega)
      obtain ⟨M', c, f, g1, g2, g3, g4, g5, g6⟩ := ih (b + 1) (lx_M M k0 v0 (256 * n + 128 + b - k0)) (by omega) l1
      refine ⟨M', c + 1, f + 1, g1, fun k hk => by rw [g2 k hk, l2 k hk], fun t p e => (l3 t p (g3 t p e)).1, fun b' h1 h2 q e => ?_, by omega, fun u x post hu H => ?_⟩
      · by_cases z : b' = b
        · subst z
          have := (l3 _ _ (g3 _ _ e)).2
          omega
        · exact g4 b' (by omega) h2 q e
      · obtain ⟨rt, we, wt, a1, a2, a3, a4, a5, a6, a7, a8, a9, a10, a11, a12, a13, a14⟩ := u
        refine pk_le 8 b (fun z => absurd z (by omega)) (fun _ => ?_)
        refine mt_pl hu hf hn (by omega) ho (fun u' hu' => ?_)
        obtain ⟨rt, we, wt, a1, a2, a3, a4, a5, a6, a7, a8, a9, a10, a11, a12, a13, a14⟩ := u'
        refine br_t (nI_pos' (by omega)) ?_
        refine mt_leave (q := q) hu' hf hn (by omega) e1 e2 e3 e4 (fun u2 hu2 => ?_)
        have nx := g6 u2 (x + 1) post hu2 (fun u3 hu3 => by rw [show x + 1 + c = x + (c + 1) by omega]; exact H u3 hu3)
        obtain ⟨rt, we, wt, a1, a2, a3, a4, a5, a6, a7, a8, a9, a10, a11, a12, a13, a14⟩ := u2
        exact nm_r (nI_1 x) (nm_r (nI_1 b) nx)
end
end
section
/-! putIn -/
section
variable {M M' : Nat → Option Nat}
theorem pu_gen (h : fs_ok M) {ks ss ls w kb place : Nat} (g1 : M' ks = some (16 * ss + ls)) (l1 : 1 ≤ ls) (l2 : ls < 16)
    (g2 : ∀ k v, k ≠ ks → 128 ≤ k % 256 → M' k = some v → M k = some v ∧ (k + v % 16 ≤ ks ∨ ks + ls ≤ k) ∧ (v / 16 + v % 16 ≤ ss ∨ ss + ls ≤ v / 16))
    (g3 : ∀ k, k % 256 < 128 → M' k = M k) (g4 : ks < 4096) (g5 : 128 ≤ ks % 256) (g6 : ks % 256 + ls ≤ 136) (g7 : ss + ls ≤ 48) (g8 : M (256 * (ks / 256)) = some w) (g9 : w % 4 = 2)
    (c1 : ∀ t, ks ≤ t → t < ks + ls → t = kb ∨ cv_at M t (ss + (t - ks))) (c2 : ss + (kb - ks) = place) : fs_ok M' ∧ ∀ t p, cv_at M' t p → cv_at M t p ∨ (t = kb ∧ p = place) := by
  have z := fs_16 (a := ss) (b := ls) l2
  refine ⟨fs_str h g3 (fun k v e hk => ?_) (fun k k' v v' e e' hk hk' hl => ?_), fun t p ⟨k, v, a1, a2, a3, a4, a5⟩ => ?_⟩
  · by_cases c : k = ks
    · subst c
      rw [g1] at e
      have := Option.some.inj e
      subst this
      rw [z.1, z.2]
      exact ⟨g4, by omega, ⟨w, g8, g9⟩, l1, g6, g7⟩
    · have := (g2 k v c hk e).1
      have b := h.2.1 k v this
      exact ⟨b.1, by omega, h.2.2.2.2.2.2.1 k v this hk⟩
  · by_cases c : k = ks
    · subst c
      rw [g1] at e
      have := Option.some.inj e
      subst this
      obtain ⟨d1, d2, d3⟩ := g2 k' v' (by omega) hk' e'
      have := (h.2.2.2.2.2.2.1 k' v' d1 hk').2.1
      rw [z.1, z.2]
      omega
    · by_cases c' : k' = ks
      · subst c'
        rw [g1] at e'
        have := Option.some.inj e'
        subst this
        obtain ⟨d1, d2, d3⟩ := g2 k v c hk e
        have := (h.2.2.2.2.2.2.1 k v d1 hk).2.1
        rw [z.1, z.2]
        omega
      · exact h.2.2.2.2.2.2.2 k k' v v' (g2 k v c hk e).1 (g2 k' v' c' hk' e').1 hk hk' hl
  · by_cases c : k = ks
    · subst c
      rw [g1] at a1
      have := Option.some.inj a1
      subst this
      rw [z.2] at a4
      rw [z.1] at a5
      rcases c1 t a3 a4 with q | q
      · subst q; exact Or.inr ⟨rfl, by omega⟩
      · rw [a5]; exact Or.inl q
    · exact Or.inl ⟨k, v, (g2 k v c a2 a1).1, a2, a3, a4, a5⟩
end
section
variable {rt we wt : Int32} {a1 a2 a3 a4 a5 a6 a7 a8 a9 a10 a11 a12 a13 a14 : Nat → Int32} {M MS : Nat → Option Nat} {dk : Nat → Int32} {hd : Nat → Nat} {num : Nat} {u : St1}
theorem mt_pu106 {post : St1 → Prop} {k l s : Nat} (h : mt_ok M MS dk hd num (rt, we, wt, a1, a2, a3, a4, a5, a6, a7, a8, a9, a10, a11, a12, a13, a14)) (cd : ct_cd M 84) (hk : k < 4096) (hs : s < 48) (hl : l < 16) (H : ∀ u', mt_ok (tr_up M k (some (16 * s + l))) MS dk hd num u' → post u') : wX_putIn_106 post (nI k) (nI l) (nI s) rt we wt a1 a2 a3 a4 a5 a6 a7 a8 a9 a10 a11 a12 a13 a14 := by
  unfold wX_putIn_106
  rw [show (16 : Int32) = nI 16 from rfl, pk_mul, nI_add]
  refine mt_put h cd hk (by omega) (fun u' hu' => ?_)
  have := H u' hu'
  obtain ⟨rt, we, wt, a1, a2, a3, a4, a5, a6, a7, a8, a9, a10, a11, a12, a13, a14⟩ := u'
  exact this
theorem mt_pu55a {post : St1 → Prop} {n b k l s : Nat} {ob : Option Nat} (h : mt_ok M MS dk hd num (rt, we, wt, a1, a2, a3, a4, a5, a6, a7, a8, a9, a10, a11, a12, a13, a14)) (cd : ct_cd M 84) (hk : k < 4096) (hs : s < 48) (hl : l < 16) (hob : ∀ q, ob = some q → q < 48 ∧ q + 1 ≠ s) (H : ∀ u', mt_ok (tr_up M k (some (16 * s + l))) MS dk hd num u' → post u') :
    wX_putIn_55 post (nI n) (nI b) (nI s) (ge_I ob) (nI k) (nI l) (nI s) rt we wt a1 a2 a3 a4 a5 a6 a7 a8 a9 a10 a11 a12 a13 a14 := by
  cases ob with
  | none => exact br_t (by decide) (mt_pu106 h cd hk hs hl H)
  | some q =>
    have := hob q rfl
    refine br_f (nI_pos (by omega)) (br_f ?_ (mt_pu106 h cd hk hs hl H))
    show ¬ nI q = nI s - 1
    by_cases z : s = 0
    · subst z
      intro e
      exact nI_pos (show q < 2 ^ 31 by omega) (by rw [e]; decide)
    · rw [show s = (s - 1) + 1 by omega, nI_pred]
      intro e
      have := (nI_eq (show q < 2 ^ 31 by omega) (show s - 1 < 2 ^ 31 by omega)).mp e
      omega
theorem mt_pu55b {post : St1 → Prop} {n b k l s k2 v2 q : Nat} (h : mt_ok M MS dk hd num (rt, we, wt, a1, a2, a3, a4, a5, a6, a7, a8, a9, a10, a11, a12, a13, a14)) (cd : ct_cd M 84) (hn : n < 16) (hb : b < 8) (hs : s < 48) (hq : q + 1 = s) (sa : sa_is M n b (some k2)) (hk2 : M k2 = some v2) (hl : l + v2 % 16 < 16) (hv : v2 / 16 < 48) (H : ∀ u', mt_ok (tr_up M k2 (some (16 * (v2 / 16) + (l + v2 % 16)))) MS dk hd num u' → post u') :
    wX_putIn_55 post (nI n) (nI (b + 1)) (nI s) (nI q) (nI k) (nI l) (nI s) rt we wt a1 a2 a3 a4 a5 a6 a7 a8 a9 a10 a11 a12 a13 a14 := by
  have kb := mt_bnd h hk2
  subst hq
  refine br_f (nI_pos (by omega)) (br_t (nI_pred q).symm ?_)
  rw [nI_pred]
  refine mt_sa h hn hb sa ?_
  refine mt_get h kb.1 (fun u' hu' => ?_)
  obtain ⟨rt, we, wt, a1, a2, a3, a4, a5, a6, a7, a8, a9, a10, a11, a12, a13, a14⟩ := u'
  rw [hk2]
  refine nm_r (e' := nI (l + v2 % 16)) (by show nI l + (nI v2 &&& 15) = _; rw [ph_and15 kb.2, nI_add]) (nm_r (e' := nI (v2 / 16)) (ph_shr4 kb.2) ?_)
  exact mt_pu106 hu' cd kb.1 hv hl H
theorem mt_putIn {n b place w : Nat} {ob oh : Option Nat} (hf : fs_ok M) (hn : n < 16) (hb : b < 8) (hw : M (256 * n) = some w) (w2 : w % 4 = 2) (hp : place < 48)
    (nc : ∀ q, ¬ cv_at M (256 * n + 128 + b) q) (np : ∀ t, ¬ cv_at M t place) (hob : (b = 0 ∧ ob = none) ∨ (∃ b', b = b' + 1 ∧ pl_is M n b' ob)) (hoh : (b = 7 ∧ oh = none) ∨ (b < 7 ∧ pl_is M n (b + 1) oh)) :
    ∃ M', fs_ok M' ∧ (∀ k, k % 256 < 128 → M' k = M k) ∧ (∀ t p, cv_at M' t p → cv_at M t p ∨ (t = 256 * n + 128 + b ∧ p = place)) ∧
      ∀ u post, mt_ok M MS dk hd num u → (∀ u', mt_ok M' MS dk hd num u' → post u') → wpX_putIn post u (nI n) (nI b) (nI place) (ge_I ob) (ge_I oh) := by
  have c80 := fs_cd hf
  obtain ⟨f1, f2, f3, f4, f5, f6, f7, f8⟩ := hf
  have hf : fs_ok M := ⟨f1, f2, f3, f4, f5, f6, f7, f8⟩
  have kn : (256 * n + 128 + b) / 256 = n := by omega
  have mb : b < 7 → 128 ≤ (256 * n + 128 + b + 1) % 256 := by clear c80; omega
  have nk : ∀ k, k % 256 < 128 → b < 7 → k ≠ 256 * n + 128 + b + 1 := by
    intro k h1 h2 e
    have := mb h2
    rw [← e] at this; omega
  -- a stretch does not cover the block, nor its place
  have A0 : ∀ k v, M k = some v → 128 ≤ k % 256 → ¬ (k ≤ 256 * n + 128 + b ∧ 256 * n + 128 + b < k + v % 16) ∧ ¬ (v / 16 ≤ place ∧ place < v / 16 + v % 16) := by
    intro k v e hk
    exact ⟨fun z => nc _ ⟨k, v, e, hk, z.1, z.2, rfl⟩, fun z => np (k + (place - v / 16)) ⟨k, v, e, hk, by omega, by omega, by omega⟩⟩
  have AP : ∀ k v k' v', M k = some v → M k' = some v' → 128 ≤ k % 256 → 128 ≤ k' % 256 → k ≠ k' → (k + v % 16 ≤ k' ∨ k' + v' % 16 ≤ k) ∧ (v / 16 + v % 16 ≤ v' / 16 ∨ v' / 16 + v' % 16 ≤ v / 16) := by
    intro k v k' v' e e' hk hk' ne
    rcases Nat.lt_or_ge k k' with c | c
    · have := f8 k k' v v' e e' hk hk' c; omega
    · have := f8 k' k v' v e' e hk' hk (by omega); omega
  have BH : ∀ q, oh = some q → q < 48 ∧ ∃ v1, M (256 * n + 128 + b + 1) = some v1 ∧ v1 / 16 = q ∧ b < 7 := by
    intro q e
    rcases hoh with ⟨_, z⟩ | ⟨z1, z2⟩
    · rw [z] at e; exact absurd e (by simp)
    · rw [e] at z2
      have q48 := pl_48 hf (by omega) z2
      obtain ⟨k, v, e1, e2, e3, e4, e5⟩ := (cv_pl hf (by omega) z2).2 q rfl
      have := (A0 k v e1 e2).1
      have ek : k = 256 * n + 128 + b + 1 := by omega
      subst ek
      exact ⟨q48, v, e1, by omega, z1⟩
  have BF : ∀ q, ob = some q → q < 48 ∧ ∃ b' k2 v2, b = b' + 1 ∧ M k2 = some v2 ∧ 256 * n + 128 ≤ k2 ∧ k2 + v2 % 16 = 256 * n + 128 + b ∧ v2 / 16 + v2 % 16 = q + 1 ∧ 1 ≤ v2 % 16 := by
    intro q e
    rcases hob with ⟨_, z⟩ | ⟨b', z1, z2⟩
    · rw [z] at e; exact absurd e (by simp)
    · rw [e] at z2
      have q48 := pl_48 hf (by omega) z2
      rcases z2 with ⟨z2, _⟩ | ⟨k, v, e1, e2, e3, e4, e5⟩
      · exact absurd z2 (by simp)
      · have := (A0 k v e1 (by omega)).1
        have := Option.some.inj e5
        exact ⟨q48, b', k, v, z1, e1, e2, by omega, by omega, by omega⟩
  have fin : ∀ M', (fs_ok M' ∧ ∀ t p, cv_at M' t p → cv_at M t p ∨ (t = 256 * n + 128 + b ∧ p = place)) → (∀ k, k % 256 < 128 → M' k = M k) →
      (∀ (rt we wt : Int32) (a1 a2 a3 a4 a5 a6 a7 a8 a9 a10 a11 a12 a13 a14 : Nat → Int32) post, mt_ok M MS dk hd num (rt, we, wt, a1, a2, a3, a4, a5, a6, a7, a8, a9, a10, a11, a12, a13, a14) → (∀ u', mt_ok M' MS dk hd num u' → post u') → wpX_putIn post (rt, we, wt, a1, a2, a3, a4, a5, a6, a7, a8, a9, a10, a11, a12, a13, a14) (nI n) (nI b) (nI place) (ge_I ob) (ge_I oh)) →
      ∃ M', fs_ok M' ∧ (∀ k, k % 256 < 128 → M' k = M k) ∧ (∀ t p, cv_at M' t p → cv_at M t p ∨ (t = 256 * n + 128 + b ∧ p = place)) ∧
        ∀ u post, mt_ok M MS dk hd num u → (∀ u', mt_ok M' MS dk hd num u' → post u') → wpX_putIn post u (nI n) (nI b) (nI place) (ge_I ob) (ge_I oh) := by
    intro M' g1 g2 g3
    refine ⟨M', g1.1, g2, g1.2, fun u post hu H => ?_⟩
    obtain ⟨rt, we, wt, a1, a2, a3, a4, a5, a6, a7, a8, a9, a10, a11, a12, a13, a14⟩ := u
    exact g3 _ _ _ _ _ _ _ _ _ _ _ _ _ _ _ _ _ post hu H
  by_cases cb : oh = some (place + 1)
  · -- melted with the stretch behind
    obtain ⟨_, v1, d1, d2, d3⟩ := BH _ cb
    have v1f := f7 _ v1 d1 (mb d3)
    have v1b : ∀ u, mt_ok M MS dk hd num u → v1 < 32768 := fun u hu => (mt_bnd hu d1).2
    have go : ∀ M' (rt we wt : Int32) (a1 a2 a3 a4 a5 a6 a7 a8 a9 a10 a11 a12 a13 a14 : Nat → Int32) post, mt_ok M MS dk hd num (rt, we, wt, a1, a2, a3, a4, a5, a6, a7, a8, a9, a10, a11, a12, a13, a14) → (∀ u', mt_ok M' MS dk hd num u' → post u') →
        (∀ (rt we wt : Int32) (a1 a2 a3 a4 a5 a6 a7 a8 a9 a10 a11 a12 a13 a14 : Nat → Int32), mt_ok (tr_up M (256 * n + 128 + b + 1) none) MS dk hd num (rt, we, wt, a1, a2, a3, a4, a5, a6, a7, a8, a9, a10, a11, a12, a13, a14) → wX_putIn_55 post (nI n) (nI b) (nI place) (ge_I ob) (nI (256 * n + 128 + b)) (nI (1 + v1 % 16)) (nI place) rt we wt a1 a2 a3 a4 a5 a6 a7 a8 a9 a10 a11 a12 a13 a14) →
        wpX_putIn post (rt, we, wt, a1, a2, a3, a4, a5, a6, a7, a8, a9, a10, a11, a12, a13, a14) (nI n) (nI b) (nI place) (ge_I ob) (ge_I oh) := by
      intro M' rt we wt a1 a2 a3 a4 a5 a6 a7 a8 a9 a10 a11 a12 a13 a14 post hu H K
      refine nm_r (e' := nI (256 * n + 128 + b)) (ph_str n b) (br_t (by rw [cb, nI_1]; rfl) ?_)
      rw [nI_1]
      refine mt_get hu (by omega) (fun u' hu' => ?_)
      rw [d1]
      obtain ⟨rt, we, wt, a1, a2, a3, a4, a5, a6, a7, a8, a9, a10, a11, a12, a13, a14⟩ := u'
      refine nm_r (e' := nI (1 + v1 % 16)) (by show 1 + (nI v1 &&& 15) = _; rw [ph_and15 (v1b _ hu), show (1 : Int32) = nI 1 from rfl, nI_add]) ?_
      refine mt_rem hu' d1 ⟨0, 1, by omega, f1⟩ (fun u2 hu2 => ?_)
      obtain ⟨rt, we, wt, a1, a2, a3, a4, a5, a6, a7, a8, a9, a10, a11, a12, a13, a14⟩ := u2
      exact K _ _ _ _ _ _ _ _ _ _ _ _ _ _ _ _ _ hu2
    by_cases ca : ∃ q, ob = some q ∧ q + 1 = place
    · -- .. and with the one before
      obtain ⟨q, q1, q2⟩ := ca
      obtain ⟨_, b', k2, v2, e0, e1, e2, e3, e4, e5⟩ := BF q q1
      subst e0
      have k2m : 128 ≤ k2 % 256 := by omega
      have v2f := f7 k2 v2 e1 k2m
      have k21 : k2 ≠ 256 * n + 128 + (b' + 1) + 1 := by omega
      refine fin (tr_up (tr_up M (256 * n + 128 + (b' + 1) + 1) none) k2 (some (16 * (v2 / 16) + (1 + v1 % 16 + v2 % 16)))) (pu_gen (ks := k2) (ss := v2 / 16) (ls := 1 + v1 % 16 + v2 % 16) (w := w) hf tr_upS (by omega) (by omega) (fun k v ne hk e => ?_) (fun k hk => ?_) (by omega) k2m (by omega) (by omega) (by rw [show k2 / 256 = n by omega]; exact hw) w2 (fun t t1 t2 => ?_) (by omega)) (fun k hk => ?_) (fun rt we wt a1 a2 a3 a4 a5 a6 a7 a8 a9 a10 a11 a12 a13 a14 post hu H => ?_)
      · rw [tr_upN ne] at e
        have k1 : k ≠ 256 * n + 128 + (b' + 1) + 1 := by intro z; rw [z, tr_upS] at e; exact absurd e (by simp)
        rw [tr_upN k1] at e
        have x0 := A0 k v e hk
        have x1 := AP k v _ v1 e d1 hk (mb d3) k1
        have x2 := AP k v k2 v2 e e1 hk k2m ne
        have x3 := (f7 k v e hk).2.1
        exact ⟨e, by omega, by omega⟩
      · rw [tr_upN (by omega), tr_upN (nk k hk d3)]
      · by_cases z : t = 256 * n + 128 + (b' + 1)
        · exact Or.inl z
        · right
          rcases Nat.lt_or_ge t (256 * n + 128 + (b' + 1)) with c | c
          · exact ⟨k2, v2, e1, k2m, t1, by omega, rfl⟩
          · exact ⟨_, v1, d1, mb d3, show 256 * n + 128 + (b' + 1) + 1 ≤ t by omega, by omega, by omega⟩
      · rw [tr_upN (by omega), tr_upN (nk k hk d3)]
      · refine go (tr_up (tr_up M (256 * n + 128 + (b' + 1) + 1) none) k2 (some (16 * (v2 / 16) + (1 + v1 % 16 + v2 % 16)))) rt we wt a1 a2 a3 a4 a5 a6 a7 a8 a9 a10 a11 a12 a13 a14 post hu H (fun rt we wt a1 a2 a3 a4 a5 a6 a7 a8 a9 a10 a11 a12 a13 a14 hu' => ?_)
        rw [q1]
        refine mt_pu55b (k2 := k2) (v2 := v2) (b := b') hu' (ct_mono (ct_del c80 _) (by omega)) hn (by omega) hp q2 (Or.inr ⟨k2, v2, rfl, by rw [tr_upN k21]; exact e1, e2, by omega, fun k w' a c => ?_⟩) (by rw [tr_upN k21]; exact e1) (by omega) (by omega) H
        have k1 : k ≠ 256 * n + 128 + (b' + 1) + 1 := by omega
        rw [tr_upN k1] at a
        exact fs_cov hf (show b' < 8 by omega) e1 e2 (by omega) (by omega) k w' a c
    · refine fin (tr_up (tr_up M (256 * n + 128 + b + 1) none) (256 * n + 128 + b) (some (16 * place + (1 + v1 % 16)))) (pu_gen (ks := 256 * n + 128 + b) (ss := place) (ls := 1 + v1 % 16) (w := w) hf tr_upS (by omega) (by omega) (fun k v ne hk e => ?_) (fun k hk => ?_) (by omega) (by omega) (by omega) (by omega) (by rw [kn]; exact hw) w2 (fun t t1 t2 => ?_) (by omega)) (fun k hk => ?_) (fun rt we wt a1 a2 a3 a4 a5 a6 a7 a8 a9 a10 a11 a12 a13 a14 post hu H => ?_)
      · rw [tr_upN ne] at e
        have k1 : k ≠ 256 * n + 128 + b + 1 := by intro z; rw [z, tr_upS] at e; exact absurd e (by simp)
        rw [tr_upN k1] at e
        have x0 := A0 k v e hk
        have x1 := AP k v _ v1 e d1 hk (mb d3) k1
        have x3 := (f7 k v e hk).2.1
        exact ⟨e, by omega, by omega⟩
      · rw [tr_upN (by omega), tr_upN (nk k hk d3)]
      · by_cases z : t = 256 * n + 128 + b
        · exact Or.inl z
        · exact Or.inr ⟨_, v1, d1, mb d3, show 256 * n + 128 + b + 1 ≤ t by omega, by omega, by omega⟩
      · rw [tr_upN (by omega), tr_upN (nk k hk d3)]
      · refine go (tr_up (tr_up M (256 * n + 128 + b + 1) none) (256 * n + 128 + b) (some (16 * place + (1 + v1 % 16)))) rt we wt a1 a2 a3 a4 a5 a6 a7 a8 a9 a10 a11 a12 a13 a14 post hu H (fun rt we wt a1 a2 a3 a4 a5 a6 a7 a8 a9 a10 a11 a12 a13 a14 hu' => ?_)
        exact mt_pu55a hu' (ct_mono (ct_del c80 _) (by omega)) (by omega) hp (by omega) (fun q e => ⟨(BF q e).1, fun z => ca ⟨q, e, z⟩⟩) H
  · have go : ∀ (rt we wt : Int32) (a1 a2 a3 a4 a5 a6 a7 a8 a9 a10 a11 a12 a13 a14 : Nat → Int32) post, wX_putIn_55 post (nI n) (nI b) (nI place) (ge_I ob) (nI (256 * n + 128 + b)) (nI 1) (nI place) rt we wt a1 a2 a3 a4 a5 a6 a7 a8 a9 a10 a11 a12 a13 a14 → wpX_putIn post (rt, we, wt, a1, a2, a3, a4, a5, a6, a7, a8, a9, a10, a11, a12, a13, a14) (nI n) (nI b) (nI place) (ge_I ob) (ge_I oh) := by
      intro rt we wt a1 a2 a3 a4 a5 a6 a7 a8 a9 a10 a11 a12 a13 a14 post K
      refine nm_r (e' := nI (256 * n + 128 + b)) (ph_str n b) (br_f ?_ K)
      rw [nI_1]
      cases oh with
      | none =>
        intro e
        have e2 : (-1 : Int32) = nI (place + 1) := e
        exact nI_pos (show place + 1 < 2 ^ 31 by omega) (by rw [← e2]; decide)
      | some q =>
        intro e
        have := (BH q rfl).1
        have := (nI_eq (show q < 2 ^ 31 by omega) (show place + 1 < 2 ^ 31 by omega)).mp e
        exact cb (by rw [this])
    by_cases ca : ∃ q, ob = some q ∧ q + 1 = place
    · obtain ⟨q, q1, q2⟩ := ca
      obtain ⟨_, b', k2, v2, e0, e1, e2, e3, e4, e5⟩ := BF q q1
      subst e0
      have k2m : 128 ≤ k2 % 256 := by omega
      have v2f := f7 k2 v2 e1 k2m
      refine fin (tr_up M k2 (some (16 * (v2 / 16) + (1 + v2 % 16)))) (pu_gen (ks := k2) (ss := v2 / 16) (ls := 1 + v2 % 16) (w := w) hf tr_upS (by omega) (by omega) (fun k v ne hk e => ?_) (fun k hk => tr_upN (by omega)) (by omega) k2m (by omega) (by omega) (by rw [show k2 / 256 = n by omega]; exact hw) w2 (fun t t1 t2 => ?_) (by omega)) (fun k hk => tr_upN (by omega)) (fun rt we wt a1 a2 a3 a4 a5 a6 a7 a8 a9 a10 a11 a12 a13 a14 post hu H => ?_)
      · rw [tr_upN ne] at e
        have x0 := A0 k v e hk
        have x2 := AP k v k2 v2 e e1 hk k2m ne
        have x3 := (f7 k v e hk).2.1
        exact ⟨e, by omega, by omega⟩
      · by_cases z : t = 256 * n + 128 + (b' + 1)
        · exact Or.inl z
        · exact Or.inr ⟨k2, v2, e1, k2m, t1, by omega, rfl⟩
      · refine go rt we wt a1 a2 a3 a4 a5 a6 a7 a8 a9 a10 a11 a12 a13 a14 post ?_
        rw [q1]
        exact mt_pu55b (k2 := k2) (v2 := v2) (b := b') hu (ct_mono c80 (by omega)) hn (by omega) hp q2 (Or.inr ⟨k2, v2, rfl, e1, e2, by omega, fs_cov hf (show b' < 8 by omega) e1 e2 (by omega) (by omega)⟩) e1 (by omega) (by omega) H
    · refine fin (tr_up M (256 * n + 128 + b) (some (16 * place + 1))) (pu_gen (ks := 256 * n + 128 + b) (ss := place) (ls := 1) (w := w) hf tr_upS (by omega) (by omega) (fun k v ne hk e => ?_) (fun k hk => tr_upN (by omega)) (by omega) (by omega) (by omega) (by omega) (by rw [kn]; exact hw) w2 (fun t t1 t2 => Or.inl (by omega)) (by omega)) (fun k hk => tr_upN (by omega)) (fun rt we wt a1 a2 a3 a4 a5 a6 a7 a8 a9 a10 a11 a12 a13 a14 post hu H => ?_)
      · rw [tr_upN ne] at e
        have x0 := A0 k v e hk
        have x3 := (f7 k v e hk).2.1
        exact ⟨e, by omega, by omega⟩
      · refine go rt we wt a1 a2 a3 a4 a5 a6 a7 a8 a9 a10 a11 a12 a13 a14 post ?_
        exact mt_pu55a hu (ct_mono c80 (by omega)) (by omega) hp (by omega) (fun q e => ⟨(BF q e).1, fun z => ca ⟨q, e, z⟩⟩) H
end
end
section
/-! moveBlock, write -/
def cp_ok (M MS : Nat → Option Nat) : Prop := ∃ z, z < 2 ^ 48 ∧ (∀ p, z.testBit p = true ↔ bk_in M p ∨ bk_in MS p) ∧ bk_cnt z 48 ≤ 24
def iv_ok (M MS : Nat → Option Nat) (hd : Nat → Nat) : Prop := fs_ok M ∧ fs_ok MS ∧ hd_ok M hd ∧ cp_ok M MS
def rm_ok (M MS : Nat → Option Nat) (dk : Nat → Int32) (hd : Nat → Nat) (num : Nat) (W : (Int32 → St1 → Prop) → St1 → Prop) : Prop :=
  ∃ r M' dk' hd', iv_ok M' MS hd' ∧ ∀ u post, mt_ok M MS dk hd num u → (∀ u', mt_ok M' MS dk' hd' num u' → post r u') → W post u
theorem bk_cntAdd {z z' q : Nat} (h : ∀ p, z'.testBit p = true → z.testBit p = true ∨ p = q) : ∀ n, bk_cnt z' n ≤ bk_cnt z n + if q < n then 1 else 0 := by
  intro n
  induction n with
  | zero => exact Nat.zero_le _
  | succ n ih =>
    show bk_cnt z' n + z' / 2 ^ n % 2 ≤ bk_cnt z n + z / 2 ^ n % 2 + _
    rw [← Nat.toNat_testBit, ← Nat.toNat_testBit]
    have hn := h n
    cases e : z'.testBit n with
    | false =>
      simp only [Bool.toNat_false]
      split <;> split at ih <;> omega
    | true =>
      simp only [Bool.toNat_true]
      rcases hn e with a | a
      · rw [a]
        simp only [Bool.toNat_true]
        split <;> split at ih <;> omega
      · subst a
        rw [if_neg (by omega)] at ih
        rw [if_pos (by omega)]
        omega
theorem bk_cntMono {z z' : Nat} (h : ∀ p, z'.testBit p = true → z.testBit p = true) (n : Nat) : bk_cnt z' n ≤ bk_cnt z n := by
  have := bk_cntAdd (q := n) (fun p e => Or.inl (h p e)) n
  rw [if_neg (by omega)] at this
  exact this
theorem bk_full {z : Nat} : ∀ n, (∀ p, p < n → z.testBit p = true) → bk_cnt z n = n := by
  intro n
  induction n with
  | zero => intro _; rfl
  | succ n ih =>
    intro h
    show bk_cnt z n + z / 2 ^ n % 2 = n + 1
    rw [ih (fun p hp => h p (by omega)), ← Nat.toNat_testBit, h n (by omega)]
    rfl
theorem bk_room {z : Nat} (h : bk_cnt z 48 < 24) : ∃ p, p < 48 ∧ z.testBit p = false := by
  apply Classical.byContradiction
  intro hc
  have := bk_full (z := z) 48 (fun p hp => by
    cases e : z.testBit p with
    | true => rfl
    | false => exact absurd ⟨p, hp, e⟩ hc)
  omega
theorem cp_sub {A B M MS : Nat → Option Nat} (h : cp_ok M MS) (hA : bk_fit A) (hB : bk_fit B) (e : ∀ p, bk_in A p ∨ bk_in B p → bk_in M p ∨ bk_in MS p) : cp_ok A B := by
  obtain ⟨z, z1, z2, z3⟩ := h
  obtain ⟨z', y1, y2⟩ := bk_z hA hB
  refine ⟨z', y1, y2, ?_⟩
  have := bk_cntMono (z := z) (z' := z') (fun p q => (z2 p).mpr (e p ((y2 p).mp q))) 48
  omega
theorem bk_bit {z k : Nat} (hz : z < 2 ^ 48) (hk : k < 64) : ((lN z).toUInt64 >>> ((nI k).toInt64.toUInt64 &&& Int64.toUInt64 63)).toInt64 &&& 1 = 0 ↔ z.testBit k = false := by
  have p48 : (2 : Nat) ^ 48 < 2 ^ 64 := by decide
  rw [wb_bit (by omega) hk, show (0 : Int64) = lN 0 from rfl, lN_eq (by have := Nat.mod_lt (z / 2 ^ k) (show 0 < 2 by omega); omega) (by omega), ← Nat.toNat_testBit]
  cases z.testBit k <;> simp
def mv_dk (dk : Nat → Int32) (place : Nat) (oo : Option Nat) : Nat → Nat → Int32
  | 0 => dk
  | i + 1 => upd (mv_dk dk place oo i) (4 * place + i) (match oo with | none => 0 | some q => mv_dk dk place oo i (4 * q + i))
section
variable {rt we wt : Int32} {a1 a2 a3 a4 a5 a6 a7 a8 a9 a10 a11 a12 a13 a14 : Nat → Int32} {M MS : Nat → Option Nat} {dk : Nat → Int32} {hd : Nat → Nat} {num : Nat} {u : St1}
theorem mv_135 {post : Int32 → St1 → Prop} {n b place : Nat} {oo : Option Nat} {xb xh : Int32} (hp : place < 48) (ho : ∀ q, oo = some q → q < 48)
    (H : wpX_putIn (fun u => post (nI place) u) (rt, we, wt, a1, a2, a3, a4, a5, a6, a7, a8, a9, mv_dk a10 place oo 4, a11, a12, a13, a14) (nI n) (nI b) (nI place) xb xh) : ∃ f, wX_moveBlock_135 post (nI n) (nI b) (ge_I oo) xb xh (nI place) rt we wt f 0 a1 a2 a3 a4 a5 a6 a7 a8 a9 a10 a11 a12 a13 a14 := by
  refine pk_loop (σ := Unit) (fun f i _ => wX_moveBlock_135 post (nI n) (nI b) (ge_I oo) xb xh (nI place) rt we wt f (nI i) a1 a2 a3 a4 a5 a6 a7 a8 a9 (mv_dk a10 place oo i) a11 a12 a13 a14) (fun _ _ => True) 4 0 () (by omega) trivial ?_ ?_
  · intro f _ _
    exact pk_le 4 4 (fun _ => H) (fun z => absurd z (by omega))
  · intro f i _ hi1 _ hw
    refine pk_le 4 i (fun z => absurd z (by omega)) (fun _ => ?_)
    have nx := hw () trivial
    cases oo with
    | none =>
      exact br_t (by decide) ⟨pk_in (4 * place + i) 192 (by omega) (ph_i4 place i), nm_r (e' := mv_dk a10 place none (i + 1)) (by rw [ph_i4, nI_clamp (by omega)]; rfl) (nm_r (nI_1 i) nx)⟩
    | some q =>
      have q48 := ho q rfl
      refine br_f (nI_pos (by omega)) ⟨pk_in (4 * q + i) 192 (by omega) (ph_i4 q i), pk_in (4 * place + i) 192 (by omega) (ph_i4 place i), nm_r (e' := mv_dk a10 place (some q) (i + 1)) ?_ (nm_r (nI_1 i) nx)⟩
      show upd (mv_dk a10 place (some q) i) (4 * nI place + nI i).toNatClampNeg (mv_dk a10 place (some q) i (4 * nI q + nI i).toNatClampNeg) = _
      rw [ph_i4, ph_i4, nI_clamp (by omega), nI_clamp (by omega)]
      rfl
theorem mv_114 {post : Int32 → St1 → Prop} {n b z pl : Nat} {x3 xb xh : Int32} (hz : z < 2 ^ 48) (p1 : pl < 48) (p2 : z.testBit pl = false) (p3 : ∀ j, j < pl → ¬ z.testBit j = false)
    (H : ∃ f, wX_moveBlock_135 post (nI n) (nI b) x3 xb xh (nI pl) rt we wt f 0 a1 a2 a3 a4 a5 a6 a7 a8 a9 a10 a11 a12 a13 a14) : ∃ f, wX_moveBlock_114 post (nI n) (nI b) x3 (lN z) xb xh rt we wt a1 a2 a3 a4 a5 a6 a7 a8 a9 a10 a11 a12 a13 a14 f 0 := by
  refine pk_loop (σ := Unit) (fun f i _ => wX_moveBlock_114 post (nI n) (nI b) x3 (lN z) xb xh rt we wt a1 a2 a3 a4 a5 a6 a7 a8 a9 a10 a11 a12 a13 a14 f (nI i)) (fun _ _ => True) pl 0 () (by omega) trivial ?_ ?_
  · intro f _ _
    exact br_t ((bk_bit hz (by omega)).mpr p2) H
  · intro f i _ hi1 _ hw
    exact br_f (fun e => p3 i hi1 ((bk_bit hz (by omega)).mp e)) (nm_r (nI_1 i) (hw () trivial))
/-- the new place of a block -/
theorem mv_place {z : Nat} {ob oh : Option Nat} (hz : z < 2 ^ 48) (hr : ∃ p, p < 48 ∧ z.testBit p = false) (hb : ∀ q, ob = some q → q < 48) (hh : ∀ q, oh = some q → q < 48) :
    ∃ place, place < 48 ∧ z.testBit place = false ∧ ∀ (rt we wt : Int32) (a1 a2 a3 a4 a5 a6 a7 a8 a9 a10 a11 a12 a13 a14 : Nat → Int32) (post : Int32 → St1 → Prop) (n b : Nat) (x3 : Int32),
      (∃ f, wX_moveBlock_135 post (nI n) (nI b) x3 (ge_I ob) (ge_I oh) (nI place) rt we wt f 0 a1 a2 a3 a4 a5 a6 a7 a8 a9 a10 a11 a12 a13 a14) → wX_moveBlock_46 post (nI n) (nI b) x3 (lN z) (ge_I ob) (ge_I oh) rt we wt a1 a2 a3 a4 a5 a6 a7 a8 a9 a10 a11 a12 a13 a14 := by
  obtain ⟨fp, ⟨f1, f2⟩, f3⟩ := pk_least (fun p => p < 48 ∧ z.testBit p = false) hr
  have f3' : ∀ j, j < fp → ¬ z.testBit j = false := fun j hj e => f3 j hj ⟨by omega, e⟩
  -- behind the try before
  have B : ∃ place, place < 48 ∧ z.testBit place = false ∧ ∀ (rt we wt : Int32) (a1 a2 a3 a4 a5 a6 a7 a8 a9 a10 a11 a12 a13 a14 : Nat → Int32) (post : Int32 → St1 → Prop) (n b : Nat) (x3 : Int32),
      (∃ f, wX_moveBlock_135 post (nI n) (nI b) x3 (ge_I ob) (ge_I oh) (nI place) rt we wt f 0 a1 a2 a3 a4 a5 a6 a7 a8 a9 a10 a11 a12 a13 a14) → wX_moveBlock_86 post (nI n) (nI b) x3 (lN z) (ge_I ob) (ge_I oh) 0 rt we wt a1 a2 a3 a4 a5 a6 a7 a8 a9 a10 a11 a12 a13 a14 := by
    cases oh with
    | none => exact ⟨fp, f1, f2, fun rt we wt a1 a2 a3 a4 a5 a6 a7 a8 a9 a10 a11 a12 a13 a14 post n b x3 H => br_t (by decide) (mv_114 hz f1 f2 f3' H)⟩
    | some q =>
      have q48 := hh q rfl
      by_cases c : 0 < q ∧ z.testBit (q - 1) = false
      · refine ⟨q - 1, by omega, c.2, fun rt we wt a1 a2 a3 a4 a5 a6 a7 a8 a9 a10 a11 a12 a13 a14 post n b x3 H => pk_le q 0 (fun w => absurd w (by omega)) (fun _ => ?_)⟩
        have e : ge_I (some q) - 1 = nI (q - 1) := by show nI q - 1 = _; rw [show q = (q - 1) + 1 by omega, nI_pred]; rfl
        rw [e]
        exact br_t ((bk_bit hz (by omega)).mpr c.2) (nm_r rfl H)
      · refine ⟨fp, f1, f2, fun rt we wt a1 a2 a3 a4 a5 a6 a7 a8 a9 a10 a11 a12 a13 a14 post n b x3 H => pk_le q 0 (fun w => mv_114 hz f1 f2 f3' H) (fun w => ?_)⟩
        have e : ge_I (some q) - 1 = nI (q - 1) := by show nI q - 1 = _; rw [show q = (q - 1) + 1 by omega, nI_pred]; rfl
        rw [e]
        exact br_f (fun y => c ⟨w, (bk_bit hz (by omega)).mp y⟩) (mv_114 hz f1 f2 f3' H)
  obtain ⟨bp, b1, b2, b3⟩ := B
  cases ob with
  | none => exact ⟨bp, b1, b2, fun rt we wt a1 a2 a3 a4 a5 a6 a7 a8 a9 a10 a11 a12 a13 a14 post n b x3 H => br_t (by decide) (b3 _ _ _ _ _ _ _ _ _ _ _ _ _ _ _ _ _ post n b x3 H)⟩
  | some q =>
    have q48 := hb q rfl
    have e : ge_I (some q) + 1 = nI (q + 1) := nI_1 q
    by_cases c : q < 47 ∧ z.testBit (q + 1) = false
    · refine ⟨q + 1, by omega, c.2, fun rt we wt a1 a2 a3 a4 a5 a6 a7 a8 a9 a10 a11 a12 a13 a14 post n b x3 H => br_f (nI_pos (by omega)) (pk_le 47 q (fun w => absurd w (by omega)) (fun _ => ?_))⟩
      rw [e]
      exact br_t ((bk_bit hz (by omega)).mpr c.2) (nm_r rfl H)
    · refine ⟨bp, b1, b2, fun rt we wt a1 a2 a3 a4 a5 a6 a7 a8 a9 a10 a11 a12 a13 a14 post n b x3 H => br_f (nI_pos (by omega)) (pk_le 47 q (fun w => b3 _ _ _ _ _ _ _ _ _ _ _ _ _ _ _ _ _ post n b x3 H) (fun w => ?_))⟩
      rw [e]
      exact br_f (fun y => c ⟨w, (bk_bit hz (by omega)).mp y⟩) (b3 _ _ _ _ _ _ _ _ _ _ _ _ _ _ _ _ _ post n b x3 H)
theorem mt_move {n b w z : Nat} {oo : Option Nat} (hf : fs_ok M) (hn : n < 16) (hb : b < 8) (hw : M (256 * n) = some w) (w2 : w % 4 = 2) (ho : pl_is M n b oo) (hz : z < 2 ^ 48) (hzM : ∀ p, bk_in M p → z.testBit p = true) (hr : ∃ p, p < 48 ∧ z.testBit p = false) :
    ∃ M' dk' place, place < 48 ∧ fs_ok M' ∧ (∀ k, k % 256 < 128 → M' k = M k) ∧ (∀ p, bk_in M' p → bk_in M p ∨ p = place) ∧
      ∀ u post, mt_ok M MS dk hd num u → (∀ u', mt_ok M' MS dk' hd num u' → post (nI place) u') → wpX_moveBlock post u (nI n) (nI b) (ge_I oo) (lN z) := by
  have o48 : ∀ q, oo = some q → q < 48 := fun q e => pl_48 hf hb (by rw [← e]; exact ho)
  -- the block left out
  have S1 : ∃ M2, fs_ok M2 ∧ (∀ k, k % 256 < 128 → M2 k = M k) ∧ (∀ t p, cv_at M2 t p → cv_at M t p) ∧ (∀ q, ¬ cv_at M2 (256 * n + 128 + b) q) ∧
      ∀ u post, mt_ok M MS dk hd num u → (∀ u', mt_ok M2 MS dk hd num u' → match u' with | (rt, we, wt, a1, a2, a3, a4, a5, a6, a7, a8, a9, a10, a11, a12, a13, a14) => wX_moveBlock_10 post (nI n) (nI b) (ge_I oo) (lN z) rt we wt a1 a2 a3 a4 a5 a6 a7 a8 a9 a10 a11 a12 a13 a14) → wpX_moveBlock post u (nI n) (nI b) (ge_I oo) (lN z) := by
    cases oo with
    | none =>
      refine ⟨M, hf, fun _ _ => rfl, fun _ _ e => e, (cv_pl hf hb ho).1 rfl, fun u post hu H => ?_⟩
      have := H u hu
      obtain ⟨rt, we, wt, a1, a2, a3, a4, a5, a6, a7, a8, a9, a10, a11, a12, a13, a14⟩ := u
      exact br_t (by decide) this
    | some q =>
      obtain ⟨k0, v0, e1, e2, e3, e4, e5⟩ := (cv_pl hf hb ho).2 q rfl
      obtain ⟨l1, l2, l3⟩ := lx_ok (o := 256 * n + 128 + b - k0) hf e1 e2 (by omega)
      refine ⟨_, l1, l2, fun t p e => (l3 t p e).1, fun q' e => (l3 _ _ e).2 (by omega), fun u post hu H => ?_⟩
      obtain ⟨rt, we, wt, a1, a2, a3, a4, a5, a6, a7, a8, a9, a10, a11, a12, a13, a14⟩ := u
      have := o48 q rfl
      refine br_f (nI_pos (by omega)) ?_
      refine mt_leave (q := q) hu hf hn hb e1 e2 e3 e4 (fun u2 hu2 => ?_)
      have := H u2 hu2
      obtain ⟨rt, we, wt, a1, a2, a3, a4, a5, a6, a7, a8, a9, a10, a11, a12, a13, a14⟩ := u2
      exact this
  obtain ⟨M2, g1, g2, g3, g4, g5⟩ := S1
  have hw2 : M2 (256 * n) = some w := by rw [g2 _ (by omega)]; exact hw
  -- its neighbours
  obtain ⟨ob, hob⟩ : ∃ ob, (b = 0 ∧ ob = none) ∨ (∃ b', b = b' + 1 ∧ pl_is M2 n b' ob) := by
    cases b with
    | zero => exact ⟨none, Or.inl ⟨rfl, rfl⟩⟩
    | succ b' =>
      obtain ⟨o, h⟩ := pl_ex M2 n b'
      exact ⟨o, Or.inr ⟨b', rfl, h⟩⟩
  obtain ⟨oh, hoh⟩ : ∃ oh, (b = 7 ∧ oh = none) ∨ (b < 7 ∧ pl_is M2 n (b + 1) oh) := by
    by_cases c : b = 7
    · exact ⟨none, Or.inl ⟨c, rfl⟩⟩
    · obtain ⟨o, h⟩ := pl_ex M2 n (b + 1)
      exact ⟨o, Or.inr ⟨by omega, h⟩⟩
  have b48 : ∀ q, ob = some q → q < 48 := by
    intro q e
    rcases hob with ⟨_, z⟩ | ⟨b', z1, z2⟩
    · rw [z] at e; exact absurd e (by simp)
    · exact pl_48 g1 (show b' < 8 by omega) (by rw [← e]; exact z2)
  have h48 : ∀ q, oh = some q → q < 48 := by
    intro q e
    rcases hoh with ⟨_, z⟩ | ⟨z1, z2⟩
    · rw [z] at e; exact absurd e (by simp)
    · exact pl_48 g1 (show b + 1 < 8 by omega) (by rw [← e]; exact z2)
  obtain ⟨place, p1, p2, p3⟩ := mv_place hz hr b48 h48
  have np : ∀ t, ¬ cv_at M2 t place := by
    intro t e
    have := hzM place (cv_bk.mpr ⟨t, g3 t place e⟩)
    rw [p2] at this
    exact absurd this (by simp)
  obtain ⟨M', q1, q2, q3, q4⟩ := mt_putIn (MS := MS) (dk := mv_dk dk place oo 4) (hd := hd) (num := num) (ob := ob) (oh := oh) g1 hn hb hw2 w2 p1 g4 np hob hoh
  refine ⟨M', mv_dk dk place oo 4, place, p1, q1, fun k hk => by rw [q2 k hk, g2 k hk], fun p e => ?_, fun u post hu H => g5 u post hu (fun u' hu' => ?_)⟩
  · obtain ⟨t, ht⟩ := cv_bk.mp e
    rcases q3 t p ht with a | a
    · exact Or.inl (cv_bk.mpr ⟨t, g3 t p a⟩)
    · exact Or.inr a.2
  · -- the end: the disk is copied, the stretch put in
    have last : ∀ u', mt_ok M2 MS dk hd num u' → match u' with | (rt, we, wt, a1, a2, a3, a4, a5, a6, a7, a8, a9, a10, a11, a12, a13, a14) => wX_moveBlock_46 post (nI n) (nI b) (ge_I oo) (lN z) (ge_I ob) (ge_I oh) rt we wt a1 a2 a3 a4 a5 a6 a7 a8 a9 a10 a11 a12 a13 a14 := by
      intro u' hu'
      obtain ⟨rt, we, wt, a1, a2, a3, a4, a5, a6, a7, a8, a9, a10, a11, a12, a13, a14⟩ := u'
      refine p3 _ _ _ _ _ _ _ _ _ _ _ _ _ _ _ _ _ post n b _ (mv_135 p1 o48 ?_)
      have e := mt_dk hu'
      refine q4 _ _ ?_ (fun u2 hu2 => H u2 hu2)
      have := mt_setDk (d' := mv_dk a10 place oo 4) hu'
      rw [← e]; exact this
    have mid : ∀ u', mt_ok M2 MS dk hd num u' → match u' with | (rt, we, wt, a1, a2, a3, a4, a5, a6, a7, a8, a9, a10, a11, a12, a13, a14) => wX_moveBlock_26 post (nI n) (nI b) (ge_I oo) (lN z) (ge_I ob) rt we wt a1 a2 a3 a4 a5 a6 a7 a8 a9 a10 a11 a12 a13 a14 := by
      intro u' hu'
      have l := last u' hu'
      obtain ⟨rt, we, wt, a1, a2, a3, a4, a5, a6, a7, a8, a9, a10, a11, a12, a13, a14⟩ := u'
      rcases hoh with ⟨z1, z2⟩ | ⟨z1, z2⟩
      · refine pk_le 7 b (fun _ => ?_) (fun z => absurd z (by omega))
        rw [z2] at l; exact l
      · refine pk_le 7 b (fun z => absurd z (by omega)) (fun _ => ?_)
        rw [nI_1]
        refine mt_pl hu' g1 hn (by omega) z2 (fun u2 hu2 => ?_)
        have l := last u2 hu2
        obtain ⟨rt, we, wt, a1, a2, a3, a4, a5, a6, a7, a8, a9, a10, a11, a12, a13, a14⟩ := u2
        exact l
    have l := mid u' hu'
    obtain ⟨rt, we, wt, a1, a2, a3, a4, a5, a6, a7, a8, a9, a10, a11, a12, a13, a14⟩ := u'
    rcases hob with ⟨z1, z2⟩ | ⟨b', z1, z2⟩
    · refine pk_le b 0 (fun _ => ?_) (fun z => absurd z (by omega))
      rw [z2] at l; exact l
    · refine pk_le b 0 (fun z => absurd z (by omega)) (fun _ => ?_)
      rw [show nI b - 1 = nI b' by rw [z1, nI_pred]]
      refine mt_pl hu' g1 hn (by omega) z2 (fun u2 hu2 => ?_)
      have l := mid u2 hu2
      obtain ⟨rt, we, wt, a1, a2, a3, a4, a5, a6, a7, a8, a9, a10, a11, a12, a13, a14⟩ := u2
      exact l
end
end
section
/-! write, cut, the opening of a handle -/
theorem hd_same {M M' : Nat → Option Nat} {hd : Nat → Nat} (h : hd_ok M hd) (e : ∀ k, k % 256 < 128 → M' k = M k) : hd_ok M' hd := by
  refine ⟨h.1, fun i hi => ?_⟩
  rcases h.2 i hi with a | ⟨a, w, hw⟩
  · exact Or.inl a
  · exact Or.inr ⟨a, w, by rw [e _ (by omega)]; exact hw⟩
section
variable {rt we wt : Int32} {a1 a2 a3 a4 a5 a6 a7 a8 a9 a10 a11 a12 a13 a14 : Nat → Int32} {M MS : Nat → Option Nat} {dk : Nat → Int32} {hd : Nat → Nat} {num : Nat} {u : St1}
theorem wr_135 {post : Int32 → St1 → Prop} {q c : Nat} {x : Int32} (h : mt_ok M MS dk hd num (rt, we, wt, a1, a2, a3, a4, a5, a6, a7, a8, a9, a10, a11, a12, a13, a14)) (hq : q < 48) (hc : c < 32) (H : ∀ u', mt_ok M MS (upd dk (4 * q + c % 4) x) hd num u' → post 0 u') : wX_write_135 post (nI c) x (nI q) rt we wt a1 a2 a3 a4 a5 a6 a7 a8 a9 a10 a11 a12 a13 a14 := by
  have e3 : nI c &&& 3 = nI (c % 4) := pk_andN (m := 3) (by omega) 2 (by decide)
  have e := mt_dk h
  unfold wX_write_135
  rw [e3]
  refine ⟨pk_in (4 * q + c % 4) 192 (by omega) (ph_i4 q _), nm_r (e' := upd a10 (4 * q + c % 4) x) (by rw [ph_i4, nI_clamp (by omega)]) (H _ ?_)⟩
  have := mt_setDk (d' := upd a10 (4 * q + c % 4) x) h
  rw [← e]; exact this
theorem rn_write (hi : iv_ok M MS hd) {d c : Nat} (hd4 : d < 4) (hc : c < 32) (x : Int32) : rm_ok M MS dk hd num (fun post u => wpX_write post u (nI d) (nI c) x) := by
  have hiv := hi
  obtain ⟨hf, hfS, hh, hcp⟩ := hi
  have p48 : (2 : Nat) ^ 48 < 2 ^ 64 := by decide
  have pre : ∀ r M' dk', iv_ok M' MS hd → (∀ u post, mt_ok M MS dk hd num u → (∀ u', mt_ok M' MS dk' hd num u' → post r u') → wpX_write post u (nI d) (nI c) x) → rm_ok M MS dk hd num (fun post u => wpX_write post u (nI d) (nI c) x) := fun r M' dk' a b => ⟨r, M', dk', hd, a, b⟩
  rcases hh.2 d hd4 with e | ⟨e, w, hw⟩
  · refine pre (-3) M dk hiv (fun u post hu H => ?_)
    obtain ⟨rt, we, wt, a1, a2, a3, a4, a5, a6, a7, a8, a9, a10, a11, a12, a13, a14⟩ := u
    unfold wpX_write
    refine mt_isH _ (fun z => absurd rfl (z d hd4)) (fun i _ _ => br_f (by decide) (br_f (nI_pos (by omega)) (pk_le c 31 (fun _ => ?_) (fun z => absurd z (by omega)))))
    exact mt_filF hu hh hd4 (fun _ => br_f (by decide) (H _ hu)) (fun w' u' z => by omega) (fun w' u' z => by omega)
  · by_cases w1 : w % 4 = 1
    · refine pre (-4) M dk hiv (fun u post hu H => ?_)
      obtain ⟨rt, we, wt, a1, a2, a3, a4, a5, a6, a7, a8, a9, a10, a11, a12, a13, a14⟩ := u
      unfold wpX_write
      refine mt_isH _ (fun z => absurd rfl (z d hd4)) (fun i _ _ => br_f (by decide) (br_f (nI_pos (by omega)) (pk_le c 31 (fun _ => ?_) (fun z => absurd z (by omega)))))
      refine mt_filF hu hh hd4 (fun z => by omega) (fun w' u' _ _ _ hu' => ?_) (fun w' u' _ q z hu' => ?_)
      · have := H u' hu'
        obtain ⟨rt, we, wt, a1, a2, a3, a4, a5, a6, a7, a8, a9, a10, a11, a12, a13, a14⟩ := u'
        exact br_f (by decide) this
      · rw [hw] at q; have := Option.some.inj q; subst this; exact absurd w1 z
    · have w2 : w % 4 = 2 := by have := (hf.2.2.1 _ w hw).1; omega
      obtain ⟨oo, hoo⟩ := pl_ex M (hd d) (c / 4)
      have o48 : ∀ q, oo = some q → q < 48 := fun q z => pl_48 hf (show c / 4 < 8 by omega) (by rw [← z]; exact hoo)
      obtain ⟨zS, s1, s2⟩ := bk_ex (P := bk_in MS) 48 (fun p => bk_lt (fs_fit hfS))
      obtain ⟨zR, t1, t2⟩ := bk_ex (P := bk_in M) 48 (fun p => bk_lt (fs_fit hf))
      obtain ⟨z, z1, z2, z3⟩ := hcp
      have eor : zS ||| zR = z := bk_or s2 t2 (fun p => (z2 p).trans ⟨fun a => a.elim Or.inr Or.inl, fun a => a.elim Or.inr Or.inl⟩)
      -- up to the blocks of the saved tree
      have front : ∀ u post, mt_ok M MS dk hd num u → (∀ (rt we wt : Int32) (a1 a2 a3 a4 a5 a6 a7 a8 a9 a10 a11 a12 a13 a14 : Nat → Int32), mt_ok M MS dk hd num (rt, we, wt, a1, a2, a3, a4, a5, a6, a7, a8, a9, a10, a11, a12, a13, a14) →
          ((ge_I oo < 0 → wX_write_90 post (nI d) (nI c) x (nI (c / 4)) (ge_I oo) (lN zS) rt we wt a1 a2 a3 a4 a5 a6 a7 a8 a9 a10 a11 a12 a13 a14) ∧ (¬ ge_I oo < 0 → (((((lN zS).toUInt64 >>> ((ge_I oo).toInt64.toUInt64 &&& Int64.toUInt64 63)).toInt64 &&& 1) = 0 → wX_write_135 post (nI c) x (ge_I oo) rt we wt a1 a2 a3 a4 a5 a6 a7 a8 a9 a10 a11 a12 a13 a14) ∧ (¬ (((lN zS).toUInt64 >>> ((ge_I oo).toInt64.toUInt64 &&& Int64.toUInt64 63)).toInt64 &&& 1) = 0 → wX_write_90 post (nI d) (nI c) x (nI (c / 4)) (ge_I oo) (lN zS) rt we wt a1 a2 a3 a4 a5 a6 a7 a8 a9 a10 a11 a12 a13 a14))))) →
          wpX_write post u (nI d) (nI c) x := by
        intro u post hu K
        obtain ⟨rt, we, wt, a1, a2, a3, a4, a5, a6, a7, a8, a9, a10, a11, a12, a13, a14⟩ := u
        unfold wpX_write
        refine mt_isH _ (fun z => absurd rfl (z d hd4)) (fun i _ _ => br_f (by decide) (br_f (nI_pos (by omega)) (pk_le c 31 (fun _ => ?_) (fun z => absurd z (by omega)))))
        refine mt_filF hu hh hd4 (fun z => by omega) (fun w' u' _ q z hu' => ?_) (fun w' u' _ _ _ hu' => ?_)
        · rw [hw] at q; have := Option.some.inj q; subst this; exact absurd z w1
        · obtain ⟨rt, we, wt, a1, a2, a3, a4, a5, a6, a7, a8, a9, a10, a11, a12, a13, a14⟩ := u'
          refine br_t rfl (nm_r (e' := nI (c / 4)) (pk_shrN (by omega) _ 2 (by decide)) ⟨pk_in d 4 hd4, ?_⟩)
          rw [mt_hd hu' hd4, ph_s8 (by omega)]
          refine mt_pl hu' hf e (by omega) hoo (fun u2 hu2 => ?_)
          obtain ⟨rt, we, wt, a1, a2, a3, a4, a5, a6, a7, a8, a9, a10, a11, a12, a13, a14⟩ := u2
          obtain ⟨v, v2, hv, hb⟩ := mt_sv hu2 (fs_fit hfS)
          refine hv _ ⟨pk_in v 2 v2, ?_⟩
          refine hb _ _ _ (fun w' b14 za q1 q2 hu3 => ?_)
          rw [bk_uni q2 s2]
          exact K _ _ _ _ _ _ _ _ _ _ _ _ _ _ _ _ _ hu3
      by_cases dir : ∃ q, oo = some q ∧ zS.testBit q = false
      · obtain ⟨q, q1, q2⟩ := dir
        have q48 := o48 q q1
        refine pre 0 M (upd dk (4 * q + c % 4) x) hiv (fun u post hu H => front u post hu (fun rt we wt a1 a2 a3 a4 a5 a6 a7 a8 a9 a10 a11 a12 a13 a14 hu' => ?_))
        rw [q1]
        exact br_f (nI_pos (by omega)) (br_t ((bk_bit s1 (by omega)).mpr q2) (wr_135 hu' q48 hc H))
      · -- a new place
        have back : ∀ u post, mt_ok M MS dk hd num u → (∀ (rt we wt : Int32) (a1 a2 a3 a4 a5 a6 a7 a8 a9 a10 a11 a12 a13 a14 : Nat → Int32), mt_ok M MS dk hd num (rt, we, wt, a1, a2, a3, a4, a5, a6, a7, a8, a9, a10, a11, a12, a13, a14) → wX_write_90 post (nI d) (nI c) x (nI (c / 4)) (ge_I oo) (lN zS) rt we wt a1 a2 a3 a4 a5 a6 a7 a8 a9 a10 a11 a12 a13 a14) → wpX_write post u (nI d) (nI c) x := by
          intro u post hu K
          refine front u post hu (fun rt we wt a1 a2 a3 a4 a5 a6 a7 a8 a9 a10 a11 a12 a13 a14 hu' => ?_)
          have k := K _ _ _ _ _ _ _ _ _ _ _ _ _ _ _ _ _ hu'
          cases oo with
          | none => exact br_t (by decide) k
          | some q =>
            have q48 := o48 q rfl
            exact br_f (nI_pos (by omega)) (br_f (fun y => dir ⟨q, rfl, (bk_bit s1 (by omega)).mp y⟩) k)
        have c48 := bk_cntLe z 48
        by_cases full : bk_cnt z 48 < 24
        · obtain ⟨M', dk', place, m1, m2, m3, m4, m5⟩ := mt_move (MS := MS) (dk := dk) (hd := hd) (num := num) hf e (show c / 4 < 8 by omega) hw w2 hoo z1 (fun p hp => (z2 p).mpr (Or.inl hp)) (bk_room full)
          have cp' : cp_ok M' MS := by
            obtain ⟨z', y1, y2⟩ := bk_z (fs_fit m2) (fs_fit hfS)
            refine ⟨z', y1, y2, ?_⟩
            have := bk_cntAdd (z := z) (z' := z') (q := place) (fun p hp => by
              rcases (y2 p).mp hp with a | a
              · rcases m4 p a with b | b
                · exact Or.inl ((z2 p).mpr (Or.inl b))
                · exact Or.inr b
              · exact Or.inl ((z2 p).mpr (Or.inr a))) 48
            rw [if_pos m1] at this
            omega
          refine pre 0 M' (upd dk' (4 * place + c % 4) x) ⟨m2, hfS, hd_same hh m3, cp'⟩ (fun u post hu H => back u post hu (fun rt we wt a1 a2 a3 a4 a5 a6 a7 a8 a9 a10 a11 a12 a13 a14 hu' => ?_))
          unfold wX_write_90
          refine mt_blkR hu' (fs_fit hf) (fun w' b14 za q1 q2 hu2 => nm_r (e' := lN z) (by rw [wb_or (by omega) (by omega), bk_uni q2 t2, eor]) ?_)
          refine wk_bits z1 (pk_lt (bk_cnt z 48) 24 (fun _ => ⟨pk_in d 4 hd4, ?_⟩) (fun y => absurd y (by omega)))
          rw [mt_hd hu2 hd4, ph_s8 (by omega)]
          refine m5 _ _ hu2 (fun u3 hu3 => ?_)
          obtain ⟨rt, we, wt, a1, a2, a3, a4, a5, a6, a7, a8, a9, a10, a11, a12, a13, a14⟩ := u3
          exact wr_135 hu3 m1 hc H
        · refine pre (-2) M dk hiv (fun u post hu H => back u post hu (fun rt we wt a1 a2 a3 a4 a5 a6 a7 a8 a9 a10 a11 a12 a13 a14 hu' => ?_))
          unfold wX_write_90
          refine mt_blkR hu' (fs_fit hf) (fun w' b14 za q1 q2 hu2 => nm_r (e' := lN z) (by rw [wb_or (by omega) (by omega), bk_uni q2 t2, eor]) ?_)
          exact wk_bits z1 (pk_lt (bk_cnt z 48) 24 (fun y => absurd y full) (fun _ => H _ hu2))
theorem rn_cut (hi : iv_ok M MS hd) {d b : Nat} (hd4 : d < 4) (hb : b < 8) : rm_ok M MS dk hd num (fun post u => wpX_cut post u (nI d) (nI b)) := by
  have hiv := hi
  obtain ⟨hf, hfS, hh, hcp⟩ := hi
  have pre : ∀ r M', iv_ok M' MS hd → (∀ u post, mt_ok M MS dk hd num u → (∀ u', mt_ok M' MS dk hd num u' → post r u') → wpX_cut post u (nI d) (nI b)) → rm_ok M MS dk hd num (fun post u => wpX_cut post u (nI d) (nI b)) := fun r M' a b => ⟨r, M', dk, hd, a, b⟩
  rcases hh.2 d hd4 with e | ⟨e, w, hw⟩
  · refine pre (-3) M hiv (fun u post hu H => ?_)
    obtain ⟨rt, we, wt, a1, a2, a3, a4, a5, a6, a7, a8, a9, a10, a11, a12, a13, a14⟩ := u
    unfold wpX_cut
    refine mt_isH _ (fun z => absurd rfl (z d hd4)) (fun i _ _ => br_f (by decide) (br_f (nI_pos (by omega)) (pk_le b 7 (fun _ => ?_) (fun z => absurd z (by omega)))))
    exact mt_filF hu hh hd4 (fun _ => br_f (by decide) (H _ hu)) (fun w' u' z => by omega) (fun w' u' z => by omega)
  · by_cases w1 : w % 4 = 1
    · refine pre (-4) M hiv (fun u post hu H => ?_)
      obtain ⟨rt, we, wt, a1, a2, a3, a4, a5, a6, a7, a8, a9, a10, a11, a12, a13, a14⟩ := u
      unfold wpX_cut
      refine mt_isH _ (fun z => absurd rfl (z d hd4)) (fun i _ _ => br_f (by decide) (br_f (nI_pos (by omega)) (pk_le b 7 (fun _ => ?_) (fun z => absurd z (by omega)))))
      refine mt_filF hu hh hd4 (fun z => by omega) (fun w' u' _ _ _ hu' => ?_) (fun w' u' _ q z hu' => ?_)
      · have := H u' hu'
        obtain ⟨rt, we, wt, a1, a2, a3, a4, a5, a6, a7, a8, a9, a10, a11, a12, a13, a14⟩ := u'
        exact br_f (by decide) this
      · rw [hw] at q; have := Option.some.inj q; subst this; exact absurd w1 z
    · obtain ⟨M', c, f, g1, g2, g3, g4, g5, g6⟩ := rm_cut (MS := MS) (dk := dk) (hd := hd) (num := num) e (8 - b) b M (by omega) hf
      have cp' : cp_ok M' MS := cp_sub hcp (fs_fit g1) (fs_fit hfS) (fun p hp => hp.elim (fun a => by
        obtain ⟨t, ht⟩ := cv_bk.mp a
        exact Or.inl (cv_bk.mpr ⟨t, g3 t p ht⟩)) Or.inr)
      refine pre (nI c) M' ⟨g1, hfS, hd_same hh g2, cp'⟩ (fun u post hu H => ?_)
      obtain ⟨rt, we, wt, a1, a2, a3, a4, a5, a6, a7, a8, a9, a10, a11, a12, a13, a14⟩ := u
      unfold wpX_cut
      refine mt_isH _ (fun z => absurd rfl (z d hd4)) (fun i _ _ => br_f (by decide) (br_f (nI_pos (by omega)) (pk_le b 7 (fun _ => ?_) (fun z => absurd z (by omega)))))
      refine mt_filF hu hh hd4 (fun z => by omega) (fun w' u' _ q z hu' => ?_) (fun w' u' _ _ _ hu' => ?_)
      · rw [hw] at q; have := Option.some.inj q; subst this; exact absurd z w1
      · obtain ⟨rt, we, wt, a1, a2, a3, a4, a5, a6, a7, a8, a9, a10, a11, a12, a13, a14⟩ := u'
        refine br_t rfl ⟨pk_in d 4 hd4, ?_⟩
        rw [mt_hd hu' hd4, ph_s8 (by omega)]
        refine ⟨f, g6 _ 0 _ hu' (fun u2 hu2 => ?_)⟩
        have := H u2 hu2
        rw [Nat.zero_add]
        obtain ⟨rt, we, wt, a1, a2, a3, a4, a5, a6, a7, a8, a9, a10, a11, a12, a13, a14⟩ := u2
        exact this
/-- the opening: with the name of an entry of a directory it answers 0 -/
theorem rn_open (hi : iv_ok M MS hd) {h d : Nat} (h1 : 1 ≤ h) (h4 : h < 4) (hd4 : d < 4) {x : Int32} (hx : x = -1 ∨ ∃ a : Nat, a < 6 ∧ x = nI a) :
    ∃ r hd', iv_ok M MS hd' ∧ (∀ j, j ≠ h → hd' j = hd j) ∧ (∀ a v w, x = nI a → a < 6 → hd d < 16 → M (256 * hd d) = some w → w % 4 = 1 → M (256 * hd d + 1 + a) = some v → r = 0) ∧
      ∀ u post, mt_ok M MS dk hd num u → (∀ u', mt_ok M MS dk hd' num u' → post r u') → wpX_open post u (nI h) (nI d) x := by
  have hiv := hi
  obtain ⟨hf, hfS, hh, hcp⟩ := hi
  have x1 : ¬ x < -1 := by
    rcases hx with z | ⟨a, a1, z⟩
    · rw [z]; decide
    · rw [z]
      intro e
      have := Int32.lt_iff_toInt_lt.mp e
      rw [nI_toInt (by omega), show (-1 : Int32).toInt = -1 from by decide] at this
      omega
  have x2 : x ≤ 99 := by
    rcases hx with z | ⟨a, a1, z⟩
    · rw [z]; decide
    · rw [z]; exact nI_le (b := 99) (by omega) (by omega)
  rcases hh.2 d hd4 with e | ⟨e, w, hw⟩
  · refine ⟨-3, hd, hiv, fun _ _ => rfl, fun a v w _ _ z => by omega, fun u post hu H => ?_⟩
    obtain ⟨rt, we, wt, a1, a2, a3, a4, a5, a6, a7, a8, a9, a10, a11, a12, a13, a14⟩ := u
    refine pk_lt h 1 (fun z => absurd z (by omega)) (fun _ => pk_lt 3 h (fun z => absurd z (by omega)) (fun _ => ?_))
    refine mt_isH _ (fun z => absurd rfl (z d hd4)) (fun i _ _ => br_f (by decide) (br_f x1 (br_t x2 ⟨pk_in d 4 hd4, ?_⟩)))
    rw [mt_hd hu hd4]
    exact br_f (hd_neg e) (H _ hu)
  · by_cases xn : x = -1
    · have hd' : hd_ok M (tr_up hd h (hd d)) := by
        refine ⟨by rw [tr_upN (by omega)]; exact hh.1, fun j hj => ?_⟩
        by_cases c : j = h
        · rw [c, tr_upS]; exact Or.inr ⟨e, w, hw⟩
        · rw [tr_upN c]; exact hh.2 j hj
      refine ⟨0, tr_up hd h (hd d), ⟨hf, hfS, hd', hcp⟩, fun j hj => tr_upN hj, fun _ _ _ _ _ _ _ _ _ => rfl, fun u post hu H => ?_⟩
      obtain ⟨rt, we, wt, a1, a2, a3, a4, a5, a6, a7, a8, a9, a10, a11, a12, a13, a14⟩ := u
      refine pk_lt h 1 (fun z => absurd z (by omega)) (fun _ => pk_lt 3 h (fun z => absurd z (by omega)) (fun _ => ?_))
      refine mt_isH _ (fun z => absurd rfl (z d hd4)) (fun i _ _ => br_f (by decide) (br_f x1 (br_t x2 ⟨pk_in d 4 hd4, ?_⟩)))
      rw [mt_hd hu hd4]
      refine br_t (hd_pos e) (br_f (by rw [xn]; decide) ⟨pk_in d 4 hd4, pk_in h 4 h4, nm_r (e' := upd a11 h (pg_I (hd d))) (by rw [nI_clamp (by omega), ph_n8]) (H _ (mt_setHd hu h4 rfl))⟩)
    · obtain ⟨a, a1, xa⟩ := hx.resolve_left xn
      subst xa
      have eb : 256 * hd d + 1 + a < 4096 := by omega
      by_cases w2 : w % 4 = 2
      · refine ⟨-4, hd, hiv, fun _ _ => rfl, fun a' v w' _ _ _ q z => ?_, fun u post hu H => ?_⟩
        · rw [hw] at q; have := Option.some.inj q; omega
        · obtain ⟨rt, we, wt, a1, a2, a3, a4, a5, a6, a7, a8, a9, a10, a11, a12, a13, a14⟩ := u
          refine pk_lt h 1 (fun z => absurd z (by omega)) (fun _ => pk_lt 3 h (fun z => absurd z (by omega)) (fun _ => ?_))
          refine mt_isH _ (fun z => absurd rfl (z d hd4)) (fun i _ _ => br_f (by decide) (br_f x1 (br_t x2 ⟨pk_in d 4 hd4, ?_⟩)))
          have hu0 := mt_hd hu hd4
          rw [hu0]
          refine br_t (hd_pos e) (br_t (nI_pos' (by omega)) ⟨pk_in d 4 hd4, ?_⟩)
          rw [ph_s8 (by omega)]
          refine mt_sort hu e hw (fun u' hu' => ?_)
          obtain ⟨rt, we, wt, a1, a2, a3, a4, a5, a6, a7, a8, a9, a10, a11, a12, a13, a14⟩ := u'
          rw [w2]
          exact br_t rfl (H _ hu')
      · have mid : ∀ u post, mt_ok M MS dk hd num u → (∀ u', mt_ok M MS dk hd num u' → match u' with | (rt, we, wt, a1, a2, a3, a4, a5, a6, a7, a8, a9, a10, a11, a12, a13, a14) => ((0 ≤ ge_I (M (256 * hd d + 1 + a)) → (vp_in (nI h) 4 ∧ ∀ am : Nat → Int32, am = upd a11 (nI h).toNatClampNeg (ge_I (M (256 * hd d + 1 + a))).toInt8.toInt32 → post 0 (rt, we, wt, a1, a2, a3, a4, a5, a6, a7, a8, a9, a10, am, a12, a13, a14))) ∧ (¬ 0 ≤ ge_I (M (256 * hd d + 1 + a)) → post (-3) (rt, we, wt, a1, a2, a3, a4, a5, a6, a7, a8, a9, a10, a11, a12, a13, a14)))) → wpX_open post u (nI h) (nI d) (nI a) := by
          intro u post hu K
          obtain ⟨rt, we, wt, a1, a2, a3, a4, a5, a6, a7, a8, a9, a10, a11, a12, a13, a14⟩ := u
          refine pk_lt h 1 (fun z => absurd z (by omega)) (fun _ => pk_lt 3 h (fun z => absurd z (by omega)) (fun _ => ?_))
          refine mt_isH _ (fun z => absurd rfl (z d hd4)) (fun i _ _ => br_f (by decide) (br_f x1 (br_t x2 ⟨pk_in d 4 hd4, ?_⟩)))
          rw [mt_hd hu hd4]
          refine br_t (hd_pos e) (br_t (nI_pos' (by omega)) ⟨pk_in d 4 hd4, ?_⟩)
          rw [ph_s8 (by omega)]
          refine mt_sort hu e hw (fun u' hu' => ?_)
          obtain ⟨rt, we, wt, a1, a2, a3, a4, a5, a6, a7, a8, a9, a10, a11, a12, a13, a14⟩ := u'
          refine pk_eq (w % 4) 2 (fun z => absurd z w2) (fun _ => ⟨pk_in d 4 hd4, ?_⟩)
          rw [mt_hd hu' hd4, ph_s8 (by omega), ph_ent]
          refine mt_get hu' eb (fun u2 hu2 => ?_)
          have k := K u2 hu2
          obtain ⟨rt, we, wt, a1, a2, a3, a4, a5, a6, a7, a8, a9, a10, a11, a12, a13, a14⟩ := u2
          exact k
        cases ev : M (256 * hd d + 1 + a) with
        | none =>
          refine ⟨-3, hd, hiv, fun _ _ => rfl, fun a' v w' q a2 _ _ _ z => ?_, fun u post hu H => mid u post hu (fun u' hu' => ?_)⟩
          · have := (nI_eq (show a < 2 ^ 31 by omega) (show a' < 2 ^ 31 by omega)).mp q
            subst this
            exact fs_some ev z
          · have := H u' hu'
            obtain ⟨rt, we, wt, a1, a2, a3, a4, a5, a6, a7, a8, a9, a10, a11, a12, a13, a14⟩ := u'
            rw [ev]
            exact br_f (by decide) this
        | some v =>
          obtain ⟨v1, v2, _, ⟨w', q1, _⟩⟩ := hf.2.2.2.1 _ a v a1 ev
          have hd' : hd_ok M (tr_up hd h v) := by
            refine ⟨by rw [tr_upN (by omega)]; exact hh.1, fun j hj => ?_⟩
            by_cases c : j = h
            · rw [c, tr_upS]; exact Or.inr ⟨v2, w', q1⟩
            · rw [tr_upN c]; exact hh.2 j hj
          refine ⟨0, tr_up hd h v, ⟨hf, hfS, hd', hcp⟩, fun j hj => tr_upN hj, fun _ _ _ _ _ _ _ _ _ => rfl, fun u post hu H => mid u post hu (fun u' hu' => ?_)⟩
          obtain ⟨rt, we, wt, a1, a2, a3, a4, a5, a6, a7, a8, a9, a10, a11, a12, a13, a14⟩ := u'
          rw [ev]
          refine br_t (nI_pos' (by omega)) ⟨pk_in h 4 h4, nm_r (e' := upd a11 h (pg_I v)) (by rw [nI_clamp (by omega)]; rfl) (H _ (mt_setHd hu' h4 rfl))⟩
end
end
section
/-! make, erase, rename -/
theorem fs_hd {M M' : Nat → Option Nat} {hd : Nat → Nat} (h : hd_ok M hd) (e : ∀ j w, j < 4 → M (256 * hd j) = some w → ∃ w', M' (256 * hd j) = some w') : hd_ok M' hd := by
  refine ⟨h.1, fun i hi => ?_⟩
  rcases h.2 i hi with a | ⟨a, w, hw⟩
  · exact Or.inl a
  · exact Or.inr ⟨a, e i w hi hw⟩
theorem cp_same {M M' MS : Nat → Option Nat} (h : cp_ok M MS) (hf : fs_ok M') (hS : fs_ok MS) (e : ∀ k v, 128 ≤ k % 256 → M' k = some v → M k = some v) : cp_ok M' MS :=
  cp_sub h (fs_fit hf) (fs_fit hS) (fun p hp => hp.elim (fun ⟨k, v, h1, h2⟩ => Or.inl ⟨k, v, e k v h2.1 h1, h2⟩) Or.inr)
theorem fs_it0 {M : Nat → Option Nat} (h : M 0 = some 1) : ∀ i, fs_it M i 0 = 0 := by
  intro i
  induction i with
  | zero => rfl
  | succ i ih =>
    show fs_it M i (fs_up M 0) = 0
    have : fs_up M 0 = 0 := by unfold fs_up; rw [show 256 * 0 = 0 from rfl, h]; rfl
    rw [this]; exact ih
section
variable {rt we wt : Int32} {a1 a2 a3 a4 a5 a6 a7 a8 a9 a10 a11 a12 a13 a14 : Nat → Int32} {M MS : Nat → Option Nat} {dk : Nat → Int32} {hd : Nat → Nat} {num : Nat} {u : St1}
theorem mt_free : ∃ o : Option Nat, ((o = none) ∨ ∃ n, o = some n ∧ 1 ≤ n ∧ n < 16 ∧ M (256 * n) = none) ∧ ∀ u post, mt_ok M MS dk hd num u → (∀ u', mt_ok M MS dk hd num u' → post (ge_I o) u') → wpX_freeNode post u := by
  have main : ∀ d i, i + d = 16 → 1 ≤ i → ∃ o : Option Nat, ((o = none) ∨ ∃ n, o = some n ∧ 1 ≤ n ∧ n < 16 ∧ M (256 * n) = none) ∧ ∃ f, ∀ u post, mt_ok M MS dk hd num u → (∀ u', mt_ok M MS dk hd num u' → post (ge_I o) u') → match u with | (rt, we, wt, a1, a2, a3, a4, a5, a6, a7, a8, a9, a10, a11, a12, a13, a14) => wX_freeNode_2 post f (nI i) rt we wt a1 a2 a3 a4 a5 a6 a7 a8 a9 a10 a11 a12 a13 a14 := by
    intro d
    induction d with
    | zero =>
      intro i hi h1
      have : i = 16 := by omega
      subst this
      refine ⟨none, Or.inl rfl, 1, fun u post hu H => ?_⟩
      have := H u hu
      obtain ⟨rt, we, wt, a1, a2, a3, a4, a5, a6, a7, a8, a9, a10, a11, a12, a13, a14⟩ := u
      exact pk_le 16 16 (fun _ => this) (fun z => absurd z (by omega))
    | succ d ih =>
      intro i hi h1
      cases e : M (256 * i) with
      | none =>
        refine ⟨some i, Or.inr ⟨i, rfl, h1, by omega, e⟩, 1, fun u post hu H => ?_⟩
        obtain ⟨rt, we, wt, a1, a2, a3, a4, a5, a6, a7, a8, a9, a10, a11, a12, a13, a14⟩ := u
        refine pk_le 16 i (fun z => absurd z (by omega)) (fun _ => ?_)
        rw [ph_256]
        refine mt_get hu (by omega) (fun u' hu' => ?_)
        have := H u' hu'
        obtain ⟨rt, we, wt, a1, a2, a3, a4, a5, a6, a7, a8, a9, a10, a11, a12, a13, a14⟩ := u'
        rw [e]
        exact br_f (by decide) this
      | some w =>
        obtain ⟨o, ho, f, hw⟩ := ih (i + 1) (by omega) (by omega)
        refine ⟨o, ho, f + 1, fun u post hu H => ?_⟩
        have wb := (mt_bnd hu e).2
        obtain ⟨rt, we, wt, a1, a2, a3, a4, a5, a6, a7, a8, a9, a10, a11, a12, a13, a14⟩ := u
        refine pk_le 16 i (fun z => absurd z (by omega)) (fun _ => ?_)
        rw [ph_256]
        refine mt_get hu (by omega) (fun u' hu' => ?_)
        have := hw u' post hu' H
        obtain ⟨rt, we, wt, a1, a2, a3, a4, a5, a6, a7, a8, a9, a10, a11, a12, a13, a14⟩ := u'
        rw [e]
        exact br_t (nI_pos' (by omega)) (nm_r (nI_1 i) this)
  obtain ⟨o, ho, f, hw⟩ := main 15 1 (by omega) (by omega)
  refine ⟨o, ho, fun u post hu H => ?_⟩
  have := hw u post hu H
  obtain ⟨rt, we, wt, a1, a2, a3, a4, a5, a6, a7, a8, a9, a10, a11, a12, a13, a14⟩ := u
  exact ⟨f, this⟩
theorem rn_make (hi : iv_ok M MS hd) {h d a : Nat} (h1 : 1 ≤ h) (h4 : h < 4) (hd4 : d < 4) (ha : a < 6) {x : Int32} : rm_ok M MS dk hd num (fun post u => wpX_make post u (nI h) (nI d) (nI a) x) := by
  have hiv := hi
  obtain ⟨hf, hfS, hh, hcp⟩ := hi
  have pre : ∀ r M' hd', iv_ok M' MS hd' → (∀ u post, mt_ok M MS dk hd num u → (∀ u', mt_ok M' MS dk hd' num u' → post r u') → wpX_make post u (nI h) (nI d) (nI a) x) → rm_ok M MS dk hd num (fun post u => wpX_make post u (nI h) (nI d) (nI a) x) := fun r M' hd' a b => ⟨r, M', dk, hd', a, b⟩
  rcases hh.2 d hd4 with e | ⟨e, w, hw⟩
  · refine pre (-3) M hd hiv (fun u post hu H => ?_)
    obtain ⟨rt, we, wt, a1, a2, a3, a4, a5, a6, a7, a8, a9, a10, a11, a12, a13, a14⟩ := u
    refine pk_lt h 1 (fun z => absurd z (by omega)) (fun _ => pk_lt 3 h (fun z => absurd z (by omega)) (fun _ => ?_))
    refine mt_isH _ (fun z => absurd rfl (z d hd4)) (fun i _ _ => br_f (by decide) (mt_isN _ (by omega) (br_f (by decide) ?_)))
    exact mt_dirF hu hh hd4 (fun _ => br_f (by decide) (H _ hu)) (fun w' u' z => by omega) (fun w' u' z => by omega)
  · by_cases w2 : w % 4 = 2
    · refine pre (-4) M hd hiv (fun u post hu H => ?_)
      obtain ⟨rt, we, wt, a1, a2, a3, a4, a5, a6, a7, a8, a9, a10, a11, a12, a13, a14⟩ := u
      refine pk_lt h 1 (fun z => absurd z (by omega)) (fun _ => pk_lt 3 h (fun z => absurd z (by omega)) (fun _ => ?_))
      refine mt_isH _ (fun z => absurd rfl (z d hd4)) (fun i _ _ => br_f (by decide) (mt_isN _ (by omega) (br_f (by decide) ?_)))
      refine mt_dirF hu hh hd4 (fun z => by omega) (fun w' u' _ _ _ hu' => ?_) (fun w' u' _ q z hu' => ?_)
      · have := H u' hu'
        obtain ⟨rt, we, wt, a1, a2, a3, a4, a5, a6, a7, a8, a9, a10, a11, a12, a13, a14⟩ := u'
        exact br_f (by decide) this
      · rw [hw] at q; have := Option.some.inj q; subst this; exact absurd w2 z
    · have w1 : w % 4 = 1 := by have := (hf.2.2.1 _ w hw).1; omega
      obtain ⟨o, ho, hfree⟩ := mt_free (M := M) (MS := MS) (dk := dk) (hd := hd) (num := num)
      -- up to the entry
      cases ee : M (256 * hd d + 1 + a) with
      | some v =>
        refine pre (-5) M hd hiv (fun u post hu H => ?_)
        have vb := (mt_bnd hu ee).2
        obtain ⟨rt, we, wt, a1, a2, a3, a4, a5, a6, a7, a8, a9, a10, a11, a12, a13, a14⟩ := u
        refine pk_lt h 1 (fun z => absurd z (by omega)) (fun _ => pk_lt 3 h (fun z => absurd z (by omega)) (fun _ => ?_))
        refine mt_isH _ (fun z => absurd rfl (z d hd4)) (fun i _ _ => br_f (by decide) (mt_isN _ (by omega) (br_f (by decide) ?_)))
        refine mt_dirF hu hh hd4 (fun z => by omega) (fun w' u' _ q z hu' => ?_) (fun w' u' _ _ _ hu' => ?_)
        · rw [hw] at q; have := Option.some.inj q; subst this; exact absurd z w2
        · obtain ⟨rt, we, wt, a1, a2, a3, a4, a5, a6, a7, a8, a9, a10, a11, a12, a13, a14⟩ := u'
          refine br_t rfl ⟨pk_in d 4 hd4, nm_r (e' := nI (hd d)) (by rw [mt_hd hu' hd4, ph_s8 (by omega)]) ?_⟩
          rw [ph_ent]
          refine mt_get hu' (by omega) (fun u2 hu2 => ?_)
          have := H u2 hu2
          obtain ⟨rt, we, wt, a1, a2, a3, a4, a5, a6, a7, a8, a9, a10, a11, a12, a13, a14⟩ := u2
          rw [ee]
          exact br_f (nI_pos (by omega)) this
      | none =>
        have mid : ∀ u post, mt_ok M MS dk hd num u → (∀ u', mt_ok M MS dk hd num u' → match u' with | (rt, we, wt, a1, a2, a3, a4, a5, a6, a7, a8, a9, a10, a11, a12, a13, a14) => ((0 ≤ ge_I o → ((x = 0 → wX_make_106 post (nI h) (nI a) (nI (hd d)) (ge_I o) 2 (4 * nI (hd d)) (256 * ge_I o) rt we wt a1 a2 a3 a4 a5 a6 a7 a8 a9 a10 a11 a12 a13 a14) ∧ (¬ x = 0 → wX_make_106 post (nI h) (nI a) (nI (hd d)) (ge_I o) 1 (4 * nI (hd d)) (256 * ge_I o) rt we wt a1 a2 a3 a4 a5 a6 a7 a8 a9 a10 a11 a12 a13 a14))) ∧ (¬ 0 ≤ ge_I o → post (-2) (rt, we, wt, a1, a2, a3, a4, a5, a6, a7, a8, a9, a10, a11, a12, a13, a14)))) → wpX_make post u (nI h) (nI d) (nI a) x := by
          intro u post hu K
          obtain ⟨rt, we, wt, a1, a2, a3, a4, a5, a6, a7, a8, a9, a10, a11, a12, a13, a14⟩ := u
          refine pk_lt h 1 (fun z => absurd z (by omega)) (fun _ => pk_lt 3 h (fun z => absurd z (by omega)) (fun _ => ?_))
          refine mt_isH _ (fun z => absurd rfl (z d hd4)) (fun i _ _ => br_f (by decide) (mt_isN _ (by omega) (br_f (by decide) ?_)))
          refine mt_dirF hu hh hd4 (fun z => by omega) (fun w' u' _ q z hu' => ?_) (fun w' u' _ _ _ hu' => ?_)
          · rw [hw] at q; have := Option.some.inj q; subst this; exact absurd z w2
          · obtain ⟨rt, we, wt, a1, a2, a3, a4, a5, a6, a7, a8, a9, a10, a11, a12, a13, a14⟩ := u'
            refine br_t rfl ⟨pk_in d 4 hd4, nm_r (e' := nI (hd d)) (by rw [mt_hd hu' hd4, ph_s8 (by omega)]) ?_⟩
            rw [ph_ent]
            refine mt_get hu' (by omega) (fun u2 hu2 => ?_)
            obtain ⟨rt, we, wt, a1, a2, a3, a4, a5, a6, a7, a8, a9, a10, a11, a12, a13, a14⟩ := u2
            rw [ee]
            refine br_t (by decide) ?_
            refine hfree _ _ hu2 (fun u3 hu3 => ?_)
            have k := K u3 hu3
            obtain ⟨rt, we, wt, a1, a2, a3, a4, a5, a6, a7, a8, a9, a10, a11, a12, a13, a14⟩ := u3
            exact k
        rcases ho with on | ⟨n, on, n1, n2, n3⟩
        · refine pre (-2) M hd hiv (fun u post hu H => mid u post hu (fun u' hu' => ?_))
          have := H u' hu'
          obtain ⟨rt, we, wt, a1, a2, a3, a4, a5, a6, a7, a8, a9, a10, a11, a12, a13, a14⟩ := u'
          rw [on]
          exact br_f (by decide) this
        · subst on
          have c80 := fs_cd hf
          have pn : hd d ≠ n := by intro z; rw [z] at hw; exact fs_some n3 hw
          have fin : ∀ srt, (srt = 1 ∨ srt = 2) → iv_ok (tr_up (tr_up M (256 * n) (some (4 * hd d + srt))) (256 * hd d + 1 + a) (some n)) MS (tr_up hd h n) ∧
              ∀ (rt we wt : Int32) (a1 a2 a3 a4 a5 a6 a7 a8 a9 a10 a11 a12 a13 a14 : Nat → Int32) post, mt_ok M MS dk hd num (rt, we, wt, a1, a2, a3, a4, a5, a6, a7, a8, a9, a10, a11, a12, a13, a14) → (∀ u', mt_ok (tr_up (tr_up M (256 * n) (some (4 * hd d + srt))) (256 * hd d + 1 + a) (some n)) MS dk (tr_up hd h n) num u' → post 0 u') → wX_make_106 post (nI h) (nI a) (nI (hd d)) (nI n) (nI srt) (4 * nI (hd d)) (256 * nI n) rt we wt a1 a2 a3 a4 a5 a6 a7 a8 a9 a10 a11 a12 a13 a14 := by
            intro srt hs
            have m1 : tr_up (tr_up M (256 * n) (some (4 * hd d + srt))) (256 * hd d + 1 + a) (some n) (256 * n) = some (4 * hd d + srt) := by rw [tr_upN (by omega), tr_upS]
            have m2 : tr_up (tr_up M (256 * n) (some (4 * hd d + srt))) (256 * hd d + 1 + a) (some n) (256 * hd d + 1 + a) = some n := tr_upS
            have mo : ∀ k, k ≠ 256 * n → k ≠ 256 * hd d + 1 + a → tr_up (tr_up M (256 * n) (some (4 * hd d + srt))) (256 * hd d + 1 + a) (some n) k = M k := fun k x y => by rw [tr_upN y, tr_upN x]
            have f' := fs_make hf e hw w1 ha ee n1 n2 n3 hs m1 m2 mo
            refine ⟨⟨f', hfS, ?_, cp_same hcp f' hfS (fun k v hk hv => by rw [mo k (by omega) (by omega)] at hv; exact hv)⟩, fun rt we wt a1 a2 a3 a4 a5 a6 a7 a8 a9 a10 a11 a12 a13 a14 post hu H => ?_⟩
            · refine ⟨by rw [tr_upN (by omega)]; exact hh.1, fun j hj => ?_⟩
              by_cases c : j = h
              · rw [c, tr_upS]; exact Or.inr ⟨n2, _, m1⟩
              · rw [tr_upN c]
                rcases hh.2 j hj with q | ⟨q, w', hw'⟩
                · exact Or.inl q
                · have : hd j ≠ n := by intro z; rw [z] at hw'; exact fs_some n3 hw'
                  exact Or.inr ⟨q, w', by rw [mo _ (by omega) (by omega)]; exact hw'⟩
            · unfold wX_make_106
              rw [ph_ent (hd d) a, ph_256 n, show (4 : Int32) * nI (hd d) + nI srt = nI (4 * hd d + srt) by rw [show (4 : Int32) = nI 4 from rfl, pk_mul, nI_add]]
              refine mt_put hu (ct_mono c80 (by omega)) (by omega) (by omega) (fun u2 hu2 => ?_)
              obtain ⟨rt, we, wt, a1, a2, a3, a4, a5, a6, a7, a8, a9, a10, a11, a12, a13, a14⟩ := u2
              refine mt_put hu2 (ct_mono (ct_ins c80 _ _) (by omega)) (by omega) (by omega) (fun u3 hu3 => ?_)
              obtain ⟨rt, we, wt, a1, a2, a3, a4, a5, a6, a7, a8, a9, a10, a11, a12, a13, a14⟩ := u3
              exact ⟨pk_in h 4 h4, nm_r (e' := upd a11 h (pg_I n)) (by rw [nI_clamp (by omega)]; rfl) (H _ (mt_setHd hu3 h4 rfl))⟩
          by_cases x0 : x = 0
          · obtain ⟨i1, i2⟩ := fin 2 (Or.inr rfl)
            refine pre 0 _ _ i1 (fun u post hu H => mid u post hu (fun u' hu' => ?_))
            obtain ⟨rt, we, wt, a1, a2, a3, a4, a5, a6, a7, a8, a9, a10, a11, a12, a13, a14⟩ := u'
            exact br_t (nI_pos' (by omega)) (br_t x0 (i2 _ _ _ _ _ _ _ _ _ _ _ _ _ _ _ _ _ post hu' H))
          · obtain ⟨i1, i2⟩ := fin 1 (Or.inl rfl)
            refine pre 0 _ _ i1 (fun u post hu H => mid u post hu (fun u' hu' => ?_))
            obtain ⟨rt, we, wt, a1, a2, a3, a4, a5, a6, a7, a8, a9, a10, a11, a12, a13, a14⟩ := u'
            exact br_t (nI_pos' (by omega)) (br_f x0 (i2 _ _ _ _ _ _ _ _ _ _ _ _ _ _ _ _ _ post hu' H))
end
end
section
/-! erase, isAbove, rename -/
section
variable {rt we wt : Int32} {a1 a2 a3 a4 a5 a6 a7 a8 a9 a10 a11 a12 a13 a14 : Nat → Int32} {M MS : Nat → Option Nat} {dk : Nat → Int32} {hd : Nat → Nat} {num : Nat} {u : St1}
theorem hd_eq {c n : Nat} (hc : c = 255 ∨ c < 16) (hn : n < 16) : pg_I c = nI n ↔ c = n := by
  rcases hc with e | e
  · rw [e, ph_255]
    constructor
    · intro z
      exact absurd (show nI n < 0 by rw [← z]; decide) (nI_pos (by omega))
    · omega
  · rw [ph_s8 (by omega)]
    exact nI_eq (by omega) (by omega)
/-- the two removals -/
theorem er_132 {post : Int32 → St1 → Prop} {p a n v : Nat} (h : mt_ok M MS dk hd num (rt, we, wt, a1, a2, a3, a4, a5, a6, a7, a8, a9, a10, a11, a12, a13, a14)) (m0 : M 0 = some 1) (hp : p < 16) (ha : a < 6) (hn : n < 16) (n1 : 1 ≤ n) (he : M (256 * p + 1 + a) = some n) (hv : M (256 * n) = some v)
    (H : ∀ u', mt_ok (tr_up (tr_up M (256 * p + 1 + a) none) (256 * n) none) MS dk hd num u' → post 0 u') : wX_erase_132 post (nI a) (nI p) (nI n) rt we wt a1 a2 a3 a4 a5 a6 a7 a8 a9 a10 a11 a12 a13 a14 := by
  unfold wX_erase_132
  rw [ph_256 n, ph_ent p a]
  refine mt_rem h he ⟨0, 1, by omega, m0⟩ (fun u2 hu2 => ?_)
  obtain ⟨rt, we, wt, a1, a2, a3, a4, a5, a6, a7, a8, a9, a10, a11, a12, a13, a14⟩ := u2
  refine mt_rem hu2 (by rw [tr_upN (by omega)]; exact hv) ⟨0, 1, by omega, by rw [tr_upN (by omega)]; exact m0⟩ (fun u3 hu3 => ?_)
  have := H u3 hu3
  obtain ⟨rt, we, wt, a1, a2, a3, a4, a5, a6, a7, a8, a9, a10, a11, a12, a13, a14⟩ := u3
  exact this
theorem rn_erase (hi : iv_ok M MS hd) {d a : Nat} (hd4 : d < 4) (ha : a < 6) : rm_ok M MS dk hd num (fun post u => wpX_erase post u (nI d) (nI a)) := by
  have hiv := hi
  obtain ⟨hf, hfS, hh, hcp⟩ := hi
  have pre : ∀ r M', iv_ok M' MS hd → (∀ u post, mt_ok M MS dk hd num u → (∀ u', mt_ok M' MS dk hd num u' → post r u') → wpX_erase post u (nI d) (nI a)) → rm_ok M MS dk hd num (fun post u => wpX_erase post u (nI d) (nI a)) := fun r M' a b => ⟨r, M', dk, hd, a, b⟩
  rcases hh.2 d hd4 with e | ⟨e, w, hw⟩
  · refine pre (-3) M hiv (fun u post hu H => ?_)
    obtain ⟨rt, we, wt, a1, a2, a3, a4, a5, a6, a7, a8, a9, a10, a11, a12, a13, a14⟩ := u
    unfold wpX_erase
    refine mt_isH _ (fun z => absurd rfl (z d hd4)) (fun i _ _ => br_f (by decide) (mt_isN _ (by omega) (br_f (by decide) ?_)))
    exact mt_dirF hu hh hd4 (fun _ => br_f (by decide) (H _ hu)) (fun w' u' z => by omega) (fun w' u' z => by omega)
  · by_cases w2 : w % 4 = 2
    · refine pre (-4) M hiv (fun u post hu H => ?_)
      obtain ⟨rt, we, wt, a1, a2, a3, a4, a5, a6, a7, a8, a9, a10, a11, a12, a13, a14⟩ := u
      unfold wpX_erase
      refine mt_isH _ (fun z => absurd rfl (z d hd4)) (fun i _ _ => br_f (by decide) (mt_isN _ (by omega) (br_f (by decide) ?_)))
      refine mt_dirF hu hh hd4 (fun z => by omega) (fun w' u' _ _ _ hu' => ?_) (fun w' u' _ q z hu' => ?_)
      · have := H u' hu'
        obtain ⟨rt, we, wt, a1, a2, a3, a4, a5, a6, a7, a8, a9, a10, a11, a12, a13, a14⟩ := u'
        exact br_f (by decide) this
      · rw [hw] at q; have := Option.some.inj q; subst this; exact absurd w2 z
    · -- up to the entry
      have mid : ∀ u post, mt_ok M MS dk hd num u → (∀ u', mt_ok M MS dk hd num u' → match u' with | (rt, we, wt, a1, a2, a3, a4, a5, a6, a7, a8, a9, a10, a11, a12, a13, a14) => ((0 ≤ ge_I (M (256 * hd d + 1 + a)) → ∃ f, wX_erase_65 post (nI a) (nI (hd d)) (ge_I (M (256 * hd d + 1 + a))) rt we wt a1 a2 a3 a4 a5 a6 a7 a8 a9 a10 a11 a12 a13 a14 f 0) ∧ (¬ 0 ≤ ge_I (M (256 * hd d + 1 + a)) → post (-3) (rt, we, wt, a1, a2, a3, a4, a5, a6, a7, a8, a9, a10, a11, a12, a13, a14)))) → wpX_erase post u (nI d) (nI a) := by
        intro u post hu K
        obtain ⟨rt, we, wt, a1, a2, a3, a4, a5, a6, a7, a8, a9, a10, a11, a12, a13, a14⟩ := u
        unfold wpX_erase
        refine mt_isH _ (fun z => absurd rfl (z d hd4)) (fun i _ _ => br_f (by decide) (mt_isN _ (by omega) (br_f (by decide) ?_)))
        refine mt_dirF hu hh hd4 (fun z => by omega) (fun w' u' _ q z hu' => ?_) (fun w' u' _ _ _ hu' => ?_)
        · rw [hw] at q; have := Option.some.inj q; subst this; exact absurd z w2
        · obtain ⟨rt, we, wt, a1, a2, a3, a4, a5, a6, a7, a8, a9, a10, a11, a12, a13, a14⟩ := u'
          refine br_t rfl ⟨pk_in d 4 hd4, nm_r (e' := nI (hd d)) (by rw [mt_hd hu' hd4, ph_s8 (by omega)]) ?_⟩
          rw [ph_ent]
          refine mt_get hu' (by omega) (fun u2 hu2 => ?_)
          have k := K u2 hu2
          obtain ⟨rt, we, wt, a1, a2, a3, a4, a5, a6, a7, a8, a9, a10, a11, a12, a13, a14⟩ := u2
          exact k
      cases ee : M (256 * hd d + 1 + a) with
      | none =>
        refine pre (-3) M hiv (fun u post hu H => mid u post hu (fun u' hu' => ?_))
        have := H u' hu'
        obtain ⟨rt, we, wt, a1, a2, a3, a4, a5, a6, a7, a8, a9, a10, a11, a12, a13, a14⟩ := u'
        rw [ee]
        exact br_f (by decide) this
      | some n =>
        obtain ⟨n1, n2, _, ⟨v, hv, _⟩⟩ := hf.2.2.2.1 _ a n ha ee
        have vs := (hf.2.2.1 n v hv).1
        have hc : ∀ j, j < 4 → hd j = 255 ∨ hd j < 16 := fun j hj => (hh.2 j hj).elim Or.inl (fun q => Or.inr q.1)
        by_cases busy : ∃ j, j < 4 ∧ hd j = n
        · obtain ⟨j, ⟨j1, j2⟩, j3⟩ := pk_least (fun j => j < 4 ∧ hd j = n) busy
          refine pre (-6) M hiv (fun u post hu H => mid u post hu (fun u' hu' => ?_))
          have := H u' hu'
          obtain ⟨rt, we, wt, a1, a2, a3, a4, a5, a6, a7, a8, a9, a10, a11, a12, a13, a14⟩ := u'
          rw [ee]
          refine br_t (nI_pos' (by omega)) ?_
          refine pk_loop (σ := Unit) (fun f i _ => wX_erase_65 post (nI a) (nI (hd d)) (nI n) rt we wt a1 a2 a3 a4 a5 a6 a7 a8 a9 a10 a11 a12 a13 a14 f (nI i)) (fun _ _ => True) j 0 () (by omega) trivial ?_ ?_
          · intro f _ _
            refine pk_le 4 j (fun z => absurd z (by omega)) (fun _ => ⟨pk_in j 4 j1, br_t ?_ this⟩)
            rw [mt_hd hu' j1]
            exact (hd_eq (hc j j1) n2).mpr j2
          · intro f i _ hi1 _ hwk
            refine pk_le 4 i (fun z => absurd z (by omega)) (fun _ => ⟨pk_in i 4 (by omega), br_f ?_ (nm_r (nI_1 i) (hwk () trivial))⟩)
            rw [mt_hd hu' (by omega)]
            exact fun z => j3 i hi1 ⟨by omega, (hd_eq (hc i (by omega)) n2).mp z⟩
        · have nb : ∀ j, j < 4 → hd j ≠ n := fun j hj z => busy ⟨j, hj, z⟩
          -- behind the handles
          have fro : ∀ u post, mt_ok M MS dk hd num u → (∀ u', mt_ok M MS dk hd num u' → match u' with | (rt, we, wt, a1, a2, a3, a4, a5, a6, a7, a8, a9, a10, a11, a12, a13, a14) => ((nI (v % 4) = 1 → wpX_entriesOf (fun r => ((r ≤ 0 → wX_erase_114 post (nI a) (nI (hd d)) (nI n) rt we wt a1 a2 a3 a4 a5 a6 a7 a8 a9 a10 a11 a12 a13 a14) ∧ (¬ r ≤ 0 → post (-2) (rt, we, wt, a1, a2, a3, a4, a5, a6, a7, a8, a9, a10, a11, a12, a13, a14)))) (rt, we, wt, a1, a2, a3, a4, a5, a6, a7, a8, a9, a10, a11, a12, a13, a14) (nI n)) ∧ (¬ nI (v % 4) = 1 → wX_erase_114 post (nI a) (nI (hd d)) (nI n) rt we wt a1 a2 a3 a4 a5 a6 a7 a8 a9 a10 a11 a12 a13 a14))) → wpX_erase post u (nI d) (nI a) := by
            intro u post hu K
            refine mid u post hu (fun u' hu' => ?_)
            obtain ⟨rt, we, wt, a1, a2, a3, a4, a5, a6, a7, a8, a9, a10, a11, a12, a13, a14⟩ := u'
            rw [ee]
            refine br_t (nI_pos' (by omega)) ?_
            refine pk_loop (σ := Unit) (fun f i _ => wX_erase_65 post (nI a) (nI (hd d)) (nI n) rt we wt a1 a2 a3 a4 a5 a6 a7 a8 a9 a10 a11 a12 a13 a14 f (nI i)) (fun _ _ => True) 4 0 () (by omega) trivial ?_ ?_
            · intro f _ _
              refine pk_le 4 4 (fun _ => ?_) (fun z => absurd z (by omega))
              refine mt_sort hu' n2 hv (fun u2 hu2 => ?_)
              have k := K u2 hu2
              obtain ⟨rt, we, wt, a1, a2, a3, a4, a5, a6, a7, a8, a9, a10, a11, a12, a13, a14⟩ := u2
              exact k
            · intro f i _ hi1 _ hwk
              refine pk_le 4 i (fun z => absurd z (by omega)) (fun _ => ⟨pk_in i 4 (by omega), br_f ?_ (nm_r (nI_1 i) (hwk () trivial))⟩)
              rw [mt_hd hu' (by omega)]
              exact fun z => nb i (by omega) ((hd_eq (hc i (by omega)) n2).mp z)
          -- what is left, out of a map without stretches of n
          have done : ∀ M2, fs_ok M2 → (∀ k, k % 256 < 128 → M2 k = M k) → (∀ t p, cv_at M2 t p → cv_at M t p) → (∀ b, b < 6 → M (256 * n + 1 + b) = none) → (∀ k, k / 256 = n → 128 ≤ k % 256 → M2 k = none) → iv_ok (tr_up (tr_up M2 (256 * hd d + 1 + a) none) (256 * n) none) MS hd := by
            intro M2 g1 g2 g3 g4 g5
            have m1 : tr_up (tr_up M2 (256 * hd d + 1 + a) none) (256 * n) none (256 * n) = none := tr_upS
            have m2 : tr_up (tr_up M2 (256 * hd d + 1 + a) none) (256 * n) none (256 * hd d + 1 + a) = none := by rw [tr_upN (by omega), tr_upS]
            have mo : ∀ k, k ≠ 256 * n → k ≠ 256 * hd d + 1 + a → tr_up (tr_up M2 (256 * hd d + 1 + a) none) (256 * n) none k = M2 k := fun k x y => by rw [tr_upN x, tr_upN y]
            have f' := fs_erase g1 ha (by rw [g2 _ (by omega)]; exact ee) (fun b hb => by rw [g2 _ (by omega)]; exact g4 b hb) g5 m1 m2 mo
            refine ⟨f', hfS, fs_hd hh (fun j x hj hx => ⟨x, ?_⟩), cp_sub hcp (fs_fit f') (fs_fit hfS) (fun p hp => hp.elim (fun q => ?_) Or.inr)⟩
            · have := nb j hj
              rw [mo _ (by omega) (by omega), g2 _ (by omega)]; exact hx
            · obtain ⟨k, x, h1, h2⟩ := q
              rw [mo k (by have := h2.1; omega) (by have := h2.1; omega)] at h1
              obtain ⟨t, ht⟩ := cv_bk.mp ⟨k, x, h1, h2⟩
              exact Or.inl (cv_bk.mpr ⟨t, g3 t p ht⟩)
          by_cases v1 : v % 4 = 1
          · -- a directory
            have nost : ∀ k, k / 256 = n → 128 ≤ k % 256 → M k = none := by
              intro k hk hm
              cases ek : M k with
              | none => rfl
              | some x =>
                obtain ⟨⟨w', q1, q2⟩, _⟩ := hf.2.2.2.2.2.2.1 k x ek hm
                rw [hk, hv] at q1
                have := Option.some.inj q1
                omega
            obtain ⟨c, cb, c0, hce⟩ := rq_entries (MS := MS) (dk := dk) (hd := hd) (num := num) hf n2
            by_cases cz : c = 0
            · refine pre 0 _ (done M hf (fun _ _ => rfl) (fun _ _ q => q) (c0 cz) nost) (fun u post hu H => fro u post hu (fun u' hu' => ?_))
              obtain ⟨rt, we, wt, a1, a2, a3, a4, a5, a6, a7, a8, a9, a10, a11, a12, a13, a14⟩ := u'
              refine br_t (by rw [v1]; rfl) ?_
              refine hce _ _ hu' ?_
              subst cz
              refine pk_le 0 0 (fun _ => ?_) (fun z => absurd z (by omega))
              unfold wX_erase_114
              refine mt_sort hu' n2 hv (fun u2 hu2 => ?_)
              obtain ⟨rt, we, wt, a1, a2, a3, a4, a5, a6, a7, a8, a9, a10, a11, a12, a13, a14⟩ := u2
              refine pk_eq (v % 4) 2 (fun z => absurd z (by omega)) (fun _ => ?_)
              exact er_132 hu2 hf.1 e ha n2 n1 ee hv H
            · refine pre (-2) M hiv (fun u post hu H => fro u post hu (fun u' hu' => ?_))
              have := H u' hu'
              obtain ⟨rt, we, wt, a1, a2, a3, a4, a5, a6, a7, a8, a9, a10, a11, a12, a13, a14⟩ := u'
              refine br_t (by rw [v1]; rfl) ?_
              refine hce _ _ hu' ?_
              exact br_f (nI_nle (by omega) (by omega)) this
          · -- a file
            have v2 : v % 4 = 2 := by omega
            have noen : ∀ b, b < 6 → M (256 * n + 1 + b) = none := by
              intro b hb
              cases ek : M (256 * n + 1 + b) with
              | none => rfl
              | some x =>
                obtain ⟨_, _, ⟨w', q1, q2⟩, _⟩ := hf.2.2.2.1 n b x hb ek
                rw [hv] at q1
                have := Option.some.inj q1
                omega
            obtain ⟨M2, c, f, g1, g2, g3, g4, g5, g6⟩ := rm_cut (MS := MS) (dk := dk) (hd := hd) (num := num) n2 8 0 M (by omega) hf
            have nost : ∀ k, k / 256 = n → 128 ≤ k % 256 → M2 k = none := by
              intro k hk hm
              cases ek : M2 k with
              | none => rfl
              | some x =>
                have q := g1.2.2.2.2.2.2.1 k x ek hm
                exact absurd ⟨k, x, ek, hm, by omega, by omega, rfl⟩ (g4 (k % 256 - 128) (by omega) (by omega) (x / 16 + (256 * n + 128 + (k % 256 - 128) - k)))
            refine pre 0 _ (done M2 g1 g2 g3 noen nost) (fun u post hu H => fro u post hu (fun u' hu' => ?_))
            obtain ⟨rt, we, wt, a1, a2, a3, a4, a5, a6, a7, a8, a9, a10, a11, a12, a13, a14⟩ := u'
            refine br_f (by rw [v2]; decide) ?_
            unfold wX_erase_114
            refine mt_sort hu' n2 hv (fun u2 hu2 => ?_)
            obtain ⟨rt, we, wt, a1, a2, a3, a4, a5, a6, a7, a8, a9, a10, a11, a12, a13, a14⟩ := u2
            rw [v2]
            refine br_t rfl ?_
            refine ⟨f, g6 _ 0 _ hu2 (fun u3 hu3 => ?_)⟩
            obtain ⟨rt, we, wt, a1, a2, a3, a4, a5, a6, a7, a8, a9, a10, a11, a12, a13, a14⟩ := u3
            exact er_132 hu3 g1.1 e ha n2 n1 (by rw [g2 _ (by omega)]; exact ee) (by rw [g2 _ (by omega)]; exact hv) H
end
end
section
/-! isAbove, rename -/
section
variable {rt we wt : Int32} {a1 a2 a3 a4 a5 a6 a7 a8 a9 a10 a11 a12 a13 a14 : Nat → Int32} {M MS : Nat → Option Nat} {dk : Nat → Int32} {hd : Nat → Nat} {num : Nat} {u : St1}
theorem ia_loop (hf : fs_ok M) {n : Nat} (hn : n < 16) (n1 : 1 ≤ n) {rk : Nat → Nat} (hr : ∀ n v, n ≠ 0 → M (256 * n) = some v → rk (v / 4) < rk n) : ∀ m x, rk x < m → x < 16 → (∃ v, M (256 * x) = some v) →
    ∃ (r : Int32) (f : Nat), (r = 0 ∨ r = 1) ∧ (r = 0 → ∀ i, fs_it M i x ≠ n) ∧ ∀ u post, mt_ok M MS dk hd num u → (∀ u', mt_ok M MS dk hd num u' → post r u') → match u with | (rt, we, wt, a1, a2, a3, a4, a5, a6, a7, a8, a9, a10, a11, a12, a13, a14) => wX_isAbove_2 post (nI n) f (nI x) rt we wt a1 a2 a3 a4 a5 a6 a7 a8 a9 a10 a11 a12 a13 a14 := by
  intro m
  induction m with
  | zero => intro x h; omega
  | succ m ih =>
    intro x hx x16 ⟨v, hv⟩
    by_cases x0 : x = 0
    · subst x0
      refine ⟨0, 1, Or.inl rfl, fun _ i => by rw [fs_it0 hf.1]; omega, fun u post hu H => ?_⟩
      have := H u hu
      obtain ⟨rt, we, wt, a1, a2, a3, a4, a5, a6, a7, a8, a9, a10, a11, a12, a13, a14⟩ := u
      exact br_t rfl (pk_eq 0 n (fun z => absurd z (by omega)) (fun _ => this))
    · by_cases xn : x = n
      · subst xn
        refine ⟨1, 1, Or.inr rfl, fun z => absurd z (by decide), fun u post hu H => ?_⟩
        have := H u hu
        obtain ⟨rt, we, wt, a1, a2, a3, a4, a5, a6, a7, a8, a9, a10, a11, a12, a13, a14⟩ := u
        exact br_f (nI_ne0 (by omega) (by omega)) (br_t rfl (br_t rfl this))
      · have v16 := (hf.2.2.1 x v hv).2.1
        have vr := hr x v x0 hv
        obtain ⟨w', p1, _⟩ := fs_par hf x0 hv
        obtain ⟨r, f, r1, r2, r3⟩ := ih (v / 4) (by omega) v16 ⟨w', p1⟩
        have up : fs_up M x = v / 4 := by unfold fs_up; rw [hv]; rfl
        refine ⟨r, f + 1, r1, fun z i => ?_, fun u post hu H => ?_⟩
        · cases i with
          | zero => exact xn
          | succ i =>
            show fs_it M i (fs_up M x) ≠ n
            rw [up]; exact r2 z i
        · have vb := (mt_bnd hu hv).2
          obtain ⟨rt, we, wt, a1, a2, a3, a4, a5, a6, a7, a8, a9, a10, a11, a12, a13, a14⟩ := u
          refine br_f (nI_ne0 (by omega) (by omega)) (pk_eq x n (fun z => absurd z xn) (fun _ => ?_))
          rw [ph_256]
          refine mt_get hu (by omega) (fun u' hu' => ?_)
          have nx := r3 u' post hu' H
          obtain ⟨rt, we, wt, a1, a2, a3, a4, a5, a6, a7, a8, a9, a10, a11, a12, a13, a14⟩ := u'
          rw [hv]
          exact nm_r (e' := nI (v / 4)) (pk_shrN (by omega) _ 2 (by decide)) nx
theorem rn_ren (hi : iv_ok M MS hd) {d a e b : Nat} (hd4 : d < 4) (he4 : e < 4) (ha : a < 6) (hb : b < 6) : rm_ok M MS dk hd num (fun post u => wpX_rename post u (nI d) (nI a) (nI e) (nI b)) := by
  have hiv := hi
  obtain ⟨hf, hfS, hh, hcp⟩ := hi
  have pre : ∀ r M', iv_ok M' MS hd → (∀ u post, mt_ok M MS dk hd num u → (∀ u', mt_ok M' MS dk hd num u' → post r u') → wpX_rename post u (nI d) (nI a) (nI e) (nI b)) → rm_ok M MS dk hd num (fun post u => wpX_rename post u (nI d) (nI a) (nI e) (nI b)) := fun r M' a b => ⟨r, M', dk, hd, a, b⟩
  -- a fault
  have flt : ∀ (x : Int32) (rt we wt : Int32) (a1 a2 a3 a4 a5 a6 a7 a8 a9 a10 a11 a12 a13 a14 : Nat → Int32) post, ¬ x = 0 → post x (rt, we, wt, a1, a2, a3, a4, a5, a6, a7, a8, a9, a10, a11, a12, a13, a14) → wX_rename_76 post (nI d) (nI a) (nI e) (nI b) x rt we wt a1 a2 a3 a4 a5 a6 a7 a8 a9 a10 a11 a12 a13 a14 := fun x rt we wt a1 a2 a3 a4 a5 a6 a7 a8 a9 a10 a11 a12 a13 a14 post x0 H => br_f x0 H
  have f54 : ∀ (x : Int32) (rt we wt : Int32) (a1 a2 a3 a4 a5 a6 a7 a8 a9 a10 a11 a12 a13 a14 : Nat → Int32) post, mt_ok M MS dk hd num (rt, we, wt, a1, a2, a3, a4, a5, a6, a7, a8, a9, a10, a11, a12, a13, a14) →
      ((hd d = 255 ∨ hd e = 255) → post (-3) (rt, we, wt, a1, a2, a3, a4, a5, a6, a7, a8, a9, a10, a11, a12, a13, a14)) → (hd d < 16 → hd e < 16 → wX_rename_76 post (nI d) (nI a) (nI e) (nI b) x rt we wt a1 a2 a3 a4 a5 a6 a7 a8 a9 a10 a11 a12 a13 a14) → wX_rename_54 post (nI d) (nI a) (nI e) (nI b) x rt we wt a1 a2 a3 a4 a5 a6 a7 a8 a9 a10 a11 a12 a13 a14 := by
    intro x rt we wt a1 a2 a3 a4 a5 a6 a7 a8 a9 a10 a11 a12 a13 a14 post hu H1 H2
    refine ⟨pk_in d 4 hd4, ?_⟩
    rw [mt_hd hu hd4]
    rcases hh.2 d hd4 with q | ⟨q, _, _⟩
    · refine br_t (hd_neg' q) ?_
      unfold wX_rename_72
      exact flt (-3) _ _ _ _ _ _ _ _ _ _ _ _ _ _ _ _ _ post (by decide) (H1 (Or.inl q))
    · refine br_f (hd_pos' q) ⟨pk_in e 4 he4, ?_⟩
      rw [mt_hd hu he4]
      rcases hh.2 e he4 with q' | ⟨q', _, _⟩
      · refine br_f (hd_neg q') ?_
        unfold wX_rename_72
        exact flt (-3) _ _ _ _ _ _ _ _ _ _ _ _ _ _ _ _ _ post (by decide) (H1 (Or.inr q'))
      · exact br_t (hd_pos q') (H2 q q')
  -- the head of the method
  have head : ∀ u post, mt_ok M MS dk hd num u →
      ((hd d = 255 ∨ hd e = 255) → ∀ u', mt_ok M MS dk hd num u' → post (-3) u') →
      (hd d < 16 → hd e < 16 → (∃ w, M (256 * hd d) = some w ∧ w % 4 = 2) ∨ (∃ w, M (256 * hd e) = some w ∧ w % 4 = 2) → ∀ u', mt_ok M MS dk hd num u' → post (-4) u') →
      (hd d < 16 → hd e < 16 → (∀ w, M (256 * hd d) = some w → w % 4 ≠ 2) → (∀ w, M (256 * hd e) = some w → w % 4 ≠ 2) → ∀ u', mt_ok M MS dk hd num u' → match u' with | (rt, we, wt, a1, a2, a3, a4, a5, a6, a7, a8, a9, a10, a11, a12, a13, a14) => wX_rename_76 post (nI d) (nI a) (nI e) (nI b) 0 rt we wt a1 a2 a3 a4 a5 a6 a7 a8 a9 a10 a11 a12 a13 a14) →
      wpX_rename post u (nI d) (nI a) (nI e) (nI b) := by
    intro u post hu H1 H2 H3
    obtain ⟨rt, we, wt, a1, a2, a3, a4, a5, a6, a7, a8, a9, a10, a11, a12, a13, a14⟩ := u
    unfold wpX_rename
    refine mt_isH _ (fun z => absurd rfl (z d hd4)) (fun i _ _ => br_f (by decide) (mt_isH _ (fun z => absurd rfl (z e he4)) (fun i _ _ => br_f (by decide) (mt_isN _ (by omega) (br_f (by decide) (mt_isN _ (by omega) (br_f (by decide) ?_)))))))
    refine mt_dirF hu hh hd4 (fun q => br_f (by decide) ?_) (fun w u' q1 q2 q3 hu' => ?_) (fun w u' q1 q2 q3 hu' => ?_)
    · exact f54 (-3) _ _ _ _ _ _ _ _ _ _ _ _ _ _ _ _ _ post hu (fun z => H1 z _ hu) (fun z => by omega)
    · obtain ⟨rt, we, wt, a1, a2, a3, a4, a5, a6, a7, a8, a9, a10, a11, a12, a13, a14⟩ := u'
      exact br_f (by decide) (f54 (-4) _ _ _ _ _ _ _ _ _ _ _ _ _ _ _ _ _ post hu' (fun z => H1 z _ hu') (fun z1 z2 => flt (-4) _ _ _ _ _ _ _ _ _ _ _ _ _ _ _ _ _ post (by decide) (H2 z1 z2 (Or.inl ⟨w, q2, q3⟩) _ hu')))
    · obtain ⟨rt, we, wt, a1, a2, a3, a4, a5, a6, a7, a8, a9, a10, a11, a12, a13, a14⟩ := u'
      refine br_t rfl ?_
      refine mt_dirF hu' hh he4 (fun q => ?_) (fun w' u2 s1 s2 s3 hu2 => ?_) (fun w' u2 s1 s2 s3 hu2 => ?_)
      · exact f54 (-3) _ _ _ _ _ _ _ _ _ _ _ _ _ _ _ _ _ post hu' (fun z => H1 z _ hu') (fun z1 z2 => by omega)
      · obtain ⟨rt, we, wt, a1, a2, a3, a4, a5, a6, a7, a8, a9, a10, a11, a12, a13, a14⟩ := u2
        exact f54 (-4) _ _ _ _ _ _ _ _ _ _ _ _ _ _ _ _ _ post hu2 (fun z => H1 z _ hu2) (fun z1 z2 => flt (-4) _ _ _ _ _ _ _ _ _ _ _ _ _ _ _ _ _ post (by decide) (H2 z1 z2 (Or.inr ⟨w', s2, s3⟩) _ hu2))
      · have k := H3 q1 s1 (fun w2 z => by rw [q2] at z; have := Option.some.inj z; omega) (fun w2 z => by rw [s2] at z; have := Option.some.inj z; omega) u2 hu2
        obtain ⟨rt, we, wt, a1, a2, a3, a4, a5, a6, a7, a8, a9, a10, a11, a12, a13, a14⟩ := u2
        exact f54 0 _ _ _ _ _ _ _ _ _ _ _ _ _ _ _ _ _ post hu2 (fun z => H1 z _ hu2) (fun _ _ => k)
  by_cases bad : hd d = 255 ∨ hd e = 255
  · exact pre (-3) M hiv (fun u post hu H => head u post hu (fun _ => H) (fun z1 z2 => (show False by omega).elim) (fun z1 z2 => (show False by omega).elim))
  · obtain ⟨d16, w, hw⟩ := (hh.2 d hd4).resolve_left (fun z => bad (Or.inl z))
    obtain ⟨e16, w', hw'⟩ := (hh.2 e he4).resolve_left (fun z => bad (Or.inr z))
    by_cases fil : w % 4 = 2 ∨ w' % 4 = 2
    · refine pre (-4) M hiv (fun u post hu H => head u post hu (fun z => absurd z bad) (fun _ _ _ => H) (fun _ _ z1 z2 => ?_))
      rcases fil with q | q
      · exact absurd q (z1 w hw)
      · exact absurd q (z2 w' hw')
    · have wd : w' % 4 = 1 := by have := (hf.2.2.1 _ w' hw').1; omega
      have h3 : ∀ (post : Int32 → St1 → Prop) (u : St1), (hd d < 16 → hd e < 16 → (∃ w, M (256 * hd d) = some w ∧ w % 4 = 2) ∨ (∃ w, M (256 * hd e) = some w ∧ w % 4 = 2) → ∀ u', mt_ok M MS dk hd num u' → post (-4) u') := by
        intro post u _ _ z
        rcases z with ⟨x, q1, q2⟩ | ⟨x, q1, q2⟩
        · rw [hw] at q1; have := Option.some.inj q1; omega
        · rw [hw'] at q1; have := Option.some.inj q1; omega
      -- the two entries
      have mid : ∀ u post, mt_ok M MS dk hd num u → (∀ u', mt_ok M MS dk hd num u' → match u' with | (rt, we, wt, a1, a2, a3, a4, a5, a6, a7, a8, a9, a10, a11, a12, a13, a14) => ((0 ≤ ge_I (M (256 * hd d + 1 + a)) → wpX_get (fun r_110 u => match u with
          | (rt, we, wt, a1, a2, a3, a4, a5, a6, a7, a8, a9, a10, a11, a12, a13, a14) => (((r_110 < 0 → (wpX_isAbove (fun r_157 u => match u with
            | (rt, we, wt, a1, a2, a3, a4, a5, a6, a7, a8, a9, a10, a11, a12, a13, a14) => (((r_157 = 0 → (wpX_sortOf (fun r_204 u => match u with
              | (rt, we, wt, a1, a2, a3, a4, a5, a6, a7, a8, a9, a10, a11, a12, a13, a14) => (wpX_remove (fun u => match u with
                | (rt, we, wt, a1, a2, a3, a4, a5, a6, a7, a8, a9, a10, a11, a12, a13, a14) => (wpX_put (fun u => match u with
                  | (rt, we, wt, a1, a2, a3, a4, a5, a6, a7, a8, a9, a10, a11, a12, a13, a14) => (wpX_put (fun u => match u with
                    | (rt, we, wt, a1, a2, a3, a4, a5, a6, a7, a8, a9, a10, a11, a12, a13, a14) => (post 0 (rt, we, wt, a1, a2, a3, a4, a5, a6, a7, a8, a9, a10, a11, a12, a13, a14))) (rt, we, wt, a1, a2, a3, a4, a5, a6, a7, a8, a9, a10, a11, a12, a13, a14) (256 * ge_I (M (256 * hd d + 1 + a))) ((4 * nI (hd e)) + r_204))) (rt, we, wt, a1, a2, a3, a4, a5, a6, a7, a8, a9, a10, a11, a12, a13, a14) (((256 * nI (hd e)) + 1) + nI b) (ge_I (M (256 * hd d + 1 + a))))) (rt, we, wt, a1, a2, a3, a4, a5, a6, a7, a8, a9, a10, a11, a12, a13, a14) (((256 * nI (hd d)) + 1) + nI a))) (rt, we, wt, a1, a2, a3, a4, a5, a6, a7, a8, a9, a10, a11, a12, a13, a14) (ge_I (M (256 * hd d + 1 + a))))) ∧ (¬ r_157 = 0 → (post (-7) (rt, we, wt, a1, a2, a3, a4, a5, a6, a7, a8, a9, a10, a11, a12, a13, a14)))))) (rt, we, wt, a1, a2, a3, a4, a5, a6, a7, a8, a9, a10, a11, a12, a13, a14) (ge_I (M (256 * hd d + 1 + a))) (nI (hd e)))) ∧ (¬ r_110 < 0 → (post (-5) (rt, we, wt, a1, a2, a3, a4, a5, a6, a7, a8, a9, a10, a11, a12, a13, a14)))))) (rt, we, wt, a1, a2, a3, a4, a5, a6, a7, a8, a9, a10, a11, a12, a13, a14) (((256 * nI (hd e)) + 1) + nI b)) ∧ (¬ 0 ≤ ge_I (M (256 * hd d + 1 + a)) → post (-3) (rt, we, wt, a1, a2, a3, a4, a5, a6, a7, a8, a9, a10, a11, a12, a13, a14)))) → wpX_rename post u (nI d) (nI a) (nI e) (nI b) := by
        intro u post hu K
        refine head u post hu (fun z => absurd z bad) (h3 post u) (fun _ _ _ _ u' hu' => ?_)
        obtain ⟨rt, we, wt, a1, a2, a3, a4, a5, a6, a7, a8, a9, a10, a11, a12, a13, a14⟩ := u'
        refine br_t rfl ⟨pk_in d 4 hd4, nm_r (e' := nI (hd d)) (by rw [mt_hd hu' hd4, ph_s8 (by omega)]) ⟨pk_in e 4 he4, nm_r (e' := nI (hd e)) (by rw [mt_hd hu' he4, ph_s8 (by omega)]) ?_⟩⟩
        have G := fun post' H => mt_get (post := post') hu' (k := 256 * hd d + 1 + a) (by omega) H
        rw [← ph_ent] at G
        refine G _ (fun u2 hu2 => ?_)
        have k := K u2 hu2
        obtain ⟨rt, we, wt, a1, a2, a3, a4, a5, a6, a7, a8, a9, a10, a11, a12, a13, a14⟩ := u2
        exact k
      cases ee : M (256 * hd d + 1 + a) with
      | none =>
        refine pre (-3) M hiv (fun u post hu H => mid u post hu (fun u' hu' => ?_))
        have := H u' hu'
        obtain ⟨rt, we, wt, a1, a2, a3, a4, a5, a6, a7, a8, a9, a10, a11, a12, a13, a14⟩ := u'
        rw [ee]
        exact br_f (by decide) this
      | some n =>
        obtain ⟨n1, n2, _, ⟨v, hv, _⟩⟩ := hf.2.2.2.1 _ a n ha ee
        have GE : ∀ (u : St1) (post' : Int32 → St1 → Prop), mt_ok M MS dk hd num u → (∀ u', mt_ok M MS dk hd num u' → post' (ge_I (M (256 * hd e + 1 + b))) u') → wpX_get post' u (256 * nI (hd e) + 1 + nI b) := by
          intro u post' hu H
          rw [ph_ent]
          exact mt_get hu (by omega) H
        cases ef : M (256 * hd e + 1 + b) with
        | some x =>
          refine pre (-5) M hiv (fun u post hu H => mid u post hu (fun u' hu' => ?_))
          have xb := (mt_bnd hu ef).2
          obtain ⟨rt, we, wt, a1, a2, a3, a4, a5, a6, a7, a8, a9, a10, a11, a12, a13, a14⟩ := u'
          rw [ee]
          refine br_t (nI_pos' (by omega)) (GE _ _ hu' (fun u2 hu2 => ?_))
          have := H u2 hu2
          obtain ⟨rt, we, wt, a1, a2, a3, a4, a5, a6, a7, a8, a9, a10, a11, a12, a13, a14⟩ := u2
          rw [ef]
          exact br_f (nI_pos (by omega)) this
        | none =>
          obtain ⟨rk, hr⟩ := hf.2.2.2.2.2.1
          obtain ⟨r, f, r1, r2, r3⟩ := ia_loop (MS := MS) (dk := dk) (hd := hd) (num := num) hf n2 n1 hr _ (hd e) (Nat.lt_succ_self _) e16 ⟨w', hw'⟩
          rcases r1 with r0 | r0
          · subst r0
            have c80 := fs_cd hf
            have ne1 : 256 * hd d + 1 + a ≠ 256 * hd e + 1 + b := by intro z; rw [z] at ee; exact fs_some ef ee
            have m1 : tr_up (tr_up (tr_up M (256 * hd d + 1 + a) none) (256 * hd e + 1 + b) (some n)) (256 * n) (some (4 * hd e + v % 4)) (256 * n) = some (4 * hd e + v % 4) := tr_upS
            have m2 : tr_up (tr_up (tr_up M (256 * hd d + 1 + a) none) (256 * hd e + 1 + b) (some n)) (256 * n) (some (4 * hd e + v % 4)) (256 * hd d + 1 + a) = none := by rw [tr_upN (by omega), tr_upN ne1, tr_upS]
            have m3 : tr_up (tr_up (tr_up M (256 * hd d + 1 + a) none) (256 * hd e + 1 + b) (some n)) (256 * n) (some (4 * hd e + v % 4)) (256 * hd e + 1 + b) = some n := by rw [tr_upN (by omega), tr_upS]
            have mo : ∀ k, k ≠ 256 * n → k ≠ 256 * hd d + 1 + a → k ≠ 256 * hd e + 1 + b → tr_up (tr_up (tr_up M (256 * hd d + 1 + a) none) (256 * hd e + 1 + b) (some n)) (256 * n) (some (4 * hd e + v % 4)) k = M k := fun k x y z => by rw [tr_upN x, tr_upN z, tr_upN y]
            have f' := fs_ren hf ha hb e16 ee hv hw' wd ef (r2 rfl) m1 m2 m3 mo
            refine pre 0 _ ⟨f', hfS, fs_hd hh (fun j x hj hx => ?_), cp_same hcp f' hfS (fun k x hk hx => by rw [mo k (by omega) (by omega) (by omega)] at hx; exact hx)⟩ (fun u post hu H => mid u post hu (fun u' hu' => ?_))
            · by_cases q : hd j = n
              · rw [q]; exact ⟨_, m1⟩
              · exact ⟨x, by rw [mo _ (by omega) (by omega) (by omega)]; exact hx⟩
            · obtain ⟨rt, we, wt, a1, a2, a3, a4, a5, a6, a7, a8, a9, a10, a11, a12, a13, a14⟩ := u'
              rw [ee]
              refine br_t (nI_pos' (by omega)) (GE _ _ hu' (fun u2 hu2 => ?_))
              obtain ⟨rt, we, wt, a1, a2, a3, a4, a5, a6, a7, a8, a9, a10, a11, a12, a13, a14⟩ := u2
              rw [ef]
              refine br_t (by decide) ⟨f, r3 _ _ hu2 (fun u3 hu3 => ?_)⟩
              obtain ⟨rt, we, wt, a1, a2, a3, a4, a5, a6, a7, a8, a9, a10, a11, a12, a13, a14⟩ := u3
              refine br_t rfl ?_
              refine mt_sort hu3 n2 hv (fun u4 hu4 => ?_)
              obtain ⟨rt, we, wt, a1, a2, a3, a4, a5, a6, a7, a8, a9, a10, a11, a12, a13, a14⟩ := u4
              have R := fun post' H => mt_rem (post := post') hu4 ee ⟨0, 1, by omega, hf.1⟩ H
              rw [← ph_ent] at R
              refine R _ (fun u5 hu5 => ?_)
              obtain ⟨rt, we, wt, a1, a2, a3, a4, a5, a6, a7, a8, a9, a10, a11, a12, a13, a14⟩ := u5
              have P := fun post' H => mt_put (post := post') (k := 256 * hd e + 1 + b) (w := n) hu5 (ct_mono (ct_del c80 _) (by omega)) (by omega) (by omega) H
              rw [← ph_ent] at P
              refine P _ (fun u6 hu6 => ?_)
              obtain ⟨rt, we, wt, a1, a2, a3, a4, a5, a6, a7, a8, a9, a10, a11, a12, a13, a14⟩ := u6
              have Q := fun post' H => mt_put (post := post') (k := 256 * n) (w := 4 * hd e + v % 4) hu6 (ct_mono (ct_ins (ct_del c80 _) _ _) (by omega)) (by omega) (by omega) H
              rw [← ph_256, ← nI_add, ← pk_mul] at Q
              refine Q _ (fun u7 hu7 => ?_)
              have := H u7 hu7
              obtain ⟨rt, we, wt, a1, a2, a3, a4, a5, a6, a7, a8, a9, a10, a11, a12, a13, a14⟩ := u7
              exact this
          · subst r0
            refine pre (-7) M hiv (fun u post hu H => mid u post hu (fun u' hu' => ?_))
            obtain ⟨rt, we, wt, a1, a2, a3, a4, a5, a6, a7, a8, a9, a10, a11, a12, a13, a14⟩ := u'
            rw [ee]
            refine br_t (nI_pos' (by omega)) (GE _ _ hu' (fun u2 hu2 => ?_))
            obtain ⟨rt, we, wt, a1, a2, a3, a4, a5, a6, a7, a8, a9, a10, a11, a12, a13, a14⟩ := u2
            rw [ef]
            refine br_t (by decide) ⟨f, r3 _ _ hu2 (fun u3 hu3 => ?_)⟩
            have := H u3 hu3
            obtain ⟨rt, we, wt, a1, a2, a3, a4, a5, a6, a7, a8, a9, a10, a11, a12, a13, a14⟩ := u3
            exact br_f (by decide) this
end
end
section
/-! save, crash, the first state -/
def hd_0 : Nat → Nat := fun h => if h = 0 then 0 else 255
section
variable {rt we wt : Int32} {a1 a2 a3 a4 a5 a6 a7 a8 a9 a10 a11 a12 a13 a14 : Nat → Int32} {M MS : Nat → Option Nat} {dk : Nat → Int32} {hd : Nat → Nat} {num : Nat} {u : St1} {s r v : Nat}
theorem wk_wroot1 {post : St1 → Prop} (h : sv_ok a7 a8 a9 s num v) (hn : num + 1 < 10000) (hr : r < 110) (ert : rt = nI r) (H : ∀ b7 b8 b9 v', sv_ok b7 b8 b9 r (num + 1) v' → post (rt, we, wt, a1, a2, a3, a4, a5, a6, b7, b8, b9, a10, a11, a12, a13, a14)) : wpX_writeRoot post (rt, we, wt, a1, a2, a3, a4, a5, a6, a7, a8, a9, a10, a11, a12, a13, a14) 1 := by
  have hs := h
  obtain ⟨v2, h7, h8, h8b, h9, h0, h1⟩ := h
  subst ert
  unfold wpX_writeRoot
  refine wk_valid hs ?_
  rcases (show v = 0 ∨ v = 1 by omega) with e | e
  · subst e
    refine nm_r (e' := nI 1) (by decide) ⟨pk_in 1 2 (by omega), nm_r (e' := upd a9 1 1) (by rw [nI_clamp (by omega), ph_b1]) ⟨pk_in 1 2 (by omega), nm_r (e' := upd a7 1 (pg_I r)) (by rw [nI_clamp (by omega)]; rfl) ⟨pk_in 0 2 (by omega), pk_in 1 2 (by omega), nm_r (e' := upd a8 1 (nI (num + 1))) (by rw [nI_clamp (by omega), nI_clamp (by omega), h8, nI_1]) (H _ _ _ 1 ?_)⟩⟩⟩
    refine ⟨by omega, pk_us, pk_us, hn, by rw [pk_us]; decide, fun z => absurd z (by omega), fun _ => Or.inr ?_⟩
    rw [pk_us, pk_un (by omega), h8]
    exact nI_le (by omega) (by omega)
  · subst e
    refine nm_r (e' := nI 0) (by decide) ⟨pk_in 0 2 (by omega), nm_r (e' := upd a9 0 1) (by rw [nI_clamp (by omega), ph_b1]) ⟨pk_in 0 2 (by omega), nm_r (e' := upd a7 0 (pg_I r)) (by rw [nI_clamp (by omega)]; rfl) ⟨pk_in 1 2 (by omega), pk_in 0 2 (by omega), nm_r (e' := upd a8 0 (nI (num + 1))) (by rw [nI_clamp (by omega), nI_clamp (by omega), h8, nI_1]) (H _ _ _ 0 ?_)⟩⟩⟩
    refine ⟨by omega, pk_us, pk_us, hn, by rw [pk_us]; decide, fun _ => Or.inr ?_, fun z => absurd z (by omega)⟩
    rw [pk_us, pk_un (by omega), h8]
    exact nI_ge (by omega) (by omega)
theorem wk_wroot0 {post : St1 → Prop} (h : sv_ok a7 a8 a9 s num v) (H : ∀ b7 b8 b9, sv_ok b7 b8 b9 s num v → post (rt, we, wt, a1, a2, a3, a4, a5, a6, b7, b8, b9, a10, a11, a12, a13, a14)) : wpX_writeRoot post (rt, we, wt, a1, a2, a3, a4, a5, a6, a7, a8, a9, a10, a11, a12, a13, a14) 0 := by
  have hs := h
  obtain ⟨v2, h7, h8, h8b, h9, h0, h1⟩ := h
  unfold wpX_writeRoot
  refine wk_valid hs ?_
  rcases (show v = 0 ∨ v = 1 by omega) with e | e
  · subst e
    refine nm_r (e' := nI 1) (by decide) ⟨pk_in 1 2 (by omega), nm_r (e' := upd a9 1 0) (by rw [nI_clamp (by omega), ph_b0]) ⟨pk_in 1 2 (by omega), nm_e ⟨pk_in 0 2 (by omega), pk_in 1 2 (by omega), nm_e (H _ _ _ ?_)⟩⟩⟩
    rw [nI_clamp (by omega)]
    exact ⟨by omega, by rw [pk_un (by omega)]; exact h7, by rw [pk_un (by omega)]; exact h8, h8b, by rw [pk_un (by omega)]; exact h9, fun _ => Or.inl pk_us, fun z => absurd z (by omega)⟩
  · subst e
    refine nm_r (e' := nI 0) (by decide) ⟨pk_in 0 2 (by omega), nm_r (e' := upd a9 0 0) (by rw [nI_clamp (by omega), ph_b0]) ⟨pk_in 0 2 (by omega), nm_e ⟨pk_in 1 2 (by omega), pk_in 0 2 (by omega), nm_e (H _ _ _ ?_)⟩⟩⟩
    rw [nI_clamp (by omega)]
    exact ⟨by omega, by rw [pk_un (by omega)]; exact h7, by rw [pk_un (by omega)]; exact h8, h8b, by rw [pk_un (by omega)]; exact h9, fun z => absurd z (by omega), fun _ => Or.inl pk_us⟩
theorem wk_settle {post : St1 → Prop} (H : ∀ b5, ph_fr b5 (fun _ => False) → post (rt, we, wt, a1, a2, a3, a4, b5, a6, a7, a8, a9, a10, a11, a12, a13, a14)) : wpX_settle post (rt, we, wt, a1, a2, a3, a4, a5, a6, a7, a8, a9, a10, a11, a12, a13, a14) := by
  refine pk_loop (fun n i b => wX_settle_2 post rt we wt n (nI i) a1 a2 a3 a4 b a6 a7 a8 a9 a10 a11 a12 a13 a14) (fun i b => ∀ x, x < i → b x = 0) 110 0 a5 (by omega) (fun x hx => absurd hx (by omega)) ?_ ?_
  · intro n b hb
    exact pk_le 110 110 (fun _ => H b (fun x hx => Or.inr ⟨id, hb x hx⟩)) (fun z => absurd z (by omega))
  · intro n i b hi1 hb hw
    refine pk_le 110 i (fun z => absurd z (by omega)) (fun _ => ⟨pk_in i 110 hi1, nm_r (e' := upd b i 0) (by rw [nI_clamp (by omega)]) (nm_r (nI_1 i) (hw _ (fun x hx => ?_)))⟩)
    by_cases e : x = i
    · subst e; rw [pk_us]
    · rw [pk_un e]; exact hb x (by omega)
/-- the tree as its own saving -/
theorem st_self {N : Nat → Nat} {K V C : Nat → Nat → Nat} {fr T S : Nat → Prop} {lv lo hi lvS loS hiS : Nat → Nat} {b5 : Nat → Int32} (h : st_ok a1 a2 a3 a4 a5 rt N K V C fr r T lv lo hi s S lvS loS hiS M MS) (c : ct_cd M 80) (hf : ph_fr b5 (fun _ => False)) :
    st_ok a1 a2 a3 a4 b5 rt N K V C (fun _ => False) r T lv lo hi r T lv lo hi M M := by
  obtain ⟨⟨p1, p2, p3, p4, p5, p6, p7, p8, p9, p10, p11, p12, p13, p14⟩, n4, nr⟩ := h
  refine ⟨⟨p1, hf, p3, p4, p5, p4, p5, fun x z => z.elim, fun x z => Or.inr z, p10, c, p12, fun x hx => ⟨fun e => p12 x hx (by simpa using e), ?_, n4 x hx⟩, p14⟩, n4, nr⟩
  by_cases e : x = r
  · rw [e]; exact nr
  · have := p12 x hx (by simpa using e); omega
/-- the saving as the tree -/
theorem st_back {N : Nat → Nat} {K V C : Nat → Nat → Nat} {fr T S : Nat → Prop} {lv lo hi lvS loS hiS : Nat → Nat} {b5 : Nat → Int32} (h : st_ok a1 a2 a3 a4 a5 rt N K V C fr r T lv lo hi s S lvS loS hiS M MS) (hf : ph_fr b5 (fun _ => False)) :
    st_ok a1 a2 a3 a4 b5 (nI s) N K V C (fun _ => False) s S lvS loS hiS s S lvS loS hiS MS MS := by
  obtain ⟨⟨p1, p2, p3, p4, p5, p6, p7, p8, p9, p10, p11, p12, p13, p14⟩, n4, nr⟩ := h
  exact ⟨⟨p1, hf, rfl, p6, p7, p6, p7, fun x z => z.elim, fun x z => Or.inr z, ct_mono p11 (by omega), p11, fun x hx e => (p13 x hx).1 (by simpa using e), p13, by simp⟩, fun x hx => (p13 x hx).2.2, (p13 s p6.1.1).2.1⟩
theorem rn_save {post : Int32 → St1 → Prop} (h : mt_ok M MS dk hd num u) (hf : fs_ok M) (hn : num + 1 < 10000) (H : ∀ u', mt_ok M M dk hd (num + 1) u' → post (nI (num + 1)) u') : wpX_save post u := by
  obtain ⟨rt, we, wt, a1, a2, a3, a4, a5, a6, a7, a8, a9, a10, a11, a12, a13, a14⟩ := u
  obtain ⟨N, K, V, C, fr, r, T, lv, lo, hi, s, S, lvS, loS, hiS, v, h1, h2, h3, h4⟩ := h
  have rb := (h1.1.2.2.2.1.2.1 r h1.1.2.2.2.1.1.1).1
  unfold wpX_save
  refine wk_wroot1 h2 hn rb h1.1.2.2.1 (fun b7 b8 b9 v' sv' => ?_)
  refine wk_settle (fun b5 hb5 => ?_)
  refine wk_valid sv' ⟨pk_in v' 2 sv'.1, ?_⟩
  have e8 : b8 (nI v').toNatClampNeg = nI (num + 1) := by rw [nI_clamp (by have := sv'.1; omega)]; exact sv'.2.2.1
  rw [e8]
  exact H _ ⟨N, K, V, C, _, r, T, lv, lo, hi, r, T, lv, lo, hi, v', st_self h1 (fs_cd hf) hb5, sv', h3, h4⟩
/-- behind the root's choice: handles gone, pages settled -/
theorem wk_crash44 {post : Int32 → St1 → Prop} (sv : sv_ok a7 a8 a9 s num v) (h0 : a11 0 = pg_I 0) (H : ∀ b5 b11, ph_fr b5 (fun _ => False) → (∀ h, h < 4 → b11 h = pg_I (hd_0 h)) → post (nI num) (rt, we, wt, a1, a2, a3, a4, b5, a6, a7, a8, a9, a10, b11, a12, a13, a14)) : ∃ n, wX_crash_44 post rt we wt n 1 a1 a2 a3 a4 a5 a6 a7 a8 a9 a10 a11 a12 a13 a14 := by
  refine pk_loop (fun n i b => wX_crash_44 post rt we wt n (nI i) a1 a2 a3 a4 a5 a6 a7 a8 a9 a10 b a12 a13 a14) (fun i b => 1 ≤ i ∧ b 0 = pg_I 0 ∧ ∀ x, 1 ≤ x → x < i → b x = -1) 4 1 a11 (by omega) ⟨by omega, h0, fun x h1 h2 => absurd h1 (by omega)⟩ ?_ ?_
  · intro n b ⟨_, hb0, hb⟩
    refine pk_le 4 4 (fun _ => ?_) (fun z => absurd z (by omega))
    refine wk_settle (fun b5 hb5 => ?_)
    refine wk_valid sv ⟨pk_in v 2 sv.1, ?_⟩
    have e8 : a8 (nI v).toNatClampNeg = nI num := by rw [nI_clamp (by have := sv.1; omega)]; exact sv.2.2.1
    rw [e8]
    refine H b5 b hb5 (fun h hh => ?_)
    by_cases e : h = 0
    · rw [e, hb0]; rfl
    · rw [hb h (by omega) hh, ← ph_255]
      unfold hd_0
      rw [if_neg e]
  · intro n i b hi1 ⟨i1, hb0, hb⟩ hw
    refine pk_le 4 i (fun z => absurd z (by omega)) (fun _ => ⟨pk_in i 4 hi1, nm_r (e' := upd b i (-1)) (by rw [nI_clamp (by omega)]) (nm_r (nI_1 i) (hw _ ⟨by omega, by rw [pk_un (by omega)]; exact hb0, fun x h1 h2 => ?_⟩))⟩)
    by_cases e : x = i
    · subst e; rw [pk_us]
    · rw [pk_un e]; exact hb x h1 (by omega)
theorem rn_crash0 {post : Int32 → St1 → Prop} (h : mt_ok M MS dk hd num u) (hh : hd 0 = 0) (H : ∀ u', mt_ok MS MS dk hd_0 num u' → post (nI num) u') : wpX_crash post u 0 := by
  obtain ⟨rt, we, wt, a1, a2, a3, a4, a5, a6, a7, a8, a9, a10, a11, a12, a13, a14⟩ := u
  obtain ⟨N, K, V, C, fr, r, T, lv, lo, hi, s, S, lvS, loS, hiS, v, h1, h2, h3, h4⟩ := h
  have sb := (h1.1.2.2.2.2.2.1.2.1 s h1.1.2.2.2.2.2.1.1.1).1
  refine br_f (by decide) (br_t (by decide) (br_t (by decide) ?_))
  unfold wX_crash_29
  refine wk_valid h2 ⟨pk_in v 2 h2.1, nm_r (e' := nI s) (by rw [nI_clamp (by have := h2.1; omega), h2.2.1, ph_s8 (by omega)]) ?_⟩
  exact wk_crash44 h2 (by rw [h4 0 (by omega), hh]) (fun b5 b11 q1 q2 => H _ ⟨N, K, V, C, _, s, S, lvS, loS, hiS, s, S, lvS, loS, hiS, v, st_back h1 q1, h2, h3, q2⟩)
theorem rn_crash2 {post : Int32 → St1 → Prop} (h : mt_ok M MS dk hd num u) (hh : hd 0 = 0) (H : ∀ u', mt_ok MS MS dk hd_0 num u' → post (nI num) u') : wpX_crash post u 2 := by
  obtain ⟨rt, we, wt, a1, a2, a3, a4, a5, a6, a7, a8, a9, a10, a11, a12, a13, a14⟩ := u
  obtain ⟨N, K, V, C, fr, r, T, lv, lo, hi, s, S, lvS, loS, hiS, v, h1, h2, h3, h4⟩ := h
  have sb := (h1.1.2.2.2.2.2.1.2.1 s h1.1.2.2.2.2.2.1.1.1).1
  refine br_f (by decide) (br_t (by decide) (br_f (by decide) (br_f (by decide) ?_)))
  unfold wX_crash_26
  refine wk_wroot0 h2 (fun b7 b8 b9 sv' => ?_)
  unfold wX_crash_29
  refine wk_valid sv' ⟨pk_in v 2 sv'.1, nm_r (e' := nI s) (by rw [nI_clamp (by have := sv'.1; omega), sv'.2.1, ph_s8 (by omega)]) ?_⟩
  exact wk_crash44 sv' (by rw [h4 0 (by omega), hh]) (fun b5 b11 q1 q2 => H _ ⟨N, K, V, C, _, s, S, lvS, loS, hiS, s, S, lvS, loS, hiS, v, st_back h1 q1, sv', h3, q2⟩)
theorem rn_crash1 {post : Int32 → St1 → Prop} (h : mt_ok M MS dk hd num u) (hf : fs_ok M) (hh : hd 0 = 0) (hn : num + 1 < 10000) (H : ∀ u', mt_ok M M dk hd_0 (num + 1) u' → post (nI (num + 1)) u') : wpX_crash post u 1 := by
  obtain ⟨rt, we, wt, a1, a2, a3, a4, a5, a6, a7, a8, a9, a10, a11, a12, a13, a14⟩ := u
  obtain ⟨N, K, V, C, fr, r, T, lv, lo, hi, s, S, lvS, loS, hiS, v, h1, h2, h3, h4⟩ := h
  have rb := (h1.1.2.2.2.1.2.1 r h1.1.2.2.2.1.1.1).1
  have ert := h1.1.2.2.1
  refine br_f (by decide) (br_t (by decide) (br_f (by decide) (br_t (by decide) ?_)))
  unfold wX_crash_26
  refine wk_wroot1 h2 hn rb ert (fun b7 b8 b9 v' sv' => ?_)
  unfold wX_crash_29
  refine wk_valid sv' ⟨pk_in v' 2 sv'.1, nm_r (e' := rt) (by rw [nI_clamp (by have := sv'.1; omega), sv'.2.1, ph_s8 (by omega), ert]) ?_⟩
  exact wk_crash44 sv' (by rw [h4 0 (by omega), hh]) (fun b5 b11 q1 q2 => H _ ⟨N, K, V, C, _, r, T, lv, lo, hi, r, T, lv, lo, hi, v', st_self h1 (fs_cd hf) q1, sv', h3, q2⟩)
def fs_0 : Nat → Option Nat := fun k => if k = 0 then some 1 else none
theorem fs_0ok : fs_ok fs_0 := by
  have z : ∀ k v, fs_0 k = some v → k = 0 ∧ v = 1 := by
    intro k v e
    unfold fs_0 at e
    by_cases c : k = 0
    · rw [if_pos c] at e; exact ⟨c, (Option.some.inj e).symm⟩
    · rw [if_neg c] at e; exact absurd e (by simp)
  refine ⟨rfl, fun k v e => ?_, fun n v e => ?_, fun n a v ha e => ?_, fun n a n' a' v ha ha' e e' => ?_, ⟨fun _ => 0, fun n v hn e => ?_⟩, fun k v e hk => ?_, fun k k' v v' e e' hk hk' hl => ?_⟩
  · have := z k v e; omega
  · have := z _ v e
    exact ⟨by omega, by omega, fun h => absurd this.1 (by omega)⟩
  · have := z _ v e; omega
  · have := z _ v e; omega
  · have := z _ v e; omega
  · have := z k v e; omega
  · have := z k v e; omega
theorem fs_0ct : ct_cd fs_0 80 := fs_cd fs_0ok
end
end
section
/-! the constructor -/
section
variable {rt we wt : Int32} {a1 a2 a3 a4 a5 a6 a7 a8 a9 a10 a11 a12 a13 a14 : Nat → Int32} {N : Nat → Nat} {K V C : Nat → Nat → Nat}
theorem wk_put0 {post : St1 → Prop} (hp : ph_ok a1 a2 a3 a4 N K V C) (hf : ph_fr a5 (fun _ => False)) (sv : sv_ok a7 a8 a9 255 0 0)
    (H : ∀ c we' w' b1 b2 b3 b4 b5 b6 b12 b13 b14 N' K' V' C', c < 110 → ph_ok b1 b2 b3 b4 N' K' V' C' → N' c = 1 → K' c 0 = 0 → V' c 0 = 1 → C' c 0 = 255 → post (nI c, we', w', b1, b2, b3, b4, b5, b6, a7, a8, a9, a10, a11, b12, b13, b14)) :
    wpX_put post (-1, we, wt, a1, a2, a3, a4, a5, a6, a7, a8, a9, a10, a11, a12, a13, a14) (nI 0) (nI 1) := by
  unfold wpX_put
  refine ⟨1, br_t (by decide) ?_⟩
  refine ⟨1, pk_le 0 0 (fun _ => ?_) (fun z => absurd z (by omega))⟩
  refine br_t rfl (br_t rfl ?_)
  refine wk_new (G := fun _ => False) (lv := fun _ => 0) (S := fun _ => False) (lvS := fun _ => 0) (loS := fun _ => 0) (hiS := fun _ => 0) (s := 255) (r := 255) (num := 0) (v := 0) hp (Or.inl rfl) (by rw [ph_255]) (Or.inl ⟨rfl, fun _ z => z⟩) sv hf ⟨0, by omega, fun z => z.elim id (fun z => z.elim id id)⟩ (fun c w' b6 b14 hc _ _ => ?_)
  have q1 := ph_new hp hc
  refine wk_push (n := 0) (x := c) (i := 0) (by omega) (by omega) (by omega) ?_
  refine nm_r (e' := nI 0) (by decide) ⟨pk_in 0 8 (by omega), pk_in 0 8 (by omega), ?_⟩
  have r1 : upd a12 0 (nI c) (nI 0).toNatClampNeg = nI c := by rw [nI_clamp (by omega), pk_us]
  have r2 : upd a13 0 (nI 0) (nI 0).toNatClampNeg = nI 0 := by rw [nI_clamp (by omega), pk_us]
  rw [r1, r2]
  have N0 : tr_up N c 0 c = 0 := tr_upS
  refine wk_open q1 hc (i := 0) (by omega) (by rw [N0]; omega) (fun d2 d3 K2 V2 h1 h2 h3 h4 => ⟨pk_in 0 8 (by omega), pk_in 0 8 (by omega), ?_⟩)
  rw [r1, r2]
  refine wk_putAt hc (i := 0) (by omega) (by omega) (by omega) ?_
  have g := ph_wV (ph_wK h1 hc (show 0 < 5 by omega) (show 0 < 32768 by omega)) hc (show 0 < 5 by omega) (show 1 < 32768 by omega)
  have N1 : tr_up (tr_up N c 0) c (tr_up N c 0 c + 1) c = 1 := by rw [tr_upS, N0]
  refine ⟨1, br_f (nI_pos (by omega)) ⟨pk_in 0 8 (by omega), ?_⟩⟩
  rw [r1]
  refine ⟨pk_in c 110 hc, pk_eq 1 5 (fun z => absurd z (by omega)) (fun _ => ?_) (by rw [ph_rN g hc, N1])⟩
  exact H c _ _ _ _ _ _ _ _ _ _ _ _ _ _ _ hc g N1 ph_u2S ph_u2S (by rw [ph_u2S])
/-- a tree of one leaf with the key 0 -/
theorem st_one {c : Nat} (hp : ph_ok a1 a2 a3 a4 N K V C) (hc : c < 110) (n1 : N c = 1) (k0 : K c 0 = 0) (v1 : V c 0 = 1) (c0 : C c 0 = 255) (hf : ph_fr a5 (fun _ => False)) :
    st_ok a1 a2 a3 a4 a5 (nI c) N K V C (fun _ => False) c (fun x => x = c) (fun _ => 0) (fun _ => 0) (fun _ => 4096) c (fun x => x = c) (fun _ => 0) (fun _ => 0) (fun _ => 4096) fs_0 fs_0 := by
  have t : tr_ok N K C c (fun x => x = c) (fun _ => 0) (fun _ => 0) (fun _ => 4096) := by
    refine tr_okOf ⟨rfl, rfl, rfl, by omega⟩ (fun x hx => ?_) (fun x hx hr => absurd hx hr)
    subst hx
    refine ⟨⟨hc, by omega, Nat.le_refl _, fun z => absurd rfl z⟩, fun i hi => ?_, fun i j a b => by omega, by simp [c0], fun i z => absurd (show 0 < 0 from z) (by omega)⟩
    have : i = 0 := by omega
    subst this
    rw [k0]
    exact ⟨Nat.le_refl 0, by show 0 < 4096; omega⟩
  have m : tr_mp N K V (fun x => x = c) fs_0 := by
    refine ⟨fun x i hx hi => ?_, fun k v hk => ?_⟩
    · subst hx
      have : i = 0 := by omega
      subst this
      rw [k0, v1]; rfl
    · unfold fs_0 at hk
      by_cases e : k = 0
      · exact ⟨c, 0, rfl, by omega, by rw [k0, e]⟩
      · rw [if_neg e] at hk; exact absurd hk (by simp)
  refine ⟨⟨hp, hf, rfl, t, m, t, m, fun x z => z.elim, fun x z => Or.inr z, ct_mono fs_0ct (by omega), fs_0ct, fun x hx e => ?_, fun x hx => ?_, by simp⟩, fun x hx => ?_, by omega⟩
  · exact absurd (by rw [hx]; exact List.mem_singleton.mpr rfl) e
  · subst hx; exact ⟨fun z => absurd rfl z, by omega, by omega⟩
  · subst hx; omega
theorem rn_init {post : St1 → Prop} (H : ∀ u, mt_ok fs_0 fs_0 (fun _ => 0) hd_0 0 u → post u) : wpX_init post 14 2418 (0, 0, 0) := by
  have z5 : ph_fr (fun _ => 0) (fun _ => False) := fun x hx => Or.inr ⟨id, rfl⟩
  have z1 : ph_ok (fun _ => 0) (fun _ => 0) (fun _ => 0) (fun _ => 0) (fun _ => 0) (fun _ _ => 0) (fun _ _ => 0) (fun _ _ => 0) :=
    ⟨fun x hx => ⟨rfl, Nat.zero_le 5⟩, fun x i hx hi => ⟨rfl, rfl, (by decide : 0 < 32768), (by decide : 0 < 32768)⟩, fun x i hx hi => by show (0 : Int32) = pg_I 0; decide⟩
  refine ⟨by omega, by omega, by omega, by omega, by omega, by omega, by omega, by omega, by omega, by omega, by omega, by omega, by omega, by omega, by omega, by omega, by omega, by omega, by omega, by omega, by omega, by omega, by omega, by omega, by omega, by omega, by omega, by omega, ?_⟩
  refine pk_loop (fun n i b => wX_init_118 post 14 2418 14 2418 0 0 0 n (nI i) (fun _ => 0) (fun _ => 0) (fun _ => 0) (fun _ => 0) (fun _ => 0) (fun _ => 0) (fun _ => 0) (fun _ => 0) (fun _ => 0) (fun _ => 0) b (fun _ => 0) (fun _ => 0) (fun _ => 0)) (fun i b => 1 ≤ i ∧ b 0 = 0 ∧ ∀ x, 1 ≤ x → x < i → b x = -1) 4 1 (fun _ => 0) (by omega) ⟨by omega, rfl, fun x h1 h2 => absurd h1 (by omega)⟩ ?_ ?_
  · intro n b ⟨_, hb0, hb⟩
    refine pk_le 4 4 (fun _ => nm_e (nm_e (nm_e ?_))) (fun z => absurd z (by omega))
    have sv : sv_ok (upd (upd (fun _ => 0) 0 (-1)) 1 (-1)) (fun _ => 0) (upd (fun _ => 0) 0 1) 255 0 0 := by
      refine ⟨by omega, by rw [pk_un (by omega), pk_us, ph_255], rfl, by omega, by rw [pk_us]; decide, fun _ => Or.inl (by rw [pk_un (by omega)]), fun z => absurd z (by omega)⟩
    refine wk_put0 z1 z5 sv (fun c we' w' b1 b2 b3 b4 b5 b6 b12 b13 b14 N' K' V' C' hc g1 g2 g3 g4 g5 => ?_)
    refine nm_r (e' := upd (upd (upd (fun _ => 0) 0 (-1)) 1 (-1)) 0 (pg_I c)) rfl ?_
    refine wk_settle (fun d5 hd5 => ?_)
    refine H _ ⟨N', K', V', C', _, c, _, _, _, _, c, _, _, _, _, 0, st_one g1 hc g2 g3 g4 g5 hd5, ⟨by omega, pk_us, rfl, by omega, by rw [pk_us]; decide, fun _ => Or.inl (by rw [pk_un (by omega)]), fun z => absurd z (by omega)⟩, rfl, fun h hh => ?_⟩
    by_cases e : h = 0
    · rw [e, hb0]; show (0 : Int32) = pg_I 0; decide
    · rw [hb h (by omega) hh, ← ph_255]
      unfold hd_0
      rw [if_neg e]
  · intro n i b hi1 ⟨i1, hb0, hb⟩ hw
    refine pk_le 4 i (fun z => absurd z (by omega)) (fun _ => ⟨pk_in i 4 hi1, nm_r (e' := upd b i (-1)) (by rw [nI_clamp (by omega)]) (nm_r (nI_1 i) (hw _ ⟨by omega, by rw [pk_un (by omega)]; exact hb0, fun x h1 h2 => ?_⟩))⟩)
    by_cases e : x = i
    · subst e; rw [pk_us]
    · rw [pk_un e]; exact hb x h1 (by omega)
end
end
section
/-! the law's act, same, opens -/
section
variable {rt we wt : Int32} {a1 a2 a3 a4 a5 a6 a7 a8 a9 a10 a11 a12 a13 a14 : Nat → Int32} {M MS : Nat → Option Nat} {dk : Nat → Int32} {hd : Nat → Nat} {num : Nat}
theorem ac_and {x m : Int32} {k : Nat} (hm : m.toBitVec.toNat = 2 ^ k - 1) : ∃ j : Nat, j < 2 ^ k ∧ x &&& m = nI j := pk_andE x k hm
theorem ac_rem {x : Int32} (d : Nat) (hd : 0 < d) (hb : d < 300) {D : Int32} (hD : D = nI d) : ∃ j : Nat, j < d ∧ (x &&& 255) - (x &&& 255) / D * D = nI j := by
  obtain ⟨j, j1, j2⟩ := pk_andE x (m := 255) 8 (by decide)
  refine ⟨j % d, Nat.mod_lt _ hd, ?_⟩
  rw [j2, hD]
  exact pk_rem (by omega) hd (by omega)
theorem rn_act (hi : iv_ok M MS hd) (hn : num + 1 < 10000) {o : Nat} (ho : o < 14) (p q : Int32) : ∃ r M' MS' dk' hd' num', iv_ok M' MS' hd' ∧ num' ≤ num + 1 ∧ ∀ u post, mt_ok M MS dk hd num u → (∀ u', mt_ok M' MS' dk' hd' num' u' → post r u') → wpL_act post u (nI o) p q := by
  obtain ⟨h0, h1, eh⟩ := ac_rem (x := p) 3 (by omega) (by omega) (show (3 : Int32) = nI 3 from rfl)
  obtain ⟨d, d1, ed⟩ := pk_andE (p >>> ((8 : Int32) &&& 31)) (m := 3) 2 (by decide)
  obtain ⟨e, e1, ee⟩ := pk_andE (p >>> ((10 : Int32) &&& 31)) (m := 3) 2 (by decide)
  obtain ⟨a, a1, ea⟩ := ac_rem (x := q) 6 (by omega) (by omega) (show (6 : Int32) = nI 6 from rfl)
  obtain ⟨b, b1, eb⟩ := ac_rem (x := q >>> ((8 : Int32) &&& 31)) 6 (by omega) (by omega) (show (6 : Int32) = nI 6 from rfl)
  obtain ⟨c, c1, ec⟩ := pk_andE q (m := 31) 5 (by decide)
  obtain ⟨g, g1, eg⟩ := pk_andE q (m := 7) 3 (by decide)
  have eh' : 1 + ((p &&& 255) - (p &&& 255) / 3 * 3) = nI (1 + h0) := by rw [eh, show (1 : Int32) = nI 1 from rfl, nI_add]
  have wrap : ∀ (W : (Int32 → St1 → Prop) → St1 → Prop), rm_ok M MS dk hd num W → (∀ u post, (W (fun r u => match u with | (rt, we, wt, a1, a2, a3, a4, a5, a6, a7, a8, a9, a10, a11, a12, a13, a14) => post r (rt, we, wt, a1, a2, a3, a4, a5, a6, a7, a8, a9, a10, a11, a12, a13, a14)) u) → wpL_act post u (nI o) p q) →
      ∃ r M' MS' dk' hd' num', iv_ok M' MS' hd' ∧ num' ≤ num + 1 ∧ ∀ u post, mt_ok M MS dk hd num u → (∀ u', mt_ok M' MS' dk' hd' num' u' → post r u') → wpL_act post u (nI o) p q := by
    intro W ⟨r, M', dk', hd', i1, i2⟩ hW
    refine ⟨r, M', MS, dk', hd', num, i1, by omega, fun u post hu H => hW u post (i2 u _ hu (fun u' hu' => ?_))⟩
    have := H u' hu'
    obtain ⟨rt, we, wt, a1, a2, a3, a4, a5, a6, a7, a8, a9, a10, a11, a12, a13, a14⟩ := u'
    exact this
  by_cases o4 : o < 4
  · by_cases q0 : q &&& 65536 = 0
    · refine wrap _ (rn_make (x := 1) hi (show 1 ≤ 1 + h0 by omega) (by omega) d1 a1) (fun u post H => ?_)
      obtain ⟨rt, we, wt, a1, a2, a3, a4, a5, a6, a7, a8, a9, a10, a11, a12, a13, a14⟩ := u
      refine ⟨by decide, nm_r eh' (nm_r ed (nm_r ee ⟨by decide, nm_r ea ⟨by decide, nm_r eb ?_⟩⟩))⟩
      exact pk_le 4 o (fun z => absurd z (by omega)) (fun _ => br_t q0 H)
    · refine wrap _ (rn_make (x := 0) hi (show 1 ≤ 1 + h0 by omega) (by omega) d1 a1) (fun u post H => ?_)
      obtain ⟨rt, we, wt, a1, a2, a3, a4, a5, a6, a7, a8, a9, a10, a11, a12, a13, a14⟩ := u
      refine ⟨by decide, nm_r eh' (nm_r ed (nm_r ee ⟨by decide, nm_r ea ⟨by decide, nm_r eb ?_⟩⟩))⟩
      exact pk_le 4 o (fun z => absurd z (by omega)) (fun _ => br_f q0 H)
  · by_cases o6 : o < 6
    · have xx : nI a - 1 = -1 ∨ ∃ a' : Nat, a' < 6 ∧ nI a - 1 = nI a' := by
        cases a with
        | zero => exact Or.inl (by decide)
        | succ a' => exact Or.inr ⟨a', by omega, nI_pred a'⟩
      obtain ⟨r, hd', i1, _, _, i2⟩ := rn_open (dk := dk) (num := num) hi (show 1 ≤ 1 + h0 by omega) (show 1 + h0 < 4 by omega) d1 xx
      refine wrap (fun post u => wpX_open post u (nI (1 + h0)) (nI d) (nI a - 1)) ⟨r, M, dk, hd', i1, i2⟩ (fun u post H => ?_)
      obtain ⟨rt, we, wt, a1, a2, a3, a4, a5, a6, a7, a8, a9, a10, a11, a12, a13, a14⟩ := u
      refine ⟨by decide, nm_r eh' (nm_r ed (nm_r ee ⟨by decide, nm_r ea ⟨by decide, nm_r eb ?_⟩⟩))⟩
      exact pk_le 4 o (fun _ => pk_le 6 o (fun z => absurd z (by omega)) (fun _ => H)) (fun z => absurd z (by omega))
    · by_cases o7 : o = 6
      · refine wrap _ (rn_erase hi d1 a1) (fun u post H => ?_)
        obtain ⟨rt, we, wt, a1, a2, a3, a4, a5, a6, a7, a8, a9, a10, a11, a12, a13, a14⟩ := u
        refine ⟨by decide, nm_r eh' (nm_r ed (nm_r ee ⟨by decide, nm_r ea ⟨by decide, nm_r eb ?_⟩⟩))⟩
        exact pk_le 4 o (fun _ => pk_le 6 o (fun _ => pk_eq o 6 (fun _ => H) (fun z => absurd o7 z)) (fun z => absurd z (by omega))) (fun z => absurd z (by omega))
      · by_cases o8 : o = 7
        · refine wrap _ (rn_ren hi d1 e1 a1 b1) (fun u post H => ?_)
          obtain ⟨rt, we, wt, a1, a2, a3, a4, a5, a6, a7, a8, a9, a10, a11, a12, a13, a14⟩ := u
          refine ⟨by decide, nm_r eh' (nm_r ed (nm_r ee ⟨by decide, nm_r ea ⟨by decide, nm_r eb ?_⟩⟩))⟩
          exact pk_le 4 o (fun _ => pk_le 6 o (fun _ => pk_eq o 6 (fun z => absurd z o7) (fun _ => pk_eq o 7 (fun _ => H) (fun z => absurd o8 z))) (fun z => absurd z (by omega))) (fun z => absurd z (by omega))
        · by_cases o12 : o < 12
          · refine wrap _ (rn_write hi d1 c1 (q >>> ((5 : Int32) &&& 31))) (fun u post H => ?_)
            obtain ⟨rt, we, wt, a1, a2, a3, a4, a5, a6, a7, a8, a9, a10, a11, a12, a13, a14⟩ := u
            refine ⟨by decide, nm_r eh' (nm_r ed (nm_r ee ⟨by decide, nm_r ea ⟨by decide, nm_r eb ?_⟩⟩))⟩
            rw [ec]
            exact pk_le 4 o (fun _ => pk_le 6 o (fun _ => pk_eq o 6 (fun z => absurd z o7) (fun _ => pk_eq o 7 (fun z => absurd z o8) (fun _ => pk_le 12 o (fun z => absurd z (by omega)) (fun _ => H)))) (fun z => absurd z (by omega))) (fun z => absurd z (by omega))
          · by_cases o13 : o = 12
            · refine wrap _ (rn_cut hi d1 g1) (fun u post H => ?_)
              obtain ⟨rt, we, wt, a1, a2, a3, a4, a5, a6, a7, a8, a9, a10, a11, a12, a13, a14⟩ := u
              refine ⟨by decide, nm_r eh' (nm_r ed (nm_r ee ⟨by decide, nm_r ea ⟨by decide, nm_r eb ?_⟩⟩))⟩
              rw [eg]
              exact pk_le 4 o (fun _ => pk_le 6 o (fun _ => pk_eq o 6 (fun z => absurd z o7) (fun _ => pk_eq o 7 (fun z => absurd z o8) (fun _ => pk_le 12 o (fun _ => pk_eq o 12 (fun _ => H) (fun z => absurd o13 z)) (fun z => absurd z (by omega))))) (fun z => absurd z (by omega))) (fun z => absurd z (by omega))
            · obtain ⟨hf, hfS, hh, hcp⟩ := hi
              refine ⟨nI (num + 1), M, M, dk, hd, num + 1, ⟨hf, hf, hh, cp_sub hcp (fs_fit hf) (fs_fit hf) (fun p hp => Or.inl (hp.elim id id))⟩, by omega, fun u post hu H => ?_⟩
              have H' : wpX_save (fun r u => match u with | (rt, we, wt, a1, a2, a3, a4, a5, a6, a7, a8, a9, a10, a11, a12, a13, a14) => post r (rt, we, wt, a1, a2, a3, a4, a5, a6, a7, a8, a9, a10, a11, a12, a13, a14)) u := rn_save hu hf hn (fun u' hu' => by
                have := H u' hu'
                obtain ⟨rt, we, wt, a1, a2, a3, a4, a5, a6, a7, a8, a9, a10, a11, a12, a13, a14⟩ := u'
                exact this)
              obtain ⟨rt, we, wt, a1, a2, a3, a4, a5, a6, a7, a8, a9, a10, a11, a12, a13, a14⟩ := u
              refine ⟨by decide, nm_r eh' (nm_r ed (nm_r ee ⟨by decide, nm_r ea ⟨by decide, nm_r eb ?_⟩⟩))⟩
              exact pk_le 4 o (fun _ => pk_le 6 o (fun _ => pk_eq o 6 (fun z => absurd z o7) (fun _ => pk_eq o 7 (fun z => absurd z o8) (fun _ => pk_le 12 o (fun _ => pk_eq o 12 (fun z => absurd z o13) (fun _ => H')) (fun z => absurd z (by omega))))) (fun z => absurd z (by omega))) (fun z => absurd z (by omega))
/-- no name behind -/
theorem op_stuck {post : Int32 → St1 → Prop} {x : Int32} (hs : ∀ u (post : Int32 → St1 → Prop), mt_ok M MS dk hd num u → (∀ u', mt_ok M MS dk hd num u' → post (-3) u') → wpX_next post u (nI 0) x) (H : ∀ u', mt_ok M MS dk hd num u' → post 1 u') :
    ∀ d k u, k + d = 16 → mt_ok M MS dk hd num u → match u with | (rt, we, wt, a1, a2, a3, a4, a5, a6, a7, a8, a9, a10, a11, a12, a13, a14) => wL_opens_4 post (d + 1) x (nI k) rt we wt a1 a2 a3 a4 a5 a6 a7 a8 a9 a10 a11 a12 a13 a14 := by
  intro d
  induction d with
  | zero =>
    intro k u hk hu
    have : k = 16 := by omega
    subst this
    obtain ⟨rt, we, wt, a1, a2, a3, a4, a5, a6, a7, a8, a9, a10, a11, a12, a13, a14⟩ := u
    refine pk_le 16 16 (fun _ => ?_) (fun z => absurd z (by omega))
    refine hs _ _ hu (fun u' hu' => ?_)
    have := H u' hu'
    obtain ⟨rt, we, wt, a1, a2, a3, a4, a5, a6, a7, a8, a9, a10, a11, a12, a13, a14⟩ := u'
    exact br_t rfl this
  | succ d ih =>
    intro k u hk hu
    obtain ⟨rt, we, wt, a1, a2, a3, a4, a5, a6, a7, a8, a9, a10, a11, a12, a13, a14⟩ := u
    refine pk_le 16 k (fun z => absurd z (by omega)) (fun _ => ?_)
    refine hs _ _ hu (fun u' hu' => ?_)
    have nx := ih (k + 1) u' (by omega) hu'
    obtain ⟨rt, we, wt, a1, a2, a3, a4, a5, a6, a7, a8, a9, a10, a11, a12, a13, a14⟩ := u'
    exact br_t (by decide) (br_t (by decide) (nm_r (nI_1 k) nx))
theorem op_main (hf : fs_ok M) {post : Int32 → St1 → Prop} (H : ∀ hd' u', iv_ok M MS hd' → mt_ok M MS dk hd' num u' → post 1 u') :
    ∀ d k x hd u, k + d = 16 → iv_ok M MS hd → ((k = 0 ∧ x = -1) ∨ ∃ b : Nat, b < 6 ∧ x = nI b ∧ k ≤ b + 1) → mt_ok M MS dk hd num u → match u with | (rt, we, wt, a1, a2, a3, a4, a5, a6, a7, a8, a9, a10, a11, a12, a13, a14) => wL_opens_4 post (d + 1) x (nI k) rt we wt a1 a2 a3 a4 a5 a6 a7 a8 a9 a10 a11 a12 a13 a14 := by
  intro d
  induction d with
  | zero =>
    intro k x hd u hk hi hx hu
    rcases hx with z | ⟨b, z1, z2, z3⟩ <;> omega
  | succ d ih =>
    intro k x hd u hk hi hx hu
    have nm : rq_nm x := by
      rcases hx with z | ⟨b, z1, z2, z3⟩
      · exact Or.inl z.2
      · exact Or.inr ⟨b, by omega, z2⟩
    have hh := hi.2.2.1
    obtain ⟨r, hr, hW⟩ := rq_next (MS := MS) (dk := dk) (num := num) hf hh (show 0 < 4 by omega) nm
    have h0 := hh.1
    rcases hr with z | ⟨_, w, z1, z2⟩ | ⟨a, z1, z2, z3, v, z4⟩
    · subst z
      exact op_stuck hW (fun u' hu' => H hd u' hi hu') (d + 1) k u hk hu
    · rw [h0, show 256 * 0 = 0 from rfl, hf.1] at z1
      have := Option.some.inj z1
      omega
    · subst z2
      obtain ⟨r2, hd', i1, i2, i3, i4⟩ := rn_open (dk := dk) (num := num) (x := nI a) hi (show 1 ≤ 1 by omega) (show 1 < 4 by omega) (show 0 < 4 by omega) (Or.inr ⟨a, z1, rfl⟩)
      have r0 : r2 = 0 := i3 a v 1 rfl z1 (by omega) (by rw [h0]; exact hf.1) (by omega) z4
      subst r0
      obtain ⟨rt, we, wt, a1, a2, a3, a4, a5, a6, a7, a8, a9, a10, a11, a12, a13, a14⟩ := u
      refine pk_le 16 k (fun z => absurd z (by omega)) (fun _ => ?_)
      refine hW _ _ hu (fun u' hu' => ?_)
      obtain ⟨rt, we, wt, a1, a2, a3, a4, a5, a6, a7, a8, a9, a10, a11, a12, a13, a14⟩ := u'
      refine br_f (nI_pos (by omega)) ?_
      refine i4 _ _ hu' (fun u2 hu2 => ?_)
      have nx := ih (k + 1) (nI a) hd' u2 (by omega) i1 (Or.inr ⟨a, z1, rfl, by
        rcases hx with y | ⟨b, y1, y2, y3⟩
        · omega
        · have := z3 b (by omega) y2; omega⟩) hu2
      obtain ⟨rt, we, wt, a1, a2, a3, a4, a5, a6, a7, a8, a9, a10, a11, a12, a13, a14⟩ := u2
      exact br_t rfl (br_f (nI_pos (by omega)) (nm_r (nI_1 k) nx))
theorem rn_opens (hi : iv_ok M MS hd) {post : Int32 → St1 → Prop} {u : St1} (hu : mt_ok M MS dk hd num u) (H : ∀ hd' u', iv_ok M MS hd' → mt_ok M MS dk hd' num u' → post 1 u') : wpL_opens post u := by
  have := op_main hi.1 H 16 0 (-1) hd u (by omega) hi (Or.inl ⟨rfl, rfl⟩) hu
  obtain ⟨rt, we, wt, a1, a2, a3, a4, a5, a6, a7, a8, a9, a10, a11, a12, a13, a14⟩ := u
  exact ⟨17, this⟩
end
end
section
/-! the law's same -/
section
variable {M MS : Nat → Option Nat} {dk : Nat → Int32} {hd : Nat → Nat} {num : Nat}
theorem sm_95 (hf : fs_ok M) (hh : hd_ok M hd) {h : Nat} (h4 : h < 4) {post : Int32 → St2 → Prop} {J : Int32 → Int32 → Int32 → Int32 → (Nat → Int32) → (Nat → Int32) → (Nat → Int32) → (Nat → Int32) → (Nat → Int32) → (Nat → Int32) → (Nat → Int32) → (Nat → Int32) → (Nat → Int32) → (Nat → Int32) → (Nat → Int32) → (Nat → Int32) → (Nat → Int32) → (Nat → Int32) → Int32 → Int32 → Int32 → (Nat → Int32) → (Nat → Int32) → (Nat → Int32) → (Nat → Int32) → (Nat → Int32) → (Nat → Int32) → (Nat → Int32) → (Nat → Int32) → (Nat → Int32) → (Nat → Int32) → (Nat → Int32) → (Nat → Int32) → (Nat → Int32) → (Nat → Int32) → Prop}
    (H : ∀ u u', mt_ok M MS dk hd num u → mt_ok M MS dk hd num u' → match u, u' with | (rt, we, wt, a1, a2, a3, a4, a5, a6, a7, a8, a9, a10, a11, a12, a13, a14), (rt', we', wt', a1', a2', a3', a4', a5', a6', a7', a8', a9', a10', a11', a12', a13', a14') => J (nI (h + 1)) rt we wt a1 a2 a3 a4 a5 a6 a7 a8 a9 a10 a11 a12 a13 a14 rt' we' wt' a1' a2' a3' a4' a5' a6' a7' a8' a9' a10' a11' a12' a13' a14') :
    ∀ d k x u u', k + d = 16 → rq_nm x → mt_ok M MS dk hd num u → mt_ok M MS dk hd num u' → match u, u' with | (rt, we, wt, a1, a2, a3, a4, a5, a6, a7, a8, a9, a10, a11, a12, a13, a14), (rt', we', wt', a1', a2', a3', a4', a5', a6', a7', a8', a9', a10', a11', a12', a13', a14') => wL_same_95 post J (nI h) (d + 1) x (nI k) rt we wt a1 a2 a3 a4 a5 a6 a7 a8 a9 a10 a11 a12 a13 a14 rt' we' wt' a1' a2' a3' a4' a5' a6' a7' a8' a9' a10' a11' a12' a13' a14' := by
  intro d
  induction d with
  | zero =>
    intro k x u u' hk hx hu hu'
    have : k = 16 := by omega
    subst this
    have K := H u u' hu hu'
    obtain ⟨rt, we, wt, a1, a2, a3, a4, a5, a6, a7, a8, a9, a10, a11, a12, a13, a14⟩ := u
    obtain ⟨rt', we', wt', a1', a2', a3', a4', a5', a6', a7', a8', a9', a10', a11', a12', a13', a14'⟩ := u'
    exact pk_le 16 16 (fun _ => nm_r (nI_1 h) K) (fun z => absurd z (by omega))
  | succ d ih =>
    intro k x u u' hk hx hu hu'
    obtain ⟨r, hr, hW⟩ := rq_next (MS := MS) (dk := dk) (num := num) hf hh h4 hx
    obtain ⟨rt, we, wt, a1, a2, a3, a4, a5, a6, a7, a8, a9, a10, a11, a12, a13, a14⟩ := u
    obtain ⟨rt', we', wt', a1', a2', a3', a4', a5', a6', a7', a8', a9', a10', a11', a12', a13', a14'⟩ := u'
    refine pk_le 16 k (fun z => absurd z (by omega)) (fun _ => ?_)
    refine hW _ _ hu (fun u hu => ?_)
    obtain ⟨rt, we, wt, a1, a2, a3, a4, a5, a6, a7, a8, a9, a10, a11, a12, a13, a14⟩ := u
    refine hW _ _ hu' (fun u' hu' => ?_)
    obtain ⟨rt', we', wt', a1', a2', a3', a4', a5', a6', a7', a8', a9', a10', a11', a12', a13', a14'⟩ := u'
    refine br_t rfl ?_
    refine hW _ _ hu (fun u hu => ?_)
    have stop : ¬ (0 : Int32) ≤ r → match u with | (rt, we, wt, a1, a2, a3, a4, a5, a6, a7, a8, a9, a10, a11, a12, a13, a14) => ((0 ≤ r → wpX_next (fun r_517 u => match u with
        | (rt, we, wt, a1, a2, a3, a4, a5, a6, a7, a8, a9, a10, a11, a12, a13, a14) => (∀ x4_563 : Int32, x4_563 = nI k + 1 → wL_same_95 post J (nI h) (d + 1) r_517 x4_563 rt we wt a1 a2 a3 a4 a5 a6 a7 a8 a9 a10 a11 a12 a13 a14 rt' we' wt' a1' a2' a3' a4' a5' a6' a7' a8' a9' a10' a11' a12' a13' a14')) (rt, we, wt, a1, a2, a3, a4, a5, a6, a7, a8, a9, a10, a11, a12, a13, a14) (nI h) x) ∧ (¬ 0 ≤ r → (∀ x4_564 : Int32, x4_564 = nI k + 1 → wL_same_95 post J (nI h) (d + 1) 99 x4_564 rt we wt a1 a2 a3 a4 a5 a6 a7 a8 a9 a10 a11 a12 a13 a14 rt' we' wt' a1' a2' a3' a4' a5' a6' a7' a8' a9' a10' a11' a12' a13' a14'))) := by
      intro hn
      have nx := ih (k + 1) (nI 99) u (rt', we', wt', a1', a2', a3', a4', a5', a6', a7', a8', a9', a10', a11', a12', a13', a14') (by omega) (Or.inr ⟨99, by omega, rfl⟩) hu hu'
      obtain ⟨rt, we, wt, a1, a2, a3, a4, a5, a6, a7, a8, a9, a10, a11, a12, a13, a14⟩ := u
      exact br_f hn (nm_r (nI_1 k) nx)
    rcases hr with z | ⟨z, _⟩ | ⟨a, z1, z2, _, _⟩
    · subst z
      have s := stop (by decide)
      obtain ⟨rt, we, wt, a1, a2, a3, a4, a5, a6, a7, a8, a9, a10, a11, a12, a13, a14⟩ := u
      exact s
    · subst z
      have s := stop (by decide)
      obtain ⟨rt, we, wt, a1, a2, a3, a4, a5, a6, a7, a8, a9, a10, a11, a12, a13, a14⟩ := u
      exact s
    · subst z2
      obtain ⟨rt, we, wt, a1, a2, a3, a4, a5, a6, a7, a8, a9, a10, a11, a12, a13, a14⟩ := u
      refine br_t (nI_pos' (by omega)) ?_
      refine hW _ _ hu (fun u hu => ?_)
      have nx := ih (k + 1) (nI a) u (rt', we', wt', a1', a2', a3', a4', a5', a6', a7', a8', a9', a10', a11', a12', a13', a14') (by omega) (Or.inr ⟨a, by omega, rfl⟩) hu hu'
      obtain ⟨rt, we, wt, a1, a2, a3, a4, a5, a6, a7, a8, a9, a10, a11, a12, a13, a14⟩ := u
      exact nm_r (nI_1 k) nx
theorem sm_61 (hf : fs_ok M) (hh : hd_ok M hd) {h : Nat} (h4 : h < 4) {post : Int32 → St2 → Prop} {J : Int32 → Int32 → Int32 → Int32 → (Nat → Int32) → (Nat → Int32) → (Nat → Int32) → (Nat → Int32) → (Nat → Int32) → (Nat → Int32) → (Nat → Int32) → (Nat → Int32) → (Nat → Int32) → (Nat → Int32) → (Nat → Int32) → (Nat → Int32) → (Nat → Int32) → (Nat → Int32) → Int32 → Int32 → Int32 → (Nat → Int32) → (Nat → Int32) → (Nat → Int32) → (Nat → Int32) → (Nat → Int32) → (Nat → Int32) → (Nat → Int32) → (Nat → Int32) → (Nat → Int32) → (Nat → Int32) → (Nat → Int32) → (Nat → Int32) → (Nat → Int32) → (Nat → Int32) → Prop}
    (H : ∀ u u', mt_ok M MS dk hd num u → mt_ok M MS dk hd num u' → match u, u' with | (rt, we, wt, a1, a2, a3, a4, a5, a6, a7, a8, a9, a10, a11, a12, a13, a14), (rt', we', wt', a1', a2', a3', a4', a5', a6', a7', a8', a9', a10', a11', a12', a13', a14') => J (nI (h + 1)) rt we wt a1 a2 a3 a4 a5 a6 a7 a8 a9 a10 a11 a12 a13 a14 rt' we' wt' a1' a2' a3' a4' a5' a6' a7' a8' a9' a10' a11' a12' a13' a14') :
    ∀ d i u u', i + d = 11 → mt_ok M MS dk hd num u → mt_ok M MS dk hd num u' → match u, u' with | (rt, we, wt, a1, a2, a3, a4, a5, a6, a7, a8, a9, a10, a11, a12, a13, a14), (rt', we', wt', a1', a2', a3', a4', a5', a6', a7', a8', a9', a10', a11', a12', a13', a14') => wL_same_61 post J (nI h) (d + 1) (nI (3 * i)) rt we wt a1 a2 a3 a4 a5 a6 a7 a8 a9 a10 a11 a12 a13 a14 rt' we' wt' a1' a2' a3' a4' a5' a6' a7' a8' a9' a10' a11' a12' a13' a14' := by
  intro d
  induction d with
  | zero =>
    intro i u u' hi hu hu'
    have : i = 11 := by omega
    subst this
    have K := sm_95 hf hh h4 (post := post) H 16 0 (-1) u u' (by omega) (Or.inl rfl) hu hu'
    obtain ⟨rt, we, wt, a1, a2, a3, a4, a5, a6, a7, a8, a9, a10, a11, a12, a13, a14⟩ := u
    obtain ⟨rt', we', wt', a1', a2', a3', a4', a5', a6', a7', a8', a9', a10', a11', a12', a13', a14'⟩ := u'
    exact pk_le 32 (3 * 11) (fun _ => ⟨17, K⟩) (fun z => absurd z (by omega))
  | succ d ih =>
    intro i u u' hi hu hu'
    obtain ⟨r, _, hW⟩ := rq_read (MS := MS) (dk := dk) (num := num) hf hh h4 (show 3 * i < 32 by omega)
    obtain ⟨rt, we, wt, a1, a2, a3, a4, a5, a6, a7, a8, a9, a10, a11, a12, a13, a14⟩ := u
    obtain ⟨rt', we', wt', a1', a2', a3', a4', a5', a6', a7', a8', a9', a10', a11', a12', a13', a14'⟩ := u'
    refine pk_le 32 (3 * i) (fun z => absurd z (by omega)) (fun _ => ?_)
    refine hW _ _ hu (fun u hu => ?_)
    obtain ⟨rt, we, wt, a1, a2, a3, a4, a5, a6, a7, a8, a9, a10, a11, a12, a13, a14⟩ := u
    refine hW _ _ hu' (fun u' hu' => ?_)
    have nx := ih (i + 1) (rt, we, wt, a1, a2, a3, a4, a5, a6, a7, a8, a9, a10, a11, a12, a13, a14) u' (by omega) hu hu'
    obtain ⟨rt', we', wt', a1', a2', a3', a4', a5', a6', a7', a8', a9', a10', a11', a12', a13', a14'⟩ := u'
    exact br_t rfl (nm_r (e' := nI (3 * (i + 1))) (by rw [show (3 : Int32) = nI 3 from rfl, nI_add]; congr 1) nx)
theorem sm_26 (hf : fs_ok M) (hh : hd_ok M hd) {post : Int32 → St2 → Prop}
    (H : ∀ u u', mt_ok M MS dk hd num u → mt_ok M MS dk hd num u' → match u, u' with | (rt, we, wt, a1, a2, a3, a4, a5, a6, a7, a8, a9, a10, a11, a12, a13, a14), (rt', we', wt', a1', a2', a3', a4', a5', a6', a7', a8', a9', a10', a11', a12', a13', a14') => post 1 (rt, we, wt, a1, a2, a3, a4, a5, a6, a7, a8, a9, a10, a11, a12, a13, a14, rt', we', wt', a1', a2', a3', a4', a5', a6', a7', a8', a9', a10', a11', a12', a13', a14')) :
    ∀ d h u u', h + d = 4 → mt_ok M MS dk hd num u → mt_ok M MS dk hd num u' → match u, u' with | (rt, we, wt, a1, a2, a3, a4, a5, a6, a7, a8, a9, a10, a11, a12, a13, a14), (rt', we', wt', a1', a2', a3', a4', a5', a6', a7', a8', a9', a10', a11', a12', a13', a14') => wL_same_26 post (d + 1) (nI h) rt we wt a1 a2 a3 a4 a5 a6 a7 a8 a9 a10 a11 a12 a13 a14 rt' we' wt' a1' a2' a3' a4' a5' a6' a7' a8' a9' a10' a11' a12' a13' a14' := by
  intro d
  induction d with
  | zero =>
    intro h u u' hi hu hu'
    have : h = 4 := by omega
    subst this
    have K := H u u' hu hu'
    obtain ⟨rt, we, wt, a1, a2, a3, a4, a5, a6, a7, a8, a9, a10, a11, a12, a13, a14⟩ := u
    obtain ⟨rt', we', wt', a1', a2', a3', a4', a5', a6', a7', a8', a9', a10', a11', a12', a13', a14'⟩ := u'
    exact pk_le 4 4 (fun _ => K) (fun z => absurd z (by omega))
  | succ d ih =>
    intro h u u' hi hu hu'
    have h4 : h < 4 := by omega
    obtain ⟨r, _, hW⟩ := rq_kind (M := M) (MS := MS) (dk := dk) (num := num) hh h4
    obtain ⟨r2, _, hW2⟩ := rq_size (MS := MS) (dk := dk) (num := num) hf hh h4
    obtain ⟨rt, we, wt, a1, a2, a3, a4, a5, a6, a7, a8, a9, a10, a11, a12, a13, a14⟩ := u
    obtain ⟨rt', we', wt', a1', a2', a3', a4', a5', a6', a7', a8', a9', a10', a11', a12', a13', a14'⟩ := u'
    refine pk_le 4 h (fun z => absurd z (by omega)) (fun _ => ?_)
    refine hW _ _ hu (fun u hu => ?_)
    obtain ⟨rt, we, wt, a1, a2, a3, a4, a5, a6, a7, a8, a9, a10, a11, a12, a13, a14⟩ := u
    refine hW _ _ hu' (fun u' hu' => ?_)
    obtain ⟨rt', we', wt', a1', a2', a3', a4', a5', a6', a7', a8', a9', a10', a11', a12', a13', a14'⟩ := u'
    refine br_t rfl ?_
    refine hW2 _ _ hu (fun u hu => ?_)
    obtain ⟨rt, we, wt, a1, a2, a3, a4, a5, a6, a7, a8, a9, a10, a11, a12, a13, a14⟩ := u
    refine hW2 _ _ hu' (fun u' hu' => ?_)
    have K := sm_61 hf hh h4 (post := post) (J := wL_same_26 post (d + 1)) (fun u u' hu hu' => ih (h + 1) u u' (by omega) hu hu') 11 0 (rt, we, wt, a1, a2, a3, a4, a5, a6, a7, a8, a9, a10, a11, a12, a13, a14) u' (by omega) hu hu'
    obtain ⟨rt', we', wt', a1', a2', a3', a4', a5', a6', a7', a8', a9', a10', a11', a12', a13', a14'⟩ := u'
    exact br_t rfl ⟨12, K⟩
theorem rn_same (hi : iv_ok M MS hd) {post : Int32 → St2 → Prop} {u u' : St1} (hu : mt_ok M MS dk hd num u) (hu' : mt_ok M MS dk hd num u')
    (H : ∀ u u', mt_ok M MS dk hd num u → mt_ok M MS dk hd num u' → match u, u' with | (rt, we, wt, a1, a2, a3, a4, a5, a6, a7, a8, a9, a10, a11, a12, a13, a14), (rt', we', wt', a1', a2', a3', a4', a5', a6', a7', a8', a9', a10', a11', a12', a13', a14') => post 1 (rt, we, wt, a1, a2, a3, a4, a5, a6, a7, a8, a9, a10, a11, a12, a13, a14, rt', we', wt', a1', a2', a3', a4', a5', a6', a7', a8', a9', a10', a11', a12', a13', a14')) : match u, u' with | (rt, we, wt, a1, a2, a3, a4, a5, a6, a7, a8, a9, a10, a11, a12, a13, a14), (rt', we', wt', a1', a2', a3', a4', a5', a6', a7', a8', a9', a10', a11', a12', a13', a14') => wpL_same post (rt, we, wt, a1, a2, a3, a4, a5, a6, a7, a8, a9, a10, a11, a12, a13, a14, rt', we', wt', a1', a2', a3', a4', a5', a6', a7', a8', a9', a10', a11', a12', a13', a14') := by
  obtain ⟨hf, hfS, hh, z, z1, z2, z3⟩ := hi
  obtain ⟨r, _, hW⟩ := rq_copies (dk := dk) (hd := hd) (num := num) (fs_fit hf) (fs_fit hfS) z1 z2
  obtain ⟨r2, _, hW2⟩ := rq_nodes (MS := MS) (dk := dk) (hd := hd) (num := num) hf
  obtain ⟨rt, we, wt, a1, a2, a3, a4, a5, a6, a7, a8, a9, a10, a11, a12, a13, a14⟩ := u
  obtain ⟨rt', we', wt', a1', a2', a3', a4', a5', a6', a7', a8', a9', a10', a11', a12', a13', a14'⟩ := u'
  show wpL_same post (rt, we, wt, a1, a2, a3, a4, a5, a6, a7, a8, a9, a10, a11, a12, a13, a14, rt', we', wt', a1', a2', a3', a4', a5', a6', a7', a8', a9', a10', a11', a12', a13', a14')
  unfold wpL_same
  refine hW _ _ hu (fun u hu => ?_)
  obtain ⟨rt, we, wt, a1, a2, a3, a4, a5, a6, a7, a8, a9, a10, a11, a12, a13, a14⟩ := u
  refine hW _ _ hu' (fun u' hu' => ?_)
  obtain ⟨rt', we', wt', a1', a2', a3', a4', a5', a6', a7', a8', a9', a10', a11', a12', a13', a14'⟩ := u'
  refine br_t rfl ?_
  refine hW2 _ _ hu (fun u hu => ?_)
  obtain ⟨rt, we, wt, a1, a2, a3, a4, a5, a6, a7, a8, a9, a10, a11, a12, a13, a14⟩ := u
  refine hW2 _ _ hu' (fun u' hu' => ?_)
  have K := sm_26 hf hh (post := post) H 4 0 (rt, we, wt, a1, a2, a3, a4, a5, a6, a7, a8, a9, a10, a11, a12, a13, a14) u' (by omega) hu hu'
  obtain ⟨rt', we', wt', a1', a2', a3', a4', a5', a6', a7', a8', a9', a10', a11', a12', a13', a14'⟩ := u'
  exact br_t rfl ⟨5, K⟩
end
end
section
/-! the law -/
theorem iv_back {M MS : Nat → Option Nat} {hd : Nat → Nat} (h : iv_ok M MS hd) : iv_ok MS MS hd_0 := by
  obtain ⟨hf, hfS, hh, hcp⟩ := h
  refine ⟨hfS, hfS, ⟨rfl, fun j hj => ?_⟩, cp_sub hcp (fs_fit hfS) (fs_fit hfS) (fun p hp => Or.inr (hp.elim id id))⟩
  unfold hd_0
  by_cases e : j = 0
  · rw [if_pos e]; exact Or.inr ⟨by omega, 1, hfS.1⟩
  · rw [if_neg e]; exact Or.inl rfl
theorem iv_fwd {M MS : Nat → Option Nat} {hd : Nat → Nat} (h : iv_ok M MS hd) : iv_ok M M hd_0 := by
  obtain ⟨hf, hfS, hh, hcp⟩ := h
  refine ⟨hf, hf, ⟨rfl, fun j hj => ?_⟩, cp_sub hcp (fs_fit hf) (fs_fit hf) (fun p hp => Or.inl (hp.elim id id))⟩
  unfold hd_0
  by_cases e : j = 0
  · rw [if_pos e]; exact Or.inr ⟨by omega, 1, hf.1⟩
  · rw [if_neg e]; exact Or.inl rfl
theorem iv_0 : iv_ok fs_0 fs_0 hd_0 := by
  have nb : ∀ p, ¬ bk_in fs_0 p := by
    intro p ⟨k, v, h1, h2, _⟩
    unfold fs_0 at h1
    by_cases e : k = 0
    · rw [e] at h2; omega
    · rw [if_neg e] at h1; exact absurd h1 (by simp)
  refine ⟨fs_0ok, fs_0ok, ⟨rfl, fun j hj => ?_⟩, 0, by decide, fun p => ?_, ?_⟩
  · unfold hd_0
    by_cases e : j = 0
    · rw [if_pos e]; exact Or.inr ⟨by omega, 1, rfl⟩
    · rw [if_neg e]; exact Or.inl rfl
  · constructor
    · intro e; simp at e
    · intro e; exact (e.elim (nb p) (nb p)).elim
  · decide
section
variable {M MS : Nat → Option Nat} {dk : Nat → Int32} {hd : Nat → Nat} {num : Nat}
theorem la_133 (hi : iv_ok M MS hd) {post : Int32 → Prop} {L : Nat} {xs : Nat → Int32} {J : Int32 → Int32 → Int32 → Int32 → (Nat → Int32) → (Nat → Int32) → (Nat → Int32) → (Nat → Int32) → (Nat → Int32) → (Nat → Int32) → (Nat → Int32) → (Nat → Int32) → (Nat → Int32) → (Nat → Int32) → (Nat → Int32) → (Nat → Int32) → (Nat → Int32) → (Nat → Int32) → Int32 → Int32 → Int32 → (Nat → Int32) → (Nat → Int32) → (Nat → Int32) → (Nat → Int32) → (Nat → Int32) → (Nat → Int32) → (Nat → Int32) → (Nat → Int32) → (Nat → Int32) → (Nat → Int32) → (Nat → Int32) → (Nat → Int32) → (Nat → Int32) → (Nat → Int32) → Prop} {i kc ks : Nat}
    (H : ∀ u u', mt_ok M MS dk hd num u → mt_ok M MS dk hd num u' → match u, u' with | (rt, we, wt, a1, a2, a3, a4, a5, a6, a7, a8, a9, a10, a11, a12, a13, a14), (rt', we', wt', a1', a2', a3', a4', a5', a6', a7', a8', a9', a10', a11', a12', a13', a14') => J (nI (3 * (i + 1))) rt we wt a1 a2 a3 a4 a5 a6 a7 a8 a9 a10 a11 a12 a13 a14 rt' we' wt' a1' a2' a3' a4' a5' a6' a7' a8' a9' a10' a11' a12' a13' a14') :
    ∀ u u', mt_ok M MS dk hd num u → mt_ok M MS dk hd num u' → match u, u' with | (rt, we, wt, a1, a2, a3, a4, a5, a6, a7, a8, a9, a10, a11, a12, a13, a14), (rt', we', wt', a1', a2', a3', a4', a5', a6', a7', a8', a9', a10', a11', a12', a13', a14') => wL_law_133 post L xs J (nI (3 * i)) kc ks rt we wt a1 a2 a3 a4 a5 a6 a7 a8 a9 a10 a11 a12 a13 a14 rt' we' wt' a1' a2' a3' a4' a5' a6' a7' a8' a9' a10' a11' a12' a13' a14' := by
  intro u u' hu hu'
  have hi0 := hi
  obtain ⟨hf, hfS, hh, z, z1, z2, z3⟩ := hi
  obtain ⟨r, hr, hW⟩ := rq_copies (dk := dk) (hd := hd) (num := num) (fs_fit hf) (fs_fit hfS) z1 z2
  subst hr
  have S := rn_same hi0 (post := fun r_393 u => match u with
    | (rt, we, wt, a1, a2, a3, a4, a5, a6, a7, a8, a9, a10, a11, a12, a13, a14, rt', we', wt', a1', a2', a3', a4', a5', a6', a7', a8', a9', a10', a11', a12', a13', a14') => ((r_393 = 0 → post 0) ∧ (¬ r_393 = 0 → wpX_copies (fun r_485 u => match u with
      | (rt, we, wt, a1, a2, a3, a4, a5, a6, a7, a8, a9, a10, a11, a12, a13, a14) => ((r_485 < 0 → post 0) ∧ (¬ r_485 < 0 → wpX_copies (fun r_532 u => match u with
        | (rt, we, wt, a1, a2, a3, a4, a5, a6, a7, a8, a9, a10, a11, a12, a13, a14) => ((r_532 ≤ 24 → ∀ x3_579 : Int32, x3_579 = nI (3 * i) + 3 → J x3_579 rt we wt a1 a2 a3 a4 a5 a6 a7 a8 a9 a10 a11 a12 a13 a14 rt' we' wt' a1' a2' a3' a4' a5' a6' a7' a8' a9' a10' a11' a12' a13' a14') ∧ (¬ r_532 ≤ 24 → post 0))) (rt, we, wt, a1, a2, a3, a4, a5, a6, a7, a8, a9, a10, a11, a12, a13, a14)))) (rt, we, wt, a1, a2, a3, a4, a5, a6, a7, a8, a9, a10, a11, a12, a13, a14)))) hu hu' (fun u u' hu hu' => by
      obtain ⟨rt, we, wt, a1, a2, a3, a4, a5, a6, a7, a8, a9, a10, a11, a12, a13, a14⟩ := u
      obtain ⟨rt', we', wt', a1', a2', a3', a4', a5', a6', a7', a8', a9', a10', a11', a12', a13', a14'⟩ := u'
      refine br_f (by decide) (hW _ _ hu (fun u hu => ?_))
      obtain ⟨rt, we, wt, a1, a2, a3, a4, a5, a6, a7, a8, a9, a10, a11, a12, a13, a14⟩ := u
      refine br_f (nI_pos (by omega)) (hW _ _ hu (fun u hu => ?_))
      have K := H u (rt', we', wt', a1', a2', a3', a4', a5', a6', a7', a8', a9', a10', a11', a12', a13', a14') hu hu'
      obtain ⟨rt, we, wt, a1, a2, a3, a4, a5, a6, a7, a8, a9, a10, a11, a12, a13, a14⟩ := u
      exact pk_le (bk_cnt z 48) 24 (fun _ => nm_r (e' := nI (3 * (i + 1))) (by rw [show (3 : Int32) = nI 3 from rfl, nI_add]; congr 1) K) (fun y => absurd y (by omega)))
  obtain ⟨rt, we, wt, a1, a2, a3, a4, a5, a6, a7, a8, a9, a10, a11, a12, a13, a14⟩ := u
  obtain ⟨rt', we', wt', a1', a2', a3', a4', a5', a6', a7', a8', a9', a10', a11', a12', a13', a14'⟩ := u'
  exact S
end
theorem la_18 {L : Nat} {xs : Nat → Int32} (hL : L ≤ 260) {kc ks : Nat} : ∀ d i M MS dk hd num u u', i + d = 87 → num ≤ i → iv_ok M MS hd → mt_ok M MS dk hd num u → mt_ok M MS dk hd num u' →
    match u, u' with | (rt, we, wt, a1, a2, a3, a4, a5, a6, a7, a8, a9, a10, a11, a12, a13, a14), (rt', we', wt', a1', a2', a3', a4', a5', a6', a7', a8', a9', a10', a11', a12', a13', a14') => wL_law_18 (fun r => r = 1) L xs kc ks (d + 1) (nI (3 * i)) rt we wt a1 a2 a3 a4 a5 a6 a7 a8 a9 a10 a11 a12 a13 a14 rt' we' wt' a1' a2' a3' a4' a5' a6' a7' a8' a9' a10' a11' a12' a13' a14' := by
  intro d
  have cond : ∀ i : Nat, i ≤ 87 → ((Int32.ofNat L - 3 < nI (3 * i)) ↔ L < 3 * i + 3) := by
    intro i hi
    have e : (Int32.ofNat L - 3).toInt = (L : Int) - 3 := pk_sub_toInt (a := L) (b := 3) (by omega) (by omega)
    rw [Int32.lt_iff_toInt_lt, e, nI_toInt (by omega)]
    omega
  induction d with
  | zero =>
    intro i M MS dk hd num u u' hid hn hi hu hu'
    obtain ⟨rt, we, wt, a1, a2, a3, a4, a5, a6, a7, a8, a9, a10, a11, a12, a13, a14⟩ := u
    obtain ⟨rt', we', wt', a1', a2', a3', a4', a5', a6', a7', a8', a9', a10', a11', a12', a13', a14'⟩ := u'
    refine br_t ((cond i (by omega)).mpr (by omega)) ?_
    refine rn_opens hi hu (fun hd' u q1 q2 => ?_)
    obtain ⟨rt, we, wt, a1, a2, a3, a4, a5, a6, a7, a8, a9, a10, a11, a12, a13, a14⟩ := u
    refine br_f (by decide) (rn_opens hi hu' (fun hd2 u2 _ _ => ?_))
    obtain ⟨rt', we', wt', a1', a2', a3', a4', a5', a6', a7', a8', a9', a10', a11', a12', a13', a14'⟩ := u2
    refine br_f (by decide) (rn_crash0 q2 q1.2.2.1.1 (fun u3 hu3 => ?_))
    obtain ⟨rt, we, wt, a1, a2, a3, a4, a5, a6, a7, a8, a9, a10, a11, a12, a13, a14⟩ := u3
    refine rn_opens (iv_back hi) hu3 (fun hd3 u4 _ _ => ?_)
    obtain ⟨rt, we, wt, a1, a2, a3, a4, a5, a6, a7, a8, a9, a10, a11, a12, a13, a14⟩ := u4
    rfl
  | succ d ih =>
    intro i M MS dk hd num u u' hid hn hi hu hu'
    by_cases e : L < 3 * i + 3
    · obtain ⟨rt, we, wt, a1, a2, a3, a4, a5, a6, a7, a8, a9, a10, a11, a12, a13, a14⟩ := u
      obtain ⟨rt', we', wt', a1', a2', a3', a4', a5', a6', a7', a8', a9', a10', a11', a12', a13', a14'⟩ := u'
      refine br_t ((cond i (by omega)).mpr e) ?_
      refine rn_opens hi hu (fun hd' u q1 q2 => ?_)
      obtain ⟨rt, we, wt, a1, a2, a3, a4, a5, a6, a7, a8, a9, a10, a11, a12, a13, a14⟩ := u
      refine br_f (by decide) (rn_opens hi hu' (fun hd2 u2 _ _ => ?_))
      obtain ⟨rt', we', wt', a1', a2', a3', a4', a5', a6', a7', a8', a9', a10', a11', a12', a13', a14'⟩ := u2
      refine br_f (by decide) (rn_crash0 q2 q1.2.2.1.1 (fun u3 hu3 => ?_))
      obtain ⟨rt, we, wt, a1, a2, a3, a4, a5, a6, a7, a8, a9, a10, a11, a12, a13, a14⟩ := u3
      refine rn_opens (iv_back hi) hu3 (fun hd3 u4 _ _ => ?_)
      obtain ⟨rt, we, wt, a1, a2, a3, a4, a5, a6, a7, a8, a9, a10, a11, a12, a13, a14⟩ := u4
      rfl
    · obtain ⟨o, o1, eo⟩ := pk_andE (xs (nI (3 * i)).toNatClampNeg) (m := 15) 4 (by decide)
      have e2 : nI (3 * i) + 2 = nI (3 * i + 2) := by rw [show (2 : Int32) = nI 2 from rfl, nI_add]
      have nx : ∀ M' MS' dk' hd' num', iv_ok M' MS' hd' → num' ≤ num + 1 → ∀ u u', mt_ok M' MS' dk' hd' num' u → mt_ok M' MS' dk' hd' num' u' → match u, u' with | (rt, we, wt, a1, a2, a3, a4, a5, a6, a7, a8, a9, a10, a11, a12, a13, a14), (rt', we', wt', a1', a2', a3', a4', a5', a6', a7', a8', a9', a10', a11', a12', a13', a14') => wL_law_133 (fun r => r = 1) L xs (wL_law_18 (fun r => r = 1) L xs kc ks (d + 1)) (nI (3 * i)) kc ks rt we wt a1 a2 a3 a4 a5 a6 a7 a8 a9 a10 a11 a12 a13 a14 rt' we' wt' a1' a2' a3' a4' a5' a6' a7' a8' a9' a10' a11' a12' a13' a14' := by
        intro M' MS' dk' hd' num' h1 h2 u u' h3 h4
        exact la_133 h1 (fun u u' hu hu' => ih (i + 1) M' MS' dk' hd' num' u u' (by omega) (by omega) h1 hu hu') u u' h3 h4
      have hh0 := hi.2.2.1.1
      by_cases o14 : o = 14
      · obtain ⟨rt, we, wt, a1, a2, a3, a4, a5, a6, a7, a8, a9, a10, a11, a12, a13, a14⟩ := u
        obtain ⟨rt', we', wt', a1', a2', a3', a4', a5', a6', a7', a8', a9', a10', a11', a12', a13', a14'⟩ := u'
        refine br_f (fun z => e ((cond i (by omega)).mp z)) ⟨pk_in (3 * i) L (by omega), nm_r eo ⟨pk_in (3 * i + 1) L (by omega) (nI_1 _), nm_e ⟨pk_in (3 * i + 2) L (by omega) e2, nm_e (pk_eq o 14 (fun _ => ?_) (fun z => absurd o14 z))⟩⟩⟩
        refine rn_crash0 hu hh0 (fun u hu => ?_)
        obtain ⟨rt, we, wt, a1, a2, a3, a4, a5, a6, a7, a8, a9, a10, a11, a12, a13, a14⟩ := u
        refine rn_crash2 hu' hh0 (fun u' hu' => ?_)
        have K := nx MS MS dk hd_0 num (iv_back hi) (by omega) (rt, we, wt, a1, a2, a3, a4, a5, a6, a7, a8, a9, a10, a11, a12, a13, a14) u' hu hu'
        obtain ⟨rt', we', wt', a1', a2', a3', a4', a5', a6', a7', a8', a9', a10', a11', a12', a13', a14'⟩ := u'
        exact br_t rfl K
      · by_cases o15 : o = 15
        · obtain ⟨rt, we, wt, a1, a2, a3, a4, a5, a6, a7, a8, a9, a10, a11, a12, a13, a14⟩ := u
          obtain ⟨rt', we', wt', a1', a2', a3', a4', a5', a6', a7', a8', a9', a10', a11', a12', a13', a14'⟩ := u'
          refine br_f (fun z => e ((cond i (by omega)).mp z)) ⟨pk_in (3 * i) L (by omega), nm_r eo ⟨pk_in (3 * i + 1) L (by omega) (nI_1 _), nm_e ⟨pk_in (3 * i + 2) L (by omega) e2, nm_e (pk_eq o 14 (fun z => absurd z o14) (fun _ => pk_eq o 15 (fun _ => ?_) (fun z => absurd o15 z)))⟩⟩⟩
          refine rn_save hu hi.1 (by omega) (fun u hu => ?_)
          obtain ⟨rt, we, wt, a1, a2, a3, a4, a5, a6, a7, a8, a9, a10, a11, a12, a13, a14⟩ := u
          refine rn_crash0 hu hh0 (fun u hu => ?_)
          obtain ⟨rt, we, wt, a1, a2, a3, a4, a5, a6, a7, a8, a9, a10, a11, a12, a13, a14⟩ := u
          refine br_t rfl ?_
          refine rn_crash1 hu' hi.1 hh0 (by omega) (fun u' hu' => ?_)
          have K := nx M M dk hd_0 (num + 1) (iv_fwd hi) (by omega) (rt, we, wt, a1, a2, a3, a4, a5, a6, a7, a8, a9, a10, a11, a12, a13, a14) u' hu hu'
          obtain ⟨rt', we', wt', a1', a2', a3', a4', a5', a6', a7', a8', a9', a10', a11', a12', a13', a14'⟩ := u'
          exact br_t rfl K
        · obtain ⟨r, M', MS', dk', hd', num', i1, i2, i3⟩ := rn_act (dk := dk) hi (show num + 1 < 10000 by omega) (show o < 14 by omega) (xs (nI (3 * i) + 1).toNatClampNeg) (xs (nI (3 * i) + 2).toNatClampNeg)
          obtain ⟨rt, we, wt, a1, a2, a3, a4, a5, a6, a7, a8, a9, a10, a11, a12, a13, a14⟩ := u
          obtain ⟨rt', we', wt', a1', a2', a3', a4', a5', a6', a7', a8', a9', a10', a11', a12', a13', a14'⟩ := u'
          refine br_f (fun z => e ((cond i (by omega)).mp z)) ⟨pk_in (3 * i) L (by omega), nm_r eo ⟨pk_in (3 * i + 1) L (by omega) (nI_1 _), nm_e ⟨pk_in (3 * i + 2) L (by omega) e2, nm_e (pk_eq o 14 (fun z => absurd z o14) (fun _ => pk_eq o 15 (fun z => absurd z o15) (fun _ => ?_)))⟩⟩⟩
          refine i3 _ _ hu (fun u hu => ?_)
          obtain ⟨rt, we, wt, a1, a2, a3, a4, a5, a6, a7, a8, a9, a10, a11, a12, a13, a14⟩ := u
          refine i3 _ _ hu' (fun u' hu' => ?_)
          have K := nx M' MS' dk' hd' num' i1 i2 (rt, we, wt, a1, a2, a3, a4, a5, a6, a7, a8, a9, a10, a11, a12, a13, a14) u' hu hu'
          obtain ⟨rt', we', wt', a1', a2', a3', a4', a5', a6', a7', a8', a9', a10', a11', a12', a13', a14'⟩ := u'
          exact br_t rfl K
theorem i_vc (xs : Nat → Int32) (L : Nat) (hL : L ≤ 260) : wpL_law (fun r => r = 1) L xs := by
  refine ⟨14, 2418, by omega, by omega, rn_init (fun u hu => ?_)⟩
  obtain ⟨rt, we, wt, a1, a2, a3, a4, a5, a6, a7, a8, a9, a10, a11, a12, a13, a14⟩ := u
  refine ⟨by omega, by omega, 14, 2418, by omega, by omega, rn_init (fun u' hu' => ?_)⟩
  have K := la_18 (xs := xs) hL (kc := 1 + 14 + 1 + 14) (ks := 17 + 2418 + 17 + 2418) 87 0 fs_0 fs_0 (fun _ => 0) hd_0 0 (rt, we, wt, a1, a2, a3, a4, a5, a6, a7, a8, a9, a10, a11, a12, a13, a14) u' (by omega) (by omega) iv_0 hu hu'
  obtain ⟨rt', we', wt', a1', a2', a3', a4', a5', a6', a7', a8', a9', a10', a11', a12', a13', a14'⟩ := u'
  exact ⟨88, K⟩
end
